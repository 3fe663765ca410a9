set_option maxRecDepth 100000
/-! PURE: bits -/
def msk (f : Nat → Bool) : Nat → Nat
  | 0 => 0
  | n + 1 => msk f n + (if f n = true then 2 ^ n else 0)
theorem msk_lt {f : Nat → Bool} : ∀ n, msk f n < 2 ^ n := by
  intro n
  induction n with
  | zero => simp [msk]
  | succ n ih => rw [msk, Nat.pow_succ]; split <;> omega
theorem or_add : ∀ n, n < 8 → ∀ a, a < 2 ^ n → nI a ||| (nI 1 <<< (nI n &&& 31)) = nI (a + 2 ^ n) := by decide +kernel
theorem or_0 {a : Nat} : nI a ||| nI 0 = nI a := by
  rw [show nI 0 = 0 from rfl]
  simp
theorem orB_msk {f : Nat → Bool} : ∀ n, n ≤ 8 → orB f n = nI (msk f n) := by
  intro n
  induction n with
  | zero => exact fun _ => rfl
  | succ n ih =>
    intro hn
    rw [orB, msk, ih (by omega)]
    split
    · exact or_add n (by omega) _ (msk_lt n)
    · rw [or_0, Nat.add_zero]
theorem tb_add : ∀ n, n < 8 → ∀ a, a < 2 ^ n → ∀ k, k < 8 → (a + 2 ^ n).testBit k = (a.testBit k || k == n) := by decide +kernel
theorem msk_bit {f : Nat → Bool} {k : Nat} (hk : k < 8) : ∀ n, n ≤ 8 → (msk f n).testBit k = (decide (k < n) && f k) := by
  intro n
  induction n with
  | zero => intro _; simp [msk]
  | succ n ih =>
    intro hn
    rw [msk]
    by_cases e : k = n
    · subst e
      split
      · next h => rw [tb_add k (by omega) _ (msk_lt k) k hk]; simp [h]
      · next h => rw [Nat.add_zero, Nat.testBit_lt_two_pow (msk_lt k)]; simp [h]
    · split
      · next h => rw [tb_add n (by omega) _ (msk_lt n) k hk, ih (by omega)]; simp [e, show (k < n + 1) = (k < n) from propext ⟨fun q => by omega, fun q => by omega⟩]
      · next h => rw [Nat.add_zero, ih (by omega)]; simp [show (k < n + 1) = (k < n) from propext ⟨fun q => by omega, fun q => by omega⟩]
theorem zbit_n : ∀ M, M < 256 → ∀ k, k < 8 → zbit (nI M) (nI k) = M.testBit k := by decide +kernel
theorem shl8 : ∀ n, n ≤ 8 → (nI 1 <<< (nI n &&& 31)) - nI 1 = nI (2 ^ n - 1) := by decide +kernel
theorem msk_full {f : Nat → Bool} : ∀ n, msk f n = 2 ^ n - 1 ↔ allB f n = true := by
  intro n
  induction n with
  | zero => simp [msk, allB]
  | succ n ih =>
    have h1 := msk_lt (f := f) n
    rw [msk, allB, Bool.and_eq_true, ← ih, Nat.pow_succ]
    split
    · next h => exact ⟨fun q => ⟨by omega, h⟩, fun q => by have := q.1; omega⟩
    · next h => exact ⟨fun q => by omega, fun q => absurd q.2 h⟩
theorem pow_le8 {n : Nat} (h : n ≤ 8) : 2 ^ n ≤ 256 := by
  have := Nat.pow_le_pow_right (show 0 < 2 by omega) h
  omega
theorem all_bits {f : Nat → Bool} {n : Nat} (hn : n ≤ 8) : orB f n = (nI 1 <<< (nI n &&& 31)) - nI 1 ↔ allB f n = true := by
  have h1 := msk_lt (f := f) n
  have h2 := pow_le8 hn
  rw [orB_msk n hn, shl8 n hn, nI_eq (by omega) (by omega), msk_full]
/-- bits of a number below 256 that another one hasn't -/
theorem and_not {A M : Nat} (hA : A < 256) (hM : M < 256) : (nI A &&& (nI M ^^^ (-1))) = 0 ↔ ∀ k, k < 8 → A.testBit k = true → M.testBit k = true := by
  have key : ∀ k, (nI A &&& (nI M ^^^ (-1))).toBitVec.getLsbD k = (decide (k < 32) && (A.testBit k && !M.testBit k)) := by
    intro k
    rw [Int32.toBitVec_and, Int32.toBitVec_xor]
    rw [BitVec.getLsbD_and, BitVec.getLsbD_xor]
    have e1 : (nI A).toBitVec.getLsbD k = (decide (k < 32) && A.testBit k) := by
      show (BitVec.ofNat 32 A).getLsbD k = _
      rw [BitVec.getLsbD_ofNat]
    have e2 : (nI M).toBitVec.getLsbD k = (decide (k < 32) && M.testBit k) := by
      show (BitVec.ofNat 32 M).getLsbD k = _
      rw [BitVec.getLsbD_ofNat]
    have e3 : ((-1 : Int32)).toBitVec.getLsbD k = decide (k < 32) := by
      rw [show ((-1 : Int32)).toBitVec = BitVec.allOnes 32 from by decide, BitVec.getLsbD_allOnes]
    rw [e1, e2, e3]
    by_cases h : k < 32 <;> simp [h]
  have hi : ∀ {B : Nat}, B < 256 → ∀ k, 8 ≤ k → B.testBit k = false := fun {B} hB k hk => Nat.testBit_lt_two_pow (Nat.lt_of_lt_of_le (show B < 2 ^ 8 by omega) (Nat.pow_le_pow_right (by omega) hk))
  constructor
  · intro h k hk ha
    have := key k
    rw [h] at this
    rw [show ((0 : Int32)).toBitVec.getLsbD k = false from by simp] at this
    rw [ha, decide_eq_true (show k < 32 by omega)] at this
    simpa using this.symm
  · intro h
    apply Int32.toBitVec_inj.mp
    apply BitVec.eq_of_getLsbD_eq
    intro k hk
    rw [key k]
    rw [show ((0 : Int32)).toBitVec.getLsbD k = false from by simp]
    by_cases h8 : k < 8
    · cases ha : A.testBit k with
      | false => simp
      | true => rw [h k h8 ha]; simp
    · rw [hi hA k (by omega)]; simp
theorem rdy_bits {f : Nat → Bool} {A p n : Nat} (hA : A < 2 ^ p) (hp : p < n) (hn : n ≤ 8) : (nI A &&& (orB f n ^^^ (-1))) = 0 ↔ allB (fun o => !zbit (nI A) (nI o) || f o) p = true := by
  have h1 := msk_lt (f := f) n
  have h2 := pow_le8 hn
  have h3 := pow_le8 (show p ≤ 8 by omega)
  rw [orB_msk n hn, and_not (by omega) (by omega), allB_iff]
  constructor
  · intro h k hk
    rw [zbit_n A (by omega) k (by omega)]
    cases ha : A.testBit k with
    | false => rfl
    | true =>
      have := h k (by omega) ha
      rw [msk_bit (by omega) n hn, Bool.and_eq_true] at this
      rw [this.2]; rfl
  · intro h k hk ha
    have hkp : k < p := by
      refine Decidable.byContradiction fun hc => ?_
      rw [Nat.testBit_lt_two_pow (Nat.lt_of_lt_of_le hA (Nat.pow_le_pow_right (by omega) (Nat.not_lt.mp hc)))] at ha
      cases ha
    have := h k hkp
    rw [zbit_n A (by omega) k hk, ha] at this
    rw [msk_bit hk n hn, decide_eq_true (show k < n by omega)]
    simpa using this
theorem zbit_or {f : Nat → Bool} {n k : Nat} (hn : n ≤ 8) (hk : k < 8) : zbit (orB f n) (nI k) = (decide (k < n) && f k) := by
  have h1 := msk_lt (f := f) n
  have h2 := pow_le8 hn
  rw [orB_msk n hn, zbit_n _ (by omega) k hk, msk_bit hk n hn]
