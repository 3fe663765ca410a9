set_option maxRecDepth 100000
/-! Z, part 10: arithmetic over nI -/
section ZROWS10
variable {G : zG} {M : zM} {d C Sl pc : Nat} {lv lv' st : List Value} {I : zI} {L : zL} {P : zR} {S : zT} {Q : zQ}
theorem Z_iaddN {a b : Nat} (hd : decode M.2.1 pc = .ok (.iadd, 1)) (k : Zj G M d C Sl (pc + 1) lv (.int (nI (a + b)) :: st) I L P S Q) : Zj G M d C Sl pc lv (.int (nI b) :: .int (nI a) :: st) I L P S Q := Z_iadd hd (by rw [nI_add]; exact k)
theorem Z_imulN {a b : Nat} (hd : decode M.2.1 pc = .ok (.imul, 1)) (k : Zj G M d C Sl (pc + 1) lv (.int (nI (a * b)) :: st) I L P S Q) : Zj G M d C Sl pc lv (.int (nI b) :: .int (nI a) :: st) I L P S Q := Z_imul hd (by rw [pk_mul]; exact k)
theorem Z_isubN {a b : Nat} (hd : decode M.2.1 pc = .ok (.isub, 1)) (h : b ≤ a) (k : Zj G M d C Sl (pc + 1) lv (.int (nI (a - b)) :: st) I L P S Q) : Zj G M d C Sl pc lv (.int (nI b) :: .int (nI a) :: st) I L P S Q := Z_isub hd (by rw [pk_sub h]; exact k)
theorem Z_idivN {a b : Nat} (hd : decode M.2.1 pc = .ok (.idiv, 1)) (ha : a < 2 ^ 31) (h0 : 0 < b) (hb : b < 2 ^ 31) (k : Zj G M d C Sl (pc + 1) lv (.int (nI (a / b)) :: st) I L P S Q) : Zj G M d C Sl pc lv (.int (nI b) :: .int (nI a) :: st) I L P S Q := Z_idiv hd (nI_ne0 h0 hb) (by rw [pk_div ha h0 hb]; exact k)
theorem Z_iremN {a b : Nat} (hd : decode M.2.1 pc = .ok (.irem, 1)) (ha : a < 2 ^ 31) (h0 : 0 < b) (hb : b < 2 ^ 31) (k : Zj G M d C Sl (pc + 1) lv (.int (nI (a % b)) :: st) I L P S Q) : Zj G M d C Sl pc lv (.int (nI b) :: .int (nI a) :: st) I L P S Q := Z_irem hd (nI_ne0 h0 hb) (by rw [pk_rem ha h0 hb]; exact k)
theorem Z_iincN {i a k : Nat} {n : Int} (hd : decode M.2.1 pc = .ok (.iinc i n, 3)) (hn : Int32.ofInt n = nI k) (hx : lv[i]? = some (.int (nI a))) (hl : lv.set i (.int (nI (a + k))) = lv') (hok : zok lv i = true) (kk : Zj G M d C Sl (pc + 3) lv' st I L P S Q) : Zj G M d C Sl pc lv st I L P S Q :=
  Z_iinc hd hx (by rw [hn, nI_add]; exact hl) hok kk
theorem Z_iincM {i a : Nat} (hd : decode M.2.1 pc = .ok (.iinc i (-1), 3)) (hx : lv[i]? = some (.int (nI a))) (ha : 0 < a) (hl : lv.set i (.int (nI (a - 1))) = lv') (hok : zok lv i = true) (kk : Zj G M d C Sl (pc + 3) lv' st I L P S Q) : Zj G M d C Sl pc lv st I L P S Q := by
  refine Z_iinc hd hx ?_ hok kk
  rw [show Int32.ofInt (-1) = -1 from rfl]
  obtain ⟨b, rfl⟩ : ∃ b, a = b + 1 := ⟨a - 1, by omega⟩
  rw [pk_m1]
  exact hl
end ZROWS10
/-! numbers -/
theorem nI_lit (n : Nat) : Int32.ofNat n = nI n := rfl
/-- ints that lie between two numbers -/
theorem z_rng {x : Int32} {n : Nat} (h0 : 0 ≤ x.toInt) (h1 : x.toInt ≤ n) (hn : n < 2 ^ 31) : ∃ k, k ≤ n ∧ x = nI k := by
  refine ⟨x.toInt.toNat, by omega, ?_⟩
  apply Int32.toInt_inj.mp
  rw [nI_toInt (by omega)]
  omega
theorem z_ti {k : Nat} (h : k < 2 ^ 31) : (nI k).toInt = k := nI_toInt h
theorem z_m1 : ((-1 : Int32)).toInt = -1 := by decide
theorem z_pred {k : Nat} (hk : k < 2 ^ 31) : (nI k - nI 1).toInt = (k : Int) - 1 := by
  cases k with
  | zero => decide
  | succ k => rw [show nI 1 = 1 from rfl, nI_pred, z_ti (by omega)]; omega
theorem z_i64 (x : Int32) : x.toInt64.toInt = x.toInt := Int32.toInt_toInt64 x
section ZCUT
variable {G : zG} {M : zM} {d C Sl pc : Nat} {lv st : List Value} {I : zI} {L : zL} {P : zR} {S : zT} {Q : zQ}
theorem Z_cut0 (pc' : Nat) (v : Value) (h : Zj G M d C Sl pc' lv (v :: st) I L P S Q → Zj G M d C Sl pc lv st I L P S Q) (k : Zj G M d C Sl pc' lv (v :: st) I L P S Q) : Zj G M d C Sl pc lv st I L P S Q := h k
theorem Z_cut1 {a : Value} (pc' : Nat) (v : Value) (h : Zj G M d C Sl pc' lv (v :: st) I L P S Q → Zj G M d C Sl pc lv (a :: st) I L P S Q) (k : Zj G M d C Sl pc' lv (v :: st) I L P S Q) : Zj G M d C Sl pc lv (a :: st) I L P S Q := h k
theorem Z_cut2 {a b : Value} (pc' : Nat) (v : Value) (h : Zj G M d C Sl pc' lv (v :: st) I L P S Q → Zj G M d C Sl pc lv (a :: b :: st) I L P S Q) (k : Zj G M d C Sl pc' lv (v :: st) I L P S Q) : Zj G M d C Sl pc lv (a :: b :: st) I L P S Q := h k
end ZCUT
/-- locals forgotten -/
def zwk : List Value → List Value → Prop
  | [], [] => True
  | a :: l, b :: l' => (b = a ∨ b = .retAddr 0) ∧ zwk l l'
  | _, _ => False
theorem zwk.at : ∀ {l l' : List Value}, zwk l l' → l'.length = l.length ∧ ∀ {i : Nat} {v : Value}, l'[i]? = some v → l[i]? = some v ∨ v = .retAddr 0 := by
  intro l
  induction l with
  | nil => intro l' h; cases l' with
    | nil => exact ⟨rfl, fun h => absurd h (by simp)⟩
    | cons b l' => exact absurd h (by simp [zwk])
  | cons a l ih =>
    intro l' h
    cases l' with
    | nil => exact absurd h (by simp [zwk])
    | cons b l' =>
      obtain ⟨h1, h2⟩ := h
      obtain ⟨e1, e2⟩ := ih h2
      refine ⟨by simp [e1], fun {i v} hv => ?_⟩
      cases i with
      | zero =>
        have : b = v := by simpa using hv
        subst this
        rcases h1 with h1 | h1
        · left; simp [h1]
        · exact Or.inr h1
      | succ i => simpa using e2 (by simpa using hv)
theorem Z_fgt {G : zG} {M : zM} {d C Sl pc : Nat} {lv lv' st : List Value} {I : zI} {L : zL} {P : zR} {S : zT} {Q : zQ} (k : Zj G M d C Sl pc lv' st I L P S Q) (h : zwk lv lv') : Zj G M d C Sl pc lv st I L P S Q := by
  intro p e R s m args below meth c H locs cells slots Kc Ks QQ ad ls X
  obtain ⟨e1, e2⟩ := h.at
  refine k p e R s m args below meth c H locs cells slots Kc Ks QQ ad ls (X.toL ?_ ?_ X.2.2.2.2.2.2.1)
  · obtain ⟨a1, a2⟩ := X.2.2.2.2.1
    refine ⟨e1.trans a1, a2.1, a2.2.1, fun q hq => a2.2.2 q ?_⟩
    obtain ⟨k, v, h1, h2, h3, h4⟩ := (zal_mem ad _ 0 q).mp hq
    rcases e2 h2 with h5 | h5
    · exact (zal_mem ad _ 0 q).mpr ⟨k, v, h1, h5, h3, h4⟩
    · rw [h5] at h3; exact absurd h3 (by decide)
  · intro v hv
    obtain ⟨i, hi⟩ := List.getElem?_of_mem hv
    rcases e2 hi with h5 | h5
    · exact X.2.2.2.2.2.1 v (List.mem_of_getElem? h5)
    · rw [h5]; exact trivial
theorem Z_mem {G : zG} {M : zM} {d C Sl pc : Nat} {lv st : List Value} {I I' : zI} {L : zL} {P : zR} {S : zT} {Q : zQ} (h : I = I') (k : Zj G M d C Sl pc lv st I' L P S Q) : Zj G M d C Sl pc lv st I L P S Q := by rw [h]; exact k
