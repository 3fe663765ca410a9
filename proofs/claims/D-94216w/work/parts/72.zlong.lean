set_option maxRecDepth 100000
/-! Z: longs that are numbers -/
section ZROWS17
variable {G : zG} {M : zM} {d C Sl pc : Nat} {lv st : List Value} {I : zI} {L : zL} {P : zR} {S : zT} {Q : zQ}
theorem Z_rl {x y : Int64} (h : x = y) (k : Zj G M d C Sl pc lv (.long y :: st) I L P S Q) : Zj G M d C Sl pc lv (.long x :: st) I L P S Q := by rw [h]; exact k
theorem Z_laddN {a b : Nat} (hd : decode M.2.1 pc = .ok (.ladd, 1)) (k : Zj G M d C Sl (pc + 1) lv (.long (lN (a + b)) :: st) I L P S Q) : Zj G M d C Sl pc lv (.long (lN b) :: .long (lN a) :: st) I L P S Q := Z_ladd hd (by rw [lN_add]; exact k)
theorem Z_lmulN {a b : Nat} (hd : decode M.2.1 pc = .ok (.lmul, 1)) (k : Zj G M d C Sl (pc + 1) lv (.long (lN (a * b)) :: st) I L P S Q) : Zj G M d C Sl pc lv (.long (lN b) :: .long (lN a) :: st) I L P S Q := Z_lmul hd (by rw [lN_mul]; exact k)
theorem lN_ne0 {b : Nat} (h0 : 0 < b) (hb : b < 2 ^ 63) : ¬ lN b = 0 := fun e => by
  have := congrArg Int64.toInt e
  rw [pk_lT hb, show (0 : Int64).toInt = 0 from by decide] at this
  omega
theorem Z_ldivN {a b : Nat} (hd : decode M.2.1 pc = .ok (.ldiv, 1)) (ha : a < 2 ^ 63) (h0 : 0 < b) (hb : b < 2 ^ 63) (k : Zj G M d C Sl (pc + 1) lv (.long (lN (a / b)) :: st) I L P S Q) : Zj G M d C Sl pc lv (.long (lN b) :: .long (lN a) :: st) I L P S Q := Z_ldiv hd (lN_ne0 h0 hb) (by rw [pk_lDiv ha h0 hb]; exact k)
theorem Z_lremN {a b : Nat} (hd : decode M.2.1 pc = .ok (.lrem, 1)) (ha : a < 2 ^ 63) (h0 : 0 < b) (hb : b < 2 ^ 63) (k : Zj G M d C Sl (pc + 1) lv (.long (lN (a % b)) :: st) I L P S Q) : Zj G M d C Sl pc lv (.long (lN b) :: .long (lN a) :: st) I L P S Q := Z_lrem hd (lN_ne0 h0 hb) (by rw [pk_lRem ha h0 hb]; exact k)
theorem Z_i2lN {a : Nat} (hd : decode M.2.1 pc = .ok (.i2l, 1)) (ha : a < 2 ^ 31) (k : Zj G M d C Sl (pc + 1) lv (.long (lN a) :: st) I L P S Q) : Zj G M d C Sl pc lv (.int (nI a) :: st) I L P S Q := Z_i2l hd (by rw [nI_l ha]; exact k)
theorem Z_l2iN {a : Nat} (hd : decode M.2.1 pc = .ok (.l2i, 1)) (k : Zj G M d C Sl (pc + 1) lv (.int (nI a) :: st) I L P S Q) : Zj G M d C Sl pc lv (.long (lN a) :: st) I L P S Q := Z_l2i hd (by rw [lN_i]; exact k)
end ZROWS17
