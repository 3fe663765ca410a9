set_option maxRecDepth 100000
/-! Z, part 9: branches over nI; calls that make nothing; Object.<init>; Math -/
section ZROWS9
variable {G : zG} {M M' : zM} {d d' C Sl pc len n : Nat} {lv st st0 : List Value} {I : zI} {L : zL} {P : zR} {S : zT} {Q : zQ}
theorem Z_icmpltN {a b : Nat} {off : Int} (tgt : Nat) (hd : decode M.2.1 pc = .ok (.if_icmp .lt off, 3)) (ht : (pc : Int) + off = (tgt : Int)) (ha : a < 2 ^ 31) (hb : b < 2 ^ 31) (kt : a < b → Zj G M d C Sl tgt lv st I L P S Q) (kf : b ≤ a → Zj G M d C Sl (pc + 3) lv st I L P S Q) : Zj G M d C Sl pc lv (.int (nI b) :: .int (nI a) :: st) I L P S Q :=
  Z_icmplt tgt hd ht (fun h => kt ((nI_ltI ha hb).mp h)) (fun h => kf (Nat.not_lt.mp fun q => h ((nI_ltI ha hb).mpr q)))
theorem Z_icmpgeN {a b : Nat} {off : Int} (tgt : Nat) (hd : decode M.2.1 pc = .ok (.if_icmp .ge off, 3)) (ht : (pc : Int) + off = (tgt : Int)) (ha : a < 2 ^ 31) (hb : b < 2 ^ 31) (kt : b ≤ a → Zj G M d C Sl tgt lv st I L P S Q) (kf : a < b → Zj G M d C Sl (pc + 3) lv st I L P S Q) : Zj G M d C Sl pc lv (.int (nI b) :: .int (nI a) :: st) I L P S Q :=
  Z_icmpge tgt hd ht (fun h => kt ((nI_leI hb ha).mp h)) (fun h => kf (Nat.not_le.mp fun q => h ((nI_leI hb ha).mpr q)))
theorem Z_icmpgtN {a b : Nat} {off : Int} (tgt : Nat) (hd : decode M.2.1 pc = .ok (.if_icmp .gt off, 3)) (ht : (pc : Int) + off = (tgt : Int)) (ha : a < 2 ^ 31) (hb : b < 2 ^ 31) (kt : b < a → Zj G M d C Sl tgt lv st I L P S Q) (kf : a ≤ b → Zj G M d C Sl (pc + 3) lv st I L P S Q) : Zj G M d C Sl pc lv (.int (nI b) :: .int (nI a) :: st) I L P S Q :=
  Z_icmpgt tgt hd ht (fun h => kt ((nI_ltI hb ha).mp h)) (fun h => kf (Nat.not_lt.mp fun q => h ((nI_ltI hb ha).mpr q)))
theorem Z_icmpleN {a b : Nat} {off : Int} (tgt : Nat) (hd : decode M.2.1 pc = .ok (.if_icmp .le off, 3)) (ht : (pc : Int) + off = (tgt : Int)) (ha : a < 2 ^ 31) (hb : b < 2 ^ 31) (kt : a ≤ b → Zj G M d C Sl tgt lv st I L P S Q) (kf : b < a → Zj G M d C Sl (pc + 3) lv st I L P S Q) : Zj G M d C Sl pc lv (.int (nI b) :: .int (nI a) :: st) I L P S Q :=
  Z_icmple tgt hd ht (fun h => kt ((nI_leI ha hb).mp h)) (fun h => kf (Nat.not_le.mp fun q => h ((nI_leI ha hb).mpr q)))
theorem Z_icmpeqN {a b : Nat} {off : Int} (tgt : Nat) (hd : decode M.2.1 pc = .ok (.if_icmp .eq off, 3)) (ht : (pc : Int) + off = (tgt : Int)) (ha : a < 2 ^ 31) (hb : b < 2 ^ 31) (kt : a = b → Zj G M d C Sl tgt lv st I L P S Q) (kf : a ≠ b → Zj G M d C Sl (pc + 3) lv st I L P S Q) : Zj G M d C Sl pc lv (.int (nI b) :: .int (nI a) :: st) I L P S Q :=
  Z_icmpeq tgt hd ht (fun h => kt ((nI_eq ha hb).mp h)) (fun h => kf (fun q => h ((nI_eq ha hb).mpr q)))
theorem Z_icmpneN {a b : Nat} {off : Int} (tgt : Nat) (hd : decode M.2.1 pc = .ok (.if_icmp .ne off, 3)) (ht : (pc : Int) + off = (tgt : Int)) (ha : a < 2 ^ 31) (hb : b < 2 ^ 31) (kt : a ≠ b → Zj G M d C Sl tgt lv st I L P S Q) (kf : a = b → Zj G M d C Sl (pc + 3) lv st I L P S Q) : Zj G M d C Sl pc lv (.int (nI b) :: .int (nI a) :: st) I L P S Q :=
  Z_icmpne tgt hd ht (fun h => kt (fun q => h ((nI_eq ha hb).mpr q))) (fun h => kf ((nI_eq ha hb).mp h))
theorem nI_z {a : Nat} (ha : a < 2 ^ 31) : nI a = 0 ↔ a = 0 := nI_eq ha (by decide)
theorem Z_ifeqN {a : Nat} {off : Int} (tgt : Nat) (hd : decode M.2.1 pc = .ok (.ifCond .eq off, 3)) (ht : (pc : Int) + off = (tgt : Int)) (ha : a < 2 ^ 31) (kt : a = 0 → Zj G M d C Sl tgt lv st I L P S Q) (kf : a ≠ 0 → Zj G M d C Sl (pc + 3) lv st I L P S Q) : Zj G M d C Sl pc lv (.int (nI a) :: st) I L P S Q :=
  Z_ifeq tgt hd ht (fun h => kt ((nI_z ha).mp h)) (fun h => kf (fun q => h ((nI_z ha).mpr q)))
theorem Z_ifneN {a : Nat} {off : Int} (tgt : Nat) (hd : decode M.2.1 pc = .ok (.ifCond .ne off, 3)) (ht : (pc : Int) + off = (tgt : Int)) (ha : a < 2 ^ 31) (kt : a ≠ 0 → Zj G M d C Sl tgt lv st I L P S Q) (kf : a = 0 → Zj G M d C Sl (pc + 3) lv st I L P S Q) : Zj G M d C Sl pc lv (.int (nI a) :: st) I L P S Q :=
  Z_ifne tgt hd ht (fun h => kt (fun q => h ((nI_z ha).mpr q))) (fun h => kf ((nI_z ha).mp h))
theorem Z_ifltN {a : Nat} {off : Int} (tgt : Nat) (hd : decode M.2.1 pc = .ok (.ifCond .lt off, 3)) (ht : (pc : Int) + off = (tgt : Int)) (ha : a < 2 ^ 31) (kf : Zj G M d C Sl (pc + 3) lv st I L P S Q) : Zj G M d C Sl pc lv (.int (nI a) :: st) I L P S Q :=
  Z_iflt tgt hd ht (fun h => absurd h (nI_pos ha)) (fun _ => kf)
theorem Z_ifgeN {a : Nat} {off : Int} (tgt : Nat) (hd : decode M.2.1 pc = .ok (.ifCond .ge off, 3)) (ht : (pc : Int) + off = (tgt : Int)) (ha : a < 2 ^ 31) (kt : Zj G M d C Sl tgt lv st I L P S Q) : Zj G M d C Sl pc lv (.int (nI a) :: st) I L P S Q :=
  Z_ifge tgt hd ht (fun _ => kt) (fun h => absurd (nI_pos' ha) h)
theorem Z_ifgtN {a : Nat} {off : Int} (tgt : Nat) (hd : decode M.2.1 pc = .ok (.ifCond .gt off, 3)) (ht : (pc : Int) + off = (tgt : Int)) (ha : a < 2 ^ 31) (kt : 0 < a → Zj G M d C Sl tgt lv st I L P S Q) (kf : a = 0 → Zj G M d C Sl (pc + 3) lv st I L P S Q) : Zj G M d C Sl pc lv (.int (nI a) :: st) I L P S Q :=
  Z_ifgt tgt hd ht (fun h => kt ((nI_ltI (by decide) ha).mp h)) (fun h => kf (Nat.eq_zero_of_not_pos fun q => h ((nI_ltI (a := 0) (by decide) ha).mpr q)))
theorem Z_ifleN {a : Nat} {off : Int} (tgt : Nat) (hd : decode M.2.1 pc = .ok (.ifCond .le off, 3)) (ht : (pc : Int) + off = (tgt : Int)) (ha : a < 2 ^ 31) (kt : a = 0 → Zj G M d C Sl tgt lv st I L P S Q) (kf : 0 < a → Zj G M d C Sl (pc + 3) lv st I L P S Q) : Zj G M d C Sl pc lv (.int (nI a) :: st) I L P S Q :=
  Z_ifle tgt hd ht (fun h => kt (by have := (nI_leI ha (b := 0) (by decide)).mp h; omega)) (fun h => kf (Nat.pos_of_ne_zero fun q => h (by rw [q]; decide)))
theorem Z_call0 {CR : String} {T : u_T} {N bh ci : Nat} (hL : zCal G M M' CR pc len n) (hy : plainFor M'.1 = true) (hS : S bh = some (.inl ci)) (hk : zKl ci CR T N) (As : List Value) (hn : As.length = n) (hst : st0 = As.reverse ++ .ref bh :: st) (hcat : (st.map fun v => v.category).sum ≤ 8) (hdep : d' + 1 ≤ d)
    (h : Zm G M' d' 0 0 (.ref bh :: As) I L P S (zK G M d C Sl pc len lv st Q)) : Zj G M d C Sl pc lv st0 I L P S Q := Z_call hL hy hS hk As hn hst hcat hdep (Nat.le_refl _) (Nat.le_refl _) h
theorem Z_callS0 (hL : zCalS G M M' pc len n) (hy : plainFor M'.1 = true) (As : List Value) (hn : As.length = n) (hst : st0 = As.reverse ++ st) (hcat : (st.map fun v => v.category).sum ≤ 8) (hdep : d' + 1 ≤ d)
    (h : Zm G M' d' 0 0 As I L P S (zK G M d C Sl pc len lv st Q)) : Zj G M d C Sl pc lv st0 I L P S Q := Z_callS hL hy As hn hst hcat hdep (Nat.le_refl _) (Nat.le_refl _) h
theorem Z_entry {av lv : List Value} (hn : (zent av).length ≤ M.2.2.1) (he : zpad M.2.2.1 (zent av) = lv) (h : Zj G M d C Sl 0 lv [] I L P S Q) : Zm G M d C Sl av I L P S Q := ⟨hn, by rw [he]; exact h⟩
theorem Z_objInit {idx a : Nat} (hl : Cond.methodLink M.1.cls idx objectInit ∈ lw_all) (hd : decode M.2.1 pc = .ok (.invokespecial idx, 3)) (hcat : (st.map fun v => v.category).sum ≤ 8) (k : Zj G M (d + 1) C Sl (pc + 3) lv st I L P S Q) : Zj G M (d + 1) C Sl pc lv (.ref a :: st) I L P S Q := by
  intro p e R s m args below meth c H locs cells slots Kc Ks QQ ad ls X
  have hts := X.1.2.2.2.2.1
  have hrm := X.2.2.2.2.2.2.2.1
  have hcat2 : ((st.map (zcv ad)).map fun v => v.category).sum ≤ 8 := by rw [zcvs_cat]; exact hcat
  refine W.objInit (a := ad a) (rest := st.map (zcv ad)) X.1.1 X.1.2.1 X.1.2.2.2.1 (hts _ hl) (hts _ q119) (hts _ q120) rfl (X.2.2.2.2.1.2.1.trans X.1.2.2.1.symm) rfl hd (by omega) (by show 2 * 0 + _ + 12 ≤ _; omega) ?_
  exact k p e R s m args below meth c H locs cells slots Kc Ks QQ ad ls (X.toS (zwf_tl X.2.2.2.2.2.2.1))
end ZROWS9
