set_option maxRecDepth 100000
/-! Z, part 4: arithmetic, the stack, branches, switches, a method's end -/
section ZROWS4
variable {G : zG} {M : zM} {d C Sl pc : Nat} {lv lv' st : List Value} {I : zI} {L : zL} {P : zR} {S : zT} {Q : zQ}
theorem Z_iadd {x y : Int32} (hd : decode M.2.1 pc = .ok (.iadd, 1)) (k : Zj G M d C Sl (pc + 1) lv (.int (x + y) :: st) I L P S Q) : Zj G M d C Sl pc lv (.int y :: .int x :: st) I L P S Q := by
  intro p e R s m args below meth c H locs cells slots Kc Ks QQ ad ls X
  exact lv_iadd X.1.1 X.1.2.1 hd (k p e R s m args below meth c H locs cells slots Kc Ks QQ ad ls (X.toS (zwf_i (zwf_tl (zwf_tl X.2.2.2.2.2.2.1)))))
theorem Z_isub {x y : Int32} (hd : decode M.2.1 pc = .ok (.isub, 1)) (k : Zj G M d C Sl (pc + 1) lv (.int (x - y) :: st) I L P S Q) : Zj G M d C Sl pc lv (.int y :: .int x :: st) I L P S Q := by
  intro p e R s m args below meth c H locs cells slots Kc Ks QQ ad ls X
  exact lv_isub X.1.1 X.1.2.1 hd (k p e R s m args below meth c H locs cells slots Kc Ks QQ ad ls (X.toS (zwf_i (zwf_tl (zwf_tl X.2.2.2.2.2.2.1)))))
theorem Z_imul {x y : Int32} (hd : decode M.2.1 pc = .ok (.imul, 1)) (k : Zj G M d C Sl (pc + 1) lv (.int (x * y) :: st) I L P S Q) : Zj G M d C Sl pc lv (.int y :: .int x :: st) I L P S Q := by
  intro p e R s m args below meth c H locs cells slots Kc Ks QQ ad ls X
  exact lv_imul X.1.1 X.1.2.1 hd (k p e R s m args below meth c H locs cells slots Kc Ks QQ ad ls (X.toS (zwf_i (zwf_tl (zwf_tl X.2.2.2.2.2.2.1)))))
theorem Z_iand {x y : Int32} (hd : decode M.2.1 pc = .ok (.iand, 1)) (k : Zj G M d C Sl (pc + 1) lv (.int (x &&& y) :: st) I L P S Q) : Zj G M d C Sl pc lv (.int y :: .int x :: st) I L P S Q := by
  intro p e R s m args below meth c H locs cells slots Kc Ks QQ ad ls X
  exact lv_iand X.1.1 X.1.2.1 hd (k p e R s m args below meth c H locs cells slots Kc Ks QQ ad ls (X.toS (zwf_i (zwf_tl (zwf_tl X.2.2.2.2.2.2.1)))))
theorem Z_ior {x y : Int32} (hd : decode M.2.1 pc = .ok (.ior, 1)) (k : Zj G M d C Sl (pc + 1) lv (.int (x ||| y) :: st) I L P S Q) : Zj G M d C Sl pc lv (.int y :: .int x :: st) I L P S Q := by
  intro p e R s m args below meth c H locs cells slots Kc Ks QQ ad ls X
  exact lv_ior X.1.1 X.1.2.1 hd (k p e R s m args below meth c H locs cells slots Kc Ks QQ ad ls (X.toS (zwf_i (zwf_tl (zwf_tl X.2.2.2.2.2.2.1)))))
theorem Z_ixor {x y : Int32} (hd : decode M.2.1 pc = .ok (.ixor, 1)) (k : Zj G M d C Sl (pc + 1) lv (.int (x ^^^ y) :: st) I L P S Q) : Zj G M d C Sl pc lv (.int y :: .int x :: st) I L P S Q := by
  intro p e R s m args below meth c H locs cells slots Kc Ks QQ ad ls X
  exact lv_ixor X.1.1 X.1.2.1 hd (k p e R s m args below meth c H locs cells slots Kc Ks QQ ad ls (X.toS (zwf_i (zwf_tl (zwf_tl X.2.2.2.2.2.2.1)))))
theorem Z_ishl {x y : Int32} (hd : decode M.2.1 pc = .ok (.ishl, 1)) (k : Zj G M d C Sl (pc + 1) lv (.int (x <<< (y &&& 31)) :: st) I L P S Q) : Zj G M d C Sl pc lv (.int y :: .int x :: st) I L P S Q := by
  intro p e R s m args below meth c H locs cells slots Kc Ks QQ ad ls X
  exact lv_ishl X.1.1 X.1.2.1 hd (k p e R s m args below meth c H locs cells slots Kc Ks QQ ad ls (X.toS (zwf_i (zwf_tl (zwf_tl X.2.2.2.2.2.2.1)))))
theorem Z_ishr {x y : Int32} (hd : decode M.2.1 pc = .ok (.ishr, 1)) (k : Zj G M d C Sl (pc + 1) lv (.int (x >>> (y &&& 31)) :: st) I L P S Q) : Zj G M d C Sl pc lv (.int y :: .int x :: st) I L P S Q := by
  intro p e R s m args below meth c H locs cells slots Kc Ks QQ ad ls X
  exact lv_ishr X.1.1 X.1.2.1 hd (k p e R s m args below meth c H locs cells slots Kc Ks QQ ad ls (X.toS (zwf_i (zwf_tl (zwf_tl X.2.2.2.2.2.2.1)))))
theorem Z_idiv {x y : Int32} (hd : decode M.2.1 pc = .ok (.idiv, 1)) (h0 : ¬ y = 0) (k : Zj G M d C Sl (pc + 1) lv (.int (x / y) :: st) I L P S Q) : Zj G M d C Sl pc lv (.int y :: .int x :: st) I L P S Q := by
  intro p e R s m args below meth c H locs cells slots Kc Ks QQ ad ls X
  exact lv_idiv X.1.1 X.1.2.1 hd h0 (k p e R s m args below meth c H locs cells slots Kc Ks QQ ad ls (X.toS (zwf_i (zwf_tl (zwf_tl X.2.2.2.2.2.2.1)))))
theorem Z_irem {x y : Int32} (hd : decode M.2.1 pc = .ok (.irem, 1)) (h0 : ¬ y = 0) (k : Zj G M d C Sl (pc + 1) lv (.int (x - x / y * y) :: st) I L P S Q) : Zj G M d C Sl pc lv (.int y :: .int x :: st) I L P S Q := by
  intro p e R s m args below meth c H locs cells slots Kc Ks QQ ad ls X
  exact lv_irem X.1.1 X.1.2.1 hd h0 (k p e R s m args below meth c H locs cells slots Kc Ks QQ ad ls (X.toS (zwf_i (zwf_tl (zwf_tl X.2.2.2.2.2.2.1)))))
theorem Z_ineg {x : Int32} (hd : decode M.2.1 pc = .ok (.ineg, 1)) (k : Zj G M d C Sl (pc + 1) lv (.int (-x) :: st) I L P S Q) : Zj G M d C Sl pc lv (.int x :: st) I L P S Q := by
  intro p e R s m args below meth c H locs cells slots Kc Ks QQ ad ls X
  exact lv_ineg X.1.1 X.1.2.1 hd (k p e R s m args below meth c H locs cells slots Kc Ks QQ ad ls (X.toS (zwf_i (zwf_tl X.2.2.2.2.2.2.1))))
theorem Z_ladd {x y : Int64} (hd : decode M.2.1 pc = .ok (.ladd, 1)) (k : Zj G M d C Sl (pc + 1) lv (.long (x + y) :: st) I L P S Q) : Zj G M d C Sl pc lv (.long y :: .long x :: st) I L P S Q := by
  intro p e R s m args below meth c H locs cells slots Kc Ks QQ ad ls X
  exact lv_ladd X.1.1 X.1.2.1 hd (k p e R s m args below meth c H locs cells slots Kc Ks QQ ad ls (X.toS (zwf_l (zwf_tl (zwf_tl X.2.2.2.2.2.2.1)))))
theorem Z_lsub {x y : Int64} (hd : decode M.2.1 pc = .ok (.lsub, 1)) (k : Zj G M d C Sl (pc + 1) lv (.long (x - y) :: st) I L P S Q) : Zj G M d C Sl pc lv (.long y :: .long x :: st) I L P S Q := by
  intro p e R s m args below meth c H locs cells slots Kc Ks QQ ad ls X
  exact lv_lsub X.1.1 X.1.2.1 hd (k p e R s m args below meth c H locs cells slots Kc Ks QQ ad ls (X.toS (zwf_l (zwf_tl (zwf_tl X.2.2.2.2.2.2.1)))))
theorem Z_lmul {x y : Int64} (hd : decode M.2.1 pc = .ok (.lmul, 1)) (k : Zj G M d C Sl (pc + 1) lv (.long (x * y) :: st) I L P S Q) : Zj G M d C Sl pc lv (.long y :: .long x :: st) I L P S Q := by
  intro p e R s m args below meth c H locs cells slots Kc Ks QQ ad ls X
  exact lv_lmul X.1.1 X.1.2.1 hd (k p e R s m args below meth c H locs cells slots Kc Ks QQ ad ls (X.toS (zwf_l (zwf_tl (zwf_tl X.2.2.2.2.2.2.1)))))
theorem Z_ldiv {x y : Int64} (hd : decode M.2.1 pc = .ok (.ldiv, 1)) (h0 : ¬ y = 0) (k : Zj G M d C Sl (pc + 1) lv (.long (x / y) :: st) I L P S Q) : Zj G M d C Sl pc lv (.long y :: .long x :: st) I L P S Q := by
  intro p e R s m args below meth c H locs cells slots Kc Ks QQ ad ls X
  exact lv_ldiv X.1.1 X.1.2.1 hd h0 (k p e R s m args below meth c H locs cells slots Kc Ks QQ ad ls (X.toS (zwf_l (zwf_tl (zwf_tl X.2.2.2.2.2.2.1)))))
theorem Z_lrem {x y : Int64} (hd : decode M.2.1 pc = .ok (.lrem, 1)) (h0 : ¬ y = 0) (k : Zj G M d C Sl (pc + 1) lv (.long (x - x / y * y) :: st) I L P S Q) : Zj G M d C Sl pc lv (.long y :: .long x :: st) I L P S Q := by
  intro p e R s m args below meth c H locs cells slots Kc Ks QQ ad ls X
  exact lv_lrem X.1.1 X.1.2.1 hd h0 (k p e R s m args below meth c H locs cells slots Kc Ks QQ ad ls (X.toS (zwf_l (zwf_tl (zwf_tl X.2.2.2.2.2.2.1)))))
theorem Z_iushr {x y : Int32} (hd : decode M.2.1 pc = .ok (.iushr, 1)) (k : Zj G M d C Sl (pc + 1) lv (.int ((x.toUInt32 >>> (y.toUInt32 &&& Int32.toUInt32 31)).toInt32) :: st) I L P S Q) : Zj G M d C Sl pc lv (.int y :: .int x :: st) I L P S Q := by
  intro p e R s m args below meth c H locs cells slots Kc Ks QQ ad ls X
  exact lv_iushr X.1.1 X.1.2.1 hd rfl (k p e R s m args below meth c H locs cells slots Kc Ks QQ ad ls (X.toS (zwf_i (zwf_tl (zwf_tl X.2.2.2.2.2.2.1)))))
theorem Z_lcmp {x y : Int64} (hd : decode M.2.1 pc = .ok (.lcmp, 1)) (k : Zj G M d C Sl (pc + 1) lv (.int (lg_cmp x y) :: st) I L P S Q) : Zj G M d C Sl pc lv (.long y :: .long x :: st) I L P S Q := by
  intro p e R s m args below meth c H locs cells slots Kc Ks QQ ad ls X
  exact W.lcmp X.1.1 X.1.2.1 hd (k p e R s m args below meth c H locs cells slots Kc Ks QQ ad ls (X.toS (zwf_i (zwf_tl (zwf_tl X.2.2.2.2.2.2.1)))))
theorem Z_i2l {x : Int32} (hd : decode M.2.1 pc = .ok (.i2l, 1)) (k : Zj G M d C Sl (pc + 1) lv (.long x.toInt64 :: st) I L P S Q) : Zj G M d C Sl pc lv (.int x :: st) I L P S Q := by
  intro p e R s m args below meth c H locs cells slots Kc Ks QQ ad ls X
  exact lv_i2l X.1.1 X.1.2.1 hd rfl (k p e R s m args below meth c H locs cells slots Kc Ks QQ ad ls (X.toS (zwf_l (zwf_tl X.2.2.2.2.2.2.1))))
theorem Z_l2i {x : Int64} (hd : decode M.2.1 pc = .ok (.l2i, 1)) (k : Zj G M d C Sl (pc + 1) lv (.int x.toInt32 :: st) I L P S Q) : Zj G M d C Sl pc lv (.long x :: st) I L P S Q := by
  intro p e R s m args below meth c H locs cells slots Kc Ks QQ ad ls X
  exact lv_l2i X.1.1 X.1.2.1 hd rfl (k p e R s m args below meth c H locs cells slots Kc Ks QQ ad ls (X.toS (zwf_i (zwf_tl X.2.2.2.2.2.2.1))))
theorem Z_i2b {x : Int32} (hd : decode M.2.1 pc = .ok (.i2b, 1)) (k : Zj G M d C Sl (pc + 1) lv (.int x.toInt8.toInt32 :: st) I L P S Q) : Zj G M d C Sl pc lv (.int x :: st) I L P S Q := by
  intro p e R s m args below meth c H locs cells slots Kc Ks QQ ad ls X
  exact lv_i2b X.1.1 X.1.2.1 hd rfl (k p e R s m args below meth c H locs cells slots Kc Ks QQ ad ls (X.toS (zwf_i (zwf_tl X.2.2.2.2.2.2.1))))
theorem Z_i2s {x : Int32} (hd : decode M.2.1 pc = .ok (.i2s, 1)) (k : Zj G M d C Sl (pc + 1) lv (.int x.toInt16.toInt32 :: st) I L P S Q) : Zj G M d C Sl pc lv (.int x :: st) I L P S Q := by
  intro p e R s m args below meth c H locs cells slots Kc Ks QQ ad ls X
  exact lv_i2s X.1.1 X.1.2.1 hd rfl (k p e R s m args below meth c H locs cells slots Kc Ks QQ ad ls (X.toS (zwf_i (zwf_tl X.2.2.2.2.2.2.1))))
theorem Z_i2c {x : Int32} (hd : decode M.2.1 pc = .ok (.i2c, 1)) (k : Zj G M d C Sl (pc + 1) lv (.int (x.toUInt32 % 65536).toInt32 :: st) I L P S Q) : Zj G M d C Sl pc lv (.int x :: st) I L P S Q := by
  intro p e R s m args below meth c H locs cells slots Kc Ks QQ ad ls X
  exact lv_i2c X.1.1 X.1.2.1 hd rfl (k p e R s m args below meth c H locs cells slots Kc Ks QQ ad ls (X.toS (zwf_i (zwf_tl X.2.2.2.2.2.2.1))))
theorem Z_pop {v : Value} (hd : decode M.2.1 pc = .ok (.pop, 1)) (hv : v.category = 1) (k : Zj G M d C Sl (pc + 1) lv (st) I L P S Q) : Zj G M d C Sl pc lv (v :: st) I L P S Q := by
  intro p e R s m args below meth c H locs cells slots Kc Ks QQ ad ls X
  exact lv_pop X.1.1 X.1.2.1 hd ((zcv_cat ad v).trans hv) (k p e R s m args below meth c H locs cells slots Kc Ks QQ ad ls (X.toS (zwf_tl X.2.2.2.2.2.2.1)))
theorem Z_dup {v : Value} (hd : decode M.2.1 pc = .ok (.dup, 1)) (hv : v.category = 1) (k : Zj G M d C Sl (pc + 1) lv (v :: v :: st) I L P S Q) : Zj G M d C Sl pc lv (v :: st) I L P S Q := by
  intro p e R s m args below meth c H locs cells slots Kc Ks QQ ad ls X
  exact lv_dup X.1.1 X.1.2.1 hd ((zcv_cat ad v).trans hv) (k p e R s m args below meth c H locs cells slots Kc Ks QQ ad ls (X.toS (zwf_cons.mpr ⟨zwf_hd X.2.2.2.2.2.2.1, X.2.2.2.2.2.2.1⟩)))
theorem Z_dup_x1 {v w : Value} (hd : decode M.2.1 pc = .ok (.dup_x1, 1)) (hv : v.category = 1) (hw : w.category = 1) (k : Zj G M d C Sl (pc + 1) lv (v :: w :: v :: st) I L P S Q) : Zj G M d C Sl pc lv (v :: w :: st) I L P S Q := by
  intro p e R s m args below meth c H locs cells slots Kc Ks QQ ad ls X
  exact lv_dup_x1 X.1.1 X.1.2.1 hd ((zcv_cat ad v).trans hv) ((zcv_cat ad w).trans hw) (k p e R s m args below meth c H locs cells slots Kc Ks QQ ad ls (X.toS (zwf_cons.mpr ⟨zwf_hd X.2.2.2.2.2.2.1, zwf_cons.mpr ⟨zwf_hd (zwf_tl X.2.2.2.2.2.2.1), zwf_cons.mpr ⟨zwf_hd X.2.2.2.2.2.2.1, zwf_tl (zwf_tl X.2.2.2.2.2.2.1)⟩⟩⟩)))
theorem Z_dup2_11 {v w : Value} (hd : decode M.2.1 pc = .ok (.dup2, 1)) (hv : v.category = 1) (hw : w.category = 1) (k : Zj G M d C Sl (pc + 1) lv (v :: w :: v :: w :: st) I L P S Q) : Zj G M d C Sl pc lv (v :: w :: st) I L P S Q := by
  intro p e R s m args below meth c H locs cells slots Kc Ks QQ ad ls X
  exact lv_dup2_11 X.1.1 X.1.2.1 hd ((zcv_cat ad v).trans hv) ((zcv_cat ad w).trans hw) (k p e R s m args below meth c H locs cells slots Kc Ks QQ ad ls (X.toS (zwf_cons.mpr ⟨zwf_hd X.2.2.2.2.2.2.1, zwf_cons.mpr ⟨zwf_hd (zwf_tl X.2.2.2.2.2.2.1), X.2.2.2.2.2.2.1⟩⟩)))
theorem Z_dup2_2 {v : Value} (hd : decode M.2.1 pc = .ok (.dup2, 1)) (hv : v.category = 2) (k : Zj G M d C Sl (pc + 1) lv (v :: v :: st) I L P S Q) : Zj G M d C Sl pc lv (v :: st) I L P S Q := by
  intro p e R s m args below meth c H locs cells slots Kc Ks QQ ad ls X
  exact lv_dup2_2 X.1.1 X.1.2.1 hd ((zcv_cat ad v).trans hv) (k p e R s m args below meth c H locs cells slots Kc Ks QQ ad ls (X.toS (zwf_cons.mpr ⟨zwf_hd X.2.2.2.2.2.2.1, X.2.2.2.2.2.2.1⟩)))
theorem Z_goto {off : Int} (tgt : Nat) (hd : decode M.2.1 pc = .ok (.goto off, 3)) (ht : (pc : Int) + off = (tgt : Int)) (k : Zj G M d C Sl (tgt) lv (st) I L P S Q) : Zj G M d C Sl pc lv (st) I L P S Q := by
  intro p e R s m args below meth c H locs cells slots Kc Ks QQ ad ls X
  exact lv_goto X.1.1 X.1.2.1 hd ht (k p e R s m args below meth c H locs cells slots Kc Ks QQ ad ls (X.toS X.2.2.2.2.2.2.1))
theorem Z_iinc {i : Nat} {n : Int} {x : Int32} (hd : decode M.2.1 pc = .ok (.iinc i n, 3)) (hx : lv[i]? = some (.int x)) (hl : lv.set i (.int (x + Int32.ofInt n)) = lv') (hok : zok lv i = true) (k : Zj G M d C Sl (pc + 3) lv' st I L P S Q) : Zj G M d C Sl pc lv st I L P S Q := by
  intro p e R s m args below meth c H locs cells slots Kc Ks QQ ad ls X
  subst hl
  have hlen := X.2.2.2.2.1.1
  have hi := (List.getElem?_eq_some_iff.mp hx).1
  obtain ⟨j, hj⟩ := List.getElem?_of_mem ((zal_mem ad lv 0 (i, .int x)).mpr ⟨i, .int x, by simp, hx, rfl, rfl⟩)
  exact lv_iinc X.1.1 X.1.2.1 hd X.2.2.2.2.1.2 hj rfl (by omega) rfl (fun ls' hl' => k p e R s m args below meth c H locs cells slots Kc Ks QQ ad ls' (X.toL (zlv_set1 hlen (by omega) rfl hok hl') (zwf_set X.2.2.2.2.2.1 trivial) X.2.2.2.2.2.2.1))
theorem Z_ifeq {x : Int32} {off : Int} (tgt : Nat) (hd : decode M.2.1 pc = .ok (.ifCond .eq off, 3)) (ht : (pc : Int) + off = (tgt : Int)) (kt : x = 0 → Zj G M d C Sl tgt lv st I L P S Q) (kf : ¬ x = 0 → Zj G M d C Sl (pc + 3) lv st I L P S Q) : Zj G M d C Sl pc lv (.int x :: st) I L P S Q := by
  intro p e R s m args below meth c H locs cells slots Kc Ks QQ ad ls X
  exact lv_if_eq X.1.1 X.1.2.1 hd ht (fun h => kt h p e R s m args below meth c H locs cells slots Kc Ks QQ ad ls (X.toS (zwf_tl X.2.2.2.2.2.2.1))) (fun h => kf h p e R s m args below meth c H locs cells slots Kc Ks QQ ad ls (X.toS (zwf_tl X.2.2.2.2.2.2.1)))
theorem Z_ifne {x : Int32} {off : Int} (tgt : Nat) (hd : decode M.2.1 pc = .ok (.ifCond .ne off, 3)) (ht : (pc : Int) + off = (tgt : Int)) (kt : x ≠ 0 → Zj G M d C Sl tgt lv st I L P S Q) (kf : x = 0 → Zj G M d C Sl (pc + 3) lv st I L P S Q) : Zj G M d C Sl pc lv (.int x :: st) I L P S Q := by
  intro p e R s m args below meth c H locs cells slots Kc Ks QQ ad ls X
  exact lv_if_ne X.1.1 X.1.2.1 hd ht (fun h => kt h p e R s m args below meth c H locs cells slots Kc Ks QQ ad ls (X.toS (zwf_tl X.2.2.2.2.2.2.1))) (fun h => kf h p e R s m args below meth c H locs cells slots Kc Ks QQ ad ls (X.toS (zwf_tl X.2.2.2.2.2.2.1)))
theorem Z_iflt {x : Int32} {off : Int} (tgt : Nat) (hd : decode M.2.1 pc = .ok (.ifCond .lt off, 3)) (ht : (pc : Int) + off = (tgt : Int)) (kt : x < 0 → Zj G M d C Sl tgt lv st I L P S Q) (kf : ¬ x < 0 → Zj G M d C Sl (pc + 3) lv st I L P S Q) : Zj G M d C Sl pc lv (.int x :: st) I L P S Q := by
  intro p e R s m args below meth c H locs cells slots Kc Ks QQ ad ls X
  exact lv_if_lt X.1.1 X.1.2.1 hd ht (fun h => kt h p e R s m args below meth c H locs cells slots Kc Ks QQ ad ls (X.toS (zwf_tl X.2.2.2.2.2.2.1))) (fun h => kf h p e R s m args below meth c H locs cells slots Kc Ks QQ ad ls (X.toS (zwf_tl X.2.2.2.2.2.2.1)))
theorem Z_ifge {x : Int32} {off : Int} (tgt : Nat) (hd : decode M.2.1 pc = .ok (.ifCond .ge off, 3)) (ht : (pc : Int) + off = (tgt : Int)) (kt : 0 ≤ x → Zj G M d C Sl tgt lv st I L P S Q) (kf : ¬ 0 ≤ x → Zj G M d C Sl (pc + 3) lv st I L P S Q) : Zj G M d C Sl pc lv (.int x :: st) I L P S Q := by
  intro p e R s m args below meth c H locs cells slots Kc Ks QQ ad ls X
  exact lv_if_ge X.1.1 X.1.2.1 hd ht (fun h => kt h p e R s m args below meth c H locs cells slots Kc Ks QQ ad ls (X.toS (zwf_tl X.2.2.2.2.2.2.1))) (fun h => kf h p e R s m args below meth c H locs cells slots Kc Ks QQ ad ls (X.toS (zwf_tl X.2.2.2.2.2.2.1)))
theorem Z_ifgt {x : Int32} {off : Int} (tgt : Nat) (hd : decode M.2.1 pc = .ok (.ifCond .gt off, 3)) (ht : (pc : Int) + off = (tgt : Int)) (kt : 0 < x → Zj G M d C Sl tgt lv st I L P S Q) (kf : ¬ 0 < x → Zj G M d C Sl (pc + 3) lv st I L P S Q) : Zj G M d C Sl pc lv (.int x :: st) I L P S Q := by
  intro p e R s m args below meth c H locs cells slots Kc Ks QQ ad ls X
  exact lv_if_gt X.1.1 X.1.2.1 hd ht (fun h => kt h p e R s m args below meth c H locs cells slots Kc Ks QQ ad ls (X.toS (zwf_tl X.2.2.2.2.2.2.1))) (fun h => kf h p e R s m args below meth c H locs cells slots Kc Ks QQ ad ls (X.toS (zwf_tl X.2.2.2.2.2.2.1)))
theorem Z_ifle {x : Int32} {off : Int} (tgt : Nat) (hd : decode M.2.1 pc = .ok (.ifCond .le off, 3)) (ht : (pc : Int) + off = (tgt : Int)) (kt : x ≤ 0 → Zj G M d C Sl tgt lv st I L P S Q) (kf : ¬ x ≤ 0 → Zj G M d C Sl (pc + 3) lv st I L P S Q) : Zj G M d C Sl pc lv (.int x :: st) I L P S Q := by
  intro p e R s m args below meth c H locs cells slots Kc Ks QQ ad ls X
  exact lv_if_le X.1.1 X.1.2.1 hd ht (fun h => kt h p e R s m args below meth c H locs cells slots Kc Ks QQ ad ls (X.toS (zwf_tl X.2.2.2.2.2.2.1))) (fun h => kf h p e R s m args below meth c H locs cells slots Kc Ks QQ ad ls (X.toS (zwf_tl X.2.2.2.2.2.2.1)))
theorem Z_icmpeq {x y : Int32} {off : Int} (tgt : Nat) (hd : decode M.2.1 pc = .ok (.if_icmp .eq off, 3)) (ht : (pc : Int) + off = (tgt : Int)) (kt : x = y → Zj G M d C Sl tgt lv st I L P S Q) (kf : ¬ x = y → Zj G M d C Sl (pc + 3) lv st I L P S Q) : Zj G M d C Sl pc lv (.int y :: .int x :: st) I L P S Q := by
  intro p e R s m args below meth c H locs cells slots Kc Ks QQ ad ls X
  exact lv_icmp_eq X.1.1 X.1.2.1 hd ht (fun h => kt h p e R s m args below meth c H locs cells slots Kc Ks QQ ad ls (X.toS (zwf_tl (zwf_tl X.2.2.2.2.2.2.1)))) (fun h => kf h p e R s m args below meth c H locs cells slots Kc Ks QQ ad ls (X.toS (zwf_tl (zwf_tl X.2.2.2.2.2.2.1))))
theorem Z_icmpne {x y : Int32} {off : Int} (tgt : Nat) (hd : decode M.2.1 pc = .ok (.if_icmp .ne off, 3)) (ht : (pc : Int) + off = (tgt : Int)) (kt : x ≠ y → Zj G M d C Sl tgt lv st I L P S Q) (kf : x = y → Zj G M d C Sl (pc + 3) lv st I L P S Q) : Zj G M d C Sl pc lv (.int y :: .int x :: st) I L P S Q := by
  intro p e R s m args below meth c H locs cells slots Kc Ks QQ ad ls X
  exact lv_icmp_ne X.1.1 X.1.2.1 hd ht (fun h => kt h p e R s m args below meth c H locs cells slots Kc Ks QQ ad ls (X.toS (zwf_tl (zwf_tl X.2.2.2.2.2.2.1)))) (fun h => kf h p e R s m args below meth c H locs cells slots Kc Ks QQ ad ls (X.toS (zwf_tl (zwf_tl X.2.2.2.2.2.2.1))))
theorem Z_icmplt {x y : Int32} {off : Int} (tgt : Nat) (hd : decode M.2.1 pc = .ok (.if_icmp .lt off, 3)) (ht : (pc : Int) + off = (tgt : Int)) (kt : x < y → Zj G M d C Sl tgt lv st I L P S Q) (kf : ¬ x < y → Zj G M d C Sl (pc + 3) lv st I L P S Q) : Zj G M d C Sl pc lv (.int y :: .int x :: st) I L P S Q := by
  intro p e R s m args below meth c H locs cells slots Kc Ks QQ ad ls X
  exact lv_icmp_lt X.1.1 X.1.2.1 hd ht (fun h => kt h p e R s m args below meth c H locs cells slots Kc Ks QQ ad ls (X.toS (zwf_tl (zwf_tl X.2.2.2.2.2.2.1)))) (fun h => kf h p e R s m args below meth c H locs cells slots Kc Ks QQ ad ls (X.toS (zwf_tl (zwf_tl X.2.2.2.2.2.2.1))))
theorem Z_icmpge {x y : Int32} {off : Int} (tgt : Nat) (hd : decode M.2.1 pc = .ok (.if_icmp .ge off, 3)) (ht : (pc : Int) + off = (tgt : Int)) (kt : y ≤ x → Zj G M d C Sl tgt lv st I L P S Q) (kf : ¬ y ≤ x → Zj G M d C Sl (pc + 3) lv st I L P S Q) : Zj G M d C Sl pc lv (.int y :: .int x :: st) I L P S Q := by
  intro p e R s m args below meth c H locs cells slots Kc Ks QQ ad ls X
  exact lv_icmp_ge X.1.1 X.1.2.1 hd ht (fun h => kt h p e R s m args below meth c H locs cells slots Kc Ks QQ ad ls (X.toS (zwf_tl (zwf_tl X.2.2.2.2.2.2.1)))) (fun h => kf h p e R s m args below meth c H locs cells slots Kc Ks QQ ad ls (X.toS (zwf_tl (zwf_tl X.2.2.2.2.2.2.1))))
theorem Z_icmpgt {x y : Int32} {off : Int} (tgt : Nat) (hd : decode M.2.1 pc = .ok (.if_icmp .gt off, 3)) (ht : (pc : Int) + off = (tgt : Int)) (kt : y < x → Zj G M d C Sl tgt lv st I L P S Q) (kf : ¬ y < x → Zj G M d C Sl (pc + 3) lv st I L P S Q) : Zj G M d C Sl pc lv (.int y :: .int x :: st) I L P S Q := by
  intro p e R s m args below meth c H locs cells slots Kc Ks QQ ad ls X
  exact lv_icmp_gt X.1.1 X.1.2.1 hd ht (fun h => kt h p e R s m args below meth c H locs cells slots Kc Ks QQ ad ls (X.toS (zwf_tl (zwf_tl X.2.2.2.2.2.2.1)))) (fun h => kf h p e R s m args below meth c H locs cells slots Kc Ks QQ ad ls (X.toS (zwf_tl (zwf_tl X.2.2.2.2.2.2.1))))
theorem Z_icmple {x y : Int32} {off : Int} (tgt : Nat) (hd : decode M.2.1 pc = .ok (.if_icmp .le off, 3)) (ht : (pc : Int) + off = (tgt : Int)) (kt : x ≤ y → Zj G M d C Sl tgt lv st I L P S Q) (kf : ¬ x ≤ y → Zj G M d C Sl (pc + 3) lv st I L P S Q) : Zj G M d C Sl pc lv (.int y :: .int x :: st) I L P S Q := by
  intro p e R s m args below meth c H locs cells slots Kc Ks QQ ad ls X
  exact lv_icmp_le X.1.1 X.1.2.1 hd ht (fun h => kt h p e R s m args below meth c H locs cells slots Kc Ks QQ ad ls (X.toS (zwf_tl (zwf_tl X.2.2.2.2.2.2.1)))) (fun h => kf h p e R s m args below meth c H locs cells slots Kc Ks QQ ad ls (X.toS (zwf_tl (zwf_tl X.2.2.2.2.2.2.1))))
theorem Z_ifnullR {x : Nat} {off : Int} (hd : decode M.2.1 pc = .ok (.ifnull off, 3)) (k : Zj G M d C Sl (pc + 3) lv (st) I L P S Q) : Zj G M d C Sl pc lv (.ref x :: st) I L P S Q := by
  intro p e R s m args below meth c H locs cells slots Kc Ks QQ ad ls X
  exact lv_ifnull X.1.1 X.1.2.1 hd (k p e R s m args below meth c H locs cells slots Kc Ks QQ ad ls (X.toS (zwf_tl X.2.2.2.2.2.2.1)))
theorem Z_ifnullN {off : Int} (tgt : Nat) (hd : decode M.2.1 pc = .ok (.ifnull off, 3)) (ht : (pc : Int) + off = (tgt : Int)) (k : Zj G M d C Sl (tgt) lv (st) I L P S Q) : Zj G M d C Sl pc lv (.null :: st) I L P S Q := by
  intro p e R s m args below meth c H locs cells slots Kc Ks QQ ad ls X
  exact lv_ifnullN X.1.1 X.1.2.1 hd ht (k p e R s m args below meth c H locs cells slots Kc Ks QQ ad ls (X.toS (zwf_tl X.2.2.2.2.2.2.1)))
theorem Z_ifnonnullR {x : Nat} {off : Int} (tgt : Nat) (hd : decode M.2.1 pc = .ok (.ifnonnull off, 3)) (ht : (pc : Int) + off = (tgt : Int)) (k : Zj G M d C Sl (tgt) lv (st) I L P S Q) : Zj G M d C Sl pc lv (.ref x :: st) I L P S Q := by
  intro p e R s m args below meth c H locs cells slots Kc Ks QQ ad ls X
  exact lv_ifnonnull X.1.1 X.1.2.1 hd ht (k p e R s m args below meth c H locs cells slots Kc Ks QQ ad ls (X.toS (zwf_tl X.2.2.2.2.2.2.1)))
theorem Z_ifnonnullN {off : Int} (hd : decode M.2.1 pc = .ok (.ifnonnull off, 3)) (k : Zj G M d C Sl (pc + 3) lv (st) I L P S Q) : Zj G M d C Sl pc lv (.null :: st) I L P S Q := by
  intro p e R s m args below meth c H locs cells slots Kc Ks QQ ad ls X
  exact lv_ifnonnullN X.1.1 X.1.2.1 hd (k p e R s m args below meth c H locs cells slots Kc Ks QQ ad ls (X.toS (zwf_tl X.2.2.2.2.2.2.1)))
theorem Z_lookup {dflt : Int} {ps : Array (Int × Int)} {len : Nat} {x : Int32} {off : Int} (tgt : Nat) (hd : decode M.2.1 pc = .ok (.lookupswitch dflt ps, len)) (hp : (ps.toList.zip (ps.toList.drop 1)).all (fun (a, next) => a.1 < next.1) = true) (ho : Op.lookupswitch.offset ps.toList dflt x.toInt = off) (ht : (pc : Int) + off = (tgt : Int)) (k : Zj G M d C Sl (tgt) lv (st) I L P S Q) : Zj G M d C Sl pc lv (.int x :: st) I L P S Q := by
  intro p e R s m args below meth c H locs cells slots Kc Ks QQ ad ls X
  exact lv_lookup X.1.1 X.1.2.1 hd hp ho ht (k p e R s m args below meth c H locs cells slots Kc Ks QQ ad ls (X.toS (zwf_tl X.2.2.2.2.2.2.1)))
theorem Z_tableOut {dflt lo hi : Int} {offs : Array Int} {len : Nat} {x : Int32} (tgt : Nat) (hd : decode M.2.1 pc = .ok (.tableswitch dflt lo hi offs, len)) (h : x.toInt < lo ∨ hi < x.toInt) (ht : (pc : Int) + dflt = (tgt : Int)) (k : Zj G M d C Sl (tgt) lv (st) I L P S Q) : Zj G M d C Sl pc lv (.int x :: st) I L P S Q := by
  intro p e R s m args below meth c H locs cells slots Kc Ks QQ ad ls X
  exact lv_tableOut X.1.1 X.1.2.1 hd h ht (k p e R s m args below meth c H locs cells slots Kc Ks QQ ad ls (X.toS (zwf_tl X.2.2.2.2.2.2.1)))
theorem Z_tableIn {dflt lo hi : Int} {offs : Array Int} {len : Nat} {x : Int32} {off : Int} (tgt : Nat) (hd : decode M.2.1 pc = .ok (.tableswitch dflt lo hi offs, len)) (h1 : ¬ x.toInt < lo) (h2 : ¬ hi < x.toInt) (ho : offs[(x.toInt - lo).toNat]? = some off) (ht : (pc : Int) + off = (tgt : Int)) (k : Zj G M d C Sl (tgt) lv (st) I L P S Q) : Zj G M d C Sl pc lv (.int x :: st) I L P S Q := by
  intro p e R s m args below meth c H locs cells slots Kc Ks QQ ad ls X
  exact lv_tableIn X.1.1 X.1.2.1 hd h1 h2 ho ht (k p e R s m args below meth c H locs cells slots Kc Ks QQ ad ls (X.toS (zwf_tl X.2.2.2.2.2.2.1)))
theorem Z_ireturn {x : Int32} {ty : FieldType} (hd : decode M.2.1 pc = .ok (.ireturn, 1)) (hr : M.2.2.2.1 = some ty) (hn : narrow ty (.int x) = .int x) (k : Q (.inl (some (.int x))) I L P S) : Zj G M d C Sl pc lv ([.int x]) I L P S Q := by
  intro p e R s m args below meth c H locs cells slots Kc Ks QQ ad ls X
  obtain ⟨F, E, Rp, hS, hl, hwl, hws, hd9, hc, eR, eX⟩ := X
  exact eR _ I L P S H locs ad ls cells slots pc k Rp zExt.rf hS (fun v h => by cases h; trivial) (by omega) (by omega) ⟨⟨ty, hr, hn⟩, hd⟩ hl.2.1
theorem Z_lreturn {x : Int64} (hd : decode M.2.1 pc = .ok (.lreturn, 1)) (hr : M.2.2.2.1 = some .long) (k : Q (.inl (some (.long x))) I L P S) : Zj G M d C Sl pc lv ([.long x]) I L P S Q := by
  intro p e R s m args below meth c H locs cells slots Kc Ks QQ ad ls X
  obtain ⟨F, E, Rp, hS, hl, hwl, hws, hd9, hc, eR, eX⟩ := X
  exact eR _ I L P S H locs ad ls cells slots pc k Rp zExt.rf hS (fun v h => by cases h; trivial) (by omega) (by omega) ⟨hr, hd⟩ hl.2.1
theorem Z_areturn {x : Nat} {rt : FieldType} (hd : decode M.2.1 pc = .ok (.areturn, 1)) (hr : M.2.2.2.1 = some rt) (hrt : (∃ n, rt = .object n) ∨ ∃ t, rt = .array t) (k : Q (.inl (some (.ref x))) I L P S) : Zj G M d C Sl pc lv ([.ref x]) I L P S Q := by
  intro p e R s m args below meth c H locs cells slots Kc Ks QQ ad ls X
  obtain ⟨F, E, Rp, hS, hl, hwl, hws, hd9, hc, eR, eX⟩ := X
  exact eR _ I L P S H locs ad ls cells slots pc k Rp zExt.rf hS (fun v h => by cases h; exact hws _ List.mem_cons_self) (by omega) (by omega) ⟨⟨rt, hr, hrt⟩, hd⟩ hl.2.1
theorem Z_areturnN {rt : FieldType} (hd : decode M.2.1 pc = .ok (.areturn, 1)) (hr : M.2.2.2.1 = some rt) (hrt : (∃ n, rt = .object n) ∨ ∃ t, rt = .array t) (k : Q (.inl (some .null)) I L P S) : Zj G M d C Sl pc lv ([.null]) I L P S Q := by
  intro p e R s m args below meth c H locs cells slots Kc Ks QQ ad ls X
  obtain ⟨F, E, Rp, hS, hl, hwl, hws, hd9, hc, eR, eX⟩ := X
  exact eR _ I L P S H locs ad ls cells slots pc k Rp zExt.rf hS (fun v h => by cases h; trivial) (by omega) (by omega) ⟨⟨rt, hr, hrt⟩, hd⟩ hl.2.1
theorem Z_return (hd : decode M.2.1 pc = .ok (.return_, 1)) (hr : M.2.2.2.1 = none) (k : Q (.inl none) I L P S) : Zj G M d C Sl pc lv ([]) I L P S Q := by
  intro p e R s m args below meth c H locs cells slots Kc Ks QQ ad ls X
  obtain ⟨F, E, Rp, hS, hl, hwl, hws, hd9, hc, eR, eX⟩ := X
  exact eR _ I L P S H locs ad ls cells slots pc k Rp zExt.rf hS (fun v h => by cases h) (by omega) (by omega) ⟨hr, hd⟩ hl.2.1
theorem Z_topi {x : Int32} (k : ∀ y : Int32, y = x → Zj G M d C Sl pc lv (.int y :: st) I L P S Q) : Zj G M d C Sl pc lv (.int x :: st) I L P S Q := k x rfl
theorem Z_topl {x : Int64} (k : ∀ y : Int64, y = x → Zj G M d C Sl pc lv (.long y :: st) I L P S Q) : Zj G M d C Sl pc lv (.long x :: st) I L P S Q := k x rfl
theorem Z_re {x y : Int32} (h : x = y) (k : Zj G M d C Sl pc lv (.int y :: st) I L P S Q) : Zj G M d C Sl pc lv (.int x :: st) I L P S Q := by rw [h]; exact k
theorem Z_rel {x y : Int64} (h : x = y) (k : Zj G M d C Sl pc lv (.long y :: st) I L P S Q) : Zj G M d C Sl pc lv (.long x :: st) I L P S Q := by rw [h]; exact k
end ZROWS4
