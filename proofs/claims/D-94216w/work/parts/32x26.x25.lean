set_option maxRecDepth 100000
/-! THE COMPONENT, part 25: a piece that lies alone -/
section X25C
variable {G : zG} {d C Sl : Nat} {I D W : zI} {R : List Int64} {L : zL} {P : zR} {S : zT} {Q : zQ} {no n np : Nat} {s : zS} {oh ph : Nat → Nat} {ro : Option (List Nat)}
/-- what lies high may have changed -/
theorem hE.hi {w h : Nat} {I2 : zI} (e : hE W no n oh ph w h I P S) (h1 : ∀ o, o < no → oh o + 8 < 7000) (h2 : ∀ p, p < n → ph p < 7000) (f : ∀ a, a < 7000 → I2 a = I a) : hE W no n oh ph w h I2 P S := by
  obtain ⟨⟨x, a2⟩, ⟨b1, w1, w2, w3⟩, ⟨c1, c2⟩, d1, ⟨d2, d22, d23, d24⟩, d3, d4⟩ := e
  refine ⟨⟨x, by rw [f 100 (by decide)]; exact a2⟩, ⟨b1, by rw [f _ (by omega)]; exact w1, fun x y hx hy => by rw [f _ (by omega)]; exact w2 x y hx hy, fun o ho => ?_⟩, ⟨c1, fun p hp => by rw [f _ (h2 p hp)]; exact c2 p hp⟩, d1, ⟨d2, d22, d23, d24⟩, d3, d4⟩
  obtain ⟨q1, q2, q5⟩ := w3 o ho
  have := h1 o ho
  refine ⟨q1, q2, ?_⟩
  unfold oRw
  rw [f _ (by omega), f _ this]
  exact q5
theorem lie_nc {p o : Nat} (hc : zbit (W 9 o) (W 17 p) = false) : ∀ (f h : Nat) (l s : Int32) (k : Nat), lieN W p o f h l s false k = none := by
  intro f
  induction f with
  | zero => intros; rfl
  | succ f ih =>
    intro h l s k
    rw [lieN, if_neg (by decide), if_neg (by rw [hc]; simp)]
    exact ih _ _ _ _
theorem lieO_nc {p o h : Nat} (hc : zbit (W 9 o) (W 17 p) = false) : lieO W p h o = none := lie_nc hc _ _ _ _ _
def xlB (m : Option (Nat × Nat)) : Int32 := match m with
  | none => -2
  | some b => nI b.1
def xlS (m : Option (Nat × Nat)) : Int32 := match m with
  | none => nI 0
  | some b => nI b.2
def xlW (W : zI) (p h : Nat) (m : Option (Nat × Nat)) : Int32 := match m with
  | none => nI 0
  | some b => nI (((lieO W p h b.1).map (·.2)).getD 0)
set_option maxHeartbeats 4000000 in
theorem c_X1_alone (e : hE W no n oh ph 200 240 I P S) (h37 : W 0 37 = 0) (h1 : ∀ o, o < no → oh o + 8 < 7000) (h2 : ∀ p, p < n → ph p < 7000) {a : Nat} (ha : 7000 ≤ a) (hS : S a = some (.inr (.int, 1))) (h0 : I a 0 = nI 0) {p o h : Nat} (hp : p < n) (ho : o < no) (hc : zbit (W 9 o) (W 17 p) = true) (hh : h ≤ 2399) (kt : ∀ I2 x, lieO W p h o = some x → I2 a 0 = nI x.2 → (∀ b, b ≠ a → I2 b = I b) → Q (.inl (some (.int (nI x.1)))) I2 L P S) (kf : ∀ I2, lieO W p h o = none → (∀ b, b ≠ a → I2 b = I b) → Q (.inl (some (.int (-1)))) I2 L P S) : Zm G mX1_alone 2 C Sl [.ref 100, .ref (ph p), .int (nI o), .int (nI h), .ref a] I L P S Q := by
  have hx := e.x
  have hO := e.wd
  have hR := e.wr
  have hT := e.st
  have hPc := e.pc
  have hw := e.hw
  have hf := e.hx
  have hb := e.b
  have hn := e.nn
  have n8 := hw.n8
  have h6 := hw.o6
  have hn8 := hw.n8
  have n8 := hw.n8
  have h6 := hw.o6
  obtain ⟨b, hb9⟩ : ∃ b, h + b = 2399 := ⟨2399 - h, by omega⟩
  have eb : 2399 - h = b := by omega
  refine Z_entry (lv := [_, _, _, _, _, _, _, _, _, _]) (Nat.le_of_ble_eq_true rfl) rfl ?_
  refine Z_aload_n dX1_alone_0 rfl ?_
  refine Z_getI (hPc p hp).2.1 fX1_331_6 dX1_alone_1 rfl ?_
  refine Z_re (hPc p hp).2.2.1.2.1 ?_
  refine Z_istore (lv' := [_, _, _, _, _, _, _, _, _, _]) dX1_alone_4 rfl rfl (Nat.le_of_ble_eq_true rfl) ?_
  refine Z_iconst (nI 0) dX1_alone_6 rfl ?_
  refine Z_istore (lv' := [_, _, _, _, _, _, _, _, _, _]) dX1_alone_7 rfl rfl (Nat.le_of_ble_eq_true rfl) ?_
  refine Z_iconst (nI 0) dX1_alone_9 rfl ?_
  refine Z_istore (lv' := [_, _, _, _, _, _, _, _, _, _]) dX1_alone_10 rfl rfl (Nat.le_of_ble_eq_true rfl) ?_
  refine Z_iload_n dX1_alone_12 rfl ?_
  refine Z_istore (lv' := [_, _, _, _, _, _, _, _, _, _]) dX1_alone_13 rfl rfl (Nat.le_of_ble_eq_true rfl) ?_
  have lp15 : ∀ i, i ≤ b → ∀ I2 l s w k, (∀ b, b ≠ a → I2 b = I b) → I2 a 0 = nI k → lieN W p o (b - i) (h + i) l (nI s) w k = lieO W p h o → (W 21 p ≠ -1 → ∃ e9, s < e9 ∧ e9 ≤ 60 ∧ W 22 p = nI e9) → (w = true → ∃ a, a < no ∧ W 21 p = nI a) → Zj G mX1_alone 2 C Sl 15 [.ref 100, .ref (ph p), .int (nI o), .int (nI h), .ref a, .int l, .int (nI s), .int (nI (bI w)), .int (nI (h + i)), .retAddr 0] [] I2 L P S Q := by
    refine zloop (b) (fun i => ∀ I2 l s w k, (∀ b, b ≠ a → I2 b = I b) → I2 a 0 = nI k → lieN W p o (b - i) (h + i) l (nI s) w k = lieO W p h o → (W 21 p ≠ -1 → ∃ e9, s < e9 ∧ e9 ≤ 60 ∧ W 22 p = nI e9) → (w = true → ∃ a, a < no ∧ W 21 p = nI a) → Zj G mX1_alone 2 C Sl 15 [.ref 100, .ref (ph p), .int (nI o), .int (nI h), .ref a, .int l, .int (nI s), .int (nI (bI w)), .int (nI (h + i)), .retAddr 0] [] I2 L P S Q) (fun i hi ih => ?_)
    intro I2 l s w k g1 g2 g3 hse hwt
    show Zj _ _ _ _ _ _ _ _ _ _ _ _ _
    have e2x := e.hi h1 h2 (I2 := I2) (fun b hb => g1 b (by omega))
    have hR := e2x.wr
    have hPc := e2x.pc
    have bw := bI_lt w
    refine Z_iload dX1_alone_15 rfl ?_
    refine Z_sipush (nI 2399) dX1_alone_17 rfl ?_
    refine Z_icmpgeN 143 dX1_alone_20 rfl (by omega) (by omega) (fun c20 => ?_) (fun c20 => ?_)
    · rw [show b - i = 0 by omega] at g3
      refine Z_iconst (-1) dX1_alone_143 rfl ?_
      refine Z_ireturn dX1_alone_144 rfl rfl ?_
      exact kf I2 (g3.symm.trans rfl) g1
    · have hi2 : b - i = (b - (i + 1)) + 1 := by omega
      refine Z_aload_n dX1_alone_23 rfl ?_
      refine Z_getR (r := 200) hx.1 fX1_52_0 dX1_alone_24 rfl hx.2.2.2.1.1 ?_
      refine Z_getR (r := (200 + 1)) hO.1 fX1_127_1 dX1_alone_27 rfl hO.2.1.2 ?_
      refine Z_iload_n dX1_alone_30 rfl ?_
      refine Z_aald (r := (oh o)) hO.2.1.1 (by simp [zTys]) rfl (zix_nI (by first | omega | (dsimp only; omega)) (by decide)) (hR.2.2 o (by omega)).1 dX1_alone_31 ?_
      refine Z_iload dX1_alone_32 rfl ?_
      refine Z_call0 (d' := 1) (zCal_V gX1_178 nX6_isOpen (by decide) dX1_alone_34) pX6_isOpen (hR.2.2 o (by omega)).2.1.1 zkl5 [_] rfl rfl (Nat.le_of_ble_eq_true rfl) (by omega) (c_X6_isOpen (hR.2.2 o (by omega)).2.1 (hR.2.2 o (by omega)).2.2 (fun h34 => ?_) (fun h34 => ?_))
      · refine Z_istore (lv' := [_, _, _, _, _, _, _, _, _, _]) dX1_alone_37 rfl rfl (Nat.le_of_ble_eq_true rfl) ?_
        refine Z_iload dX1_alone_39 rfl ?_
        refine Z_ifeqN 87 dX1_alone_41 rfl (by omega) (fun c41 => ?_) (fun c41 => ?_)
        · obtain rfl := bI_0.mp c41
          refine Z_iload dX1_alone_87 rfl ?_
          refine Z_ifne 95 dX1_alone_89 rfl (fun _ => ?_) (fun h => absurd h (by decide))
          refine Z_iinc (lv' := [_, _, _, _, _, _, _, _, _, _]) dX1_alone_95 rfl rfl rfl ?_
          refine Z_iincN (a := _) (k := 1) (lv' := [_, _, _, _, _, _, _, _, _, _]) dX1_alone_98 rfl rfl rfl rfl ?_
          rw [show Int32.ofInt (-1) = -1 from rfl]
          refine Z_iload dX1_alone_101 rfl ?_
          refine Z_ifne 111 dX1_alone_103 rfl (fun c103 => ?_) (fun c103 => ?_)
          · refine Z_aload_n dX1_alone_111 rfl ?_
            refine Z_getI (hPc p hp).2.1 fX1_334_6 dX1_alone_112 rfl ?_
            refine Z_re (y := W 21 p) (((hPc p hp).2.2.2.1).trans (by unfold askd; rw [if_pos h37])) ?_
            refine Z_iconst (-1) dX1_alone_115 rfl ?_
            refine Z_icmpeq 137 dX1_alone_116 rfl (fun c116 => ?_) (fun c116 => ?_)
            · refine Z_iincN (a := _) (k := 1) (lv' := [_, _, _, _, _, _, _, _, _, _]) dX1_alone_137 rfl rfl rfl rfl ?_
              refine Z_goto 15 dX1_alone_140 rfl ?_
              rw [hi2, lieN] at g3
              rw [if_neg (by decide)] at g3
              rw [if_pos (by rw [h34, hc]; rfl), if_neg c103] at g3
              rw [nI_add] at g3
              rw [if_pos (by rw [c116]; decide)] at g3
              exact Z_fgt (ih (by omega) _ _ (s + 1) false k g1 g2 g3 (fun q => absurd c116 q) (fun q => absurd q (by decide))) (by repeat first | exact zwk_n | refine zwk_f ?_ | refine zwk_c rfl ?_)
            · refine Z_iload dX1_alone_119 rfl ?_
              refine Z_aload_n dX1_alone_121 rfl ?_
              refine Z_getI (hPc p hp).2.1 fX1_337_6 dX1_alone_122 rfl ?_
              obtain ⟨e9, hs9, he60, he9⟩ := hse c116
              refine Z_re (y := nI e9) ((hPc p hp).2.2.2.2.1.trans he9) ?_
              refine Z_icmpgeN 131 dX1_alone_125 rfl (by omega) (by omega) (fun c125 => ?_) (fun c125 => ?_)
              · refine Z_iconst (nI 1) dX1_alone_131 rfl ?_
                refine Z_istore (lv' := [_, _, _, _, _, _, _, _, _, _]) dX1_alone_132 rfl rfl (Nat.le_of_ble_eq_true rfl) ?_
                refine Z_iconst (nI 0) dX1_alone_134 rfl ?_
                refine Z_istore (lv' := [_, _, _, _, _, _, _, _, _, _]) dX1_alone_135 rfl rfl (Nat.le_of_ble_eq_true rfl) ?_
                refine Z_iincN (a := _) (k := 1) (lv' := [_, _, _, _, _, _, _, _, _, _]) dX1_alone_137 rfl rfl rfl rfl ?_
                refine Z_goto 15 dX1_alone_140 rfl ?_
                rw [hi2, lieN] at g3
                rw [if_neg (by decide)] at g3
                rw [if_pos (by rw [h34, hc]; rfl), if_neg c103] at g3
                rw [nI_add] at g3
                rw [if_neg (fun q => by obtain ⟨a9, ha9, e9⟩ := (hw.asks hp).resolve_left c116; rw [e9] at q; exact nI_pos (by omega) q)] at g3
                rw [he9, if_pos (congrArg nI (show s + 1 = e9 by omega))] at g3
                exact Z_fgt (ih (by omega) _ _ 0 true k g1 g2 g3 (fun _ => ⟨e9, by omega, he60, he9⟩) (fun _ => (hw.asks hp).resolve_left c116)) (by repeat first | exact zwk_n | refine zwk_f ?_ | refine zwk_c rfl ?_)
              · refine Z_goto 137 dX1_alone_128 rfl ?_
                refine Z_iincN (a := _) (k := 1) (lv' := [_, _, _, _, _, _, _, _, _, _]) dX1_alone_137 rfl rfl rfl rfl ?_
                refine Z_goto 15 dX1_alone_140 rfl ?_
                rw [hi2, lieN] at g3
                rw [if_neg (by decide)] at g3
                rw [if_pos (by rw [h34, hc]; rfl), if_neg c103] at g3
                rw [nI_add] at g3
                rw [if_neg (fun q => by obtain ⟨a9, ha9, e9⟩ := (hw.asks hp).resolve_left c116; rw [e9] at q; exact nI_pos (by omega) q)] at g3
                rw [he9, if_neg (fun q => by have := (nI_eq (by omega) (by omega)).mp q; omega)] at g3
                exact Z_fgt (ih (by omega) _ _ (s + 1) false k g1 g2 g3 (fun _ => ⟨e9, by omega, he60, he9⟩) (fun q => absurd q (by decide))) (by repeat first | exact zwk_n | refine zwk_f ?_ | refine zwk_c rfl ?_)
          · refine Z_iload dX1_alone_106 rfl ?_
            refine Z_iconst (nI 1) dX1_alone_108 rfl ?_
            refine Z_iaddN dX1_alone_109 ?_
            refine Z_ireturn dX1_alone_110 rfl rfl ?_
            rw [hi2, lieN, if_neg (by decide), if_pos (by rw [h34, hc]; rfl), if_pos c103] at g3
            exact kt I2 (h + i + 1, k) g3.symm g2 g1
        · obtain rfl := bI_1.mp c41
          obtain ⟨a9, ha9, hv9⟩ := hwt rfl
          have e2 : (W 21 p).toNatClampNeg = a9 := by rw [hv9, nI_clamp (by omega)]
          refine Z_aload dX1_alone_44 rfl ?_
          refine Z_iconst (nI 0) dX1_alone_46 rfl ?_
          refine Z_dup2_11 dX1_alone_47 rfl rfl ?_
          refine Z_iald hS (zix_nI (by first | omega | (dsimp only; omega)) (by decide)) dX1_alone_48 ?_
          refine Z_re (y := nI (k)) g2 ?_
          refine Z_iconst (nI 1) dX1_alone_49 rfl ?_
          refine Z_iaddN dX1_alone_50 ?_
          refine Z_iast hS (zix_nI (by first | omega | (dsimp only; omega)) (by decide)) dX1_alone_51 ?_
          have e3x := e.hi h1 h2 (I2 := zw I2 a 0 (nI (k + 1))) (fun b hb => (zw_n _ _ _ _ (by omega)).trans (g1 b (by omega)))
          have hR := e3x.wr
          have hPc := e3x.pc
          have A3 : zw I2 a 0 (nI (k + 1)) (ph p) 3 = W 21 p := ((hPc p hp).2.2.2.1).trans (by unfold askd; rw [if_pos h37])
          refine Z_iload dX1_alone_52 rfl ?_
          refine Z_ifeq 77 dX1_alone_54 rfl (fun h => absurd h (by decide)) (fun _ => ?_)
          refine Z_aload_n dX1_alone_57 rfl ?_
          refine Z_getR (r := 200) hx.1 fX1_52_0 dX1_alone_58 rfl hx.2.2.2.1.1 ?_
          refine Z_getR (r := (200 + 1)) hO.1 fX1_127_1 dX1_alone_61 rfl hO.2.1.2 ?_
          refine Z_aload_n dX1_alone_64 rfl ?_
          refine Z_getI (hPc p hp).2.1 fX1_334_6 dX1_alone_65 rfl ?_
          refine Z_re (y := nI (a9)) (A3.trans hv9) ?_
          refine Z_aald (r := (oh a9)) hO.2.1.1 (by simp [zTys]) rfl (zix_nI (by first | omega | (dsimp only; omega)) (by decide)) (hR.2.2 a9 (by omega)).1 dX1_alone_68 ?_
          refine Z_iload dX1_alone_69 rfl ?_
          refine Z_call0 (d' := 1) (zCal_V gX1_178 nX6_isOpen (by decide) dX1_alone_71) pX6_isOpen (hR.2.2 a9 (by omega)).2.1.1 zkl5 [_] rfl rfl (Nat.le_of_ble_eq_true rfl) (by omega) (c_X6_isOpen (hR.2.2 a9 (by omega)).2.1 (hR.2.2 a9 (by omega)).2.2 (fun h71 => ?_) (fun h71 => ?_))
          · refine Z_ifne 81 dX1_alone_74 rfl (fun _ => ?_) (fun h => absurd h (by decide))
            refine Z_iconst (nI 0) dX1_alone_81 rfl ?_
            refine Z_istore (lv' := [_, _, _, _, _, _, _, _, _, _]) dX1_alone_82 rfl rfl (Nat.le_of_ble_eq_true rfl) ?_
            refine Z_goto 137 dX1_alone_84 rfl ?_
            refine Z_iincN (a := _) (k := 1) (lv' := [_, _, _, _, _, _, _, _, _, _]) dX1_alone_137 rfl rfl rfl rfl ?_
            refine Z_goto 15 dX1_alone_140 rfl ?_
            rw [hi2, lieN] at g3
            rw [if_pos rfl, show (!(opn W o (h + i) && opn W (W 21 p).toNatClampNeg (h + i))) = false from by simp [e2, h34, h71]] at g3
            exact Z_fgt (ih (by omega) _ l s false (k + 1) (fun b hb => (zw_n _ _ _ _ hb).trans (g1 b hb)) (zw_s _ _ _ _) g3 hse (fun _ => ⟨a9, ha9, hv9⟩)) (by repeat first | exact zwk_n | refine zwk_f ?_ | refine zwk_c rfl ?_)
          · refine Z_ifne 81 dX1_alone_74 rfl (fun h => absurd h (by decide)) (fun _ => ?_)
            refine Z_iconst (nI 1) dX1_alone_77 rfl ?_
            refine Z_goto 82 dX1_alone_78 rfl ?_
            refine Z_istore (lv' := [_, _, _, _, _, _, _, _, _, _]) dX1_alone_82 rfl rfl (Nat.le_of_ble_eq_true rfl) ?_
            refine Z_goto 137 dX1_alone_84 rfl ?_
            refine Z_iincN (a := _) (k := 1) (lv' := [_, _, _, _, _, _, _, _, _, _]) dX1_alone_137 rfl rfl rfl rfl ?_
            refine Z_goto 15 dX1_alone_140 rfl ?_
            rw [hi2, lieN] at g3
            rw [if_pos rfl, show (!(opn W o (h + i) && opn W (W 21 p).toNatClampNeg (h + i))) = true from by simp [e2, h34, h71]] at g3
            exact Z_fgt (ih (by omega) _ l s true (k + 1) (fun b hb => (zw_n _ _ _ _ hb).trans (g1 b hb)) (zw_s _ _ _ _) g3 hse (fun _ => ⟨a9, ha9, hv9⟩)) (by repeat first | exact zwk_n | refine zwk_f ?_ | refine zwk_c rfl ?_)
      · refine Z_istore (lv' := [_, _, _, _, _, _, _, _, _, _]) dX1_alone_37 rfl rfl (Nat.le_of_ble_eq_true rfl) ?_
        refine Z_iload dX1_alone_39 rfl ?_
        refine Z_ifeqN 87 dX1_alone_41 rfl (by omega) (fun c41 => ?_) (fun c41 => ?_)
        · obtain rfl := bI_0.mp c41
          refine Z_iload dX1_alone_87 rfl ?_
          refine Z_ifne 95 dX1_alone_89 rfl (fun h => absurd h (by decide)) (fun _ => ?_)
          refine Z_goto 137 dX1_alone_92 rfl ?_
          refine Z_iincN (a := _) (k := 1) (lv' := [_, _, _, _, _, _, _, _, _, _]) dX1_alone_137 rfl rfl rfl rfl ?_
          refine Z_goto 15 dX1_alone_140 rfl ?_
          rw [hi2, lieN] at g3
          rw [if_neg (by decide)] at g3
          rw [if_neg (by simp [h34])] at g3
          exact Z_fgt (ih (by omega) _ l s false k g1 g2 g3 hse (fun q => absurd q (by decide))) (by repeat first | exact zwk_n | refine zwk_f ?_ | refine zwk_c rfl ?_)
        · obtain rfl := bI_1.mp c41
          obtain ⟨a9, ha9, hv9⟩ := hwt rfl
          have e2 : (W 21 p).toNatClampNeg = a9 := by rw [hv9, nI_clamp (by omega)]
          refine Z_aload dX1_alone_44 rfl ?_
          refine Z_iconst (nI 0) dX1_alone_46 rfl ?_
          refine Z_dup2_11 dX1_alone_47 rfl rfl ?_
          refine Z_iald hS (zix_nI (by first | omega | (dsimp only; omega)) (by decide)) dX1_alone_48 ?_
          refine Z_re (y := nI (k)) g2 ?_
          refine Z_iconst (nI 1) dX1_alone_49 rfl ?_
          refine Z_iaddN dX1_alone_50 ?_
          refine Z_iast hS (zix_nI (by first | omega | (dsimp only; omega)) (by decide)) dX1_alone_51 ?_
          have e3x := e.hi h1 h2 (I2 := zw I2 a 0 (nI (k + 1))) (fun b hb => (zw_n _ _ _ _ (by omega)).trans (g1 b (by omega)))
          have hR := e3x.wr
          have hPc := e3x.pc
          have A3 : zw I2 a 0 (nI (k + 1)) (ph p) 3 = W 21 p := ((hPc p hp).2.2.2.1).trans (by unfold askd; rw [if_pos h37])
          refine Z_iload dX1_alone_52 rfl ?_
          refine Z_ifeq 77 dX1_alone_54 rfl (fun _ => ?_) (fun h => absurd h (by decide))
          refine Z_iconst (nI 1) dX1_alone_77 rfl ?_
          refine Z_goto 82 dX1_alone_78 rfl ?_
          refine Z_istore (lv' := [_, _, _, _, _, _, _, _, _, _]) dX1_alone_82 rfl rfl (Nat.le_of_ble_eq_true rfl) ?_
          refine Z_goto 137 dX1_alone_84 rfl ?_
          refine Z_iincN (a := _) (k := 1) (lv' := [_, _, _, _, _, _, _, _, _, _]) dX1_alone_137 rfl rfl rfl rfl ?_
          refine Z_goto 15 dX1_alone_140 rfl ?_
          rw [hi2, lieN] at g3
          rw [if_pos rfl, show (!(opn W o (h + i) && opn W (W 21 p).toNatClampNeg (h + i))) = true from by simp [e2, h34]] at g3
          exact Z_fgt (ih (by omega) _ l s true (k + 1) (fun b hb => (zw_n _ _ _ _ hb).trans (g1 b hb)) (zw_s _ _ _ _) g3 hse (fun _ => ⟨a9, ha9, hv9⟩)) (by repeat first | exact zwk_n | refine zwk_f ?_ | refine zwk_c rfl ?_)
  exact lp15 0 (by omega) _ _ 0 false 0 (fun _ _ => rfl) h0 (by rw [lieO, eb]; rfl) (fun _ => by obtain ⟨-, -, ⟨e9, q1, q2, q3⟩, -⟩ := hf p hp; exact ⟨e9, by omega, q2, q3⟩) (fun q => absurd q (by decide))
set_option maxHeartbeats 4000000 in
theorem o_xlie (hX : xR D R no n np ro oh ph I L P S) (h37 : D 0 37 = 0) {x h : Int32} (k : ∀ I2 L2 P2 S2, xR (fLie D R no x h).2.1 (fLie D R no x h).2.2 no n np ro oh ph I2 L2 P2 S2 → frX I L P S I2 L2 P2 S2 → Q (.inl (some (.int (fLie D R no x h).1))) I2 L2 P2 S2) : Zm G mX1_lie 3 (C + 6) (Sl + 6) [.ref 100, .int x, .int h] I L P S Q := by
  obtain ⟨e, ⟨g, hro⟩, ⟨⟨h29, h50⟩, hrw⟩, ⟨htx, hpr, hkp⟩, htl, hoh, hph⟩ := hX
  have hX : xR D R no n np ro oh ph I L P S := ⟨e, ⟨g, hro⟩, ⟨⟨h29, h50⟩, hrw⟩, ⟨htx, hpr, hkp⟩, htl, hoh, hph⟩
  have hx := e.x
  have hO := e.wd
  have hR := e.wr
  have hT := e.st
  have hPc := e.pc
  have hw := e.hw
  have hf := e.hx
  have hb := e.b
  have hn := e.nn
  have n8 := hw.n8
  have h6 := hw.o6
  have hn8 := hw.n8
  have hno : noD D = no := by rw [noD, show D 0 3 = nI no from hw.o3, nI_clamp (by omega)]
  have hnn : nD D = n := by rw [nD, show D 0 16 = nI n from hw.n16, nI_clamp (by omega)]
  obtain ⟨-, -, -, -, ⟨-, -, hN⟩, -⟩ := id hX
  have hM := hR.1
  refine Z_entry (lv := [_, _, _, _, _, _, _, _, _]) (Nat.le_of_ble_eq_true rfl) rfl ?_
  refine Z_aload_n dX1_lie_0 rfl ?_
  refine Z_iload_n dX1_lie_1 rfl ?_
  refine Z_call0 (d' := 1) (zCal_V gX1_212 nX1_isPiece (by decide) dX1_lie_2) pX1_isPiece hx.1 zkl0 [_] rfl rfl (Nat.le_of_ble_eq_true rfl) (by omega) (c_X1_isPiece hx hn hn8 (fun k2 hk2 e2 => ?_) (fun h2 => ?_))
  · subst e2
    have r2 : pB D (nI k2) = true := rB_t (by rw [z_ti (by omega)]; omega) (by rw [z_ti (by omega), hnn]; omega)
    have v2 : (nI k2).toNatClampNeg = k2 := nI_clamp (by omega)
    refine Z_ifeq 15 dX1_lie_5 rfl (fun h => absurd h (by decide)) (fun _ => ?_)
    refine Z_iload_n dX1_lie_8 rfl ?_
    refine Z_callS0 (d' := 1) (zCal_S gX1_124 nX1_isHour (by decide) dX1_lie_9) pX1_isHour [_] rfl rfl (Nat.le_of_ble_eq_true rfl) (by omega) (c_X1_isHour (fun h9a h9b => ?_) (fun h9 => ?_))
    · have r9 : rB h 0 2399 = true := rB_t h9a h9b
      obtain ⟨k9, hk9, e9⟩ := z_rng (n := 2399) h9a h9b (by omega)
      subst e9
      have v9 : (nI k9).toNatClampNeg = k9 := nI_clamp (by omega)
      refine Z_ifne 17 dX1_lie_12 rfl (fun _ => ?_) (fun h => absurd h (by decide))
      refine Z_bipush (-2) dX1_lie_17 rfl ?_
      refine Z_istore_n (lv' := [_, _, _, _, _, _, _, _, _]) dX1_lie_19 rfl rfl (Nat.le_of_ble_eq_true rfl) ?_
      refine Z_iconst (nI 0) dX1_lie_20 rfl ?_
      refine Z_istore (lv' := [_, _, _, _, _, _, _, _, _]) dX1_lie_21 rfl rfl (Nat.le_of_ble_eq_true rfl) ?_
      refine Z_iconst (nI 0) dX1_lie_23 rfl ?_
      refine Z_istore (lv' := [_, _, _, _, _, _, _, _, _]) dX1_lie_24 rfl rfl (Nat.le_of_ble_eq_true rfl) ?_
      refine Z_iconst (nI 0) dX1_lie_26 rfl ?_
      refine Z_istore (lv' := [_, _, _, _, _, _, _, _, _]) dX1_lie_27 rfl rfl (Nat.le_of_ble_eq_true rfl) ?_
      have lp29 : ∀ i, i ≤ no → ∀ I2 L2 P2 S2, fX I L P S I2 L2 P2 S2 → I2 100 = I 100 → L2 302 = L 302 → Zj G mX1_lie 3 (C + (no - i)) (Sl + (no - i)) 29 [.ref 100, .int (nI k2), .int (nI k9), .int (xlB (minF (fun o => (lieO (wld D) k2 k9 o).map (·.1)) i)), .int (xlS (minF (fun o => (lieO (wld D) k2 k9 o).map (·.1)) i)), .int (xlW (wld D) k2 k9 (minF (fun o => (lieO (wld D) k2 k9 o).map (·.1)) i)), .int (nI i), .retAddr 0, .retAddr 0] [] I2 L2 P2 S2 Q := by
        refine zloop (no) (fun i => ∀ I2 L2 P2 S2, fX I L P S I2 L2 P2 S2 → I2 100 = I 100 → L2 302 = L 302 → Zj G mX1_lie 3 (C + (no - i)) (Sl + (no - i)) 29 [.ref 100, .int (nI k2), .int (nI k9), .int (xlB (minF (fun o => (lieO (wld D) k2 k9 o).map (·.1)) i)), .int (xlS (minF (fun o => (lieO (wld D) k2 k9 o).map (·.1)) i)), .int (xlW (wld D) k2 k9 (minF (fun o => (lieO (wld D) k2 k9 o).map (·.1)) i)), .int (nI i), .retAddr 0, .retAddr 0] [] I2 L2 P2 S2 Q) (fun i hi ih => ?_)
        intro I2 L2 P2 S2 fF e100 e302
        show Zj _ _ _ _ _ _ _ _ _ _ _ _ _
        have r1 : rwX I2 L2 R := hrw.fX (by rw [e100]) e302
        have hX1 := hX.go fF r1
        have hx := hX1.1.x
        have hO := hX1.1.wd
        have hR := hX1.1.wr
        have hPc := hX1.1.pc
        refine Z_iload dX1_lie_29 rfl ?_
        refine Z_aload_n dX1_lie_31 rfl ?_
        refine Z_getR (r := 200) hx.1 fX1_52_0 dX1_lie_32 rfl hx.2.2.2.1.1 ?_
        refine Z_getI hO.1 fX1_19_1 dX1_lie_35 rfl ?_
        refine Z_re (y := nI (no)) hR.1.1 ?_
        refine Z_icmpgeN 126 dX1_lie_38 rfl (by omega) (by omega) (fun c38 => ?_) (fun c38 => ?_)
        · have ei : i = no := by omega
          obtain ⟨m0, hm⟩ : ∃ m0, minF (fun o => (lieO (wld D) k2 k9 o).map (·.1)) i = m0 := ⟨_, rfl⟩
          rw [hm]
          rcases m0 with _ | b
          · dsimp only [xlB, xlS, xlW]
            refine Z_iload_n dX1_lie_126 rfl ?_
            refine Z_ifge 133 dX1_lie_127 rfl (fun c127 => ?_) (fun c127 => ?_)
            · exact absurd c127 (by decide)
            · refine Z_bipush (-2) dX1_lie_130 rfl ?_
              refine Z_ireturn dX1_lie_132 rfl rfl ?_
              rw [ei] at hm
              exact xO_k (D2 := D) (R2 := R) (by simp [fLie, r2, r9, v2, v9, hm]) k (hX.go fF r1) fF.frX
          · dsimp only [xlB, xlS, xlW]
            have hb1 := minF_mem _ _ hm
            obtain ⟨y, hy, hy2⟩ := Option.map_eq_some_iff.mp hb1.2
            have hb2 := lieN_b _ _ _ _ _ _ _ hy
            refine Z_iload_n dX1_lie_126 rfl ?_
            refine Z_ifgeN 133 dX1_lie_127 rfl (by omega) ?_
            refine Z_aload_n dX1_lie_133 rfl ?_
            refine Z_iconst (nI 0) dX1_lie_134 rfl ?_
            refine Z_putI hx.1 fX1_94_0 dX1_lie_135 rfl rfl rfl ?_
            refine Z_aload_n dX1_lie_138 rfl ?_
            refine Z_iload dX1_lie_139 rfl ?_
            refine Z_i2l dX1_lie_141 ?_
            refine Z_call0 (d' := 0) (zCal_V gX1_101 nX1_tell (by decide) dX1_lie_142) pX1_tell hx.1 zkl0 [_] rfl rfl (Nat.le_of_ble_eq_true rfl) (by omega) (c_X1_tell hx (rwX.z (I := I2) (L := L2)) (by decide) (fun J1 M1 u1 v1 => ?_))
            refine Z_aload_n dX1_lie_145 rfl ?_
            refine Z_iload dX1_lie_146 rfl ?_
            refine Z_i2l dX1_lie_148 ?_
            refine Z_call0 (d' := 0) (zCal_V gX1_101 nX1_tell (by decide) dX1_lie_149) pX1_tell hx.1 zkl0 [_] rfl rfl (Nat.le_of_ble_eq_true rfl) (by omega) (c_X1_tell hx u1 (by simp) (fun J2 M2 u2 v2b => ?_))
            refine Z_iload_n dX1_lie_152 rfl ?_
            refine Z_ireturn dX1_lie_153 rfl rfl ?_
            rw [ei] at hm
            exact xO_k (D2 := D) (R2 := _) (by simp [fLie, r2, r9, v2, v9, hm]) k (hX.go (fF.fR ((fR.rf.z.tr v1).tr v2b)) u2) (fF.fR ((fR.rf.z.tr v1).tr v2b)).frX
        · refine Z_aload_n dX1_lie_41 rfl ?_
          refine Z_getR (r := 200) hx.1 fX1_52_0 dX1_lie_42 rfl hx.2.2.2.1.1 ?_
          refine Z_iload dX1_lie_45 rfl ?_
          refine Z_aload_n dX1_lie_47 rfl ?_
          refine Z_getR (r := 110) hx.1 fX1_47_0 dX1_lie_48 rfl (hx.2.2.1 0 _ rfl).2 ?_
          refine Z_iload_n dX1_lie_51 rfl ?_
          refine Z_aald (r := (ph k2)) (hx.2.2.1 0 _ rfl).1 (by simp [zTys]) rfl (zix_nI (by first | omega | (dsimp only; omega)) (by decide)) (hPc k2 hk2).1 dX1_lie_52 ?_
          refine Z_getI (hPc k2 (by omega)).2.1 fX1_290_6 dX1_lie_53 rfl ?_
          refine Z_re (hPc k2 hk2).2.2.1.1 ?_
          refine Z_call0 (d' := 1) (zCal_V gX1_188 nX2_hasCraft (by decide) dX1_lie_56) pX2_hasCraft hO.1 zkl1 [_, _] rfl rfl (Nat.le_of_ble_eq_true rfl) (by omega) (c_X2_hasCraft hO hR h6 (o := i) (by omega) (fun h56 => ?_) (fun h56n => ?_))
          · refine Z_ifne 65 dX1_lie_59 rfl (fun _ => ?_) (fun h => absurd h (by decide))
            refine Zj.less (C := C + (no - (i + 1)) + 1) (Sl := Sl + (no - (i + 1)) + 1) ?_ (Nat.le_refl _) (by omega) (by omega)
            obtain ⟨-, -, -, -, ⟨-, -, N1, hN1, hN2⟩, -⟩ := id hX1
            have F3 := fF.nw (f := fun _ => 0) (f2 := fun _ => 0) (f3 := fun _ => none) (x := .inr (.int, 1)) hN1 (hN2 N1 (Nat.le_refl _))
            refine Z_iconst (nI 1) dX1_lie_65 rfl ?_
            refine Z_newa (N := 1) N1 (hN2 N1 (Nat.le_refl _)) .int (by simp [zTys, newarray.typeOf]) rfl q165 (by decide) (by decide) (by decide) dX1_lie_66 ?_
            refine Z_astore (lv' := [_, _, _, _, _, _, _, _, _]) dX1_lie_68 rfl rfl (Nat.le_of_ble_eq_true rfl) ?_
            have hX3 := hX.go F3 (hrw.fX (by rw [zu_n _ _ _ (by omega), e100]) (by rw [zu_n _ _ _ (by omega), e302]))
            have hx := hX3.1.x
            have hPc := hX3.1.pc
            refine Z_aload_n dX1_lie_70 rfl ?_
            refine Z_aload_n dX1_lie_71 rfl ?_
            refine Z_getR (r := 110) hx.1 fX1_47_0 dX1_lie_72 rfl (hx.2.2.1 0 _ rfl).2 ?_
            refine Z_iload_n dX1_lie_75 rfl ?_
            refine Z_aald (r := (ph k2)) (hx.2.2.1 0 _ rfl).1 (by simp [zTys]) rfl (zix_nI (by first | omega | (dsimp only; omega)) (by decide)) (hPc k2 hk2).1 dX1_lie_76 ?_
            refine Z_iload dX1_lie_77 rfl ?_
            refine Z_iload_n dX1_lie_79 rfl ?_
            refine Z_aload dX1_lie_80 rfl ?_
            refine Z_call0 (d' := 2) (zCal_V gX1_327 nX1_alone (by decide) dX1_lie_82) pX1_alone hx.1 zkl0 [_, _, _, _] rfl rfl (Nat.le_of_ble_eq_true rfl) (by omega) (c_X1_alone hX3.1 h37 (fun o ho => by rw [hoh]; omega) (fun p hp => by rw [hph]; omega) hN1 (zu_s _ _ _) (by rw [zu_s]; rfl) hk2 (by omega) h56 (by omega) (fun I4 x9 hx9 x47 gx => ?_) (fun I4 hxn gx => ?_))
            · have hbx := lieN_b _ _ _ _ _ _ _ hx9
              have e4 : I4 = zu I2 N1 (I4 N1) := by
                funext b
                by_cases eb : b = N1
                · subst eb; rw [zu_s]
                · rw [zu_n _ _ _ eb]; exact (gx b eb).trans (zu_n _ _ _ eb)
              have F4 := fF.nw (f := I4 N1) (f2 := fun _ => 0) (f3 := fun _ => none) (x := .inr (.int, 1)) hN1 (hN2 N1 (Nat.le_refl _))
              rw [← e4] at F4
              refine Z_istore (lv' := [_, _, _, _, _, _, _, _, _]) dX1_lie_85 rfl rfl (Nat.le_of_ble_eq_true rfl) ?_
              refine Z_iload dX1_lie_87 rfl ?_
              refine Z_iconst (-1) dX1_lie_89 rfl ?_
              refine Z_icmpeq 120 dX1_lie_90 rfl (fun c90 => ?_) (fun c90 => ?_)
              · exact absurd c90 (nI_m1 (by omega))
              · obtain ⟨m0, hm⟩ : ∃ m0, minF (fun o => (lieO (wld D) k2 k9 o).map (·.1)) i = m0 := ⟨_, rfl⟩
                rw [hm]
                rcases m0 with _ | b
                · dsimp only [xlB, xlS, xlW]
                  refine Z_iload_n dX1_lie_93 rfl ?_
                  refine Z_iflt 107 dX1_lie_94 rfl (fun c94 => ?_) (fun c94 => ?_)
                  · refine Z_iload dX1_lie_107 rfl ?_
                    refine Z_istore_n (lv' := [_, _, _, _, _, _, _, _, _]) dX1_lie_109 rfl rfl (Nat.le_of_ble_eq_true rfl) ?_
                    refine Z_iload dX1_lie_110 rfl ?_
                    refine Z_istore (lv' := [_, _, _, _, _, _, _, _, _]) dX1_lie_112 rfl rfl (Nat.le_of_ble_eq_true rfl) ?_
                    refine Z_aload dX1_lie_114 rfl ?_
                    refine Z_iconst (nI 0) dX1_lie_116 rfl ?_
                    refine Z_iald (zu_s _ _ _) (zix_nI (by first | omega | (dsimp only; omega)) (by decide)) dX1_lie_117 ?_
                    refine Z_re (y := nI (x9.2)) x47 ?_
                    refine Z_istore (lv' := [_, _, _, _, _, _, _, _, _]) dX1_lie_118 rfl rfl (Nat.le_of_ble_eq_true rfl) ?_
                    refine Z_iincN (a := _) (k := 1) (lv' := [_, _, _, _, _, _, _, _, _]) dX1_lie_120 rfl rfl rfl rfl ?_
                    refine Z_goto 29 dX1_lie_123 rfl ?_
                    have e : minF (fun o => (lieO (wld D) k2 k9 o).map (·.1)) (i + 1) = some (i, x9.1) := by simp [minF, hx9, hm]
                    have ih2 := ih (by omega) _ _ _ _ F4 ((gx 100 (by omega)).trans ((zu_n _ _ _ (by omega)).trans e100)) ((zu_n _ _ _ (by omega)).trans e302)
                    rw [e] at ih2
                    rw [show xlW (wld D) k2 k9 (some (i, x9.1)) = nI x9.2 from by simp [xlW, hx9]] at ih2
                    exact Z_fgt ih2 (by repeat first | exact zwk_n | refine zwk_f ?_ | refine zwk_c rfl ?_)
                  · exact absurd (by decide) c94
                · dsimp only [xlB, xlS, xlW]
                  have hb1 := minF_mem _ _ hm
                  obtain ⟨y, hy, hy2⟩ := Option.map_eq_some_iff.mp hb1.2
                  have hb2 := lieN_b _ _ _ _ _ _ _ hy
                  refine Z_iload_n dX1_lie_93 rfl ?_
                  refine Z_ifltN 107 dX1_lie_94 rfl (by omega) ?_
                  refine Z_iload dX1_lie_97 rfl ?_
                  refine Z_iload dX1_lie_99 rfl ?_
                  refine Z_icmpltN 107 dX1_lie_101 rfl (by omega) (by omega) (fun c101 => ?_) (fun c101 => ?_)
                  · refine Z_iload dX1_lie_107 rfl ?_
                    refine Z_istore_n (lv' := [_, _, _, _, _, _, _, _, _]) dX1_lie_109 rfl rfl (Nat.le_of_ble_eq_true rfl) ?_
                    refine Z_iload dX1_lie_110 rfl ?_
                    refine Z_istore (lv' := [_, _, _, _, _, _, _, _, _]) dX1_lie_112 rfl rfl (Nat.le_of_ble_eq_true rfl) ?_
                    refine Z_aload dX1_lie_114 rfl ?_
                    refine Z_iconst (nI 0) dX1_lie_116 rfl ?_
                    refine Z_iald (zu_s _ _ _) (zix_nI (by first | omega | (dsimp only; omega)) (by decide)) dX1_lie_117 ?_
                    refine Z_re (y := nI (x9.2)) x47 ?_
                    refine Z_istore (lv' := [_, _, _, _, _, _, _, _, _]) dX1_lie_118 rfl rfl (Nat.le_of_ble_eq_true rfl) ?_
                    refine Z_iincN (a := _) (k := 1) (lv' := [_, _, _, _, _, _, _, _, _]) dX1_lie_120 rfl rfl rfl rfl ?_
                    refine Z_goto 29 dX1_lie_123 rfl ?_
                    have e : minF (fun o => (lieO (wld D) k2 k9 o).map (·.1)) (i + 1) = some (i, x9.1) := by simp [minF, hx9, hm, Nat.not_le.mpr c101]
                    have ih2 := ih (by omega) _ _ _ _ F4 ((gx 100 (by omega)).trans ((zu_n _ _ _ (by omega)).trans e100)) ((zu_n _ _ _ (by omega)).trans e302)
                    rw [e] at ih2
                    rw [show xlW (wld D) k2 k9 (some (i, x9.1)) = nI x9.2 from by simp [xlW, hx9]] at ih2
                    exact Z_fgt ih2 (by repeat first | exact zwk_n | refine zwk_f ?_ | refine zwk_c rfl ?_)
                  · refine Z_goto 120 dX1_lie_104 rfl ?_
                    refine Z_iincN (a := _) (k := 1) (lv' := [_, _, _, _, _, _, _, _, _]) dX1_lie_120 rfl rfl rfl rfl ?_
                    refine Z_goto 29 dX1_lie_123 rfl ?_
                    have e : minF (fun o => (lieO (wld D) k2 k9 o).map (·.1)) (i + 1) = some b := by simp [minF, hx9, hm, c101]
                    have ih2 := ih (by omega) _ _ _ _ F4 ((gx 100 (by omega)).trans ((zu_n _ _ _ (by omega)).trans e100)) ((zu_n _ _ _ (by omega)).trans e302)
                    rw [e] at ih2
                    exact Z_fgt ih2 (by repeat first | exact zwk_n | refine zwk_f ?_ | refine zwk_c rfl ?_)
            · have e4 : I4 = zu I2 N1 (I4 N1) := by
                funext b
                by_cases eb : b = N1
                · subst eb; rw [zu_s]
                · rw [zu_n _ _ _ eb]; exact (gx b eb).trans (zu_n _ _ _ eb)
              have F4 := fF.nw (f := I4 N1) (f2 := fun _ => 0) (f3 := fun _ => none) (x := .inr (.int, 1)) hN1 (hN2 N1 (Nat.le_refl _))
              rw [← e4] at F4
              refine Z_istore (lv' := [_, _, _, _, _, _, _, _, _]) dX1_lie_85 rfl rfl (Nat.le_of_ble_eq_true rfl) ?_
              refine Z_iload dX1_lie_87 rfl ?_
              refine Z_iconst (-1) dX1_lie_89 rfl ?_
              refine Z_icmpeq 120 dX1_lie_90 rfl (fun c90 => ?_) (fun c90 => ?_)
              · refine Z_iincN (a := _) (k := 1) (lv' := [_, _, _, _, _, _, _, _, _]) dX1_lie_120 rfl rfl rfl rfl ?_
                refine Z_goto 29 dX1_lie_123 rfl ?_
                have e : minF (fun o => (lieO (wld D) k2 k9 o).map (·.1)) (i + 1) = minF (fun o => (lieO (wld D) k2 k9 o).map (·.1)) i := by simp [minF, hxn]
                have ih2 := ih (by omega) _ _ _ _ F4 ((gx 100 (by omega)).trans ((zu_n _ _ _ (by omega)).trans e100)) ((zu_n _ _ _ (by omega)).trans e302)
                rw [e] at ih2
                exact Z_fgt ih2 (by repeat first | exact zwk_n | refine zwk_f ?_ | refine zwk_c rfl ?_)
              · exact absurd rfl c90
          · refine Z_ifne 65 dX1_lie_59 rfl (fun h => absurd h (by decide)) (fun _ => ?_)
            refine Z_goto 120 dX1_lie_62 rfl ?_
            refine Z_iincN (a := _) (k := 1) (lv' := [_, _, _, _, _, _, _, _, _]) dX1_lie_120 rfl rfl rfl rfl ?_
            refine Z_goto 29 dX1_lie_123 rfl ?_
            have e : minF (fun o => (lieO (wld D) k2 k9 o).map (·.1)) (i + 1) = minF (fun o => (lieO (wld D) k2 k9 o).map (·.1)) i := by simp [minF, lieO_nc h56n]
            have ih2 := ih (by omega) _ _ _ _ fF e100 e302
            rw [e] at ih2
            exact Zj.less (Z_fgt ih2 (by repeat first | exact zwk_n | refine zwk_f ?_ | refine zwk_c rfl ?_)) (Nat.le_refl _) (by omega) (by omega)
      exact Zj.less (lp29 0 (by omega) I L P S (fX.rf hN) rfl rfl) (Nat.le_refl _) (by omega) (by omega)
    · have r9 : rB h 0 2399 = false := rB_f h9
      refine Z_ifne 17 dX1_lie_12 rfl (fun h => absurd h (by decide)) (fun _ => ?_)
      refine Z_iconst (-1) dX1_lie_15 rfl ?_
      refine Z_ireturn dX1_lie_16 rfl rfl ?_
      exact xO_k (D2 := D) (R2 := R) (by simp [fLie, r2, v2, r9]) k hX frX.rf
  · have r2 : pB D x = false := rB_f (fun q => h2 ⟨q.1, by have := q.2; rw [hnn] at this; omega⟩)
    refine Z_ifeq 15 dX1_lie_5 rfl (fun _ => ?_) (fun h => absurd h (by decide))
    refine Z_iconst (-1) dX1_lie_15 rfl ?_
    refine Z_ireturn dX1_lie_16 rfl rfl ?_
    exact xO_k (D2 := D) (R2 := R) (by simp [fLie, r2]) k hX frX.rf
end X25C
