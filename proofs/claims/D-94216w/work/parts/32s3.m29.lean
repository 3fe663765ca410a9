set_option maxRecDepth 100000
/-! THE MODEL, part 29: a way goes on -/
section M29
variable {G : zG} {d C Sl : Nat} {I D W : zI} {R : List Int64} {L : zL} {P : zR} {S : zT} {Q : zQ} {no n np : Nat} {s : zS}
/-- the places that come of one: it stays, or it is handed to one of the first i offices -/
def gT (T : Nat → Nat → Nat → Nat → Prop) (n o l c most : Nat) (ls : Nat → Nat) (i : Nat) : Nat → Nat → Nat → Nat → Prop := fun n2 o2 l2 c2 =>
  (T n2 o2 l2 c2 ∨ (n2 = n ∧ o2 = o ∧ l2 = l ∧ c2 = c)) ∨ ∃ b, b < i ∧ b ≠ o ∧ n < most ∧ n2 = n + 1 ∧ o2 = b ∧ l2 = l + ls b ∧ c2 = 8 * c + b
theorem gT_0 {T : Nat → Nat → Nat → Nat → Prop} {n o l c most : Nat} {ls : Nat → Nat} : ∀ n2 o2 l2 c2, (T n2 o2 l2 c2 ∨ (n2 = n ∧ o2 = o ∧ l2 = l ∧ c2 = c)) ↔ gT T n o l c most ls 0 n2 o2 l2 c2 := by
  intro n2 o2 l2 c2
  constructor
  · exact Or.inl
  · rintro (h | ⟨b, hb, -⟩)
    · exact h
    · exact absurd hb (Nat.not_lt_zero _)
theorem gT_m {T : Nat → Nat → Nat → Nat → Prop} {n o l c most i j : Nat} {ls : Nat → Nat} (h : ¬ n < most) : ∀ n2 o2 l2 c2, gT T n o l c most ls i n2 o2 l2 c2 ↔ gT T n o l c most ls j n2 o2 l2 c2 := by
  intro n2 o2 l2 c2
  constructor
  all_goals
    rintro (q | ⟨b, -, -, q, -⟩)
    · exact Or.inl q
    · exact absurd q h
theorem gT_o {T : Nat → Nat → Nat → Nat → Prop} {n o l c most i : Nat} {ls : Nat → Nat} (e : i = o) : ∀ n2 o2 l2 c2, gT T n o l c most ls i n2 o2 l2 c2 ↔ gT T n o l c most ls (i + 1) n2 o2 l2 c2 := by
  intro n2 o2 l2 c2
  constructor
  · rintro (q | ⟨b, hb, q⟩)
    · exact Or.inl q
    · exact Or.inr ⟨b, by omega, q⟩
  · rintro (q | ⟨b, hb, hb2, q⟩)
    · exact Or.inl q
    · exact Or.inr ⟨b, by omega, hb2, q⟩
theorem gT_s {T : Nat → Nat → Nat → Nat → Prop} {n o l c most i : Nat} {ls : Nat → Nat} (h : n < most) (ho : i ≠ o) : ∀ n2 o2 l2 c2, (gT T n o l c most ls i n2 o2 l2 c2 ∨ (n2 = n + 1 ∧ o2 = i ∧ l2 = l + ls i ∧ c2 = 8 * c + i)) ↔ gT T n o l c most ls (i + 1) n2 o2 l2 c2 := by
  intro n2 o2 l2 c2
  constructor
  · rintro ((q | ⟨b, hb, q⟩) | ⟨q1, q2, q3, q4⟩)
    · exact Or.inl q
    · exact Or.inr ⟨b, by omega, q⟩
    · exact Or.inr ⟨i, by omega, ho, h, q1, q2, q3, q4⟩
  · rintro (q | ⟨b, hb, hb2, hm, q1, q2, q3, q4⟩)
    · exact Or.inl (Or.inl q)
    · by_cases e : b = i
      · subst e; exact Or.inr ⟨q1, q2, q3, q4⟩
      · exact Or.inl (Or.inr ⟨b, by omega, hb2, hm, q1, q2, q3, q4⟩)
set_option maxHeartbeats 4000000 in
theorem c_goesFromL (hM : mOk P S) (h3 : I 0 3 = nI no) (h6 : no ≤ 6) {a : Nat} (hP : P 0 39 = some a) (hA : S a = some (.inr (.int, 3072))) (ha : a = 38 ∨ a = 39) {T : Nat → Nat → Nat → Nat → Prop} (hT : tbl (I a) T) {n o l c most : Nat} {ls : Nat → Nat} (hn : n ≤ most) (hm : most ≤ 3) (ho : o < 6) (hl : l < 128) (hl0 : 0 < l) (hc : c < 2 ^ 20) (hls : n < most → ∀ b, b < no → I 40 (6 * o + b) = nI (ls b) ∧ l + ls b < 128) (k : ∀ I2, tbl (I2 a) (gT T n o l c most ls no) → fr (fun h _ => h == a) I I2 → Q (.inl none) I2 L P S) : Zm G mX5_goesFrom 2 C Sl [.ref 0, .int (nI n), .int (nI o), .int (nI l), .int (nI c), .int (nI most)] I L P S Q := by
  refine Z_entry (lv := [_, _, _, _, _, _, _]) (Nat.le_of_ble_eq_true rfl) rfl ?_
  refine Z_iload_n dX5_goesFrom_0 rfl ?_
  refine Z_ifneN 40 dX5_goesFrom_1 rfl (by omega) (fun c1 => ?_) (fun c1 => ?_)
  · refine Z_aload_n dX5_goesFrom_40 rfl ?_
    refine Z_getR (r := a) hM.1 fX5_347_4 dX5_goesFrom_41 rfl hP ?_
    refine Z_iload_n dX5_goesFrom_44 rfl ?_
    refine Z_iload_n dX5_goesFrom_45 rfl ?_
    refine Z_iload_n dX5_goesFrom_46 rfl ?_
    refine Z_callS0 (d' := 0) (zCal_S gX5_344 nX5_placeAt (by decide) dX5_goesFrom_47) pX5_placeAt [_, _, _] rfl rfl (Nat.le_of_ble_eq_true rfl) (by omega) (c_X5_placeAt  ?_)
    refine Z_iload dX5_goesFrom_50 rfl ?_
    refine Z_callS0 (d' := 1) (zCal_S gX5_363 nX5_least (by decide) dX5_goesFrom_52) pX5_least [_, _, _] rfl rfl (Nat.le_of_ble_eq_true rfl) (by omega) (c_X5_least hA (pl_lt (n := n) (by omega) ho hl) ?_)
    refine Z_iconst (nI 0) dX5_goesFrom_55 rfl ?_
    refine Z_istore (lv' := [_, _, _, _, _, _, _]) dX5_goesFrom_56 rfl rfl (Nat.le_of_ble_eq_true rfl) ?_
    have lp58 : ∀ i, i ≤ no → ∀ I2, tbl (I2 a) (gT T n o l c most ls i) → fr (fun h _ => h == a) I I2 → Zj G mX5_goesFrom 2 C Sl 58 [.ref 0, .int (nI n), .int (nI o), .int (nI l), .int (nI c), .int (nI most), .int (nI i)] [] I2 L P S Q := by
      refine zloop (no) (fun i => ∀ I2, tbl (I2 a) (gT T n o l c most ls i) → fr (fun h _ => h == a) I I2 → Zj G mX5_goesFrom 2 C Sl 58 [.ref 0, .int (nI n), .int (nI o), .int (nI l), .int (nI c), .int (nI most), .int (nI i)] [] I2 L P S Q) (fun i hi ih => ?_)
      intro I2 g1 g2
      show Zj _ _ _ _ _ _ _ _ _ _ _ _ _
      refine Z_iload dX5_goesFrom_58 rfl ?_
      refine Z_aload_n dX5_goesFrom_60 rfl ?_
      refine Z_getI hM.1 fX5_22_4 dX5_goesFrom_61 rfl ?_
      refine Z_re (y := nI (no)) ((g2 0 3 (by rcases ha with rfl | rfl <;> rfl)).trans h3) ?_
      refine Z_icmpgeN 122 dX5_goesFrom_64 rfl (by omega) (by omega) (fun c64 => ?_) (fun c64 => ?_)
      · have ei : i = no := by omega
        rw [ei] at g1
        refine Z_return dX5_goesFrom_122 rfl ?_
        exact k _ g1 g2
      · refine Z_iload_n dX5_goesFrom_67 rfl ?_
        refine Z_iload dX5_goesFrom_68 rfl ?_
        refine Z_icmpgeN 122 dX5_goesFrom_70 rfl (by omega) (by omega) (fun c70 => ?_) (fun c70 => ?_)
        · refine Z_return dX5_goesFrom_122 rfl ?_
          exact k _ (tbl_eq g1 (gT_m (by omega))) g2
        · have c70 : n < most := by omega
          refine Z_iload dX5_goesFrom_73 rfl ?_
          refine Z_iload_n dX5_goesFrom_75 rfl ?_
          refine Z_icmpeqN 116 dX5_goesFrom_76 rfl (by omega) (by omega) (fun c76 => ?_) (fun c76 => ?_)
          · refine Z_iincN (a := _) (k := 1) (lv' := [_, _, _, _, _, _, _]) dX5_goesFrom_116 rfl rfl rfl rfl ?_
            refine Z_goto 58 dX5_goesFrom_119 rfl ?_
            exact ih (by omega) _ (tbl_eq g1 (gT_o c76)) g2
          · refine Z_aload_n dX5_goesFrom_79 rfl ?_
            refine Z_getR (r := a) hM.1 fX5_347_4 dX5_goesFrom_80 rfl hP ?_
            refine Z_iload_n dX5_goesFrom_83 rfl ?_
            refine Z_iconst (nI 1) dX5_goesFrom_84 rfl ?_
            refine Z_iaddN dX5_goesFrom_85 ?_
            refine Z_iload dX5_goesFrom_86 rfl ?_
            refine Z_iload_n dX5_goesFrom_88 rfl ?_
            refine Z_aload_n dX5_goesFrom_89 rfl ?_
            refine Z_getR (r := 40) hM.1 fX5_335_4 dX5_goesFrom_90 rfl (hM.2.2 40 _ rfl rfl) ?_
            refine Z_bipush (nI 6) dX5_goesFrom_93 rfl ?_
            refine Z_iload_n dX5_goesFrom_95 rfl ?_
            refine Z_imulN dX5_goesFrom_96 ?_
            refine Z_iload dX5_goesFrom_97 rfl ?_
            refine Z_iaddN dX5_goesFrom_99 ?_
            refine Z_iald (hM.2.1 40 _ rfl) (zix_nI (by omega) (by decide)) dX5_goesFrom_100 ?_
            refine Z_re (y := nI (ls i)) ((g2 40 _ (by rcases ha with rfl | rfl <;> rfl)).trans (hls c70 i (by omega)).1) ?_
            refine Z_iaddN dX5_goesFrom_101 ?_
            refine Z_callS0 (d' := 0) (zCal_S gX5_344 nX5_placeAt (by decide) dX5_goesFrom_102) pX5_placeAt [_, _, _] rfl rfl (Nat.le_of_ble_eq_true rfl) (by omega) (c_X5_placeAt  ?_)
            refine Z_bipush (nI 8) dX5_goesFrom_105 rfl ?_
            refine Z_iload dX5_goesFrom_107 rfl ?_
            refine Z_imulN dX5_goesFrom_109 ?_
            refine Z_iload dX5_goesFrom_110 rfl ?_
            refine Z_iaddN dX5_goesFrom_112 ?_
            refine Z_callS0 (d' := 1) (zCal_S gX5_363 nX5_least (by decide) dX5_goesFrom_113) pX5_least [_, _, _] rfl rfl (Nat.le_of_ble_eq_true rfl) (by omega) (c_X5_least hA (pl_lt (n := n + 1) (o := i) (l := l + ls i) (by omega) (by omega) (hls c70 i (by omega)).2) ?_)
            refine Z_iincN (a := _) (k := 1) (lv' := [_, _, _, _, _, _, _]) dX5_goesFrom_116 rfl rfl rfl rfl ?_
            refine Z_goto 58 dX5_goesFrom_119 rfl ?_
            have g4 := tbl_l g1 (n := n + 1) (o := i) (l := l + ls i) (c := 8 * c + i) (by omega) (by omega) (hls c70 i (by omega)).2 (by omega)
            exact ih (by omega) _ (by rw [zw_a]; exact tbl_eq g4 (gT_s c70 c76)) (g2.st (by simp))
    have hT2 := tbl_l hT (n := n) (by omega) ho hl (show c < 2 ^ 30 by omega)
    exact lp58 0 (by omega) _ (by rw [zw_a]; exact tbl_eq hT2 gT_0) (fr.rf.st (by simp))
  · omega
end M29
