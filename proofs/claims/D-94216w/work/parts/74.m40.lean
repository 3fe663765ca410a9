set_option maxRecDepth 100000
/-! THE MODEL, part 40: the cheapest by an hour -/
section M40
variable {G : zG} {d C Sl : Nat} {I D W : zI} {R : List Int64} {L : zL} {P : zR} {S : zT} {Q : zQ} {no nn : Nat} {A : Nat → Int64}
set_option maxHeartbeats 4000000 in
theorem c_J5_min_2 {a b : Nat} (ha : a < 2 ^ 63) (hb : b < 2 ^ 63) (k : Q (.inl (some (.long (lN (min a b))))) I L P S) : Zm G mJ5_min_2 0 C Sl [.long (lN a), .long (lN b)] I L P S Q := by
  refine Z_entry (lv := [_, _, _, _]) (Nat.le_of_ble_eq_true rfl) rfl ?_
  refine Z_lload_n dJ5_min_2_0 rfl ?_
  refine Z_lload_n dJ5_min_2_1 rfl ?_
  refine Z_lcmp dJ5_min_2_2 ?_
  refine Z_ifgt 10 dJ5_min_2_3 rfl (fun c3 => ?_) (fun c3 => ?_)
  · have c3 : b < a := (lgN_gt ha hb).mp c3
    refine Z_lload_n dJ5_min_2_10 rfl ?_
    refine Z_lreturn dJ5_min_2_11 rfl ?_
    rw [Nat.min_def] at k
    first | (rw [if_pos (by omega)] at k; exact k) | (rw [if_neg (by omega)] at k; exact k)
  · have c3 : ¬ b < a := fun q => absurd ((lgN_gt ha hb).mpr q) (Int32.not_lt.mpr (by first | exact c3 | exact Int32.not_lt.mp c3))
    refine Z_lload_n dJ5_min_2_6 rfl ?_
    refine Z_goto 11 dJ5_min_2_7 rfl ?_
    refine Z_lreturn dJ5_min_2_11 rfl ?_
    rw [Nat.min_def] at k
    first | (rw [if_pos (by omega)] at k; exact k) | (rw [if_neg (by omega)] at k; exact k)
set_option maxHeartbeats 4000000 in
theorem c_X5_emptiesPaid {a : Nat} (hA : S a = some (.inr (.long, 3072))) (k : ∀ L2, (∀ j, j < 3072 → L2 a j = -1) → (∀ y, y ≠ a → L2 y = L y) → Q (.inl none) I L2 P S) : Zm G mX5_emptiesPaid 0 C Sl [.ref 0, .ref a] I L P S Q := by
  refine Z_entry (lv := [_, _, _]) (Nat.le_of_ble_eq_true rfl) rfl ?_
  refine Z_iconst (nI 0) dX5_emptiesPaid_0 rfl ?_
  refine Z_istore_n (lv' := [_, _, _]) dX5_emptiesPaid_1 rfl rfl (Nat.le_of_ble_eq_true rfl) ?_
  have lp2 : ∀ i, i ≤ 3072 → ∀ L2, (∀ j, j < i → L2 a j = -1) → (∀ y, y ≠ a → L2 y = L y) → Zj G mX5_emptiesPaid 0 C Sl 2 [.ref 0, .ref a, .int (nI i)] [] I L2 P S Q := by
    refine zloop (3072) (fun i => ∀ L2, (∀ j, j < i → L2 a j = -1) → (∀ y, y ≠ a → L2 y = L y) → Zj G mX5_emptiesPaid 0 C Sl 2 [.ref 0, .ref a, .int (nI i)] [] I L2 P S Q) (fun i hi ih => ?_)
    intro L2 g1 g2
    show Zj _ _ _ _ _ _ _ _ _ _ _ _ _
    refine Z_iload_n dX5_emptiesPaid_2 rfl ?_
    refine Z_aload_n dX5_emptiesPaid_3 rfl ?_
    refine Z_alen hA (by simp [zTys]) dX5_emptiesPaid_4 ?_
    refine Z_icmpgeN 20 dX5_emptiesPaid_5 rfl (by omega) (by omega) (fun c5 => ?_) (fun c5 => ?_)
    · have ei : i = 3072 := by omega
      rw [ei] at g1
      refine Z_return dX5_emptiesPaid_20 rfl ?_
      exact k _ g1 g2
    · refine Z_aload_n dX5_emptiesPaid_8 rfl ?_
      refine Z_iload_n dX5_emptiesPaid_9 rfl ?_
      refine Z_ldc2 q1264 dX5_emptiesPaid_10 ?_
      refine Z_last hA (zix_nI (by omega) (by decide)) dX5_emptiesPaid_13 ?_
      refine Z_iincN (a := _) (k := 1) (lv' := [_, _, _]) dX5_emptiesPaid_14 rfl rfl rfl rfl ?_
      refine Z_goto 2 dX5_emptiesPaid_17 rfl ?_
      refine ih (by omega) _ (fun j hj => ?_) (fun y hy => (zw_n _ _ _ _ hy).trans (g2 y hy))
      rw [zw_a]
      by_cases e : j = i
      · subst e; rw [zu_s]
      · rw [zu_n _ _ _ e]; exact g1 j (by omega)
  exact lp2 0 (by omega) _ (fun j hj => absurd hj (by omega)) (fun _ _ => rfl)
set_option maxHeartbeats 4000000 in
theorem c_cheaperN (hM : mOk P S) {a j x : Nat} (hP : P 0 44 = some a) (hA : S a = some (.inr (.long, 3072))) (hj : j < 3072) (hx : x < 2 ^ 40) (e : L a j = -1) (k : Q (.inl none) I (zw L a j (lN x)) P S) : Zm G mX5_cheaper 1 C Sl [.ref 0, .int (nI j), .long (lN x)] I L P S Q := by
  refine Z_entry (lv := [_, _, _, _]) (Nat.le_of_ble_eq_true rfl) rfl ?_
  refine Z_aload_n dX5_cheaper_0 rfl ?_
  refine Z_getR (r := a) hM.1 fX5_374_4 dX5_cheaper_1 rfl hP ?_
  refine Z_iload_n dX5_cheaper_4 rfl ?_
  refine Z_aload_n dX5_cheaper_5 rfl ?_
  refine Z_getR (r := a) hM.1 fX5_374_4 dX5_cheaper_6 rfl hP ?_
  refine Z_iload_n dX5_cheaper_9 rfl ?_
  refine Z_lald hA (zix_nI (by omega) (by decide)) dX5_cheaper_10 ?_
  refine Z_rl e ?_
  refine Z_lconst (lN 0) dX5_cheaper_11 rfl ?_
  refine Z_lcmp dX5_cheaper_12 ?_
  refine Z_ifge 20 dX5_cheaper_13 rfl (fun c13 => ?_) (fun c13 => ?_)
  · exact absurd c13 (by decide)
  · refine Z_lload_n dX5_cheaper_16 rfl ?_
    refine Z_goto 30 dX5_cheaper_17 rfl ?_
    refine Z_last hA (zix_nI (by omega) (by decide)) dX5_cheaper_30 ?_
    refine Z_return dX5_cheaper_31 rfl ?_
    exact k
set_option maxHeartbeats 4000000 in
theorem c_cheaperS (hM : mOk P S) {a j x : Nat} (hP : P 0 44 = some a) (hA : S a = some (.inr (.long, 3072))) (hj : j < 3072) (hx : x < 2 ^ 40) {y : Nat} (hy : y < 2 ^ 40) (e : L a j = lN y) (k : Q (.inl none) I (zw L a j (lN (min y x))) P S) : Zm G mX5_cheaper 1 C Sl [.ref 0, .int (nI j), .long (lN x)] I L P S Q := by
  refine Z_entry (lv := [_, _, _, _]) (Nat.le_of_ble_eq_true rfl) rfl ?_
  refine Z_aload_n dX5_cheaper_0 rfl ?_
  refine Z_getR (r := a) hM.1 fX5_374_4 dX5_cheaper_1 rfl hP ?_
  refine Z_iload_n dX5_cheaper_4 rfl ?_
  refine Z_aload_n dX5_cheaper_5 rfl ?_
  refine Z_getR (r := a) hM.1 fX5_374_4 dX5_cheaper_6 rfl hP ?_
  refine Z_iload_n dX5_cheaper_9 rfl ?_
  refine Z_lald hA (zix_nI (by omega) (by decide)) dX5_cheaper_10 ?_
  refine Z_rl (y := lN (y)) e ?_
  refine Z_lconst (lN 0) dX5_cheaper_11 rfl ?_
  refine Z_lcmp dX5_cheaper_12 ?_
  refine Z_ifge 20 dX5_cheaper_13 rfl (fun c13 => ?_) (fun c13 => ?_)
  · refine Z_aload_n dX5_cheaper_20 rfl ?_
    refine Z_getR (r := a) hM.1 fX5_374_4 dX5_cheaper_21 rfl hP ?_
    refine Z_iload_n dX5_cheaper_24 rfl ?_
    refine Z_lald hA (zix_nI (by omega) (by decide)) dX5_cheaper_25 ?_
    refine Z_rl (y := lN (y)) e ?_
    refine Z_lload_n dX5_cheaper_26 rfl ?_
    refine Z_callS0 (d' := 0) (zCal_S gX5_377 nJ5_min_2 (by decide) dX5_cheaper_27) pJ5_min_2 [_, _] rfl rfl (Nat.le_of_ble_eq_true rfl) (by omega) (c_J5_min_2 (by omega) (by omega) ?_)
    refine Z_last hA (zix_nI (by omega) (by decide)) dX5_cheaper_30 ?_
    refine Z_return dX5_cheaper_31 rfl ?_
    exact k
  · exact absurd ((lgN_lt (by omega) (by decide)).mp (Int32.not_le.mp c13)) (Nat.not_lt_zero _)
theorem c_X5_cheaper {T : Nat → Nat → Nat → Nat → Prop} (hM : mOk P S) {a n o l x : Nat} (hP : P 0 44 = some a) (hA : S a = some (.inr (.long, 3072))) (hT : tblL (L a) T) (h0 : n < 4) (h1 : o < 6) (h2 : l < 128) (hx : x < 2 ^ 40) (k : ∀ v, tblL (zu (L a) (pl n o l) v) (fun n2 o2 l2 x2 => T n2 o2 l2 x2 ∨ (n2 = n ∧ o2 = o ∧ l2 = l ∧ x2 = x)) → Q (.inl none) I (zw L a (pl n o l) v) P S) : Zm G mX5_cheaper 1 C Sl [.ref 0, .int (nI (pl n o l)), .long (lN x)] I L P S Q := by
  rcases tblL_at hT h0 h1 h2 with e | ⟨y, hy, e⟩
  · exact c_cheaperN hM hP hA (pl_lt h0 h1 h2) hx e (k _ (tblL_l hT h0 h1 h2 hx (Or.inl ⟨e, rfl⟩)))
  · exact c_cheaperS hM hP hA (pl_lt h0 h1 h2) hx hy e (k _ (tblL_l hT h0 h1 h2 hx (Or.inr ⟨y, hy, e, rfl⟩)))
set_option maxHeartbeats 4000000 in
theorem c_goesPaidL (hM : mOk P S) (h3 : I 0 3 = nI no) (h6 : no ≤ 6) {a : Nat} (hP : P 0 44 = some a) (hA : S a = some (.inr (.long, 3072))) {T : Nat → Nat → Nat → Nat → Prop} (hT : tblL (L a) T) {n o l x most : Nat} {ls : Nat → Nat} (hn : n ≤ most) (hm : most ≤ 2) (ho : o < 6) (hl : l < 128) (hl0 : 0 < l) (hx : x < 2 ^ 36) (hls : n < most → ∀ b, b < no → I 40 (6 * o + b) = nI (ls b) ∧ l + ls b < 128) (k : ∀ L2, tblL (L2 a) (gP T n o l x most ls no) → (∀ y, y ≠ a → L2 y = L y) → Q (.inl none) I L2 P S) : Zm G mX5_goesPaid 2 C Sl [.ref 0, .int (nI n), .int (nI o), .int (nI l), .long (lN x), .int (nI most)] I L P S Q := by
  refine Z_entry (lv := [_, _, _, _, _, _, _, _, _, _]) (Nat.le_of_ble_eq_true rfl) rfl ?_
  refine Z_iload_n dX5_goesPaid_0 rfl ?_
  refine Z_ifneN 116 dX5_goesPaid_1 rfl (by omega) (fun c1 => ?_) (fun c1 => ?_)
  · refine Z_aload_n dX5_goesPaid_116 rfl ?_
    refine Z_iload_n dX5_goesPaid_117 rfl ?_
    refine Z_iload_n dX5_goesPaid_118 rfl ?_
    refine Z_iload_n dX5_goesPaid_119 rfl ?_
    refine Z_callS0 (d' := 0) (zCal_S gX5_344 nX5_placeAt (by decide) dX5_goesPaid_120) pX5_placeAt [_, _, _] rfl rfl (Nat.le_of_ble_eq_true rfl) (by omega) (c_X5_placeAt  ?_)
    refine Z_lload dX5_goesPaid_123 rfl ?_
    refine Z_call0 (d' := 1) (zCal_V gX5_388 nX5_cheaper (by decide) dX5_goesPaid_125) pX5_cheaper hM.1 zkl4 [_, _] rfl rfl (Nat.le_of_ble_eq_true rfl) (by omega) (c_X5_cheaper hM hP hA hT (n := n) (o := o) (l := l) (x := x) (by omega) ho hl (by omega) (fun v z => ?_))
    refine Z_iconst (nI 0) dX5_goesPaid_128 rfl ?_
    refine Z_istore (lv' := [_, _, _, _, _, _, _, _, _, _]) dX5_goesPaid_129 rfl rfl (Nat.le_of_ble_eq_true rfl) ?_
    have lp131 : ∀ i, i ≤ no → ∀ L2, tblL (L2 a) (gP T n o l x most ls i) → (∀ y, y ≠ a → L2 y = L y) → Zj G mX5_goesPaid 2 C Sl 131 [.ref 0, .int (nI n), .int (nI o), .int (nI l), .long (lN x), .retAddr 0, .int (nI most), .int (nI i), .retAddr 0, .retAddr 0] [] I L2 P S Q := by
      refine zloop (no) (fun i => ∀ L2, tblL (L2 a) (gP T n o l x most ls i) → (∀ y, y ≠ a → L2 y = L y) → Zj G mX5_goesPaid 2 C Sl 131 [.ref 0, .int (nI n), .int (nI o), .int (nI l), .long (lN x), .retAddr 0, .int (nI most), .int (nI i), .retAddr 0, .retAddr 0] [] I L2 P S Q) (fun i hi ih => ?_)
      intro L2 g1 g2
      show Zj _ _ _ _ _ _ _ _ _ _ _ _ _
      refine Z_iload dX5_goesPaid_131 rfl ?_
      refine Z_aload_n dX5_goesPaid_133 rfl ?_
      refine Z_getI hM.1 fX5_22_4 dX5_goesPaid_134 rfl ?_
      refine Z_re (y := nI (no)) h3 ?_
      refine Z_icmpgeN 213 dX5_goesPaid_137 rfl (by omega) (by omega) (fun c137 => ?_) (fun c137 => ?_)
      · have ei : i = no := by omega
        rw [ei] at g1
        refine Z_return dX5_goesPaid_213 rfl ?_
        exact k _ g1 g2
      · refine Z_iload_n dX5_goesPaid_140 rfl ?_
        refine Z_iload dX5_goesPaid_141 rfl ?_
        refine Z_icmpgeN 213 dX5_goesPaid_143 rfl (by omega) (by omega) (fun c143 => ?_) (fun c143 => ?_)
        · refine Z_return dX5_goesPaid_213 rfl ?_
          exact k _ (tblL_eq g1 (gP_m (by omega))) g2
        · have c143 : n < most := by omega
          refine Z_iload dX5_goesPaid_146 rfl ?_
          refine Z_iload_n dX5_goesPaid_148 rfl ?_
          refine Z_icmpeqN 207 dX5_goesPaid_149 rfl (by omega) (by omega) (fun c149 => ?_) (fun c149 => ?_)
          · refine Z_iincN (a := _) (k := 1) (lv' := [_, _, _, _, _, _, _, _, _, _]) dX5_goesPaid_207 rfl rfl rfl rfl ?_
            refine Z_goto 131 dX5_goesPaid_210 rfl ?_
            exact ih (by omega) _ (tblL_eq g1 (gP_o c149)) g2
          · refine Z_lload dX5_goesPaid_152 rfl ?_
            refine Z_ldc2 q1594 dX5_goesPaid_154 ?_
            refine Z_rl (y := lN 512) rfl ?_
            refine Z_lremN dX5_goesPaid_157 (by omega) (by decide) (by decide) ?_
            refine Z_ldc2 q1514 dX5_goesPaid_158 ?_
            refine Z_rl (y := lN 8) rfl ?_
            refine Z_lmulN dX5_goesPaid_161 ?_
            refine Z_iload dX5_goesPaid_162 rfl ?_
            refine Z_i2lN dX5_goesPaid_164 (by omega) ?_
            refine Z_laddN dX5_goesPaid_165 ?_
            refine Z_lstore (lv' := [_, _, _, _, _, _, _, _, _, _]) dX5_goesPaid_166 rfl rfl (Nat.le_of_ble_eq_true rfl) ?_
            refine Z_aload_n dX5_goesPaid_168 rfl ?_
            refine Z_iload_n dX5_goesPaid_169 rfl ?_
            refine Z_iconst (nI 1) dX5_goesPaid_170 rfl ?_
            refine Z_iaddN dX5_goesPaid_171 ?_
            refine Z_iload dX5_goesPaid_172 rfl ?_
            refine Z_iload_n dX5_goesPaid_174 rfl ?_
            refine Z_aload_n dX5_goesPaid_175 rfl ?_
            refine Z_getR (r := 40) hM.1 fX5_335_4 dX5_goesPaid_176 rfl (hM.2.2 40 _ rfl rfl) ?_
            refine Z_bipush (nI 6) dX5_goesPaid_179 rfl ?_
            refine Z_iload_n dX5_goesPaid_181 rfl ?_
            refine Z_imulN dX5_goesPaid_182 ?_
            refine Z_iload dX5_goesPaid_183 rfl ?_
            refine Z_iaddN dX5_goesPaid_185 ?_
            refine Z_iald (hM.2.1 40 _ rfl) (zix_nI (by omega) (by decide)) dX5_goesPaid_186 ?_
            refine Z_re (y := nI (ls i)) (hls c143 i (by omega)).1 ?_
            refine Z_iaddN dX5_goesPaid_187 ?_
            refine Z_callS0 (d' := 0) (zCal_S gX5_344 nX5_placeAt (by decide) dX5_goesPaid_188) pX5_placeAt [_, _, _] rfl rfl (Nat.le_of_ble_eq_true rfl) (by omega) (c_X5_placeAt  ?_)
            refine Z_lload dX5_goesPaid_191 rfl ?_
            refine Z_ldc2 q1594 dX5_goesPaid_193 ?_
            refine Z_rl (y := lN 512) rfl ?_
            refine Z_ldivN dX5_goesPaid_196 (by omega) (by decide) (by decide) ?_
            refine Z_ldc2 q1594 dX5_goesPaid_197 ?_
            refine Z_rl (y := lN 512) rfl ?_
            refine Z_lmulN dX5_goesPaid_200 ?_
            refine Z_lload dX5_goesPaid_201 rfl ?_
            refine Z_laddN dX5_goesPaid_203 ?_
            refine Z_call0 (d' := 1) (zCal_V gX5_388 nX5_cheaper (by decide) dX5_goesPaid_204) pX5_cheaper hM.1 zkl4 [_, _] rfl rfl (Nat.le_of_ble_eq_true rfl) (by omega) (c_X5_cheaper hM hP hA g1 (n := n + 1) (o := i) (l := l + ls i) (x := hdX x i) (by omega) (by omega) (hls c143 i (by omega)).2 (by unfold hdX; omega) (fun v z => ?_))
            refine Z_iincN (a := _) (k := 1) (lv' := [_, _, _, _, _, _, _, _, _, _]) dX5_goesPaid_207 rfl rfl rfl rfl ?_
            refine Z_goto 131 dX5_goesPaid_210 rfl ?_
            exact Z_fgt (ih (by omega) _ (by rw [zw_a]; exact tblL_eq z (gP_s c143 c149)) (fun y hy => (zw_n _ _ _ _ hy).trans (g2 y hy))) (by repeat first | exact zwk_n | refine zwk_f ?_ | refine zwk_c rfl ?_)
    exact lp131 0 (by omega) _ (by rw [zw_a]; exact tblL_eq z gP_0) (fun y hy => zw_n _ _ _ _ hy)
  · omega
set_option maxHeartbeats 4000000 in
theorem c_goesPaid0n (hM : mOk P S) {n o x most : Nat} (h46 : I 0 46 = -1) (k : Q (.inl none) (zw I 0 46 (nI n)) (zw L 0 45 (lN x)) P S) : Zm G mX5_goesPaid 2 C Sl [.ref 0, .int (nI n), .int (nI o), .int (nI 0), .long (lN x), .int (nI most)] I L P S Q := by
  refine Z_entry (lv := [_, _, _, _, _, _, _, _, _, _]) (Nat.le_of_ble_eq_true rfl) rfl ?_
  refine Z_iload_n dX5_goesPaid_0 rfl ?_
  refine Z_ifne 116 dX5_goesPaid_1 rfl (fun h => absurd h (by decide)) (fun _ => ?_)
  refine Z_aload_n dX5_goesPaid_4 rfl ?_
  refine Z_getI hM.1 fX5_379_4 dX5_goesPaid_5 rfl ?_
  refine Z_re h46 ?_
  refine Z_iflt 29 dX5_goesPaid_8 rfl (fun c8 => ?_) (fun c8 => ?_)
  · refine Z_iconst (nI 1) dX5_goesPaid_29 rfl ?_
    refine Z_goto 34 dX5_goesPaid_30 rfl ?_
    refine Z_istore (lv' := [_, _, _, _, _, _, _, _, _, _]) dX5_goesPaid_34 rfl rfl (Nat.le_of_ble_eq_true rfl) ?_
    refine Z_aload_n dX5_goesPaid_36 rfl ?_
    refine Z_getI hM.1 fX5_379_4 dX5_goesPaid_37 rfl ?_
    refine Z_re h46 ?_
    refine Z_iflt 65 dX5_goesPaid_40 rfl (fun c40 => ?_) (fun c40 => ?_)
    · refine Z_iconst (nI 0) dX5_goesPaid_65 rfl ?_
      refine Z_istore (lv' := [_, _, _, _, _, _, _, _, _, _]) dX5_goesPaid_66 rfl rfl (Nat.le_of_ble_eq_true rfl) ?_
      refine Z_iload dX5_goesPaid_68 rfl ?_
      refine Z_ifne 104 dX5_goesPaid_70 rfl (fun _ => ?_) (fun h => absurd h (by decide))
      refine Z_aload_n dX5_goesPaid_104 rfl ?_
      refine Z_lload dX5_goesPaid_105 rfl ?_
      refine Z_putL hM.1 fX5_384_4 dX5_goesPaid_107 rfl ?_
      refine Z_aload_n dX5_goesPaid_110 rfl ?_
      refine Z_iload_n dX5_goesPaid_111 rfl ?_
      refine Z_putI hM.1 fX5_379_4 dX5_goesPaid_112 rfl rfl rfl ?_
      refine Z_return dX5_goesPaid_115 rfl ?_
      exact k
    · exact absurd (by decide) c40
  · exact absurd (by decide) c8
set_option maxHeartbeats 4000000 in
theorem c_goesPaid0s (hM : mOk P S) {n o x most n1 c1 : Nat} (h46 : I 0 46 = nI n1) (h45 : L 0 45 = lN c1) (hn : n < 2 ^ 30) (hn1 : n1 < 2 ^ 30) (hc : x < 2 ^ 40) (hc1 : c1 < 2 ^ 40) (kt : (x / 512 < c1 / 512 ∨ (x / 512 = c1 / 512 ∧ (n < n1 ∨ (n = n1 ∧ x < c1)))) → Q (.inl none) (zw I 0 46 (nI n)) (zw L 0 45 (lN x)) P S) (kf : ¬ (x / 512 < c1 / 512 ∨ (x / 512 = c1 / 512 ∧ (n < n1 ∨ (n = n1 ∧ x < c1)))) → Q (.inl none) I L P S) : Zm G mX5_goesPaid 2 C Sl [.ref 0, .int (nI n), .int (nI o), .int (nI 0), .long (lN x), .int (nI most)] I L P S Q := by
  refine Z_entry (lv := [_, _, _, _, _, _, _, _, _, _]) (Nat.le_of_ble_eq_true rfl) rfl ?_
  refine Z_iload_n dX5_goesPaid_0 rfl ?_
  refine Z_ifne 116 dX5_goesPaid_1 rfl (fun h => absurd h (by decide)) (fun _ => ?_)
  refine Z_aload_n dX5_goesPaid_4 rfl ?_
  refine Z_getI hM.1 fX5_379_4 dX5_goesPaid_5 rfl ?_
  refine Z_re (y := nI (n1)) h46 ?_
  refine Z_ifltN 29 dX5_goesPaid_8 rfl (by omega) ?_
  refine Z_lload dX5_goesPaid_11 rfl ?_
  refine Z_ldc2 q1594 dX5_goesPaid_13 ?_
  refine Z_rl (y := lN 512) rfl ?_
  refine Z_ldivN dX5_goesPaid_16 (by omega) (by decide) (by decide) ?_
  refine Z_aload_n dX5_goesPaid_17 rfl ?_
  refine Z_getL hM.1 fX5_384_4 dX5_goesPaid_18 rfl ?_
  refine Z_rl (y := lN (c1)) h45 ?_
  refine Z_ldc2 q1594 dX5_goesPaid_21 ?_
  refine Z_rl (y := lN 512) rfl ?_
  refine Z_ldivN dX5_goesPaid_24 (by omega) (by decide) (by decide) ?_
  refine Z_lcmp dX5_goesPaid_25 ?_
  refine Z_ifge 33 dX5_goesPaid_26 rfl (fun c26 => ?_) (fun c26 => ?_)
  · have c26 : ¬ x / 512 < c1 / 512 := fun q => absurd ((lgN_lt (by omega) (by omega)).mpr q) (Int32.not_lt.mpr c26)
    refine Z_iconst (nI 0) dX5_goesPaid_33 rfl ?_
    refine Z_istore (lv' := [_, _, _, _, _, _, _, _, _, _]) dX5_goesPaid_34 rfl rfl (Nat.le_of_ble_eq_true rfl) ?_
    refine Z_aload_n dX5_goesPaid_36 rfl ?_
    refine Z_getI hM.1 fX5_379_4 dX5_goesPaid_37 rfl ?_
    refine Z_re (y := nI (n1)) h46 ?_
    refine Z_ifltN 65 dX5_goesPaid_40 rfl (by omega) ?_
    refine Z_lload dX5_goesPaid_43 rfl ?_
    refine Z_ldc2 q1594 dX5_goesPaid_45 ?_
    refine Z_rl (y := lN 512) rfl ?_
    refine Z_ldivN dX5_goesPaid_48 (by omega) (by decide) (by decide) ?_
    refine Z_aload_n dX5_goesPaid_49 rfl ?_
    refine Z_getL hM.1 fX5_384_4 dX5_goesPaid_50 rfl ?_
    refine Z_rl (y := lN (c1)) h45 ?_
    refine Z_ldc2 q1594 dX5_goesPaid_53 ?_
    refine Z_rl (y := lN 512) rfl ?_
    refine Z_ldivN dX5_goesPaid_56 (by omega) (by decide) (by decide) ?_
    refine Z_lcmp dX5_goesPaid_57 ?_
    refine Z_ifne 65 dX5_goesPaid_58 rfl (fun c58 => ?_) (fun c58 => ?_)
    · have c58 : ¬ x / 512 = c1 / 512 := fun q => c58 ((lgN_eq (by omega) (by omega)).mpr q)
      refine Z_iconst (nI 0) dX5_goesPaid_65 rfl ?_
      refine Z_istore (lv' := [_, _, _, _, _, _, _, _, _, _]) dX5_goesPaid_66 rfl rfl (Nat.le_of_ble_eq_true rfl) ?_
      refine Z_iload dX5_goesPaid_68 rfl ?_
      refine Z_ifne 104 dX5_goesPaid_70 rfl (fun h => absurd h (by decide)) (fun _ => ?_)
      refine Z_iload dX5_goesPaid_73 rfl ?_
      refine Z_ifeq 115 dX5_goesPaid_75 rfl (fun _ => ?_) (fun h => absurd h (by decide))
      refine Z_return dX5_goesPaid_115 rfl ?_
      first | exact kt (by omega) | exact kf (by omega)
    · have c58 : x / 512 = c1 / 512 := (lgN_eq (by omega) (by omega)).mp (by first | exact c58 | exact Classical.not_not.mp c58)
      refine Z_iconst (nI 1) dX5_goesPaid_61 rfl ?_
      refine Z_goto 66 dX5_goesPaid_62 rfl ?_
      refine Z_istore (lv' := [_, _, _, _, _, _, _, _, _, _]) dX5_goesPaid_66 rfl rfl (Nat.le_of_ble_eq_true rfl) ?_
      refine Z_iload dX5_goesPaid_68 rfl ?_
      refine Z_ifne 104 dX5_goesPaid_70 rfl (fun h => absurd h (by decide)) (fun _ => ?_)
      refine Z_iload dX5_goesPaid_73 rfl ?_
      refine Z_ifeq 115 dX5_goesPaid_75 rfl (fun h => absurd h (by decide)) (fun _ => ?_)
      refine Z_iload_n dX5_goesPaid_78 rfl ?_
      refine Z_aload_n dX5_goesPaid_79 rfl ?_
      refine Z_getI hM.1 fX5_379_4 dX5_goesPaid_80 rfl ?_
      refine Z_re (y := nI (n1)) h46 ?_
      refine Z_icmpltN 104 dX5_goesPaid_83 rfl (by omega) (by omega) (fun c83 => ?_) (fun c83 => ?_)
      · refine Z_aload_n dX5_goesPaid_104 rfl ?_
        refine Z_lload dX5_goesPaid_105 rfl ?_
        refine Z_putL hM.1 fX5_384_4 dX5_goesPaid_107 rfl ?_
        refine Z_aload_n dX5_goesPaid_110 rfl ?_
        refine Z_iload_n dX5_goesPaid_111 rfl ?_
        refine Z_putI hM.1 fX5_379_4 dX5_goesPaid_112 rfl rfl rfl ?_
        refine Z_return dX5_goesPaid_115 rfl ?_
        first | exact kt (by omega) | exact kf (by omega)
      · refine Z_iload_n dX5_goesPaid_86 rfl ?_
        refine Z_aload_n dX5_goesPaid_87 rfl ?_
        refine Z_getI hM.1 fX5_379_4 dX5_goesPaid_88 rfl ?_
        refine Z_re (y := nI (n1)) h46 ?_
        refine Z_icmpneN 115 dX5_goesPaid_91 rfl (by omega) (by omega) (fun c91 => ?_) (fun c91 => ?_)
        · refine Z_return dX5_goesPaid_115 rfl ?_
          first | exact kt (by omega) | exact kf (by omega)
        · refine Z_lload dX5_goesPaid_94 rfl ?_
          refine Z_aload_n dX5_goesPaid_96 rfl ?_
          refine Z_getL hM.1 fX5_384_4 dX5_goesPaid_97 rfl ?_
          refine Z_rl (y := lN (c1)) h45 ?_
          refine Z_lcmp dX5_goesPaid_100 ?_
          refine Z_ifge 115 dX5_goesPaid_101 rfl (fun c101 => ?_) (fun c101 => ?_)
          · have c101 : ¬ x < c1 := fun q => absurd ((lgN_lt (by omega) (by omega)).mpr q) (Int32.not_lt.mpr c101)
            refine Z_return dX5_goesPaid_115 rfl ?_
            first | exact kt (by omega) | exact kf (by omega)
          · have c101 : x < c1 := (lgN_lt (by omega) (by omega)).mp (Int32.not_le.mp c101)
            refine Z_aload_n dX5_goesPaid_104 rfl ?_
            refine Z_lload dX5_goesPaid_105 rfl ?_
            refine Z_putL hM.1 fX5_384_4 dX5_goesPaid_107 rfl ?_
            refine Z_aload_n dX5_goesPaid_110 rfl ?_
            refine Z_iload_n dX5_goesPaid_111 rfl ?_
            refine Z_putI hM.1 fX5_379_4 dX5_goesPaid_112 rfl rfl rfl ?_
            refine Z_return dX5_goesPaid_115 rfl ?_
            first | exact kt (by omega) | exact kf (by omega)
  · have c26 : x / 512 < c1 / 512 := (lgN_lt (by omega) (by omega)).mp (Int32.not_le.mp c26)
    refine Z_iconst (nI 1) dX5_goesPaid_29 rfl ?_
    refine Z_goto 34 dX5_goesPaid_30 rfl ?_
    refine Z_istore (lv' := [_, _, _, _, _, _, _, _, _, _]) dX5_goesPaid_34 rfl rfl (Nat.le_of_ble_eq_true rfl) ?_
    refine Z_aload_n dX5_goesPaid_36 rfl ?_
    refine Z_getI hM.1 fX5_379_4 dX5_goesPaid_37 rfl ?_
    refine Z_re (y := nI (n1)) h46 ?_
    refine Z_ifltN 65 dX5_goesPaid_40 rfl (by omega) ?_
    refine Z_lload dX5_goesPaid_43 rfl ?_
    refine Z_ldc2 q1594 dX5_goesPaid_45 ?_
    refine Z_rl (y := lN 512) rfl ?_
    refine Z_ldivN dX5_goesPaid_48 (by omega) (by decide) (by decide) ?_
    refine Z_aload_n dX5_goesPaid_49 rfl ?_
    refine Z_getL hM.1 fX5_384_4 dX5_goesPaid_50 rfl ?_
    refine Z_rl (y := lN (c1)) h45 ?_
    refine Z_ldc2 q1594 dX5_goesPaid_53 ?_
    refine Z_rl (y := lN 512) rfl ?_
    refine Z_ldivN dX5_goesPaid_56 (by omega) (by decide) (by decide) ?_
    refine Z_lcmp dX5_goesPaid_57 ?_
    refine Z_ifne 65 dX5_goesPaid_58 rfl (fun c58 => ?_) (fun c58 => ?_)
    · have c58 : ¬ x / 512 = c1 / 512 := fun q => c58 ((lgN_eq (by omega) (by omega)).mpr q)
      refine Z_iconst (nI 0) dX5_goesPaid_65 rfl ?_
      refine Z_istore (lv' := [_, _, _, _, _, _, _, _, _, _]) dX5_goesPaid_66 rfl rfl (Nat.le_of_ble_eq_true rfl) ?_
      refine Z_iload dX5_goesPaid_68 rfl ?_
      refine Z_ifne 104 dX5_goesPaid_70 rfl (fun _ => ?_) (fun h => absurd h (by decide))
      refine Z_aload_n dX5_goesPaid_104 rfl ?_
      refine Z_lload dX5_goesPaid_105 rfl ?_
      refine Z_putL hM.1 fX5_384_4 dX5_goesPaid_107 rfl ?_
      refine Z_aload_n dX5_goesPaid_110 rfl ?_
      refine Z_iload_n dX5_goesPaid_111 rfl ?_
      refine Z_putI hM.1 fX5_379_4 dX5_goesPaid_112 rfl rfl rfl ?_
      refine Z_return dX5_goesPaid_115 rfl ?_
      first | exact kt (by omega) | exact kf (by omega)
    · have c58 : x / 512 = c1 / 512 := (lgN_eq (by omega) (by omega)).mp (by first | exact c58 | exact Classical.not_not.mp c58)
      refine Z_iconst (nI 1) dX5_goesPaid_61 rfl ?_
      refine Z_goto 66 dX5_goesPaid_62 rfl ?_
      refine Z_istore (lv' := [_, _, _, _, _, _, _, _, _, _]) dX5_goesPaid_66 rfl rfl (Nat.le_of_ble_eq_true rfl) ?_
      refine Z_iload dX5_goesPaid_68 rfl ?_
      refine Z_ifne 104 dX5_goesPaid_70 rfl (fun _ => ?_) (fun h => absurd h (by decide))
      refine Z_aload_n dX5_goesPaid_104 rfl ?_
      refine Z_lload dX5_goesPaid_105 rfl ?_
      refine Z_putL hM.1 fX5_384_4 dX5_goesPaid_107 rfl ?_
      refine Z_aload_n dX5_goesPaid_110 rfl ?_
      refine Z_iload_n dX5_goesPaid_111 rfl ?_
      refine Z_putI hM.1 fX5_379_4 dX5_goesPaid_112 rfl rfl rfl ?_
      refine Z_return dX5_goesPaid_115 rfl ?_
      first | exact kt (by omega) | exact kf (by omega)
theorem c_goesPaid0 {F : Nat → Nat → Prop} (hM : mOk P S) {n o x most : Nat} (h : oneC (I 0 46) (L 0 45) F) (hn : n < 4) (hx : x < 2 ^ 40) (kt : oneC (nI n) (lN x) (fun n2 x2 => F n2 x2 ∨ (n2 = n ∧ x2 = x)) → Q (.inl none) (zw I 0 46 (nI n)) (zw L 0 45 (lN x)) P S) (kf : oneC (I 0 46) (L 0 45) (fun n2 x2 => F n2 x2 ∨ (n2 = n ∧ x2 = x)) → Q (.inl none) I L P S) : Zm G mX5_goesPaid 2 C Sl [.ref 0, .int (nI n), .int (nI o), .int (nI 0), .long (lN x), .int (nI most)] I L P S Q := by
  rcases id h with ⟨e, -⟩ | ⟨n1, c1, ⟨q1, q2⟩, e46, e45, -, -⟩
  · exact c_goesPaid0n hM e (kt (oneC_1 h hn hx (Or.inl e)))
  · exact c_goesPaid0s hM e46 e45 (by omega) (by omega) hx q2 (fun q => kt (oneC_1 h hn hx (Or.inr ⟨n1, c1, ⟨q1, q2⟩, e46, e45, q⟩))) (fun q => kf (oneC_2 h ⟨q1, q2⟩ e46 e45 q))
def tChp : Nat → Nat → Bool := fun h k => h == 40 || (h == 0 && k == 46)
theorem tChp_w {a k : Nat} (h : wAt a k = true) : tChp a k = false := by
  unfold tChp
  by_cases e : a = 0
  · subst e
    by_cases e1 : k = 46
    · subst e1; exact absurd h (by decide)
    simp [e1]
  by_cases e3 : a = 40
  · subst e3; exact absurd h (by simp [wAt])
  simp [e, e3]
theorem tChp_40 {I2 : zI} (h : fr (fun x _ => x == 40) I I2) : fr tChp I I2 := h.wk fun a k q => by
  by_cases e : a = 40
  · subst e; exact absurd q (by simp [tChp])
  · simp [e]
/-- what the search leaves of the longs -/
def frCh (L L2 : zL) : Prop := ∀ h k, ¬ (h = 43 ∨ h = 44 ∨ (h = 0 ∧ k = 45)) → L2 h k = L h k
theorem frCh.rf : frCh L L := fun _ _ _ => rfl
theorem frCh.tr {L2 L3 : zL} (f : frCh L L2) (g : frCh L2 L3) : frCh L L3 := fun h k q => (g h k q).trans (f h k q)
theorem frCh.b {L2 : zL} {b : Nat} (hb : b = 43 ∨ b = 44) (f : ∀ y, y ≠ b → L2 y = L y) : frCh L L2 := fun h k q => congrFun (f h (fun e => q (by omega))) k
theorem frCh.w {L2 : zL} {v : Int64} (f : frCh L L2) : frCh L (zw L2 0 45 v) := fun h k q => by
  rw [← f h k q]
  unfold zw zu
  by_cases e : h = 0
  · subst e
    simp [show ¬ k = 45 from fun e => q (Or.inr (Or.inr ⟨rfl, e⟩))]
  · simp [e]
/-- the search within an hour: U have been gone through, F are the ends of earlier hours -/
def sC (W : zI) (p h most no b : Nat) (U : Nat → Nat → Nat → Nat → Prop) (F : Nat → Nat → Prop) (I : zI) (L : zL) : Prop := tblL (L b) (nxP W p h most no U) ∧ oneC (I 0 46) (L 0 45) (fun n x => F n x ∨ fxP W p h U n x) ∧ ∀ x y, x < no → y < no → I 40 (6 * x + y) = lst W x y (h + 1)
section SC
variable {p h most b n o l x : Nat} {U T : Nat → Nat → Nat → Nat → Prop} {F : Nat → Nat → Prop} {I2 I3 : zI} {L2 L3 : zL}
theorem sC_i (s : sC W p h most no b U F I L) (e : ∀ n o l x, U n o l x ↔ T n o l x) : sC W p h most no b T F I L := by
  have : U = T := by
    funext n o l x
    exact propext (e n o l x)
  rw [← this]
  exact s
theorem sC_n (s : sC W p h most no b U F I L) (h0 : 0 < l) (hw : wkO W p o h = false) (e : ∀ n2 o2 l2 x2, (U n2 o2 l2 x2 ∨ (n2 = n ∧ o2 = o ∧ l2 = l ∧ x2 = x)) ↔ T n2 o2 l2 x2) (t : tblL (L2 b) (gP (nxP W p h most no U) n o l x most (fun b => lsN W o b (h + 1)) no)) (f : ∀ y, y ≠ b → L2 y = L y) (hb : b = 43 ∨ b = 44) : sC W p h most no b T F I L2 := by
  have nw : ∀ {X : Prop}, wkO W p o h = true → X := fun q => absurd q (by rw [hw]; decide)
  refine ⟨tblL_eq t (fun n3 o3 l3 x3 => (gP_go n3 o3 l3 x3).trans ⟨fun q => (nxP_add h0 e n3 o3 l3 x3).mpr (q.elim Or.inl (fun q => Or.inr (Or.inl q))), fun q => ((nxP_add h0 e n3 o3 l3 x3).mp q).elim Or.inl (fun q => q.elim Or.inr (fun q => nw q.1))⟩), ?_, s.2.2⟩
  rw [f 0 (by omega)]
  exact oneC_i s.2.1 (fun n3 x3 => ⟨fun q => q.elim Or.inl (fun q => Or.inr ((fxP_add e n3 x3).mpr (Or.inl q))), fun q => q.elim Or.inl (fun q => ((fxP_add e n3 x3).mp q).elim Or.inr (fun q => nw q.1))⟩)
theorem sC_L (s : sC W p h most no b U F I L) (h1 : 1 < l) (hw : wkO W p o h = true) (e : ∀ n2 o2 l2 x2, (U n2 o2 l2 x2 ∨ (n2 = n ∧ o2 = o ∧ l2 = l ∧ x2 = x)) ↔ T n2 o2 l2 x2) (f : ∀ y, y ≠ b → L2 y = L y) (t : tblL (L3 b) (gP (gP (nxP W p h most no U) n o l x most (fun b => lsN W o b (h + 1)) no) n o (l - 1) (x + 512 * pyN W o) most (fun b => lsN W o b (h + 1)) no)) (f2 : ∀ y, y ≠ b → L3 y = L2 y) (hb : b = 43 ∨ b = 44) : sC W p h most no b T F I L3 := by
  refine ⟨tblL_eq t (fun n3 o3 l3 x3 => (gP_go n3 o3 l3 x3).trans ⟨fun q => (nxP_add (by omega) e n3 o3 l3 x3).mpr ?_, fun q => ?_⟩), ?_, s.2.2⟩
  · rcases q with q | q
    · exact ((gP_go n3 o3 l3 x3).mp q).elim Or.inl (fun q => Or.inr (Or.inl q))
    · exact Or.inr (Or.inr ⟨hw, h1, q⟩)
  · rcases (nxP_add (by omega) e n3 o3 l3 x3).mp q with q | q | ⟨-, -, q⟩
    · exact Or.inl ((gP_go n3 o3 l3 x3).mpr (Or.inl q))
    · exact Or.inl ((gP_go n3 o3 l3 x3).mpr (Or.inr q))
    · exact Or.inr q
  · rw [f2 0 (by omega), f 0 (by omega)]
    exact oneC_i s.2.1 (fun n3 x3 => ⟨fun q => q.elim Or.inl (fun q => Or.inr ((fxP_add e n3 x3).mpr (Or.inl q))), fun q => q.elim Or.inl (fun q => ((fxP_add e n3 x3).mp q).elim Or.inr (fun q => by omega))⟩)
theorem sC_0 (s : sC W p h most no b U F I L) (h1 : l = 1) (hw : wkO W p o h = true) (e : ∀ n2 o2 l2 x2, (U n2 o2 l2 x2 ∨ (n2 = n ∧ o2 = o ∧ l2 = l ∧ x2 = x)) ↔ T n2 o2 l2 x2) (t : tblL (L2 b) (gP (nxP W p h most no U) n o l x most (fun b => lsN W o b (h + 1)) no)) (hL : L3 b = L2 b) (hI : I3 40 = I 40) (g : oneC (I3 0 46) (L3 0 45) (fun n2 x2 => (F n2 x2 ∨ fxP W p h U n2 x2) ∨ (n2 = n ∧ x2 = x + 512 * pyN W o))) : sC W p h most no b T F I3 L3 := by
  refine ⟨?_, oneC_i g (fun n3 x3 => ⟨fun q => ?_, fun q => ?_⟩), by rw [hI]; exact s.2.2⟩
  · rw [hL]
    exact tblL_eq t (fun n3 o3 l3 x3 => (gP_go n3 o3 l3 x3).trans ⟨fun q => (nxP_add (by omega) e n3 o3 l3 x3).mpr (q.elim Or.inl (fun q => Or.inr (Or.inl q))), fun q => ((nxP_add (by omega) e n3 o3 l3 x3).mp q).elim Or.inl (fun q => q.elim Or.inr (fun q => by omega))⟩)
  · rcases q with (q | q) | q
    · exact Or.inl q
    · exact Or.inr ((fxP_add e n3 x3).mpr (Or.inl q))
    · exact Or.inr ((fxP_add e n3 x3).mpr (Or.inr ⟨hw, h1, q⟩))
  · rcases q with q | q
    · exact Or.inl (Or.inl q)
    · rcases (fxP_add e n3 x3).mp q with q | ⟨-, -, q⟩
      · exact Or.inl (Or.inr q)
      · exact Or.inr q
end SC
set_option maxHeartbeats 4000000 in
theorem chp_hr (hM : mOk P S) {a b : Nat} (hPa : P 0 43 = some a) (hPb : P 0 44 = some b) (hab : ((a = 43 ∧ b = 44) ∨ (a = 44 ∧ b = 43))) (hW : wld I = W) (hw : wf W no nn) (hk : knf W no) (hy : pyf W no) {p h0 h most en : Nat} (hp : p < nn) {T : Nat → Nat → Nat → Nat → Prop} {F : Nat → Nat → Prop} (hT : tblL A T) (hT2 : bdP most no 40000 T) (hA : L a = A) (hBz : ∀ j, j < 3072 → L b j = -1) (h46 : oneC (I 0 46) (L 0 45) F) (h40 : ∀ x y, x < no → y < no → I 40 (6 * x + y) = lst W x y (h + 1)) (hh : h < 2399) (hm : most ≤ 2) (k : ∀ I2 L2, L2 a = A → tblL (L2 b) (nxP W p h most no T) → oneC (I2 0 46) (L2 0 45) (fun n x => F n x ∨ fxP W p h T n x) → fr tChp I I2 → frCh L L2 → Zj G mX5_cheap 6 C Sl 277 [.ref 0, .int (nI p), .int (nI h0), .int (nI most), .int (nI en), .int (nI h), .retAddr 0, .retAddr 0, .retAddr 0, .retAddr 0, .retAddr 0, .retAddr 0] [] I2 L2 P S Q) : Zj G mX5_cheap 6 C Sl 118 [.ref 0, .int (nI p), .int (nI h0), .int (nI most), .int (nI en), .int (nI h), .retAddr 0, .retAddr 0, .retAddr 0, .retAddr 0, .retAddr 0, .retAddr 0] [] I L P S Q := by
  have hW0 := hW
  have h6 := hw.o6
  have n8 := hw.n8
  have hb : b = 43 ∨ b = 44 := by omega
  have hne : a ≠ b := by omega
  have hA0 : S a = some (.inr (.long, 3072)) := by rcases hab with ⟨rfl, -⟩ | ⟨rfl, -⟩ <;> exact hM.2.1 _ _ rfl
  have hB : S b = some (.inr (.long, 3072)) := by rcases hb with rfl | rfl <;> exact hM.2.1 _ _ rfl
  have emp : ∀ m o l, m < 4 → o < 6 → l < 128 → (∀ c, ¬ T m o l c) → A (pl m o l) = -1 := fun m o l q1 q2 q3 q4 => by
    rcases hT m o l q1 q2 q3 with ⟨e, -⟩ | ⟨c, -, -, q, -⟩
    · exact e
    · exact absurd q (q4 c)
  refine Z_iconst (nI 0) dX5_cheap_118 rfl ?_
  refine Z_istore (lv' := [_, _, _, _, _, _, _, _, _, _, _, _]) dX5_cheap_119 rfl rfl (Nat.le_of_ble_eq_true rfl) ?_
  have lp121 : ∀ m, m ≤ most + 1 → ∀ I3 L3, L3 a = A → sC W p h most no b (plL A (pl m 0 0)) F I3 L3 → fr tChp I I3 → frCh L L3 → Zj G mX5_cheap 6 C Sl 121 [.ref 0, .int (nI p), .int (nI h0), .int (nI most), .int (nI en), .int (nI h), .int (nI m), .retAddr 0, .retAddr 0, .retAddr 0, .retAddr 0, .retAddr 0] [] I3 L3 P S Q := by
    refine zloop (most + 1) (fun m => ∀ I3 L3, L3 a = A → sC W p h most no b (plL A (pl m 0 0)) F I3 L3 → fr tChp I I3 → frCh L L3 → Zj G mX5_cheap 6 C Sl 121 [.ref 0, .int (nI p), .int (nI h0), .int (nI most), .int (nI en), .int (nI h), .int (nI m), .retAddr 0, .retAddr 0, .retAddr 0, .retAddr 0, .retAddr 0] [] I3 L3 P S Q) (fun m hmx ihm => ?_)
    intro I3 L3 hA3 gs fI fL
    show Zj _ _ _ _ _ _ _ _ _ _ _ _ _
    have hW : wld I3 = W := (wld_fr fI (fun _ _ => tChp_w)).trans hW0
    refine Z_iload dX5_cheap_121 rfl ?_
    refine Z_iload_n dX5_cheap_123 rfl ?_
    refine Z_icmpgtN 277 dX5_cheap_124 rfl (by omega) (by omega) (fun c124 => ?_) (fun c124 => ?_)
    · have em : m = most + 1 := by omega
      rw [em] at gs
      exact Z_fgt (k _ _ hA3 (tblL_next hT hT2 h6 hm gs.1) (oneC_fin hT hT2 h6 hm gs.2.1) fI fL) (by repeat first | exact zwk_n | refine zwk_f ?_ | refine zwk_c rfl ?_)
    · refine Z_iconst (nI 0) dX5_cheap_127 rfl ?_
      refine Z_istore (lv' := [_, _, _, _, _, _, _, _, _, _, _, _]) dX5_cheap_128 rfl rfl (Nat.le_of_ble_eq_true rfl) ?_
      have lp130 : ∀ o, o ≤ no → ∀ I3 L3, L3 a = A → sC W p h most no b (plL A (pl m o 0)) F I3 L3 → fr tChp I I3 → frCh L L3 → Zj G mX5_cheap 6 C Sl 130 [.ref 0, .int (nI p), .int (nI h0), .int (nI most), .int (nI en), .int (nI h), .int (nI m), .int (nI o), .retAddr 0, .retAddr 0, .retAddr 0, .retAddr 0] [] I3 L3 P S Q := by
        refine zloop (no) (fun o => ∀ I3 L3, L3 a = A → sC W p h most no b (plL A (pl m o 0)) F I3 L3 → fr tChp I I3 → frCh L L3 → Zj G mX5_cheap 6 C Sl 130 [.ref 0, .int (nI p), .int (nI h0), .int (nI most), .int (nI en), .int (nI h), .int (nI m), .int (nI o), .retAddr 0, .retAddr 0, .retAddr 0, .retAddr 0] [] I3 L3 P S Q) (fun o hox iho => ?_)
        intro I3 L3 hA3 gs fI fL
        show Zj _ _ _ _ _ _ _ _ _ _ _ _ _
        have hW : wld I3 = W := (wld_fr fI (fun _ _ => tChp_w)).trans hW0
        refine Z_iload dX5_cheap_130 rfl ?_
        refine Z_aload_n dX5_cheap_132 rfl ?_
        refine Z_getI hM.1 fX5_22_4 dX5_cheap_133 rfl ?_
        refine Z_re ((wr (by first | exact hW | (simp only [wld_zw23, wld_zw33, wld_zw27, wld_zw34, wld_zw35, wld_zw36, wld_zw0, wld_zw1, wld_zu23]; exact hW)) rfl).trans hw.o3) ?_
        refine Z_icmpgeN 271 dX5_cheap_136 rfl (by omega) (by omega) (fun c136 => ?_) (fun c136 => ?_)
        · have eo : o = no := by omega
          rw [eo] at gs
          refine Z_iincN (a := _) (k := 1) (lv' := [_, _, _, _, _, _, _, _, _, _, _, _]) dX5_cheap_271 rfl rfl rfl rfl ?_
          refine Z_goto 121 dX5_cheap_274 rfl ?_
          exact Z_fgt (ihm (by omega) _ _ hA3 (sC_i gs (plL_o hT (fun _ _ _ _ q => (hT2 _ _ _ _ q).2.1) h6 (by omega))) fI fL) (by repeat first | exact zwk_n | refine zwk_f ?_ | refine zwk_c rfl ?_)
        · refine Z_cut0 174 (.int (nI (bI (wkO W p o h)))) (fun jn174 => ?_) ?_
          · refine Z_aload_n dX5_cheap_139 rfl ?_
            refine Z_iload dX5_cheap_140 rfl ?_
            refine Z_iload dX5_cheap_142 rfl ?_
            refine Z_call0 (d' := 2) (zCal_V gX5_120 nX5_isOpen (by decide) dX5_cheap_144) pX5_isOpen hM.1 zkl4 [_, _] rfl rfl (Nat.le_of_ble_eq_true rfl) (by omega) (c_isOpenW hM (by first | exact hW | (simp only [wld_zw23, wld_zw33, wld_zw27, wld_zw34, wld_zw35, wld_zw36, wld_zw0, wld_zw1, wld_zu23]; exact hW)) (by omega) (fun h144 => ?_) (fun h144 => ?_))
            · refine Z_ifeq 173 dX5_cheap_147 rfl (fun h => absurd h (by decide)) (fun _ => ?_)
              refine Z_aload_n dX5_cheap_150 rfl ?_
              refine Z_getR (r := 9) hM.1 fX5_47_4 dX5_cheap_151 rfl (hM.2.2 9 _ rfl rfl) ?_
              refine Z_iload dX5_cheap_154 rfl ?_
              refine Z_iald (hM.2.1 9 _ rfl) (zix_nI (by omega) (by decide)) dX5_cheap_156 ?_
              refine Z_re (wr (by first | exact hW | (simp only [wld_zw23, wld_zw33, wld_zw27, wld_zw34, wld_zw35, wld_zw36, wld_zw0, wld_zw1, wld_zu23]; exact hW)) rfl) ?_
              refine Z_aload_n dX5_cheap_157 rfl ?_
              refine Z_getR (r := 17) hM.1 fX5_154_4 dX5_cheap_158 rfl (hM.2.2 17 _ rfl rfl) ?_
              refine Z_iload_n dX5_cheap_161 rfl ?_
              refine Z_iald (hM.2.1 17 _ rfl) (zix_nI (by omega) (by decide)) dX5_cheap_162 ?_
              refine Z_re (wr (by first | exact hW | (simp only [wld_zw23, wld_zw33, wld_zw27, wld_zw34, wld_zw35, wld_zw36, wld_zw0, wld_zw1, wld_zu23]; exact hW)) rfl) ?_
              refine Z_callS0 (d' := 0) (zCal_S gX5_137 nX5_has (by decide) dX5_cheap_163) pX5_has [_, _] rfl rfl (Nat.le_of_ble_eq_true rfl) (by omega) (c_X5_has (fun h163 => ?_) (fun h163 => ?_))
              · refine Z_ifeq 173 dX5_cheap_166 rfl (fun h => absurd h (by decide)) (fun _ => ?_)
                refine Z_iconst (nI 1) dX5_cheap_169 rfl ?_
                refine Z_goto 174 dX5_cheap_170 rfl ?_
                exact Z_re (by simp [wkO, bI, h144, h163]) jn174
              · refine Z_ifeq 173 dX5_cheap_166 rfl (fun _ => ?_) (fun h => absurd h (by decide))
                refine Z_iconst (nI 0) dX5_cheap_173 rfl ?_
                exact Z_re (by simp [wkO, bI, h144, h163]) jn174
            · refine Z_ifeq 173 dX5_cheap_147 rfl (fun _ => ?_) (fun h => absurd h (by decide))
              refine Z_iconst (nI 0) dX5_cheap_173 rfl ?_
              exact Z_re (by simp [wkO, bI, h144]) jn174
          · have hbi := bI_lt (wkO W p o h)
            refine Z_istore (lv' := [_, _, _, _, _, _, _, _, _, _, _, _]) dX5_cheap_174 rfl rfl (Nat.le_of_ble_eq_true rfl) ?_
            refine Z_iconst (nI 1) dX5_cheap_176 rfl ?_
            refine Z_istore (lv' := [_, _, _, _, _, _, _, _, _, _, _, _]) dX5_cheap_177 rfl rfl (Nat.le_of_ble_eq_true rfl) ?_
            have lp179 : ∀ l, l ≤ 128 → 1 ≤ l → ∀ I3 L3, L3 a = A → sC W p h most no b (plL A (pl m o l)) F I3 L3 → fr tChp I I3 → frCh L L3 → Zj G mX5_cheap 6 C Sl 179 [.ref 0, .int (nI p), .int (nI h0), .int (nI most), .int (nI en), .int (nI h), .int (nI m), .int (nI o), .int (nI (bI (wkO W p o h))), .int (nI l), .retAddr 0, .retAddr 0] [] I3 L3 P S Q := by
              refine zloop (128) (fun l => 1 ≤ l → ∀ I3 L3, L3 a = A → sC W p h most no b (plL A (pl m o l)) F I3 L3 → fr tChp I I3 → frCh L L3 → Zj G mX5_cheap 6 C Sl 179 [.ref 0, .int (nI p), .int (nI h0), .int (nI most), .int (nI en), .int (nI h), .int (nI m), .int (nI o), .int (nI (bI (wkO W p o h))), .int (nI l), .retAddr 0, .retAddr 0] [] I3 L3 P S Q) (fun l hlx ihl => ?_)
              intro hl1 I3 L3 hA3 gs fI fL
              show Zj _ _ _ _ _ _ _ _ _ _ _ _ _
              have hW : wld I3 = W := (wld_fr fI (fun _ _ => tChp_w)).trans hW0
              refine Z_iload dX5_cheap_179 rfl ?_
              refine Z_sipush (nI 128) dX5_cheap_181 rfl ?_
              refine Z_icmpgeN 265 dX5_cheap_184 rfl (by omega) (by omega) (fun c184 => ?_) (fun c184 => ?_)
              · have el : l = 128 := by omega
                rw [el] at gs
                refine Z_iincN (a := _) (k := 1) (lv' := [_, _, _, _, _, _, _, _, _, _, _, _]) dX5_cheap_265 rfl rfl rfl rfl ?_
                refine Z_goto 130 dX5_cheap_268 rfl ?_
                have gs2 : sC W p h most no b (plL A (pl m (o + 1) 0)) F I3 L3 := by
                  have e : pl m (o + 1) 0 = pl m o 128 := by unfold pl; omega
                  rw [e]
                  exact gs
                exact Z_fgt (iho (by omega) _ _ hA3 gs2 fI fL) (by repeat first | exact zwk_n | refine zwk_f ?_ | refine zwk_c rfl ?_)
              · refine Z_aload_n dX5_cheap_187 rfl ?_
                refine Z_getR (r := a) hM.1 fX5_394_4 dX5_cheap_188 rfl hPa ?_
                refine Z_iload dX5_cheap_191 rfl ?_
                refine Z_iload dX5_cheap_193 rfl ?_
                refine Z_iload dX5_cheap_195 rfl ?_
                refine Z_callS0 (d' := 0) (zCal_S gX5_344 nX5_placeAt (by decide) dX5_cheap_197) pX5_placeAt [_, _, _] rfl rfl (Nat.le_of_ble_eq_true rfl) (by omega) (c_X5_placeAt  ?_)
                refine Z_lald hA0 (zix_nI (by omega) (by decide)) dX5_cheap_200 ?_
                refine Z_rl (congrFun hA3 _) ?_
                rcases hT m o l (by omega) (by omega) (by omega) with ⟨e, -⟩ | ⟨x, hc, e, hTc, -⟩
                · refine Z_rl (y := -1) e ?_
                  refine Z_lstore (lv' := [_, _, _, _, _, _, _, _, _, _, _, _]) dX5_cheap_201 rfl rfl (Nat.le_of_ble_eq_true rfl) ?_
                  refine Z_lload dX5_cheap_203 rfl ?_
                  refine Z_lconst (lN 0) dX5_cheap_205 rfl ?_
                  refine Z_lcmp dX5_cheap_206 ?_
                  refine Z_ifge 213 dX5_cheap_207 rfl (fun c207 => ?_) (fun c207 => ?_)
                  · exact absurd c207 (by decide)
                  · refine Z_goto 259 dX5_cheap_210 rfl ?_
                    refine Z_iincN (a := _) (k := 1) (lv' := [_, _, _, _, _, _, _, _, _, _, _, _]) dX5_cheap_259 rfl rfl rfl rfl ?_
                    refine Z_goto 179 dX5_cheap_262 rfl ?_
                    exact Z_fgt (ihl (by omega) (by omega) _ _ hA3 (sC_i gs (plL_n e)) fI fL) (by repeat first | exact zwk_n | refine zwk_f ?_ | refine zwk_c rfl ?_)
                · refine Z_rl (y := lN x) e ?_
                  obtain ⟨⟨b1, b0⟩, b2, ⟨b3, b4⟩, b5⟩ := hT2 m o l x hTc
                  have hpy := (pyf_b hy (show o < no by omega)).2
                  have eU := plL_c (A := A) (n := m) (o := o) (l := l) (x := x) (by omega) (by omega) (by omega) e
                  refine Z_lstore (lv' := [_, _, _, _, _, _, _, _, _, _, _, _]) dX5_cheap_201 rfl rfl (Nat.le_of_ble_eq_true rfl) ?_
                  refine Z_lload dX5_cheap_203 rfl ?_
                  refine Z_lconst (lN 0) dX5_cheap_205 rfl ?_
                  refine Z_lcmp dX5_cheap_206 ?_
                  refine Z_ifge 213 dX5_cheap_207 rfl (fun c207 => ?_) (fun c207 => ?_)
                  · refine Z_aload_n dX5_cheap_213 rfl ?_
                    refine Z_iload dX5_cheap_214 rfl ?_
                    refine Z_iload dX5_cheap_216 rfl ?_
                    refine Z_iload dX5_cheap_218 rfl ?_
                    refine Z_lload dX5_cheap_220 rfl ?_
                    refine Z_iload_n dX5_cheap_222 rfl ?_
                    refine Z_call0 (d' := 2) (zCal_V gX5_401 nX5_goesPaid (by decide) dX5_cheap_223) pX5_goesPaid hM.1 zkl4 [_, _, _, _, _] rfl rfl (Nat.le_of_ble_eq_true rfl) (by omega) (c_goesPaidL (a := b) (T := nxP W p h most no (plL A (pl m o l))) (ls := fun y => lsN W o y (h + 1)) hM ((wr hW rfl).trans hw.o3) h6 hPb hB gs.1 (by omega) hm (by omega) (by omega) hl1 (by omega) (fun q y hy => ⟨(gs.2.2 o y (by omega) hy).trans (lst_b hk (by omega) hy).1, by show l + lsN W o y (h + 1) < 128; have := (lst_b (h := h + 1) hk (a := o) (b := y) (by omega) hy).2; omega⟩) (fun L4 t213 y213 => ?_))
                    refine Z_iload dX5_cheap_226 rfl ?_
                    refine Z_ifeqN 259 dX5_cheap_228 rfl (by omega) (fun c228 => ?_) (fun c228 => ?_)
                    · refine Z_iincN (a := _) (k := 1) (lv' := [_, _, _, _, _, _, _, _, _, _, _, _]) dX5_cheap_259 rfl rfl rfl rfl ?_
                      refine Z_goto 179 dX5_cheap_262 rfl ?_
                      exact Z_fgt (ihl (by omega) (by omega) _ _ ((y213 a hne).trans hA3) (sC_n gs hl1 (bI_0.mp c228) eU t213 y213 hb) fI (fL.tr (frCh.b hb y213))) (by repeat first | exact zwk_n | refine zwk_f ?_ | refine zwk_c rfl ?_)
                    · refine Z_aload_n dX5_cheap_231 rfl ?_
                      refine Z_iload dX5_cheap_232 rfl ?_
                      refine Z_iload dX5_cheap_234 rfl ?_
                      refine Z_iload dX5_cheap_236 rfl ?_
                      refine Z_iconst (nI 1) dX5_cheap_238 rfl ?_
                      refine Z_isubN dX5_cheap_239 (by omega) ?_
                      rcases Nat.lt_or_ge 1 l with hz | hz
                      · refine Z_lload dX5_cheap_240 rfl ?_
                        refine Z_aload_n dX5_cheap_242 rfl ?_
                        refine Z_getR (r := 7) hM.1 fX5_41_4 dX5_cheap_243 rfl (hM.2.2 7 _ rfl rfl) ?_
                        refine Z_iload dX5_cheap_246 rfl ?_
                        refine Z_iald (hM.2.1 7 _ rfl) (zix_nI (by omega) (by decide)) dX5_cheap_248 ?_
                        refine Z_re (wr (by first | exact hW | (simp only [wld_zw23, wld_zw33, wld_zw27, wld_zw34, wld_zw35, wld_zw36, wld_zw0, wld_zw1, wld_zu23]; exact hW)) rfl) ?_
                        refine Z_re (y := nI (pyN W o)) (pyf_b hy (show o < no by omega)).1 ?_
                        refine Z_i2lN dX5_cheap_249 (by omega) ?_
                        refine Z_ldc2 q1594 dX5_cheap_250 ?_
                        refine Z_rl (y := lN 512) rfl ?_
                        refine Z_lmulN dX5_cheap_253 ?_
                        refine Z_laddN dX5_cheap_254 ?_
                        refine Z_rl (y := lN (x + 512 * pyN W o)) (by rw [Nat.mul_comm]) ?_
                        refine Z_iload_n dX5_cheap_255 rfl ?_
                        refine Z_call0 (d' := 2) (zCal_V gX5_401 nX5_goesPaid (by decide) dX5_cheap_256) pX5_goesPaid hM.1 zkl4 [_, _, _, _, _] rfl rfl (Nat.le_of_ble_eq_true rfl) (by omega) (c_goesPaidL (a := b) (T := gP (nxP W p h most no (plL A (pl m o l))) m o l x most (fun b => lsN W o b (h + 1)) no) (ls := fun y => lsN W o y (h + 1)) hM ((wr hW rfl).trans hw.o3) h6 hPb hB t213 (by omega) hm (by omega) (by omega) (by omega) (by omega) (fun q y hy => ⟨(gs.2.2 o y (by omega) hy).trans (lst_b hk (by omega) hy).1, by show (l - 1) + lsN W o y (h + 1) < 128; have := (lst_b (h := h + 1) hk (a := o) (b := y) (by omega) hy).2; omega⟩) (fun L5 t256 y256 => ?_))
                        refine Z_iincN (a := _) (k := 1) (lv' := [_, _, _, _, _, _, _, _, _, _, _, _]) dX5_cheap_259 rfl rfl rfl rfl ?_
                        refine Z_goto 179 dX5_cheap_262 rfl ?_
                        have s4 := sC_L gs hz (bI_1.mp c228) eU y213 t256 y256 hb
                        exact Z_fgt (ihl (by omega) (by omega) _ _ ((y256 a hne).trans ((y213 a hne).trans hA3)) s4 fI ((fL.tr (frCh.b hb y213)).tr (frCh.b hb y256))) (by repeat first | exact zwk_n | refine zwk_f ?_ | refine zwk_c rfl ?_)
                      · have hz : l = 1 := by omega
                        refine Z_re (y := nI 0) (by rw [hz]) ?_
                        refine Z_lload dX5_cheap_240 rfl ?_
                        refine Z_aload_n dX5_cheap_242 rfl ?_
                        refine Z_getR (r := 7) hM.1 fX5_41_4 dX5_cheap_243 rfl (hM.2.2 7 _ rfl rfl) ?_
                        refine Z_iload dX5_cheap_246 rfl ?_
                        refine Z_iald (hM.2.1 7 _ rfl) (zix_nI (by omega) (by decide)) dX5_cheap_248 ?_
                        refine Z_re (wr (by first | exact hW | (simp only [wld_zw23, wld_zw33, wld_zw27, wld_zw34, wld_zw35, wld_zw36, wld_zw0, wld_zw1, wld_zu23]; exact hW)) rfl) ?_
                        refine Z_re (y := nI (pyN W o)) (pyf_b hy (show o < no by omega)).1 ?_
                        refine Z_i2lN dX5_cheap_249 (by omega) ?_
                        refine Z_ldc2 q1594 dX5_cheap_250 ?_
                        refine Z_rl (y := lN 512) rfl ?_
                        refine Z_lmulN dX5_cheap_253 ?_
                        refine Z_laddN dX5_cheap_254 ?_
                        refine Z_rl (y := lN (x + 512 * pyN W o)) (by rw [Nat.mul_comm]) ?_
                        refine Z_iload_n dX5_cheap_255 rfl ?_
                        refine Z_call0 (d' := 2) (zCal_V gX5_401 nX5_goesPaid (by decide) dX5_cheap_256) pX5_goesPaid hM.1 zkl4 [_, _, _, _, _] rfl rfl (Nat.le_of_ble_eq_true rfl) (by omega) (c_goesPaid0 hM (F := fun n x => F n x ∨ fxP W p h (plL A (pl m o l)) n x) (by rw [y213 0 (by omega)]; exact gs.2.1) (by omega) (by omega) (fun q256 => ?_) (fun q256 => ?_))
                        · refine Z_iincN (a := _) (k := 1) (lv' := [_, _, _, _, _, _, _, _, _, _, _, _]) dX5_cheap_259 rfl rfl rfl rfl ?_
                          refine Z_goto 179 dX5_cheap_262 rfl ?_
                          have s4 := sC_0 (I3 := zw I3 0 46 (nI m)) (L3 := zw L4 0 45 (lN (x + 512 * pyN W o))) gs hz (bI_1.mp c228) eU t213 (zw_n _ _ _ _ (by omega)) (zw_n _ _ _ _ (by decide)) (by rw [zw_s, zw_s]; exact q256)
                          exact Z_fgt (ihl (by omega) (by omega) _ _ ((zw_n _ _ _ _ (by omega)).trans ((y213 a hne).trans hA3)) s4 (fI.st rfl) (frCh.w (fL.tr (frCh.b hb y213)))) (by repeat first | exact zwk_n | refine zwk_f ?_ | refine zwk_c rfl ?_)
                        · have hz9 : True := trivial
                          refine Z_iincN (a := _) (k := 1) (lv' := [_, _, _, _, _, _, _, _, _, _, _, _]) dX5_cheap_259 rfl rfl rfl rfl ?_
                          refine Z_goto 179 dX5_cheap_262 rfl ?_
                          have s4 := sC_0 (I3 := I3) (L3 := L4) gs hz (bI_1.mp c228) eU t213 rfl rfl q256
                          exact Z_fgt (ihl (by omega) (by omega) _ _ ((y213 a hne).trans hA3) s4 fI (fL.tr (frCh.b hb y213))) (by repeat first | exact zwk_n | refine zwk_f ?_ | refine zwk_c rfl ?_)
                  · exact absurd ((lgN_lt (by omega) (by decide)).mp (Int32.not_le.mp c207)) (Nat.not_lt_zero _)
            have e0 : A (pl m o 0) = -1 := emp m o 0 (by omega) (by omega) (by omega) (fun c q => by have := (hT2 _ _ _ _ q).2.2.1.1; omega)
            exact lp179 1 (by omega) (by omega) _ _ hA3 (sC_i gs (plL_n e0)) fI fL
      exact lp130 0 (by omega) _ _ hA3 gs fI fL
  refine lp121 0 (by omega) _ _ hA ⟨?_, ?_, h40⟩ fr.rf frCh.rf
  · refine tblL_eq (tblL_0 hBz) (fun n o l c => ⟨fun q => absurd q (by simp), ?_⟩)
    rintro ⟨n1, o1, l1, x1, ⟨⟨q, -⟩, -⟩ | ⟨-, x2, ⟨⟨q, -⟩, -⟩, -⟩, -⟩
    all_goals exact absurd q (by simp [pl])
  · refine oneC_i h46 (fun n c => ⟨Or.inl, fun q => q.elim id ?_⟩)
    rintro ⟨o, x1, ⟨⟨q, -⟩, -⟩, -⟩
    exact absurd q (by simp [pl])
theorem rcc_bd {born len p h0 most : Nat} (hk : knf W no) (hy : pyf W no) (hb : W 20 p = nI born) (hbn : born < no) (h6 : no ≤ 6) (hl : W 18 p = nI len) (hl0 : 0 < len) (hl6 : len ≤ 60) (hm : most ≤ 2) {i : Nat} (hi : i ≤ 400) : bdP most no 40000 (rcc W p h0 most no i) := fun n o l x q => by
  obtain ⟨⟨a1, a2, -⟩, a3, ⟨a4, a5⟩, a6⟩ := rcc_b hk hy (born := born) (by rw [hb, nI_clamp (by omega)]) hbn h6 (len := len) (by rw [hl, nI_clamp (by omega)]) hl0 hm i n o l x q
  exact ⟨⟨a1, a2.1⟩, a3, ⟨a4, by omega⟩, by omega⟩
set_option maxHeartbeats 4000000 in
theorem chp_all (hM : mOk P S) (hSw : (P 0 43 = some 43 ∧ P 0 44 = some 44) ∨ (P 0 43 = some 44 ∧ P 0 44 = some 43)) (hW : wld I = W) (hw : wf W no nn) (hk : knf W no) (hy : pyf W no) {p h0 most en b0 len : Nat} (hp : p < nn) (hb0n : b0 < no) (e20 : W 20 p = nI b0) (e18 : W 18 p = nI len) (hl0 : 0 < len) (hl : len ≤ 60) (hh : h0 ≤ en) (he : en ≤ 2399) (he2 : en ≤ h0 + 400) (hm : most ≤ 2) (k : ∀ I2 L2 P2, oneC (I2 0 46) (L2 0 45) (fun n x => ∃ j, j < en - h0 ∧ fiC W p h0 most no j n x) → mOk P2 S → (∀ x k, ¬ (x = 0 ∧ (k = 43 ∨ k = 44)) → P2 x k = P x k) → ∀ {a b : Nat}, ((a = 43 ∧ b = 44) ∨ (a = 44 ∧ b = 43)) → P2 0 43 = some a → P2 0 44 = some b → fr tChp I I2 → frCh L L2 → Zj G mX5_cheap 6 C Sl 303 [.ref 0, .int (nI p), .int (nI h0), .int (nI most), .int (nI en), .retAddr 0, .retAddr 0, .retAddr 0, .retAddr 0, .retAddr 0, .retAddr 0, .retAddr 0] [] I2 L2 P2 S Q) : Zj G mX5_cheap 6 C Sl 57 [.ref 0, .int (nI p), .int (nI h0), .int (nI most), .int (nI en), .retAddr 0, .retAddr 0, .retAddr 0, .retAddr 0, .retAddr 0, .retAddr 0, .retAddr 0] [] I L P S Q := by
  have hW0 := hW
  have n8 := hw.n8
  have h6 := hw.o6
  obtain ⟨a, b, hab, hPa, hPb⟩ : ∃ a b, ((a = 43 ∧ b = 44) ∨ (a = 44 ∧ b = 43)) ∧ P 0 43 = some a ∧ P 0 44 = some b := by
    rcases hSw with ⟨q1, q2⟩ | ⟨q1, q2⟩
    · exact ⟨43, 44, Or.inl ⟨rfl, rfl⟩, q1, q2⟩
    · exact ⟨44, 43, Or.inr ⟨rfl, rfl⟩, q1, q2⟩
  have hA0 : S a = some (.inr (.long, 3072)) := by rcases hab with ⟨rfl, -⟩ | ⟨rfl, -⟩ <;> exact hM.2.1 _ _ rfl
  have hba : a = 43 ∨ a = 44 := by omega
  refine Z_aload_n dX5_cheap_57 rfl ?_
  refine Z_aload_n dX5_cheap_58 rfl ?_
  refine Z_getR (r := a) hM.1 fX5_394_4 dX5_cheap_59 rfl hPa ?_
  refine Z_call0 (d' := 0) (zCal_V gX5_397 nX5_emptiesPaid (by decide) dX5_cheap_62) pX5_emptiesPaid hM.1 zkl4 [_] rfl rfl (Nat.le_of_ble_eq_true rfl) (by omega) (c_X5_emptiesPaid hA0 (fun L1 z62 y62 => ?_))
  refine Z_aload_n dX5_cheap_65 rfl ?_
  refine Z_getR (r := a) hM.1 fX5_394_4 dX5_cheap_66 rfl hPa ?_
  refine Z_iconst (nI 0) dX5_cheap_69 rfl ?_
  refine Z_aload_n dX5_cheap_70 rfl ?_
  refine Z_getR (r := 20) hM.1 fX5_143_4 dX5_cheap_71 rfl (hM.2.2 20 _ rfl rfl) ?_
  refine Z_iload_n dX5_cheap_74 rfl ?_
  refine Z_iald (hM.2.1 20 _ rfl) (zix_nI (by omega) (by decide)) dX5_cheap_75 ?_
  refine Z_re (wr (by first | exact hW | (simp only [wld_zw23, wld_zw33, wld_zw27, wld_zw34, wld_zw35, wld_zw36, wld_zw0, wld_zw1, wld_zu23]; exact hW)) rfl) ?_
  refine Z_re (y := nI (b0)) e20 ?_
  refine Z_aload_n dX5_cheap_76 rfl ?_
  refine Z_getR (r := 18) hM.1 fX5_146_4 dX5_cheap_77 rfl (hM.2.2 18 _ rfl rfl) ?_
  refine Z_iload_n dX5_cheap_80 rfl ?_
  refine Z_iald (hM.2.1 18 _ rfl) (zix_nI (by omega) (by decide)) dX5_cheap_81 ?_
  refine Z_re (wr (by first | exact hW | (simp only [wld_zw23, wld_zw33, wld_zw27, wld_zw34, wld_zw35, wld_zw36, wld_zw0, wld_zw1, wld_zu23]; exact hW)) rfl) ?_
  refine Z_re (y := nI (len)) e18 ?_
  refine Z_callS0 (d' := 0) (zCal_S gX5_344 nX5_placeAt (by decide) dX5_cheap_82) pX5_placeAt [_, _, _] rfl rfl (Nat.le_of_ble_eq_true rfl) (by omega) (c_X5_placeAt  ?_)
  refine Z_lconst (lN 0) dX5_cheap_85 rfl ?_
  refine Z_last hA0 (zix_nI (by omega) (by decide)) dX5_cheap_86 ?_
  refine Z_aload_n dX5_cheap_87 rfl ?_
  refine Z_iconst (-1) dX5_cheap_88 rfl ?_
  refine Z_putI hM.1 fX5_379_4 dX5_cheap_89 rfl rfl rfl ?_
  refine Z_iload_n dX5_cheap_92 rfl ?_
  refine Z_istore (lv' := [_, _, _, _, _, _, _, _, _, _, _, _]) dX5_cheap_93 rfl rfl (Nat.le_of_ble_eq_true rfl) ?_
  have lp95 : ∀ i, i ≤ en - h0 → ∀ I2 L2 P2 a b, ((a = 43 ∧ b = 44) ∨ (a = 44 ∧ b = 43)) → P2 0 43 = some a → P2 0 44 = some b → mOk P2 S → (∀ x k, ¬ (x = 0 ∧ (k = 43 ∨ k = 44)) → P2 x k = P x k) → fr tChp I I2 → frCh L L2 → tblL (L2 a) (rcc W p h0 most no i) → oneC (I2 0 46) (L2 0 45) (fun n x => ∃ j, j < i ∧ fiC W p h0 most no j n x) → Zj G mX5_cheap 6 C Sl 95 [.ref 0, .int (nI p), .int (nI h0), .int (nI most), .int (nI en), .int (nI (h0 + i)), .retAddr 0, .retAddr 0, .retAddr 0, .retAddr 0, .retAddr 0, .retAddr 0] [] I2 L2 P2 S Q := by
    refine zloop (en - h0) (fun i => ∀ I2 L2 P2 a b, ((a = 43 ∧ b = 44) ∨ (a = 44 ∧ b = 43)) → P2 0 43 = some a → P2 0 44 = some b → mOk P2 S → (∀ x k, ¬ (x = 0 ∧ (k = 43 ∨ k = 44)) → P2 x k = P x k) → fr tChp I I2 → frCh L L2 → tblL (L2 a) (rcc W p h0 most no i) → oneC (I2 0 46) (L2 0 45) (fun n x => ∃ j, j < i ∧ fiC W p h0 most no j n x) → Zj G mX5_cheap 6 C Sl 95 [.ref 0, .int (nI p), .int (nI h0), .int (nI most), .int (nI en), .int (nI (h0 + i)), .retAddr 0, .retAddr 0, .retAddr 0, .retAddr 0, .retAddr 0, .retAddr 0] [] I2 L2 P2 S Q) (fun i hi ih => ?_)
    intro I2 L2 P2 a b hab hPa hPb hM hPf f2 g2 hT hB9
    show Zj _ _ _ _ _ _ _ _ _ _ _ _ _
    have hW2 : wld I2 = W := (wld_fr f2 (fun _ _ => tChp_w)).trans hW0
    have hb : b = 43 ∨ b = 44 := by omega
    have hne : a ≠ b := by omega
    have hA0 : S a = some (.inr (.long, 3072)) := by rcases hab with ⟨rfl, -⟩ | ⟨rfl, -⟩ <;> exact hM.2.1 _ _ rfl
    have hB0 : S b = some (.inr (.long, 3072)) := by rcases hb with rfl | rfl <;> exact hM.2.1 _ _ rfl
    refine Z_iload dX5_cheap_95 rfl ?_
    refine Z_iload dX5_cheap_97 rfl ?_
    refine Z_icmpgeN 303 dX5_cheap_99 rfl (by omega) (by omega) (fun c99 => ?_) (fun c99 => ?_)
    · have hz9 : True := trivial
      have ei : i = en - h0 := by omega
      rw [ei] at hB9
      exact Z_fgt (k _ _ _ hB9 hM hPf hab hPa hPb f2 g2) (by repeat first | exact zwk_n | refine zwk_f ?_ | refine zwk_c rfl ?_)
    · refine Z_aload_n dX5_cheap_102 rfl ?_
      refine Z_aload_n dX5_cheap_103 rfl ?_
      refine Z_getR (r := b) hM.1 fX5_374_4 dX5_cheap_104 rfl hPb ?_
      refine Z_call0 (d' := 0) (zCal_V gX5_397 nX5_emptiesPaid (by decide) dX5_cheap_107) pX5_emptiesPaid hM.1 zkl4 [_] rfl rfl (Nat.le_of_ble_eq_true rfl) (by omega) (c_X5_emptiesPaid hB0 (fun L3 z107 y107 => ?_))
      refine Z_aload_n dX5_cheap_110 rfl ?_
      refine Z_iload dX5_cheap_111 rfl ?_
      refine Z_iconst (nI 1) dX5_cheap_113 rfl ?_
      refine Z_iaddN dX5_cheap_114 ?_
      refine Z_call0 (d' := 5) (zCal_V gX5_353 nX5_losesAll (by decide) dX5_cheap_115) pX5_losesAll hM.1 zkl4 [_] rfl rfl (Nat.le_of_ble_eq_true rfl) (by omega) (c_X5_losesAll hM hW2 hw.o3 hw.o6 (by omega) (fun I4 z115 y115 => ?_))
      have hA4 : L3 a = L2 a := y107 a hne
      have hB4 : ∀ j, j < 3072 → L3 b j = -1 := z107
      have f4 : fr tChp I2 I4 := tChp_40 y115
      have g4 : frCh L2 L3 := frCh.b hb y107
      have h46 : oneC (I4 0 46) (L3 0 45) (fun n x => ∃ j, j < i ∧ fiC W p h0 most no j n x) := by rw [show I4 0 46 = I2 0 46 from y115 0 46 rfl, show L3 0 = L2 0 from y107 0 (by omega)]; exact hB9
      have hW : wld I4 = W := (wld_fr f4 (fun _ _ => tChp_w)).trans hW2
      refine Z_fgt (chp_hr hM hPa hPb hab hW hw hk hy (h := h0 + i) hp hT (rcc_bd hk hy e20 hb0n h6 e18 hl0 hl hm (by omega)) hA4 hB4 h46 z115 (by omega) hm (fun I5 L5 q1 q2 q3 q4 q5 => ?_)) (by repeat first | exact zwk_n | refine zwk_f ?_ | refine zwk_c rfl ?_)
      refine Z_aload_n dX5_cheap_277 rfl ?_
      refine Z_getR (r := a) hM.1 fX5_394_4 dX5_cheap_278 rfl hPa ?_
      refine Z_astore (lv' := [_, _, _, _, _, _, _, _, _, _, _, _]) dX5_cheap_281 rfl rfl (Nat.le_of_ble_eq_true rfl) ?_
      refine Z_aload_n dX5_cheap_283 rfl ?_
      refine Z_aload_n dX5_cheap_284 rfl ?_
      refine Z_getR (r := b) hM.1 fX5_374_4 dX5_cheap_285 rfl hPb ?_
      refine Z_putR hM.1 fX5_394_4 dX5_cheap_288 rfl ?_
      refine Z_aload_n dX5_cheap_291 rfl ?_
      refine Z_aload dX5_cheap_292 rfl ?_
      refine Z_putR hM.1 fX5_374_4 dX5_cheap_294 rfl ?_
      refine Z_iincN (a := _) (k := 1) (lv' := [_, _, _, _, _, _, _, _, _, _, _, _]) dX5_cheap_297 rfl rfl rfl rfl ?_
      refine Z_goto 95 dX5_cheap_300 rfl ?_
      have f5 : fr tChp I I5 := (f2.tr f4).tr q4
      refine Z_fgt (ih (by omega) _ _ _ b a (by omega) (by rw [zw_a, zu_n _ _ _ (by decide), zw_s]) (zw_s _ _ _ _) (mOk_sw (mOk_sw hM rfl _) rfl _) (fun x k hxk => ?_) f5 ((g2.tr g4).tr q5) q2 (oneC_i q3 (fun n x => ⟨fun q => ?_, fun q => ?_⟩))) (by repeat first | exact zwk_n | refine zwk_f ?_ | refine zwk_c rfl ?_)
      · rw [← hPf x k hxk]
        unfold zw zu
        by_cases ex : x = 0
        · subst ex
          simp [show ¬ k = 43 from fun e => hxk ⟨rfl, Or.inl e⟩, show ¬ k = 44 from fun e => hxk ⟨rfl, Or.inr e⟩]
        · simp [ex]
      · rcases q with ⟨j, hj, q⟩ | q
        · exact ⟨j, by omega, q⟩
        · exact ⟨i, Nat.lt_succ_self _, q⟩
      · obtain ⟨j, hj, q⟩ := q
        by_cases ej : j = i
        · subst ej; exact Or.inr q
        · exact Or.inl ⟨j, by omega, q⟩
  have t0 := tblL_l (tblL_0 z62) (n := 0) (o := b0) (l := len) (x := 0) (v := lN 0) (by omega) (by omega) (by omega) (by omega) (Or.inl ⟨z62 _ (pl_lt (by omega) (by omega) (by omega)), rfl⟩)
  refine lp95 0 (by omega) _ _ _ a b hab hPa hPb hM (fun _ _ _ => rfl) (fr.rf.st rfl) ((frCh.b hba y62).tr (frCh.b hba (fun y hy => zw_n _ _ _ _ hy))) ?_ (Or.inl ⟨zw_s _ _ _ _, fun n c q => by obtain ⟨j, hj, -⟩ := q; omega⟩)
  rw [zw_a]
  refine tblL_eq t0 (fun n o l c => ?_)
  show _ ↔ (n = 0 ∧ o = (W 20 p).toNatClampNeg ∧ l = (W 18 p).toNatClampNeg ∧ c = 0)
  rw [e20, e18, nI_clamp (by omega), nI_clamp (by omega)]
  exact ⟨fun q => q.elim (fun q => absurd q id) id, Or.inr⟩
end M40
