set_option maxRecDepth 100000
/-! THE MODEL, part 26: the ranks of the rule -/
section M26
variable {G : zG} {d C Sl : Nat} {I D W : zI} {R : List Int64} {L : zL} {P : zR} {S : zT} {Q : zQ} {no n np : Nat} {s : zS} {c : Nat → Nat} {to : Nat}
def PRt (G : zG) (L : zL) (P : zR) (S : zT) (c : Nat → Nat) (to m : Nat) (M : zM) (av : List Value) (d k : Nat) : Prop := ∀ (I : zI) (Q : zQ) (ns p mk : Nat), mz to k p < m → p ≤ to → ns ≤ 5 → mk ≤ p → pS c to I p ns → I 26 1 = nI mk →
  (∀ I2 q l, pzz c to k ns p = .inr (q, l) → pS c to I2 q ns → mkR I I2 mk l → fr tU I I2 → Q (.inl (some (.int (nI 1)))) I2 L P S) → (∀ I2 q, pzz c to k ns p = .inl q → I2 0 30 = nI q → fr tU I I2 → Q (.inl (some (.int (nI 0)))) I2 L P S) → Zm G M d 0 0 av I L P S Q
def t30 : Nat → Nat → Bool := fun h k => h == 0 && k == 30
theorem t30_U {a k : Nat} (h : tU a k = false) : t30 a k = false := by
  unfold tU at h
  unfold t30
  by_cases e : a = 0
  · subst e
    by_cases e2 : k = 30
    · subst e2; simp at h
    · simp [e2]
  · simp [e]
theorem mkR.base {I2 I3 : zI} {m : Nat} {l : List Nat} (h : mkR I2 I3 m l) (e : I2 25 = I 25) : mkR I I3 m l := ⟨h.1, fun j hj => (h.2.1 j hj).trans (by rw [e]), h.2.2⟩
theorem isDg_b {x : Nat} (h : isDg x = true) : 48 ≤ x ∧ x ≤ 57 := by
  unfold isDg at h
  simp only [Bool.and_eq_true, decide_eq_true_eq] at h
  exact h
theorem pS.pl {I2 : zI} {p ns q : Nat} (h : pS c to I p ns) (h0 : I2 0 30 = nI q) (h1 : I2 0 31 = I 0 31) (h2 : I2 0 32 = I 0 32) (h3 : I2 28 = I 28) : pS c to I2 q ns := ⟨h0, h1.trans h.2.1, h2.trans h.2.2.1, fun j hj => by rw [h3]; exact h.2.2.2 j hj⟩
theorem acL_eq : ∀ k, k ≤ 4 → zBn.getD (4 + k) [] = acL k := by
  intro k hk
  obtain rfl | rfl | rfl | rfl | rfl : k = 0 ∨ k = 1 ∨ k = 2 ∨ k = 3 ∨ k = 4 := by omega
  all_goals rfl
set_option maxHeartbeats 4000000 in
theorem t_thing (hM : mOk P S) (hX : zTx S) (ht : to ≤ 40) (hc : ∀ j, c j < 256) {m : Nat} (ih : PRt G L P S c to m mX5_ranked [.ref 0, .int (nI 0)] (3 * m + 8) 0) {ns p mk : Nat} (hz : mz to 6 p < m + 1) (hp : p ≤ to) (hns : ns ≤ 5) (hmk : mk ≤ p) (hP : pS c to I p ns) (h26 : I 26 1 = nI mk) (kt : ∀ I2 q l, pzz c to 6 ns p = .inr (q, l) → pS c to I2 q ns → mkR I I2 mk l → fr tU I I2 → Q (.inl (some (.int (nI 1)))) I2 L P S) (kf : ∀ I2 q, pzz c to 6 ns p = .inl q → I2 0 30 = nI q → fr tU I I2 → Q (.inl (some (.int (nI 0)))) I2 L P S) : Zm G mX5_thing ((3 * m + 9)) C Sl [.ref 0] I L P S Q := by
  refine Z_entry (lv := [_, _, _]) (Nat.le_of_ble_eq_true rfl) rfl ?_
  refine Z_aload_n dX5_thing_0 rfl ?_
  refine Z_call0 (d' := 1) (zCal_V gX5_202 nX5_isDigit (by decide) dX5_thing_1) pX5_isDigit hM.1 zkl4 [] rfl rfl (Nat.le_of_ble_eq_true rfl) (by omega) (c_X5_isDigit hM hP ht hp hc (fun h1 => ?_) (fun h1 => ?_))
  · refine Z_ifeq 64 dX5_thing_4 rfl (fun h => absurd h (by decide)) (fun _ => ?_)
    refine Z_iconst (nI 0) dX5_thing_7 rfl ?_
    refine Z_istore_n (lv' := [_, _, _]) dX5_thing_8 rfl rfl (Nat.le_of_ble_eq_true rfl) ?_
    refine Z_iconst (nI 0) dX5_thing_9 rfl ?_
    refine Z_istore_n (lv' := [_, _, _]) dX5_thing_10 rfl rfl (Nat.le_of_ble_eq_true rfl) ?_
    have lp11 : ∀ q, q ≤ 3 → ∀ I2 p2 v, pS c to I2 p2 ns → p2 ≤ to → ((q = 0 → v < 1) ∧ (q = 1 → v < 10) ∧ (q = 2 → v < 100) ∧ v < 1000) → nmF c to (3 - q) p2 v = nmF c to 3 p 0 → fr t30 I I2 → Zj G mX5_thing (3 * m + 9) C Sl 11 [.ref 0, .int (nI v), .int (nI q)] [] I2 L P S Q := by
      refine zloop (3) (fun q => ∀ I2 p2 v, pS c to I2 p2 ns → p2 ≤ to → ((q = 0 → v < 1) ∧ (q = 1 → v < 10) ∧ (q = 2 → v < 100) ∧ v < 1000) → nmF c to (3 - q) p2 v = nmF c to 3 p 0 → fr t30 I I2 → Zj G mX5_thing (3 * m + 9) C Sl 11 [.ref 0, .int (nI v), .int (nI q)] [] I2 L P S Q) (fun q hq ihq => ?_)
      intro I2 p2 v hP2 hp2 hv e g3
      show Zj _ _ _ _ _ _ _ _ _ _ _ _ _
      refine Z_iload_n dX5_thing_11 rfl ?_
      refine Z_iconst (nI 3) dX5_thing_12 rfl ?_
      refine Z_icmpgeN 57 dX5_thing_13 rfl (by omega) (by omega) (fun c13 => ?_) (fun c13 => ?_)
      · have eq : q = 3 := by omega
        refine Z_aload_n dX5_thing_57 rfl ?_
        refine Z_iload_n dX5_thing_58 rfl ?_
        refine Z_call0 (d' := 0) (zCal_V gX5_206 nX5_marks (by decide) dX5_thing_59) pX5_marks hM.1 zkl4 [_] rfl rfl (Nat.le_of_ble_eq_true rfl) (by omega) (c_X5_marks hM (m := mk) ((g3 26 1 rfl).trans h26) (by omega) ?_)
        refine Z_iconst (nI 1) dX5_thing_62 rfl ?_
        refine Z_ireturn dX5_thing_63 rfl rfl ?_
        have en : nmF c to 3 p 0 = (p2, v) := by rw [← e]; cases hq3 : 3 - q with
          | zero => rfl
          | succ z => exact absurd hq3 (by omega)
        exact kt _ p2 [v] (by rw [z6_dig h1, en]) (hP2.pl hP2.1 rfl rfl rfl) (mkR.base mkR.one (funext fun j => g3 25 j rfl)) (((g3.wk fun _ _ => t30_U).st (by simp [tU])).st rfl)
      · refine Z_aload_n dX5_thing_16 rfl ?_
        refine Z_call0 (d' := 1) (zCal_V gX5_202 nX5_isDigit (by decide) dX5_thing_17) pX5_isDigit hM.1 zkl4 [] rfl rfl (Nat.le_of_ble_eq_true rfl) (by omega) (c_X5_isDigit hM hP2 ht hp2 hc (fun h17 => ?_) (fun h17 => ?_))
        · obtain ⟨d1, d2⟩ := isDg_b h17.2
          refine Z_ifeq 57 dX5_thing_20 rfl (fun h => absurd h (by decide)) (fun _ => ?_)
          refine Z_bipush (nI 10) dX5_thing_23 rfl ?_
          refine Z_iload_n dX5_thing_25 rfl ?_
          refine Z_imulN dX5_thing_26 ?_
          refine Z_aload_n dX5_thing_27 rfl ?_
          refine Z_getR (r := 28) hM.1 fX5_173_4 dX5_thing_28 rfl (hM.2.2 28 _ rfl rfl) ?_
          refine Z_aload_n dX5_thing_31 rfl ?_
          refine Z_getI hM.1 fX5_176_4 dX5_thing_32 rfl ?_
          refine Z_re (y := nI (p2)) hP2.1 ?_
          refine Z_iald (hM.2.1 28 _ rfl) (zix_nI (by omega) (by decide)) dX5_thing_35 ?_
          refine Z_re (y := nI (c p2)) (hP2.2.2.2 p2 (by omega)) ?_
          refine Z_iaddN dX5_thing_36 ?_
          refine Z_bipush (nI 48) dX5_thing_37 rfl ?_
          refine Z_isubN dX5_thing_39 (by omega) ?_
          refine Z_istore_n (lv' := [_, _, _]) dX5_thing_40 rfl rfl (Nat.le_of_ble_eq_true rfl) ?_
          refine Z_aload_n dX5_thing_41 rfl ?_
          refine Z_dup dX5_thing_42 rfl ?_
          refine Z_getI hM.1 fX5_176_4 dX5_thing_43 rfl ?_
          refine Z_re (y := nI (p2)) hP2.1 ?_
          refine Z_iconst (nI 1) dX5_thing_46 rfl ?_
          refine Z_iaddN dX5_thing_47 ?_
          refine Z_putI hM.1 fX5_176_4 dX5_thing_48 rfl rfl rfl ?_
          refine Z_iincN (a := _) (k := 1) (lv' := [_, _, _]) dX5_thing_51 rfl rfl rfl rfl ?_
          refine Z_goto 11 dX5_thing_54 rfl ?_
          exact ihq (by omega) _ (p2 + 1) (10 * v + c p2 - 48) (hP2.pl rfl rfl rfl rfl) (by omega) (by omega) (by rw [← e, show 3 - q = (3 - (q + 1)) + 1 by omega, nmF, if_pos h17]) (g3.st rfl)
        · refine Z_ifeq 57 dX5_thing_20 rfl (fun _ => ?_) (fun h => absurd h (by decide))
          refine Z_aload_n dX5_thing_57 rfl ?_
          refine Z_iload_n dX5_thing_58 rfl ?_
          refine Z_call0 (d' := 0) (zCal_V gX5_206 nX5_marks (by decide) dX5_thing_59) pX5_marks hM.1 zkl4 [_] rfl rfl (Nat.le_of_ble_eq_true rfl) (by omega) (c_X5_marks hM (m := mk) ((g3 26 1 rfl).trans h26) (by omega) ?_)
          refine Z_iconst (nI 1) dX5_thing_62 rfl ?_
          refine Z_ireturn dX5_thing_63 rfl rfl ?_
          have en : nmF c to 3 p 0 = (p2, v) := by rw [← e]; cases hq3 : 3 - q with
            | zero => rfl
            | succ z => rw [nmF, if_neg h17]
          exact kt _ p2 [v] (by rw [z6_dig h1, en]) (hP2.pl hP2.1 rfl rfl rfl) (mkR.base mkR.one (funext fun j => g3 25 j rfl)) (((g3.wk fun _ _ => t30_U).st (by simp [tU])).st rfl)
    exact lp11 0 (by omega) I p 0 hP hp (by omega) rfl fr.rf
  · refine Z_ifeq 64 dX5_thing_4 rfl (fun _ => ?_) (fun h => absurd h (by decide))
    refine Z_aload_n dX5_thing_64 rfl ?_
    refine Z_ldcT (i := 1) (by decide) rfl rfl (hX _ (by omega)) rfl dX5_thing_65 ?_
    refine Z_call0 (d' := 5) (zCal_V gX5_211 nX5_among (by decide) dX5_thing_67) pX5_among hM.1 zkl4 [_] rfl rfl (Nat.le_of_ble_eq_true rfl) (by omega) (c_X5_among hM hX (i := 1) (by omega) hP ht hp hc (fun j hj hjl => ?_) (fun n1 => ?_))
    · refine Z_istore_n (lv' := [_, _, _]) dX5_thing_70 rfl rfl (Nat.le_of_ble_eq_true rfl) ?_
      refine Z_iload_n dX5_thing_71 rfl ?_
      refine Z_ifltN 96 dX5_thing_72 rfl (by omega) ?_
      refine Z_aload_n dX5_thing_75 rfl ?_
      refine Z_sipush (nI 1000) dX5_thing_76 rfl ?_
      refine Z_iload_n dX5_thing_79 rfl ?_
      refine Z_iaddN dX5_thing_80 ?_
      refine Z_call0 (d' := 0) (zCal_V gX5_206 nX5_marks (by decide) dX5_thing_81) pX5_marks hM.1 zkl4 [_] rfl rfl (Nat.le_of_ble_eq_true rfl) (by omega) (c_X5_marks hM h26 (by omega) ?_)
      refine Z_aload_n dX5_thing_84 rfl ?_
      refine Z_dup dX5_thing_85 rfl ?_
      refine Z_getI hM.1 fX5_176_4 dX5_thing_86 rfl ?_
      refine Z_re (y := nI (p)) hP.1 ?_
      refine Z_iconst (nI 1) dX5_thing_89 rfl ?_
      refine Z_iaddN dX5_thing_90 ?_
      refine Z_putI hM.1 fX5_176_4 dX5_thing_91 rfl rfl rfl ?_
      refine Z_iconst (nI 1) dX5_thing_94 rfl ?_
      refine Z_ireturn dX5_thing_95 rfl rfl ?_
      exact kt _ (p + 1) [1000 + j] (z6_sgn h1 hj) (hP.pl rfl rfl rfl rfl) ((mkR.one (I := I) (m := mk) (v := 1000 + j)).fr rfl rfl) (((fr.rf.st (by simp [tU])).st rfl).st rfl)
    · refine Z_istore_n (lv' := [_, _, _]) dX5_thing_70 rfl rfl (Nat.le_of_ble_eq_true rfl) ?_
      refine Z_iload_n dX5_thing_71 rfl ?_
      refine Z_iflt 96 dX5_thing_72 rfl (fun c72 => ?_) (fun c72 => ?_)
      · refine Z_aload_n dX5_thing_96 rfl ?_
        refine Z_ldcT (i := 2) (by decide) rfl rfl (hX _ (by omega)) rfl dX5_thing_97 ?_
        refine Z_call0 (d' := 5) (zCal_V gX5_211 nX5_among (by decide) dX5_thing_99) pX5_among hM.1 zkl4 [_] rfl rfl (Nat.le_of_ble_eq_true rfl) (by omega) (c_X5_among hM hX (i := 2) (by omega) hP ht hp hc (fun j2 hj2 hj2l => ?_) (fun n2 => ?_))
        · refine Z_ifltN 113 dX5_thing_102 rfl (by omega) ?_
          refine Z_aload_n dX5_thing_105 rfl ?_
          refine Z_getI hM.1 fX5_217_4 dX5_thing_106 rfl ?_
          refine Z_re (y := nI (ns)) hP.2.2.1 ?_
          refine Z_iconst (nI 5) dX5_thing_109 rfl ?_
          refine Z_icmpneN 115 dX5_thing_110 rfl (by omega) (by omega) (fun c110 => ?_) (fun c110 => ?_)
          · refine Z_aload_n dX5_thing_115 rfl ?_
            have hpl := amg_lt hj2
            have hnn : ¬ (amg c to [40] p = none ∨ ns = 5) := by
              rintro (q | q)
              · rw [show amg c to [40] p = some j2 from hj2] at q; cases q
              · exact c110 q
            have f0 : fr tU I (zw (zw I 0 30 (nI (p + 1))) 0 32 (nI (ns + 1))) := (fr.rf.st rfl).st rfl
            refine Z_dup dX5_thing_116 rfl ?_
            refine Z_getI hM.1 fX5_176_4 dX5_thing_117 rfl ?_
            refine Z_re (y := nI (p)) hP.1 ?_
            refine Z_iconst (nI 1) dX5_thing_120 rfl ?_
            refine Z_iaddN dX5_thing_121 ?_
            refine Z_putI hM.1 fX5_176_4 dX5_thing_122 rfl rfl rfl ?_
            refine Z_aload_n dX5_thing_125 rfl ?_
            refine Z_dup dX5_thing_126 rfl ?_
            refine Z_getI hM.1 fX5_217_4 dX5_thing_127 rfl ?_
            refine Z_re (y := nI (ns)) hP.2.2.1 ?_
            refine Z_iconst (nI 1) dX5_thing_130 rfl ?_
            refine Z_iaddN dX5_thing_131 ?_
            refine Z_putI hM.1 fX5_217_4 dX5_thing_132 rfl rfl rfl ?_
            refine Z_aload_n dX5_thing_135 rfl ?_
            refine Z_iconst (nI 0) dX5_thing_136 rfl ?_
            refine Z_call0 (d' := (3 * m + 8)) (zCal_V gX5_220 nX5_ranked (by decide) dX5_thing_137) pX5_ranked hM.1 zkl4 [_] rfl rfl (Nat.le_of_ble_eq_true rfl) (by omega) (ih _ _ (ns + 1) (p + 1) (mk) (by have := mz_d (to := to) (k := 6) (k2 := 0) (p := p) (p2 := p + 1) (by omega) (by omega); omega) (by omega) (by omega) (by omega) (⟨rfl, hP.2.1, zw_s _ _ _ _, hP.2.2.2⟩) (h26) (fun I3 q3 l3 e3a e3b e3c e3d => ?_) (fun I3 q3 e3a e3b e3c => ?_))
            · have b3 := pz_pl _ _ _ _ _ (show p + 1 ≤ to by omega) e3a
              refine Z_ifeq 152 dX5_thing_140 rfl (fun h => absurd h (by decide)) (fun _ => ?_)
              refine Z_aload_n dX5_thing_143 rfl ?_
              refine Z_ldcT (i := 3) (by decide) rfl rfl (hX _ (by omega)) rfl dX5_thing_144 ?_
              refine Z_call0 (d' := 5) (zCal_V gX5_211 nX5_among (by decide) dX5_thing_146) pX5_among hM.1 zkl4 [_] rfl rfl (Nat.le_of_ble_eq_true rfl) (by omega) (c_X5_among hM hX (i := 3) (by omega) e3b ht b3.2.1 hc (fun j3 hj3 hj3l => ?_) (fun n3 => ?_))
              · refine Z_ifgeN 154 dX5_thing_149 rfl (by omega) ?_
                refine Z_aload_n dX5_thing_154 rfl ?_
                refine Z_dup dX5_thing_155 rfl ?_
                refine Z_getI hM.1 fX5_176_4 dX5_thing_156 rfl ?_
                refine Z_re (y := nI (q3)) e3b.1 ?_
                refine Z_iconst (nI 1) dX5_thing_159 rfl ?_
                refine Z_iaddN dX5_thing_160 ?_
                refine Z_putI hM.1 fX5_176_4 dX5_thing_161 rfl rfl rfl ?_
                refine Z_aload_n dX5_thing_164 rfl ?_
                refine Z_dup dX5_thing_165 rfl ?_
                refine Z_getI hM.1 fX5_217_4 dX5_thing_166 rfl ?_
                refine Z_re (y := nI (ns + 1)) e3b.2.2.1 ?_
                refine Z_iconst (nI 1) dX5_thing_169 rfl ?_
                refine Z_isubN dX5_thing_170 (by omega) ?_
                refine Z_putI hM.1 fX5_217_4 dX5_thing_171 rfl rfl rfl ?_
                refine Z_iconst (nI 1) dX5_thing_174 rfl ?_
                refine Z_ireturn dX5_thing_175 rfl rfl ?_
                exact kt _ (q3 + 1) l3 (by rw [z6_sub hp h1 n1 hnn, e3a]; exact if_neg (by rw [show amg c to [41] q3 = some j3 from hj3]; simp)) ⟨rfl, e3b.2.1, zw_s _ _ _ _, e3b.2.2.2⟩ ((mkR.base e3c rfl).fr rfl rfl) (((f0.tr e3d).st rfl).st rfl)
              · refine Z_ifge 154 dX5_thing_149 rfl (fun c149 => ?_) (fun c149 => ?_)
                · exact absurd c149 (by decide)
                · refine Z_iconst (nI 0) dX5_thing_152 rfl ?_
                  refine Z_ireturn dX5_thing_153 rfl rfl ?_
                  exact kf I3 q3 (by rw [z6_sub hp h1 n1 hnn, e3a]; exact if_pos n3) e3b.1 (f0.tr e3d)
            · refine Z_ifeq 152 dX5_thing_140 rfl (fun _ => ?_) (fun h => absurd h (by decide))
              refine Z_iconst (nI 0) dX5_thing_152 rfl ?_
              refine Z_ireturn dX5_thing_153 rfl rfl ?_
              exact kf I3 q3 (by rw [z6_sub hp h1 n1 hnn, e3a]) e3b (f0.tr e3c)
          · refine Z_iconst (nI 0) dX5_thing_113 rfl ?_
            refine Z_ireturn dX5_thing_114 rfl rfl ?_
            exact kf I p (z6_no h1 n1 (Or.inr c110)) hP.1 fr.rf
        · refine Z_iflt 113 dX5_thing_102 rfl (fun c102 => ?_) (fun c102 => ?_)
          · refine Z_iconst (nI 0) dX5_thing_113 rfl ?_
            refine Z_ireturn dX5_thing_114 rfl rfl ?_
            exact kf I p (z6_no h1 n1 (Or.inl n2)) hP.1 fr.rf
          · exact absurd (by decide) c102
      · exact absurd (by decide) c72
set_option maxHeartbeats 4000000 in
theorem t_ahead (hM : mOk P S) (hX : zTx S) (ht : to ≤ 40) (hc : ∀ j, c j < 256) {m : Nat} (iht : PRt G L P S c to m mX5_thing [.ref 0] (3 * m + 6) 6) (iha : PRt G L P S c to m mX5_ahead [.ref 0] (3 * m + 7) 5) {ns p mk : Nat} (hz : mz to 5 p < m + 1) (hp : p ≤ to) (hns : ns ≤ 5) (hmk : mk ≤ p) (hP : pS c to I p ns) (h26 : I 26 1 = nI mk) (kt : ∀ I2 q l, pzz c to 5 ns p = .inr (q, l) → pS c to I2 q ns → mkR I I2 mk l → fr tU I I2 → Q (.inl (some (.int (nI 1)))) I2 L P S) (kf : ∀ I2 q, pzz c to 5 ns p = .inl q → I2 0 30 = nI q → fr tU I I2 → Q (.inl (some (.int (nI 0)))) I2 L P S) : Zm G mX5_ahead ((3 * m + 10)) C Sl [.ref 0] I L P S Q := by
  refine Z_entry (lv := [_, _, _]) (Nat.le_of_ble_eq_true rfl) rfl ?_
  refine Z_aload_n dX5_ahead_0 rfl ?_
  refine Z_ldcT (i := 0) (by decide) rfl rfl (hX _ (by omega)) rfl dX5_ahead_1 ?_
  refine Z_call0 (d' := 5) (zCal_V gX5_211 nX5_among (by decide) dX5_ahead_3) pX5_among hM.1 zkl4 [_] rfl rfl (Nat.le_of_ble_eq_true rfl) (by omega) (c_X5_among hM hX (i := 0) (by omega) hP ht hp hc (fun j hj hjl => ?_) (fun n1 => ?_))
  · refine Z_istore_n (lv' := [_, _, _]) dX5_ahead_6 rfl rfl (Nat.le_of_ble_eq_true rfl) ?_
    refine Z_iload_n dX5_ahead_7 rfl ?_
    refine Z_ifgeN 16 dX5_ahead_8 rfl (by omega) ?_
    have hpl := amg_lt hj
    refine Z_aload_n dX5_ahead_16 rfl ?_
    refine Z_dup dX5_ahead_17 rfl ?_
    refine Z_getI hM.1 fX5_176_4 dX5_ahead_18 rfl ?_
    refine Z_re (y := nI (p)) hP.1 ?_
    refine Z_iconst (nI 1) dX5_ahead_21 rfl ?_
    refine Z_iaddN dX5_ahead_22 ?_
    refine Z_putI hM.1 fX5_176_4 dX5_ahead_23 rfl rfl rfl ?_
    refine Z_aload_n dX5_ahead_26 rfl ?_
    refine Z_call0 (d' := (3 * m + 7)) (zCal_V gX5_230 nX5_ahead (by decide) dX5_ahead_27) pX5_ahead hM.1 zkl4 [] rfl rfl (Nat.le_of_ble_eq_true rfl) (by omega) (iha _ _ (ns) (p + 1) (mk) (by have := mz_d (to := to) (k := 5) (k2 := 5) (p := p) (p2 := p + 1) (by omega) (by omega); omega) (by omega) (by omega) (by omega) (hP.pl rfl rfl rfl rfl) (h26) (fun I3 q3 l3 e3a e3b e3c e3d => ?_) (fun I3 q3 e3a e3b e3c => ?_))
    · have b3 := pz_pl _ _ _ _ _ (show p + 1 ≤ to by omega) e3a
      have b34 := b3.2.2.2
      have b31 := b3.1
      dsimp only at b34 b31
      have b32 := b3.2.1
      dsimp only at b32
      refine Z_istore_n (lv' := [_, _, _]) dX5_ahead_30 rfl rfl (Nat.le_of_ble_eq_true rfl) ?_
      refine Z_iload_n dX5_ahead_31 rfl ?_
      refine Z_ifeq 54 dX5_ahead_32 rfl (fun h => absurd h (by decide)) (fun _ => ?_)
      refine Z_aload_n dX5_ahead_35 rfl ?_
      refine Z_sipush (nI 2000) dX5_ahead_36 rfl ?_
      refine Z_iload_n dX5_ahead_39 rfl ?_
      refine Z_ifneN 48 dX5_ahead_40 rfl (by omega) (fun c40 => ?_) (fun c40 => ?_)
      · refine Z_bipush (nI 126) dX5_ahead_48 rfl ?_
        refine Z_iaddN dX5_ahead_50 ?_
        refine Z_call0 (d' := 0) (zCal_V gX5_206 nX5_marks (by decide) dX5_ahead_51) pX5_marks hM.1 zkl4 [_] rfl rfl (Nat.le_of_ble_eq_true rfl) (by omega) (c_X5_marks hM (m := mk + l3.length) e3c.1 (by omega) ?_)
        refine Z_iload_n dX5_ahead_54 rfl ?_
        refine Z_ireturn dX5_ahead_55 rfl rfl ?_
        exact kt _ q3 (l3 ++ [2000 + 126]) (by rw [z5_s hj, e3a]; dsimp only; rw [if_neg c40]) (e3b.pl e3b.1 rfl rfl rfl) (mkR.app (mkR.base e3c rfl) mkR.one) ((((fr.rf.st rfl).tr e3d).st (by simp [tU])).st rfl)
      · refine Z_bipush (nI 33) dX5_ahead_43 rfl ?_
        refine Z_goto 50 dX5_ahead_45 rfl ?_
        refine Z_iaddN dX5_ahead_50 ?_
        refine Z_call0 (d' := 0) (zCal_V gX5_206 nX5_marks (by decide) dX5_ahead_51) pX5_marks hM.1 zkl4 [_] rfl rfl (Nat.le_of_ble_eq_true rfl) (by omega) (c_X5_marks hM (m := mk + l3.length) e3c.1 (by omega) ?_)
        refine Z_iload_n dX5_ahead_54 rfl ?_
        refine Z_ireturn dX5_ahead_55 rfl rfl ?_
        exact kt _ q3 (l3 ++ [2000 + 33]) (by rw [z5_s hj, e3a]; dsimp only; rw [if_pos c40]) (e3b.pl e3b.1 rfl rfl rfl) (mkR.app (mkR.base e3c rfl) mkR.one) ((((fr.rf.st rfl).tr e3d).st (by simp [tU])).st rfl)
    · refine Z_istore_n (lv' := [_, _, _]) dX5_ahead_30 rfl rfl (Nat.le_of_ble_eq_true rfl) ?_
      refine Z_iload_n dX5_ahead_31 rfl ?_
      refine Z_ifeq 54 dX5_ahead_32 rfl (fun _ => ?_) (fun h => absurd h (by decide))
      refine Z_iload_n dX5_ahead_54 rfl ?_
      refine Z_ireturn dX5_ahead_55 rfl rfl ?_
      exact kf I3 q3 (by rw [z5_s hj, e3a]) e3b ((fr.rf.st rfl).tr e3c)
  · refine Z_istore_n (lv' := [_, _, _]) dX5_ahead_6 rfl rfl (Nat.le_of_ble_eq_true rfl) ?_
    refine Z_iload_n dX5_ahead_7 rfl ?_
    refine Z_ifge 16 dX5_ahead_8 rfl (fun c8 => ?_) (fun c8 => ?_)
    · exact absurd c8 (by decide)
    · refine Z_aload_n dX5_ahead_11 rfl ?_
      refine Z_call0 (d' := (3 * m + 6)) (zCal_V gX5_227 nX5_thing (by decide) dX5_ahead_12) pX5_thing hM.1 zkl4 [] rfl rfl (Nat.le_of_ble_eq_true rfl) (by omega) (iht _ _ (ns) (p) (mk) (by have := mz_k (to := to) (k := 5) (k2 := 6) (p := p) (by omega) (by omega); omega) (by omega) (by omega) (by omega) (hP) (h26) (fun I3 q3 l3 e3a e3b e3c e3d => ?_) (fun I3 q3 e3a e3b e3c => ?_))
      · refine Z_ireturn dX5_ahead_15 rfl rfl ?_
        exact kt I3 q3 l3 (by rw [z5_n hp n1]; exact e3a) e3b e3c e3d
      · refine Z_ireturn dX5_ahead_15 rfl rfl ?_
        exact kf I3 q3 (by rw [z5_n hp n1]; exact e3a) e3b e3c
set_option maxHeartbeats 4000000 in
theorem s_rk (hM : mOk P S) (hX : zTx S) (ht : to ≤ 40) (hc : ∀ j, c j < 256) {m : Nat} {k : Nat} (hk : k < 5) (ihr : PRt G L P S c to m mX5_ranked [.ref 0, .int (nI (k + 1))] (3 * m + 8) (k + 1)) {ns p mk : Nat} (hz : mz to k p < m + 1) (hp : p ≤ to) (hns : ns ≤ 5) (hmk : mk ≤ p) (hP : pS c to I p ns) (h26 : I 26 1 = nI mk) (kt : ∀ I2 q l, pzz c to k ns p = .inr (q, l) → pS c to I2 q ns → mkR I I2 mk l → fr tU I I2 → Q (.inl (some (.int (nI 1)))) I2 L P S) (kf : ∀ I2 q, pzz c to k ns p = .inl q → I2 0 30 = nI q → fr tU I I2 → Q (.inl (some (.int (nI 0)))) I2 L P S) : Zj G mX5_ranked (3 * m + 11) C Sl 51 [.ref 0, .int (nI k), .retAddr 0, .retAddr 0, .retAddr 0, .retAddr 0] [.ref (5000 + (4 + k))] I L P S Q := by
  refine Z_astore_n (lv' := [_, _, _, _, _, _]) dX5_ranked_51 rfl rfl (Nat.le_of_ble_eq_true rfl) ?_
  refine Z_aload_n dX5_ranked_52 rfl ?_
  refine Z_iload_n dX5_ranked_53 rfl ?_
  refine Z_iconst (nI 1) dX5_ranked_54 rfl ?_
  refine Z_iaddN dX5_ranked_55 ?_
  refine Z_call0 (d' := (3 * m + 8)) (zCal_V gX5_220 nX5_ranked (by decide) dX5_ranked_56) pX5_ranked hM.1 zkl4 [_] rfl rfl (Nat.le_of_ble_eq_true rfl) (by omega) (ihr _ _ (ns) (p) (mk) (by have := mz_k (to := to) (k := k) (k2 := k + 1) (p := p) (by omega) (by omega); omega) (by omega) (by omega) (by omega) (hP) (h26) (fun I2 q2 l2 e2a e2b e2c e2d => ?_) (fun I2 q2 e2a e2b e2c => ?_))
  · have b2 := pz_pl _ _ _ _ _ hp e2a
    have b21 := b2.1
    have b22 := b2.2.1
    have b24 := b2.2.2.2
    dsimp only at b21 b22 b24
    refine Z_istore_n (lv' := [_, _, _, _, _, _]) dX5_ranked_59 rfl rfl (Nat.le_of_ble_eq_true rfl) ?_
    refine Z_iconst (nI 1) dX5_ranked_60 rfl ?_
    refine Z_istore (lv' := [_, _, _, _, _, _]) dX5_ranked_61 rfl rfl (Nat.le_of_ble_eq_true rfl) ?_
    have lp63 : ∀ f : Nat, ∀ q I3 l, to - q < f → pS c to I3 q ns → q ≤ to → p ≤ q → mkR I I3 mk l → fr tU I I3 → mk + l.length ≤ q → pzz c to k ns p = (match pzz c to (10 + k) ns q with | .inl a => .inl a | .inr y => .inr (y.1, l ++ y.2)) → Zj G mX5_ranked (3 * m + 11) C Sl 63 [.ref 0, .int (nI k), .ref (5000 + (4 + k)), .int (nI 1), .int (nI 1), .retAddr 0] [] I3 L P S Q := by
      refine fun f => Nat.rec (motive := fun f => ∀ q I3 l, to - q < f → pS c to I3 q ns → q ≤ to → p ≤ q → mkR I I3 mk l → fr tU I I3 → mk + l.length ≤ q → pzz c to k ns p = (match pzz c to (10 + k) ns q with | .inl a => .inl a | .inr y => .inr (y.1, l ++ y.2)) → Zj G mX5_ranked (3 * m + 11) C Sl 63 [.ref 0, .int (nI k), .ref (5000 + (4 + k)), .int (nI 1), .int (nI 1), .retAddr 0] [] I3 L P S Q) (fun q I3 l h => absurd h (Nat.not_lt_zero _)) (fun f ih => ?_) f
      intro q I3 l gf g1 g2 gpq g3 g4 g5 e
      show Zj _ _ _ _ _ _ _ _ _ _ _ _ _
      refine Z_iload_n dX5_ranked_63 rfl ?_
      refine Z_ifeq 138 dX5_ranked_64 rfl (fun h => absurd h (by decide)) (fun _ => ?_)
      refine Z_iload dX5_ranked_67 rfl ?_
      refine Z_ifeq 138 dX5_ranked_69 rfl (fun h => absurd h (by decide)) (fun _ => ?_)
      refine Z_aload_n dX5_ranked_72 rfl ?_
      refine Z_aload_n dX5_ranked_73 rfl ?_
      refine Z_call0 (d' := 5) (zCal_V gX5_211 nX5_among (by decide) dX5_ranked_74) pX5_among hM.1 zkl4 [_] rfl rfl (Nat.le_of_ble_eq_true rfl) (by omega) (c_X5_among hM hX (i := 4 + k) (by omega) g1 ht g2 hc (fun j hj hjl => ?_) (fun n1 => ?_))
      · rw [acL_eq k (by omega)] at hj
        have hql := amg_lt hj
        refine Z_ifltN 138 dX5_ranked_77 rfl (by omega) ?_
        refine Z_aload_n dX5_ranked_80 rfl ?_
        refine Z_getR (r := 28) hM.1 fX5_173_4 dX5_ranked_81 rfl (hM.2.2 28 _ rfl rfl) ?_
        refine Z_aload_n dX5_ranked_84 rfl ?_
        refine Z_getI hM.1 fX5_176_4 dX5_ranked_85 rfl ?_
        refine Z_re (y := nI (q)) g1.1 ?_
        refine Z_iald (hM.2.1 28 _ rfl) (zix_nI (by omega) (by decide)) dX5_ranked_88 ?_
        refine Z_re (y := nI (c q)) (g1.2.2.2 q (by omega)) ?_
        refine Z_istore (lv' := [_, _, _, _, _, _]) dX5_ranked_89 rfl rfl (Nat.le_of_ble_eq_true rfl) ?_
        refine Z_aload_n dX5_ranked_91 rfl ?_
        refine Z_dup dX5_ranked_92 rfl ?_
        refine Z_getI hM.1 fX5_176_4 dX5_ranked_93 rfl ?_
        refine Z_re (y := nI (q)) g1.1 ?_
        refine Z_iconst (nI 1) dX5_ranked_96 rfl ?_
        refine Z_iaddN dX5_ranked_97 ?_
        refine Z_putI hM.1 fX5_176_4 dX5_ranked_98 rfl rfl rfl ?_
        refine Z_aload_n dX5_ranked_101 rfl ?_
        refine Z_iload_n dX5_ranked_102 rfl ?_
        refine Z_iconst (nI 1) dX5_ranked_103 rfl ?_
        refine Z_iaddN dX5_ranked_104 ?_
        refine Z_call0 (d' := (3 * m + 8)) (zCal_V gX5_220 nX5_ranked (by decide) dX5_ranked_105) pX5_ranked hM.1 zkl4 [_] rfl rfl (Nat.le_of_ble_eq_true rfl) (by omega) (ihr _ _ (ns) (q + 1) (mk + l.length) (by have := mz_d (to := to) (k := k) (k2 := k + 1) (p := p) (p2 := q + 1) (by omega) (by omega); omega) (by omega) (by omega) (by omega) (g1.pl rfl rfl rfl rfl) (g3.1) (fun I4 q4 l4 e4a e4b e4c e4d => ?_) (fun I4 q4 e4a e4b e4c => ?_))
        · have b4 := pz_pl _ _ _ _ _ (show q + 1 ≤ to by omega) e4a
          have b41 := b4.1
          have b42 := b4.2.1
          have b44 := b4.2.2.2
          dsimp only at b41 b42 b44
          refine Z_istore_n (lv' := [_, _, _, _, _, _]) dX5_ranked_108 rfl rfl (Nat.le_of_ble_eq_true rfl) ?_
          refine Z_iload_n dX5_ranked_109 rfl ?_
          refine Z_ifeq 123 dX5_ranked_110 rfl (fun h => absurd h (by decide)) (fun _ => ?_)
          refine Z_aload_n dX5_ranked_113 rfl ?_
          refine Z_sipush (nI 2000) dX5_ranked_114 rfl ?_
          refine Z_iload dX5_ranked_117 rfl ?_
          refine Z_iaddN dX5_ranked_119 ?_
          refine Z_call0 (d' := 0) (zCal_V gX5_206 nX5_marks (by decide) dX5_ranked_120) pX5_marks hM.1 zkl4 [_] rfl rfl (Nat.le_of_ble_eq_true rfl) (by omega) (c_X5_marks hM (m := mk + l.length + l4.length) e4c.1 (by omega) ?_)
          refine Z_iload_n dX5_ranked_123 rfl ?_
          refine Z_iconst (nI 2) dX5_ranked_124 rfl ?_
          refine Z_icmpeqN 132 dX5_ranked_125 rfl (by omega) (by omega) (fun c125 => ?_) (fun c125 => ?_)
          · refine Z_iconst (nI 0) dX5_ranked_132 rfl ?_
            refine Z_istore (lv' := [_, _, _, _, _, _]) dX5_ranked_133 rfl rfl (Nat.le_of_ble_eq_true rfl) ?_
            refine Z_goto 63 dX5_ranked_135 rfl ?_
            refine Z_iload_n dX5_ranked_63 rfl ?_
            refine Z_ifeq 138 dX5_ranked_64 rfl (fun h => absurd h (by decide)) (fun _ => ?_)
            refine Z_iload dX5_ranked_67 rfl ?_
            refine Z_ifeq 138 dX5_ranked_69 rfl (fun _ => ?_) (fun h => absurd h (by decide))
            refine Z_iload_n dX5_ranked_138 rfl ?_
            refine Z_ireturn dX5_ranked_139 rfl rfl ?_
            exact kt _ q4 (l ++ (l4 ++ [2000 + c q])) (by rw [e, zl_s (by omega) hj, e4a]; dsimp only; rw [if_pos c125]) (e4b.pl e4b.1 rfl rfl rfl) (mkR.app g3 (mkR.app (mkR.base e4c rfl) mkR.one)) ((((g4.st rfl).tr e4d).st (by simp [tU])).st rfl)
          · refine Z_iconst (nI 1) dX5_ranked_128 rfl ?_
            refine Z_goto 133 dX5_ranked_129 rfl ?_
            refine Z_istore (lv' := [_, _, _, _, _, _]) dX5_ranked_133 rfl rfl (Nat.le_of_ble_eq_true rfl) ?_
            refine Z_goto 63 dX5_ranked_135 rfl ?_
            refine Z_fgt (ih q4 _ (l ++ (l4 ++ [2000 + c q])) (by omega) (e4b.pl e4b.1 rfl rfl rfl) (by omega) (by omega) (mkR.app g3 (mkR.app (mkR.base e4c rfl) mkR.one)) ((((g4.st rfl).tr e4d).st (by simp [tU])).st rfl) (by rw [List.length_append, List.length_append]; show _ + (_ + (_ + 1)) ≤ _; omega) ?_) (by repeat first | exact zwk_n | refine zwk_f ?_ | refine zwk_c rfl ?_)
            rw [e, zl_s (by omega) hj, e4a]
            dsimp only
            rw [if_neg c125]
            cases pzz c to (10 + k) ns q4 with
            | inl a => rfl
            | inr y => simp [List.append_assoc]
        · refine Z_istore_n (lv' := [_, _, _, _, _, _]) dX5_ranked_108 rfl rfl (Nat.le_of_ble_eq_true rfl) ?_
          refine Z_iload_n dX5_ranked_109 rfl ?_
          refine Z_ifeq 123 dX5_ranked_110 rfl (fun _ => ?_) (fun h => absurd h (by decide))
          refine Z_iload_n dX5_ranked_123 rfl ?_
          refine Z_iconst (nI 2) dX5_ranked_124 rfl ?_
          refine Z_icmpeqN 132 dX5_ranked_125 rfl (by omega) (by omega) (fun c125 => ?_) (fun c125 => ?_)
          · refine Z_iconst (nI 0) dX5_ranked_132 rfl ?_
            refine Z_istore (lv' := [_, _, _, _, _, _]) dX5_ranked_133 rfl rfl (Nat.le_of_ble_eq_true rfl) ?_
            refine Z_goto 63 dX5_ranked_135 rfl ?_
            refine Z_iload_n dX5_ranked_63 rfl ?_
            refine Z_ifeq 138 dX5_ranked_64 rfl (fun _ => ?_) (fun h => absurd h (by decide))
            refine Z_iload_n dX5_ranked_138 rfl ?_
            refine Z_ireturn dX5_ranked_139 rfl rfl ?_
            exact kf I4 q4 (by rw [e, zl_s (by omega) hj, e4a]) e4b ((g4.st rfl).tr e4c)
          · refine Z_iconst (nI 1) dX5_ranked_128 rfl ?_
            refine Z_goto 133 dX5_ranked_129 rfl ?_
            refine Z_istore (lv' := [_, _, _, _, _, _]) dX5_ranked_133 rfl rfl (Nat.le_of_ble_eq_true rfl) ?_
            refine Z_goto 63 dX5_ranked_135 rfl ?_
            refine Z_iload_n dX5_ranked_63 rfl ?_
            refine Z_ifeq 138 dX5_ranked_64 rfl (fun _ => ?_) (fun h => absurd h (by decide))
            refine Z_iload_n dX5_ranked_138 rfl ?_
            refine Z_ireturn dX5_ranked_139 rfl rfl ?_
            exact kf I4 q4 (by rw [e, zl_s (by omega) hj, e4a]) e4b ((g4.st rfl).tr e4c)
      · refine Z_iflt 138 dX5_ranked_77 rfl (fun c77 => ?_) (fun c77 => ?_)
        · refine Z_iload_n dX5_ranked_138 rfl ?_
          refine Z_ireturn dX5_ranked_139 rfl rfl ?_
          rw [acL_eq k (by omega)] at n1
          exact kt I3 q l (by rw [e, zl_n (by omega) n1]; simp) g1 g3 g4
        · exact absurd (by decide) c77
    exact Z_fgt (lp63 (to - q2 + 1) q2 I2 l2 (by omega) e2b (by omega) (by omega) e2c e2d (by omega) (by rw [zr_s hp hk, e2a]; rfl)) (by repeat first | exact zwk_n | refine zwk_f ?_ | refine zwk_c rfl ?_)
  · refine Z_istore_n (lv' := [_, _, _, _, _, _]) dX5_ranked_59 rfl rfl (Nat.le_of_ble_eq_true rfl) ?_
    refine Z_iconst (nI 1) dX5_ranked_60 rfl ?_
    refine Z_istore (lv' := [_, _, _, _, _, _]) dX5_ranked_61 rfl rfl (Nat.le_of_ble_eq_true rfl) ?_
    refine Z_iload_n dX5_ranked_63 rfl ?_
    refine Z_ifeq 138 dX5_ranked_64 rfl (fun _ => ?_) (fun h => absurd h (by decide))
    refine Z_iload_n dX5_ranked_138 rfl ?_
    refine Z_ireturn dX5_ranked_139 rfl rfl ?_
    exact kf I2 q2 (by rw [zr_s hp hk, e2a]) e2b e2c
set_option maxHeartbeats 4000000 in
theorem t_ranked (hM : mOk P S) (hX : zTx S) (ht : to ≤ 40) (hc : ∀ j, c j < 256) {m : Nat} {k : Nat} (hk5 : k ≤ 5) (ihr : ∀ k, k < 5 → PRt G L P S c to m mX5_ranked [.ref 0, .int (nI (k + 1))] (3 * m + 8) (k + 1)) (iha : PRt G L P S c to (m + 1) mX5_ahead [.ref 0] (3 * m + 10) 5) {ns p mk : Nat} (hz : mz to k p < m + 1) (hp : p ≤ to) (hns : ns ≤ 5) (hmk : mk ≤ p) (hP : pS c to I p ns) (h26 : I 26 1 = nI mk) (kt : ∀ I2 q l, pzz c to k ns p = .inr (q, l) → pS c to I2 q ns → mkR I I2 mk l → fr tU I I2 → Q (.inl (some (.int (nI 1)))) I2 L P S) (kf : ∀ I2 q, pzz c to k ns p = .inl q → I2 0 30 = nI q → fr tU I I2 → Q (.inl (some (.int (nI 0)))) I2 L P S) : Zm G mX5_ranked ((3 * m + 11)) C Sl [.ref 0, .int (nI k)] I L P S Q := by
  refine Z_entry (lv := [_, _, _, _, _, _]) (Nat.le_of_ble_eq_true rfl) rfl ?_
  refine Z_iload_n dX5_ranked_0 rfl ?_
  refine Z_iconst (nI 5) dX5_ranked_1 rfl ?_
  refine Z_icmpneN 10 dX5_ranked_2 rfl (by omega) (by omega) (fun c2 => ?_) (fun c2 => ?_)
  · refine Z_iload_n dX5_ranked_10 rfl ?_
    refine Z_ifneN 19 dX5_ranked_11 rfl (by omega) (fun c11 => ?_) (fun c11 => ?_)
    · refine Z_iload_n dX5_ranked_19 rfl ?_
      refine Z_iconst (nI 1) dX5_ranked_20 rfl ?_
      refine Z_icmpneN 29 dX5_ranked_21 rfl (by omega) (by omega) (fun c21 => ?_) (fun c21 => ?_)
      · refine Z_iload_n dX5_ranked_29 rfl ?_
        refine Z_iconst (nI 2) dX5_ranked_30 rfl ?_
        refine Z_icmpneN 39 dX5_ranked_31 rfl (by omega) (by omega) (fun c31 => ?_) (fun c31 => ?_)
        · refine Z_iload_n dX5_ranked_39 rfl ?_
          refine Z_iconst (nI 3) dX5_ranked_40 rfl ?_
          refine Z_icmpneN 49 dX5_ranked_41 rfl (by omega) (by omega) (fun c41 => ?_) (fun c41 => ?_)
          · obtain rfl : k = 4 := by omega
            refine Z_ldcT (i := 8) (by decide) rfl rfl (hX _ (by omega)) rfl dX5_ranked_49 ?_
            exact s_rk hM hX ht hc (k := 4) (by omega) (ihr 4 (by omega)) hz hp hns hmk hP h26 kt kf
          · subst c41
            refine Z_ldcT (i := 7) (by decide) rfl rfl (hX _ (by omega)) rfl dX5_ranked_44 ?_
            refine Z_goto 51 dX5_ranked_46 rfl ?_
            exact s_rk hM hX ht hc (k := 3) (by omega) (ihr 3 (by omega)) hz hp hns hmk hP h26 kt kf
        · subst c31
          refine Z_ldcT (i := 6) (by decide) rfl rfl (hX _ (by omega)) rfl dX5_ranked_34 ?_
          refine Z_goto 51 dX5_ranked_36 rfl ?_
          exact s_rk hM hX ht hc (k := 2) (by omega) (ihr 2 (by omega)) hz hp hns hmk hP h26 kt kf
      · subst c21
        refine Z_ldcT (i := 5) (by decide) rfl rfl (hX _ (by omega)) rfl dX5_ranked_24 ?_
        refine Z_goto 51 dX5_ranked_26 rfl ?_
        exact s_rk hM hX ht hc (k := 1) (by omega) (ihr 1 (by omega)) hz hp hns hmk hP h26 kt kf
    · subst c11
      refine Z_ldcT (i := 4) (by decide) rfl rfl (hX _ (by omega)) rfl dX5_ranked_14 ?_
      refine Z_goto 51 dX5_ranked_16 rfl ?_
      exact s_rk hM hX ht hc (k := 0) (by omega) (ihr 0 (by omega)) hz hp hns hmk hP h26 kt kf
  · subst c2
    refine Z_aload_n dX5_ranked_5 rfl ?_
    refine Z_call0 (d' := (3 * m + 10)) (zCal_V gX5_230 nX5_ahead (by decide) dX5_ranked_6) pX5_ahead hM.1 zkl4 [] rfl rfl (Nat.le_of_ble_eq_true rfl) (by omega) (iha _ _ ns p mk hz hp hns hmk hP h26 (fun I3 q3 l3 e3a e3b e3c e3d => ?_) (fun I3 q3 e3a e3b e3c => ?_))
    · refine Z_ireturn dX5_ranked_9 rfl rfl ?_
      exact kt I3 q3 l3 e3a e3b e3c e3d
    · refine Z_ireturn dX5_ranked_9 rfl rfl ?_
      exact kf I3 q3 e3a e3b e3c
/-- all readers -/
theorem PR_all (hM : mOk P S) (hX : zTx S) (ht : to ≤ 40) (hc : ∀ j, c j < 256) : ∀ m, (∀ k, k ≤ 5 → PRt G L P S c to m mX5_ranked [.ref 0, .int (nI k)] (3 * m + 8) k) ∧ PRt G L P S c to m mX5_ahead [.ref 0] (3 * m + 7) 5 ∧ PRt G L P S c to m mX5_thing [.ref 0] (3 * m + 6) 6 := by
  intro m
  induction m with
  | zero => exact ⟨fun k _ I Q ns p mk h => absurd h (by omega), fun I Q ns p mk h => absurd h (by omega), fun I Q ns p mk h => absurd h (by omega)⟩
  | succ m ih =>
    obtain ⟨i1, i2, i3⟩ := ih
    have ha : PRt G L P S c to (m + 1) mX5_ahead [.ref 0] (3 * m + 10) 5 := fun I Q ns p mk a1 a2 a3 a4 a5 a6 a7 a8 => t_ahead hM hX ht hc i3 i2 a1 a2 a3 a4 a5 a6 a7 a8
    refine ⟨fun k hk => ?_, ha, fun I Q ns p mk a1 a2 a3 a4 a5 a6 a7 a8 => t_thing hM hX ht hc (i1 0 (by omega)) a1 a2 a3 a4 a5 a6 a7 a8⟩
    exact fun I Q ns p mk a1 a2 a3 a4 a5 a6 a7 a8 => t_ranked hM hX ht hc hk (fun k hk => i1 (k + 1) (by omega)) ha a1 a2 a3 a4 a5 a6 a7 a8
end M26
