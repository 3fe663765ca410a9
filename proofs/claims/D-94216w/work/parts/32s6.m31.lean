set_option maxRecDepth 100000
/-! THE MODEL, part 31: the soonest hour by which one is done -/
section M31
variable {G : zG} {d C Sl : Nat} {I D W : zI} {R : List Int64} {L : zL} {P : zR} {S : zT} {Q : zQ} {no nn : Nat} {s A : zS}
def tO : Nat → Nat → Bool := fun h k => (h == 38 || (h == 39 || h == 40)) || (h == 0 && (k == 41 || k == 42))
theorem tO_w {a k : Nat} (h : wAt a k = true) : tO a k = false := by
  unfold tO
  by_cases e : a = 0
  · subst e
    by_cases e1 : k = 41
    · subst e1; exact absurd h (by decide)
    by_cases e2 : k = 42
    · subst e2; exact absurd h (by decide)
    simp [e1, e2]
  by_cases e1 : a = 38
  · subst e1; exact absurd h (by simp [wAt])
  by_cases e2 : a = 39
  · subst e2; exact absurd h (by simp [wAt])
  by_cases e3 : a = 40
  · subst e3; exact absurd h (by simp [wAt])
  simp [e, e1, e2, e3]
theorem tO_b {b : Nat} (hb : b = 38 ∨ b = 39) {I2 : zI} (h : fr (fun x _ => x == b) I I2) : fr tO I I2 := h.wk fun a k q => by
  by_cases e : a = b
  · subst e; exact absurd q (by rcases hb with rfl | rfl <;> simp [tO])
  · simp [e]
theorem tO_40 {I2 : zI} (h : fr (fun x _ => x == 40) I I2) : fr tO I I2 := h.wk fun a k q => by
  by_cases e : a = 40
  · subst e; exact absurd q (by simp [tO])
  · simp [e]
/-- the search within an hour: U have been gone through -/
def sI (W : zI) (p h most no b : Nat) (U : Nat → Nat → Nat → Nat → Prop) (I : zI) : Prop := tbl (I b) (nxT W p h most no U) ∧ oneS (I 0 41) (I 0 42) (fxT W p h U) ∧ (0 < most → ∀ x y, x < no → y < no → I 40 (6 * x + y) = lst W x y (h + 1))
section SI
variable {p h most b n o l c : Nat} {U T : Nat → Nat → Nat → Nat → Prop} {I2 : zI}
theorem sI_i (s : sI W p h most no b U I) (e : ∀ n o l c, U n o l c ↔ T n o l c) : sI W p h most no b T I := by
  have : U = T := by
    funext n o l c
    exact propext (e n o l c)
  rw [← this]
  exact s
theorem sI_g {l2 : Nat} (s : sI W p h most no b U I) (hl : l = l2 + (if wkO W p o h = true then 1 else 0)) (h0 : 0 < l2) (e : ∀ n2 o2 l2 c2, (U n2 o2 l2 c2 ∨ (n2 = n ∧ o2 = o ∧ l2 = l ∧ c2 = c)) ↔ T n2 o2 l2 c2) (t : tbl (I2 b) (gT (nxT W p h most no U) n o l2 c most (fun b => lsN W o b (h + 1)) no)) (f : fr (fun x _ => x == b) I I2) (hb : b = 38 ∨ b = 39) : sI W p h most no b T I2 := by
  refine ⟨tbl_eq t (nxT_c hl h0 e), ?_, fun q x y hx hy => (f 40 _ (by rcases hb with rfl | rfl <;> rfl)).trans (s.2.2 q x y hx hy)⟩
  rw [f 0 41 (by rcases hb with rfl | rfl <;> rfl), f 0 42 (by rcases hb with rfl | rfl <;> rfl)]
  exact oneS_i s.2.1 (fxT_0 hl h0 e)
theorem sI_0n (s : sI W p h most no b U I) (hl : l = 1) (hw : wkO W p o h = true) (e : ∀ n2 o2 l2 c2, (U n2 o2 l2 c2 ∨ (n2 = n ∧ o2 = o ∧ l2 = l ∧ c2 = c)) ↔ T n2 o2 l2 c2) (hno : ∀ n c, ¬ fxT W p h U n c) (hn : n < 4) (hc : c < 2 ^ 30) (hb : b = 38 ∨ b = 39) : sI W p h most no b T (zw (zw I 0 41 (nI n)) 0 42 (nI c)) := by
  refine ⟨?_, Or.inr ⟨n, c, ⟨hn, hc⟩, ?_, zw_s _ _ _ _, (fxT_c hl hw e _ _).mp (Or.inr ⟨rfl, rfl⟩), fun n2 c2 q => ?_⟩, fun q x y hx hy => ?_⟩
  · rw [zw_n _ _ _ _ (by rcases hb with rfl | rfl <;> decide), zw_n _ _ _ _ (by rcases hb with rfl | rfl <;> decide)]
    exact tbl_eq s.1 (nxT_0 hl hw e)
  · rw [zw_a, zu_n _ _ _ (by decide), zw_s]
  · rcases (fxT_c hl hw e _ _).mpr q with q | ⟨rfl, rfl⟩
    · exact absurd q (hno _ _)
    · exact Or.inr ⟨rfl, Nat.le_refl _⟩
  · rw [zw_n _ _ _ _ (by decide), zw_n _ _ _ _ (by decide)]
    exact s.2.2 q x y hx hy
theorem sI_0t {n1 c1 : Nat} (s : sI W p h most no b U I) (hl : l = 1) (hw : wkO W p o h = true) (e : ∀ n2 o2 l2 c2, (U n2 o2 l2 c2 ∨ (n2 = n ∧ o2 = o ∧ l2 = l ∧ c2 = c)) ↔ T n2 o2 l2 c2) (hmin : ∀ n2 c2, fxT W p h U n2 c2 → n1 < n2 ∨ (n1 = n2 ∧ c1 ≤ c2)) (hn : n < 4) (hc : c < 2 ^ 30) (q0 : n = n1 ∧ c < c1) (hb : b = 38 ∨ b = 39) : sI W p h most no b T (zw (zw I 0 41 (nI n)) 0 42 (nI c)) := by
  refine ⟨?_, Or.inr ⟨n, c, ⟨hn, hc⟩, ?_, zw_s _ _ _ _, (fxT_c hl hw e _ _).mp (Or.inr ⟨rfl, rfl⟩), fun n2 c2 q => ?_⟩, fun q x y hx hy => ?_⟩
  · rw [zw_n _ _ _ _ (by rcases hb with rfl | rfl <;> decide), zw_n _ _ _ _ (by rcases hb with rfl | rfl <;> decide)]
    exact tbl_eq s.1 (nxT_0 hl hw e)
  · rw [zw_a, zu_n _ _ _ (by decide), zw_s]
  · rcases (fxT_c hl hw e _ _).mpr q with q | ⟨rfl, rfl⟩
    · rcases hmin _ _ q with r | ⟨r1, r2⟩
      · exact Or.inl (by omega)
      · exact Or.inr ⟨by omega, by omega⟩
    · exact Or.inr ⟨rfl, Nat.le_refl _⟩
  · rw [zw_n _ _ _ _ (by decide), zw_n _ _ _ _ (by decide)]
    exact s.2.2 q x y hx hy
theorem sI_0f {n1 c1 : Nat} (s : sI W p h most no b U I) (hl : l = 1) (hw : wkO W p o h = true) (e : ∀ n2 o2 l2 c2, (U n2 o2 l2 c2 ∨ (n2 = n ∧ o2 = o ∧ l2 = l ∧ c2 = c)) ↔ T n2 o2 l2 c2) (e41 : I 0 41 = nI n1) (e42 : I 0 42 = nI c1) (hn1 : n1 < 4) (hc1 : c1 < 2 ^ 30) (hF : fxT W p h U n1 c1) (hmin : ∀ n2 c2, fxT W p h U n2 c2 → n1 < n2 ∨ (n1 = n2 ∧ c1 ≤ c2)) (q0 : ¬ (n = n1 ∧ c < c1)) (hle : n1 ≤ n) : sI W p h most no b T I := by
  refine ⟨tbl_eq s.1 (nxT_0 hl hw e), Or.inr ⟨n1, c1, ⟨hn1, hc1⟩, e41, e42, (fxT_c hl hw e _ _).mp (Or.inl hF), fun n2 c2 q => ?_⟩, s.2.2⟩
  rcases (fxT_c hl hw e _ _).mpr q with q | ⟨rfl, rfl⟩
  · exact hmin _ _ q
  · omega
theorem plU_le {n1 c1 : Nat} (h9 : fxT W p h (plU A (pl n o l)) n1 c1) (ho : o < 6) (hl : l < 128) : n1 ≤ n := by
  obtain ⟨o1, ⟨⟨q1, q2, q3⟩, -⟩, -⟩ := h9
  unfold pl at q1
  omega
theorem plU_o (hT : tbl A T) (hb : ∀ n o l c, T n o l c → o < no) (h6 : no ≤ 6) (hn : n < 4) : ∀ n2 o2 l2 c2, plU A (pl n no 0) n2 o2 l2 c2 ↔ plU A (pl (n + 1) 0 0) n2 o2 l2 c2 := by
  intro n2 o2 l2 c2
  constructor
  · rintro ⟨⟨h1, h2, h3⟩, h4, h5⟩
    refine ⟨⟨?_, h2, h3⟩, h4, h5⟩
    unfold pl at h1 ⊢
    omega
  · rintro ⟨⟨h1, h2, h3⟩, h4, h5⟩
    refine ⟨⟨?_, h2, h3⟩, h4, h5⟩
    have hn2 : n2 ≤ n := by unfold pl at h1; omega
    rcases hT n2 o2 l2 (by omega) h2 h3 with ⟨a, -⟩ | ⟨c, -, -, q, -⟩
    · rw [a] at h5
      exact absurd h5.symm (nI_m1 (by omega))
    · have := hb _ _ _ _ q
      unfold pl
      omega
theorem sI_3 (s : sI W p h most no b U I) (hl : 0 < l) : ((l = 1 ∧ wkO W p o h = true) ∧ I 0 41 = -1 ∧ ∀ n c, ¬ fxT W p h U n c) ∨ ((l = 1 ∧ wkO W p o h = true) ∧ ∃ n1 c1, (n1 < 4 ∧ c1 < 2 ^ 30) ∧ I 0 41 = nI n1 ∧ I 0 42 = nI c1 ∧ fxT W p h U n1 c1 ∧ ∀ n2 c2, fxT W p h U n2 c2 → n1 < n2 ∨ (n1 = n2 ∧ c1 ≤ c2)) ∨ ∃ l2, 0 < l2 ∧ l = l2 + (if wkO W p o h = true then 1 else 0) := by
  by_cases hz : l = 1 ∧ wkO W p o h = true
  · rcases s.2.1 with ⟨e41, hno⟩ | ⟨n1, c1, r⟩
    · exact Or.inl ⟨hz, e41, hno⟩
    · exact Or.inr (Or.inl ⟨hz, n1, c1, r⟩)
  · refine Or.inr (Or.inr ?_)
    by_cases hw : wkO W p o h = true
    · exact ⟨l - 1, by have : l ≠ 1 := fun e => hz ⟨e, hw⟩
                       omega, by rw [if_pos hw]; omega⟩
    · exact ⟨l, hl, by rw [if_neg hw]; rfl⟩
end SI
theorem mOk_sw (h : mOk P S) {k : Nat} (hk : mSwp k = true) (v : Option Nat) : mOk (zw P 0 k v) S := by
  refine ⟨h.1, h.2.1, fun j q hj hs => ?_⟩
  have : j ≠ k := by rintro rfl; rw [hk] at hs; exact absurd hs (by decide)
  rw [zw_a, zu_n _ _ _ this]
  exact h.2.2 j q hj hs
set_option maxHeartbeats 4000000 in
theorem soon_hr (hM : mOk P S) {a b : Nat} (hPa : P 0 38 = some a) (hPb : P 0 39 = some b) (hab : (a = 38 ∧ b = 39) ∨ (a = 39 ∧ b = 38)) (hW : wld I = W) (hw : wf W no nn) (hk : knf W no) {p h0 h most : Nat} (hp : p < nn) {T : Nat → Nat → Nat → Nat → Prop} (hT : tbl A T) (hT2 : ∀ m o l c, T m o l c → m ≤ most ∧ o < no ∧ (0 < l ∧ l ≤ 60 + 22 * m) ∧ c < 2 ^ 20) (hA : I a = A) (hBz : ∀ j, j < 3072 → I b j = -1) (h41 : I 0 41 = -1) (h40 : 0 < most → ∀ x y, x < no → y < no → I 40 (6 * x + y) = lst W x y (h + 1)) (hh : h < 2399) (hm : most ≤ 3) (k : ∀ I2, I2 a = A → tbl (I2 b) (nxT W p h most no T) → oneS (I2 0 41) (I2 0 42) (fxT W p h T) → fr tO I I2 → Zj G mX5_soonest 6 C Sl 193 [.ref 0, .int (nI p), .int (nI h0), .int (nI most), .int (nI h), .retAddr 0, .retAddr 0, .retAddr 0, .retAddr 0, .retAddr 0] [] I2 L P S Q) : Zj G mX5_soonest 6 C Sl 66 [.ref 0, .int (nI p), .int (nI h0), .int (nI most), .int (nI h), .retAddr 0, .retAddr 0, .retAddr 0, .retAddr 0, .retAddr 0] [] I L P S Q := by
  have hW0 := hW
  have h6 := hw.o6
  have n8 := hw.n8
  have hb : b = 38 ∨ b = 39 := by omega
  have hne : a ≠ b := by omega
  have ha0 : a ≠ 0 := by omega
  have hA0 : S a = some (.inr (.int, 3072)) := by rcases hab with ⟨rfl, -⟩ | ⟨rfl, -⟩ <;> exact hM.2.1 _ _ rfl
  have hB : S b = some (.inr (.int, 3072)) := by rcases hb with rfl | rfl <;> exact hM.2.1 _ _ rfl
  have bd : bdT most no T := fun m o l c q => by obtain ⟨b1, b2, ⟨b3, b4⟩, b5⟩ := hT2 m o l c q; exact ⟨b1, b2, ⟨b3, by omega⟩, b5⟩
  have emp : ∀ m o l, m < 4 → o < 6 → l < 128 → (∀ c, ¬ T m o l c) → A (pl m o l) = -1 := fun m o l q1 q2 q3 q4 => by
    rcases hT m o l q1 q2 q3 with ⟨e, -⟩ | ⟨c, -, -, q, -⟩
    · exact e
    · exact absurd q (q4 c)
  refine Z_iconst (nI 0) dX5_soonest_66 rfl ?_
  refine Z_istore (lv' := [_, _, _, _, _, _, _, _, _, _]) dX5_soonest_67 rfl rfl (Nat.le_of_ble_eq_true rfl) ?_
  have lp69 : ∀ m, m ≤ most + 1 → ∀ I3, I3 a = A → sI W p h most no b (plU A (pl m 0 0)) I3 → fr tO I I3 → Zj G mX5_soonest 6 C Sl 69 [.ref 0, .int (nI p), .int (nI h0), .int (nI most), .int (nI h), .int (nI m), .retAddr 0, .retAddr 0, .retAddr 0, .retAddr 0] [] I3 L P S Q := by
    refine zloop (most + 1) (fun m => ∀ I3, I3 a = A → sI W p h most no b (plU A (pl m 0 0)) I3 → fr tO I I3 → Zj G mX5_soonest 6 C Sl 69 [.ref 0, .int (nI p), .int (nI h0), .int (nI most), .int (nI h), .int (nI m), .retAddr 0, .retAddr 0, .retAddr 0, .retAddr 0] [] I3 L P S Q) (fun m hmx ihm => ?_)
    intro I3 hA3 gs fI
    show Zj _ _ _ _ _ _ _ _ _ _ _ _ _
    have hW : wld I3 = W := (wld_fr fI (fun _ _ => tO_w)).trans hW0
    refine Z_iload dX5_soonest_69 rfl ?_
    refine Z_iload_n dX5_soonest_71 rfl ?_
    refine Z_icmpgtN 193 dX5_soonest_72 rfl (by omega) (by omega) (fun c72 => ?_) (fun c72 => ?_)
    · have em : m = most + 1 := by omega
      rw [em] at gs
      exact Z_fgt (k _ hA3 (tbl_next hT bd h6 hm gs.1) (oneS_fin hT bd h6 hm gs.2.1) fI) (by repeat first | exact zwk_n | refine zwk_f ?_ | refine zwk_c rfl ?_)
    · refine Z_iconst (nI 0) dX5_soonest_75 rfl ?_
      refine Z_istore (lv' := [_, _, _, _, _, _, _, _, _, _]) dX5_soonest_76 rfl rfl (Nat.le_of_ble_eq_true rfl) ?_
      have lp78 : ∀ o, o ≤ no → ∀ I3, I3 a = A → sI W p h most no b (plU A (pl m o 0)) I3 → fr tO I I3 → Zj G mX5_soonest 6 C Sl 78 [.ref 0, .int (nI p), .int (nI h0), .int (nI most), .int (nI h), .int (nI m), .int (nI o), .retAddr 0, .retAddr 0, .retAddr 0] [] I3 L P S Q := by
        refine zloop (no) (fun o => ∀ I3, I3 a = A → sI W p h most no b (plU A (pl m o 0)) I3 → fr tO I I3 → Zj G mX5_soonest 6 C Sl 78 [.ref 0, .int (nI p), .int (nI h0), .int (nI most), .int (nI h), .int (nI m), .int (nI o), .retAddr 0, .retAddr 0, .retAddr 0] [] I3 L P S Q) (fun o hox iho => ?_)
        intro I3 hA3 gs fI
        show Zj _ _ _ _ _ _ _ _ _ _ _ _ _
        have hW : wld I3 = W := (wld_fr fI (fun _ _ => tO_w)).trans hW0
        refine Z_iload dX5_soonest_78 rfl ?_
        refine Z_aload_n dX5_soonest_80 rfl ?_
        refine Z_getI hM.1 fX5_22_4 dX5_soonest_81 rfl ?_
        refine Z_re ((wr (by first | exact hW | (simp only [wld_zw23, wld_zw33, wld_zw27, wld_zw34, wld_zw35, wld_zw36, wld_zw0, wld_zw1, wld_zu23]; exact hW)) rfl).trans hw.o3) ?_
        refine Z_icmpgeN 187 dX5_soonest_84 rfl (by omega) (by omega) (fun c84 => ?_) (fun c84 => ?_)
        · have eo : o = no := by omega
          rw [eo] at gs
          refine Z_iincN (a := _) (k := 1) (lv' := [_, _, _, _, _, _, _, _, _, _]) dX5_soonest_187 rfl rfl rfl rfl ?_
          refine Z_goto 69 dX5_soonest_190 rfl ?_
          exact Z_fgt (ihm (by omega) _ hA3 (sI_i gs (plU_o hT (fun _ _ _ _ q => (hT2 _ _ _ _ q).2.1) h6 (by omega))) fI) (by repeat first | exact zwk_n | refine zwk_f ?_ | refine zwk_c rfl ?_)
        · refine Z_cut0 122 (.int (nI (bI (wkO W p o h)))) (fun jn122 => ?_) ?_
          · refine Z_aload_n dX5_soonest_87 rfl ?_
            refine Z_iload dX5_soonest_88 rfl ?_
            refine Z_iload dX5_soonest_90 rfl ?_
            refine Z_call0 (d' := 2) (zCal_V gX5_120 nX5_isOpen (by decide) dX5_soonest_92) pX5_isOpen hM.1 zkl4 [_, _] rfl rfl (Nat.le_of_ble_eq_true rfl) (by omega) (c_isOpenW hM (by first | exact hW | (simp only [wld_zw23, wld_zw33, wld_zw27, wld_zw34, wld_zw35, wld_zw36, wld_zw0, wld_zw1, wld_zu23]; exact hW)) (by omega) (fun h92 => ?_) (fun h92 => ?_))
            · refine Z_ifeq 121 dX5_soonest_95 rfl (fun h => absurd h (by decide)) (fun _ => ?_)
              refine Z_aload_n dX5_soonest_98 rfl ?_
              refine Z_getR (r := 9) hM.1 fX5_47_4 dX5_soonest_99 rfl (hM.2.2 9 _ rfl rfl) ?_
              refine Z_iload dX5_soonest_102 rfl ?_
              refine Z_iald (hM.2.1 9 _ rfl) (zix_nI (by omega) (by decide)) dX5_soonest_104 ?_
              refine Z_re (wr (by first | exact hW | (simp only [wld_zw23, wld_zw33, wld_zw27, wld_zw34, wld_zw35, wld_zw36, wld_zw0, wld_zw1, wld_zu23]; exact hW)) rfl) ?_
              refine Z_aload_n dX5_soonest_105 rfl ?_
              refine Z_getR (r := 17) hM.1 fX5_154_4 dX5_soonest_106 rfl (hM.2.2 17 _ rfl rfl) ?_
              refine Z_iload_n dX5_soonest_109 rfl ?_
              refine Z_iald (hM.2.1 17 _ rfl) (zix_nI (by omega) (by decide)) dX5_soonest_110 ?_
              refine Z_re (wr (by first | exact hW | (simp only [wld_zw23, wld_zw33, wld_zw27, wld_zw34, wld_zw35, wld_zw36, wld_zw0, wld_zw1, wld_zu23]; exact hW)) rfl) ?_
              refine Z_callS0 (d' := 0) (zCal_S gX5_137 nX5_has (by decide) dX5_soonest_111) pX5_has [_, _] rfl rfl (Nat.le_of_ble_eq_true rfl) (by omega) (c_X5_has (fun h111 => ?_) (fun h111 => ?_))
              · refine Z_ifeq 121 dX5_soonest_114 rfl (fun h => absurd h (by decide)) (fun _ => ?_)
                refine Z_iconst (nI 1) dX5_soonest_117 rfl ?_
                refine Z_goto 122 dX5_soonest_118 rfl ?_
                exact Z_re (by simp [wkO, bI, h92, h111]) jn122
              · refine Z_ifeq 121 dX5_soonest_114 rfl (fun _ => ?_) (fun h => absurd h (by decide))
                refine Z_iconst (nI 0) dX5_soonest_121 rfl ?_
                exact Z_re (by simp [wkO, bI, h92, h111]) jn122
            · refine Z_ifeq 121 dX5_soonest_95 rfl (fun _ => ?_) (fun h => absurd h (by decide))
              refine Z_iconst (nI 0) dX5_soonest_121 rfl ?_
              exact Z_re (by simp [wkO, bI, h92]) jn122
          · have hbi := bI_lt (wkO W p o h)
            refine Z_callS0 (d' := 0) (zCal_S gX5_124 nX5_flag (by decide) dX5_soonest_122) pX5_flag [_] rfl rfl (Nat.le_of_ble_eq_true rfl) (by omega) (c_X5_flag (by first | decide | assumption) ?_)
            refine Z_istore (lv' := [_, _, _, _, _, _, _, _, _, _]) dX5_soonest_125 rfl rfl (Nat.le_of_ble_eq_true rfl) ?_
            refine Z_iconst (nI 1) dX5_soonest_127 rfl ?_
            refine Z_istore (lv' := [_, _, _, _, _, _, _, _, _, _]) dX5_soonest_128 rfl rfl (Nat.le_of_ble_eq_true rfl) ?_
            have lp130 : ∀ l, l ≤ 128 → 1 ≤ l → ∀ I3, I3 a = A → sI W p h most no b (plU A (pl m o l)) I3 → fr tO I I3 → Zj G mX5_soonest 6 C Sl 130 [.ref 0, .int (nI p), .int (nI h0), .int (nI most), .int (nI h), .int (nI m), .int (nI o), .int (nI (bI (wkO W p o h))), .int (nI l), .retAddr 0] [] I3 L P S Q := by
              refine zloop (128) (fun l => 1 ≤ l → ∀ I3, I3 a = A → sI W p h most no b (plU A (pl m o l)) I3 → fr tO I I3 → Zj G mX5_soonest 6 C Sl 130 [.ref 0, .int (nI p), .int (nI h0), .int (nI most), .int (nI h), .int (nI m), .int (nI o), .int (nI (bI (wkO W p o h))), .int (nI l), .retAddr 0] [] I3 L P S Q) (fun l hlx ihl => ?_)
              intro hl1 I3 hA3 gs fI
              show Zj _ _ _ _ _ _ _ _ _ _ _ _ _
              have hW : wld I3 = W := (wld_fr fI (fun _ _ => tO_w)).trans hW0
              refine Z_iload dX5_soonest_130 rfl ?_
              refine Z_sipush (nI 128) dX5_soonest_132 rfl ?_
              refine Z_icmpgeN 181 dX5_soonest_135 rfl (by omega) (by omega) (fun c135 => ?_) (fun c135 => ?_)
              · have el : l = 128 := by omega
                rw [el] at gs
                refine Z_iincN (a := _) (k := 1) (lv' := [_, _, _, _, _, _, _, _, _, _]) dX5_soonest_181 rfl rfl rfl rfl ?_
                refine Z_goto 78 dX5_soonest_184 rfl ?_
                have gs2 : sI W p h most no b (plU A (pl m (o + 1) 0)) I3 := by
                  have e : pl m (o + 1) 0 = pl m o 128 := by unfold pl; omega
                  rw [e]
                  exact gs
                exact Z_fgt (iho (by omega) _ hA3 gs2 fI) (by repeat first | exact zwk_n | refine zwk_f ?_ | refine zwk_c rfl ?_)
              · refine Z_aload_n dX5_soonest_138 rfl ?_
                refine Z_getR (r := a) hM.1 fX5_338_4 dX5_soonest_139 rfl hPa ?_
                refine Z_iload dX5_soonest_142 rfl ?_
                refine Z_iload dX5_soonest_144 rfl ?_
                refine Z_iload dX5_soonest_146 rfl ?_
                refine Z_callS0 (d' := 0) (zCal_S gX5_344 nX5_placeAt (by decide) dX5_soonest_148) pX5_placeAt [_, _, _] rfl rfl (Nat.le_of_ble_eq_true rfl) (by omega) (c_X5_placeAt  ?_)
                refine Z_iald hA0 (zix_nI (by omega) (by decide)) dX5_soonest_151 ?_
                refine Z_re (congrFun hA3 _) ?_
                rcases hT m o l (by omega) (by omega) (by omega) with ⟨e, -⟩ | ⟨c, hc, e, hTc, -⟩
                · refine Z_re (y := -1) e ?_
                  refine Z_istore (lv' := [_, _, _, _, _, _, _, _, _, _]) dX5_soonest_152 rfl rfl (Nat.le_of_ble_eq_true rfl) ?_
                  refine Z_iload dX5_soonest_154 rfl ?_
                  refine Z_iflt 175 dX5_soonest_156 rfl (fun c156 => ?_) (fun c156 => ?_)
                  · refine Z_iincN (a := _) (k := 1) (lv' := [_, _, _, _, _, _, _, _, _, _]) dX5_soonest_175 rfl rfl rfl rfl ?_
                    refine Z_goto 130 dX5_soonest_178 rfl ?_
                    exact Z_fgt (ihl (by omega) (by omega) _ hA3 (sI_i gs (plU_n (by omega) (by omega) e)) fI) (by repeat first | exact zwk_n | refine zwk_f ?_ | refine zwk_c rfl ?_)
                  · exact absurd (by decide) c156
                · refine Z_re (y := nI c) e ?_
                  obtain ⟨b1, b2, ⟨b3, b4⟩, b5⟩ := hT2 m o l c hTc
                  have eU := plU_c (A := A) (n := m) (o := o) (l := l) (c := c) (by omega) (by omega) (by omega) e
                  refine Z_istore (lv' := [_, _, _, _, _, _, _, _, _, _]) dX5_soonest_152 rfl rfl (Nat.le_of_ble_eq_true rfl) ?_
                  refine Z_iload dX5_soonest_154 rfl ?_
                  refine Z_ifltN 175 dX5_soonest_156 rfl (by omega) ?_
                  refine Z_aload_n dX5_soonest_159 rfl ?_
                  refine Z_iload dX5_soonest_160 rfl ?_
                  refine Z_iload dX5_soonest_162 rfl ?_
                  refine Z_iload dX5_soonest_164 rfl ?_
                  refine Z_iload dX5_soonest_166 rfl ?_
                  refine Z_isubN dX5_soonest_168 (by omega) ?_
                  rcases sI_3 (o := o) gs hl1 with ⟨hz, e41, hno⟩ | ⟨hz, n1, c1, ⟨hn1, hc1⟩, e41, e42, hF, hmin⟩ | ⟨l2, hl2p, el⟩
                  · refine Z_re (y := nI 0) (by rw [hz.1, hz.2]; rfl) ?_
                    refine Z_iload dX5_soonest_169 rfl ?_
                    refine Z_iload_n dX5_soonest_171 rfl ?_
                    refine Z_call0 (d' := 2) (zCal_V gX5_356 nX5_goesFrom (by decide) dX5_soonest_172) pX5_goesFrom hM.1 zkl4 [_, _, _, _, _] rfl rfl (Nat.le_of_ble_eq_true rfl) (by omega) (c_goesFrom0n hM e41 ?_)
                    refine Z_iincN (a := _) (k := 1) (lv' := [_, _, _, _, _, _, _, _, _, _]) dX5_soonest_175 rfl rfl rfl rfl ?_
                    refine Z_goto 130 dX5_soonest_178 rfl ?_
                    have s4 := sI_0n gs hz.1 hz.2 eU hno (by omega) (by omega) hb
                    exact Z_fgt (ihl (by omega) (by omega) _ (by rw [zw_n _ _ _ _ ha0, zw_n _ _ _ _ ha0]; exact hA3) s4 ((fI.st rfl).st rfl)) (by repeat first | exact zwk_n | refine zwk_f ?_ | refine zwk_c rfl ?_)
                  · refine Z_re (y := nI 0) (by rw [hz.1, hz.2]; rfl) ?_
                    refine Z_iload dX5_soonest_169 rfl ?_
                    refine Z_iload_n dX5_soonest_171 rfl ?_
                    refine Z_call0 (d' := 2) (zCal_V gX5_356 nX5_goesFrom (by decide) dX5_soonest_172) pX5_goesFrom hM.1 zkl4 [_, _, _, _, _] rfl rfl (Nat.le_of_ble_eq_true rfl) (by omega) (c_goesFrom0s hM e41 e42 (by omega) (by omega) (by omega) (by omega) (fun q172 => ?_) (fun q172 => ?_))
                    · refine Z_iincN (a := _) (k := 1) (lv' := [_, _, _, _, _, _, _, _, _, _]) dX5_soonest_175 rfl rfl rfl rfl ?_
                      refine Z_goto 130 dX5_soonest_178 rfl ?_
                      have s4 := sI_0t gs hz.1 hz.2 eU hmin (by omega) (by omega) q172 hb
                      exact Z_fgt (ihl (by omega) (by omega) _ (by rw [zw_n _ _ _ _ ha0, zw_n _ _ _ _ ha0]; exact hA3) s4 ((fI.st rfl).st rfl)) (by repeat first | exact zwk_n | refine zwk_f ?_ | refine zwk_c rfl ?_)
                    · refine Z_iincN (a := _) (k := 1) (lv' := [_, _, _, _, _, _, _, _, _, _]) dX5_soonest_175 rfl rfl rfl rfl ?_
                      refine Z_goto 130 dX5_soonest_178 rfl ?_
                      have s4 := sI_0f gs hz.1 hz.2 eU e41 e42 (by omega) (by omega) hF hmin q172 (plU_le hF (by omega) (by omega))
                      exact Z_fgt (ihl (by omega) (by omega) _ hA3 s4 fI) (by repeat first | exact zwk_n | refine zwk_f ?_ | refine zwk_c rfl ?_)
                  · have l2le : l2 ≤ l := by rw [el]; exact Nat.le_add_right _ _
                    refine Z_re (y := nI l2) (congrArg nI (by rw [el]; exact Nat.add_sub_cancel _ _)) ?_
                    refine Z_iload dX5_soonest_169 rfl ?_
                    refine Z_iload_n dX5_soonest_171 rfl ?_
                    refine Z_call0 (d' := 2) (zCal_V gX5_356 nX5_goesFrom (by decide) dX5_soonest_172) pX5_goesFrom hM.1 zkl4 [_, _, _, _, _] rfl rfl (Nat.le_of_ble_eq_true rfl) (by omega) (c_goesFromL (a := b) (T := nxT W p h most no (plU A (pl m o l))) (ls := fun x => lsN W o x (h + 1)) hM ((wr hW rfl).trans hw.o3) h6 hPb hB hb gs.1 (by omega) hm (by omega) (by omega) hl2p (by omega) (fun q x hx => ⟨(gs.2.2 (by omega) o x (by omega) hx).trans (lst_b hk (by omega) hx).1, by show l2 + lsN W o x (h + 1) < 128; have := (lst_b (h := h + 1) hk (a := o) (b := x) (by omega) hx).2; omega⟩) (fun I4 t172 y172 => ?_))
                    refine Z_iincN (a := _) (k := 1) (lv' := [_, _, _, _, _, _, _, _, _, _]) dX5_soonest_175 rfl rfl rfl rfl ?_
                    refine Z_goto 130 dX5_soonest_178 rfl ?_
                    have s4 := sI_g gs el hl2p eU t172 y172 hb
                    exact Z_fgt (ihl (by omega) (by omega) _ ((funext fun j => y172 a j (by simp [hne])).trans hA3) s4 (fI.tr (tO_b hb y172))) (by repeat first | exact zwk_n | refine zwk_f ?_ | refine zwk_c rfl ?_)
            have e0 : A (pl m o 0) = -1 := emp m o 0 (by omega) (by omega) (by omega) (fun c q => by have := (hT2 _ _ _ _ q).2.2.1.1; omega)
            exact lp130 1 (by omega) (by omega) _ hA3 (sI_i gs (plU_n (by omega) (by omega) e0)) fI
      exact lp78 0 (by omega) _ hA3 gs fI
  refine lp69 0 (by omega) _ hA ⟨?_, Or.inl ⟨h41, ?_⟩, h40⟩ fr.rf
  · refine tbl_eq (tbl_0 hBz) (fun n o l c => ⟨fun q => absurd q (by simp), ?_⟩)
    rintro ⟨n1, o1, l1, l2, c1, ⟨⟨q, -⟩, -⟩, -⟩
    exact absurd q (by simp [pl])
  · rintro n c ⟨o, ⟨⟨q, -⟩, -⟩, -⟩
    exact absurd q (by simp [pl])
set_option maxHeartbeats 4000000 in
theorem c_X5_soonest (hM : mOk P S) (hSw : (P 0 38 = some 38 ∧ P 0 39 = some 39) ∨ (P 0 38 = some 39 ∧ P 0 39 = some 38)) (hW : wld I = W) (hw : wf W no nn) (hk : knf W no) {p h0 most b0 len : Nat} (hp : p < nn) (hb0n : b0 < no) (e20 : W 20 p = nI b0) (e18 : W 18 p = nI len) (hl0 : 0 < len) (hl : len ≤ 60) (hh : h0 ≤ 2399) (hm : most ≤ 3) (ks : ∀ i n1 c1 I2 P2, h0 + i < 2399 → soon W p h0 most no i n1 c1 → I2 0 41 = nI n1 → I2 0 42 = nI c1 → mOk P2 S → (∀ x k, ¬ (x = 0 ∧ (k = 38 ∨ k = 39)) → P2 x k = P x k) → ∀ {a b : Nat}, ((a = 38 ∧ b = 39) ∨ (a = 39 ∧ b = 38)) → P2 0 38 = some a → P2 0 39 = some b → fr tO I I2 → Q (.inl (some (.int (nI (h0 + i + 1))))) I2 L P2 S) (kn : (∀ i, h0 + i < 2399 → ∀ n c, ¬ fin W p h0 most no i n c) → ∀ I2 P2, mOk P2 S → (∀ x k, ¬ (x = 0 ∧ (k = 38 ∨ k = 39)) → P2 x k = P x k) → ∀ {a b : Nat}, ((a = 38 ∧ b = 39) ∨ (a = 39 ∧ b = 38)) → P2 0 38 = some a → P2 0 39 = some b → fr tO I I2 → Q (.inl (some (.int (-1)))) I2 L P2 S) : Zm G mX5_soonest 6 C Sl [.ref 0, .int (nI p), .int (nI h0), .int (nI most)] I L P S Q := by
  have n8 := hw.n8
  have h6 := hw.o6
  obtain ⟨a, b, hab, hPa, hPb⟩ : ∃ a b, ((a = 38 ∧ b = 39) ∨ (a = 39 ∧ b = 38)) ∧ P 0 38 = some a ∧ P 0 39 = some b := by
    rcases hSw with ⟨q1, q2⟩ | ⟨q1, q2⟩
    · exact ⟨38, 39, Or.inl ⟨rfl, rfl⟩, q1, q2⟩
    · exact ⟨39, 38, Or.inr ⟨rfl, rfl⟩, q1, q2⟩
  have hA0 : S a = some (.inr (.int, 3072)) := by rcases hab with ⟨rfl, -⟩ | ⟨rfl, -⟩ <;> exact hM.2.1 _ _ rfl
  have hba : a = 38 ∨ a = 39 := by omega
  refine Z_entry (lv := [_, _, _, _, _, _, _, _, _, _]) (Nat.le_of_ble_eq_true rfl) rfl ?_
  refine Z_aload_n dX5_soonest_0 rfl ?_
  refine Z_aload_n dX5_soonest_1 rfl ?_
  refine Z_getR (r := a) hM.1 fX5_338_4 dX5_soonest_2 rfl hPa ?_
  have hW0 := hW
  refine Z_call0 (d' := 0) (zCal_V gX5_341 nX5_empties (by decide) dX5_soonest_5) pX5_empties hM.1 zkl4 [_] rfl rfl (Nat.le_of_ble_eq_true rfl) (by omega) (c_X5_empties hA0 (fun I1 z5 y5 => ?_))
  have f1 := tO_b hba y5
  have hW : wld I1 = W := (wld_fr f1 (fun _ _ => tO_w)).trans hW
  refine Z_aload_n dX5_soonest_8 rfl ?_
  refine Z_getR (r := a) hM.1 fX5_338_4 dX5_soonest_9 rfl hPa ?_
  refine Z_iconst (nI 0) dX5_soonest_12 rfl ?_
  refine Z_aload_n dX5_soonest_13 rfl ?_
  refine Z_getR (r := 20) hM.1 fX5_143_4 dX5_soonest_14 rfl (hM.2.2 20 _ rfl rfl) ?_
  refine Z_iload_n dX5_soonest_17 rfl ?_
  refine Z_iald (hM.2.1 20 _ rfl) (zix_nI (by omega) (by decide)) dX5_soonest_18 ?_
  refine Z_re (wr (by first | exact hW | (simp only [wld_zw23, wld_zw33, wld_zw27, wld_zw34, wld_zw35, wld_zw36, wld_zw0, wld_zw1, wld_zu23]; exact hW)) rfl) ?_
  refine Z_re (y := nI (b0)) e20 ?_
  refine Z_aload_n dX5_soonest_19 rfl ?_
  refine Z_getR (r := 18) hM.1 fX5_146_4 dX5_soonest_20 rfl (hM.2.2 18 _ rfl rfl) ?_
  refine Z_iload_n dX5_soonest_23 rfl ?_
  refine Z_iald (hM.2.1 18 _ rfl) (zix_nI (by omega) (by decide)) dX5_soonest_24 ?_
  refine Z_re (wr (by first | exact hW | (simp only [wld_zw23, wld_zw33, wld_zw27, wld_zw34, wld_zw35, wld_zw36, wld_zw0, wld_zw1, wld_zu23]; exact hW)) rfl) ?_
  refine Z_re (y := nI (len)) e18 ?_
  refine Z_callS0 (d' := 0) (zCal_S gX5_344 nX5_placeAt (by decide) dX5_soonest_25) pX5_placeAt [_, _, _] rfl rfl (Nat.le_of_ble_eq_true rfl) (by omega) (c_X5_placeAt  ?_)
  refine Z_iconst (nI 0) dX5_soonest_28 rfl ?_
  refine Z_iast hA0 (zix_nI (by omega) (by decide)) dX5_soonest_29 ?_
  refine Z_iload_n dX5_soonest_30 rfl ?_
  refine Z_istore (lv' := [_, _, _, _, _, _, _, _, _, _]) dX5_soonest_31 rfl rfl (Nat.le_of_ble_eq_true rfl) ?_
  have lp33 : ∀ i, i ≤ 2399 - h0 → ∀ I2 P2 a b, ((a = 38 ∧ b = 39) ∨ (a = 39 ∧ b = 38)) → P2 0 38 = some a → P2 0 39 = some b → mOk P2 S → (∀ x k, ¬ (x = 0 ∧ (k = 38 ∨ k = 39)) → P2 x k = P x k) → fr tO I I2 → tbl (I2 a) (rch W p h0 most no i) → (∀ i2, i2 < i → ∀ n c, ¬ fin W p h0 most no i2 n c) → Zj G mX5_soonest 6 C Sl 33 [.ref 0, .int (nI p), .int (nI h0), .int (nI most), .int (nI (h0 + i)), .retAddr 0, .retAddr 0, .retAddr 0, .retAddr 0, .retAddr 0] [] I2 L P2 S Q := by
    refine zloop (2399 - h0) (fun i => ∀ I2 P2 a b, ((a = 38 ∧ b = 39) ∨ (a = 39 ∧ b = 38)) → P2 0 38 = some a → P2 0 39 = some b → mOk P2 S → (∀ x k, ¬ (x = 0 ∧ (k = 38 ∨ k = 39)) → P2 x k = P x k) → fr tO I I2 → tbl (I2 a) (rch W p h0 most no i) → (∀ i2, i2 < i → ∀ n c, ¬ fin W p h0 most no i2 n c) → Zj G mX5_soonest 6 C Sl 33 [.ref 0, .int (nI p), .int (nI h0), .int (nI most), .int (nI (h0 + i)), .retAddr 0, .retAddr 0, .retAddr 0, .retAddr 0, .retAddr 0] [] I2 L P2 S Q) (fun i hi ih => ?_)
    intro I2 P2 a b hab hPa hPb hM hPf f2 hT hnf
    show Zj _ _ _ _ _ _ _ _ _ _ _ _ _
    have hW2 : wld I2 = W := (wld_fr f2 (fun _ _ => tO_w)).trans hW0
    have hb : b = 38 ∨ b = 39 := by omega
    have hne : a ≠ b := by omega
    have ha0 : a ≠ 0 := by omega
    have hb0 : b ≠ 0 := by omega
    have ha40 : a ≠ 40 := by omega
    have hb40 : b ≠ 40 := by omega
    have hA0 : S a = some (.inr (.int, 3072)) := by rcases hab with ⟨rfl, -⟩ | ⟨rfl, -⟩ <;> exact hM.2.1 _ _ rfl
    have hB0 : S b = some (.inr (.int, 3072)) := by rcases hb with rfl | rfl <;> exact hM.2.1 _ _ rfl
    refine Z_iload dX5_soonest_33 rfl ?_
    refine Z_sipush (nI 2399) dX5_soonest_35 rfl ?_
    refine Z_icmpgeN 231 dX5_soonest_38 rfl (by omega) (by omega) (fun c38 => ?_) (fun c38 => ?_)
    · refine Z_iconst (-1) dX5_soonest_231 rfl ?_
      refine Z_ireturn dX5_soonest_232 rfl rfl ?_
      exact kn (fun i2 hi2 => hnf i2 (by omega)) _ _ hM hPf hab hPa hPb f2
    · refine Z_aload_n dX5_soonest_41 rfl ?_
      refine Z_aload_n dX5_soonest_42 rfl ?_
      refine Z_getR (r := b) hM.1 fX5_347_4 dX5_soonest_43 rfl hPb ?_
      refine Z_call0 (d' := 0) (zCal_V gX5_341 nX5_empties (by decide) dX5_soonest_46) pX5_empties hM.1 zkl4 [_] rfl rfl (Nat.le_of_ble_eq_true rfl) (by omega) (c_X5_empties hB0 (fun I3 z46 y46 => ?_))
      have hW3 : wld (zw I3 0 41 (-1)) = W := (wld_fr ((tO_b hb y46).st (a := 0) (k := 41) (v := -1) rfl) (fun _ _ => tO_w)).trans hW2
      refine Z_aload_n dX5_soonest_49 rfl ?_
      refine Z_iconst (-1) dX5_soonest_50 rfl ?_
      refine Z_putI hM.1 fX5_350_4 dX5_soonest_51 rfl rfl rfl ?_
      refine Z_iload_n dX5_soonest_54 rfl ?_
      refine Z_ifleN 66 dX5_soonest_55 rfl (by omega) (fun c55 => ?_) (fun c55 => ?_)
      · have hA4 : zw I3 0 41 (-1) a = I2 a := (zw_n _ _ _ _ ha0).trans (funext fun j => y46 a j (by simp [hne]))
        have hB4 : ∀ j, j < 3072 → zw I3 0 41 (-1) b j = -1 := fun j hj => (congrFun (zw_n _ _ _ _ hb0) j).trans (z46 j hj)
        have f4 : fr tO I2 (zw I3 0 41 (-1)) := (tO_b hb y46).st rfl
        have h41 : zw I3 0 41 (-1) 0 41 = -1 := zw_s _ _ _ _
        have h40 : 0 < most → ∀ x y, x < no → y < no → zw I3 0 41 (-1) 40 (6 * x + y) = lst W x y (h0 + i + 1) := fun q => absurd q (by omega)
        have hW : wld (zw I3 0 41 (-1)) = W := (wld_fr f4 (fun _ _ => tO_w)).trans hW2
        refine Z_fgt (soon_hr hM hPa hPb hab hW hw hk (h := h0 + i) hp hT (fun m o l c q => ?_) hA4 hB4 h41 h40 (by omega) hm (fun I5 q1 q2 q3 q4 => ?_)) (by repeat first | exact zwk_n | refine zwk_f ?_ | refine zwk_c rfl ?_)
        · obtain ⟨b1, b2, ⟨b3, b4⟩, b5⟩ := rch_b hk hb0n hw.o6 e20 e18 hl0 hl i m o l c q
          have : 8 ^ m ≤ 8 ^ 3 := Nat.pow_le_pow_right (by omega) (by omega)
          exact ⟨b1, b2, ⟨b3, by omega⟩, by omega⟩
        · refine Z_aload_n dX5_soonest_193 rfl ?_
          refine Z_getI hM.1 fX5_350_4 dX5_soonest_194 rfl ?_
          rcases q3 with ⟨e41, hno⟩ | ⟨n1, c1, ⟨hn1, hc1⟩, e41, e42, hF, hmin⟩
          · refine Z_re (y := -1) e41 ?_
            refine Z_iflt 205 dX5_soonest_197 rfl (fun c197 => ?_) (fun c197 => ?_)
            · refine Z_aload_n dX5_soonest_205 rfl ?_
              refine Z_getR (r := a) hM.1 fX5_338_4 dX5_soonest_206 rfl hPa ?_
              refine Z_astore (lv' := [_, _, _, _, _, _, _, _, _, _]) dX5_soonest_209 rfl rfl (Nat.le_of_ble_eq_true rfl) ?_
              refine Z_aload_n dX5_soonest_211 rfl ?_
              refine Z_aload_n dX5_soonest_212 rfl ?_
              refine Z_getR (r := b) hM.1 fX5_347_4 dX5_soonest_213 rfl hPb ?_
              refine Z_putR hM.1 fX5_338_4 dX5_soonest_216 rfl ?_
              refine Z_aload_n dX5_soonest_219 rfl ?_
              refine Z_aload dX5_soonest_220 rfl ?_
              refine Z_putR hM.1 fX5_347_4 dX5_soonest_222 rfl ?_
              refine Z_iincN (a := _) (k := 1) (lv' := [_, _, _, _, _, _, _, _, _, _]) dX5_soonest_225 rfl rfl rfl rfl ?_
              refine Z_goto 33 dX5_soonest_228 rfl ?_
              have f5 : fr tO I I5 := (f2.tr f4).tr q4
              refine Z_fgt (ih (by omega) _ _ b a (by omega) (by rw [zw_a, zu_n _ _ _ (by decide), zw_s]) (zw_s _ _ _ _) (mOk_sw (mOk_sw hM rfl _) rfl _) (fun x k hxk => ?_) f5 q2 (fun i2 hi2 n c q => ?_)) (by repeat first | exact zwk_n | refine zwk_f ?_ | refine zwk_c rfl ?_)
              · rw [← hPf x k hxk]
                unfold zw zu
                by_cases ex : x = 0
                · subst ex
                  simp [show ¬ k = 38 from fun e => hxk ⟨rfl, Or.inl e⟩, show ¬ k = 39 from fun e => hxk ⟨rfl, Or.inr e⟩]
                · simp [ex]
              · by_cases ei : i2 = i
                · subst ei; exact hno n c q
                · exact hnf i2 (by omega) n c q
            · exact absurd (by decide) c197
          · refine Z_re (y := nI n1) e41 ?_
            refine Z_ifltN 205 dX5_soonest_197 rfl (by omega) ?_
            refine Z_iload dX5_soonest_200 rfl ?_
            refine Z_iconst (nI 1) dX5_soonest_202 rfl ?_
            refine Z_iaddN dX5_soonest_203 ?_
            refine Z_ireturn dX5_soonest_204 rfl rfl ?_
            exact ks i n1 c1 _ _ (by omega) ⟨hF, fun i2 n2 c2 q => hnf i2 q n2 c2, hmin⟩ e41 e42 hM hPf hab hPa hPb ((f2.tr f4).tr q4)
      · refine Z_aload_n dX5_soonest_58 rfl ?_
        refine Z_iload dX5_soonest_59 rfl ?_
        refine Z_iconst (nI 1) dX5_soonest_61 rfl ?_
        refine Z_iaddN dX5_soonest_62 ?_
        refine Z_call0 (d' := 5) (zCal_V gX5_353 nX5_losesAll (by decide) dX5_soonest_63) pX5_losesAll hM.1 zkl4 [_] rfl rfl (Nat.le_of_ble_eq_true rfl) (by omega) (c_X5_losesAll hM hW3 hw.o3 hw.o6 (by omega) (fun I4 z63 y63 => ?_))
        have hA4 : I4 a = I2 a := (funext fun j => y63 a j (by simp [ha40])).trans ((zw_n _ _ _ _ ha0).trans (funext fun j => y46 a j (by simp [hne])))
        have hB4 : ∀ j, j < 3072 → I4 b j = -1 := fun j hj => (y63 b j (by simp [hb40])).trans ((congrFun (zw_n _ _ _ _ hb0) j).trans (z46 j hj))
        have f4 : fr tO I2 I4 := ((tO_b hb y46).st rfl).tr (tO_40 y63)
        have h41 : I4 0 41 = -1 := (y63 0 41 rfl).trans (zw_s _ _ _ _)
        have h40 : 0 < most → ∀ x y, x < no → y < no → I4 40 (6 * x + y) = lst W x y (h0 + i + 1) := fun _ x y hx hy => z63 x y hx hy
        have hW : wld I4 = W := (wld_fr f4 (fun _ _ => tO_w)).trans hW2
        refine Z_fgt (soon_hr hM hPa hPb hab hW hw hk (h := h0 + i) hp hT (fun m o l c q => ?_) hA4 hB4 h41 h40 (by omega) hm (fun I5 q1 q2 q3 q4 => ?_)) (by repeat first | exact zwk_n | refine zwk_f ?_ | refine zwk_c rfl ?_)
        · obtain ⟨b1, b2, ⟨b3, b4⟩, b5⟩ := rch_b hk hb0n hw.o6 e20 e18 hl0 hl i m o l c q
          have : 8 ^ m ≤ 8 ^ 3 := Nat.pow_le_pow_right (by omega) (by omega)
          exact ⟨b1, b2, ⟨b3, by omega⟩, by omega⟩
        · refine Z_aload_n dX5_soonest_193 rfl ?_
          refine Z_getI hM.1 fX5_350_4 dX5_soonest_194 rfl ?_
          rcases q3 with ⟨e41, hno⟩ | ⟨n1, c1, ⟨hn1, hc1⟩, e41, e42, hF, hmin⟩
          · refine Z_re (y := -1) e41 ?_
            refine Z_iflt 205 dX5_soonest_197 rfl (fun c197 => ?_) (fun c197 => ?_)
            · refine Z_aload_n dX5_soonest_205 rfl ?_
              refine Z_getR (r := a) hM.1 fX5_338_4 dX5_soonest_206 rfl hPa ?_
              refine Z_astore (lv' := [_, _, _, _, _, _, _, _, _, _]) dX5_soonest_209 rfl rfl (Nat.le_of_ble_eq_true rfl) ?_
              refine Z_aload_n dX5_soonest_211 rfl ?_
              refine Z_aload_n dX5_soonest_212 rfl ?_
              refine Z_getR (r := b) hM.1 fX5_347_4 dX5_soonest_213 rfl hPb ?_
              refine Z_putR hM.1 fX5_338_4 dX5_soonest_216 rfl ?_
              refine Z_aload_n dX5_soonest_219 rfl ?_
              refine Z_aload dX5_soonest_220 rfl ?_
              refine Z_putR hM.1 fX5_347_4 dX5_soonest_222 rfl ?_
              refine Z_iincN (a := _) (k := 1) (lv' := [_, _, _, _, _, _, _, _, _, _]) dX5_soonest_225 rfl rfl rfl rfl ?_
              refine Z_goto 33 dX5_soonest_228 rfl ?_
              have f5 : fr tO I I5 := (f2.tr f4).tr q4
              refine Z_fgt (ih (by omega) _ _ b a (by omega) (by rw [zw_a, zu_n _ _ _ (by decide), zw_s]) (zw_s _ _ _ _) (mOk_sw (mOk_sw hM rfl _) rfl _) (fun x k hxk => ?_) f5 q2 (fun i2 hi2 n c q => ?_)) (by repeat first | exact zwk_n | refine zwk_f ?_ | refine zwk_c rfl ?_)
              · rw [← hPf x k hxk]
                unfold zw zu
                by_cases ex : x = 0
                · subst ex
                  simp [show ¬ k = 38 from fun e => hxk ⟨rfl, Or.inl e⟩, show ¬ k = 39 from fun e => hxk ⟨rfl, Or.inr e⟩]
                · simp [ex]
              · by_cases ei : i2 = i
                · subst ei; exact hno n c q
                · exact hnf i2 (by omega) n c q
            · exact absurd (by decide) c197
          · refine Z_re (y := nI n1) e41 ?_
            refine Z_ifltN 205 dX5_soonest_197 rfl (by omega) ?_
            refine Z_iload dX5_soonest_200 rfl ?_
            refine Z_iconst (nI 1) dX5_soonest_202 rfl ?_
            refine Z_iaddN dX5_soonest_203 ?_
            refine Z_ireturn dX5_soonest_204 rfl rfl ?_
            exact ks i n1 c1 _ _ (by omega) ⟨hF, fun i2 n2 c2 q => hnf i2 q n2 c2, hmin⟩ e41 e42 hM hPf hab hPa hPb ((f2.tr f4).tr q4)
  have t0 := tbl_l (tbl_0 z5) (n := 0) (o := b0) (l := len) (c := 0) (by omega) (by omega) (by omega) (by omega)
  refine lp33 0 (by omega) _ _ a b hab hPa hPb hM (fun _ _ _ => rfl) (f1.st (by rcases hba with rfl | rfl <;> rfl)) ?_ (fun i2 hi2 => absurd hi2 (by omega))
  rw [zw_a]
  have e9 : lstV (I1 a (pl 0 b0 len)) (nI 0) = nI 0 := by rw [z5 _ (pl_lt (by omega) (by omega) (by omega))]; rfl
  rw [e9] at t0
  refine tbl_eq t0 (fun n o l c => ?_)
  show _ ↔ (n = 0 ∧ o = (W 20 p).toNatClampNeg ∧ l = (W 18 p).toNatClampNeg ∧ c = 0)
  rw [e20, e18, nI_clamp (by omega), nI_clamp (by omega)]
  exact ⟨fun q => q.elim (fun q => absurd q id) id, Or.inr⟩
end M31
