set_option maxRecDepth 100000
/-! THE MODEL, part 3: the small methods of the state -/
section M3
variable {G : zG} {d C Sl : Nat} {I W : zI} {L : zL} {P : zR} {S : zT} {Q : zQ} {s : zS} {no n : Nat}
set_option maxHeartbeats 4000000 in
theorem c_X5_isDone (hM : mOk P S) (hs : I 23 = s) {p : Nat} (hp : p < 8) (kt : isDn s p = true → Q (.inl (some (.int (nI 1)))) I L P S) (kf : isDn s p = false → Q (.inl (some (.int (nI 0)))) I L P S) : Zm G mX5_isDone 0 C Sl [.ref 0, .int (nI p)] I L P S Q := by
  refine Z_entry (lv := [_, _]) (Nat.le_of_ble_eq_true rfl) rfl ?_
  refine Z_aload_n dX5_isDone_0 rfl ?_
  refine Z_getR (r := 23) hM.1 fX5_140_4 dX5_isDone_1 rfl (hM.2.2 23 _ rfl rfl) ?_
  refine Z_bipush (nI 35) dX5_isDone_4 rfl ?_
  refine Z_iload_n dX5_isDone_6 rfl ?_
  refine Z_iaddN dX5_isDone_7 ?_
  refine Z_iald (hM.2.1 23 _ rfl) (zix_nI (by omega) (by decide)) dX5_isDone_8 ?_
  refine Z_re (congrFun hs _) ?_
  refine Z_iflt 16 dX5_isDone_9 rfl (fun c9 => ?_) (fun c9 => ?_)
  · refine Z_iconst (nI 0) dX5_isDone_16 rfl ?_
    refine Z_ireturn dX5_isDone_17 rfl rfl ?_
    exact kf (by simp [isDn, c9])
  · refine Z_iconst (nI 1) dX5_isDone_12 rfl ?_
    refine Z_goto 17 dX5_isDone_13 rfl ?_
    refine Z_ireturn dX5_isDone_17 rfl rfl ?_
    exact kt (by simp [isDn, c9])
set_option maxHeartbeats 4000000 in
theorem c_X5_asked (hM : mOk P S) (hW : wld I = W) {p : Nat} (hp : p < 8) (k : Q (.inl (some (.int (askd W p)))) I L P S) : Zm G mX5_asked 0 C Sl [.ref 0, .int (nI p)] I L P S Q := by
  refine Z_entry (lv := [_, _]) (Nat.le_of_ble_eq_true rfl) rfl ?_
  refine Z_aload_n dX5_asked_0 rfl ?_
  refine Z_getI hM.1 fX5_271_4 dX5_asked_1 rfl ?_
  refine Z_re (wr (by first | exact hW | (simp only [wld_zw23, wld_zw33, wld_zw27, wld_zw34, wld_zw35, wld_zw36, wld_zw0, wld_zw1, wld_zu23]; exact hW)) rfl) ?_
  refine Z_ifeq 11 dX5_asked_4 rfl (fun c4 => ?_) (fun c4 => ?_)
  · refine Z_aload_n dX5_asked_11 rfl ?_
    refine Z_getR (r := 21) hM.1 fX5_163_4 dX5_asked_12 rfl (hM.2.2 21 _ rfl rfl) ?_
    refine Z_iload_n dX5_asked_15 rfl ?_
    refine Z_iald (hM.2.1 21 _ rfl) (zix_nI (by omega) (by decide)) dX5_asked_16 ?_
    refine Z_re (wr (by first | exact hW | (simp only [wld_zw23, wld_zw33, wld_zw27, wld_zw34, wld_zw35, wld_zw36, wld_zw0, wld_zw1, wld_zu23]; exact hW)) rfl) ?_
    refine Z_ireturn dX5_asked_17 rfl rfl ?_
    exact zQe (by simp [askd, c4]) k
  · refine Z_iconst (-1) dX5_asked_7 rfl ?_
    refine Z_goto 17 dX5_asked_8 rfl ?_
    refine Z_ireturn dX5_asked_17 rfl rfl ?_
    exact zQe (by simp [askd, c4]) k
set_option maxHeartbeats 4000000 in
theorem c_X5_isReady (hM : mOk P S) (hW : wld I = W) (hs : I 23 = s) {p : Nat} (hp : p < 8) (kt : rdy W s p = true → Q (.inl (some (.int (nI 1)))) I L P S) (kf : rdy W s p = false → Q (.inl (some (.int (nI 0)))) I L P S) : Zm G mX5_isReady 1 C Sl [.ref 0, .int (nI p)] I L P S Q := by
  refine Z_entry (lv := [_, _, _, _]) (Nat.le_of_ble_eq_true rfl) rfl ?_
  refine Z_aload_n dX5_isReady_0 rfl ?_
  refine Z_iload_n dX5_isReady_1 rfl ?_
  refine Z_call0 (d' := 0) (zCal_V gX5_265 nX5_isDone (by decide) dX5_isReady_2) pX5_isDone hM.1 zkl4 [_] rfl rfl (Nat.le_of_ble_eq_true rfl) (by omega) (c_X5_isDone hM hs (by omega) (fun h2 => ?_) (fun h2 => ?_))
  · refine Z_cut1 13 (.int (nI (bI (!isDn s p)))) (fun jn13 => ?_) ?_
    · refine Z_ifne 12 dX5_isReady_5 rfl (fun _ => ?_) (fun h => absurd h (by decide))
      refine Z_iconst (nI 0) dX5_isReady_12 rfl ?_
      exact Z_re (by rw [h2]; rfl) jn13
    · refine Z_istore_n (lv' := [_, _, _, _]) dX5_isReady_13 rfl rfl (Nat.le_of_ble_eq_true rfl) ?_
      refine Z_iconst (nI 0) dX5_isReady_14 rfl ?_
      refine Z_istore_n (lv' := [_, _, _, _]) dX5_isReady_15 rfl rfl (Nat.le_of_ble_eq_true rfl) ?_
      have lp16 : ∀ i, i ≤ p → Zj G mX5_isReady 1 C Sl 16 [.ref 0, .int (nI p), .int (nI (bI (!isDn s p && allB (fun o => !zbit (W 19 p) (nI o) || isDn s o) i))), .int (nI i)] [] I L P S Q := by
        refine zloop (p) (fun i => Zj G mX5_isReady 1 C Sl 16 [.ref 0, .int (nI p), .int (nI (bI (!isDn s p && allB (fun o => !zbit (W 19 p) (nI o) || isDn s o) i))), .int (nI i)] [] I L P S Q) (fun i hi ih => ?_)
        show Zj _ _ _ _ _ _ _ _ _ _ _ _ _
        refine Z_iload_n dX5_isReady_16 rfl ?_
        refine Z_iload_n dX5_isReady_17 rfl ?_
        refine Z_icmpgeN 58 dX5_isReady_18 rfl (by first | omega | (have := bI_lt (!isDn s p && allB (fun o => !zbit (W 19 p) (nI o) || isDn s o) i); omega)) (by first | omega | (have := bI_lt (!isDn s p && allB (fun o => !zbit (W 19 p) (nI o) || isDn s o) i); omega)) (fun c18 => ?_) (fun c18 => ?_)
        · obtain rfl : i = p := by omega
          refine Z_iload_n dX5_isReady_58 rfl ?_
          refine Z_ireturn dX5_isReady_59 rfl (nar_b _) ?_
          exact zQb kt kf
        · refine Z_iload_n dX5_isReady_21 rfl ?_
          refine Z_ifeqN 50 dX5_isReady_22 rfl (by first | omega | (have := bI_lt (!isDn s p && allB (fun o => !zbit (W 19 p) (nI o) || isDn s o) i); omega)) (fun c22 => ?_) (fun c22 => ?_)
          · refine Z_iconst (nI 0) dX5_isReady_50 rfl ?_
            refine Z_istore_n (lv' := [_, _, _, _]) dX5_isReady_51 rfl rfl (Nat.le_of_ble_eq_true rfl) ?_
            refine Z_iincN (a := _) (k := 1) (lv' := [_, _, _, _]) dX5_isReady_52 rfl rfl rfl rfl ?_
            refine Z_goto 16 dX5_isReady_55 rfl ?_
            have ih2 := ih (by omega)
            simp only [bI_0, bI_1] at c22
            have e : (!isDn s p && allB (fun o => !zbit (W 19 p) (nI o) || isDn s o) (i + 1)) = false := by
              have c22 := c22
              simp_all [allB]
            rw [e] at ih2
            exact ih2
          · refine Z_aload_n dX5_isReady_25 rfl ?_
            refine Z_getR (r := 19) hM.1 fX5_160_4 dX5_isReady_26 rfl (hM.2.2 19 _ rfl rfl) ?_
            refine Z_iload_n dX5_isReady_29 rfl ?_
            refine Z_iald (hM.2.1 19 _ rfl) (zix_nI (by omega) (by decide)) dX5_isReady_30 ?_
            refine Z_re (wr (by first | exact hW | (simp only [wld_zw23, wld_zw33, wld_zw27, wld_zw34, wld_zw35, wld_zw36, wld_zw0, wld_zw1, wld_zu23]; exact hW)) rfl) ?_
            refine Z_iload_n dX5_isReady_31 rfl ?_
            refine Z_callS0 (d' := 0) (zCal_S gX5_137 nX5_has (by decide) dX5_isReady_32) pX5_has [_, _] rfl rfl (Nat.le_of_ble_eq_true rfl) (by omega) (c_X5_has (fun h32 => ?_) (fun h32 => ?_))
            · refine Z_ifeq 46 dX5_isReady_35 rfl (fun h => absurd h (by decide)) (fun _ => ?_)
              refine Z_aload_n dX5_isReady_38 rfl ?_
              refine Z_iload_n dX5_isReady_39 rfl ?_
              refine Z_call0 (d' := 0) (zCal_V gX5_265 nX5_isDone (by decide) dX5_isReady_40) pX5_isDone hM.1 zkl4 [_] rfl rfl (Nat.le_of_ble_eq_true rfl) (by omega) (c_X5_isDone hM hs (by omega) (fun h40 => ?_) (fun h40 => ?_))
              · refine Z_ifeq 50 dX5_isReady_43 rfl (fun h => absurd h (by decide)) (fun _ => ?_)
                refine Z_iconst (nI 1) dX5_isReady_46 rfl ?_
                refine Z_goto 51 dX5_isReady_47 rfl ?_
                refine Z_istore_n (lv' := [_, _, _, _]) dX5_isReady_51 rfl rfl (Nat.le_of_ble_eq_true rfl) ?_
                refine Z_iincN (a := _) (k := 1) (lv' := [_, _, _, _]) dX5_isReady_52 rfl rfl rfl rfl ?_
                refine Z_goto 16 dX5_isReady_55 rfl ?_
                have ih2 := ih (by omega)
                simp only [bI_0, bI_1] at c22
                have e : (!isDn s p && allB (fun o => !zbit (W 19 p) (nI o) || isDn s o) (i + 1)) = true := by
                  have c22 := c22
                  simp_all [allB]
                rw [e] at ih2
                exact ih2
              · refine Z_ifeq 50 dX5_isReady_43 rfl (fun _ => ?_) (fun h => absurd h (by decide))
                refine Z_iconst (nI 0) dX5_isReady_50 rfl ?_
                refine Z_istore_n (lv' := [_, _, _, _]) dX5_isReady_51 rfl rfl (Nat.le_of_ble_eq_true rfl) ?_
                refine Z_iincN (a := _) (k := 1) (lv' := [_, _, _, _]) dX5_isReady_52 rfl rfl rfl rfl ?_
                refine Z_goto 16 dX5_isReady_55 rfl ?_
                have ih2 := ih (by omega)
                simp only [bI_0, bI_1] at c22
                have e : (!isDn s p && allB (fun o => !zbit (W 19 p) (nI o) || isDn s o) (i + 1)) = false := by
                  have c22 := c22
                  simp_all [allB]
                rw [e] at ih2
                exact ih2
            · refine Z_ifeq 46 dX5_isReady_35 rfl (fun _ => ?_) (fun h => absurd h (by decide))
              refine Z_iconst (nI 1) dX5_isReady_46 rfl ?_
              refine Z_goto 51 dX5_isReady_47 rfl ?_
              refine Z_istore_n (lv' := [_, _, _, _]) dX5_isReady_51 rfl rfl (Nat.le_of_ble_eq_true rfl) ?_
              refine Z_iincN (a := _) (k := 1) (lv' := [_, _, _, _]) dX5_isReady_52 rfl rfl rfl rfl ?_
              refine Z_goto 16 dX5_isReady_55 rfl ?_
              have ih2 := ih (by omega)
              simp only [bI_0, bI_1] at c22
              have e : (!isDn s p && allB (fun o => !zbit (W 19 p) (nI o) || isDn s o) (i + 1)) = true := by
                have c22 := c22
                simp_all [allB]
              rw [e] at ih2
              exact ih2
      refine Z_fgt (lp16 0 (by omega)) ?_
      simp [zwk, allB]
  · refine Z_cut1 13 (.int (nI (bI (!isDn s p)))) (fun jn13 => ?_) ?_
    · refine Z_ifne 12 dX5_isReady_5 rfl (fun h => absurd h (by decide)) (fun _ => ?_)
      refine Z_iconst (nI 1) dX5_isReady_8 rfl ?_
      refine Z_goto 13 dX5_isReady_9 rfl ?_
      exact Z_re (by rw [h2]; rfl) jn13
    · refine Z_istore_n (lv' := [_, _, _, _]) dX5_isReady_13 rfl rfl (Nat.le_of_ble_eq_true rfl) ?_
      refine Z_iconst (nI 0) dX5_isReady_14 rfl ?_
      refine Z_istore_n (lv' := [_, _, _, _]) dX5_isReady_15 rfl rfl (Nat.le_of_ble_eq_true rfl) ?_
      have lp16 : ∀ i, i ≤ p → Zj G mX5_isReady 1 C Sl 16 [.ref 0, .int (nI p), .int (nI (bI (!isDn s p && allB (fun o => !zbit (W 19 p) (nI o) || isDn s o) i))), .int (nI i)] [] I L P S Q := by
        refine zloop (p) (fun i => Zj G mX5_isReady 1 C Sl 16 [.ref 0, .int (nI p), .int (nI (bI (!isDn s p && allB (fun o => !zbit (W 19 p) (nI o) || isDn s o) i))), .int (nI i)] [] I L P S Q) (fun i hi ih => ?_)
        show Zj _ _ _ _ _ _ _ _ _ _ _ _ _
        refine Z_iload_n dX5_isReady_16 rfl ?_
        refine Z_iload_n dX5_isReady_17 rfl ?_
        refine Z_icmpgeN 58 dX5_isReady_18 rfl (by first | omega | (have := bI_lt (!isDn s p && allB (fun o => !zbit (W 19 p) (nI o) || isDn s o) i); omega)) (by first | omega | (have := bI_lt (!isDn s p && allB (fun o => !zbit (W 19 p) (nI o) || isDn s o) i); omega)) (fun c18 => ?_) (fun c18 => ?_)
        · obtain rfl : i = p := by omega
          refine Z_iload_n dX5_isReady_58 rfl ?_
          refine Z_ireturn dX5_isReady_59 rfl (nar_b _) ?_
          exact zQb kt kf
        · refine Z_iload_n dX5_isReady_21 rfl ?_
          refine Z_ifeqN 50 dX5_isReady_22 rfl (by first | omega | (have := bI_lt (!isDn s p && allB (fun o => !zbit (W 19 p) (nI o) || isDn s o) i); omega)) (fun c22 => ?_) (fun c22 => ?_)
          · refine Z_iconst (nI 0) dX5_isReady_50 rfl ?_
            refine Z_istore_n (lv' := [_, _, _, _]) dX5_isReady_51 rfl rfl (Nat.le_of_ble_eq_true rfl) ?_
            refine Z_iincN (a := _) (k := 1) (lv' := [_, _, _, _]) dX5_isReady_52 rfl rfl rfl rfl ?_
            refine Z_goto 16 dX5_isReady_55 rfl ?_
            have ih2 := ih (by omega)
            simp only [bI_0, bI_1] at c22
            have e : (!isDn s p && allB (fun o => !zbit (W 19 p) (nI o) || isDn s o) (i + 1)) = false := by
              have c22 := c22
              simp_all [allB]
            rw [e] at ih2
            exact ih2
          · refine Z_aload_n dX5_isReady_25 rfl ?_
            refine Z_getR (r := 19) hM.1 fX5_160_4 dX5_isReady_26 rfl (hM.2.2 19 _ rfl rfl) ?_
            refine Z_iload_n dX5_isReady_29 rfl ?_
            refine Z_iald (hM.2.1 19 _ rfl) (zix_nI (by omega) (by decide)) dX5_isReady_30 ?_
            refine Z_re (wr (by first | exact hW | (simp only [wld_zw23, wld_zw33, wld_zw27, wld_zw34, wld_zw35, wld_zw36, wld_zw0, wld_zw1, wld_zu23]; exact hW)) rfl) ?_
            refine Z_iload_n dX5_isReady_31 rfl ?_
            refine Z_callS0 (d' := 0) (zCal_S gX5_137 nX5_has (by decide) dX5_isReady_32) pX5_has [_, _] rfl rfl (Nat.le_of_ble_eq_true rfl) (by omega) (c_X5_has (fun h32 => ?_) (fun h32 => ?_))
            · refine Z_ifeq 46 dX5_isReady_35 rfl (fun h => absurd h (by decide)) (fun _ => ?_)
              refine Z_aload_n dX5_isReady_38 rfl ?_
              refine Z_iload_n dX5_isReady_39 rfl ?_
              refine Z_call0 (d' := 0) (zCal_V gX5_265 nX5_isDone (by decide) dX5_isReady_40) pX5_isDone hM.1 zkl4 [_] rfl rfl (Nat.le_of_ble_eq_true rfl) (by omega) (c_X5_isDone hM hs (by omega) (fun h40 => ?_) (fun h40 => ?_))
              · refine Z_ifeq 50 dX5_isReady_43 rfl (fun h => absurd h (by decide)) (fun _ => ?_)
                refine Z_iconst (nI 1) dX5_isReady_46 rfl ?_
                refine Z_goto 51 dX5_isReady_47 rfl ?_
                refine Z_istore_n (lv' := [_, _, _, _]) dX5_isReady_51 rfl rfl (Nat.le_of_ble_eq_true rfl) ?_
                refine Z_iincN (a := _) (k := 1) (lv' := [_, _, _, _]) dX5_isReady_52 rfl rfl rfl rfl ?_
                refine Z_goto 16 dX5_isReady_55 rfl ?_
                have ih2 := ih (by omega)
                simp only [bI_0, bI_1] at c22
                have e : (!isDn s p && allB (fun o => !zbit (W 19 p) (nI o) || isDn s o) (i + 1)) = true := by
                  have c22 := c22
                  simp_all [allB]
                rw [e] at ih2
                exact ih2
              · refine Z_ifeq 50 dX5_isReady_43 rfl (fun _ => ?_) (fun h => absurd h (by decide))
                refine Z_iconst (nI 0) dX5_isReady_50 rfl ?_
                refine Z_istore_n (lv' := [_, _, _, _]) dX5_isReady_51 rfl rfl (Nat.le_of_ble_eq_true rfl) ?_
                refine Z_iincN (a := _) (k := 1) (lv' := [_, _, _, _]) dX5_isReady_52 rfl rfl rfl rfl ?_
                refine Z_goto 16 dX5_isReady_55 rfl ?_
                have ih2 := ih (by omega)
                simp only [bI_0, bI_1] at c22
                have e : (!isDn s p && allB (fun o => !zbit (W 19 p) (nI o) || isDn s o) (i + 1)) = false := by
                  have c22 := c22
                  simp_all [allB]
                rw [e] at ih2
                exact ih2
            · refine Z_ifeq 46 dX5_isReady_35 rfl (fun _ => ?_) (fun h => absurd h (by decide))
              refine Z_iconst (nI 1) dX5_isReady_46 rfl ?_
              refine Z_goto 51 dX5_isReady_47 rfl ?_
              refine Z_istore_n (lv' := [_, _, _, _]) dX5_isReady_51 rfl rfl (Nat.le_of_ble_eq_true rfl) ?_
              refine Z_iincN (a := _) (k := 1) (lv' := [_, _, _, _]) dX5_isReady_52 rfl rfl rfl rfl ?_
              refine Z_goto 16 dX5_isReady_55 rfl ?_
              have ih2 := ih (by omega)
              simp only [bI_0, bI_1] at c22
              have e : (!isDn s p && allB (fun o => !zbit (W 19 p) (nI o) || isDn s o) (i + 1)) = true := by
                have c22 := c22
                simp_all [allB]
              rw [e] at ih2
              exact ih2
      refine Z_fgt (lp16 0 (by omega)) ?_
      simp [zwk, allB]
set_option maxHeartbeats 4000000 in
theorem c_X5_readyBits (hM : mOk P S) (hW : wld I = W) (hs : I 23 = s) (hw : wf W no n) (k : Q (.inl (some (.int (orB (rdy W s) n)))) I L P S) : Zm G mX5_readyBits 2 C Sl [.ref 0] I L P S Q := by
  have hn8 := hw.n8
  have ho6 := hw.o6
  refine Z_entry (lv := [_, _, _]) (Nat.le_of_ble_eq_true rfl) rfl ?_
  refine Z_iconst (nI 0) dX5_readyBits_0 rfl ?_
  refine Z_istore_n (lv' := [_, _, _]) dX5_readyBits_1 rfl rfl (Nat.le_of_ble_eq_true rfl) ?_
  refine Z_iconst (nI 0) dX5_readyBits_2 rfl ?_
  refine Z_istore_n (lv' := [_, _, _]) dX5_readyBits_3 rfl rfl (Nat.le_of_ble_eq_true rfl) ?_
  have lp4 : ∀ i, i ≤ n → Zj G mX5_readyBits 2 C Sl 4 [.ref 0, .int (orB (rdy W s) i), .int (nI i)] [] I L P S Q := by
    refine zloop (n) (fun i => Zj G mX5_readyBits 2 C Sl 4 [.ref 0, .int (orB (rdy W s) i), .int (nI i)] [] I L P S Q) (fun i hi ih => ?_)
    show Zj _ _ _ _ _ _ _ _ _ _ _ _ _
    refine Z_iload_n dX5_readyBits_4 rfl ?_
    refine Z_aload_n dX5_readyBits_5 rfl ?_
    refine Z_getI hM.1 fX5_151_4 dX5_readyBits_6 rfl ?_
    refine Z_re ((wr (by first | exact hW | (simp only [wld_zw23, wld_zw33, wld_zw27, wld_zw34, wld_zw35, wld_zw36, wld_zw0, wld_zw1, wld_zu23]; exact hW)) rfl).trans hw.n16) ?_
    refine Z_icmpgeN 36 dX5_readyBits_9 rfl (by omega) (by omega) (fun c9 => ?_) (fun c9 => ?_)
    · obtain rfl : i = n := by omega
      refine Z_iload_n dX5_readyBits_36 rfl ?_
      refine Z_ireturn dX5_readyBits_37 rfl rfl ?_
      exact k
    · refine Z_iload_n dX5_readyBits_12 rfl ?_
      refine Z_aload_n dX5_readyBits_13 rfl ?_
      refine Z_iload_n dX5_readyBits_14 rfl ?_
      refine Z_call0 (d' := 1) (zCal_V gX5_268 nX5_isReady (by decide) dX5_readyBits_15) pX5_isReady hM.1 zkl4 [_] rfl rfl (Nat.le_of_ble_eq_true rfl) (by omega) (c_X5_isReady hM (by first | exact hW | (simp only [wld_zw23, wld_zw33, wld_zw27, wld_zw34, wld_zw35, wld_zw36, wld_zw0, wld_zw1, wld_zu23]; exact hW)) hs (by omega) (fun h15 => ?_) (fun h15 => ?_))
      · refine Z_ifeq 27 dX5_readyBits_18 rfl (fun h => absurd h (by decide)) (fun _ => ?_)
        refine Z_iconst (nI 1) dX5_readyBits_21 rfl ?_
        refine Z_iload_n dX5_readyBits_22 rfl ?_
        refine Z_ishl dX5_readyBits_23 ?_
        refine Z_goto 28 dX5_readyBits_24 rfl ?_
        refine Z_ior dX5_readyBits_28 ?_
        refine Z_istore_n (lv' := [_, _, _]) dX5_readyBits_29 rfl rfl (Nat.le_of_ble_eq_true rfl) ?_
        refine Z_iincN (a := _) (k := 1) (lv' := [_, _, _]) dX5_readyBits_30 rfl rfl rfl rfl ?_
        refine Z_goto 4 dX5_readyBits_33 rfl ?_
        have ih2 := ih (by omega)
        simp only [orB, c9, h15, Bool.and_self, Bool.and_false, Bool.false_and, Bool.true_and, Bool.and_true, Bool.not_true, Bool.not_false, Bool.or_true, Bool.true_or, Bool.or_false, Bool.false_or, Bool.false_eq_true, if_true, if_false, reduceIte] at ih2
        exact ih2
      · refine Z_ifeq 27 dX5_readyBits_18 rfl (fun _ => ?_) (fun h => absurd h (by decide))
        refine Z_iconst (nI 0) dX5_readyBits_27 rfl ?_
        refine Z_ior dX5_readyBits_28 ?_
        refine Z_istore_n (lv' := [_, _, _]) dX5_readyBits_29 rfl rfl (Nat.le_of_ble_eq_true rfl) ?_
        refine Z_iincN (a := _) (k := 1) (lv' := [_, _, _]) dX5_readyBits_30 rfl rfl rfl rfl ?_
        refine Z_goto 4 dX5_readyBits_33 rfl ?_
        have ih2 := ih (by omega)
        simp only [orB, c9, h15, Bool.and_self, Bool.and_false, Bool.false_and, Bool.true_and, Bool.and_true, Bool.not_true, Bool.not_false, Bool.or_true, Bool.true_or, Bool.or_false, Bool.false_or, Bool.false_eq_true, if_true, if_false, reduceIte] at ih2
        exact ih2
  exact lp4 0 (by omega)
set_option maxHeartbeats 4000000 in
theorem c_X5_doneBits (hM : mOk P S) (hW : wld I = W) (hs : I 23 = s) (hw : wf W no n) (k : Q (.inl (some (.int (orB (isDn s) n)))) I L P S) : Zm G mX5_doneBits 2 C Sl [.ref 0] I L P S Q := by
  have hn8 := hw.n8
  have ho6 := hw.o6
  refine Z_entry (lv := [_, _, _]) (Nat.le_of_ble_eq_true rfl) rfl ?_
  refine Z_iconst (nI 0) dX5_doneBits_0 rfl ?_
  refine Z_istore_n (lv' := [_, _, _]) dX5_doneBits_1 rfl rfl (Nat.le_of_ble_eq_true rfl) ?_
  refine Z_iconst (nI 0) dX5_doneBits_2 rfl ?_
  refine Z_istore_n (lv' := [_, _, _]) dX5_doneBits_3 rfl rfl (Nat.le_of_ble_eq_true rfl) ?_
  have lp4 : ∀ i, i ≤ n → Zj G mX5_doneBits 2 C Sl 4 [.ref 0, .int (orB (isDn s) i), .int (nI i)] [] I L P S Q := by
    refine zloop (n) (fun i => Zj G mX5_doneBits 2 C Sl 4 [.ref 0, .int (orB (isDn s) i), .int (nI i)] [] I L P S Q) (fun i hi ih => ?_)
    show Zj _ _ _ _ _ _ _ _ _ _ _ _ _
    refine Z_iload_n dX5_doneBits_4 rfl ?_
    refine Z_aload_n dX5_doneBits_5 rfl ?_
    refine Z_getI hM.1 fX5_151_4 dX5_doneBits_6 rfl ?_
    refine Z_re ((wr (by first | exact hW | (simp only [wld_zw23, wld_zw33, wld_zw27, wld_zw34, wld_zw35, wld_zw36, wld_zw0, wld_zw1, wld_zu23]; exact hW)) rfl).trans hw.n16) ?_
    refine Z_icmpgeN 36 dX5_doneBits_9 rfl (by omega) (by omega) (fun c9 => ?_) (fun c9 => ?_)
    · obtain rfl : i = n := by omega
      refine Z_iload_n dX5_doneBits_36 rfl ?_
      refine Z_ireturn dX5_doneBits_37 rfl rfl ?_
      exact k
    · refine Z_iload_n dX5_doneBits_12 rfl ?_
      refine Z_aload_n dX5_doneBits_13 rfl ?_
      refine Z_iload_n dX5_doneBits_14 rfl ?_
      refine Z_call0 (d' := 0) (zCal_V gX5_265 nX5_isDone (by decide) dX5_doneBits_15) pX5_isDone hM.1 zkl4 [_] rfl rfl (Nat.le_of_ble_eq_true rfl) (by omega) (c_X5_isDone hM hs (by omega) (fun h15 => ?_) (fun h15 => ?_))
      · refine Z_ifeq 27 dX5_doneBits_18 rfl (fun h => absurd h (by decide)) (fun _ => ?_)
        refine Z_iconst (nI 1) dX5_doneBits_21 rfl ?_
        refine Z_iload_n dX5_doneBits_22 rfl ?_
        refine Z_ishl dX5_doneBits_23 ?_
        refine Z_goto 28 dX5_doneBits_24 rfl ?_
        refine Z_ior dX5_doneBits_28 ?_
        refine Z_istore_n (lv' := [_, _, _]) dX5_doneBits_29 rfl rfl (Nat.le_of_ble_eq_true rfl) ?_
        refine Z_iincN (a := _) (k := 1) (lv' := [_, _, _]) dX5_doneBits_30 rfl rfl rfl rfl ?_
        refine Z_goto 4 dX5_doneBits_33 rfl ?_
        have ih2 := ih (by omega)
        simp only [orB, c9, h15, Bool.and_self, Bool.and_false, Bool.false_and, Bool.true_and, Bool.and_true, Bool.not_true, Bool.not_false, Bool.or_true, Bool.true_or, Bool.or_false, Bool.false_or, Bool.false_eq_true, if_true, if_false, reduceIte] at ih2
        exact ih2
      · refine Z_ifeq 27 dX5_doneBits_18 rfl (fun _ => ?_) (fun h => absurd h (by decide))
        refine Z_iconst (nI 0) dX5_doneBits_27 rfl ?_
        refine Z_ior dX5_doneBits_28 ?_
        refine Z_istore_n (lv' := [_, _, _]) dX5_doneBits_29 rfl rfl (Nat.le_of_ble_eq_true rfl) ?_
        refine Z_iincN (a := _) (k := 1) (lv' := [_, _, _]) dX5_doneBits_30 rfl rfl rfl rfl ?_
        refine Z_goto 4 dX5_doneBits_33 rfl ?_
        have ih2 := ih (by omega)
        simp only [orB, c9, h15, Bool.and_self, Bool.and_false, Bool.false_and, Bool.true_and, Bool.and_true, Bool.not_true, Bool.not_false, Bool.or_true, Bool.true_or, Bool.or_false, Bool.false_or, Bool.false_eq_true, if_true, if_false, reduceIte] at ih2
        exact ih2
  exact lp4 0 (by omega)
set_option maxHeartbeats 4000000 in
theorem c_X5_isAllDone (hM : mOk P S) (hW : wld I = W) (hs : I 23 = s) (hw : wf W no n) (kt : allDn s n = true → Q (.inl (some (.int (nI 1)))) I L P S) (kf : allDn s n = false → Q (.inl (some (.int (nI 0)))) I L P S) : Zm G mX5_isAllDone 1 C Sl [.ref 0] I L P S Q := by
  have hn8 := hw.n8
  have ho6 := hw.o6
  refine Z_entry (lv := [_, _, _]) (Nat.le_of_ble_eq_true rfl) rfl ?_
  refine Z_iconst (nI 1) dX5_isAllDone_0 rfl ?_
  refine Z_istore_n (lv' := [_, _, _]) dX5_isAllDone_1 rfl rfl (Nat.le_of_ble_eq_true rfl) ?_
  refine Z_iconst (nI 0) dX5_isAllDone_2 rfl ?_
  refine Z_istore_n (lv' := [_, _, _]) dX5_isAllDone_3 rfl rfl (Nat.le_of_ble_eq_true rfl) ?_
  have lp4 : ∀ i, i ≤ n → Zj G mX5_isAllDone 1 C Sl 4 [.ref 0, .int (nI (bI (allB (isDn s) i))), .int (nI i)] [] I L P S Q := by
    refine zloop (n) (fun i => Zj G mX5_isAllDone 1 C Sl 4 [.ref 0, .int (nI (bI (allB (isDn s) i))), .int (nI i)] [] I L P S Q) (fun i hi ih => ?_)
    show Zj _ _ _ _ _ _ _ _ _ _ _ _ _
    refine Z_iload_n dX5_isAllDone_4 rfl ?_
    refine Z_aload_n dX5_isAllDone_5 rfl ?_
    refine Z_getI hM.1 fX5_151_4 dX5_isAllDone_6 rfl ?_
    refine Z_re ((wr (by first | exact hW | (simp only [wld_zw23, wld_zw33, wld_zw27, wld_zw34, wld_zw35, wld_zw36, wld_zw0, wld_zw1, wld_zu23]; exact hW)) rfl).trans hw.n16) ?_
    refine Z_icmpgeN 36 dX5_isAllDone_9 rfl (by first | omega | (have := bI_lt (allB (isDn s) i); omega)) (by first | omega | (have := bI_lt (allB (isDn s) i); omega)) (fun c9 => ?_) (fun c9 => ?_)
    · obtain rfl : i = n := by omega
      refine Z_iload_n dX5_isAllDone_36 rfl ?_
      refine Z_ireturn dX5_isAllDone_37 rfl (nar_b _) ?_
      exact zQb kt kf
    · refine Z_iload_n dX5_isAllDone_12 rfl ?_
      refine Z_ifeqN 28 dX5_isAllDone_13 rfl (by first | omega | (have := bI_lt (allB (isDn s) i); omega)) (fun c13 => ?_) (fun c13 => ?_)
      · refine Z_iconst (nI 0) dX5_isAllDone_28 rfl ?_
        refine Z_istore_n (lv' := [_, _, _]) dX5_isAllDone_29 rfl rfl (Nat.le_of_ble_eq_true rfl) ?_
        refine Z_iincN (a := _) (k := 1) (lv' := [_, _, _]) dX5_isAllDone_30 rfl rfl rfl rfl ?_
        refine Z_goto 4 dX5_isAllDone_33 rfl ?_
        have ih2 := ih (by omega)
        simp only [bI_0, bI_1] at c13
        have e : allB (isDn s) (i + 1) = false := by simp_all [allB]
        rw [e] at ih2
        exact ih2
      · refine Z_aload_n dX5_isAllDone_16 rfl ?_
        refine Z_iload_n dX5_isAllDone_17 rfl ?_
        refine Z_call0 (d' := 0) (zCal_V gX5_265 nX5_isDone (by decide) dX5_isAllDone_18) pX5_isDone hM.1 zkl4 [_] rfl rfl (Nat.le_of_ble_eq_true rfl) (by omega) (c_X5_isDone hM hs (by omega) (fun h18 => ?_) (fun h18 => ?_))
        · refine Z_ifeq 28 dX5_isAllDone_21 rfl (fun h => absurd h (by decide)) (fun _ => ?_)
          refine Z_iconst (nI 1) dX5_isAllDone_24 rfl ?_
          refine Z_goto 29 dX5_isAllDone_25 rfl ?_
          refine Z_istore_n (lv' := [_, _, _]) dX5_isAllDone_29 rfl rfl (Nat.le_of_ble_eq_true rfl) ?_
          refine Z_iincN (a := _) (k := 1) (lv' := [_, _, _]) dX5_isAllDone_30 rfl rfl rfl rfl ?_
          refine Z_goto 4 dX5_isAllDone_33 rfl ?_
          have ih2 := ih (by omega)
          simp only [bI_0, bI_1] at c13
          have e : allB (isDn s) (i + 1) = true := by simp_all [allB]
          rw [e] at ih2
          exact ih2
        · refine Z_ifeq 28 dX5_isAllDone_21 rfl (fun _ => ?_) (fun h => absurd h (by decide))
          refine Z_iconst (nI 0) dX5_isAllDone_28 rfl ?_
          refine Z_istore_n (lv' := [_, _, _]) dX5_isAllDone_29 rfl rfl (Nat.le_of_ble_eq_true rfl) ?_
          refine Z_iincN (a := _) (k := 1) (lv' := [_, _, _]) dX5_isAllDone_30 rfl rfl rfl rfl ?_
          refine Z_goto 4 dX5_isAllDone_33 rfl ?_
          have ih2 := ih (by omega)
          simp only [bI_0, bI_1] at c13
          have e : allB (isDn s) (i + 1) = false := by simp_all [allB]
          rw [e] at ih2
          exact ih2
  exact lp4 0 (by omega)
set_option maxHeartbeats 4000000 in
theorem c_X5_sumOf (hM : mOk P S) (hW : wld I = W) (hs : I 23 = s) (hw : wf W no n) {f : Nat} (hf : f + 8 ≤ 127) (k : Q (.inl (some (.int (sumI (fun p => s (f + p)) n)))) I L P S) : Zm G mX5_sumOf 0 C Sl [.ref 0, .int (nI f)] I L P S Q := by
  have hn8 := hw.n8
  have ho6 := hw.o6
  refine Z_entry (lv := [_, _, _, _]) (Nat.le_of_ble_eq_true rfl) rfl ?_
  refine Z_iconst (nI 0) dX5_sumOf_0 rfl ?_
  refine Z_istore_n (lv' := [_, _, _, _]) dX5_sumOf_1 rfl rfl (Nat.le_of_ble_eq_true rfl) ?_
  refine Z_iconst (nI 0) dX5_sumOf_2 rfl ?_
  refine Z_istore_n (lv' := [_, _, _, _]) dX5_sumOf_3 rfl rfl (Nat.le_of_ble_eq_true rfl) ?_
  have lp4 : ∀ i, i ≤ n → Zj G mX5_sumOf 0 C Sl 4 [.ref 0, .int (nI f), .int (sumI (fun p => s (f + p)) i), .int (nI i)] [] I L P S Q := by
    refine zloop (n) (fun i => Zj G mX5_sumOf 0 C Sl 4 [.ref 0, .int (nI f), .int (sumI (fun p => s (f + p)) i), .int (nI i)] [] I L P S Q) (fun i hi ih => ?_)
    show Zj _ _ _ _ _ _ _ _ _ _ _ _ _
    refine Z_iload_n dX5_sumOf_4 rfl ?_
    refine Z_aload_n dX5_sumOf_5 rfl ?_
    refine Z_getI hM.1 fX5_151_4 dX5_sumOf_6 rfl ?_
    refine Z_re ((wr (by first | exact hW | (simp only [wld_zw23, wld_zw33, wld_zw27, wld_zw34, wld_zw35, wld_zw36, wld_zw0, wld_zw1, wld_zu23]; exact hW)) rfl).trans hw.n16) ?_
    refine Z_icmpgeN 29 dX5_sumOf_9 rfl (by omega) (by omega) (fun c9 => ?_) (fun c9 => ?_)
    · obtain rfl : i = n := by omega
      refine Z_iload_n dX5_sumOf_29 rfl ?_
      refine Z_ireturn dX5_sumOf_30 rfl rfl ?_
      exact k
    · refine Z_iload_n dX5_sumOf_12 rfl ?_
      refine Z_aload_n dX5_sumOf_13 rfl ?_
      refine Z_getR (r := 23) hM.1 fX5_140_4 dX5_sumOf_14 rfl (hM.2.2 23 _ rfl rfl) ?_
      refine Z_iload_n dX5_sumOf_17 rfl ?_
      refine Z_iload_n dX5_sumOf_18 rfl ?_
      refine Z_iaddN dX5_sumOf_19 ?_
      refine Z_iald (hM.2.1 23 _ rfl) (zix_nI (by omega) (by decide)) dX5_sumOf_20 ?_
      refine Z_re (congrFun hs _) ?_
      refine Z_iadd dX5_sumOf_21 ?_
      refine Z_istore_n (lv' := [_, _, _, _]) dX5_sumOf_22 rfl rfl (Nat.le_of_ble_eq_true rfl) ?_
      refine Z_iincN (a := _) (k := 1) (lv' := [_, _, _, _]) dX5_sumOf_23 rfl rfl rfl rfl ?_
      refine Z_goto 4 dX5_sumOf_26 rfl ?_
      have ih2 := ih (by omega)
      simp only [sumI, c9, Bool.and_self, Bool.and_false, Bool.false_and, Bool.true_and, Bool.and_true, Bool.not_true, Bool.not_false, Bool.or_true, Bool.true_or, Bool.or_false, Bool.false_or, Bool.false_eq_true, if_true, if_false, reduceIte] at ih2
      exact ih2
  exact lp4 0 (by omega)
set_option maxHeartbeats 4000000 in
theorem c_X5_lays (hM : mOk P S) (hW : wld I = W) (hs : I 23 = s) {p : Nat} (hp : p < 8) (k : Q (.inl none) (zu I 23 (layS W s p)) L P S) : Zm G mX5_lays 0 C Sl [.ref 0, .int (nI p)] I L P S Q := by
  refine Z_entry (lv := [_, _]) (Nat.le_of_ble_eq_true rfl) rfl ?_
  refine Z_aload_n dX5_lays_0 rfl ?_
  refine Z_getR (r := 23) hM.1 fX5_140_4 dX5_lays_1 rfl (hM.2.2 23 _ rfl rfl) ?_
  refine Z_iconst (nI 3) dX5_lays_4 rfl ?_
  refine Z_iload_n dX5_lays_5 rfl ?_
  refine Z_iaddN dX5_lays_6 ?_
  refine Z_aload_n dX5_lays_7 rfl ?_
  refine Z_getR (r := 20) hM.1 fX5_143_4 dX5_lays_8 rfl (hM.2.2 20 _ rfl rfl) ?_
  refine Z_iload_n dX5_lays_11 rfl ?_
  refine Z_iald (hM.2.1 20 _ rfl) (zix_nI (by omega) (by decide)) dX5_lays_12 ?_
  refine Z_re (wr (by first | exact hW | (simp only [wld_zw23, wld_zw33, wld_zw27, wld_zw34, wld_zw35, wld_zw36, wld_zw0, wld_zw1, wld_zu23]; exact hW)) rfl) ?_
  refine Z_iast (hM.2.1 23 _ rfl) (zix_nI (by omega) (by decide)) dX5_lays_13 ?_
  refine Z_aload_n dX5_lays_14 rfl ?_
  refine Z_getR (r := 23) hM.1 fX5_140_4 dX5_lays_15 rfl (hM.2.2 23 _ rfl rfl) ?_
  refine Z_bipush (nI 11) dX5_lays_18 rfl ?_
  refine Z_iload_n dX5_lays_20 rfl ?_
  refine Z_iaddN dX5_lays_21 ?_
  refine Z_aload_n dX5_lays_22 rfl ?_
  refine Z_getR (r := 18) hM.1 fX5_146_4 dX5_lays_23 rfl (hM.2.2 18 _ rfl rfl) ?_
  refine Z_iload_n dX5_lays_26 rfl ?_
  refine Z_iald (hM.2.1 18 _ rfl) (zix_nI (by omega) (by decide)) dX5_lays_27 ?_
  refine Z_re (wr (by first | exact hW | (simp only [wld_zw23, wld_zw33, wld_zw27, wld_zw34, wld_zw35, wld_zw36, wld_zw0, wld_zw1, wld_zu23]; exact hW)) rfl) ?_
  refine Z_iast (hM.2.1 23 _ rfl) (zix_nI (by omega) (by decide)) dX5_lays_28 ?_
  refine Z_aload_n dX5_lays_29 rfl ?_
  refine Z_getR (r := 23) hM.1 fX5_140_4 dX5_lays_30 rfl (hM.2.2 23 _ rfl rfl) ?_
  refine Z_bipush (nI 19) dX5_lays_33 rfl ?_
  refine Z_iload_n dX5_lays_35 rfl ?_
  refine Z_iaddN dX5_lays_36 ?_
  refine Z_iconst (nI 0) dX5_lays_37 rfl ?_
  refine Z_iast (hM.2.1 23 _ rfl) (zix_nI (by omega) (by decide)) dX5_lays_38 ?_
  refine Z_aload_n dX5_lays_39 rfl ?_
  refine Z_getR (r := 23) hM.1 fX5_140_4 dX5_lays_40 rfl (hM.2.2 23 _ rfl rfl) ?_
  refine Z_bipush (nI 27) dX5_lays_43 rfl ?_
  refine Z_iload_n dX5_lays_45 rfl ?_
  refine Z_iaddN dX5_lays_46 ?_
  refine Z_iconst (nI 0) dX5_lays_47 rfl ?_
  refine Z_iast (hM.2.1 23 _ rfl) (zix_nI (by omega) (by decide)) dX5_lays_48 ?_
  refine Z_aload_n dX5_lays_49 rfl ?_
  refine Z_getR (r := 23) hM.1 fX5_140_4 dX5_lays_50 rfl (hM.2.2 23 _ rfl rfl) ?_
  refine Z_bipush (nI 35) dX5_lays_53 rfl ?_
  refine Z_iload_n dX5_lays_55 rfl ?_
  refine Z_iaddN dX5_lays_56 ?_
  refine Z_iconst (-1) dX5_lays_57 rfl ?_
  refine Z_iast (hM.2.1 23 _ rfl) (zix_nI (by omega) (by decide)) dX5_lays_58 ?_
  refine Z_aload_n dX5_lays_59 rfl ?_
  refine Z_getR (r := 23) hM.1 fX5_140_4 dX5_lays_60 rfl (hM.2.2 23 _ rfl rfl) ?_
  refine Z_bipush (nI 43) dX5_lays_63 rfl ?_
  refine Z_iload_n dX5_lays_65 rfl ?_
  refine Z_iaddN dX5_lays_66 ?_
  refine Z_iconst (nI 0) dX5_lays_67 rfl ?_
  refine Z_iast (hM.2.1 23 _ rfl) (zix_nI (by omega) (by decide)) dX5_lays_68 ?_
  refine Z_aload_n dX5_lays_69 rfl ?_
  refine Z_getR (r := 23) hM.1 fX5_140_4 dX5_lays_70 rfl (hM.2.2 23 _ rfl rfl) ?_
  refine Z_bipush (nI 51) dX5_lays_73 rfl ?_
  refine Z_iload_n dX5_lays_75 rfl ?_
  refine Z_iaddN dX5_lays_76 ?_
  refine Z_iconst (nI 0) dX5_lays_77 rfl ?_
  refine Z_iast (hM.2.1 23 _ rfl) (zix_nI (by omega) (by decide)) dX5_lays_78 ?_
  refine Z_aload_n dX5_lays_79 rfl ?_
  refine Z_getR (r := 23) hM.1 fX5_140_4 dX5_lays_80 rfl (hM.2.2 23 _ rfl rfl) ?_
  refine Z_bipush (nI 59) dX5_lays_83 rfl ?_
  refine Z_iload_n dX5_lays_85 rfl ?_
  refine Z_iaddN dX5_lays_86 ?_
  refine Z_iconst (nI 0) dX5_lays_87 rfl ?_
  refine Z_iast (hM.2.1 23 _ rfl) (zix_nI (by omega) (by decide)) dX5_lays_88 ?_
  refine Z_return dX5_lays_89 rfl ?_
  refine zQi ?_ k
  simp only [zw, zu_zu, zu_s, hs, layS]
set_option maxHeartbeats 4000000 in
theorem c_X5_begins (hM : mOk P S) (hW : wld I = W) (hs : I 23 = s) (hw : wf W no n) {h : Nat} (k : Q (.inl none) (zu I 23 (begS W s n h)) L P S) : Zm G mX5_begins 1 C Sl [.ref 0, .int (nI h)] I L P S Q := by
  have hn8 := hw.n8
  have ho6 := hw.o6
  refine Z_entry (lv := [_, _, _]) (Nat.le_of_ble_eq_true rfl) rfl ?_
  refine Z_aload_n dX5_begins_0 rfl ?_
  refine Z_getR (r := 23) hM.1 fX5_140_4 dX5_begins_1 rfl (hM.2.2 23 _ rfl rfl) ?_
  refine Z_iconst (nI 0) dX5_begins_4 rfl ?_
  refine Z_iload_n dX5_begins_5 rfl ?_
  refine Z_iast (hM.2.1 23 _ rfl) (zix_nI (by omega) (by decide)) dX5_begins_6 ?_
  refine Z_aload_n dX5_begins_7 rfl ?_
  refine Z_getR (r := 23) hM.1 fX5_140_4 dX5_begins_8 rfl (hM.2.2 23 _ rfl rfl) ?_
  refine Z_iconst (nI 1) dX5_begins_11 rfl ?_
  refine Z_iconst (nI 0) dX5_begins_12 rfl ?_
  refine Z_iast (hM.2.1 23 _ rfl) (zix_nI (by omega) (by decide)) dX5_begins_13 ?_
  refine Z_aload_n dX5_begins_14 rfl ?_
  refine Z_getR (r := 23) hM.1 fX5_140_4 dX5_begins_15 rfl (hM.2.2 23 _ rfl rfl) ?_
  refine Z_iconst (nI 2) dX5_begins_18 rfl ?_
  refine Z_iconst (nI 0) dX5_begins_19 rfl ?_
  refine Z_iast (hM.2.1 23 _ rfl) (zix_nI (by omega) (by decide)) dX5_begins_20 ?_
  refine Z_iconst (nI 0) dX5_begins_21 rfl ?_
  refine Z_istore_n (lv' := [_, _, _]) dX5_begins_22 rfl rfl (Nat.le_of_ble_eq_true rfl) ?_
  have lp23 : ∀ i, i ≤ n → Zj G mX5_begins 1 C Sl 23 [.ref 0, .int (nI h), .int (nI i)] [] (zu I 23 (layN W (zu (zu (zu s 0 (nI h)) 1 (nI 0)) 2 (nI 0)) i)) L P S Q := by
    refine zloop (n) (fun i => Zj G mX5_begins 1 C Sl 23 [.ref 0, .int (nI h), .int (nI i)] [] (zu I 23 (layN W (zu (zu (zu s 0 (nI h)) 1 (nI 0)) 2 (nI 0)) i)) L P S Q) (fun i hi ih => ?_)
    show Zj _ _ _ _ _ _ _ _ _ _ _ _ _
    refine Z_iload_n dX5_begins_23 rfl ?_
    refine Z_aload_n dX5_begins_24 rfl ?_
    refine Z_getI hM.1 fX5_151_4 dX5_begins_25 rfl ?_
    refine Z_re ((wr (by first | exact hW | (simp only [wld_zw23, wld_zw33, wld_zw27, wld_zw34, wld_zw35, wld_zw36, wld_zw0, wld_zw1, wld_zu23]; exact hW)) rfl).trans hw.n16) ?_
    refine Z_icmpgeN 42 dX5_begins_28 rfl (by omega) (by omega) (fun c28 => ?_) (fun c28 => ?_)
    · obtain rfl : i = n := by omega
      refine Z_return dX5_begins_42 rfl ?_
      exact k
    · refine Z_aload_n dX5_begins_31 rfl ?_
      refine Z_iload_n dX5_begins_32 rfl ?_
      refine Z_call0 (d' := 0) (zCal_V gX5_166 nX5_lays (by decide) dX5_begins_33) pX5_lays hM.1 zkl4 [_] rfl rfl (Nat.le_of_ble_eq_true rfl) (by omega) (c_X5_lays hM (by first | exact hW | (simp only [wld_zw23, wld_zw33, wld_zw27, wld_zw34, wld_zw35, wld_zw36, wld_zw0, wld_zw1, wld_zu23]; exact hW)) (zu_s _ _ _) (by omega) ?_)
      refine Z_iincN (a := _) (k := 1) (lv' := [_, _, _]) dX5_begins_36 rfl rfl rfl rfl ?_
      refine Z_goto 23 dX5_begins_39 rfl ?_
      exact Z_mem (by rw [zu_zu]; rfl) (ih (by omega))
  refine Z_mem ?_ (lp23 0 (by omega))
  simp only [zw, zu_zu, zu_s, hs, layN]
set_option maxHeartbeats 4000000 in
theorem c_X5_putsBy (hM : mOk P S) (k : ∀ I2, (∀ j, j < 127 → I2 24 j = I 23 j) → (∀ j, 127 ≤ j → I2 24 j = I 24 j) → fr (fun h _ => h == 24) I I2 → Q (.inl none) I2 L P S) : Zm G mX5_putsBy 0 C Sl [.ref 0, .ref 24] I L P S Q := by
  refine Z_entry (lv := [_, _, _]) (Nat.le_of_ble_eq_true rfl) rfl ?_
  refine Z_iconst (nI 0) dX5_putsBy_0 rfl ?_
  refine Z_istore_n (lv' := [_, _, _]) dX5_putsBy_1 rfl rfl (Nat.le_of_ble_eq_true rfl) ?_
  have lp2 : ∀ i, i ≤ 127 → ∀ I2, (∀ j, j < i → I2 24 j = I 23 j) → (∀ j, i ≤ j → I2 24 j = I 24 j) → fr (fun h _ => h == 24) I I2 → Zj G mX5_putsBy 0 C Sl 2 [.ref 0, .ref 24, .int (nI i)] [] I2 L P S Q := by
    refine zloop (127) (fun i => ∀ I2, (∀ j, j < i → I2 24 j = I 23 j) → (∀ j, i ≤ j → I2 24 j = I 24 j) → fr (fun h _ => h == 24) I I2 → Zj G mX5_putsBy 0 C Sl 2 [.ref 0, .ref 24, .int (nI i)] [] I2 L P S Q) (fun i hi ih => ?_)
    intro I2 g1 g2 g3
    show Zj _ _ _ _ _ _ _ _ _ _ _ _ _
    refine Z_iload_n dX5_putsBy_2 rfl ?_
    refine Z_bipush (nI 127) dX5_putsBy_3 rfl ?_
    refine Z_icmpgeN 23 dX5_putsBy_5 rfl (by omega) (by omega) (fun c5 => ?_) (fun c5 => ?_)
    · obtain rfl : i = 127 := by omega
      refine Z_return dX5_putsBy_23 rfl ?_
      exact k I2 g1 g2 g3
    · refine Z_aload_n dX5_putsBy_8 rfl ?_
      refine Z_iload_n dX5_putsBy_9 rfl ?_
      refine Z_aload_n dX5_putsBy_10 rfl ?_
      refine Z_getR (r := 23) hM.1 fX5_140_4 dX5_putsBy_11 rfl (hM.2.2 23 _ rfl rfl) ?_
      refine Z_iload_n dX5_putsBy_14 rfl ?_
      refine Z_iald (hM.2.1 23 _ rfl) (zix_nI (by omega) (by decide)) dX5_putsBy_15 ?_
      refine Z_iast (hM.2.1 24 _ rfl) (zix_nI (by omega) (by decide)) dX5_putsBy_16 ?_
      refine Z_iincN (a := _) (k := 1) (lv' := [_, _, _]) dX5_putsBy_17 rfl rfl rfl rfl ?_
      refine Z_goto 2 dX5_putsBy_20 rfl ?_
      refine ih (by omega) _ (fun j hj => ?_) (fun j hj => ?_) (g3.st rfl)
      · rw [zw_a]
        by_cases e : j = i
        · subst e; rw [zu_s]; exact g3 23 j rfl
        · rw [zu_n _ _ _ e]; exact g1 j (by omega)
      · rw [zw_a, zu_n _ _ _ (by omega)]; exact g2 j (by omega)
  exact lp2 0 (by omega) I (fun j hj => absurd hj (by omega)) (fun _ _ => rfl) fr.rf
set_option maxHeartbeats 4000000 in
theorem c_X5_takesBack (hM : mOk P S) (k : ∀ I2, (∀ j, j < 127 → I2 23 j = I 24 j) → (∀ j, 127 ≤ j → I2 23 j = I 23 j) → fr (fun h _ => h == 23) I I2 → Q (.inl none) I2 L P S) : Zm G mX5_takesBack 0 C Sl [.ref 0, .ref 24] I L P S Q := by
  refine Z_entry (lv := [_, _, _]) (Nat.le_of_ble_eq_true rfl) rfl ?_
  refine Z_iconst (nI 0) dX5_takesBack_0 rfl ?_
  refine Z_istore_n (lv' := [_, _, _]) dX5_takesBack_1 rfl rfl (Nat.le_of_ble_eq_true rfl) ?_
  have lp2 : ∀ i, i ≤ 127 → ∀ I2, (∀ j, j < i → I2 23 j = I 24 j) → (∀ j, i ≤ j → I2 23 j = I 23 j) → fr (fun h _ => h == 23) I I2 → Zj G mX5_takesBack 0 C Sl 2 [.ref 0, .ref 24, .int (nI i)] [] I2 L P S Q := by
    refine zloop (127) (fun i => ∀ I2, (∀ j, j < i → I2 23 j = I 24 j) → (∀ j, i ≤ j → I2 23 j = I 23 j) → fr (fun h _ => h == 23) I I2 → Zj G mX5_takesBack 0 C Sl 2 [.ref 0, .ref 24, .int (nI i)] [] I2 L P S Q) (fun i hi ih => ?_)
    intro I2 g1 g2 g3
    show Zj _ _ _ _ _ _ _ _ _ _ _ _ _
    refine Z_iload_n dX5_takesBack_2 rfl ?_
    refine Z_bipush (nI 127) dX5_takesBack_3 rfl ?_
    refine Z_icmpgeN 23 dX5_takesBack_5 rfl (by omega) (by omega) (fun c5 => ?_) (fun c5 => ?_)
    · obtain rfl : i = 127 := by omega
      refine Z_return dX5_takesBack_23 rfl ?_
      exact k I2 g1 g2 g3
    · refine Z_aload_n dX5_takesBack_8 rfl ?_
      refine Z_getR (r := 23) hM.1 fX5_140_4 dX5_takesBack_9 rfl (hM.2.2 23 _ rfl rfl) ?_
      refine Z_iload_n dX5_takesBack_12 rfl ?_
      refine Z_aload_n dX5_takesBack_13 rfl ?_
      refine Z_iload_n dX5_takesBack_14 rfl ?_
      refine Z_iald (hM.2.1 24 _ rfl) (zix_nI (by omega) (by decide)) dX5_takesBack_15 ?_
      refine Z_iast (hM.2.1 23 _ rfl) (zix_nI (by omega) (by decide)) dX5_takesBack_16 ?_
      refine Z_iincN (a := _) (k := 1) (lv' := [_, _, _]) dX5_takesBack_17 rfl rfl rfl rfl ?_
      refine Z_goto 2 dX5_takesBack_20 rfl ?_
      refine ih (by omega) _ (fun j hj => ?_) (fun j hj => ?_) (g3.st rfl)
      · rw [zw_a]
        by_cases e : j = i
        · subst e; rw [zu_s]; exact g3 24 j rfl
        · rw [zu_n _ _ _ e]; exact g1 j (by omega)
      · rw [zw_a, zu_n _ _ _ (by omega)]; exact g2 j (by omega)
  exact lp2 0 (by omega) I (fun j hj => absurd hj (by omega)) (fun _ _ => rfl) fr.rf
set_option maxHeartbeats 4000000 in
theorem c_X5_hands (hM : mOk P S) (hW : wld I = W) (hs : I 23 = s) {p : Nat} (hp : p < 8) {o h a b : Nat} (ho : o < 6) (hh : h < 2 ^ 30) (ha : s (3 + p) = nI a) (ha6 : a < 6) (hb : s 2 = nI b) (hb6 : b ≤ 60) (k : Q (.inl (some (.int (lst W a o h)))) (zu I 23 (hndS W s p o h)) L P S) : Zm G mX5_hands 5 C Sl [.ref 0, .int (nI p), .int (nI o), .int (nI h)] I L P S Q := by
  refine Z_entry (lv := [_, _, _, _, _, _]) (Nat.le_of_ble_eq_true rfl) rfl ?_
  refine Z_aload_n dX5_hands_0 rfl ?_
  refine Z_getR (r := 23) hM.1 fX5_140_4 dX5_hands_1 rfl (hM.2.2 23 _ rfl rfl) ?_
  refine Z_iconst (nI 3) dX5_hands_4 rfl ?_
  refine Z_iload_n dX5_hands_5 rfl ?_
  refine Z_iaddN dX5_hands_6 ?_
  refine Z_iald (hM.2.1 23 _ rfl) (zix_nI (by omega) (by decide)) dX5_hands_7 ?_
  refine Z_re (congrFun hs _) ?_
  refine Z_re (y := nI (a)) ha ?_
  refine Z_istore (lv' := [_, _, _, _, _, _]) dX5_hands_8 rfl rfl (Nat.le_of_ble_eq_true rfl) ?_
  refine Z_aload_n dX5_hands_10 rfl ?_
  refine Z_iload dX5_hands_11 rfl ?_
  refine Z_iload_n dX5_hands_13 rfl ?_
  refine Z_iload_n dX5_hands_14 rfl ?_
  refine Z_call0 (d' := 4) (zCal_V gX5_132 nX5_lostOf (by decide) dX5_hands_15) pX5_lostOf hM.1 zkl4 [_, _, _] rfl rfl (Nat.le_of_ble_eq_true rfl) (by omega) (c_lostOfW hM (by first | exact hW | (simp only [wld_zw23, wld_zw33, wld_zw27, wld_zw34, wld_zw35, wld_zw36, wld_zw0, wld_zw1, wld_zu23]; exact hW)) (by omega) (by omega) (by omega) ?_)
  refine Z_istore (lv' := [_, _, _, _, _, _]) dX5_hands_18 rfl rfl (Nat.le_of_ble_eq_true rfl) ?_
  refine Z_aload_n dX5_hands_20 rfl ?_
  refine Z_getR (r := 23) hM.1 fX5_140_4 dX5_hands_21 rfl (hM.2.2 23 _ rfl rfl) ?_
  refine Z_bipush (nI 11) dX5_hands_24 rfl ?_
  refine Z_iload_n dX5_hands_26 rfl ?_
  refine Z_iaddN dX5_hands_27 ?_
  refine Z_dup2_11 dX5_hands_28 rfl rfl ?_
  refine Z_iald (hM.2.1 23 _ rfl) (zix_nI (by omega) (by decide)) dX5_hands_29 ?_
  refine Z_re (congrFun hs _) ?_
  refine Z_iload dX5_hands_30 rfl ?_
  refine Z_iadd dX5_hands_32 ?_
  refine Z_iast (hM.2.1 23 _ rfl) (zix_nI (by omega) (by decide)) dX5_hands_33 ?_
  refine Z_aload_n dX5_hands_34 rfl ?_
  refine Z_getR (r := 23) hM.1 fX5_140_4 dX5_hands_35 rfl (hM.2.2 23 _ rfl rfl) ?_
  refine Z_bipush (nI 59) dX5_hands_38 rfl ?_
  refine Z_iload_n dX5_hands_40 rfl ?_
  refine Z_iaddN dX5_hands_41 ?_
  refine Z_dup2_11 dX5_hands_42 rfl rfl ?_
  refine Z_iald (hM.2.1 23 _ rfl) (zix_nI (by omega) (by decide)) dX5_hands_43 ?_
  refine Z_iload dX5_hands_44 rfl ?_
  refine Z_iadd dX5_hands_46 ?_
  refine Z_iast (hM.2.1 23 _ rfl) (zix_nI (by omega) (by decide)) dX5_hands_47 ?_
  refine Z_aload_n dX5_hands_48 rfl ?_
  refine Z_getR (r := 23) hM.1 fX5_140_4 dX5_hands_49 rfl (hM.2.2 23 _ rfl rfl) ?_
  refine Z_bipush (nI 51) dX5_hands_52 rfl ?_
  refine Z_iload_n dX5_hands_54 rfl ?_
  refine Z_iaddN dX5_hands_55 ?_
  refine Z_dup2_11 dX5_hands_56 rfl rfl ?_
  refine Z_iald (hM.2.1 23 _ rfl) (zix_nI (by omega) (by decide)) dX5_hands_57 ?_
  refine Z_iconst (nI 1) dX5_hands_58 rfl ?_
  refine Z_iadd dX5_hands_59 ?_
  refine Z_iast (hM.2.1 23 _ rfl) (zix_nI (by omega) (by decide)) dX5_hands_60 ?_
  refine Z_aload_n dX5_hands_61 rfl ?_
  refine Z_getR (r := 23) hM.1 fX5_140_4 dX5_hands_62 rfl (hM.2.2 23 _ rfl rfl) ?_
  refine Z_iconst (nI 2) dX5_hands_65 rfl ?_
  refine Z_iald (hM.2.1 23 _ rfl) (zix_nI (by omega) (by decide)) dX5_hands_66 ?_
  refine Z_re (y := nI (b)) (by simp only [zw, zu_zu, zu_s, hs, zu_n _ _ _ (show 59 + p ≠ 11 + p by omega), zu_n _ _ _ (show 51 + p ≠ 59 + p by omega), zu_n _ _ _ (show 51 + p ≠ 11 + p by omega), zu_n _ _ _ (show 2 ≠ 51 + p by omega), zu_n _ _ _ (show 2 ≠ 59 + p by omega), zu_n _ _ _ (show 2 ≠ 11 + p by omega), zu_n _ _ _ (show 2 ≠ 67 + b by omega), hb]) ?_
  refine Z_bipush (nI 60) dX5_hands_67 rfl ?_
  refine Z_icmpgeN 119 dX5_hands_69 rfl (by omega) (by omega) (fun c69 => ?_) (fun c69 => ?_)
  · refine Z_aload_n dX5_hands_119 rfl ?_
    refine Z_getR (r := 23) hM.1 fX5_140_4 dX5_hands_120 rfl (hM.2.2 23 _ rfl rfl) ?_
    refine Z_iconst (nI 3) dX5_hands_123 rfl ?_
    refine Z_iload_n dX5_hands_124 rfl ?_
    refine Z_iaddN dX5_hands_125 ?_
    refine Z_iload_n dX5_hands_126 rfl ?_
    refine Z_iast (hM.2.1 23 _ rfl) (zix_nI (by omega) (by decide)) dX5_hands_127 ?_
    refine Z_iload dX5_hands_128 rfl ?_
    refine Z_ireturn dX5_hands_130 rfl rfl ?_
    refine zQi ?_ k
    have e1 : (s (3 + p)).toNatClampNeg = a := by rw [ha, nI_clamp (by omega)]
    have e2 : (nI b).toNatClampNeg = b := nI_clamp (by omega)
    have e3 : ¬ (nI b < nI 60) := nI_nlt c69 (by omega)
    simp only [zw, zu_zu, zu_s, hs, zu_n _ _ _ (show 59 + p ≠ 11 + p by omega), zu_n _ _ _ (show 51 + p ≠ 59 + p by omega), zu_n _ _ _ (show 51 + p ≠ 11 + p by omega), zu_n _ _ _ (show 2 ≠ 51 + p by omega), zu_n _ _ _ (show 2 ≠ 59 + p by omega), zu_n _ _ _ (show 2 ≠ 11 + p by omega), zu_n _ _ _ (show 2 ≠ 67 + b by omega), hndS, e1, hb, e2, if_neg e3]
  · refine Z_aload_n dX5_hands_72 rfl ?_
    refine Z_getR (r := 23) hM.1 fX5_140_4 dX5_hands_73 rfl (hM.2.2 23 _ rfl rfl) ?_
    refine Z_bipush (nI 67) dX5_hands_76 rfl ?_
    refine Z_aload_n dX5_hands_78 rfl ?_
    refine Z_getR (r := 23) hM.1 fX5_140_4 dX5_hands_79 rfl (hM.2.2 23 _ rfl rfl) ?_
    refine Z_iconst (nI 2) dX5_hands_82 rfl ?_
    refine Z_iald (hM.2.1 23 _ rfl) (zix_nI (by omega) (by decide)) dX5_hands_83 ?_
    refine Z_re (y := nI (b)) (by simp only [zw, zu_zu, zu_s, hs, zu_n _ _ _ (show 59 + p ≠ 11 + p by omega), zu_n _ _ _ (show 51 + p ≠ 59 + p by omega), zu_n _ _ _ (show 51 + p ≠ 11 + p by omega), zu_n _ _ _ (show 2 ≠ 51 + p by omega), zu_n _ _ _ (show 2 ≠ 59 + p by omega), zu_n _ _ _ (show 2 ≠ 11 + p by omega), zu_n _ _ _ (show 2 ≠ 67 + b by omega), hb]) ?_
    refine Z_iaddN dX5_hands_84 ?_
    refine Z_aload_n dX5_hands_85 rfl ?_
    refine Z_getI hM.1 fX5_111_4 dX5_hands_86 rfl ?_
    refine Z_re (wr (by first | exact hW | (simp only [wld_zw23, wld_zw33, wld_zw27, wld_zw34, wld_zw35, wld_zw36, wld_zw0, wld_zw1, wld_zu23]; exact hW)) rfl) ?_
    refine Z_bipush (nI 10) dX5_hands_89 rfl ?_
    refine Z_aload_n dX5_hands_91 rfl ?_
    refine Z_getR (r := 13) hM.1 fX5_60_4 dX5_hands_92 rfl (hM.2.2 13 _ rfl rfl) ?_
    refine Z_bipush (nI 6) dX5_hands_95 rfl ?_
    refine Z_iload dX5_hands_97 rfl ?_
    refine Z_imulN dX5_hands_99 ?_
    refine Z_iload_n dX5_hands_100 rfl ?_
    refine Z_iaddN dX5_hands_101 ?_
    refine Z_iald (hM.2.1 13 _ rfl) (zix_nI (by omega) (by decide)) dX5_hands_102 ?_
    refine Z_re (wr (by first | exact hW | (simp only [wld_zw23, wld_zw33, wld_zw27, wld_zw34, wld_zw35, wld_zw36, wld_zw0, wld_zw1, wld_zu23]; exact hW)) rfl) ?_
    refine Z_isub dX5_hands_103 ?_
    refine Z_imul dX5_hands_104 ?_
    refine Z_bipush (nI 10) dX5_hands_105 rfl ?_
    refine Z_idiv dX5_hands_107 (by decide) ?_
    refine Z_iast (hM.2.1 23 _ rfl) (zix_nI (by omega) (by decide)) dX5_hands_108 ?_
    refine Z_aload_n dX5_hands_109 rfl ?_
    refine Z_getR (r := 23) hM.1 fX5_140_4 dX5_hands_110 rfl (hM.2.2 23 _ rfl rfl) ?_
    refine Z_iconst (nI 2) dX5_hands_113 rfl ?_
    refine Z_dup2_11 dX5_hands_114 rfl rfl ?_
    refine Z_iald (hM.2.1 23 _ rfl) (zix_nI (by omega) (by decide)) dX5_hands_115 ?_
    refine Z_re (y := nI (b)) (by simp only [zw, zu_zu, zu_s, hs, zu_n _ _ _ (show 59 + p ≠ 11 + p by omega), zu_n _ _ _ (show 51 + p ≠ 59 + p by omega), zu_n _ _ _ (show 51 + p ≠ 11 + p by omega), zu_n _ _ _ (show 2 ≠ 51 + p by omega), zu_n _ _ _ (show 2 ≠ 59 + p by omega), zu_n _ _ _ (show 2 ≠ 11 + p by omega), zu_n _ _ _ (show 2 ≠ 67 + b by omega), hb]) ?_
    refine Z_iconst (nI 1) dX5_hands_116 rfl ?_
    refine Z_iadd dX5_hands_117 ?_
    refine Z_iast (hM.2.1 23 _ rfl) (zix_nI (by omega) (by decide)) dX5_hands_118 ?_
    refine Z_aload_n dX5_hands_119 rfl ?_
    refine Z_getR (r := 23) hM.1 fX5_140_4 dX5_hands_120 rfl (hM.2.2 23 _ rfl rfl) ?_
    refine Z_iconst (nI 3) dX5_hands_123 rfl ?_
    refine Z_iload_n dX5_hands_124 rfl ?_
    refine Z_iaddN dX5_hands_125 ?_
    refine Z_iload_n dX5_hands_126 rfl ?_
    refine Z_iast (hM.2.1 23 _ rfl) (zix_nI (by omega) (by decide)) dX5_hands_127 ?_
    refine Z_iload dX5_hands_128 rfl ?_
    refine Z_ireturn dX5_hands_130 rfl rfl ?_
    refine zQi ?_ k
    have e1 : (s (3 + p)).toNatClampNeg = a := by rw [ha, nI_clamp (by omega)]
    have e2 : (nI b).toNatClampNeg = b := nI_clamp (by omega)
    have e3 : (nI b < nI 60) := nI_lt c69 (by omega)
    simp only [zw, zu_zu, zu_s, hs, zu_n _ _ _ (show 59 + p ≠ 11 + p by omega), zu_n _ _ _ (show 51 + p ≠ 59 + p by omega), zu_n _ _ _ (show 51 + p ≠ 11 + p by omega), zu_n _ _ _ (show 2 ≠ 51 + p by omega), zu_n _ _ _ (show 2 ≠ 59 + p by omega), zu_n _ _ _ (show 2 ≠ 11 + p by omega), zu_n _ _ _ (show 2 ≠ 67 + b by omega), hndS, e1, hb, e2, if_pos e3]
end M3
