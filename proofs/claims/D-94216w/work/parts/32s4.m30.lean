set_option maxRecDepth 100000
/-! THE MODEL, part 30: a way comes to its end -/
section M30
variable {G : zG} {d C Sl : Nat} {I D W : zI} {R : List Int64} {L : zL} {P : zR} {S : zT} {Q : zQ} {no n np : Nat} {s : zS}
set_option maxHeartbeats 4000000 in
theorem c_goesFrom0n (hM : mOk P S) {n o c most : Nat} (h41 : I 0 41 = -1) (k : Q (.inl none) (zw (zw I 0 41 (nI n)) 0 42 (nI c)) L P S) : Zm G mX5_goesFrom 2 C Sl [.ref 0, .int (nI n), .int (nI o), .int (nI 0), .int (nI c), .int (nI most)] I L P S Q := by
  refine Z_entry (lv := [_, _, _, _, _, _, _]) (Nat.le_of_ble_eq_true rfl) rfl ?_
  refine Z_iload_n dX5_goesFrom_0 rfl ?_
  refine Z_ifne 40 dX5_goesFrom_1 rfl (fun h => absurd h (by decide)) (fun _ => ?_)
  refine Z_aload_n dX5_goesFrom_4 rfl ?_
  refine Z_getI hM.1 fX5_350_4 dX5_goesFrom_5 rfl ?_
  refine Z_re h41 ?_
  refine Z_iflt 28 dX5_goesFrom_8 rfl (fun c8 => ?_) (fun c8 => ?_)
  · refine Z_aload_n dX5_goesFrom_28 rfl ?_
    refine Z_iload_n dX5_goesFrom_29 rfl ?_
    refine Z_putI hM.1 fX5_350_4 dX5_goesFrom_30 rfl rfl rfl ?_
    refine Z_aload_n dX5_goesFrom_33 rfl ?_
    refine Z_iload dX5_goesFrom_34 rfl ?_
    refine Z_putI hM.1 fX5_360_4 dX5_goesFrom_36 rfl rfl rfl ?_
    refine Z_return dX5_goesFrom_39 rfl ?_
    exact k
  · exact absurd (by decide) c8
set_option maxHeartbeats 4000000 in
theorem c_goesFrom0s (hM : mOk P S) {n o c most n1 c1 : Nat} (h41 : I 0 41 = nI n1) (h42 : I 0 42 = nI c1) (hn : n < 2 ^ 30) (hn1 : n1 < 2 ^ 30) (hc : c < 2 ^ 30) (hc1 : c1 < 2 ^ 30) (kt : n = n1 ∧ c < c1 → Q (.inl none) (zw (zw I 0 41 (nI n)) 0 42 (nI c)) L P S) (kf : ¬ (n = n1 ∧ c < c1) → Q (.inl none) I L P S) : Zm G mX5_goesFrom 2 C Sl [.ref 0, .int (nI n), .int (nI o), .int (nI 0), .int (nI c), .int (nI most)] I L P S Q := by
  refine Z_entry (lv := [_, _, _, _, _, _, _]) (Nat.le_of_ble_eq_true rfl) rfl ?_
  refine Z_iload_n dX5_goesFrom_0 rfl ?_
  refine Z_ifne 40 dX5_goesFrom_1 rfl (fun h => absurd h (by decide)) (fun _ => ?_)
  refine Z_aload_n dX5_goesFrom_4 rfl ?_
  refine Z_getI hM.1 fX5_350_4 dX5_goesFrom_5 rfl ?_
  refine Z_re (y := nI (n1)) h41 ?_
  refine Z_ifltN 28 dX5_goesFrom_8 rfl (by omega) ?_
  refine Z_iload_n dX5_goesFrom_11 rfl ?_
  refine Z_aload_n dX5_goesFrom_12 rfl ?_
  refine Z_getI hM.1 fX5_350_4 dX5_goesFrom_13 rfl ?_
  refine Z_re (y := nI (n1)) h41 ?_
  refine Z_icmpneN 39 dX5_goesFrom_16 rfl (by omega) (by omega) (fun c16 => ?_) (fun c16 => ?_)
  · refine Z_return dX5_goesFrom_39 rfl ?_
    exact kf (by omega)
  · refine Z_iload dX5_goesFrom_19 rfl ?_
    refine Z_aload_n dX5_goesFrom_21 rfl ?_
    refine Z_getI hM.1 fX5_360_4 dX5_goesFrom_22 rfl ?_
    refine Z_re (y := nI (c1)) h42 ?_
    refine Z_icmpgeN 39 dX5_goesFrom_25 rfl (by omega) (by omega) (fun c25 => ?_) (fun c25 => ?_)
    · refine Z_return dX5_goesFrom_39 rfl ?_
      exact kf (by omega)
    · refine Z_aload_n dX5_goesFrom_28 rfl ?_
      refine Z_iload_n dX5_goesFrom_29 rfl ?_
      refine Z_putI hM.1 fX5_350_4 dX5_goesFrom_30 rfl rfl rfl ?_
      refine Z_aload_n dX5_goesFrom_33 rfl ?_
      refine Z_iload dX5_goesFrom_34 rfl ?_
      refine Z_putI hM.1 fX5_360_4 dX5_goesFrom_36 rfl rfl rfl ?_
      refine Z_return dX5_goesFrom_39 rfl ?_
      exact kt ⟨by omega, by omega⟩
end M30
