-- ===== PART A: goes FIRST, ahead of the names: the tables' words, and 'selects' of the private methods out of them =====
/-- a private method of a class that the tables say can be made, by its rows of tables_1 -/
def lw_okq (q : MethodName × Nat) : Prop := (q.1.cls ≠ "java/lang/invoke/MethodHandle" ∧ q.1.cls ≠ "java/lang/invoke/VarHandle") ∧ Cond.instantiable q.1.cls q.2 ∈ tables_1 ∧ Cond.privateMethod q.1 ∈ tables_1 ∧ Cond.instanceMethod q.1 ∈ tables_1
set_option maxRecDepth 100000
theorem lw_t1 {w : Cond} (h : w ∈ tables_1_1) : w ∈ tables_1 := List.mem_append_left _ h
theorem lw_t2 {w : Cond} (h : w ∈ tables_1_2) : w ∈ tables_1 := List.mem_append_right _ (List.mem_append_left _ h)
theorem lw_t3 {w : Cond} (h : w ∈ tables_1_3) : w ∈ tables_1 := List.mem_append_right _ (List.mem_append_right _ (List.mem_append_left _ h))
theorem lw_t4 {w : Cond} (h : w ∈ tables_1_4) : w ∈ tables_1 := List.mem_append_right _ (List.mem_append_right _ (List.mem_append_right _ (List.mem_append_left _ h)))
theorem lw_t5 {w : Cond} (h : w ∈ tables_1_5) : w ∈ tables_1 := List.mem_append_right _ (List.mem_append_right _ (List.mem_append_right _ (List.mem_append_right _ (List.mem_append_left _ h))))
theorem lw_t6 {w : Cond} (h : w ∈ tables_1_6) : w ∈ tables_1 := List.mem_append_right _ (List.mem_append_right _ (List.mem_append_right _ (List.mem_append_right _ (List.mem_append_right _ (List.mem_append_left _ h)))))
theorem lw_t7 {w : Cond} (h : w ∈ tables_1_7) : w ∈ tables_1 := List.mem_append_right _ (List.mem_append_right _ (List.mem_append_right _ (List.mem_append_right _ (List.mem_append_right _ (List.mem_append_right _ (List.mem_append_left _ h))))))
theorem lw_t8 {w : Cond} (h : w ∈ tables_1_8) : w ∈ tables_1 := List.mem_append_right _ (List.mem_append_right _ (List.mem_append_right _ (List.mem_append_right _ (List.mem_append_right _ (List.mem_append_right _ (List.mem_append_right _ h))))))
theorem lw_p0 : lw_okq (⟨"FollowTheSun", "isOffice", "(I)Z"⟩, 17) := ⟨⟨by decide +kernel, by decide +kernel⟩, lw_t1 (List.mem_of_getElem? (i := 32) rfl), lw_t2 (List.mem_of_getElem? (i := 67) rfl), lw_t2 (List.mem_of_getElem? (i := 68) rfl)⟩
theorem lw_p1 : lw_okq (⟨"java/lang/Throwable", "fillInStackTrace", "(I)Ljava/lang/Throwable;"⟩, 6) := ⟨⟨by decide +kernel, by decide +kernel⟩, lw_t2 (List.mem_of_getElem? (i := 117) rfl), lw_t2 (List.mem_of_getElem? (i := 115) rfl), lw_t2 (List.mem_of_getElem? (i := 116) rfl)⟩
theorem lw_p2 : lw_okq (⟨"FollowTheSun", "tell", "(J)V"⟩, 17) := ⟨⟨by decide +kernel, by decide +kernel⟩, lw_t1 (List.mem_of_getElem? (i := 32) rfl), lw_t2 (List.mem_of_getElem? (i := 225) rfl), lw_t2 (List.mem_of_getElem? (i := 226) rfl)⟩
theorem lw_p3 : lw_okq (⟨"FollowTheSun$Reader", "either", "(I)LFollowTheSun$Node;"⟩, 4) := ⟨⟨by decide +kernel, by decide +kernel⟩, lw_t3 (List.mem_of_getElem? (i := 52) rfl), lw_t3 (List.mem_of_getElem? (i := 76) rfl), lw_t3 (List.mem_of_getElem? (i := 77) rfl)⟩
theorem lw_p4 : lw_okq (⟨"FollowTheSun$Reader", "both", "(I)LFollowTheSun$Node;"⟩, 4) := ⟨⟨by decide +kernel, by decide +kernel⟩, lw_t3 (List.mem_of_getElem? (i := 52) rfl), lw_t3 (List.mem_of_getElem? (i := 80) rfl), lw_t3 (List.mem_of_getElem? (i := 81) rfl)⟩
theorem lw_p5 : lw_okq (⟨"FollowTheSun$Reader", "held", "(I)LFollowTheSun$Node;"⟩, 4) := ⟨⟨by decide +kernel, by decide +kernel⟩, lw_t3 (List.mem_of_getElem? (i := 52) rfl), lw_t3 (List.mem_of_getElem? (i := 84) rfl), lw_t3 (List.mem_of_getElem? (i := 85) rfl)⟩
theorem lw_p6 : lw_okq (⟨"FollowTheSun$Reader", "sum", "(I)LFollowTheSun$Node;"⟩, 4) := ⟨⟨by decide +kernel, by decide +kernel⟩, lw_t3 (List.mem_of_getElem? (i := 52) rfl), lw_t3 (List.mem_of_getElem? (i := 88) rfl), lw_t3 (List.mem_of_getElem? (i := 89) rfl)⟩
theorem lw_p7 : lw_okq (⟨"FollowTheSun$Reader", "product", "(I)LFollowTheSun$Node;"⟩, 4) := ⟨⟨by decide +kernel, by decide +kernel⟩, lw_t3 (List.mem_of_getElem? (i := 52) rfl), lw_t3 (List.mem_of_getElem? (i := 92) rfl), lw_t3 (List.mem_of_getElem? (i := 93) rfl)⟩
theorem lw_p8 : lw_okq (⟨"FollowTheSun$Reader", "thing", "(I)LFollowTheSun$Node;"⟩, 4) := ⟨⟨by decide +kernel, by decide +kernel⟩, lw_t3 (List.mem_of_getElem? (i := 52) rfl), lw_t3 (List.mem_of_getElem? (i := 96) rfl), lw_t3 (List.mem_of_getElem? (i := 97) rfl)⟩
theorem lw_p9 : lw_okq (⟨"FollowTheSun$Reader", "passes", "(I)Z"⟩, 4) := ⟨⟨by decide +kernel, by decide +kernel⟩, lw_t3 (List.mem_of_getElem? (i := 52) rfl), lw_t3 (List.mem_of_getElem? (i := 100) rfl), lw_t3 (List.mem_of_getElem? (i := 101) rfl)⟩
theorem lw_p10 : lw_okq (⟨"FollowTheSun$Reader", "here", "()I"⟩, 4) := ⟨⟨by decide +kernel, by decide +kernel⟩, lw_t3 (List.mem_of_getElem? (i := 52) rfl), lw_t3 (List.mem_of_getElem? (i := 104) rfl), lw_t3 (List.mem_of_getElem? (i := 105) rfl)⟩
theorem lw_p11 : lw_okq (⟨"FollowTheSun$Reader", "need", "(Z)V"⟩, 4) := ⟨⟨by decide +kernel, by decide +kernel⟩, lw_t3 (List.mem_of_getElem? (i := 52) rfl), lw_t3 (List.mem_of_getElem? (i := 126) rfl), lw_t3 (List.mem_of_getElem? (i := 127) rfl)⟩
theorem lw_p12 : lw_okq (⟨"FollowTheSun$Reader", "isSign", "(I)Z"⟩, 4) := ⟨⟨by decide +kernel, by decide +kernel⟩, lw_t3 (List.mem_of_getElem? (i := 52) rfl), lw_t3 (List.mem_of_getElem? (i := 163) rfl), lw_t3 (List.mem_of_getElem? (i := 164) rfl)⟩
theorem lw_p13 : lw_okq (⟨"FollowTheSun$State", "work", "(ILFollowTheSun$Office;)V"⟩, 16) := ⟨⟨by decide +kernel, by decide +kernel⟩, lw_t1 (List.mem_of_getElem? (i := 85) rfl), lw_t3 (List.mem_of_getElem? (i := 221) rfl), lw_t3 (List.mem_of_getElem? (i := 222) rfl)⟩
theorem lw_p14 : lw_okq (⟨"FollowTheSun", "chosen", "(LFollowTheSun$World;LFollowTheSun$State;I)I"⟩, 17) := ⟨⟨by decide +kernel, by decide +kernel⟩, lw_t1 (List.mem_of_getElem? (i := 32) rfl), lw_t3 (List.mem_of_getElem? (i := 225) rfl), lw_t3 (List.mem_of_getElem? (i := 226) rfl)⟩
theorem lw_p15 : lw_okq (⟨"FollowTheSun$Case", "rest", "(I)I"⟩, 4) := ⟨⟨by decide +kernel, by decide +kernel⟩, lw_t1 (List.mem_of_getElem? (i := 159) rfl), lw_t4 (List.mem_of_getElem? (i := 47) rfl), lw_t4 (List.mem_of_getElem? (i := 48) rfl)⟩
def lw_privs_1 : List (MethodName × Nat) := [(⟨"FollowTheSun", "isOffice", "(I)Z"⟩, 17), (⟨"java/lang/Throwable", "fillInStackTrace", "(I)Ljava/lang/Throwable;"⟩, 6), (⟨"FollowTheSun", "tell", "(J)V"⟩, 17), (⟨"FollowTheSun$Reader", "either", "(I)LFollowTheSun$Node;"⟩, 4), (⟨"FollowTheSun$Reader", "both", "(I)LFollowTheSun$Node;"⟩, 4), (⟨"FollowTheSun$Reader", "held", "(I)LFollowTheSun$Node;"⟩, 4), (⟨"FollowTheSun$Reader", "sum", "(I)LFollowTheSun$Node;"⟩, 4), (⟨"FollowTheSun$Reader", "product", "(I)LFollowTheSun$Node;"⟩, 4), (⟨"FollowTheSun$Reader", "thing", "(I)LFollowTheSun$Node;"⟩, 4), (⟨"FollowTheSun$Reader", "passes", "(I)Z"⟩, 4), (⟨"FollowTheSun$Reader", "here", "()I"⟩, 4), (⟨"FollowTheSun$Reader", "need", "(Z)V"⟩, 4), (⟨"FollowTheSun$Reader", "isSign", "(I)Z"⟩, 4), (⟨"FollowTheSun$State", "work", "(ILFollowTheSun$Office;)V"⟩, 16), (⟨"FollowTheSun", "chosen", "(LFollowTheSun$World;LFollowTheSun$State;I)I"⟩, 17), (⟨"FollowTheSun$Case", "rest", "(I)I"⟩, 4)]
theorem lw_r1 : ∀ q ∈ lw_privs_1, lw_okq q := List.forall_mem_cons.mpr ⟨lw_p0, List.forall_mem_cons.mpr ⟨lw_p1, List.forall_mem_cons.mpr ⟨lw_p2, List.forall_mem_cons.mpr ⟨lw_p3, List.forall_mem_cons.mpr ⟨lw_p4, List.forall_mem_cons.mpr ⟨lw_p5, List.forall_mem_cons.mpr ⟨lw_p6, List.forall_mem_cons.mpr ⟨lw_p7, List.forall_mem_cons.mpr ⟨lw_p8, List.forall_mem_cons.mpr ⟨lw_p9, List.forall_mem_cons.mpr ⟨lw_p10, List.forall_mem_cons.mpr ⟨lw_p11, List.forall_mem_cons.mpr ⟨lw_p12, List.forall_mem_cons.mpr ⟨lw_p13, List.forall_mem_cons.mpr ⟨lw_p14, List.forall_mem_cons.mpr ⟨lw_p15, fun _ h => absurd h List.not_mem_nil⟩⟩⟩⟩⟩⟩⟩⟩⟩⟩⟩⟩⟩⟩⟩⟩
theorem lw_p16 : lw_okq (⟨"FollowTheSun", "isPiece", "(I)Z"⟩, 17) := ⟨⟨by decide +kernel, by decide +kernel⟩, lw_t1 (List.mem_of_getElem? (i := 32) rfl), lw_t4 (List.mem_of_getElem? (i := 73) rfl), lw_t4 (List.mem_of_getElem? (i := 74) rfl)⟩
theorem lw_p17 : lw_okq (⟨"FollowTheSun", "endOf", "(LFollowTheSun$State;LFollowTheSun$State;LFollowTheSun$World;)I"⟩, 17) := ⟨⟨by decide +kernel, by decide +kernel⟩, lw_t1 (List.mem_of_getElem? (i := 32) rfl), lw_t4 (List.mem_of_getElem? (i := 89) rfl), lw_t4 (List.mem_of_getElem? (i := 90) rfl)⟩
theorem lw_p18 : lw_okq (⟨"FollowTheSun$State", "isStuck", "(LFollowTheSun$World;)Z"⟩, 16) := ⟨⟨by decide +kernel, by decide +kernel⟩, lw_t1 (List.mem_of_getElem? (i := 85) rfl), lw_t4 (List.mem_of_getElem? (i := 101) rfl), lw_t4 (List.mem_of_getElem? (i := 102) rfl)⟩
theorem lw_p19 : lw_okq (⟨"FollowTheSun", "canAsk", "(IIII)Z"⟩, 17) := ⟨⟨by decide +kernel, by decide +kernel⟩, lw_t1 (List.mem_of_getElem? (i := 32) rfl), lw_t4 (List.mem_of_getElem? (i := 116) rfl), lw_t4 (List.mem_of_getElem? (i := 117) rfl)⟩
theorem lw_p20 : lw_okq (⟨"FollowTheSun", "soonest", "(III)I"⟩, 17) := ⟨⟨by decide +kernel, by decide +kernel⟩, lw_t1 (List.mem_of_getElem? (i := 32) rfl), lw_t5 (List.mem_of_getElem? (i := 17) rfl), lw_t5 (List.mem_of_getElem? (i := 18) rfl)⟩
theorem lw_p21 : lw_okq (⟨"FollowTheSun", "alone", "(LFollowTheSun$Piece;II[I)I"⟩, 17) := ⟨⟨by decide +kernel, by decide +kernel⟩, lw_t1 (List.mem_of_getElem? (i := 32) rfl), lw_t5 (List.mem_of_getElem? (i := 25) rfl), lw_t5 (List.mem_of_getElem? (i := 26) rfl)⟩
theorem lw_p22 : lw_okq (⟨"FollowTheSun", "place", "(LFollowTheSun$State;II)V"⟩, 17) := ⟨⟨by decide +kernel, by decide +kernel⟩, lw_t1 (List.mem_of_getElem? (i := 32) rfl), lw_t5 (List.mem_of_getElem? (i := 44) rfl), lw_t5 (List.mem_of_getElem? (i := 45) rfl)⟩
theorem lw_p23 : lw_okq (⟨"FollowTheSun", "price", "(I)I"⟩, 17) := ⟨⟨by decide +kernel, by decide +kernel⟩, lw_t1 (List.mem_of_getElem? (i := 32) rfl), lw_t5 (List.mem_of_getElem? (i := 56) rfl), lw_t5 (List.mem_of_getElem? (i := 57) rfl)⟩
theorem lw_p24 : lw_okq (⟨"FollowTheSun", "with", "(I)LFollowTheSun$World;"⟩, 17) := ⟨⟨by decide +kernel, by decide +kernel⟩, lw_t1 (List.mem_of_getElem? (i := 32) rfl), lw_t5 (List.mem_of_getElem? (i := 60) rfl), lw_t5 (List.mem_of_getElem? (i := 61) rfl)⟩
theorem lw_p25 : lw_okq (⟨"FollowTheSun", "endIn", "(LFollowTheSun$World;I)I"⟩, 17) := ⟨⟨by decide +kernel, by decide +kernel⟩, lw_t1 (List.mem_of_getElem? (i := 32) rfl), lw_t5 (List.mem_of_getElem? (i := 64) rfl), lw_t5 (List.mem_of_getElem? (i := 65) rfl)⟩
theorem lw_p26 : lw_okq (⟨"FollowTheSun", "kept", "()I"⟩, 17) := ⟨⟨by decide +kernel, by decide +kernel⟩, lw_t1 (List.mem_of_getElem? (i := 32) rfl), lw_t5 (List.mem_of_getElem? (i := 76) rfl), lw_t5 (List.mem_of_getElem? (i := 77) rfl)⟩
theorem lw_p27 : lw_okq (⟨"FollowTheSun", "tellPart", "(JJ)V"⟩, 17) := ⟨⟨by decide +kernel, by decide +kernel⟩, lw_t1 (List.mem_of_getElem? (i := 32) rfl), lw_t5 (List.mem_of_getElem? (i := 81) rfl), lw_t5 (List.mem_of_getElem? (i := 82) rfl)⟩
theorem lw_p28 : lw_okq (⟨"FollowTheSun", "sleeping", "(II)LFollowTheSun$Office;"⟩, 17) := ⟨⟨by decide +kernel, by decide +kernel⟩, lw_t1 (List.mem_of_getElem? (i := 32) rfl), lw_t5 (List.mem_of_getElem? (i := 118) rfl), lw_t5 (List.mem_of_getElem? (i := 119) rfl)⟩
theorem lw_p29 : lw_okq (⟨"FollowTheSun", "endWith", "(ILFollowTheSun$Office;)I"⟩, 17) := ⟨⟨by decide +kernel, by decide +kernel⟩, lw_t1 (List.mem_of_getElem? (i := 32) rfl), lw_t5 (List.mem_of_getElem? (i := 122) rfl), lw_t5 (List.mem_of_getElem? (i := 123) rfl)⟩
theorem lw_p30 : lw_okq (⟨"FollowTheSunModel", "opens", "(IIIIII)V"⟩, 58) := ⟨⟨by decide +kernel, by decide +kernel⟩, lw_t5 (List.mem_of_getElem? (i := 208) rfl), lw_t5 (List.mem_of_getElem? (i := 206) rfl), lw_t5 (List.mem_of_getElem? (i := 207) rfl)⟩
theorem lw_p31 : lw_okq (⟨"FollowTheSunModel", "isOffice", "(I)Z"⟩, 58) := ⟨⟨by decide +kernel, by decide +kernel⟩, lw_t5 (List.mem_of_getElem? (i := 208) rfl), lw_t5 (List.mem_of_getElem? (i := 215) rfl), lw_t5 (List.mem_of_getElem? (i := 216) rfl)⟩
def lw_privs_2 : List (MethodName × Nat) := [(⟨"FollowTheSun", "isPiece", "(I)Z"⟩, 17), (⟨"FollowTheSun", "endOf", "(LFollowTheSun$State;LFollowTheSun$State;LFollowTheSun$World;)I"⟩, 17), (⟨"FollowTheSun$State", "isStuck", "(LFollowTheSun$World;)Z"⟩, 16), (⟨"FollowTheSun", "canAsk", "(IIII)Z"⟩, 17), (⟨"FollowTheSun", "soonest", "(III)I"⟩, 17), (⟨"FollowTheSun", "alone", "(LFollowTheSun$Piece;II[I)I"⟩, 17), (⟨"FollowTheSun", "place", "(LFollowTheSun$State;II)V"⟩, 17), (⟨"FollowTheSun", "price", "(I)I"⟩, 17), (⟨"FollowTheSun", "with", "(I)LFollowTheSun$World;"⟩, 17), (⟨"FollowTheSun", "endIn", "(LFollowTheSun$World;I)I"⟩, 17), (⟨"FollowTheSun", "kept", "()I"⟩, 17), (⟨"FollowTheSun", "tellPart", "(JJ)V"⟩, 17), (⟨"FollowTheSun", "sleeping", "(II)LFollowTheSun$Office;"⟩, 17), (⟨"FollowTheSun", "endWith", "(ILFollowTheSun$Office;)I"⟩, 17), (⟨"FollowTheSunModel", "opens", "(IIIIII)V"⟩, 58), (⟨"FollowTheSunModel", "isOffice", "(I)Z"⟩, 58)]
theorem lw_r2 : ∀ q ∈ lw_privs_2, lw_okq q := List.forall_mem_cons.mpr ⟨lw_p16, List.forall_mem_cons.mpr ⟨lw_p17, List.forall_mem_cons.mpr ⟨lw_p18, List.forall_mem_cons.mpr ⟨lw_p19, List.forall_mem_cons.mpr ⟨lw_p20, List.forall_mem_cons.mpr ⟨lw_p21, List.forall_mem_cons.mpr ⟨lw_p22, List.forall_mem_cons.mpr ⟨lw_p23, List.forall_mem_cons.mpr ⟨lw_p24, List.forall_mem_cons.mpr ⟨lw_p25, List.forall_mem_cons.mpr ⟨lw_p26, List.forall_mem_cons.mpr ⟨lw_p27, List.forall_mem_cons.mpr ⟨lw_p28, List.forall_mem_cons.mpr ⟨lw_p29, List.forall_mem_cons.mpr ⟨lw_p30, List.forall_mem_cons.mpr ⟨lw_p31, fun _ h => absurd h List.not_mem_nil⟩⟩⟩⟩⟩⟩⟩⟩⟩⟩⟩⟩⟩⟩⟩⟩
theorem lw_p32 : lw_okq (⟨"FollowTheSunModel", "knows", "(III)V"⟩, 58) := ⟨⟨by decide +kernel, by decide +kernel⟩, lw_t5 (List.mem_of_getElem? (i := 208) rfl), lw_t5 (List.mem_of_getElem? (i := 235) rfl), lw_t5 (List.mem_of_getElem? (i := 236) rfl)⟩
theorem lw_p33 : lw_okq (⟨"FollowTheSunModel", "isOpen", "(II)Z"⟩, 58) := ⟨⟨by decide +kernel, by decide +kernel⟩, lw_t5 (List.mem_of_getElem? (i := 208) rfl), lw_t6 (List.mem_of_getElem? (i := 16) rfl), lw_t6 (List.mem_of_getElem? (i := 17) rfl)⟩
theorem lw_p34 : lw_okq (⟨"FollowTheSunModel", "overlapOf", "(III)I"⟩, 58) := ⟨⟨by decide +kernel, by decide +kernel⟩, lw_t5 (List.mem_of_getElem? (i := 208) rfl), lw_t6 (List.mem_of_getElem? (i := 29) rfl), lw_t6 (List.mem_of_getElem? (i := 30) rfl)⟩
theorem lw_p35 : lw_okq (⟨"FollowTheSunModel", "lostOf", "(III)I"⟩, 58) := ⟨⟨by decide +kernel, by decide +kernel⟩, lw_t5 (List.mem_of_getElem? (i := 208) rfl), lw_t6 (List.mem_of_getElem? (i := 37) rfl), lw_t6 (List.mem_of_getElem? (i := 38) rfl)⟩
theorem lw_p36 : lw_okq (⟨"FollowTheSunModel", "enters", "(J)V"⟩, 58) := ⟨⟨by decide +kernel, by decide +kernel⟩, lw_t5 (List.mem_of_getElem? (i := 208) rfl), lw_t6 (List.mem_of_getElem? (i := 49) rfl), lw_t6 (List.mem_of_getElem? (i := 50) rfl)⟩
theorem lw_p37 : lw_okq (⟨"FollowTheSunModel", "lays", "(I)V"⟩, 58) := ⟨⟨by decide +kernel, by decide +kernel⟩, lw_t5 (List.mem_of_getElem? (i := 208) rfl), lw_t6 (List.mem_of_getElem? (i := 58) rfl), lw_t6 (List.mem_of_getElem? (i := 59) rfl)⟩
theorem lw_p38 : lw_okq (⟨"FollowTheSunModel", "ranked", "(I)Z"⟩, 58) := ⟨⟨by decide +kernel, by decide +kernel⟩, lw_t5 (List.mem_of_getElem? (i := 208) rfl), lw_t6 (List.mem_of_getElem? (i := 74) rfl), lw_t6 (List.mem_of_getElem? (i := 75) rfl)⟩
theorem lw_p39 : lw_okq (⟨"FollowTheSunModel", "ahead", "()Z"⟩, 58) := ⟨⟨by decide +kernel, by decide +kernel⟩, lw_t5 (List.mem_of_getElem? (i := 208) rfl), lw_t6 (List.mem_of_getElem? (i := 78) rfl), lw_t6 (List.mem_of_getElem? (i := 79) rfl)⟩
theorem lw_p40 : lw_okq (⟨"FollowTheSunModel", "among", "(Ljava/lang/String;)I"⟩, 58) := ⟨⟨by decide +kernel, by decide +kernel⟩, lw_t5 (List.mem_of_getElem? (i := 208) rfl), lw_t6 (List.mem_of_getElem? (i := 83) rfl), lw_t6 (List.mem_of_getElem? (i := 84) rfl)⟩
theorem lw_p41 : lw_okq (⟨"FollowTheSunModel", "thing", "()Z"⟩, 58) := ⟨⟨by decide +kernel, by decide +kernel⟩, lw_t5 (List.mem_of_getElem? (i := 208) rfl), lw_t6 (List.mem_of_getElem? (i := 135) rfl), lw_t6 (List.mem_of_getElem? (i := 136) rfl)⟩
theorem lw_p42 : lw_okq (⟨"FollowTheSunModel", "isDigit", "()Z"⟩, 58) := ⟨⟨by decide +kernel, by decide +kernel⟩, lw_t5 (List.mem_of_getElem? (i := 208) rfl), lw_t6 (List.mem_of_getElem? (i := 139) rfl), lw_t6 (List.mem_of_getElem? (i := 140) rfl)⟩
theorem lw_p43 : lw_okq (⟨"FollowTheSunModel", "marks", "(I)V"⟩, 58) := ⟨⟨by decide +kernel, by decide +kernel⟩, lw_t5 (List.mem_of_getElem? (i := 208) rfl), lw_t6 (List.mem_of_getElem? (i := 145) rfl), lw_t6 (List.mem_of_getElem? (i := 146) rfl)⟩
theorem lw_p44 : lw_okq (⟨"FollowTheSunModel", "isPiece", "(I)Z"⟩, 58) := ⟨⟨by decide +kernel, by decide +kernel⟩, lw_t5 (List.mem_of_getElem? (i := 208) rfl), lw_t6 (List.mem_of_getElem? (i := 161) rfl), lw_t6 (List.mem_of_getElem? (i := 162) rfl)⟩
theorem lw_p45 : lw_okq (⟨"FollowTheSunModel", "refuse", "()I"⟩, 58) := ⟨⟨by decide +kernel, by decide +kernel⟩, lw_t5 (List.mem_of_getElem? (i := 208) rfl), lw_t6 (List.mem_of_getElem? (i := 165) rfl), lw_t6 (List.mem_of_getElem? (i := 166) rfl)⟩
theorem lw_p46 : lw_okq (⟨"FollowTheSunModel", "worked", "(III)I"⟩, 58) := ⟨⟨by decide +kernel, by decide +kernel⟩, lw_t5 (List.mem_of_getElem? (i := 208) rfl), lw_t6 (List.mem_of_getElem? (i := 169) rfl), lw_t6 (List.mem_of_getElem? (i := 170) rfl)⟩
theorem lw_p47 : lw_okq (⟨"FollowTheSunModel", "valueOf", "(IIII)I"⟩, 58) := ⟨⟨by decide +kernel, by decide +kernel⟩, lw_t5 (List.mem_of_getElem? (i := 208) rfl), lw_t6 (List.mem_of_getElem? (i := 173) rfl), lw_t6 (List.mem_of_getElem? (i := 174) rfl)⟩
def lw_privs_3 : List (MethodName × Nat) := [(⟨"FollowTheSunModel", "knows", "(III)V"⟩, 58), (⟨"FollowTheSunModel", "isOpen", "(II)Z"⟩, 58), (⟨"FollowTheSunModel", "overlapOf", "(III)I"⟩, 58), (⟨"FollowTheSunModel", "lostOf", "(III)I"⟩, 58), (⟨"FollowTheSunModel", "enters", "(J)V"⟩, 58), (⟨"FollowTheSunModel", "lays", "(I)V"⟩, 58), (⟨"FollowTheSunModel", "ranked", "(I)Z"⟩, 58), (⟨"FollowTheSunModel", "ahead", "()Z"⟩, 58), (⟨"FollowTheSunModel", "among", "(Ljava/lang/String;)I"⟩, 58), (⟨"FollowTheSunModel", "thing", "()Z"⟩, 58), (⟨"FollowTheSunModel", "isDigit", "()Z"⟩, 58), (⟨"FollowTheSunModel", "marks", "(I)V"⟩, 58), (⟨"FollowTheSunModel", "isPiece", "(I)Z"⟩, 58), (⟨"FollowTheSunModel", "refuse", "()I"⟩, 58), (⟨"FollowTheSunModel", "worked", "(III)I"⟩, 58), (⟨"FollowTheSunModel", "valueOf", "(IIII)I"⟩, 58)]
theorem lw_r3 : ∀ q ∈ lw_privs_3, lw_okq q := List.forall_mem_cons.mpr ⟨lw_p32, List.forall_mem_cons.mpr ⟨lw_p33, List.forall_mem_cons.mpr ⟨lw_p34, List.forall_mem_cons.mpr ⟨lw_p35, List.forall_mem_cons.mpr ⟨lw_p36, List.forall_mem_cons.mpr ⟨lw_p37, List.forall_mem_cons.mpr ⟨lw_p38, List.forall_mem_cons.mpr ⟨lw_p39, List.forall_mem_cons.mpr ⟨lw_p40, List.forall_mem_cons.mpr ⟨lw_p41, List.forall_mem_cons.mpr ⟨lw_p42, List.forall_mem_cons.mpr ⟨lw_p43, List.forall_mem_cons.mpr ⟨lw_p44, List.forall_mem_cons.mpr ⟨lw_p45, List.forall_mem_cons.mpr ⟨lw_p46, List.forall_mem_cons.mpr ⟨lw_p47, fun _ h => absurd h List.not_mem_nil⟩⟩⟩⟩⟩⟩⟩⟩⟩⟩⟩⟩⟩⟩⟩⟩
theorem lw_p48 : lw_okq (⟨"FollowTheSunModel", "opensIn", "(II)I"⟩, 58) := ⟨⟨by decide +kernel, by decide +kernel⟩, lw_t5 (List.mem_of_getElem? (i := 208) rfl), lw_t6 (List.mem_of_getElem? (i := 177) rfl), lw_t6 (List.mem_of_getElem? (i := 178) rfl)⟩
theorem lw_p49 : lw_okq (⟨"FollowTheSunModel", "begins", "(I)V"⟩, 58) := ⟨⟨by decide +kernel, by decide +kernel⟩, lw_t5 (List.mem_of_getElem? (i := 208) rfl), lw_t6 (List.mem_of_getElem? (i := 188) rfl), lw_t6 (List.mem_of_getElem? (i := 189) rfl)⟩
theorem lw_p50 : lw_okq (⟨"FollowTheSunModel", "passes", "()V"⟩, 58) := ⟨⟨by decide +kernel, by decide +kernel⟩, lw_t5 (List.mem_of_getElem? (i := 208) rfl), lw_t6 (List.mem_of_getElem? (i := 197) rfl), lw_t6 (List.mem_of_getElem? (i := 198) rfl)⟩
theorem lw_p51 : lw_okq (⟨"FollowTheSunModel", "works", "()V"⟩, 58) := ⟨⟨by decide +kernel, by decide +kernel⟩, lw_t5 (List.mem_of_getElem? (i := 208) rfl), lw_t6 (List.mem_of_getElem? (i := 201) rfl), lw_t6 (List.mem_of_getElem? (i := 202) rfl)⟩
theorem lw_p52 : lw_okq (⟨"FollowTheSunModel", "readyBits", "()I"⟩, 58) := ⟨⟨by decide +kernel, by decide +kernel⟩, lw_t5 (List.mem_of_getElem? (i := 208) rfl), lw_t6 (List.mem_of_getElem? (i := 205) rfl), lw_t6 (List.mem_of_getElem? (i := 206) rfl)⟩
theorem lw_p53 : lw_okq (⟨"FollowTheSunModel", "isReady", "(I)Z"⟩, 58) := ⟨⟨by decide +kernel, by decide +kernel⟩, lw_t5 (List.mem_of_getElem? (i := 208) rfl), lw_t6 (List.mem_of_getElem? (i := 209) rfl), lw_t6 (List.mem_of_getElem? (i := 210) rfl)⟩
theorem lw_p54 : lw_okq (⟨"FollowTheSunModel", "isDone", "(I)Z"⟩, 58) := ⟨⟨by decide +kernel, by decide +kernel⟩, lw_t5 (List.mem_of_getElem? (i := 208) rfl), lw_t6 (List.mem_of_getElem? (i := 213) rfl), lw_t6 (List.mem_of_getElem? (i := 214) rfl)⟩
theorem lw_p55 : lw_okq (⟨"FollowTheSunModel", "asked", "(I)I"⟩, 58) := ⟨⟨by decide +kernel, by decide +kernel⟩, lw_t5 (List.mem_of_getElem? (i := 208) rfl), lw_t6 (List.mem_of_getElem? (i := 217) rfl), lw_t6 (List.mem_of_getElem? (i := 218) rfl)⟩
theorem lw_p56 : lw_okq (⟨"FollowTheSunModel", "closes", "()V"⟩, 58) := ⟨⟨by decide +kernel, by decide +kernel⟩, lw_t5 (List.mem_of_getElem? (i := 208) rfl), lw_t6 (List.mem_of_getElem? (i := 221) rfl), lw_t6 (List.mem_of_getElem? (i := 222) rfl)⟩
theorem lw_p57 : lw_okq (⟨"FollowTheSunModel", "hands", "(III)I"⟩, 58) := ⟨⟨by decide +kernel, by decide +kernel⟩, lw_t5 (List.mem_of_getElem? (i := 208) rfl), lw_t6 (List.mem_of_getElem? (i := 225) rfl), lw_t6 (List.mem_of_getElem? (i := 226) rfl)⟩
theorem lw_p58 : lw_okq (⟨"FollowTheSunModel", "putsBy", "([I)V"⟩, 58) := ⟨⟨by decide +kernel, by decide +kernel⟩, lw_t5 (List.mem_of_getElem? (i := 208) rfl), lw_t7 (List.mem_of_getElem? (i := 2) rfl), lw_t7 (List.mem_of_getElem? (i := 3) rfl)⟩
theorem lw_p59 : lw_okq (⟨"FollowTheSunModel", "tellsEnd", "()I"⟩, 58) := ⟨⟨by decide +kernel, by decide +kernel⟩, lw_t5 (List.mem_of_getElem? (i := 208) rfl), lw_t7 (List.mem_of_getElem? (i := 6) rfl), lw_t7 (List.mem_of_getElem? (i := 7) rfl)⟩
theorem lw_p60 : lw_okq (⟨"FollowTheSunModel", "sumOf", "(I)I"⟩, 58) := ⟨⟨by decide +kernel, by decide +kernel⟩, lw_t5 (List.mem_of_getElem? (i := 208) rfl), lw_t7 (List.mem_of_getElem? (i := 10) rfl), lw_t7 (List.mem_of_getElem? (i := 11) rfl)⟩
theorem lw_p61 : lw_okq (⟨"FollowTheSunModel", "goesOn", "()I"⟩, 58) := ⟨⟨by decide +kernel, by decide +kernel⟩, lw_t5 (List.mem_of_getElem? (i := 208) rfl), lw_t7 (List.mem_of_getElem? (i := 14) rfl), lw_t7 (List.mem_of_getElem? (i := 15) rfl)⟩
theorem lw_p62 : lw_okq (⟨"FollowTheSunModel", "isAllDone", "()Z"⟩, 58) := ⟨⟨by decide +kernel, by decide +kernel⟩, lw_t5 (List.mem_of_getElem? (i := 208) rfl), lw_t7 (List.mem_of_getElem? (i := 18) rfl), lw_t7 (List.mem_of_getElem? (i := 19) rfl)⟩
theorem lw_p63 : lw_okq (⟨"FollowTheSunModel", "takesBack", "([I)V"⟩, 58) := ⟨⟨by decide +kernel, by decide +kernel⟩, lw_t5 (List.mem_of_getElem? (i := 208) rfl), lw_t7 (List.mem_of_getElem? (i := 22) rfl), lw_t7 (List.mem_of_getElem? (i := 23) rfl)⟩
def lw_privs_4 : List (MethodName × Nat) := [(⟨"FollowTheSunModel", "opensIn", "(II)I"⟩, 58), (⟨"FollowTheSunModel", "begins", "(I)V"⟩, 58), (⟨"FollowTheSunModel", "passes", "()V"⟩, 58), (⟨"FollowTheSunModel", "works", "()V"⟩, 58), (⟨"FollowTheSunModel", "readyBits", "()I"⟩, 58), (⟨"FollowTheSunModel", "isReady", "(I)Z"⟩, 58), (⟨"FollowTheSunModel", "isDone", "(I)Z"⟩, 58), (⟨"FollowTheSunModel", "asked", "(I)I"⟩, 58), (⟨"FollowTheSunModel", "closes", "()V"⟩, 58), (⟨"FollowTheSunModel", "hands", "(III)I"⟩, 58), (⟨"FollowTheSunModel", "putsBy", "([I)V"⟩, 58), (⟨"FollowTheSunModel", "tellsEnd", "()I"⟩, 58), (⟨"FollowTheSunModel", "sumOf", "(I)I"⟩, 58), (⟨"FollowTheSunModel", "goesOn", "()I"⟩, 58), (⟨"FollowTheSunModel", "isAllDone", "()Z"⟩, 58), (⟨"FollowTheSunModel", "takesBack", "([I)V"⟩, 58)]
theorem lw_r4 : ∀ q ∈ lw_privs_4, lw_okq q := List.forall_mem_cons.mpr ⟨lw_p48, List.forall_mem_cons.mpr ⟨lw_p49, List.forall_mem_cons.mpr ⟨lw_p50, List.forall_mem_cons.mpr ⟨lw_p51, List.forall_mem_cons.mpr ⟨lw_p52, List.forall_mem_cons.mpr ⟨lw_p53, List.forall_mem_cons.mpr ⟨lw_p54, List.forall_mem_cons.mpr ⟨lw_p55, List.forall_mem_cons.mpr ⟨lw_p56, List.forall_mem_cons.mpr ⟨lw_p57, List.forall_mem_cons.mpr ⟨lw_p58, List.forall_mem_cons.mpr ⟨lw_p59, List.forall_mem_cons.mpr ⟨lw_p60, List.forall_mem_cons.mpr ⟨lw_p61, List.forall_mem_cons.mpr ⟨lw_p62, List.forall_mem_cons.mpr ⟨lw_p63, fun _ h => absurd h List.not_mem_nil⟩⟩⟩⟩⟩⟩⟩⟩⟩⟩⟩⟩⟩⟩⟩⟩
theorem lw_p64 : lw_okq (⟨"FollowTheSunModel", "soonest", "(III)I"⟩, 58) := ⟨⟨by decide +kernel, by decide +kernel⟩, lw_t5 (List.mem_of_getElem? (i := 208) rfl), lw_t7 (List.mem_of_getElem? (i := 34) rfl), lw_t7 (List.mem_of_getElem? (i := 35) rfl)⟩
theorem lw_p65 : lw_okq (⟨"FollowTheSunModel", "empties", "([I)V"⟩, 58) := ⟨⟨by decide +kernel, by decide +kernel⟩, lw_t5 (List.mem_of_getElem? (i := 208) rfl), lw_t7 (List.mem_of_getElem? (i := 38) rfl), lw_t7 (List.mem_of_getElem? (i := 39) rfl)⟩
theorem lw_p66 : lw_okq (⟨"FollowTheSunModel", "losesAll", "(I)V"⟩, 58) := ⟨⟨by decide +kernel, by decide +kernel⟩, lw_t5 (List.mem_of_getElem? (i := 208) rfl), lw_t7 (List.mem_of_getElem? (i := 45) rfl), lw_t7 (List.mem_of_getElem? (i := 46) rfl)⟩
theorem lw_p67 : lw_okq (⟨"FollowTheSunModel", "goesFrom", "(IIIII)V"⟩, 58) := ⟨⟨by decide +kernel, by decide +kernel⟩, lw_t5 (List.mem_of_getElem? (i := 208) rfl), lw_t7 (List.mem_of_getElem? (i := 49) rfl), lw_t7 (List.mem_of_getElem? (i := 50) rfl)⟩
theorem lw_p68 : lw_okq (⟨"FollowTheSunModel", "entersRoute", "(II)V"⟩, 58) := ⟨⟨by decide +kernel, by decide +kernel⟩, lw_t5 (List.mem_of_getElem? (i := 208) rfl), lw_t7 (List.mem_of_getElem? (i := 56) rfl), lw_t7 (List.mem_of_getElem? (i := 57) rfl)⟩
theorem lw_p69 : lw_okq (⟨"FollowTheSunModel", "emptiesPaid", "([J)V"⟩, 58) := ⟨⟨by decide +kernel, by decide +kernel⟩, lw_t5 (List.mem_of_getElem? (i := 208) rfl), lw_t7 (List.mem_of_getElem? (i := 65) rfl), lw_t7 (List.mem_of_getElem? (i := 66) rfl)⟩
theorem lw_p70 : lw_okq (⟨"FollowTheSunModel", "goesPaid", "(IIIJI)V"⟩, 58) := ⟨⟨by decide +kernel, by decide +kernel⟩, lw_t5 (List.mem_of_getElem? (i := 208) rfl), lw_t7 (List.mem_of_getElem? (i := 69) rfl), lw_t7 (List.mem_of_getElem? (i := 70) rfl)⟩
theorem lw_p71 : lw_okq (⟨"FollowTheSunModel", "cheaper", "(IJ)V"⟩, 58) := ⟨⟨by decide +kernel, by decide +kernel⟩, lw_t5 (List.mem_of_getElem? (i := 208) rfl), lw_t7 (List.mem_of_getElem? (i := 74) rfl), lw_t7 (List.mem_of_getElem? (i := 75) rfl)⟩
theorem lw_p72 : lw_okq (⟨"FollowTheSunModel", "lies", "(III)I"⟩, 58) := ⟨⟨by decide +kernel, by decide +kernel⟩, lw_t5 (List.mem_of_getElem? (i := 208) rfl), lw_t7 (List.mem_of_getElem? (i := 89) rfl), lw_t7 (List.mem_of_getElem? (i := 90) rfl)⟩
theorem lw_p73 : lw_okq (⟨"FollowTheSunModel", "keepsBorn", "()V"⟩, 58) := ⟨⟨by decide +kernel, by decide +kernel⟩, lw_t5 (List.mem_of_getElem? (i := 208) rfl), lw_t7 (List.mem_of_getElem? (i := 98) rfl), lw_t7 (List.mem_of_getElem? (i := 99) rfl)⟩
theorem lw_p74 : lw_okq (⟨"FollowTheSunModel", "endsFrom", "(I)I"⟩, 58) := ⟨⟨by decide +kernel, by decide +kernel⟩, lw_t5 (List.mem_of_getElem? (i := 208) rfl), lw_t7 (List.mem_of_getElem? (i := 102) rfl), lw_t7 (List.mem_of_getElem? (i := 103) rfl)⟩
theorem lw_p75 : lw_okq (⟨"FollowTheSunModel", "movesHomes", "(I)Z"⟩, 58) := ⟨⟨by decide +kernel, by decide +kernel⟩, lw_t5 (List.mem_of_getElem? (i := 208) rfl), lw_t7 (List.mem_of_getElem? (i := 106) rfl), lw_t7 (List.mem_of_getElem? (i := 107) rfl)⟩
theorem lw_p76 : lw_okq (⟨"FollowTheSunModel", "givesBorn", "()V"⟩, 58) := ⟨⟨by decide +kernel, by decide +kernel⟩, lw_t5 (List.mem_of_getElem? (i := 208) rfl), lw_t7 (List.mem_of_getElem? (i := 110) rfl), lw_t7 (List.mem_of_getElem? (i := 111) rfl)⟩
theorem lw_p77 : lw_okq (⟨"FollowTheSunModel", "endsWith", "(II)I"⟩, 58) := ⟨⟨by decide +kernel, by decide +kernel⟩, lw_t5 (List.mem_of_getElem? (i := 208) rfl), lw_t7 (List.mem_of_getElem? (i := 123) rfl), lw_t7 (List.mem_of_getElem? (i := 124) rfl)⟩
theorem lw_p78 : lw_okq (⟨"FollowTheSunModel", "entersFraction", "(JJ)V"⟩, 58) := ⟨⟨by decide +kernel, by decide +kernel⟩, lw_t5 (List.mem_of_getElem? (i := 208) rfl), lw_t7 (List.mem_of_getElem? (i := 136) rfl), lw_t7 (List.mem_of_getElem? (i := 137) rfl)⟩
theorem lw_p79 : lw_okq (⟨"FollowTheSunModel", "endsNow", "()I"⟩, 58) := ⟨⟨by decide +kernel, by decide +kernel⟩, lw_t5 (List.mem_of_getElem? (i := 208) rfl), lw_t7 (List.mem_of_getElem? (i := 163) rfl), lw_t7 (List.mem_of_getElem? (i := 164) rfl)⟩
def lw_privs_5 : List (MethodName × Nat) := [(⟨"FollowTheSunModel", "soonest", "(III)I"⟩, 58), (⟨"FollowTheSunModel", "empties", "([I)V"⟩, 58), (⟨"FollowTheSunModel", "losesAll", "(I)V"⟩, 58), (⟨"FollowTheSunModel", "goesFrom", "(IIIII)V"⟩, 58), (⟨"FollowTheSunModel", "entersRoute", "(II)V"⟩, 58), (⟨"FollowTheSunModel", "emptiesPaid", "([J)V"⟩, 58), (⟨"FollowTheSunModel", "goesPaid", "(IIIJI)V"⟩, 58), (⟨"FollowTheSunModel", "cheaper", "(IJ)V"⟩, 58), (⟨"FollowTheSunModel", "lies", "(III)I"⟩, 58), (⟨"FollowTheSunModel", "keepsBorn", "()V"⟩, 58), (⟨"FollowTheSunModel", "endsFrom", "(I)I"⟩, 58), (⟨"FollowTheSunModel", "movesHomes", "(I)Z"⟩, 58), (⟨"FollowTheSunModel", "givesBorn", "()V"⟩, 58), (⟨"FollowTheSunModel", "endsWith", "(II)I"⟩, 58), (⟨"FollowTheSunModel", "entersFraction", "(JJ)V"⟩, 58), (⟨"FollowTheSunModel", "endsNow", "()I"⟩, 58)]
theorem lw_r5 : ∀ q ∈ lw_privs_5, lw_okq q := List.forall_mem_cons.mpr ⟨lw_p64, List.forall_mem_cons.mpr ⟨lw_p65, List.forall_mem_cons.mpr ⟨lw_p66, List.forall_mem_cons.mpr ⟨lw_p67, List.forall_mem_cons.mpr ⟨lw_p68, List.forall_mem_cons.mpr ⟨lw_p69, List.forall_mem_cons.mpr ⟨lw_p70, List.forall_mem_cons.mpr ⟨lw_p71, List.forall_mem_cons.mpr ⟨lw_p72, List.forall_mem_cons.mpr ⟨lw_p73, List.forall_mem_cons.mpr ⟨lw_p74, List.forall_mem_cons.mpr ⟨lw_p75, List.forall_mem_cons.mpr ⟨lw_p76, List.forall_mem_cons.mpr ⟨lw_p77, List.forall_mem_cons.mpr ⟨lw_p78, List.forall_mem_cons.mpr ⟨lw_p79, fun _ h => absurd h List.not_mem_nil⟩⟩⟩⟩⟩⟩⟩⟩⟩⟩⟩⟩⟩⟩⟩⟩
theorem lw_p80 : lw_okq (⟨"FollowTheSunModel", "endsOn", "(II)I"⟩, 58) := ⟨⟨by decide +kernel, by decide +kernel⟩, lw_t5 (List.mem_of_getElem? (i := 208) rfl), lw_t7 (List.mem_of_getElem? (i := 167) rfl), lw_t7 (List.mem_of_getElem? (i := 168) rfl)⟩
theorem lw_p81 : lw_okq (⟨"FollowTheSunModel", "doneBits", "()I"⟩, 58) := ⟨⟨by decide +kernel, by decide +kernel⟩, lw_t5 (List.mem_of_getElem? (i := 208) rfl), lw_t7 (List.mem_of_getElem? (i := 191) rfl), lw_t7 (List.mem_of_getElem? (i := 192) rfl)⟩
def lw_privs_6 : List (MethodName × Nat) := [(⟨"FollowTheSunModel", "endsOn", "(II)I"⟩, 58), (⟨"FollowTheSunModel", "doneBits", "()I"⟩, 58)]
theorem lw_r6 : ∀ q ∈ lw_privs_6, lw_okq q := List.forall_mem_cons.mpr ⟨lw_p80, List.forall_mem_cons.mpr ⟨lw_p81, fun _ h => absurd h List.not_mem_nil⟩⟩
def lw_privs : List (MethodName × Nat) := lw_privs_1 ++ (lw_privs_2 ++ (lw_privs_3 ++ (lw_privs_4 ++ (lw_privs_5 ++ (lw_privs_6)))))
def lw_tbl : List Cond := k2_sels lw_privs ++ tables_1
theorem lw_privs_ok : ∀ q ∈ lw_privs, lw_okq q := by
  show ∀ q ∈ lw_privs_1 ++ (lw_privs_2 ++ (lw_privs_3 ++ (lw_privs_4 ++ (lw_privs_5 ++ (lw_privs_6))))), lw_okq q
  exact List.forall_mem_append.mpr ⟨lw_r1, List.forall_mem_append.mpr ⟨lw_r2, List.forall_mem_append.mpr ⟨lw_r3, List.forall_mem_append.mpr ⟨lw_r4, List.forall_mem_append.mpr ⟨lw_r5, lw_r6⟩⟩⟩⟩⟩
-- ===== ONE list of words for every method: the tables' words that hold all through a run =====
def lw_all : List Cond := lw_tbl.filter goodWord
/-- a word of the tables by its place: claim/WORDS.tsv -/
theorem lw_w {w : Cond} (i : Nat) (h : lw_tbl[i]? = some w) (g : goodWord w = true) : w ∈ lw_all := List.mem_filter.mpr ⟨List.mem_of_getElem? h, g⟩
theorem lw_all_tbl {w : Cond} (h : w ∈ lw_all) : w ∈ lw_tbl := (List.mem_filter.mp h).1
theorem lw_self : GoodIn lw_all lw_all := fun w h => ⟨h, good_of_word (List.mem_filter.mp h).2⟩
/-- a class's field words, by their places -/
theorem lw_in (ws : List Cond) (ps : List Nat) (hp : ws = ps.filterMap (fun i => lw_tbl[i]?)) (hg : ws.all goodWord = true) : ∀ w ∈ ws, w ∈ lw_all := by
  intro w h
  have h1 := List.all_eq_true.mp hg w h
  rw [hp] at h
  obtain ⟨i, -, hi⟩ := List.mem_filterMap.mp h
  exact lw_w i hi h1
/-- the words of a contract for the method y with code b, L locals, answer r -/
abbrev ws_ (y : MethodName) (b : ByteArray) (L : Nat) (r : Option FieldType) : List Cond := Cond.code y b L r :: lw_all
theorem lw_meth {y : MethodName} {b : ByteArray} {L : Nat} {r : Option FieldType} (h : Cond.code y b L r ∈ lw_all) : GoodIn lw_all (ws_ y b L r) := by
  intro w hw
  rcases List.mem_cons.mp hw with e | e
  · rw [e]
    exact lw_self _ h
  · exact lw_self _ e
theorem lw_app {a c : List Cond} (ha : ∀ w ∈ a, w ∈ lw_all) (hc : GoodIn lw_all c) : GoodIn lw_all (a ++ c) := by
  intro w hw
  rcases List.mem_append.mp hw with e | e
  · exact lw_self w (ha w e)
  · exact hc w e
/-- what a call through an object asks: cwV n hts (lw_V ..) -/
theorem lw_V {own : String} {idx : Nat} {C : String} {y : MethodName} {b : ByteArray} {L : Nat} {r : Option FieldType} (h1 : Cond.methodLink own idx y ∈ lw_all) (h2 : Cond.instanceMethod y ∈ lw_all) (h3 : Cond.selects C y y ∈ lw_all) (h4 : Cond.initialized C ∈ lw_all) (h5 : Cond.code y b L r ∈ lw_all) : GoodIn lw_all (wsV own idx C y (ws_ y b L r)) := by
  refine lw_app ?_ (lw_meth h5)
  intro w hw
  simp only [List.mem_cons, List.not_mem_nil, or_false] at hw
  rcases hw with e | e | e | e
  · rw [e]; exact h1
  · rw [e]; exact h2
  · rw [e]; exact h3
  · rw [e]; exact h4
/-- what a static call asks: va_cwS n hts (lw_S ..) -/
theorem lw_S {own : String} {idx : Nat} {y : MethodName} {b : ByteArray} {L : Nat} {r : Option FieldType} (h1 : Cond.methodLink own idx y ∈ lw_all) (h2 : Cond.static y ∈ lw_all) (h3 : Cond.initialized y.cls ∈ lw_all) (h4 : Cond.code y b L r ∈ lw_all) : GoodIn lw_all (va_wsS own idx y (ws_ y b L r)) := by
  refine lw_app ?_ (lw_meth h4)
  intro w hw
  simp only [List.mem_cons, List.not_mem_nil, or_false] at hw
  rcases hw with e | e | e
  · rw [e]; exact h1
  · rw [e]; exact h2
  · rw [e]; exact h3
/-- the words of a contract for a method WITH HANDLERS (hh: its table) -/
abbrev wsW_ (y : MethodName) (b : ByteArray) (L : Nat) (r : Option FieldType) (hh : List (Nat × Nat × Nat × Nat)) : List Cond := Cond.codeWith y b L r hh :: lw_all
theorem lw_methW {y : MethodName} {b : ByteArray} {L : Nat} {r : Option FieldType} {hh : List (Nat × Nat × Nat × Nat)} (h : Cond.codeWith y b L r hh ∈ lw_all) : GoodIn lw_all (wsW_ y b L r hh) := by
  intro w hw
  rcases List.mem_cons.mp hw with e | e
  · rw [e]
    exact lw_self _ h
  · exact lw_self _ e
/-- any list of words by their places (lw_in), good -/
theorem lw_good {ws : List Cond} (h : ∀ w ∈ ws, w ∈ lw_all) : GoodIn lw_all ws := fun w hw => lw_self w (h w hw)
/-- what a call of a method with handlers asks: vx_cwVW n hts (lw_VW ..), vx_cwSW n hts (lw_SW ..) -/
theorem lw_VW {own : String} {idx : Nat} {C : String} {y : MethodName} {b : ByteArray} {L : Nat} {r : Option FieldType} {hh : List (Nat × Nat × Nat × Nat)} (h1 : Cond.methodLink own idx y ∈ lw_all) (h2 : Cond.instanceMethod y ∈ lw_all) (h3 : Cond.selects C y y ∈ lw_all) (h4 : Cond.initialized C ∈ lw_all) (h5 : Cond.codeWith y b L r hh ∈ lw_all) : GoodIn lw_all (wsV own idx C y (wsW_ y b L r hh)) := by
  refine lw_app ?_ (lw_methW h5)
  intro w hw
  simp only [List.mem_cons, List.not_mem_nil, or_false] at hw
  rcases hw with e | e | e | e
  · rw [e]; exact h1
  · rw [e]; exact h2
  · rw [e]; exact h3
  · rw [e]; exact h4
theorem lw_SW {own : String} {idx : Nat} {y : MethodName} {b : ByteArray} {L : Nat} {r : Option FieldType} {hh : List (Nat × Nat × Nat × Nat)} (h1 : Cond.methodLink own idx y ∈ lw_all) (h2 : Cond.static y ∈ lw_all) (h3 : Cond.initialized y.cls ∈ lw_all) (h4 : Cond.codeWith y b L r hh ∈ lw_all) : GoodIn lw_all (va_wsS own idx y (wsW_ y b L r hh)) := by
  refine lw_app ?_ (lw_methW h4)
  intro w hw
  simp only [List.mem_cons, List.not_mem_nil, or_false] at hw
  rcases hw with e | e | e
  · rw [e]; exact h1
  · rw [e]; exact h2
  · rw [e]; exact h3
/-- a word by its place in its run of the tables -/
theorem lw_at {r : List Cond} (hr : ∀ w ∈ r, w ∈ lw_tbl) {w : Cond} (i : Nat) (h : r[i]? = some w) : w ∈ lw_tbl := hr w (List.mem_of_getElem? h)
theorem lw_g {w : Cond} (h : w ∈ lw_tbl) (g : goodWord w = true) : w ∈ lw_all := List.mem_filter.mpr ⟨h, g⟩
theorem lw_ms : ∀ w ∈ k2_sels lw_privs, w ∈ lw_tbl := fun w h => show w ∈ k2_sels lw_privs ++ tables_1 from List.mem_append_left _ h
theorem lw_m1 : ∀ w ∈ tables_1_1, w ∈ lw_tbl := fun w h => show w ∈ k2_sels lw_privs ++ tables_1 from List.mem_append_right (k2_sels lw_privs) (show w ∈ tables_1 from List.mem_append_left _ h)
theorem lw_m2 : ∀ w ∈ tables_1_2, w ∈ lw_tbl := fun w h => show w ∈ k2_sels lw_privs ++ tables_1 from List.mem_append_right (k2_sels lw_privs) (show w ∈ tables_1 from List.mem_append_right _ (List.mem_append_left _ h))
theorem lw_m3 : ∀ w ∈ tables_1_3, w ∈ lw_tbl := fun w h => show w ∈ k2_sels lw_privs ++ tables_1 from List.mem_append_right (k2_sels lw_privs) (show w ∈ tables_1 from List.mem_append_right _ (List.mem_append_right _ (List.mem_append_left _ h)))
theorem lw_m4 : ∀ w ∈ tables_1_4, w ∈ lw_tbl := fun w h => show w ∈ k2_sels lw_privs ++ tables_1 from List.mem_append_right (k2_sels lw_privs) (show w ∈ tables_1 from List.mem_append_right _ (List.mem_append_right _ (List.mem_append_right _ (List.mem_append_left _ h))))
theorem lw_m5 : ∀ w ∈ tables_1_5, w ∈ lw_tbl := fun w h => show w ∈ k2_sels lw_privs ++ tables_1 from List.mem_append_right (k2_sels lw_privs) (show w ∈ tables_1 from List.mem_append_right _ (List.mem_append_right _ (List.mem_append_right _ (List.mem_append_right _ (List.mem_append_left _ h)))))
theorem lw_m6 : ∀ w ∈ tables_1_6, w ∈ lw_tbl := fun w h => show w ∈ k2_sels lw_privs ++ tables_1 from List.mem_append_right (k2_sels lw_privs) (show w ∈ tables_1 from List.mem_append_right _ (List.mem_append_right _ (List.mem_append_right _ (List.mem_append_right _ (List.mem_append_right _ (List.mem_append_left _ h))))))
theorem lw_m7 : ∀ w ∈ tables_1_7, w ∈ lw_tbl := fun w h => show w ∈ k2_sels lw_privs ++ tables_1 from List.mem_append_right (k2_sels lw_privs) (show w ∈ tables_1 from List.mem_append_right _ (List.mem_append_right _ (List.mem_append_right _ (List.mem_append_right _ (List.mem_append_right _ (List.mem_append_right _ (List.mem_append_left _ h)))))))
theorem lw_m8 : ∀ w ∈ tables_1_8, w ∈ lw_tbl := fun w h => show w ∈ k2_sels lw_privs ++ tables_1 from List.mem_append_right (k2_sels lw_privs) (show w ∈ tables_1 from List.mem_append_right _ (List.mem_append_right _ (List.mem_append_right _ (List.mem_append_right _ (List.mem_append_right _ (List.mem_append_right _ (List.mem_append_right _ h)))))))
theorem qs0 : (Cond.selects "FollowTheSun" ⟨"FollowTheSun", "isOffice", "(I)Z"⟩ ⟨"FollowTheSun", "isOffice", "(I)Z"⟩) ∈ lw_all := lw_g (lw_at lw_ms 0 rfl) rfl
theorem qs1 : (Cond.selects "java/lang/Throwable" ⟨"java/lang/Throwable", "fillInStackTrace", "(I)Ljava/lang/Throwable;"⟩ ⟨"java/lang/Throwable", "fillInStackTrace", "(I)Ljava/lang/Throwable;"⟩) ∈ lw_all := lw_g (lw_at lw_ms 1 rfl) rfl
theorem qs2 : (Cond.selects "FollowTheSun" ⟨"FollowTheSun", "tell", "(J)V"⟩ ⟨"FollowTheSun", "tell", "(J)V"⟩) ∈ lw_all := lw_g (lw_at lw_ms 2 rfl) rfl
theorem qs3 : (Cond.selects "FollowTheSun$Reader" ⟨"FollowTheSun$Reader", "either", "(I)LFollowTheSun$Node;"⟩ ⟨"FollowTheSun$Reader", "either", "(I)LFollowTheSun$Node;"⟩) ∈ lw_all := lw_g (lw_at lw_ms 3 rfl) rfl
theorem qs4 : (Cond.selects "FollowTheSun$Reader" ⟨"FollowTheSun$Reader", "both", "(I)LFollowTheSun$Node;"⟩ ⟨"FollowTheSun$Reader", "both", "(I)LFollowTheSun$Node;"⟩) ∈ lw_all := lw_g (lw_at lw_ms 4 rfl) rfl
theorem qs5 : (Cond.selects "FollowTheSun$Reader" ⟨"FollowTheSun$Reader", "held", "(I)LFollowTheSun$Node;"⟩ ⟨"FollowTheSun$Reader", "held", "(I)LFollowTheSun$Node;"⟩) ∈ lw_all := lw_g (lw_at lw_ms 5 rfl) rfl
theorem qs6 : (Cond.selects "FollowTheSun$Reader" ⟨"FollowTheSun$Reader", "sum", "(I)LFollowTheSun$Node;"⟩ ⟨"FollowTheSun$Reader", "sum", "(I)LFollowTheSun$Node;"⟩) ∈ lw_all := lw_g (lw_at lw_ms 6 rfl) rfl
theorem qs7 : (Cond.selects "FollowTheSun$Reader" ⟨"FollowTheSun$Reader", "product", "(I)LFollowTheSun$Node;"⟩ ⟨"FollowTheSun$Reader", "product", "(I)LFollowTheSun$Node;"⟩) ∈ lw_all := lw_g (lw_at lw_ms 7 rfl) rfl
theorem qs8 : (Cond.selects "FollowTheSun$Reader" ⟨"FollowTheSun$Reader", "thing", "(I)LFollowTheSun$Node;"⟩ ⟨"FollowTheSun$Reader", "thing", "(I)LFollowTheSun$Node;"⟩) ∈ lw_all := lw_g (lw_at lw_ms 8 rfl) rfl
theorem qs9 : (Cond.selects "FollowTheSun$Reader" ⟨"FollowTheSun$Reader", "passes", "(I)Z"⟩ ⟨"FollowTheSun$Reader", "passes", "(I)Z"⟩) ∈ lw_all := lw_g (lw_at lw_ms 9 rfl) rfl
theorem qs10 : (Cond.selects "FollowTheSun$Reader" ⟨"FollowTheSun$Reader", "here", "()I"⟩ ⟨"FollowTheSun$Reader", "here", "()I"⟩) ∈ lw_all := lw_g (lw_at lw_ms 10 rfl) rfl
theorem qs11 : (Cond.selects "FollowTheSun$Reader" ⟨"FollowTheSun$Reader", "need", "(Z)V"⟩ ⟨"FollowTheSun$Reader", "need", "(Z)V"⟩) ∈ lw_all := lw_g (lw_at lw_ms 11 rfl) rfl
theorem qs12 : (Cond.selects "FollowTheSun$Reader" ⟨"FollowTheSun$Reader", "isSign", "(I)Z"⟩ ⟨"FollowTheSun$Reader", "isSign", "(I)Z"⟩) ∈ lw_all := lw_g (lw_at lw_ms 12 rfl) rfl
theorem qs13 : (Cond.selects "FollowTheSun$State" ⟨"FollowTheSun$State", "work", "(ILFollowTheSun$Office;)V"⟩ ⟨"FollowTheSun$State", "work", "(ILFollowTheSun$Office;)V"⟩) ∈ lw_all := lw_g (lw_at lw_ms 13 rfl) rfl
theorem qs14 : (Cond.selects "FollowTheSun" ⟨"FollowTheSun", "chosen", "(LFollowTheSun$World;LFollowTheSun$State;I)I"⟩ ⟨"FollowTheSun", "chosen", "(LFollowTheSun$World;LFollowTheSun$State;I)I"⟩) ∈ lw_all := lw_g (lw_at lw_ms 14 rfl) rfl
theorem qs15 : (Cond.selects "FollowTheSun$Case" ⟨"FollowTheSun$Case", "rest", "(I)I"⟩ ⟨"FollowTheSun$Case", "rest", "(I)I"⟩) ∈ lw_all := lw_g (lw_at lw_ms 15 rfl) rfl
theorem qs16 : (Cond.selects "FollowTheSun" ⟨"FollowTheSun", "isPiece", "(I)Z"⟩ ⟨"FollowTheSun", "isPiece", "(I)Z"⟩) ∈ lw_all := lw_g (lw_at lw_ms 16 rfl) rfl
theorem qs17 : (Cond.selects "FollowTheSun" ⟨"FollowTheSun", "endOf", "(LFollowTheSun$State;LFollowTheSun$State;LFollowTheSun$World;)I"⟩ ⟨"FollowTheSun", "endOf", "(LFollowTheSun$State;LFollowTheSun$State;LFollowTheSun$World;)I"⟩) ∈ lw_all := lw_g (lw_at lw_ms 17 rfl) rfl
theorem qs18 : (Cond.selects "FollowTheSun$State" ⟨"FollowTheSun$State", "isStuck", "(LFollowTheSun$World;)Z"⟩ ⟨"FollowTheSun$State", "isStuck", "(LFollowTheSun$World;)Z"⟩) ∈ lw_all := lw_g (lw_at lw_ms 18 rfl) rfl
theorem qs19 : (Cond.selects "FollowTheSun" ⟨"FollowTheSun", "canAsk", "(IIII)Z"⟩ ⟨"FollowTheSun", "canAsk", "(IIII)Z"⟩) ∈ lw_all := lw_g (lw_at lw_ms 19 rfl) rfl
theorem qs20 : (Cond.selects "FollowTheSun" ⟨"FollowTheSun", "soonest", "(III)I"⟩ ⟨"FollowTheSun", "soonest", "(III)I"⟩) ∈ lw_all := lw_g (lw_at lw_ms 20 rfl) rfl
theorem qs21 : (Cond.selects "FollowTheSun" ⟨"FollowTheSun", "alone", "(LFollowTheSun$Piece;II[I)I"⟩ ⟨"FollowTheSun", "alone", "(LFollowTheSun$Piece;II[I)I"⟩) ∈ lw_all := lw_g (lw_at lw_ms 21 rfl) rfl
theorem qs22 : (Cond.selects "FollowTheSun" ⟨"FollowTheSun", "place", "(LFollowTheSun$State;II)V"⟩ ⟨"FollowTheSun", "place", "(LFollowTheSun$State;II)V"⟩) ∈ lw_all := lw_g (lw_at lw_ms 22 rfl) rfl
theorem qs23 : (Cond.selects "FollowTheSun" ⟨"FollowTheSun", "price", "(I)I"⟩ ⟨"FollowTheSun", "price", "(I)I"⟩) ∈ lw_all := lw_g (lw_at lw_ms 23 rfl) rfl
theorem qs24 : (Cond.selects "FollowTheSun" ⟨"FollowTheSun", "with", "(I)LFollowTheSun$World;"⟩ ⟨"FollowTheSun", "with", "(I)LFollowTheSun$World;"⟩) ∈ lw_all := lw_g (lw_at lw_ms 24 rfl) rfl
theorem qs25 : (Cond.selects "FollowTheSun" ⟨"FollowTheSun", "endIn", "(LFollowTheSun$World;I)I"⟩ ⟨"FollowTheSun", "endIn", "(LFollowTheSun$World;I)I"⟩) ∈ lw_all := lw_g (lw_at lw_ms 25 rfl) rfl
theorem qs26 : (Cond.selects "FollowTheSun" ⟨"FollowTheSun", "kept", "()I"⟩ ⟨"FollowTheSun", "kept", "()I"⟩) ∈ lw_all := lw_g (lw_at lw_ms 26 rfl) rfl
theorem qs27 : (Cond.selects "FollowTheSun" ⟨"FollowTheSun", "tellPart", "(JJ)V"⟩ ⟨"FollowTheSun", "tellPart", "(JJ)V"⟩) ∈ lw_all := lw_g (lw_at lw_ms 27 rfl) rfl
theorem qs28 : (Cond.selects "FollowTheSun" ⟨"FollowTheSun", "sleeping", "(II)LFollowTheSun$Office;"⟩ ⟨"FollowTheSun", "sleeping", "(II)LFollowTheSun$Office;"⟩) ∈ lw_all := lw_g (lw_at lw_ms 28 rfl) rfl
theorem qs29 : (Cond.selects "FollowTheSun" ⟨"FollowTheSun", "endWith", "(ILFollowTheSun$Office;)I"⟩ ⟨"FollowTheSun", "endWith", "(ILFollowTheSun$Office;)I"⟩) ∈ lw_all := lw_g (lw_at lw_ms 29 rfl) rfl
theorem qs30 : (Cond.selects "FollowTheSunModel" ⟨"FollowTheSunModel", "opens", "(IIIIII)V"⟩ ⟨"FollowTheSunModel", "opens", "(IIIIII)V"⟩) ∈ lw_all := lw_g (lw_at lw_ms 30 rfl) rfl
theorem qs31 : (Cond.selects "FollowTheSunModel" ⟨"FollowTheSunModel", "isOffice", "(I)Z"⟩ ⟨"FollowTheSunModel", "isOffice", "(I)Z"⟩) ∈ lw_all := lw_g (lw_at lw_ms 31 rfl) rfl
theorem qs32 : (Cond.selects "FollowTheSunModel" ⟨"FollowTheSunModel", "knows", "(III)V"⟩ ⟨"FollowTheSunModel", "knows", "(III)V"⟩) ∈ lw_all := lw_g (lw_at lw_ms 32 rfl) rfl
theorem qs33 : (Cond.selects "FollowTheSunModel" ⟨"FollowTheSunModel", "isOpen", "(II)Z"⟩ ⟨"FollowTheSunModel", "isOpen", "(II)Z"⟩) ∈ lw_all := lw_g (lw_at lw_ms 33 rfl) rfl
theorem qs34 : (Cond.selects "FollowTheSunModel" ⟨"FollowTheSunModel", "overlapOf", "(III)I"⟩ ⟨"FollowTheSunModel", "overlapOf", "(III)I"⟩) ∈ lw_all := lw_g (lw_at lw_ms 34 rfl) rfl
theorem qs35 : (Cond.selects "FollowTheSunModel" ⟨"FollowTheSunModel", "lostOf", "(III)I"⟩ ⟨"FollowTheSunModel", "lostOf", "(III)I"⟩) ∈ lw_all := lw_g (lw_at lw_ms 35 rfl) rfl
theorem qs36 : (Cond.selects "FollowTheSunModel" ⟨"FollowTheSunModel", "enters", "(J)V"⟩ ⟨"FollowTheSunModel", "enters", "(J)V"⟩) ∈ lw_all := lw_g (lw_at lw_ms 36 rfl) rfl
theorem qs37 : (Cond.selects "FollowTheSunModel" ⟨"FollowTheSunModel", "lays", "(I)V"⟩ ⟨"FollowTheSunModel", "lays", "(I)V"⟩) ∈ lw_all := lw_g (lw_at lw_ms 37 rfl) rfl
theorem qs38 : (Cond.selects "FollowTheSunModel" ⟨"FollowTheSunModel", "ranked", "(I)Z"⟩ ⟨"FollowTheSunModel", "ranked", "(I)Z"⟩) ∈ lw_all := lw_g (lw_at lw_ms 38 rfl) rfl
theorem qs39 : (Cond.selects "FollowTheSunModel" ⟨"FollowTheSunModel", "ahead", "()Z"⟩ ⟨"FollowTheSunModel", "ahead", "()Z"⟩) ∈ lw_all := lw_g (lw_at lw_ms 39 rfl) rfl
theorem qs40 : (Cond.selects "FollowTheSunModel" ⟨"FollowTheSunModel", "among", "(Ljava/lang/String;)I"⟩ ⟨"FollowTheSunModel", "among", "(Ljava/lang/String;)I"⟩) ∈ lw_all := lw_g (lw_at lw_ms 40 rfl) rfl
theorem qs41 : (Cond.selects "FollowTheSunModel" ⟨"FollowTheSunModel", "thing", "()Z"⟩ ⟨"FollowTheSunModel", "thing", "()Z"⟩) ∈ lw_all := lw_g (lw_at lw_ms 41 rfl) rfl
theorem qs42 : (Cond.selects "FollowTheSunModel" ⟨"FollowTheSunModel", "isDigit", "()Z"⟩ ⟨"FollowTheSunModel", "isDigit", "()Z"⟩) ∈ lw_all := lw_g (lw_at lw_ms 42 rfl) rfl
theorem qs43 : (Cond.selects "FollowTheSunModel" ⟨"FollowTheSunModel", "marks", "(I)V"⟩ ⟨"FollowTheSunModel", "marks", "(I)V"⟩) ∈ lw_all := lw_g (lw_at lw_ms 43 rfl) rfl
theorem qs44 : (Cond.selects "FollowTheSunModel" ⟨"FollowTheSunModel", "isPiece", "(I)Z"⟩ ⟨"FollowTheSunModel", "isPiece", "(I)Z"⟩) ∈ lw_all := lw_g (lw_at lw_ms 44 rfl) rfl
theorem qs45 : (Cond.selects "FollowTheSunModel" ⟨"FollowTheSunModel", "refuse", "()I"⟩ ⟨"FollowTheSunModel", "refuse", "()I"⟩) ∈ lw_all := lw_g (lw_at lw_ms 45 rfl) rfl
theorem qs46 : (Cond.selects "FollowTheSunModel" ⟨"FollowTheSunModel", "worked", "(III)I"⟩ ⟨"FollowTheSunModel", "worked", "(III)I"⟩) ∈ lw_all := lw_g (lw_at lw_ms 46 rfl) rfl
theorem qs47 : (Cond.selects "FollowTheSunModel" ⟨"FollowTheSunModel", "valueOf", "(IIII)I"⟩ ⟨"FollowTheSunModel", "valueOf", "(IIII)I"⟩) ∈ lw_all := lw_g (lw_at lw_ms 47 rfl) rfl
theorem qs48 : (Cond.selects "FollowTheSunModel" ⟨"FollowTheSunModel", "opensIn", "(II)I"⟩ ⟨"FollowTheSunModel", "opensIn", "(II)I"⟩) ∈ lw_all := lw_g (lw_at lw_ms 48 rfl) rfl
theorem qs49 : (Cond.selects "FollowTheSunModel" ⟨"FollowTheSunModel", "begins", "(I)V"⟩ ⟨"FollowTheSunModel", "begins", "(I)V"⟩) ∈ lw_all := lw_g (lw_at lw_ms 49 rfl) rfl
theorem qs50 : (Cond.selects "FollowTheSunModel" ⟨"FollowTheSunModel", "passes", "()V"⟩ ⟨"FollowTheSunModel", "passes", "()V"⟩) ∈ lw_all := lw_g (lw_at lw_ms 50 rfl) rfl
theorem qs51 : (Cond.selects "FollowTheSunModel" ⟨"FollowTheSunModel", "works", "()V"⟩ ⟨"FollowTheSunModel", "works", "()V"⟩) ∈ lw_all := lw_g (lw_at lw_ms 51 rfl) rfl
theorem qs52 : (Cond.selects "FollowTheSunModel" ⟨"FollowTheSunModel", "readyBits", "()I"⟩ ⟨"FollowTheSunModel", "readyBits", "()I"⟩) ∈ lw_all := lw_g (lw_at lw_ms 52 rfl) rfl
theorem qs53 : (Cond.selects "FollowTheSunModel" ⟨"FollowTheSunModel", "isReady", "(I)Z"⟩ ⟨"FollowTheSunModel", "isReady", "(I)Z"⟩) ∈ lw_all := lw_g (lw_at lw_ms 53 rfl) rfl
theorem qs54 : (Cond.selects "FollowTheSunModel" ⟨"FollowTheSunModel", "isDone", "(I)Z"⟩ ⟨"FollowTheSunModel", "isDone", "(I)Z"⟩) ∈ lw_all := lw_g (lw_at lw_ms 54 rfl) rfl
theorem qs55 : (Cond.selects "FollowTheSunModel" ⟨"FollowTheSunModel", "asked", "(I)I"⟩ ⟨"FollowTheSunModel", "asked", "(I)I"⟩) ∈ lw_all := lw_g (lw_at lw_ms 55 rfl) rfl
theorem qs56 : (Cond.selects "FollowTheSunModel" ⟨"FollowTheSunModel", "closes", "()V"⟩ ⟨"FollowTheSunModel", "closes", "()V"⟩) ∈ lw_all := lw_g (lw_at lw_ms 56 rfl) rfl
theorem qs57 : (Cond.selects "FollowTheSunModel" ⟨"FollowTheSunModel", "hands", "(III)I"⟩ ⟨"FollowTheSunModel", "hands", "(III)I"⟩) ∈ lw_all := lw_g (lw_at lw_ms 57 rfl) rfl
theorem qs58 : (Cond.selects "FollowTheSunModel" ⟨"FollowTheSunModel", "putsBy", "([I)V"⟩ ⟨"FollowTheSunModel", "putsBy", "([I)V"⟩) ∈ lw_all := lw_g (lw_at lw_ms 58 rfl) rfl
theorem qs59 : (Cond.selects "FollowTheSunModel" ⟨"FollowTheSunModel", "tellsEnd", "()I"⟩ ⟨"FollowTheSunModel", "tellsEnd", "()I"⟩) ∈ lw_all := lw_g (lw_at lw_ms 59 rfl) rfl
theorem qs60 : (Cond.selects "FollowTheSunModel" ⟨"FollowTheSunModel", "sumOf", "(I)I"⟩ ⟨"FollowTheSunModel", "sumOf", "(I)I"⟩) ∈ lw_all := lw_g (lw_at lw_ms 60 rfl) rfl
theorem qs61 : (Cond.selects "FollowTheSunModel" ⟨"FollowTheSunModel", "goesOn", "()I"⟩ ⟨"FollowTheSunModel", "goesOn", "()I"⟩) ∈ lw_all := lw_g (lw_at lw_ms 61 rfl) rfl
theorem qs62 : (Cond.selects "FollowTheSunModel" ⟨"FollowTheSunModel", "isAllDone", "()Z"⟩ ⟨"FollowTheSunModel", "isAllDone", "()Z"⟩) ∈ lw_all := lw_g (lw_at lw_ms 62 rfl) rfl
theorem qs63 : (Cond.selects "FollowTheSunModel" ⟨"FollowTheSunModel", "takesBack", "([I)V"⟩ ⟨"FollowTheSunModel", "takesBack", "([I)V"⟩) ∈ lw_all := lw_g (lw_at lw_ms 63 rfl) rfl
theorem qs64 : (Cond.selects "FollowTheSunModel" ⟨"FollowTheSunModel", "soonest", "(III)I"⟩ ⟨"FollowTheSunModel", "soonest", "(III)I"⟩) ∈ lw_all := lw_g (lw_at lw_ms 64 rfl) rfl
theorem qs65 : (Cond.selects "FollowTheSunModel" ⟨"FollowTheSunModel", "empties", "([I)V"⟩ ⟨"FollowTheSunModel", "empties", "([I)V"⟩) ∈ lw_all := lw_g (lw_at lw_ms 65 rfl) rfl
theorem qs66 : (Cond.selects "FollowTheSunModel" ⟨"FollowTheSunModel", "losesAll", "(I)V"⟩ ⟨"FollowTheSunModel", "losesAll", "(I)V"⟩) ∈ lw_all := lw_g (lw_at lw_ms 66 rfl) rfl
theorem qs67 : (Cond.selects "FollowTheSunModel" ⟨"FollowTheSunModel", "goesFrom", "(IIIII)V"⟩ ⟨"FollowTheSunModel", "goesFrom", "(IIIII)V"⟩) ∈ lw_all := lw_g (lw_at lw_ms 67 rfl) rfl
theorem qs68 : (Cond.selects "FollowTheSunModel" ⟨"FollowTheSunModel", "entersRoute", "(II)V"⟩ ⟨"FollowTheSunModel", "entersRoute", "(II)V"⟩) ∈ lw_all := lw_g (lw_at lw_ms 68 rfl) rfl
theorem qs69 : (Cond.selects "FollowTheSunModel" ⟨"FollowTheSunModel", "emptiesPaid", "([J)V"⟩ ⟨"FollowTheSunModel", "emptiesPaid", "([J)V"⟩) ∈ lw_all := lw_g (lw_at lw_ms 69 rfl) rfl
theorem qs70 : (Cond.selects "FollowTheSunModel" ⟨"FollowTheSunModel", "goesPaid", "(IIIJI)V"⟩ ⟨"FollowTheSunModel", "goesPaid", "(IIIJI)V"⟩) ∈ lw_all := lw_g (lw_at lw_ms 70 rfl) rfl
theorem qs71 : (Cond.selects "FollowTheSunModel" ⟨"FollowTheSunModel", "cheaper", "(IJ)V"⟩ ⟨"FollowTheSunModel", "cheaper", "(IJ)V"⟩) ∈ lw_all := lw_g (lw_at lw_ms 71 rfl) rfl
theorem qs72 : (Cond.selects "FollowTheSunModel" ⟨"FollowTheSunModel", "lies", "(III)I"⟩ ⟨"FollowTheSunModel", "lies", "(III)I"⟩) ∈ lw_all := lw_g (lw_at lw_ms 72 rfl) rfl
theorem qs73 : (Cond.selects "FollowTheSunModel" ⟨"FollowTheSunModel", "keepsBorn", "()V"⟩ ⟨"FollowTheSunModel", "keepsBorn", "()V"⟩) ∈ lw_all := lw_g (lw_at lw_ms 73 rfl) rfl
theorem qs74 : (Cond.selects "FollowTheSunModel" ⟨"FollowTheSunModel", "endsFrom", "(I)I"⟩ ⟨"FollowTheSunModel", "endsFrom", "(I)I"⟩) ∈ lw_all := lw_g (lw_at lw_ms 74 rfl) rfl
theorem qs75 : (Cond.selects "FollowTheSunModel" ⟨"FollowTheSunModel", "movesHomes", "(I)Z"⟩ ⟨"FollowTheSunModel", "movesHomes", "(I)Z"⟩) ∈ lw_all := lw_g (lw_at lw_ms 75 rfl) rfl
theorem qs76 : (Cond.selects "FollowTheSunModel" ⟨"FollowTheSunModel", "givesBorn", "()V"⟩ ⟨"FollowTheSunModel", "givesBorn", "()V"⟩) ∈ lw_all := lw_g (lw_at lw_ms 76 rfl) rfl
theorem qs77 : (Cond.selects "FollowTheSunModel" ⟨"FollowTheSunModel", "endsWith", "(II)I"⟩ ⟨"FollowTheSunModel", "endsWith", "(II)I"⟩) ∈ lw_all := lw_g (lw_at lw_ms 77 rfl) rfl
theorem qs78 : (Cond.selects "FollowTheSunModel" ⟨"FollowTheSunModel", "entersFraction", "(JJ)V"⟩ ⟨"FollowTheSunModel", "entersFraction", "(JJ)V"⟩) ∈ lw_all := lw_g (lw_at lw_ms 78 rfl) rfl
theorem qs79 : (Cond.selects "FollowTheSunModel" ⟨"FollowTheSunModel", "endsNow", "()I"⟩ ⟨"FollowTheSunModel", "endsNow", "()I"⟩) ∈ lw_all := lw_g (lw_at lw_ms 79 rfl) rfl
theorem qs80 : (Cond.selects "FollowTheSunModel" ⟨"FollowTheSunModel", "endsOn", "(II)I"⟩ ⟨"FollowTheSunModel", "endsOn", "(II)I"⟩) ∈ lw_all := lw_g (lw_at lw_ms 80 rfl) rfl
theorem qs81 : (Cond.selects "FollowTheSunModel" ⟨"FollowTheSunModel", "doneBits", "()I"⟩ ⟨"FollowTheSunModel", "doneBits", "()I"⟩) ∈ lw_all := lw_g (lw_at lw_ms 81 rfl) rfl
