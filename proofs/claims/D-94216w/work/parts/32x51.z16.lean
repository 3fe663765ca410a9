set_option maxRecDepth 100000
/-! calls of methods that a class has from above, or that it writes anew -/
section ZROWS16
variable {G : zG} {M : zM} {pc idx n : Nat}
theorem lw_U {own C owner : String} {idx : Nat} {x y : MethodName} {b : ByteArray} {L : Nat} {r : Option FieldType} (h1 : Cond.methodLink own idx x ∈ lw_all) (h2 : Cond.sameMethod x.cls owner x.name x.desc ∈ lw_all) (h3 : Cond.selects C x y ∈ lw_all) (h4 : Cond.instanceMethod y ∈ lw_all) (h5 : Cond.initialized y.cls ∈ lw_all) (h6 : Cond.code y b L r ∈ lw_all) : GoodIn lw_all (va_wsU own idx C owner x y (ws_ y b L r)) := by
  refine lw_app ?_ (lw_meth h6)
  intro w hw
  simp only [List.mem_cons, List.not_mem_nil, or_false] at hw
  rcases hw with e | e | e | e | e
  · rw [e]; exact h1
  · rw [e]; exact h2
  · rw [e]; exact h3
  · rw [e]; exact h4
  · rw [e]; exact h5
theorem zCal_U {cc : ByteArray} {x y : MethodName} {mL : Nat} {ret : Option FieldType} {CR owner : String} (hg : GoodIn lw_all (va_wsU M.1.cls idx CR owner x y (ws_ y cc mL ret))) (hyx : y = ⟨owner, x.name, x.desc⟩) (hn : zNm (y, cc, mL, ret, none) n) (hm : mL ≤ 40) (hd : decode M.2.1 pc = .ok (.invokevirtual idx, 3)) : zCal G M (y, cc, mL, ret, none) CR pc 3 n := by
  intro p e R s m args below meth c H locs cells slots d' C' S' ls Pc Qc XC As rest b F E hf hlo hM hp hln hsz hcat hc1 hc2 _
  have hn2 : owner ≠ "java/lang/invoke/MethodHandle" ∧ owner ≠ "java/lang/invoke/VarHandle" ∧ (parseMethodDescriptor x.desc).map (fun d => d.parameters.length) = some n := by
    have h := hn
    unfold zNm at h
    rw [hyx] at h
    exact h
  exact vx_runU (As := As) ⟨F.1, F.2.1, F.2.2.1, F.2.2.2.1, F.2.2.2.2.1⟩ hM (va_cwU n F.2.2.2.2.1 hg rfl rfl rfl hyx hn2 (zrm_le hf hlo hm)) hp rfl hln hsz rfl (lv_room hcat) hd ⟨hc1, hc2⟩
/-- what is called is a method without a body -/
theorem zCal_A {cc : ByteArray} {x y : MethodName} {mL : Nat} {ret : Option FieldType} {CR owner : String} (hg : GoodIn lw_all (va_wsU M.1.cls idx CR owner x y (ws_ y cc mL ret))) (hz : Cond.declares ⟨owner, x.name, x.desc⟩ ∈ lw_tbl) (hn2 : owner ≠ "java/lang/invoke/MethodHandle" ∧ owner ≠ "java/lang/invoke/VarHandle" ∧ (parseMethodDescriptor x.desc).map (fun d => d.parameters.length) = some n) (hm : mL ≤ 40) (hd : decode M.2.1 pc = .ok (.invokevirtual idx, 3)) : zCal G M (y, cc, mL, ret, none) CR pc 3 n := by
  intro p e R s m args below meth c H locs cells slots d' C' S' ls Pc Qc XC As rest b F E hf hlo hM hp hln hsz hcat hc1 hc2 _
  exact vx_runU (As := As) ⟨F.1, F.2.1, F.2.2.1, F.2.2.2.1, F.2.2.2.2.1⟩ hM (va_cwA n F.2.2.2.2.1 hg rfl rfl rfl (E.2.1 _ hz rfl) hn2 (zrm_le hf hlo hm)) hp rfl hln hsz rfl (lv_room hcat) hd ⟨hc1, hc2⟩
end ZROWS16
theorem uX1_308_14 : GoodIn lw_all (va_wsU RX1 308 RX16 RX15 ⟨"FollowTheSun$Rows", "all", "()V"⟩ mX15_all.1 (zws mX15_all)) := lw_U q963 q965 q967 q964 q108 q968
theorem uX1_316_14 : GoodIn lw_all (va_wsU RX1 316 RX16 RX15 ⟨"FollowTheSun$Rows", "tellRow", "()V"⟩ mX15_tellRow.1 (zws mX15_tellRow)) := lw_U q1024 q1026 q1028 q1025 q108 q1029
theorem uX15_68_14 : GoodIn lw_all (va_wsU RX15 68 RX16 RX15 ⟨"FollowTheSun$Rows", "go", "(II)V"⟩ mX15_go.1 (zws mX15_go)) := lw_U q969 q971 q973 q970 q108 q974
theorem uX15_52_14 : GoodIn lw_all (va_wsU RX15 52 RX16 RX15 ⟨"FollowTheSun$Rows", "worth", "(I)I"⟩ mX16_worth.1 (zws mX16_worth)) := lw_U q976 q978 q1002 q1003 q109 q1004
theorem uX1_308_15 : GoodIn lw_all (va_wsU RX1 308 RX17 RX15 ⟨"FollowTheSun$Rows", "all", "()V"⟩ mX15_all.1 (zws mX15_all)) := lw_U q963 q965 q966 q964 q108 q968
theorem uX1_316_15 : GoodIn lw_all (va_wsU RX1 316 RX17 RX15 ⟨"FollowTheSun$Rows", "tellRow", "()V"⟩ mX15_tellRow.1 (zws mX15_tellRow)) := lw_U q1024 q1026 q1027 q1025 q108 q1029
theorem uX15_68_15 : GoodIn lw_all (va_wsU RX15 68 RX17 RX15 ⟨"FollowTheSun$Rows", "go", "(II)V"⟩ mX15_go.1 (zws mX15_go)) := lw_U q969 q971 q972 q970 q108 q974
theorem uX15_52_15 : GoodIn lw_all (va_wsU RX15 52 RX17 RX15 ⟨"FollowTheSun$Rows", "worth", "(I)I"⟩ mX17_worth.1 (zws mX17_worth)) := lw_U q976 q978 q979 q980 q111 q981
theorem uX17_40_15 : GoodIn lw_all (va_wsU RX17 40 RX17 RX15 ⟨"FollowTheSun$Cheapest", "works", "(II)Z"⟩ mX15_works.1 (zws mX15_works)) := lw_U q987 q988 q990 q991 q108 q992
theorem uX17_68_15 : GoodIn lw_all (va_wsU RX17 68 RX17 RX15 ⟨"FollowTheSun$Cheapest", "lost", "(II)I"⟩ mX15_lost.1 (zws mX15_lost)) := lw_U q995 q996 q998 q999 q108 q1000
theorem uX16_28_14 : GoodIn lw_all (va_wsU RX16 28 RX16 RX15 ⟨"FollowTheSun$Soonest", "works", "(II)Z"⟩ mX15_works.1 (zws mX15_works)) := lw_U q1005 q1006 q1007 q991 q108 q992
theorem uX16_32_14 : GoodIn lw_all (va_wsU RX16 32 RX16 RX15 ⟨"FollowTheSun$Soonest", "lost", "(II)I"⟩ mX15_lost.1 (zws mX15_lost)) := lw_U q1008 q1009 q1010 q999 q108 q1000
