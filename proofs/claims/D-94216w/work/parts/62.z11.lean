set_option maxRecDepth 100000
/-! Z, part 11: text constants (handle 5000+i; its bytes: 5100+i), the formatter (5200), the script (5300); statics -/
section ZROWS11
variable {G : zG} {M : zM} {d C Sl pc : Nat} {lv st : List Value} {I : zI} {L : zL} {P : zR} {S : zT} {Q : zQ}
/-- handles of what lies below the run -/
def zTx (S : zT) : Prop := ∀ a, (5000 ≤ a ∧ a < 5009) ∨ (5100 ≤ a ∧ a < 5109) ∨ a = 5200 ∨ a = 5300 → S a = some (.inl 99)
theorem zRep.ad {ad : Nat → Nat} {H : Heap} (h : zRep G ad I L P S H) {a : Nat} (hS : S a = some (.inl 99)) : ad a = G.2.2.1 (a - 5000) := by
  have := h.1 a
  unfold zc at this
  rw [hS] at this
  exact this.2.2
theorem zEnv.kp {s : State} (h : zEnv G s) : ∀ a : Nat, a < G.2.1.2.size → ¬ zA G a → s.heap[a]? = G.2.1.2[a]? := fun a _ ha => h.2.2.2.2.1.2 a (Nat.not_le.mp ha)
theorem Z_ldcT {idx i : Nat} {tx : String} (hi : i < 9) (hI : zTxI.getD i 0 = idx) (hT : zTxT.getD i "" = tx) (hS : S (5000 + i) = some (.inl 99)) (hM : M.1.cls = "FollowTheSunModel") (hd : decode M.2.1 pc = .ok (.ldc idx, 2)) (k : Zj G M d C Sl (pc + 2) lv (.ref (5000 + i) :: st) I L P S Q) : Zj G M d C Sl pc lv st I L P S Q := by
  intro p e R s m args below meth c H locs cells slots Kc Ks QQ ad ls X
  have h6 := X.2.1.2.2.2.1.2.2.2.2.2.1 i hi
  have ha := X.2.2.1.ad hS
  have k2 := k p e R s m args below meth c H locs cells slots Kc Ks QQ ad ls (X.toS (zwf_cons.mpr ⟨by show S _ ≠ none; rw [hS]; simp, X.2.2.2.2.2.2.1⟩))
  rw [hI, ← hM] at h6
  refine va_ldcS X.1.1 X.1.2.1 X.1.2.2.2.1 h6 hd ?_
  rw [Nat.add_sub_cancel_left] at ha
  rw [← ha]
  exact k2
/-- value, coder of a text -/
theorem Z_txV {i : Nat} (hi : i < 9) (hS : S (5000 + i) = some (.inl 99)) (hV : S (5100 + i) = some (.inl 99)) (hM : M.1.cls = "java/lang/String") (hd : decode M.2.1 pc = .ok (.getfield 9, 3)) (k : Zj G M d C Sl (pc + 3) lv (.ref (5100 + i) :: st) I L P S Q) : Zj G M d C Sl pc lv (.ref (5000 + i) :: st) I L P S Q := by
  intro p e R s m args below meth c H locs cells slots Kc Ks QQ ad ls X
  have h5 := (X.2.1.2.2.2.1.2.2.2.2.1.1 i hi).2.2.1.kept X.2.1.kp
  have ha := X.2.2.1.ad hS
  have hv := X.2.2.1.ad hV
  rw [Nat.add_sub_cancel_left] at ha
  rw [show 5100 + i - 5000 = 100 + i by omega] at hv
  have hq := X.1.2.2.2.2.1 _ q1924
  have k2 := k p e R s m args below meth c H locs cells slots Kc Ks QQ ad ls (X.toS (zwf_cons.mpr ⟨by show S _ ≠ none; rw [hV]; simp, zwf_tl X.2.2.2.2.2.2.1⟩))
  show W p G.1.1 e R s m args below meth c H locs cells slots QQ (F0 m pc ls (.ref (ad (5000 + i)) :: st.map (zcv ad)))
  rw [ha]
  refine vk_getf X.1.1 X.1.2.1 h5 X.2.2.2.1 (by have := X.1.2.2.2.1; rw [hM] at this; exact this) hq (fun _ h => h) hd ?_
  show W p G.1.1 e R s m args below meth c H locs cells slots QQ (F0 m (pc + 3) ls (.ref (G.2.2.1 (100 + i)) :: st.map (zcv ad)))
  rw [← hv]
  exact k2
theorem Z_txC {i : Nat} (hi : i < 9) (hS : S (5000 + i) = some (.inl 99)) (hM : M.1.cls = "java/lang/String") (hd : decode M.2.1 pc = .ok (.getfield 15, 3)) (k : Zj G M d C Sl (pc + 3) lv (.int (nI 0) :: st) I L P S Q) : Zj G M d C Sl pc lv (.ref (5000 + i) :: st) I L P S Q := by
  intro p e R s m args below meth c H locs cells slots Kc Ks QQ ad ls X
  have h5 := (X.2.1.2.2.2.1.2.2.2.2.1.1 i hi).2.1.kept X.2.1.kp
  have ha := X.2.2.1.ad hS
  rw [Nat.add_sub_cancel_left] at ha
  have hq := X.1.2.2.2.2.1 _ q1925
  have k2 := k p e R s m args below meth c H locs cells slots Kc Ks QQ ad ls (X.toS (zwf_i (zwf_tl X.2.2.2.2.2.2.1)))
  show W p G.1.1 e R s m args below meth c H locs cells slots QQ (F0 m pc ls (.ref (ad (5000 + i)) :: st.map (zcv ad)))
  rw [ha]
  exact vk_getf X.1.1 X.1.2.1 h5 X.2.2.2.1 (by have := X.1.2.2.2.1; rw [hM] at this; exact this) hq (fun _ h => h) hd k2
theorem Z_txL {i : Nat} (hi : i < 9) (hV : S (5100 + i) = some (.inl 99)) (hd : decode M.2.1 pc = .ok (.arraylength, 1)) (k : Zj G M d C Sl (pc + 1) lv (.int (nI (zLen.getD i 0)) :: st) I L P S Q) : Zj G M d C Sl pc lv (.ref (5100 + i) :: st) I L P S Q := by
  intro p e R s m args below meth c H locs cells slots Kc Ks QQ ad ls X
  have h5 := (X.2.1.2.2.2.1.2.2.2.2.1.1 i hi).2.2.2.kept X.2.1.kp
  have hv := X.2.2.1.ad hV
  rw [show 5100 + i - 5000 = 100 + i by omega] at hv
  have k2 := k p e R s m args below meth c H locs cells slots Kc Ks QQ ad ls (X.toS (zwf_i (zwf_tl X.2.2.2.2.2.2.1)))
  show W p G.1.1 e R s m args below meth c H locs cells slots QQ (F0 m pc ls (.ref (ad (5100 + i)) :: st.map (zcv ad)))
  rw [hv]
  exact va_tlen X.1.1 X.1.2.1 h5 X.2.2.2.1 (v := nI (zLen.getD i 0)) rfl hd k2
theorem Z_txB {i j : Nat} {x : Int32} (hi : i < 9) (hx : zix x j (zLen.getD i 0)) (hV : S (5100 + i) = some (.inl 99)) (hd : decode M.2.1 pc = .ok (.baload, 1)) (k : Zj G M d C Sl (pc + 1) lv (.int ((zByt.getD i []).getD j 0) :: st) I L P S Q) : Zj G M d C Sl pc lv (.int x :: .ref (5100 + i) :: st) I L P S Q := by
  intro p e R s m args below meth c H locs cells slots Kc Ks QQ ad ls X
  have h5 := (X.2.1.2.2.2.1.2.2.2.2.1.1 i hi).2.2.2.kept X.2.1.kp
  have hv := X.2.2.1.ad hV
  rw [show 5100 + i - 5000 = 100 + i by omega] at hv
  have k2 := k p e R s m args below meth c H locs cells slots Kc Ks QQ ad ls (X.toS (zwf_i (zwf_tl (zwf_tl X.2.2.2.2.2.2.1))))
  show W p G.1.1 e R s m args below meth c H locs cells slots QQ (F0 m pc ls (.int x :: .ref (ad (5100 + i)) :: st.map (zcv ad)))
  rw [hv]
  exact va_tb X.1.1 X.1.2.1 h5 X.2.2.2.1 (i := x) hx.in (v := .int ((zByt.getD i []).getD j 0)) (by rw [hx.1]) hd k2
/-- COMPACT_STRINGS, SIOOBE_FORMATTER -/
theorem Z_gsC (hM : M.1.cls = "java/lang/String") (hd : decode M.2.1 pc = .ok (.getstatic 38, 3)) (k : Zj G M d C Sl (pc + 3) lv (.int (nI 1) :: st) I L P S Q) : Zj G M d C Sl pc lv st I L P S Q := by
  intro p e R s m args below meth c H locs cells slots Kc Ks QQ ad ls X
  have h3 := X.2.1.2.2.2.1.2.2.1.kept X.2.1.kp
  exact va_gets X.1.1 X.1.2.1 h3 X.2.2.2.1 (by have := X.1.2.2.2.1; rw [hM] at this; exact this) (X.1.2.2.2.2.1 _ q1376) (fun _ h => h) hd (k p e R s m args below meth c H locs cells slots Kc Ks QQ ad ls (X.toS (zwf_i X.2.2.2.2.2.2.1)))
theorem Z_gsF (hM : M.1.cls = "java/lang/String") (hS : S 5200 = some (.inl 99)) (hd : decode M.2.1 pc = .ok (.getstatic 1053, 3)) (kn : Zj G M d C Sl (pc + 3) lv (.null :: st) I L P S Q) (kr : Zj G M d C Sl (pc + 3) lv (.ref 5200 :: st) I L P S Q) : Zj G M d C Sl pc lv st I L P S Q := by
  intro p e R s m args below meth c H locs cells slots Kc Ks QQ ad ls X
  have ha := X.2.2.1.ad hS
  have hM2 := X.1.2.2.2.1
  rw [hM] at hM2
  rcases X.2.1.2.2.2.1.2.2.2.1 with h | h
  · exact va_gets X.1.1 X.1.2.1 (h.kept X.2.1.kp) X.2.2.2.1 hM2 (X.1.2.2.2.2.1 _ q1392) (fun _ h => h) hd (kn p e R s m args below meth c H locs cells slots Kc Ks QQ ad ls (X.toS (zwf_cons.mpr ⟨trivial, X.2.2.2.2.2.2.1⟩)))
  · have k2 := kr p e R s m args below meth c H locs cells slots Kc Ks QQ ad ls (X.toS (zwf_cons.mpr ⟨by show S _ ≠ none; rw [hS]; simp, X.2.2.2.2.2.2.1⟩))
    refine va_gets X.1.1 X.1.2.1 (h.kept X.2.1.kp) X.2.2.2.1 hM2 (X.1.2.2.2.2.1 _ q1392) (fun _ h => h) hd ?_
    rw [show G.2.2.1 200 = ad 5200 from ha.symm]
    exact k2
/-- the script -/
theorem Z_scL (hS : S 5300 = some (.inl 99)) (hd : decode M.2.1 pc = .ok (.arraylength, 1)) (k : Zj G M d C Sl (pc + 1) lv (.int (nI (G.2.2.2 0)) :: st) I L P S Q) : Zj G M d C Sl pc lv (.ref 5300 :: st) I L P S Q := by
  intro p e R s m args below meth c H locs cells slots Kc Ks QQ ad ls X
  have h5 := X.2.1.2.2.2.1.2.2.2.2.2.2.kept X.2.1.kp
  have hv := X.2.2.1.ad hS
  have k2 := k p e R s m args below meth c H locs cells slots Kc Ks QQ ad ls (X.toS (zwf_i (zwf_tl X.2.2.2.2.2.2.1)))
  show W p G.1.1 e R s m args below meth c H locs cells slots QQ (F0 m pc ls (.ref (ad 5300) :: st.map (zcv ad)))
  rw [hv]
  exact va_tlen X.1.1 X.1.2.1 h5 X.2.2.2.1 (v := nI (G.2.2.2 0)) rfl hd k2
theorem Z_scI {x : Int32} {j : Nat} (hx : zix x j (G.2.2.2 0)) (hS : S 5300 = some (.inl 99)) (hd : decode M.2.1 pc = .ok (.iaload, 1)) (k : Zj G M d C Sl (pc + 1) lv (.int (nI (G.2.2.2 (j + 1))) :: st) I L P S Q) : Zj G M d C Sl pc lv (.int x :: .ref 5300 :: st) I L P S Q := by
  intro p e R s m args below meth c H locs cells slots Kc Ks QQ ad ls X
  have h5 := X.2.1.2.2.2.1.2.2.2.2.2.2.kept X.2.1.kp
  have hv := X.2.2.1.ad hS
  have k2 := k p e R s m args below meth c H locs cells slots Kc Ks QQ ad ls (X.toS (zwf_i (zwf_tl (zwf_tl X.2.2.2.2.2.2.1))))
  show W p G.1.1 e R s m args below meth c H locs cells slots QQ (F0 m pc ls (.int x :: .ref (ad 5300) :: st.map (zcv ad)))
  rw [hv]
  exact va_ti X.1.1 X.1.2.1 h5 X.2.2.2.1 (i := x) hx.in (v := .int (nI (G.2.2.2 (j + 1)))) (by rw [hx.1]; rfl) hd k2
/-- a call on a text -/
theorem Z_callT {M' : zM} {d' i n idx : Nat} {st0 : List Value} (hg : GoodIn lw_all (wsV M.1.cls idx M'.1.cls M'.1 (zws M'))) (hnm : zNm M' n) (hm : M'.2.2.1 ≤ 40) (hd : decode M.2.1 pc = .ok (.invokevirtual idx, 3)) (hhh : M'.2.2.2.2 = none) (hy : plainFor M'.1 = true) (hcl : M'.1.cls = "java/lang/String") (hi : i < 9) (hS : S (5000 + i) = some (.inl 99)) (As : List Value) (hn : As.length = n) (hst : st0 = As.reverse ++ .ref (5000 + i) :: st) (hcat : (st.map fun v => v.category).sum ≤ 8) (hdep : d' + 1 ≤ d)
    (h : Zm G M' d' 0 0 (.ref (5000 + i) :: As) I L P S (zK G M d C Sl pc 3 lv st Q)) : Zj G M d C Sl pc lv st0 I L P S Q := by
  obtain ⟨y, cc, mL, ret, hh⟩ := M'
  dsimp only at hhh
  subst hhh
  refine Zj.less (C := C + 0) (Sl := Sl + 0) ?_ (Nat.le_refl d) (Nat.le_refl _) (Nat.le_refl _)
  intro p e R s m args below meth c H locs cells slots Kc Ks QQ ad ls X
  have hws := X.2.2.2.2.2.2.1
  rw [hst] at hws
  have hst9 : ∀ v ∈ st, zwf S v := fun v hv => hws v (List.mem_append_right _ (List.mem_cons_of_mem _ hv))
  have hR := X.2.2.1
  have hrm := X.2.2.2.2.2.2.2.1
  have hbg := X.2.2.2.2.2.2.2.2.1
  have hwa : ∀ v ∈ (.ref (5000 + i) :: As : List Value), zwf S v := by
    intro v hv
    rcases List.mem_cons.mp hv with rfl | hv
    · exact hws _ (List.mem_append_right _ List.mem_cons_self)
    · exact hws v (List.mem_append_left _ (List.mem_reverse.mpr hv))
  have ha := hR.ad hS
  rw [Nat.add_sub_cancel_left] at ha
  obtain ⟨cell, q1, q2, q3⟩ := vk_recv (X.2.1.2.2.2.1.2.2.2.2.1.kept X.2.1.kp) hi X.2.2.2.1
  refine z_cont (len := 3) (a := (.ref (ad (5000 + i)) :: As.map (zcv ad)).toArray) X hst9 ?_
  have F := X.1
  have hrun := vx_runV (p := p) (l := G.1.1) (e := e) (meth := meth) (below := below) (As := As.map (zcv ad)) (rest := st.map (zcv ad)) (b := ad (5000 + i)) (g := F0 m pc ls ((As.map (zcv ad)).reverse ++ .ref (ad (5000 + i)) :: st.map (zcv ad))) (H := H) (locs := locs) (cells := cells) (slots := slots) ⟨F.1, F.2.1, F.2.2.1, F.2.2.2.1, F.2.2.2.2.1⟩ (h.met hy hwa ad) (cwV n F.2.2.2.2.1 hg rfl rfl rfl ⟨rfl, hnm.1, hnm.2.1, hnm.2.2⟩ (zrm_le (R := R) (d' := d') (C' := 0) (S' := 0) (by omega) (by omega) hm))
    ⟨zPc_blind, ⟨cell, by rw [ha]; exact q1, q2, by rw [hcl]; exact q3⟩, fun U hU hW => ⟨rfl, zEnv.at X hU hW, by rw [hU]; exact hR⟩⟩ rfl (by rw [List.length_map]; exact hn) X.2.2.2.2.1.2.1 rfl (lv_room (by rw [zcvs_cat]; exact hcat)) hd ⟨by omega, by omega⟩
  have he : st0.map (zcv ad) = (As.map (zcv ad)).reverse ++ .ref (ad (5000 + i)) :: st.map (zcv ad) := by rw [hst, List.map_append, List.map_reverse]; rfl
  rw [he]
  exact hrun
end ZROWS11
