set_option maxRecDepth 100000
/-! methods as zM; entries of the pools (printed by tools/zw.py) -/
abbrev mJ0_init : zM := (yJ0_init, cJ0_init, 2, none, none)
theorem nJ0_init : zNm mJ0_init 1 := ⟨by decide +kernel, by decide +kernel, by decide +kernel⟩
theorem pJ0_init : plainFor mJ0_init.1 = true := by decide +kernel
abbrev mJ0_init_2 : zM := (yJ0_init_2, cJ0_init_2, 1, none, none)
theorem nJ0_init_2 : zNm mJ0_init_2 0 := ⟨by decide +kernel, by decide +kernel, by decide +kernel⟩
theorem pJ0_init_2 : plainFor mJ0_init_2.1 = true := by decide +kernel
abbrev mJ10_copyOf : zM := (yJ10_copyOf, cJ10_copyOf, 3, (some (.array .int)), none)
theorem nJ10_copyOf : zNm mJ10_copyOf 2 := ⟨by decide +kernel, by decide +kernel, by decide +kernel⟩
theorem pJ10_copyOf : plainFor mJ10_copyOf.1 = true := by decide +kernel
abbrev mJ10_fill : zM := (yJ10_fill, cJ10_fill, 4, none, none)
theorem nJ10_fill : zNm mJ10_fill 2 := ⟨by decide +kernel, by decide +kernel, by decide +kernel⟩
theorem pJ10_fill : plainFor mJ10_fill.1 = true := by decide +kernel
abbrev mJ11_bitCount : zM := (yJ11_bitCount, cJ11_bitCount, 1, (some .int), none)
theorem nJ11_bitCount : zNm mJ11_bitCount 1 := ⟨by decide +kernel, by decide +kernel, by decide +kernel⟩
theorem pJ11_bitCount : plainFor mJ11_bitCount.1 = true := by decide +kernel
abbrev mJ12_init : zM := (yJ12_init, cJ12_init, 1, none, none)
theorem nJ12_init : zNm mJ12_init 0 := ⟨by decide +kernel, by decide +kernel, by decide +kernel⟩
abbrev mJ1_init : zM := (yJ1_init, cJ1_init, 2, none, none)
theorem nJ1_init : zNm mJ1_init 1 := ⟨by decide +kernel, by decide +kernel, by decide +kernel⟩
theorem pJ1_init : plainFor mJ1_init.1 = true := by decide +kernel
abbrev mJ1_init_2 : zM := (yJ1_init_2, cJ1_init_2, 1, none, none)
theorem nJ1_init_2 : zNm mJ1_init_2 0 := ⟨by decide +kernel, by decide +kernel, by decide +kernel⟩
theorem pJ1_init_2 : plainFor mJ1_init_2.1 = true := by decide +kernel
abbrev mJ2_init : zM := (yJ2_init, cJ2_init, 2, none, none)
theorem nJ2_init : zNm mJ2_init 1 := ⟨by decide +kernel, by decide +kernel, by decide +kernel⟩
theorem pJ2_init : plainFor mJ2_init.1 = true := by decide +kernel
abbrev mJ2_init_2 : zM := (yJ2_init_2, cJ2_init_2, 1, none, none)
theorem nJ2_init_2 : zNm mJ2_init_2 0 := ⟨by decide +kernel, by decide +kernel, by decide +kernel⟩
theorem pJ2_init_2 : plainFor mJ2_init_2.1 = true := by decide +kernel
abbrev mJ3_init : zM := (yJ3_init, cJ3_init, 2, none, none)
theorem nJ3_init : zNm mJ3_init 1 := ⟨by decide +kernel, by decide +kernel, by decide +kernel⟩
theorem pJ3_init : plainFor mJ3_init.1 = true := by decide +kernel
abbrev mJ4_charAt : zM := (yJ4_charAt, cJ4_charAt, 2, (some .char), none)
theorem nJ4_charAt : zNm mJ4_charAt 1 := ⟨by decide +kernel, by decide +kernel, by decide +kernel⟩
theorem pJ4_charAt : plainFor mJ4_charAt.1 = true := by decide +kernel
abbrev mJ4_checkIndex : zM := (yJ4_checkIndex, cJ4_checkIndex, 2, none, none)
theorem nJ4_checkIndex : zNm mJ4_checkIndex 2 := ⟨by decide +kernel, by decide +kernel, by decide +kernel⟩
theorem pJ4_checkIndex : plainFor mJ4_checkIndex.1 = true := by decide +kernel
abbrev mJ4_coder : zM := (yJ4_coder, cJ4_coder, 1, (some .byte), none)
theorem nJ4_coder : zNm mJ4_coder 0 := ⟨by decide +kernel, by decide +kernel, by decide +kernel⟩
theorem pJ4_coder : plainFor mJ4_coder.1 = true := by decide +kernel
abbrev mJ4_isLatin1 : zM := (yJ4_isLatin1, cJ4_isLatin1, 1, (some .boolean), none)
theorem nJ4_isLatin1 : zNm mJ4_isLatin1 0 := ⟨by decide +kernel, by decide +kernel, by decide +kernel⟩
theorem pJ4_isLatin1 : plainFor mJ4_isLatin1.1 = true := by decide +kernel
abbrev mJ4_length : zM := (yJ4_length, cJ4_length, 1, (some .int), none)
theorem nJ4_length : zNm mJ4_length 0 := ⟨by decide +kernel, by decide +kernel, by decide +kernel⟩
theorem pJ4_length : plainFor mJ4_length.1 = true := by decide +kernel
abbrev mJ5_floorDiv : zM := (yJ5_floorDiv, cJ5_floorDiv, 3, (some .int), none)
theorem nJ5_floorDiv : zNm mJ5_floorDiv 2 := ⟨by decide +kernel, by decide +kernel, by decide +kernel⟩
theorem pJ5_floorDiv : plainFor mJ5_floorDiv.1 = true := by decide +kernel
abbrev mJ5_floorMod : zM := (yJ5_floorMod, cJ5_floorMod, 3, (some .int), none)
theorem nJ5_floorMod : zNm mJ5_floorMod 2 := ⟨by decide +kernel, by decide +kernel, by decide +kernel⟩
theorem pJ5_floorMod : plainFor mJ5_floorMod.1 = true := by decide +kernel
abbrev mJ5_max : zM := (yJ5_max, cJ5_max, 2, (some .int), none)
theorem nJ5_max : zNm mJ5_max 2 := ⟨by decide +kernel, by decide +kernel, by decide +kernel⟩
theorem pJ5_max : plainFor mJ5_max.1 = true := by decide +kernel
abbrev mJ5_min : zM := (yJ5_min, cJ5_min, 2, (some .int), none)
theorem nJ5_min : zNm mJ5_min 2 := ⟨by decide +kernel, by decide +kernel, by decide +kernel⟩
theorem pJ5_min : plainFor mJ5_min.1 = true := by decide +kernel
abbrev mJ5_min_2 : zM := (yJ5_min_2, cJ5_min_2, 4, (some .long), none)
theorem nJ5_min_2 : zNm mJ5_min_2 2 := ⟨by decide +kernel, by decide +kernel, by decide +kernel⟩
theorem pJ5_min_2 : plainFor mJ5_min_2.1 = true := by decide +kernel
abbrev mJ6_charAt : zM := (yJ6_charAt, cJ6_charAt, 2, (some .char), none)
theorem nJ6_charAt : zNm mJ6_charAt 2 := ⟨by decide +kernel, by decide +kernel, by decide +kernel⟩
theorem pJ6_charAt : plainFor mJ6_charAt.1 = true := by decide +kernel
abbrev mJ7_checkIndex : zM := (yJ7_checkIndex, cJ7_checkIndex, 3, (some .int), none)
theorem nJ7_checkIndex : zNm mJ7_checkIndex 3 := ⟨by decide +kernel, by decide +kernel, by decide +kernel⟩
theorem pJ7_checkIndex : plainFor mJ7_checkIndex.1 = true := by decide +kernel
abbrev mJ8_charAt : zM := (yJ8_charAt, cJ8_charAt, 2, (some .char), none)
theorem nJ8_charAt : zNm mJ8_charAt 2 := ⟨by decide +kernel, by decide +kernel, by decide +kernel⟩
theorem pJ8_charAt : plainFor mJ8_charAt.1 = true := by decide +kernel
abbrev mJ8_checkIndex : zM := (yJ8_checkIndex, cJ8_checkIndex, 2, none, none)
theorem nJ8_checkIndex : zNm mJ8_checkIndex 2 := ⟨by decide +kernel, by decide +kernel, by decide +kernel⟩
theorem pJ8_checkIndex : plainFor mJ8_checkIndex.1 = true := by decide +kernel
abbrev mJ8_getChar : zM := (yJ8_getChar, cJ8_getChar, 2, (some .char), none)
theorem nJ8_getChar : zNm mJ8_getChar 2 := ⟨by decide +kernel, by decide +kernel, by decide +kernel⟩
theorem pJ8_getChar : plainFor mJ8_getChar.1 = true := by decide +kernel
abbrev mJ8_length : zM := (yJ8_length, cJ8_length, 1, (some .int), none)
theorem nJ8_length : zNm mJ8_length 1 := ⟨by decide +kernel, by decide +kernel, by decide +kernel⟩
theorem pJ8_length : plainFor mJ8_length.1 = true := by decide +kernel
abbrev mJ9_init : zM := (yJ9_init, cJ9_init, 1, none, none)
theorem nJ9_init : zNm mJ9_init 0 := ⟨by decide +kernel, by decide +kernel, by decide +kernel⟩
theorem pJ9_init : plainFor mJ9_init.1 = true := by decide +kernel
abbrev mX0_of : zM := (yX0_of, cX0_of, 5, (some .int), some [(0, 10, 13, 13)])
theorem nX0_of : zNm mX0_of 4 := ⟨by decide +kernel, by decide +kernel, by decide +kernel⟩
theorem pX0_of : plainFor mX0_of.1 = true := by decide +kernel
abbrev mX0_row : zM := (yX0_row, cX0_row, 4, (some .int), some [(0, 8, 11, 13)])
theorem nX0_row : zNm mX0_row 3 := ⟨by decide +kernel, by decide +kernel, by decide +kernel⟩
theorem pX0_row : plainFor mX0_row.1 = true := by decide +kernel
abbrev mX0_value : zM := (yX0_value, cX0_value, 5, (some .int), some [(0, 10, 13, 13)])
theorem nX0_value : zNm mX0_value 4 := ⟨by decide +kernel, by decide +kernel, by decide +kernel⟩
theorem pX0_value : plainFor mX0_value.1 = true := by decide +kernel
abbrev mX10_init : zM := (yX10_init, cX10_init, 2, none, none)
theorem nX10_init : zNm mX10_init 1 := ⟨by decide +kernel, by decide +kernel, by decide +kernel⟩
theorem pX10_init : plainFor mX10_init.1 = true := by decide +kernel
abbrev mX10_value : zM := (yX10_value, cX10_value, 2, (some .int), none)
theorem nX10_value : zNm mX10_value 1 := ⟨by decide +kernel, by decide +kernel, by decide +kernel⟩
theorem pX10_value : plainFor mX10_value.1 = true := by decide +kernel
abbrev mX11_init : zM := (yX11_init, cX11_init, 2, none, none)
theorem nX11_init : zNm mX11_init 1 := ⟨by decide +kernel, by decide +kernel, by decide +kernel⟩
theorem pX11_init : plainFor mX11_init.1 = true := by decide +kernel
abbrev mX12_init : zM := (yX12_init, cX12_init, 2, none, none)
theorem nX12_init : zNm mX12_init 1 := ⟨by decide +kernel, by decide +kernel, by decide +kernel⟩
theorem pX12_init : plainFor mX12_init.1 = true := by decide +kernel
abbrev mX12_value : zM := (yX12_value, cX12_value, 2, (some .int), none)
theorem nX12_value : zNm mX12_value 1 := ⟨by decide +kernel, by decide +kernel, by decide +kernel⟩
theorem pX12_value : plainFor mX12_value.1 = true := by decide +kernel
abbrev mX13_init : zM := (yX13_init, cX13_init, 2, none, none)
theorem nX13_init : zNm mX13_init 1 := ⟨by decide +kernel, by decide +kernel, by decide +kernel⟩
theorem pX13_init : plainFor mX13_init.1 = true := by decide +kernel
abbrev mX13_value : zM := (yX13_value, cX13_value, 2, (some .int), none)
theorem nX13_value : zNm mX13_value 1 := ⟨by decide +kernel, by decide +kernel, by decide +kernel⟩
theorem pX13_value : plainFor mX13_value.1 = true := by decide +kernel
abbrev mX14_init : zM := (yX14_init, cX14_init, 4, none, none)
theorem nX14_init : zNm mX14_init 3 := ⟨by decide +kernel, by decide +kernel, by decide +kernel⟩
theorem pX14_init : plainFor mX14_init.1 = true := by decide +kernel
abbrev mX14_value : zM := (yX14_value, cX14_value, 4, (some .int), none)
theorem nX14_value : zNm mX14_value 1 := ⟨by decide +kernel, by decide +kernel, by decide +kernel⟩
theorem pX14_value : plainFor mX14_value.1 = true := by decide +kernel
abbrev mX15_all : zM := (yX15_all, cX15_all, 2, none, none)
theorem nX15_all : zNm mX15_all 0 := ⟨by decide +kernel, by decide +kernel, by decide +kernel⟩
theorem pX15_all : plainFor mX15_all.1 = true := by decide +kernel
abbrev mX15_go : zM := (yX15_go, cX15_go, 4, none, none)
theorem nX15_go : zNm mX15_go 2 := ⟨by decide +kernel, by decide +kernel, by decide +kernel⟩
theorem pX15_go : plainFor mX15_go.1 = true := by decide +kernel
abbrev mX15_init : zM := (yX15_init, cX15_init, 5, none, none)
theorem nX15_init : zNm mX15_init 4 := ⟨by decide +kernel, by decide +kernel, by decide +kernel⟩
theorem pX15_init : plainFor mX15_init.1 = true := by decide +kernel
abbrev mX15_lost : zM := (yX15_lost, cX15_lost, 3, (some .int), none)
theorem nX15_lost : zNm mX15_lost 2 := ⟨by decide +kernel, by decide +kernel, by decide +kernel⟩
theorem pX15_lost : plainFor mX15_lost.1 = true := by decide +kernel
abbrev mX15_tellRow : zM := (yX15_tellRow, cX15_tellRow, 2, none, none)
theorem nX15_tellRow : zNm mX15_tellRow 0 := ⟨by decide +kernel, by decide +kernel, by decide +kernel⟩
theorem pX15_tellRow : plainFor mX15_tellRow.1 = true := by decide +kernel
abbrev mX15_works : zM := (yX15_works, cX15_works, 3, (some .boolean), none)
theorem nX15_works : zNm mX15_works 2 := ⟨by decide +kernel, by decide +kernel, by decide +kernel⟩
theorem pX15_works : plainFor mX15_works.1 = true := by decide +kernel
abbrev mX16_init : zM := (yX16_init, cX16_init, 5, none, none)
theorem nX16_init : zNm mX16_init 4 := ⟨by decide +kernel, by decide +kernel, by decide +kernel⟩
theorem pX16_init : plainFor mX16_init.1 = true := by decide +kernel
abbrev mX16_worth : zM := (yX16_worth, cX16_worth, 5, (some .int), none)
theorem nX16_worth : zNm mX16_worth 1 := ⟨by decide +kernel, by decide +kernel, by decide +kernel⟩
theorem pX16_worth : plainFor mX16_worth.1 = true := by decide +kernel
abbrev mX17_init : zM := (yX17_init, cX17_init, 6, none, none)
theorem nX17_init : zNm mX17_init 5 := ⟨by decide +kernel, by decide +kernel, by decide +kernel⟩
theorem pX17_init : plainFor mX17_init.1 = true := by decide +kernel
abbrev mX17_worth : zM := (yX17_worth, cX17_worth, 8, (some .int), none)
theorem nX17_worth : zNm mX17_worth 1 := ⟨by decide +kernel, by decide +kernel, by decide +kernel⟩
theorem pX17_worth : plainFor mX17_worth.1 = true := by decide +kernel
abbrev mX18_valueOf : zM := (yX18_valueOf, cX18_valueOf, 2, (some .int), none)
theorem nX18_valueOf : zNm mX18_valueOf 1 := ⟨by decide +kernel, by decide +kernel, by decide +kernel⟩
theorem pX18_valueOf : plainFor mX18_valueOf.1 = true := by decide +kernel
abbrev mX1_again : zM := (yX1_again, cX1_again, 2, (some .boolean), none)
theorem nX1_again : zNm mX1_again 1 := ⟨by decide +kernel, by decide +kernel, by decide +kernel⟩
theorem pX1_again : plainFor mX1_again.1 = true := by decide +kernel
abbrev mX1_alone : zM := (yX1_alone, cX1_alone, 10, (some .int), none)
theorem nX1_alone : zNm mX1_alone 4 := ⟨by decide +kernel, by decide +kernel, by decide +kernel⟩
theorem pX1_alone : plainFor mX1_alone.1 = true := by decide +kernel
abbrev mX1_arePeople : zM := (yX1_arePeople, cX1_arePeople, 1, (some .boolean), none)
theorem nX1_arePeople : zNm mX1_arePeople 1 := ⟨by decide +kernel, by decide +kernel, by decide +kernel⟩
theorem pX1_arePeople : plainFor mX1_arePeople.1 = true := by decide +kernel
abbrev mX1_begin : zM := (yX1_begin, cX1_begin, 2, (some .boolean), none)
theorem nX1_begin : zNm mX1_begin 1 := ⟨by decide +kernel, by decide +kernel, by decide +kernel⟩
theorem pX1_begin : plainFor mX1_begin.1 = true := by decide +kernel
abbrev mX1_canAsk : zM := (yX1_canAsk, cX1_canAsk, 5, (some .boolean), none)
theorem nX1_canAsk : zNm mX1_canAsk 4 := ⟨by decide +kernel, by decide +kernel, by decide +kernel⟩
theorem pX1_canAsk : plainFor mX1_canAsk.1 = true := by decide +kernel
abbrev mX1_cheap : zM := (yX1_cheap, cX1_cheap, 6, (some .int), none)
theorem nX1_cheap : zNm mX1_cheap 4 := ⟨by decide +kernel, by decide +kernel, by decide +kernel⟩
theorem pX1_cheap : plainFor mX1_cheap.1 = true := by decide +kernel
abbrev mX1_chosen : zM := (yX1_chosen, cX1_chosen, 8, (some .int), none)
theorem nX1_chosen : zNm mX1_chosen 3 := ⟨by decide +kernel, by decide +kernel, by decide +kernel⟩
theorem pX1_chosen : plainFor mX1_chosen.1 = true := by decide +kernel
abbrev mX1_clock : zM := (yX1_clock, cX1_clock, 4, (some .boolean), none)
theorem nX1_clock : zNm mX1_clock 3 := ⟨by decide +kernel, by decide +kernel, by decide +kernel⟩
theorem pX1_clock : plainFor mX1_clock.1 = true := by decide +kernel
abbrev mX1_common : zM := (yX1_common, cX1_common, 10, (some .long), none)
theorem nX1_common : zNm mX1_common 2 := ⟨by decide +kernel, by decide +kernel, by decide +kernel⟩
theorem pX1_common : plainFor mX1_common.1 = true := by decide +kernel
abbrev mX1_count : zM := (yX1_count, cX1_count, 2, (some .int), none)
theorem nX1_count : zNm mX1_count 1 := ⟨by decide +kernel, by decide +kernel, by decide +kernel⟩
theorem pX1_count : plainFor mX1_count.1 = true := by decide +kernel
abbrev mX1_dark : zM := (yX1_dark, cX1_dark, 10, (some .int), none)
theorem nX1_dark : zNm mX1_dark 2 := ⟨by decide +kernel, by decide +kernel, by decide +kernel⟩
theorem pX1_dark : plainFor mX1_dark.1 = true := by decide +kernel
abbrev mX1_edge : zM := (yX1_edge, cX1_edge, 7, (some .int), none)
theorem nX1_edge : zNm mX1_edge 3 := ⟨by decide +kernel, by decide +kernel, by decide +kernel⟩
theorem pX1_edge : plainFor mX1_edge.1 = true := by decide +kernel
abbrev mX1_end : zM := (yX1_end, cX1_end, 2, (some .boolean), none)
theorem nX1_end : zNm mX1_end 1 := ⟨by decide +kernel, by decide +kernel, by decide +kernel⟩
theorem pX1_end : plainFor mX1_end.1 = true := by decide +kernel
abbrev mX1_endIn : zM := (yX1_endIn, cX1_endIn, 3, (some .int), none)
theorem nX1_endIn : zNm mX1_endIn 2 := ⟨by decide +kernel, by decide +kernel, by decide +kernel⟩
theorem pX1_endIn : plainFor mX1_endIn.1 = true := by decide +kernel
abbrev mX1_endOf : zM := (yX1_endOf, cX1_endOf, 9, (some .int), none)
theorem nX1_endOf : zNm mX1_endOf 3 := ⟨by decide +kernel, by decide +kernel, by decide +kernel⟩
theorem pX1_endOf : plainFor mX1_endOf.1 = true := by decide +kernel
abbrev mX1_endWith : zM := (yX1_endWith, cX1_endWith, 4, (some .int), none)
theorem nX1_endWith : zNm mX1_endWith 2 := ⟨by decide +kernel, by decide +kernel, by decide +kernel⟩
theorem pX1_endWith : plainFor mX1_endWith.1 = true := by decide +kernel
abbrev mX1_ends : zM := (yX1_ends, cX1_ends, 1, (some .int), none)
theorem nX1_ends : zNm mX1_ends 0 := ⟨by decide +kernel, by decide +kernel, by decide +kernel⟩
theorem pX1_ends : plainFor mX1_ends.1 = true := by decide +kernel
abbrev mX1_entry : zM := (yX1_entry, cX1_entry, 2, (some .int), none)
theorem nX1_entry : zNm mX1_entry 2 := ⟨by decide +kernel, by decide +kernel, by decide +kernel⟩
theorem pX1_entry : plainFor mX1_entry.1 = true := by decide +kernel
abbrev mX1_feast : zM := (yX1_feast, cX1_feast, 4, (some .boolean), none)
theorem nX1_feast : zNm mX1_feast 3 := ⟨by decide +kernel, by decide +kernel, by decide +kernel⟩
theorem pX1_feast : plainFor mX1_feast.1 = true := by decide +kernel
abbrev mX1_go : zM := (yX1_go, cX1_go, 3, (some .int), none)
theorem nX1_go : zNm mX1_go 1 := ⟨by decide +kernel, by decide +kernel, by decide +kernel⟩
theorem pX1_go : plainFor mX1_go.1 = true := by decide +kernel
abbrev mX1_hand : zM := (yX1_hand, cX1_hand, 3, (some .int), none)
theorem nX1_hand : zNm mX1_hand 2 := ⟨by decide +kernel, by decide +kernel, by decide +kernel⟩
theorem pX1_hand : plainFor mX1_hand.1 = true := by decide +kernel
abbrev mX1_has : zM := (yX1_has, cX1_has, 2, (some .boolean), none)
theorem nX1_has : zNm mX1_has 2 := ⟨by decide +kernel, by decide +kernel, by decide +kernel⟩
theorem pX1_has : plainFor mX1_has.1 = true := by decide +kernel
abbrev mX1_homes : zM := (yX1_homes, cX1_homes, 10, (some .int), none)
theorem nX1_homes : zNm mX1_homes 2 := ⟨by decide +kernel, by decide +kernel, by decide +kernel⟩
theorem pX1_homes : plainFor mX1_homes.1 = true := by decide +kernel
abbrev mX1_in : zM := (yX1_in, cX1_in, 3, (some .boolean), none)
theorem nX1_in : zNm mX1_in 3 := ⟨by decide +kernel, by decide +kernel, by decide +kernel⟩
theorem pX1_in : plainFor mX1_in.1 = true := by decide +kernel
abbrev mX1_init : zM := (yX1_init, cX1_init, 1, none, none)
theorem nX1_init : zNm mX1_init 0 := ⟨by decide +kernel, by decide +kernel, by decide +kernel⟩
theorem pX1_init : plainFor mX1_init.1 = true := by decide +kernel
abbrev mX1_isHour : zM := (yX1_isHour, cX1_isHour, 1, (some .boolean), none)
theorem nX1_isHour : zNm mX1_isHour 1 := ⟨by decide +kernel, by decide +kernel, by decide +kernel⟩
theorem pX1_isHour : plainFor mX1_isHour.1 = true := by decide +kernel
abbrev mX1_isOffice : zM := (yX1_isOffice, cX1_isOffice, 2, (some .boolean), none)
theorem nX1_isOffice : zNm mX1_isOffice 1 := ⟨by decide +kernel, by decide +kernel, by decide +kernel⟩
theorem pX1_isOffice : plainFor mX1_isOffice.1 = true := by decide +kernel
abbrev mX1_isPiece : zM := (yX1_isPiece, cX1_isPiece, 2, (some .boolean), none)
theorem nX1_isPiece : zNm mX1_isPiece 1 := ⟨by decide +kernel, by decide +kernel, by decide +kernel⟩
theorem pX1_isPiece : plainFor mX1_isPiece.1 = true := by decide +kernel
abbrev mX1_judge : zM := (yX1_judge, cX1_judge, 5, (some .int), none)
theorem nX1_judge : zNm mX1_judge 0 := ⟨by decide +kernel, by decide +kernel, by decide +kernel⟩
theorem pX1_judge : plainFor mX1_judge.1 = true := by decide +kernel
abbrev mX1_keep : zM := (yX1_keep, cX1_keep, 2, (some .boolean), none)
theorem nX1_keep : zNm mX1_keep 1 := ⟨by decide +kernel, by decide +kernel, by decide +kernel⟩
theorem pX1_keep : plainFor mX1_keep.1 = true := by decide +kernel
abbrev mX1_kept : zM := (yX1_kept, cX1_kept, 1, (some .int), none)
theorem nX1_kept : zNm mX1_kept 0 := ⟨by decide +kernel, by decide +kernel, by decide +kernel⟩
theorem pX1_kept : plainFor mX1_kept.1 = true := by decide +kernel
abbrev mX1_know : zM := (yX1_know, cX1_know, 5, (some .int), none)
theorem nX1_know : zNm mX1_know 3 := ⟨by decide +kernel, by decide +kernel, by decide +kernel⟩
theorem pX1_know : plainFor mX1_know.1 = true := by decide +kernel
abbrev mX1_lie : zM := (yX1_lie, cX1_lie, 9, (some .int), none)
theorem nX1_lie : zNm mX1_lie 2 := ⟨by decide +kernel, by decide +kernel, by decide +kernel⟩
theorem pX1_lie : plainFor mX1_lie.1 = true := by decide +kernel
abbrev mX1_like : zM := (yX1_like, cX1_like, 4, (some (.object "FollowTheSun$Office")), none)
theorem nX1_like : zNm mX1_like 3 := ⟨by decide +kernel, by decide +kernel, by decide +kernel⟩
theorem pX1_like : plainFor mX1_like.1 = true := by decide +kernel
abbrev mX1_loses : zM := (yX1_loses, cX1_loses, 4, (some .int), none)
theorem nX1_loses : zNm mX1_loses 3 := ⟨by decide +kernel, by decide +kernel, by decide +kernel⟩
theorem pX1_loses : plainFor mX1_loses.1 = true := by decide +kernel
abbrev mX1_march : zM := (yX1_march, cX1_march, 6, (some .int), none)
theorem nX1_march : zNm mX1_march 2 := ⟨by decide +kernel, by decide +kernel, by decide +kernel⟩
theorem pX1_march : plainFor mX1_march.1 = true := by decide +kernel
abbrev mX1_mean : zM := (yX1_mean, cX1_mean, 5, (some .int), none)
theorem nX1_mean : zNm mX1_mean 1 := ⟨by decide +kernel, by decide +kernel, by decide +kernel⟩
theorem pX1_mean : plainFor mX1_mean.1 = true := by decide +kernel
abbrev mX1_of : zM := (yX1_of, cX1_of, 3, (some .int), none)
theorem nX1_of : zNm mX1_of 2 := ⟨by decide +kernel, by decide +kernel, by decide +kernel⟩
theorem pX1_of : plainFor mX1_of.1 = true := by decide +kernel
abbrev mX1_office : zM := (yX1_office, cX1_office, 5, (some .int), none)
theorem nX1_office : zNm mX1_office 4 := ⟨by decide +kernel, by decide +kernel, by decide +kernel⟩
theorem pX1_office : plainFor mX1_office.1 = true := by decide +kernel
abbrev mX1_one : zM := (yX1_one, cX1_one, 5, (some .int), none)
theorem nX1_one : zNm mX1_one 3 := ⟨by decide +kernel, by decide +kernel, by decide +kernel⟩
theorem pX1_one : plainFor mX1_one.1 = true := by decide +kernel
abbrev mX1_open : zM := (yX1_open, cX1_open, 3, (some .int), none)
theorem nX1_open : zNm mX1_open 2 := ⟨by decide +kernel, by decide +kernel, by decide +kernel⟩
theorem pX1_open : plainFor mX1_open.1 = true := by decide +kernel
abbrev mX1_overlap : zM := (yX1_overlap, cX1_overlap, 4, (some .int), none)
theorem nX1_overlap : zNm mX1_overlap 3 := ⟨by decide +kernel, by decide +kernel, by decide +kernel⟩
theorem pX1_overlap : plainFor mX1_overlap.1 = true := by decide +kernel
abbrev mX1_pair : zM := (yX1_pair, cX1_pair, 5, (some .int), none)
theorem nX1_pair : zNm mX1_pair 3 := ⟨by decide +kernel, by decide +kernel, by decide +kernel⟩
theorem pX1_pair : plainFor mX1_pair.1 = true := by decide +kernel
abbrev mX1_piece : zM := (yX1_piece, cX1_piece, 6, (some .int), none)
theorem nX1_piece : zNm mX1_piece 5 := ⟨by decide +kernel, by decide +kernel, by decide +kernel⟩
theorem pX1_piece : plainFor mX1_piece.1 = true := by decide +kernel
abbrev mX1_place : zM := (yX1_place, cX1_place, 6, none, none)
theorem nX1_place : zNm mX1_place 3 := ⟨by decide +kernel, by decide +kernel, by decide +kernel⟩
theorem pX1_place : plainFor mX1_place.1 = true := by decide +kernel
abbrev mX1_price : zM := (yX1_price, cX1_price, 4, (some .int), none)
theorem nX1_price : zNm mX1_price 1 := ⟨by decide +kernel, by decide +kernel, by decide +kernel⟩
theorem pX1_price : plainFor mX1_price.1 = true := by decide +kernel
abbrev mX1_riskiest : zM := (yX1_riskiest, cX1_riskiest, 3, (some .int), none)
theorem nX1_riskiest : zNm mX1_riskiest 0 := ⟨by decide +kernel, by decide +kernel, by decide +kernel⟩
theorem pX1_riskiest : plainFor mX1_riskiest.1 = true := by decide +kernel
abbrev mX1_row : zM := (yX1_row, cX1_row, 2, (some .long), none)
theorem nX1_row : zNm mX1_row 1 := ⟨by decide +kernel, by decide +kernel, by decide +kernel⟩
theorem pX1_row : plainFor mX1_row.1 = true := by decide +kernel
abbrev mX1_rowOf : zM := (yX1_rowOf, cX1_rowOf, 7, (some (.object "java/lang/Object")), none)
theorem nX1_rowOf : zNm mX1_rowOf 4 := ⟨by decide +kernel, by decide +kernel, by decide +kernel⟩
theorem pX1_rowOf : plainFor mX1_rowOf.1 = true := by decide +kernel
abbrev mX1_rule : zM := (yX1_rule, cX1_rule, 2, (some .int), some [(0, 19, 20, 207)])
theorem nX1_rule : zNm mX1_rule 0 := ⟨by decide +kernel, by decide +kernel, by decide +kernel⟩
theorem pX1_rule : plainFor mX1_rule.1 = true := by decide +kernel
abbrev mX1_set : zM := (yX1_set, cX1_set, 4, (some .int), none)
theorem nX1_set : zNm mX1_set 2 := ⟨by decide +kernel, by decide +kernel, by decide +kernel⟩
theorem pX1_set : plainFor mX1_set.1 = true := by decide +kernel
abbrev mX1_sheet : zM := (yX1_sheet, cX1_sheet, 9, (some .int), some [(33, 44, 47, 157)])
theorem nX1_sheet : zNm mX1_sheet 5 := ⟨by decide +kernel, by decide +kernel, by decide +kernel⟩
theorem pX1_sheet : plainFor mX1_sheet.1 = true := by decide +kernel
abbrev mX1_sign : zM := (yX1_sign, cX1_sign, 3, (some .int), none)
theorem nX1_sign : zNm mX1_sign 1 := ⟨by decide +kernel, by decide +kernel, by decide +kernel⟩
theorem pX1_sign : plainFor mX1_sign.1 = true := by decide +kernel
abbrev mX1_site : zM := (yX1_site, cX1_site, 11, (some .int), none)
theorem nX1_site : zNm mX1_site 4 := ⟨by decide +kernel, by decide +kernel, by decide +kernel⟩
theorem pX1_site : plainFor mX1_site.1 = true := by decide +kernel
abbrev mX1_sleeping : zM := (yX1_sleeping, cX1_sleeping, 4, (some (.object "FollowTheSun$Office")), none)
theorem nX1_sleeping : zNm mX1_sleeping 2 := ⟨by decide +kernel, by decide +kernel, by decide +kernel⟩
theorem pX1_sleeping : plainFor mX1_sleeping.1 = true := by decide +kernel
abbrev mX1_sleeps : zM := (yX1_sleeps, cX1_sleeps, 5, (some .int), none)
theorem nX1_sleeps : zNm mX1_sleeps 2 := ⟨by decide +kernel, by decide +kernel, by decide +kernel⟩
theorem pX1_sleeps : plainFor mX1_sleeps.1 = true := by decide +kernel
abbrev mX1_soonest : zM := (yX1_soonest, cX1_soonest, 5, (some .int), none)
theorem nX1_soonest : zNm mX1_soonest 3 := ⟨by decide +kernel, by decide +kernel, by decide +kernel⟩
theorem pX1_soonest : plainFor mX1_soonest.1 = true := by decide +kernel
abbrev mX1_tell : zM := (yX1_tell, cX1_tell, 3, none, none)
theorem nX1_tell : zNm mX1_tell 1 := ⟨by decide +kernel, by decide +kernel, by decide +kernel⟩
theorem pX1_tell : plainFor mX1_tell.1 = true := by decide +kernel
abbrev mX1_tellPart : zM := (yX1_tellPart, cX1_tellPart, 7, none, none)
theorem nX1_tellPart : zNm mX1_tellPart 2 := ⟨by decide +kernel, by decide +kernel, by decide +kernel⟩
theorem pX1_tellPart : plainFor mX1_tellPart.1 = true := by decide +kernel
abbrev mX1_together : zM := (yX1_together, cX1_together, 9, (some .int), some [(193, 210, 226, 0), (226, 228, 226, 0)])
theorem nX1_together : zNm mX1_together 2 := ⟨by decide +kernel, by decide +kernel, by decide +kernel⟩
theorem pX1_together : plainFor mX1_together.1 = true := by decide +kernel
abbrev mX1_value : zM := (yX1_value, cX1_value, 3, (some .int), none)
theorem nX1_value : zNm mX1_value 2 := ⟨by decide +kernel, by decide +kernel, by decide +kernel⟩
theorem pX1_value : plainFor mX1_value.1 = true := by decide +kernel
abbrev mX1_whom : zM := (yX1_whom, cX1_whom, 7, (some .int), none)
theorem nX1_whom : zNm mX1_whom 2 := ⟨by decide +kernel, by decide +kernel, by decide +kernel⟩
theorem pX1_whom : plainFor mX1_whom.1 = true := by decide +kernel
abbrev mX1_with : zM := (yX1_with, cX1_with, 4, (some (.object "FollowTheSun$World")), none)
theorem nX1_with : zNm mX1_with 1 := ⟨by decide +kernel, by decide +kernel, by decide +kernel⟩
theorem pX1_with : plainFor mX1_with.1 = true := by decide +kernel
abbrev mX1_worst : zM := (yX1_worst, cX1_worst, 8, (some .int), none)
theorem nX1_worst : zNm mX1_worst 3 := ⟨by decide +kernel, by decide +kernel, by decide +kernel⟩
theorem pX1_worst : plainFor mX1_worst.1 = true := by decide +kernel
abbrev mX1_worth : zM := (yX1_worth, cX1_worth, 8, (some .int), none)
theorem nX1_worth : zNm mX1_worth 1 := ⟨by decide +kernel, by decide +kernel, by decide +kernel⟩
theorem pX1_worth : plainFor mX1_worth.1 = true := by decide +kernel
abbrev mX1_wrong : zM := (yX1_wrong, cX1_wrong, 9, (some .int), none)
theorem nX1_wrong : zNm mX1_wrong 1 := ⟨by decide +kernel, by decide +kernel, by decide +kernel⟩
theorem pX1_wrong : plainFor mX1_wrong.1 = true := by decide +kernel
abbrev mX2_add : zM := (yX2_add, cX2_add, 2, (some .int), none)
theorem nX2_add : zNm mX2_add 1 := ⟨by decide +kernel, by decide +kernel, by decide +kernel⟩
theorem pX2_add : plainFor mX2_add.1 = true := by decide +kernel
abbrev mX2_as : zM := (yX2_as, cX2_as, 3, (some (.object "FollowTheSun$World")), none)
theorem nX2_as : zNm mX2_as 1 := ⟨by decide +kernel, by decide +kernel, by decide +kernel⟩
theorem pX2_as : plainFor mX2_as.1 = true := by decide +kernel
abbrev mX2_hasCraft : zM := (yX2_hasCraft, cX2_hasCraft, 3, (some .boolean), none)
theorem nX2_hasCraft : zNm mX2_hasCraft 2 := ⟨by decide +kernel, by decide +kernel, by decide +kernel⟩
theorem pX2_hasCraft : plainFor mX2_hasCraft.1 = true := by decide +kernel
abbrev mX2_init : zM := (yX2_init, cX2_init, 1, none, none)
theorem nX2_init : zNm mX2_init 0 := ⟨by decide +kernel, by decide +kernel, by decide +kernel⟩
theorem pX2_init : plainFor mX2_init.1 = true := by decide +kernel
abbrev mX2_know : zM := (yX2_know, cX2_know, 4, none, none)
theorem nX2_know : zNm mX2_know 3 := ⟨by decide +kernel, by decide +kernel, by decide +kernel⟩
theorem pX2_know : plainFor mX2_know.1 = true := by decide +kernel
abbrev mX2_lost : zM := (yX2_lost, cX2_lost, 4, (some .int), none)
theorem nX2_lost : zNm mX2_lost 3 := ⟨by decide +kernel, by decide +kernel, by decide +kernel⟩
theorem pX2_lost : plainFor mX2_lost.1 = true := by decide +kernel
abbrev mX2_overlap : zM := (yX2_overlap, cX2_overlap, 6, (some .int), none)
theorem nX2_overlap : zNm mX2_overlap 3 := ⟨by decide +kernel, by decide +kernel, by decide +kernel⟩
theorem pX2_overlap : plainFor mX2_overlap.1 = true := by decide +kernel
abbrev mX2_wrong : zM := (yX2_wrong, cX2_wrong, 3, (some .int), none)
theorem nX2_wrong : zNm mX2_wrong 2 := ⟨by decide +kernel, by decide +kernel, by decide +kernel⟩
theorem pX2_wrong : plainFor mX2_wrong.1 = true := by decide +kernel
abbrev mX3_as : zM := (yX3_as, cX3_as, 3, (some (.object "FollowTheSun$State")), none)
theorem nX3_as : zNm mX3_as 1 := ⟨by decide +kernel, by decide +kernel, by decide +kernel⟩
theorem pX3_as : plainFor mX3_as.1 = true := by decide +kernel
abbrev mX3_begin : zM := (yX3_begin, cX3_begin, 3, (some (.object "FollowTheSun$State")), none)
theorem nX3_begin : zNm mX3_begin 1 := ⟨by decide +kernel, by decide +kernel, by decide +kernel⟩
theorem pX3_begin : plainFor mX3_begin.1 = true := by decide +kernel
abbrev mX3_doneOnes : zM := (yX3_doneOnes, cX3_doneOnes, 3, (some .int), none)
theorem nX3_doneOnes : zNm mX3_doneOnes 0 := ⟨by decide +kernel, by decide +kernel, by decide +kernel⟩
theorem pX3_doneOnes : plainFor mX3_doneOnes.1 = true := by decide +kernel
abbrev mX3_end : zM := (yX3_end, cX3_end, 2, (some .int), none)
theorem nX3_end : zNm mX3_end 1 := ⟨by decide +kernel, by decide +kernel, by decide +kernel⟩
theorem pX3_end : plainFor mX3_end.1 = true := by decide +kernel
abbrev mX3_fresh : zM := (yX3_fresh, cX3_fresh, 2, none, none)
theorem nX3_fresh : zNm mX3_fresh 1 := ⟨by decide +kernel, by decide +kernel, by decide +kernel⟩
theorem pX3_fresh : plainFor mX3_fresh.1 = true := by decide +kernel
abbrev mX3_hand : zM := (yX3_hand, cX3_hand, 6, (some .int), none)
theorem nX3_hand : zNm mX3_hand 4 := ⟨by decide +kernel, by decide +kernel, by decide +kernel⟩
theorem pX3_hand : plainFor mX3_hand.1 = true := by decide +kernel
abbrev mX3_hour : zM := (yX3_hour, cX3_hour, 6, none, none)
theorem nX3_hour : zNm mX3_hour 1 := ⟨by decide +kernel, by decide +kernel, by decide +kernel⟩
theorem pX3_hour : plainFor mX3_hour.1 = true := by decide +kernel
abbrev mX3_init : zM := (yX3_init, cX3_init, 2, none, none)
theorem nX3_init : zNm mX3_init 1 := ⟨by decide +kernel, by decide +kernel, by decide +kernel⟩
theorem pX3_init : plainFor mX3_init.1 = true := by decide +kernel
abbrev mX3_isAllDone : zM := (yX3_isAllDone, cX3_isAllDone, 1, (some .boolean), none)
theorem nX3_isAllDone : zNm mX3_isAllDone 0 := ⟨by decide +kernel, by decide +kernel, by decide +kernel⟩
theorem pX3_isAllDone : plainFor mX3_isAllDone.1 = true := by decide +kernel
abbrev mX3_isReady : zM := (yX3_isReady, cX3_isReady, 2, (some .boolean), none)
theorem nX3_isReady : zNm mX3_isReady 1 := ⟨by decide +kernel, by decide +kernel, by decide +kernel⟩
theorem pX3_isReady : plainFor mX3_isReady.1 = true := by decide +kernel
abbrev mX3_isStuck : zM := (yX3_isStuck, cX3_isStuck, 3, (some .boolean), none)
theorem nX3_isStuck : zNm mX3_isStuck 1 := ⟨by decide +kernel, by decide +kernel, by decide +kernel⟩
theorem pX3_isStuck : plainFor mX3_isStuck.1 = true := by decide +kernel
abbrev mX3_pieceOf : zM := (yX3_pieceOf, cX3_pieceOf, 2, (some (.object "FollowTheSun$Piece")), none)
theorem nX3_pieceOf : zNm mX3_pieceOf 1 := ⟨by decide +kernel, by decide +kernel, by decide +kernel⟩
theorem pX3_pieceOf : plainFor mX3_pieceOf.1 = true := by decide +kernel
abbrev mX3_work : zM := (yX3_work, cX3_work, 3, none, none)
theorem nX3_work : zNm mX3_work 2 := ⟨by decide +kernel, by decide +kernel, by decide +kernel⟩
theorem pX3_work : plainFor mX3_work.1 = true := by decide +kernel
abbrev mX4_init : zM := (yX4_init, cX4_init, 1, none, none)
theorem nX4_init : zNm mX4_init 0 := ⟨by decide +kernel, by decide +kernel, by decide +kernel⟩
theorem pX4_init : plainFor mX4_init.1 = true := by decide +kernel
abbrev mX4_of : zM := (yX4_of, cX4_of, 5, (some (.object "FollowTheSun$Case")), none)
theorem nX4_of : zNm mX4_of 4 := ⟨by decide +kernel, by decide +kernel, by decide +kernel⟩
theorem pX4_of : plainFor mX4_of.1 = true := by decide +kernel
abbrev mX4_rest : zM := (yX4_rest, cX4_rest, 3, (some .int), none)
theorem nX4_rest : zNm mX4_rest 1 := ⟨by decide +kernel, by decide +kernel, by decide +kernel⟩
theorem pX4_rest : plainFor mX4_rest.1 = true := by decide +kernel
abbrev mX4_value : zM := (yX4_value, cX4_value, 4, (some .int), none)
theorem nX4_value : zNm mX4_value 1 := ⟨by decide +kernel, by decide +kernel, by decide +kernel⟩
theorem pX4_value : plainFor mX4_value.1 = true := by decide +kernel
abbrev mX5_acted : zM := (yX5_acted, cX5_acted, 3, (some .int), none)
theorem nX5_acted : zNm mX5_acted 3 := ⟨by decide +kernel, by decide +kernel, by decide +kernel⟩
theorem pX5_acted : plainFor mX5_acted.1 = true := by decide +kernel
abbrev mX5_again : zM := (yX5_again, cX5_again, 3, (some .boolean), none)
theorem nX5_again : zNm mX5_again 1 := ⟨by decide +kernel, by decide +kernel, by decide +kernel⟩
theorem pX5_again : plainFor mX5_again.1 = true := by decide +kernel
abbrev mX5_ahead : zM := (yX5_ahead, cX5_ahead, 3, (some .boolean), none)
theorem nX5_ahead : zNm mX5_ahead 0 := ⟨by decide +kernel, by decide +kernel, by decide +kernel⟩
theorem pX5_ahead : plainFor mX5_ahead.1 = true := by decide +kernel
abbrev mX5_among : zM := (yX5_among, cX5_among, 3, (some .int), none)
theorem nX5_among : zNm mX5_among 1 := ⟨by decide +kernel, by decide +kernel, by decide +kernel⟩
theorem pX5_among : plainFor mX5_among.1 = true := by decide +kernel
abbrev mX5_asked : zM := (yX5_asked, cX5_asked, 2, (some .int), none)
theorem nX5_asked : zNm mX5_asked 1 := ⟨by decide +kernel, by decide +kernel, by decide +kernel⟩
theorem pX5_asked : plainFor mX5_asked.1 = true := by decide +kernel
abbrev mX5_begin : zM := (yX5_begin, cX5_begin, 2, (some .boolean), none)
theorem nX5_begin : zNm mX5_begin 1 := ⟨by decide +kernel, by decide +kernel, by decide +kernel⟩
theorem pX5_begin : plainFor mX5_begin.1 = true := by decide +kernel
abbrev mX5_begins : zM := (yX5_begins, cX5_begins, 3, none, none)
theorem nX5_begins : zNm mX5_begins 1 := ⟨by decide +kernel, by decide +kernel, by decide +kernel⟩
theorem pX5_begins : plainFor mX5_begins.1 = true := by decide +kernel
abbrev mX5_cheap : zM := (yX5_cheap, cX5_cheap, 12, (some .int), none)
theorem nX5_cheap : zNm mX5_cheap 4 := ⟨by decide +kernel, by decide +kernel, by decide +kernel⟩
theorem pX5_cheap : plainFor mX5_cheap.1 = true := by decide +kernel
abbrev mX5_cheaper : zM := (yX5_cheaper, cX5_cheaper, 4, none, none)
theorem nX5_cheaper : zNm mX5_cheaper 2 := ⟨by decide +kernel, by decide +kernel, by decide +kernel⟩
theorem pX5_cheaper : plainFor mX5_cheaper.1 = true := by decide +kernel
abbrev mX5_clock : zM := (yX5_clock, cX5_clock, 4, (some .boolean), none)
theorem nX5_clock : zNm mX5_clock 3 := ⟨by decide +kernel, by decide +kernel, by decide +kernel⟩
theorem pX5_clock : plainFor mX5_clock.1 = true := by decide +kernel
abbrev mX5_closes : zM := (yX5_closes, cX5_closes, 8, none, none)
theorem nX5_closes : zNm mX5_closes 0 := ⟨by decide +kernel, by decide +kernel, by decide +kernel⟩
theorem pX5_closes : plainFor mX5_closes.1 = true := by decide +kernel
abbrev mX5_common : zM := (yX5_common, cX5_common, 10, (some .long), none)
theorem nX5_common : zNm mX5_common 2 := ⟨by decide +kernel, by decide +kernel, by decide +kernel⟩
theorem pX5_common : plainFor mX5_common.1 = true := by decide +kernel
abbrev mX5_count : zM := (yX5_count, cX5_count, 2, (some .int), none)
theorem nX5_count : zNm mX5_count 1 := ⟨by decide +kernel, by decide +kernel, by decide +kernel⟩
theorem pX5_count : plainFor mX5_count.1 = true := by decide +kernel
abbrev mX5_dark : zM := (yX5_dark, cX5_dark, 10, (some .int), none)
theorem nX5_dark : zNm mX5_dark 2 := ⟨by decide +kernel, by decide +kernel, by decide +kernel⟩
theorem pX5_dark : plainFor mX5_dark.1 = true := by decide +kernel
abbrev mX5_doneBits : zM := (yX5_doneBits, cX5_doneBits, 3, (some .int), none)
theorem nX5_doneBits : zNm mX5_doneBits 0 := ⟨by decide +kernel, by decide +kernel, by decide +kernel⟩
theorem pX5_doneBits : plainFor mX5_doneBits.1 = true := by decide +kernel
abbrev mX5_edge : zM := (yX5_edge, cX5_edge, 9, (some .int), none)
theorem nX5_edge : zNm mX5_edge 3 := ⟨by decide +kernel, by decide +kernel, by decide +kernel⟩
theorem pX5_edge : plainFor mX5_edge.1 = true := by decide +kernel
abbrev mX5_empties : zM := (yX5_empties, cX5_empties, 3, none, none)
theorem nX5_empties : zNm mX5_empties 1 := ⟨by decide +kernel, by decide +kernel, by decide +kernel⟩
theorem pX5_empties : plainFor mX5_empties.1 = true := by decide +kernel
abbrev mX5_emptiesPaid : zM := (yX5_emptiesPaid, cX5_emptiesPaid, 3, none, none)
theorem nX5_emptiesPaid : zNm mX5_emptiesPaid 1 := ⟨by decide +kernel, by decide +kernel, by decide +kernel⟩
theorem pX5_emptiesPaid : plainFor mX5_emptiesPaid.1 = true := by decide +kernel
abbrev mX5_end : zM := (yX5_end, cX5_end, 2, (some .boolean), none)
theorem nX5_end : zNm mX5_end 1 := ⟨by decide +kernel, by decide +kernel, by decide +kernel⟩
theorem pX5_end : plainFor mX5_end.1 = true := by decide +kernel
abbrev mX5_ends : zM := (yX5_ends, cX5_ends, 2, (some .int), none)
theorem nX5_ends : zNm mX5_ends 0 := ⟨by decide +kernel, by decide +kernel, by decide +kernel⟩
theorem pX5_ends : plainFor mX5_ends.1 = true := by decide +kernel
abbrev mX5_endsFrom : zM := (yX5_endsFrom, cX5_endsFrom, 3, (some .int), none)
theorem nX5_endsFrom : zNm mX5_endsFrom 1 := ⟨by decide +kernel, by decide +kernel, by decide +kernel⟩
theorem pX5_endsFrom : plainFor mX5_endsFrom.1 = true := by decide +kernel
abbrev mX5_endsNow : zM := (yX5_endsNow, cX5_endsNow, 2, (some .int), none)
theorem nX5_endsNow : zNm mX5_endsNow 0 := ⟨by decide +kernel, by decide +kernel, by decide +kernel⟩
theorem pX5_endsNow : plainFor mX5_endsNow.1 = true := by decide +kernel
abbrev mX5_endsOn : zM := (yX5_endsOn, cX5_endsOn, 4, (some .int), none)
theorem nX5_endsOn : zNm mX5_endsOn 2 := ⟨by decide +kernel, by decide +kernel, by decide +kernel⟩
theorem pX5_endsOn : plainFor mX5_endsOn.1 = true := by decide +kernel
abbrev mX5_endsWith : zM := (yX5_endsWith, cX5_endsWith, 5, (some .int), none)
theorem nX5_endsWith : zNm mX5_endsWith 2 := ⟨by decide +kernel, by decide +kernel, by decide +kernel⟩
theorem pX5_endsWith : plainFor mX5_endsWith.1 = true := by decide +kernel
abbrev mX5_enters : zM := (yX5_enters, cX5_enters, 3, none, none)
theorem nX5_enters : zNm mX5_enters 1 := ⟨by decide +kernel, by decide +kernel, by decide +kernel⟩
theorem pX5_enters : plainFor mX5_enters.1 = true := by decide +kernel
abbrev mX5_entersFraction : zM := (yX5_entersFraction, cX5_entersFraction, 7, none, none)
theorem nX5_entersFraction : zNm mX5_entersFraction 2 := ⟨by decide +kernel, by decide +kernel, by decide +kernel⟩
theorem pX5_entersFraction : plainFor mX5_entersFraction.1 = true := by decide +kernel
abbrev mX5_entersRoute : zM := (yX5_entersRoute, cX5_entersRoute, 4, none, none)
theorem nX5_entersRoute : zNm mX5_entersRoute 2 := ⟨by decide +kernel, by decide +kernel, by decide +kernel⟩
theorem pX5_entersRoute : plainFor mX5_entersRoute.1 = true := by decide +kernel
abbrev mX5_feast : zM := (yX5_feast, cX5_feast, 4, (some .boolean), none)
theorem nX5_feast : zNm mX5_feast 3 := ⟨by decide +kernel, by decide +kernel, by decide +kernel⟩
theorem pX5_feast : plainFor mX5_feast.1 = true := by decide +kernel
abbrev mX5_flag : zM := (yX5_flag, cX5_flag, 1, (some .int), none)
theorem nX5_flag : zNm mX5_flag 1 := ⟨by decide +kernel, by decide +kernel, by decide +kernel⟩
theorem pX5_flag : plainFor mX5_flag.1 = true := by decide +kernel
abbrev mX5_givesBorn : zM := (yX5_givesBorn, cX5_givesBorn, 2, none, none)
theorem nX5_givesBorn : zNm mX5_givesBorn 0 := ⟨by decide +kernel, by decide +kernel, by decide +kernel⟩
theorem pX5_givesBorn : plainFor mX5_givesBorn.1 = true := by decide +kernel
abbrev mX5_go : zM := (yX5_go, cX5_go, 3, (some .int), none)
theorem nX5_go : zNm mX5_go 1 := ⟨by decide +kernel, by decide +kernel, by decide +kernel⟩
theorem pX5_go : plainFor mX5_go.1 = true := by decide +kernel
abbrev mX5_goesFrom : zM := (yX5_goesFrom, cX5_goesFrom, 7, none, none)
theorem nX5_goesFrom : zNm mX5_goesFrom 5 := ⟨by decide +kernel, by decide +kernel, by decide +kernel⟩
theorem pX5_goesFrom : plainFor mX5_goesFrom.1 = true := by decide +kernel
abbrev mX5_goesOn : zM := (yX5_goesOn, cX5_goesOn, 2, (some .int), none)
theorem nX5_goesOn : zNm mX5_goesOn 0 := ⟨by decide +kernel, by decide +kernel, by decide +kernel⟩
theorem pX5_goesOn : plainFor mX5_goesOn.1 = true := by decide +kernel
abbrev mX5_goesPaid : zM := (yX5_goesPaid, cX5_goesPaid, 10, none, none)
theorem nX5_goesPaid : zNm mX5_goesPaid 5 := ⟨by decide +kernel, by decide +kernel, by decide +kernel⟩
theorem pX5_goesPaid : plainFor mX5_goesPaid.1 = true := by decide +kernel
abbrev mX5_hand : zM := (yX5_hand, cX5_hand, 3, (some .int), none)
theorem nX5_hand : zNm mX5_hand 2 := ⟨by decide +kernel, by decide +kernel, by decide +kernel⟩
theorem pX5_hand : plainFor mX5_hand.1 = true := by decide +kernel
abbrev mX5_hands : zM := (yX5_hands, cX5_hands, 6, (some .int), none)
theorem nX5_hands : zNm mX5_hands 3 := ⟨by decide +kernel, by decide +kernel, by decide +kernel⟩
theorem pX5_hands : plainFor mX5_hands.1 = true := by decide +kernel
abbrev mX5_has : zM := (yX5_has, cX5_has, 2, (some .boolean), none)
theorem nX5_has : zNm mX5_has 2 := ⟨by decide +kernel, by decide +kernel, by decide +kernel⟩
theorem pX5_has : plainFor mX5_has.1 = true := by decide +kernel
abbrev mX5_homes : zM := (yX5_homes, cX5_homes, 8, (some .int), none)
theorem nX5_homes : zNm mX5_homes 2 := ⟨by decide +kernel, by decide +kernel, by decide +kernel⟩
theorem pX5_homes : plainFor mX5_homes.1 = true := by decide +kernel
abbrev mX5_in : zM := (yX5_in, cX5_in, 6, (some .boolean), none)
theorem nX5_in : zNm mX5_in 3 := ⟨by decide +kernel, by decide +kernel, by decide +kernel⟩
theorem pX5_in : plainFor mX5_in.1 = true := by decide +kernel
abbrev mX5_init : zM := (yX5_init, cX5_init, 1, none, none)
theorem nX5_init : zNm mX5_init 0 := ⟨by decide +kernel, by decide +kernel, by decide +kernel⟩
theorem pX5_init : plainFor mX5_init.1 = true := by decide +kernel
abbrev mX5_isAllDone : zM := (yX5_isAllDone, cX5_isAllDone, 3, (some .boolean), none)
theorem nX5_isAllDone : zNm mX5_isAllDone 0 := ⟨by decide +kernel, by decide +kernel, by decide +kernel⟩
theorem pX5_isAllDone : plainFor mX5_isAllDone.1 = true := by decide +kernel
abbrev mX5_isDay : zM := (yX5_isDay, cX5_isDay, 1, (some .boolean), none)
theorem nX5_isDay : zNm mX5_isDay 1 := ⟨by decide +kernel, by decide +kernel, by decide +kernel⟩
theorem pX5_isDay : plainFor mX5_isDay.1 = true := by decide +kernel
abbrev mX5_isDigit : zM := (yX5_isDigit, cX5_isDigit, 1, (some .boolean), none)
theorem nX5_isDigit : zNm mX5_isDigit 0 := ⟨by decide +kernel, by decide +kernel, by decide +kernel⟩
theorem pX5_isDigit : plainFor mX5_isDigit.1 = true := by decide +kernel
abbrev mX5_isDone : zM := (yX5_isDone, cX5_isDone, 2, (some .boolean), none)
theorem nX5_isDone : zNm mX5_isDone 1 := ⟨by decide +kernel, by decide +kernel, by decide +kernel⟩
theorem pX5_isDone : plainFor mX5_isDone.1 = true := by decide +kernel
abbrev mX5_isHour : zM := (yX5_isHour, cX5_isHour, 1, (some .boolean), none)
theorem nX5_isHour : zNm mX5_isHour 1 := ⟨by decide +kernel, by decide +kernel, by decide +kernel⟩
theorem pX5_isHour : plainFor mX5_isHour.1 = true := by decide +kernel
abbrev mX5_isOffice : zM := (yX5_isOffice, cX5_isOffice, 2, (some .boolean), none)
theorem nX5_isOffice : zNm mX5_isOffice 1 := ⟨by decide +kernel, by decide +kernel, by decide +kernel⟩
theorem pX5_isOffice : plainFor mX5_isOffice.1 = true := by decide +kernel
abbrev mX5_isOpen : zM := (yX5_isOpen, cX5_isOpen, 6, (some .boolean), none)
theorem nX5_isOpen : zNm mX5_isOpen 2 := ⟨by decide +kernel, by decide +kernel, by decide +kernel⟩
theorem pX5_isOpen : plainFor mX5_isOpen.1 = true := by decide +kernel
abbrev mX5_isPiece : zM := (yX5_isPiece, cX5_isPiece, 2, (some .boolean), none)
theorem nX5_isPiece : zNm mX5_isPiece 1 := ⟨by decide +kernel, by decide +kernel, by decide +kernel⟩
theorem pX5_isPiece : plainFor mX5_isPiece.1 = true := by decide +kernel
abbrev mX5_isReady : zM := (yX5_isReady, cX5_isReady, 4, (some .boolean), none)
theorem nX5_isReady : zNm mX5_isReady 1 := ⟨by decide +kernel, by decide +kernel, by decide +kernel⟩
theorem pX5_isReady : plainFor mX5_isReady.1 = true := by decide +kernel
abbrev mX5_judge : zM := (yX5_judge, cX5_judge, 5, (some .int), none)
theorem nX5_judge : zNm mX5_judge 0 := ⟨by decide +kernel, by decide +kernel, by decide +kernel⟩
theorem pX5_judge : plainFor mX5_judge.1 = true := by decide +kernel
abbrev mX5_keep : zM := (yX5_keep, cX5_keep, 3, (some .boolean), none)
theorem nX5_keep : zNm mX5_keep 1 := ⟨by decide +kernel, by decide +kernel, by decide +kernel⟩
theorem pX5_keep : plainFor mX5_keep.1 = true := by decide +kernel
abbrev mX5_keepsBorn : zM := (yX5_keepsBorn, cX5_keepsBorn, 2, none, none)
theorem nX5_keepsBorn : zNm mX5_keepsBorn 0 := ⟨by decide +kernel, by decide +kernel, by decide +kernel⟩
theorem pX5_keepsBorn : plainFor mX5_keepsBorn.1 = true := by decide +kernel
abbrev mX5_know : zM := (yX5_know, cX5_know, 5, (some .int), none)
theorem nX5_know : zNm mX5_know 3 := ⟨by decide +kernel, by decide +kernel, by decide +kernel⟩
theorem pX5_know : plainFor mX5_know.1 = true := by decide +kernel
abbrev mX5_knows : zM := (yX5_knows, cX5_knows, 4, none, none)
theorem nX5_knows : zNm mX5_knows 3 := ⟨by decide +kernel, by decide +kernel, by decide +kernel⟩
theorem pX5_knows : plainFor mX5_knows.1 = true := by decide +kernel
abbrev mX5_lays : zM := (yX5_lays, cX5_lays, 2, none, none)
theorem nX5_lays : zNm mX5_lays 1 := ⟨by decide +kernel, by decide +kernel, by decide +kernel⟩
theorem pX5_lays : plainFor mX5_lays.1 = true := by decide +kernel
abbrev mX5_least : zM := (yX5_least, cX5_least, 3, none, none)
theorem nX5_least : zNm mX5_least 3 := ⟨by decide +kernel, by decide +kernel, by decide +kernel⟩
theorem pX5_least : plainFor mX5_least.1 = true := by decide +kernel
abbrev mX5_lie : zM := (yX5_lie, cX5_lie, 8, (some .int), none)
theorem nX5_lie : zNm mX5_lie 2 := ⟨by decide +kernel, by decide +kernel, by decide +kernel⟩
theorem pX5_lie : plainFor mX5_lie.1 = true := by decide +kernel
abbrev mX5_lies : zM := (yX5_lies, cX5_lies, 8, (some .int), none)
theorem nX5_lies : zNm mX5_lies 3 := ⟨by decide +kernel, by decide +kernel, by decide +kernel⟩
theorem pX5_lies : plainFor mX5_lies.1 = true := by decide +kernel
abbrev mX5_loses : zM := (yX5_loses, cX5_loses, 4, (some .int), none)
theorem nX5_loses : zNm mX5_loses 3 := ⟨by decide +kernel, by decide +kernel, by decide +kernel⟩
theorem pX5_loses : plainFor mX5_loses.1 = true := by decide +kernel
abbrev mX5_losesAll : zM := (yX5_losesAll, cX5_losesAll, 4, none, none)
theorem nX5_losesAll : zNm mX5_losesAll 1 := ⟨by decide +kernel, by decide +kernel, by decide +kernel⟩
theorem pX5_losesAll : plainFor mX5_losesAll.1 = true := by decide +kernel
abbrev mX5_lostOf : zM := (yX5_lostOf, cX5_lostOf, 4, (some .int), none)
theorem nX5_lostOf : zNm mX5_lostOf 3 := ⟨by decide +kernel, by decide +kernel, by decide +kernel⟩
theorem pX5_lostOf : plainFor mX5_lostOf.1 = true := by decide +kernel
abbrev mX5_march : zM := (yX5_march, cX5_march, 7, (some .int), none)
theorem nX5_march : zNm mX5_march 2 := ⟨by decide +kernel, by decide +kernel, by decide +kernel⟩
theorem pX5_march : plainFor mX5_march.1 = true := by decide +kernel
abbrev mX5_marks : zM := (yX5_marks, cX5_marks, 2, none, none)
theorem nX5_marks : zNm mX5_marks 1 := ⟨by decide +kernel, by decide +kernel, by decide +kernel⟩
theorem pX5_marks : plainFor mX5_marks.1 = true := by decide +kernel
abbrev mX5_mean : zM := (yX5_mean, cX5_mean, 5, (some .int), none)
theorem nX5_mean : zNm mX5_mean 1 := ⟨by decide +kernel, by decide +kernel, by decide +kernel⟩
theorem pX5_mean : plainFor mX5_mean.1 = true := by decide +kernel
abbrev mX5_movesHomes : zM := (yX5_movesHomes, cX5_movesHomes, 3, (some .boolean), none)
theorem nX5_movesHomes : zNm mX5_movesHomes 1 := ⟨by decide +kernel, by decide +kernel, by decide +kernel⟩
theorem pX5_movesHomes : plainFor mX5_movesHomes.1 = true := by decide +kernel
abbrev mX5_of : zM := (yX5_of, cX5_of, 3, (some .int), none)
theorem nX5_of : zNm mX5_of 2 := ⟨by decide +kernel, by decide +kernel, by decide +kernel⟩
theorem pX5_of : plainFor mX5_of.1 = true := by decide +kernel
abbrev mX5_office : zM := (yX5_office, cX5_office, 6, (some .int), none)
theorem nX5_office : zNm mX5_office 4 := ⟨by decide +kernel, by decide +kernel, by decide +kernel⟩
theorem pX5_office : plainFor mX5_office.1 = true := by decide +kernel
abbrev mX5_one : zM := (yX5_one, cX5_one, 5, (some .int), none)
theorem nX5_one : zNm mX5_one 3 := ⟨by decide +kernel, by decide +kernel, by decide +kernel⟩
theorem pX5_one : plainFor mX5_one.1 = true := by decide +kernel
abbrev mX5_open : zM := (yX5_open, cX5_open, 3, (some .int), none)
theorem nX5_open : zNm mX5_open 2 := ⟨by decide +kernel, by decide +kernel, by decide +kernel⟩
theorem pX5_open : plainFor mX5_open.1 = true := by decide +kernel
abbrev mX5_opens : zM := (yX5_opens, cX5_opens, 9, none, none)
theorem nX5_opens : zNm mX5_opens 6 := ⟨by decide +kernel, by decide +kernel, by decide +kernel⟩
theorem pX5_opens : plainFor mX5_opens.1 = true := by decide +kernel
abbrev mX5_opensIn : zM := (yX5_opensIn, cX5_opensIn, 4, (some .int), none)
theorem nX5_opensIn : zNm mX5_opensIn 2 := ⟨by decide +kernel, by decide +kernel, by decide +kernel⟩
theorem pX5_opensIn : plainFor mX5_opensIn.1 = true := by decide +kernel
abbrev mX5_overlap : zM := (yX5_overlap, cX5_overlap, 4, (some .int), none)
theorem nX5_overlap : zNm mX5_overlap 3 := ⟨by decide +kernel, by decide +kernel, by decide +kernel⟩
theorem pX5_overlap : plainFor mX5_overlap.1 = true := by decide +kernel
abbrev mX5_overlapOf : zM := (yX5_overlapOf, cX5_overlapOf, 6, (some .int), none)
theorem nX5_overlapOf : zNm mX5_overlapOf 3 := ⟨by decide +kernel, by decide +kernel, by decide +kernel⟩
theorem pX5_overlapOf : plainFor mX5_overlapOf.1 = true := by decide +kernel
abbrev mX5_pair : zM := (yX5_pair, cX5_pair, 5, (some .int), none)
theorem nX5_pair : zNm mX5_pair 3 := ⟨by decide +kernel, by decide +kernel, by decide +kernel⟩
theorem pX5_pair : plainFor mX5_pair.1 = true := by decide +kernel
abbrev mX5_passes : zM := (yX5_passes, cX5_passes, 1, none, none)
theorem nX5_passes : zNm mX5_passes 0 := ⟨by decide +kernel, by decide +kernel, by decide +kernel⟩
theorem pX5_passes : plainFor mX5_passes.1 = true := by decide +kernel
abbrev mX5_piece : zM := (yX5_piece, cX5_piece, 7, (some .int), none)
theorem nX5_piece : zNm mX5_piece 5 := ⟨by decide +kernel, by decide +kernel, by decide +kernel⟩
theorem pX5_piece : plainFor mX5_piece.1 = true := by decide +kernel
abbrev mX5_placeAt : zM := (yX5_placeAt, cX5_placeAt, 3, (some .int), none)
theorem nX5_placeAt : zNm mX5_placeAt 3 := ⟨by decide +kernel, by decide +kernel, by decide +kernel⟩
theorem pX5_placeAt : plainFor mX5_placeAt.1 = true := by decide +kernel
abbrev mX5_putsBy : zM := (yX5_putsBy, cX5_putsBy, 3, none, none)
theorem nX5_putsBy : zNm mX5_putsBy 1 := ⟨by decide +kernel, by decide +kernel, by decide +kernel⟩
theorem pX5_putsBy : plainFor mX5_putsBy.1 = true := by decide +kernel
abbrev mX5_ranked : zM := (yX5_ranked, cX5_ranked, 6, (some .boolean), none)
theorem nX5_ranked : zNm mX5_ranked 1 := ⟨by decide +kernel, by decide +kernel, by decide +kernel⟩
theorem pX5_ranked : plainFor mX5_ranked.1 = true := by decide +kernel
abbrev mX5_readyBits : zM := (yX5_readyBits, cX5_readyBits, 3, (some .int), none)
theorem nX5_readyBits : zNm mX5_readyBits 0 := ⟨by decide +kernel, by decide +kernel, by decide +kernel⟩
theorem pX5_readyBits : plainFor mX5_readyBits.1 = true := by decide +kernel
abbrev mX5_refuse : zM := (yX5_refuse, cX5_refuse, 1, (some .int), none)
theorem nX5_refuse : zNm mX5_refuse 0 := ⟨by decide +kernel, by decide +kernel, by decide +kernel⟩
theorem pX5_refuse : plainFor mX5_refuse.1 = true := by decide +kernel
abbrev mX5_riskiest : zM := (yX5_riskiest, cX5_riskiest, 3, (some .int), none)
theorem nX5_riskiest : zNm mX5_riskiest 0 := ⟨by decide +kernel, by decide +kernel, by decide +kernel⟩
theorem pX5_riskiest : plainFor mX5_riskiest.1 = true := by decide +kernel
abbrev mX5_row : zM := (yX5_row, cX5_row, 2, (some .long), none)
theorem nX5_row : zNm mX5_row 1 := ⟨by decide +kernel, by decide +kernel, by decide +kernel⟩
theorem pX5_row : plainFor mX5_row.1 = true := by decide +kernel
abbrev mX5_rule : zM := (yX5_rule, cX5_rule, 5, (some .int), none)
theorem nX5_rule : zNm mX5_rule 0 := ⟨by decide +kernel, by decide +kernel, by decide +kernel⟩
theorem pX5_rule : plainFor mX5_rule.1 = true := by decide +kernel
abbrev mX5_set : zM := (yX5_set, cX5_set, 4, (some .int), none)
theorem nX5_set : zNm mX5_set 2 := ⟨by decide +kernel, by decide +kernel, by decide +kernel⟩
theorem pX5_set : plainFor mX5_set.1 = true := by decide +kernel
abbrev mX5_sheet : zM := (yX5_sheet, cX5_sheet, 10, (some .int), none)
theorem nX5_sheet : zNm mX5_sheet 5 := ⟨by decide +kernel, by decide +kernel, by decide +kernel⟩
theorem pX5_sheet : plainFor mX5_sheet.1 = true := by decide +kernel
abbrev mX5_sign : zM := (yX5_sign, cX5_sign, 3, (some .int), none)
theorem nX5_sign : zNm mX5_sign 1 := ⟨by decide +kernel, by decide +kernel, by decide +kernel⟩
theorem pX5_sign : plainFor mX5_sign.1 = true := by decide +kernel
abbrev mX5_site : zM := (yX5_site, cX5_site, 11, (some .int), none)
theorem nX5_site : zNm mX5_site 4 := ⟨by decide +kernel, by decide +kernel, by decide +kernel⟩
theorem pX5_site : plainFor mX5_site.1 = true := by decide +kernel
abbrev mX5_sleeps : zM := (yX5_sleeps, cX5_sleeps, 5, (some .int), none)
theorem nX5_sleeps : zNm mX5_sleeps 2 := ⟨by decide +kernel, by decide +kernel, by decide +kernel⟩
theorem pX5_sleeps : plainFor mX5_sleeps.1 = true := by decide +kernel
abbrev mX5_soonest : zM := (yX5_soonest, cX5_soonest, 10, (some .int), none)
theorem nX5_soonest : zNm mX5_soonest 3 := ⟨by decide +kernel, by decide +kernel, by decide +kernel⟩
theorem pX5_soonest : plainFor mX5_soonest.1 = true := by decide +kernel
abbrev mX5_sumOf : zM := (yX5_sumOf, cX5_sumOf, 4, (some .int), none)
theorem nX5_sumOf : zNm mX5_sumOf 1 := ⟨by decide +kernel, by decide +kernel, by decide +kernel⟩
theorem pX5_sumOf : plainFor mX5_sumOf.1 = true := by decide +kernel
abbrev mX5_takesBack : zM := (yX5_takesBack, cX5_takesBack, 3, none, none)
theorem nX5_takesBack : zNm mX5_takesBack 1 := ⟨by decide +kernel, by decide +kernel, by decide +kernel⟩
theorem pX5_takesBack : plainFor mX5_takesBack.1 = true := by decide +kernel
abbrev mX5_tellsEnd : zM := (yX5_tellsEnd, cX5_tellsEnd, 6, (some .int), none)
theorem nX5_tellsEnd : zNm mX5_tellsEnd 0 := ⟨by decide +kernel, by decide +kernel, by decide +kernel⟩
theorem pX5_tellsEnd : plainFor mX5_tellsEnd.1 = true := by decide +kernel
abbrev mX5_thing : zM := (yX5_thing, cX5_thing, 3, (some .boolean), none)
theorem nX5_thing : zNm mX5_thing 0 := ⟨by decide +kernel, by decide +kernel, by decide +kernel⟩
theorem pX5_thing : plainFor mX5_thing.1 = true := by decide +kernel
abbrev mX5_thrown : zM := (yX5_thrown, cX5_thrown, 1, (some .int), none)
theorem nX5_thrown : zNm mX5_thrown 0 := ⟨by decide +kernel, by decide +kernel, by decide +kernel⟩
theorem pX5_thrown : plainFor mX5_thrown.1 = true := by decide +kernel
abbrev mX5_together : zM := (yX5_together, cX5_together, 8, (some .int), none)
theorem nX5_together : zNm mX5_together 2 := ⟨by decide +kernel, by decide +kernel, by decide +kernel⟩
theorem pX5_together : plainFor mX5_together.1 = true := by decide +kernel
abbrev mX5_value : zM := (yX5_value, cX5_value, 3, (some .int), none)
theorem nX5_value : zNm mX5_value 2 := ⟨by decide +kernel, by decide +kernel, by decide +kernel⟩
theorem pX5_value : plainFor mX5_value.1 = true := by decide +kernel
abbrev mX5_valueOf : zM := (yX5_valueOf, cX5_valueOf, 6, (some .int), none)
theorem nX5_valueOf : zNm mX5_valueOf 4 := ⟨by decide +kernel, by decide +kernel, by decide +kernel⟩
theorem pX5_valueOf : plainFor mX5_valueOf.1 = true := by decide +kernel
abbrev mX5_whom : zM := (yX5_whom, cX5_whom, 9, (some .int), none)
theorem nX5_whom : zNm mX5_whom 2 := ⟨by decide +kernel, by decide +kernel, by decide +kernel⟩
theorem pX5_whom : plainFor mX5_whom.1 = true := by decide +kernel
abbrev mX5_worked : zM := (yX5_worked, cX5_worked, 7, (some .int), none)
theorem nX5_worked : zNm mX5_worked 3 := ⟨by decide +kernel, by decide +kernel, by decide +kernel⟩
theorem pX5_worked : plainFor mX5_worked.1 = true := by decide +kernel
abbrev mX5_works : zM := (yX5_works, cX5_works, 4, none, none)
theorem nX5_works : zNm mX5_works 0 := ⟨by decide +kernel, by decide +kernel, by decide +kernel⟩
theorem pX5_works : plainFor mX5_works.1 = true := by decide +kernel
abbrev mX5_worst : zM := (yX5_worst, cX5_worst, 8, (some .int), none)
theorem nX5_worst : zNm mX5_worst 3 := ⟨by decide +kernel, by decide +kernel, by decide +kernel⟩
theorem pX5_worst : plainFor mX5_worst.1 = true := by decide +kernel
abbrev mX5_worth : zM := (yX5_worth, cX5_worth, 10, (some .int), none)
theorem nX5_worth : zNm mX5_worth 1 := ⟨by decide +kernel, by decide +kernel, by decide +kernel⟩
theorem pX5_worth : plainFor mX5_worth.1 = true := by decide +kernel
abbrev mX5_wrong : zM := (yX5_wrong, cX5_wrong, 8, (some .int), none)
theorem nX5_wrong : zNm mX5_wrong 1 := ⟨by decide +kernel, by decide +kernel, by decide +kernel⟩
theorem pX5_wrong : plainFor mX5_wrong.1 = true := by decide +kernel
abbrev mX6_init : zM := (yX6_init, cX6_init, 7, none, none)
theorem nX6_init : zNm mX6_init 6 := ⟨by decide +kernel, by decide +kernel, by decide +kernel⟩
theorem pX6_init : plainFor mX6_init.1 = true := by decide +kernel
abbrev mX6_isOpen : zM := (yX6_isOpen, cX6_isOpen, 5, (some .boolean), none)
theorem nX6_isOpen : zNm mX6_isOpen 1 := ⟨by decide +kernel, by decide +kernel, by decide +kernel⟩
theorem pX6_isOpen : plainFor mX6_isOpen.1 = true := by decide +kernel
abbrev mX7_init : zM := (yX7_init, cX7_init, 7, none, none)
theorem nX7_init : zNm mX7_init 6 := ⟨by decide +kernel, by decide +kernel, by decide +kernel⟩
theorem pX7_init : plainFor mX7_init.1 = true := by decide +kernel
abbrev mX8_both : zM := (yX8_both, cX8_both, 3, (some (.object "FollowTheSun$Node")), none)
theorem nX8_both : zNm mX8_both 1 := ⟨by decide +kernel, by decide +kernel, by decide +kernel⟩
theorem pX8_both : plainFor mX8_both.1 = true := by decide +kernel
abbrev mX8_either : zM := (yX8_either, cX8_either, 3, (some (.object "FollowTheSun$Node")), none)
theorem nX8_either : zNm mX8_either 1 := ⟨by decide +kernel, by decide +kernel, by decide +kernel⟩
theorem pX8_either : plainFor mX8_either.1 = true := by decide +kernel
abbrev mX8_held : zM := (yX8_held, cX8_held, 4, (some (.object "FollowTheSun$Node")), none)
theorem nX8_held : zNm mX8_held 1 := ⟨by decide +kernel, by decide +kernel, by decide +kernel⟩
theorem pX8_held : plainFor mX8_held.1 = true := by decide +kernel
abbrev mX8_here : zM := (yX8_here, cX8_here, 1, (some .int), none)
theorem nX8_here : zNm mX8_here 0 := ⟨by decide +kernel, by decide +kernel, by decide +kernel⟩
theorem pX8_here : plainFor mX8_here.1 = true := by decide +kernel
abbrev mX8_init : zM := (yX8_init, cX8_init, 2, none, none)
theorem nX8_init : zNm mX8_init 1 := ⟨by decide +kernel, by decide +kernel, by decide +kernel⟩
theorem pX8_init : plainFor mX8_init.1 = true := by decide +kernel
abbrev mX8_isSign : zM := (yX8_isSign, cX8_isSign, 2, (some .boolean), none)
theorem nX8_isSign : zNm mX8_isSign 1 := ⟨by decide +kernel, by decide +kernel, by decide +kernel⟩
theorem pX8_isSign : plainFor mX8_isSign.1 = true := by decide +kernel
abbrev mX8_need : zM := (yX8_need, cX8_need, 2, none, none)
theorem nX8_need : zNm mX8_need 1 := ⟨by decide +kernel, by decide +kernel, by decide +kernel⟩
theorem pX8_need : plainFor mX8_need.1 = true := by decide +kernel
abbrev mX8_passes : zM := (yX8_passes, cX8_passes, 2, (some .boolean), none)
theorem nX8_passes : zNm mX8_passes 1 := ⟨by decide +kernel, by decide +kernel, by decide +kernel⟩
theorem pX8_passes : plainFor mX8_passes.1 = true := by decide +kernel
abbrev mX8_product : zM := (yX8_product, cX8_product, 3, (some (.object "FollowTheSun$Node")), none)
theorem nX8_product : zNm mX8_product 1 := ⟨by decide +kernel, by decide +kernel, by decide +kernel⟩
theorem pX8_product : plainFor mX8_product.1 = true := by decide +kernel
abbrev mX8_sum : zM := (yX8_sum, cX8_sum, 4, (some (.object "FollowTheSun$Node")), none)
theorem nX8_sum : zNm mX8_sum 1 := ⟨by decide +kernel, by decide +kernel, by decide +kernel⟩
theorem pX8_sum : plainFor mX8_sum.1 = true := by decide +kernel
abbrev mX8_thing : zM := (yX8_thing, cX8_thing, 4, (some (.object "FollowTheSun$Node")), none)
theorem nX8_thing : zNm mX8_thing 1 := ⟨by decide +kernel, by decide +kernel, by decide +kernel⟩
theorem pX8_thing : plainFor mX8_thing.1 = true := by decide +kernel
abbrev mX8_whole : zM := (yX8_whole, cX8_whole, 2, (some (.object "FollowTheSun$Node")), none)
theorem nX8_whole : zNm mX8_whole 0 := ⟨by decide +kernel, by decide +kernel, by decide +kernel⟩
theorem pX8_whole : plainFor mX8_whole.1 = true := by decide +kernel
abbrev mX9_init : zM := (yX9_init, cX9_init, 2, none, none)
theorem nX9_init : zNm mX9_init 1 := ⟨by decide +kernel, by decide +kernel, by decide +kernel⟩
theorem pX9_init : plainFor mX9_init.1 = true := by decide +kernel
abbrev mX9_value : zM := (yX9_value, cX9_value, 2, (some .int), none)
theorem nX9_value : zNm mX9_value 1 := ⟨by decide +kernel, by decide +kernel, by decide +kernel⟩
theorem pX9_value : plainFor mX9_value.1 = true := by decide +kernel
theorem fX1_7_2 : zFL RX1 7 2 4 true := ⟨_, _, _, _, zkl2, by decide, rfl, q183, Or.inl rfl, fun _ => Or.inr trivial⟩
theorem fX1_13_1 : zFL RX1 13 1 5 false := ⟨_, _, _, _, zkl1, by decide, rfl, q150, Or.inl rfl, fun _ => Or.inr trivial⟩
theorem fX1_19_1 : zFL RX1 19 1 1 false := ⟨_, _, _, _, zkl1, by decide, rfl, q141, Or.inl rfl, fun _ => Or.inr trivial⟩
theorem fX1_23_0 : zFL RX1 23 0 6 true := ⟨_, _, _, _, zkl0, by decide, rfl, q271, Or.inl rfl, fun _ => Or.inr trivial⟩
theorem wX1_23_0 : zFW RX1 23 0 6 := ⟨_, _, _, _, zkl0, by decide, rfl, q271, Or.inl rfl, rfl⟩
theorem fX1_47_0 : zFL RX1 47 0 0 true := ⟨_, _, _, _, zkl0, by decide, rfl, q262, Or.inl rfl, fun _ => Or.inr trivial⟩
theorem wX1_47_0 : zFW RX1 47 0 0 := ⟨_, _, _, _, zkl0, by decide, rfl, q262, Or.inl rfl, rfl⟩
theorem fX1_52_0 : zFL RX1 52 0 2 true := ⟨_, _, _, _, zkl0, by decide, rfl, q267, Or.inl rfl, fun _ => Or.inr trivial⟩
theorem wX1_52_0 : zFW RX1 52 0 2 := ⟨_, _, _, _, zkl0, by decide, rfl, q267, Or.inl rfl, rfl⟩
theorem fX1_56_0 : zFL RX1 56 0 3 true := ⟨_, _, _, _, zkl0, by decide, rfl, q268, Or.inl rfl, fun _ => Or.inr trivial⟩
theorem wX1_56_0 : zFW RX1 56 0 3 := ⟨_, _, _, _, zkl0, by decide, rfl, q268, Or.inl rfl, rfl⟩
theorem fX1_62_0 : zFL RX1 62 0 4 true := ⟨_, _, _, _, zkl0, by decide, rfl, q269, Or.inl rfl, fun _ => Or.inr trivial⟩
theorem wX1_62_0 : zFW RX1 62 0 4 := ⟨_, _, _, _, zkl0, by decide, rfl, q269, Or.inl rfl, rfl⟩
theorem fX1_66_0 : zFL RX1 66 0 5 true := ⟨_, _, _, _, zkl0, by decide, rfl, q270, Or.inl rfl, fun _ => Or.inr trivial⟩
theorem wX1_66_0 : zFW RX1 66 0 5 := ⟨_, _, _, _, zkl0, by decide, rfl, q270, Or.inl rfl, rfl⟩
theorem fX1_70_0 : zFL RX1 70 0 7 true := ⟨_, _, _, _, zkl0, by decide, rfl, q273, Or.inl rfl, fun _ => Or.inr trivial⟩
theorem wX1_70_0 : zFW RX1 70 0 7 := ⟨_, _, _, _, zkl0, by decide, rfl, q273, Or.inl rfl, rfl⟩
theorem fX1_74_0 : zFL RX1 74 0 9 true := ⟨_, _, _, _, zkl0, by decide, rfl, q276, Or.inl rfl, fun _ => Or.inr trivial⟩
theorem wX1_74_0 : zFW RX1 74 0 9 := ⟨_, _, _, _, zkl0, by decide, rfl, q276, Or.inl rfl, rfl⟩
theorem fX1_78_0 : zFL RX1 78 0 11 true := ⟨_, _, _, _, zkl0, by decide, rfl, q279, Or.inl rfl, fun _ => Or.inr trivial⟩
theorem wX1_78_0 : zFW RX1 78 0 11 := ⟨_, _, _, _, zkl0, by decide, rfl, q279, Or.inl rfl, rfl⟩
theorem fX1_81_0 : zFL RX1 81 0 12 true := ⟨_, _, _, _, zkl0, by decide, rfl, q280, Or.inl rfl, fun _ => Or.inr trivial⟩
theorem wX1_81_0 : zFW RX1 81 0 12 := ⟨_, _, _, _, zkl0, by decide, rfl, q280, Or.inl rfl, rfl⟩
theorem fX1_84_0 : zFL RX1 84 0 13 true := ⟨_, _, _, _, zkl0, by decide, rfl, q281, Or.inl rfl, fun _ => Or.inr trivial⟩
theorem wX1_84_0 : zFW RX1 84 0 13 := ⟨_, _, _, _, zkl0, by decide, rfl, q281, Or.inl rfl, rfl⟩
theorem fX1_87_0 : zFL RX1 87 0 15 true := ⟨_, _, _, _, zkl0, by decide, rfl, q283, Or.inl rfl, fun _ => Or.inr trivial⟩
theorem wX1_87_0 : zFW RX1 87 0 15 := ⟨_, _, _, _, zkl0, by decide, rfl, q283, Or.inl rfl, rfl⟩
theorem fX1_91_0 : zFL RX1 91 0 16 true := ⟨_, _, _, _, zkl0, by decide, rfl, q284, Or.inl rfl, fun _ => Or.inr trivial⟩
theorem wX1_91_0 : zFW RX1 91 0 16 := ⟨_, _, _, _, zkl0, by decide, rfl, q284, Or.inl rfl, rfl⟩
theorem fX1_94_0 : zFL RX1 94 0 10 false := ⟨_, _, _, _, zkl0, by decide, rfl, q277, Or.inl rfl, fun _ => Or.inr trivial⟩
theorem fX1_105_0 : zFL RX1 105 0 1 false := ⟨_, _, _, _, zkl0, by decide, rfl, q264, Or.inl rfl, fun _ => Or.inr trivial⟩
theorem fX1_127_1 : zFL RX1 127 1 0 true := ⟨_, _, _, _, zkl1, by decide, rfl, q138, Or.inl rfl, fun _ => Or.inr trivial⟩
theorem fX1_131_5 : zFL RX1 131 5 6 false := ⟨_, _, _, _, zkl5, by decide, rfl, q356, Or.inl rfl, fun _ => Or.inr trivial⟩
theorem fX1_134_5 : zFL RX1 134 5 7 false := ⟨_, _, _, _, zkl5, by decide, rfl, q358, Or.inl rfl, fun _ => Or.inr trivial⟩
theorem fX1_137_5 : zFL RX1 137 5 8 true := ⟨_, _, _, _, zkl5, by decide, rfl, q360, Or.inl rfl, fun _ => Or.inr trivial⟩
theorem fX1_141_1 : zFL RX1 141 1 4 true := ⟨_, _, _, _, zkl1, by decide, rfl, q148, Or.inl rfl, fun _ => Or.inr trivial⟩
theorem fX1_172_1 : zFL RX1 172 1 2 false := ⟨_, _, _, _, zkl1, by decide, rfl, q143, Or.inl rfl, fun _ => Or.inr trivial⟩
theorem fX1_175_1 : zFL RX1 175 1 3 false := ⟨_, _, _, _, zkl1, by decide, rfl, q145, Or.inl rfl, fun _ => Or.inr trivial⟩
theorem fX1_197_0 : zFL RX1 197 0 8 false := ⟨_, _, _, _, zkl0, by decide, rfl, q275, Or.inl rfl, fun _ => Or.inr trivial⟩
theorem fX1_225_2 : zFL RX1 225 2 0 false := ⟨_, _, _, _, zkl2, by decide, rfl, q174, Or.inl rfl, fun _ => Or.inr trivial⟩
theorem fX1_232_2 : zFL RX1 232 2 5 true := ⟨_, _, _, _, zkl2, by decide, rfl, q186, Or.inl rfl, fun _ => Or.inr trivial⟩
theorem fX1_235_2 : zFL RX1 235 2 6 true := ⟨_, _, _, _, zkl2, by decide, rfl, q188, Or.inl rfl, fun _ => Or.inr trivial⟩
theorem fX1_238_2 : zFL RX1 238 2 8 true := ⟨_, _, _, _, zkl2, by decide, rfl, q192, Or.inl rfl, fun _ => Or.inr trivial⟩
theorem fX1_241_2 : zFL RX1 241 2 7 true := ⟨_, _, _, _, zkl2, by decide, rfl, q190, Or.inl rfl, fun _ => Or.inr trivial⟩
theorem fX1_244_2 : zFL RX1 244 2 9 true := ⟨_, _, _, _, zkl2, by decide, rfl, q194, Or.inl rfl, fun _ => Or.inr trivial⟩
theorem fX1_247_2 : zFL RX1 247 2 10 true := ⟨_, _, _, _, zkl2, by decide, rfl, q196, Or.inl rfl, fun _ => Or.inr trivial⟩
theorem fX1_250_2 : zFL RX1 250 2 11 true := ⟨_, _, _, _, zkl2, by decide, rfl, q198, Or.inl rfl, fun _ => Or.inr trivial⟩
theorem fX1_260_2 : zFL RX1 260 2 2 false := ⟨_, _, _, _, zkl2, by decide, rfl, q178, Or.inl rfl, fun _ => Or.inr trivial⟩
theorem fX1_263_2 : zFL RX1 263 2 3 false := ⟨_, _, _, _, zkl2, by decide, rfl, q180, Or.inl rfl, fun _ => Or.inr trivial⟩
theorem fX1_265_2 : zFL RX1 265 2 1 false := ⟨_, _, _, _, zkl2, by decide, rfl, q176, Or.inl rfl, fun _ => Or.inr trivial⟩
theorem fX1_284_2 : zFL RX1 284 2 13 false := ⟨_, _, _, _, zkl2, by decide, rfl, q202, Or.inl rfl, fun _ => Or.inr trivial⟩
theorem fX1_290_6 : zFL RX1 290 6 0 true := ⟨_, _, _, _, zkl6, by decide, rfl, q563, Or.inl rfl, fun _ => Or.inr trivial⟩
theorem fX1_293_2 : zFL RX1 293 2 14 true := ⟨_, _, _, _, zkl2, by decide, rfl, q204, Or.inl rfl, fun _ => Or.inr trivial⟩
theorem fX1_296_5 : zFL RX1 296 5 4 true := ⟨_, _, _, _, zkl5, by decide, rfl, q351, Or.inl rfl, fun _ => Or.inr trivial⟩
theorem fX1_313_14 : zFL RX1 313 14 3 false := ⟨_, _, _, _, zkl14, by decide, rfl, q945, Or.inl rfl, fun _ => Or.inr trivial⟩
theorem fX1_313_15 : zFL RX1 313 15 3 false := ⟨_, _, _, _, zkl15, by decide, rfl, q945, Or.inl rfl, fun _ => Or.inr trivial⟩
theorem fX1_331_6 : zFL RX1 331 6 1 true := ⟨_, _, _, _, zkl6, by decide, rfl, q568, Or.inl rfl, fun _ => Or.inr trivial⟩
theorem fX1_334_6 : zFL RX1 334 6 3 true := ⟨_, _, _, _, zkl6, by decide, rfl, q575, Or.inl rfl, fun _ => Or.inr trivial⟩
theorem fX1_337_6 : zFL RX1 337 6 4 true := ⟨_, _, _, _, zkl6, by decide, rfl, q578, Or.inl rfl, fun _ => Or.inr trivial⟩
theorem fX1_352_0 : zFL RX1 352 0 14 false := ⟨_, _, _, _, zkl0, by decide, rfl, q282, Or.inl rfl, fun _ => Or.inr trivial⟩
theorem fX1_370_2 : zFL RX1 370 2 12 true := ⟨_, _, _, _, zkl2, by decide, rfl, q200, Or.inl rfl, fun _ => Or.inr trivial⟩
theorem fX1_390_6 : zFL RX1 390 6 2 true := ⟨_, _, _, _, zkl6, by decide, rfl, q571, Or.inl rfl, fun _ => Or.inr trivial⟩
theorem fX1_399_5 : zFL RX1 399 5 0 true := ⟨_, _, _, _, zkl5, by decide, rfl, q339, Or.inl rfl, fun _ => Or.inr trivial⟩
theorem fX1_402_5 : zFL RX1 402 5 1 true := ⟨_, _, _, _, zkl5, by decide, rfl, q341, Or.inl rfl, fun _ => Or.inr trivial⟩
theorem fX1_405_5 : zFL RX1 405 5 2 true := ⟨_, _, _, _, zkl5, by decide, rfl, q343, Or.inl rfl, fun _ => Or.inr trivial⟩
theorem fX1_406_5 : zFL RX1 406 5 3 true := ⟨_, _, _, _, zkl5, by decide, rfl, q348, Or.inl rfl, fun _ => Or.inr trivial⟩
theorem fX1_407_5 : zFL RX1 407 5 5 true := ⟨_, _, _, _, zkl5, by decide, rfl, q354, Or.inl rfl, fun _ => Or.inr trivial⟩
theorem fX4_9_3 : zFL RX4 9 3 0 false := ⟨_, _, _, _, zkl3, by decide, rfl, q246, Or.inl rfl, fun _ => Or.inr trivial⟩
theorem fX4_15_3 : zFL RX4 15 3 3 false := ⟨_, _, _, _, zkl3, by decide, rfl, q249, Or.inl rfl, fun _ => Or.inr trivial⟩
theorem fX4_19_3 : zFL RX4 19 3 1 false := ⟨_, _, _, _, zkl3, by decide, rfl, q247, Or.inl rfl, fun _ => Or.inr trivial⟩
theorem fX4_23_3 : zFL RX4 23 3 2 false := ⟨_, _, _, _, zkl3, by decide, rfl, q248, Or.inl rfl, fun _ => Or.inr trivial⟩
theorem fX4_26_2 : zFL RX4 26 2 4 true := ⟨_, _, _, _, zkl2, by decide, rfl, q182, Or.inl rfl, fun _ => Or.inr trivial⟩
theorem fX4_32_2 : zFL RX4 32 2 0 false := ⟨_, _, _, _, zkl2, by decide, rfl, q173, Or.inl rfl, fun _ => Or.inr trivial⟩
theorem fX4_35_1 : zFL RX4 35 1 4 true := ⟨_, _, _, _, zkl1, by decide, rfl, q147, Or.inl rfl, fun _ => Or.inr trivial⟩
theorem fX4_48_1 : zFL RX4 48 1 0 true := ⟨_, _, _, _, zkl1, by decide, rfl, q135, Or.inl rfl, fun _ => Or.inr trivial⟩
theorem fX4_66_6 : zFL RX4 66 6 0 true := ⟨_, _, _, _, zkl6, by decide, rfl, q561, Or.inl rfl, fun _ => Or.inr trivial⟩
theorem fX4_75_6 : zFL RX4 75 6 5 true := ⟨_, _, _, _, zkl6, by decide, rfl, q581, Or.inl rfl, fun _ => Or.inr trivial⟩
theorem fX4_78_6 : zFL RX4 78 6 3 true := ⟨_, _, _, _, zkl6, by decide, rfl, q573, Or.inl rfl, fun _ => Or.inr trivial⟩
theorem fX4_81_5 : zFL RX4 81 5 3 true := ⟨_, _, _, _, zkl5, by decide, rfl, q346, Or.inl rfl, fun _ => Or.inr trivial⟩
theorem fX4_84_2 : zFL RX4 84 2 5 true := ⟨_, _, _, _, zkl2, by decide, rfl, q185, Or.inl rfl, fun _ => Or.inr trivial⟩
theorem fX17_3_15 : zFL RX17 3 15 7 true := ⟨_, _, _, _, zkl15, by decide, rfl, q1042, Or.inl rfl, fun _ => Or.inr trivial⟩
theorem wX17_3_15 : zFW RX17 3 15 7 := ⟨_, _, _, _, zkl15, by decide, rfl, q1042, Or.inl rfl, rfl⟩
theorem fX17_15_15 : zFL RX17 15 15 6 true := ⟨_, _, _, _, zkl15, by decide, rfl, q1041, Or.inl rfl, fun _ => Or.inr trivial⟩
theorem wX17_15_15 : zFW RX17 15 15 6 := ⟨_, _, _, _, zkl15, by decide, rfl, q1041, Or.inl rfl, rfl⟩
theorem fX17_28_15 : zFL RX17 28 15 0 true := ⟨_, _, _, _, zkl15, by decide, rfl, q934, Or.inr q935, fun _ => Or.inr trivial⟩
theorem fX17_32_6 : zFL RX17 32 6 1 true := ⟨_, _, _, _, zkl6, by decide, rfl, q566, Or.inl rfl, fun _ => Or.inr trivial⟩
theorem fX17_37_15 : zFL RX17 37 15 1 true := ⟨_, _, _, _, zkl15, by decide, rfl, q939, Or.inr q940, fun _ => Or.inr trivial⟩
theorem fX17_48_1 : zFL RX17 48 1 0 true := ⟨_, _, _, _, zkl1, by decide, rfl, q134, Or.inl rfl, fun _ => Or.inr trivial⟩
theorem fX17_54_15 : zFL RX17 54 15 2 true := ⟨_, _, _, _, zkl15, by decide, rfl, q942, Or.inr q943, fun _ => Or.inr trivial⟩
theorem fX17_57_5 : zFL RX17 57 5 3 true := ⟨_, _, _, _, zkl5, by decide, rfl, q345, Or.inl rfl, fun _ => Or.inr trivial⟩
theorem fX14_7_13 : zFL RX14 7 13 0 true := ⟨_, _, _, _, zkl13, by decide, rfl, q744, Or.inl rfl, fun _ => Or.inr trivial⟩
theorem wX14_7_13 : zFW RX14 7 13 0 := ⟨_, _, _, _, zkl13, by decide, rfl, q744, Or.inl rfl, rfl⟩
theorem fX14_13_13 : zFL RX14 13 13 1 true := ⟨_, _, _, _, zkl13, by decide, rfl, q745, Or.inl rfl, fun _ => Or.inr trivial⟩
theorem wX14_13_13 : zFW RX14 13 13 1 := ⟨_, _, _, _, zkl13, by decide, rfl, q745, Or.inl rfl, rfl⟩
theorem fX14_17_13 : zFL RX14 17 13 2 true := ⟨_, _, _, _, zkl13, by decide, rfl, q746, Or.inl rfl, fun _ => Or.inr trivial⟩
theorem wX14_17_13 : zFW RX14 17 13 2 := ⟨_, _, _, _, zkl13, by decide, rfl, q746, Or.inl rfl, rfl⟩
theorem fX9_7_8 : zFL RX9 7 8 0 true := ⟨_, _, _, _, zkl8, by decide, rfl, q678, Or.inl rfl, fun _ => Or.inr trivial⟩
theorem wX9_7_8 : zFW RX9 7 8 0 := ⟨_, _, _, _, zkl8, by decide, rfl, q678, Or.inl rfl, rfl⟩
theorem fX9_7_9 : zFL RX9 7 9 0 true := ⟨_, _, _, _, zkl9, by decide, rfl, q678, Or.inl rfl, fun _ => Or.inr trivial⟩
theorem wX9_7_9 : zFW RX9 7 9 0 := ⟨_, _, _, _, zkl9, by decide, rfl, q678, Or.inl rfl, rfl⟩
theorem fX12_7_11 : zFL RX12 7 11 0 true := ⟨_, _, _, _, zkl11, by decide, rfl, q720, Or.inl rfl, fun _ => Or.inr trivial⟩
theorem wX12_7_11 : zFW RX12 7 11 0 := ⟨_, _, _, _, zkl11, by decide, rfl, q720, Or.inl rfl, rfl⟩
theorem fX6_9_5 : zFL RX6 9 5 8 true := ⟨_, _, _, _, zkl5, by decide, rfl, q359, Or.inl rfl, fun _ => Or.inr trivial⟩
theorem wX6_9_5 : zFW RX6 9 5 8 := ⟨_, _, _, _, zkl5, by decide, rfl, q359, Or.inl rfl, rfl⟩
theorem fX6_15_5 : zFL RX6 15 5 0 true := ⟨_, _, _, _, zkl5, by decide, rfl, q338, Or.inl rfl, fun _ => Or.inr trivial⟩
theorem wX6_15_5 : zFW RX6 15 5 0 := ⟨_, _, _, _, zkl5, by decide, rfl, q338, Or.inl rfl, rfl⟩
theorem fX6_19_5 : zFL RX6 19 5 1 true := ⟨_, _, _, _, zkl5, by decide, rfl, q340, Or.inl rfl, fun _ => Or.inr trivial⟩
theorem wX6_19_5 : zFW RX6 19 5 1 := ⟨_, _, _, _, zkl5, by decide, rfl, q340, Or.inl rfl, rfl⟩
theorem fX6_22_5 : zFL RX6 22 5 2 true := ⟨_, _, _, _, zkl5, by decide, rfl, q342, Or.inl rfl, fun _ => Or.inr trivial⟩
theorem wX6_22_5 : zFW RX6 22 5 2 := ⟨_, _, _, _, zkl5, by decide, rfl, q342, Or.inl rfl, rfl⟩
theorem fX6_25_5 : zFL RX6 25 5 3 true := ⟨_, _, _, _, zkl5, by decide, rfl, q344, Or.inl rfl, fun _ => Or.inr trivial⟩
theorem wX6_25_5 : zFW RX6 25 5 3 := ⟨_, _, _, _, zkl5, by decide, rfl, q344, Or.inl rfl, rfl⟩
theorem fX6_28_5 : zFL RX6 28 5 4 true := ⟨_, _, _, _, zkl5, by decide, rfl, q349, Or.inl rfl, fun _ => Or.inr trivial⟩
theorem wX6_28_5 : zFW RX6 28 5 4 := ⟨_, _, _, _, zkl5, by decide, rfl, q349, Or.inl rfl, rfl⟩
theorem fX6_31_5 : zFL RX6 31 5 5 true := ⟨_, _, _, _, zkl5, by decide, rfl, q352, Or.inl rfl, fun _ => Or.inr trivial⟩
theorem wX6_31_5 : zFW RX6 31 5 5 := ⟨_, _, _, _, zkl5, by decide, rfl, q352, Or.inl rfl, rfl⟩
theorem fX6_34_5 : zFL RX6 34 5 6 false := ⟨_, _, _, _, zkl5, by decide, rfl, q355, Or.inl rfl, fun _ => Or.inr trivial⟩
theorem fX6_37_5 : zFL RX6 37 5 7 false := ⟨_, _, _, _, zkl5, by decide, rfl, q357, Or.inl rfl, fun _ => Or.inr trivial⟩
theorem fX7_7_6 : zFL RX7 7 6 0 true := ⟨_, _, _, _, zkl6, by decide, rfl, q559, Or.inl rfl, fun _ => Or.inr trivial⟩
theorem wX7_7_6 : zFW RX7 7 6 0 := ⟨_, _, _, _, zkl6, by decide, rfl, q559, Or.inl rfl, rfl⟩
theorem fX7_13_6 : zFL RX7 13 6 1 true := ⟨_, _, _, _, zkl6, by decide, rfl, q564, Or.inl rfl, fun _ => Or.inr trivial⟩
theorem wX7_13_6 : zFW RX7 13 6 1 := ⟨_, _, _, _, zkl6, by decide, rfl, q564, Or.inl rfl, rfl⟩
theorem fX7_16_6 : zFL RX7 16 6 2 true := ⟨_, _, _, _, zkl6, by decide, rfl, q569, Or.inl rfl, fun _ => Or.inr trivial⟩
theorem wX7_16_6 : zFW RX7 16 6 2 := ⟨_, _, _, _, zkl6, by decide, rfl, q569, Or.inl rfl, rfl⟩
theorem fX7_19_6 : zFL RX7 19 6 5 true := ⟨_, _, _, _, zkl6, by decide, rfl, q579, Or.inl rfl, fun _ => Or.inr trivial⟩
theorem wX7_19_6 : zFW RX7 19 6 5 := ⟨_, _, _, _, zkl6, by decide, rfl, q579, Or.inl rfl, rfl⟩
theorem fX7_22_6 : zFL RX7 22 6 3 true := ⟨_, _, _, _, zkl6, by decide, rfl, q572, Or.inl rfl, fun _ => Or.inr trivial⟩
theorem wX7_22_6 : zFW RX7 22 6 3 := ⟨_, _, _, _, zkl6, by decide, rfl, q572, Or.inl rfl, rfl⟩
theorem fX7_25_6 : zFL RX7 25 6 4 true := ⟨_, _, _, _, zkl6, by decide, rfl, q576, Or.inl rfl, fun _ => Or.inr trivial⟩
theorem wX7_25_6 : zFW RX7 25 6 4 := ⟨_, _, _, _, zkl6, by decide, rfl, q576, Or.inl rfl, rfl⟩
theorem fX8_3_7 : zFL RX8 3 7 3 true := ⟨_, _, _, _, zkl7, by decide, rfl, q623, Or.inl rfl, fun _ => Or.inr trivial⟩
theorem wX8_3_7 : zFW RX8 3 7 3 := ⟨_, _, _, _, zkl7, by decide, rfl, q623, Or.inl rfl, rfl⟩
theorem fX8_19_7 : zFL RX8 19 7 0 true := ⟨_, _, _, _, zkl7, by decide, rfl, q620, Or.inl rfl, fun _ => Or.inr trivial⟩
theorem wX8_19_7 : zFW RX8 19 7 0 := ⟨_, _, _, _, zkl7, by decide, rfl, q620, Or.inl rfl, rfl⟩
theorem fX8_28_7 : zFL RX8 28 7 1 true := ⟨_, _, _, _, zkl7, by decide, rfl, q621, Or.inl rfl, fun _ => Or.inr trivial⟩
theorem wX8_28_7 : zFW RX8 28 7 1 := ⟨_, _, _, _, zkl7, by decide, rfl, q621, Or.inl rfl, rfl⟩
theorem fX8_31_7 : zFL RX8 31 7 2 false := ⟨_, _, _, _, zkl7, by decide, rfl, q622, Or.inl rfl, fun _ => Or.inr trivial⟩
theorem fX15_3_14 : zFL RX15 3 14 5 true := ⟨_, _, _, _, zkl14, by decide, rfl, q947, Or.inl rfl, fun _ => Or.inr trivial⟩
theorem wX15_3_14 : zFW RX15 3 14 5 := ⟨_, _, _, _, zkl14, by decide, rfl, q947, Or.inl rfl, rfl⟩
theorem fX15_3_15 : zFL RX15 3 15 5 true := ⟨_, _, _, _, zkl15, by decide, rfl, q947, Or.inl rfl, fun _ => Or.inr trivial⟩
theorem wX15_3_15 : zFW RX15 3 15 5 := ⟨_, _, _, _, zkl15, by decide, rfl, q947, Or.inl rfl, rfl⟩
theorem fX15_15_14 : zFL RX15 15 14 3 false := ⟨_, _, _, _, zkl14, by decide, rfl, q944, Or.inl rfl, fun _ => Or.inr trivial⟩
theorem fX15_15_15 : zFL RX15 15 15 3 false := ⟨_, _, _, _, zkl15, by decide, rfl, q944, Or.inl rfl, fun _ => Or.inr trivial⟩
theorem fX15_23_14 : zFL RX15 23 14 0 true := ⟨_, _, _, _, zkl14, by decide, rfl, q931, Or.inl rfl, fun _ => Or.inr trivial⟩
theorem wX15_23_14 : zFW RX15 23 14 0 := ⟨_, _, _, _, zkl14, by decide, rfl, q931, Or.inl rfl, rfl⟩
theorem fX15_23_15 : zFL RX15 23 15 0 true := ⟨_, _, _, _, zkl15, by decide, rfl, q931, Or.inl rfl, fun _ => Or.inr trivial⟩
theorem wX15_23_15 : zFW RX15 23 15 0 := ⟨_, _, _, _, zkl15, by decide, rfl, q931, Or.inl rfl, rfl⟩
theorem fX15_27_14 : zFL RX15 27 14 1 true := ⟨_, _, _, _, zkl14, by decide, rfl, q936, Or.inl rfl, fun _ => Or.inr trivial⟩
theorem wX15_27_14 : zFW RX15 27 14 1 := ⟨_, _, _, _, zkl14, by decide, rfl, q936, Or.inl rfl, rfl⟩
theorem fX15_27_15 : zFL RX15 27 15 1 true := ⟨_, _, _, _, zkl15, by decide, rfl, q936, Or.inl rfl, fun _ => Or.inr trivial⟩
theorem wX15_27_15 : zFW RX15 27 15 1 := ⟨_, _, _, _, zkl15, by decide, rfl, q936, Or.inl rfl, rfl⟩
theorem fX15_30_14 : zFL RX15 30 14 2 true := ⟨_, _, _, _, zkl14, by decide, rfl, q941, Or.inl rfl, fun _ => Or.inr trivial⟩
theorem wX15_30_14 : zFW RX15 30 14 2 := ⟨_, _, _, _, zkl14, by decide, rfl, q941, Or.inl rfl, rfl⟩
theorem fX15_30_15 : zFL RX15 30 15 2 true := ⟨_, _, _, _, zkl15, by decide, rfl, q941, Or.inl rfl, fun _ => Or.inr trivial⟩
theorem wX15_30_15 : zFW RX15 30 15 2 := ⟨_, _, _, _, zkl15, by decide, rfl, q941, Or.inl rfl, rfl⟩
theorem fX15_34_6 : zFL RX15 34 6 5 true := ⟨_, _, _, _, zkl6, by decide, rfl, q580, Or.inl rfl, fun _ => Or.inr trivial⟩
theorem fX15_43_6 : zFL RX15 43 6 0 true := ⟨_, _, _, _, zkl6, by decide, rfl, q560, Or.inl rfl, fun _ => Or.inr trivial⟩
theorem fX15_62_14 : zFL RX15 62 14 4 false := ⟨_, _, _, _, zkl14, by decide, rfl, q946, Or.inl rfl, fun _ => Or.inr trivial⟩
theorem fX15_62_15 : zFL RX15 62 15 4 false := ⟨_, _, _, _, zkl15, by decide, rfl, q946, Or.inl rfl, fun _ => Or.inr trivial⟩
theorem fX15_65_1 : zFL RX15 65 1 1 false := ⟨_, _, _, _, zkl1, by decide, rfl, q140, Or.inl rfl, fun _ => Or.inr trivial⟩
theorem fX15_72_1 : zFL RX15 72 1 0 true := ⟨_, _, _, _, zkl1, by decide, rfl, q136, Or.inl rfl, fun _ => Or.inr trivial⟩
theorem fX13_7_12 : zFL RX13 7 12 0 true := ⟨_, _, _, _, zkl12, by decide, rfl, q734, Or.inl rfl, fun _ => Or.inr trivial⟩
theorem wX13_7_12 : zFW RX13 7 12 0 := ⟨_, _, _, _, zkl12, by decide, rfl, q734, Or.inl rfl, rfl⟩
theorem fX16_3_14 : zFL RX16 3 14 6 true := ⟨_, _, _, _, zkl14, by decide, rfl, q930, Or.inl rfl, fun _ => Or.inr trivial⟩
theorem wX16_3_14 : zFW RX16 3 14 6 := ⟨_, _, _, _, zkl14, by decide, rfl, q930, Or.inl rfl, rfl⟩
theorem fX16_15_14 : zFL RX16 15 14 0 true := ⟨_, _, _, _, zkl14, by decide, rfl, q932, Or.inr q933, fun _ => Or.inr trivial⟩
theorem fX16_19_6 : zFL RX16 19 6 1 true := ⟨_, _, _, _, zkl6, by decide, rfl, q565, Or.inl rfl, fun _ => Or.inr trivial⟩
theorem fX16_25_14 : zFL RX16 25 14 1 true := ⟨_, _, _, _, zkl14, by decide, rfl, q937, Or.inr q938, fun _ => Or.inr trivial⟩
theorem fX3_3_2 : zFL RX3 3 2 15 true := ⟨_, _, _, _, zkl2, by decide, rfl, q205, Or.inl rfl, fun _ => Or.inr trivial⟩
theorem wX3_3_2 : zFW RX3 3 2 15 := ⟨_, _, _, _, zkl2, by decide, rfl, q205, Or.inl rfl, rfl⟩
theorem fX3_15_2 : zFL RX3 15 2 4 true := ⟨_, _, _, _, zkl2, by decide, rfl, q181, Or.inl rfl, fun _ => Or.inr trivial⟩
theorem wX3_15_2 : zFW RX3 15 2 4 := ⟨_, _, _, _, zkl2, by decide, rfl, q181, Or.inl rfl, rfl⟩
theorem fX3_19_2 : zFL RX3 19 2 5 true := ⟨_, _, _, _, zkl2, by decide, rfl, q184, Or.inl rfl, fun _ => Or.inr trivial⟩
theorem wX3_19_2 : zFW RX3 19 2 5 := ⟨_, _, _, _, zkl2, by decide, rfl, q184, Or.inl rfl, rfl⟩
theorem fX3_22_2 : zFL RX3 22 2 6 true := ⟨_, _, _, _, zkl2, by decide, rfl, q187, Or.inl rfl, fun _ => Or.inr trivial⟩
theorem wX3_22_2 : zFW RX3 22 2 6 := ⟨_, _, _, _, zkl2, by decide, rfl, q187, Or.inl rfl, rfl⟩
theorem fX3_25_2 : zFL RX3 25 2 7 true := ⟨_, _, _, _, zkl2, by decide, rfl, q189, Or.inl rfl, fun _ => Or.inr trivial⟩
theorem wX3_25_2 : zFW RX3 25 2 7 := ⟨_, _, _, _, zkl2, by decide, rfl, q189, Or.inl rfl, rfl⟩
theorem fX3_28_2 : zFL RX3 28 2 8 true := ⟨_, _, _, _, zkl2, by decide, rfl, q191, Or.inl rfl, fun _ => Or.inr trivial⟩
theorem wX3_28_2 : zFW RX3 28 2 8 := ⟨_, _, _, _, zkl2, by decide, rfl, q191, Or.inl rfl, rfl⟩
theorem fX3_32_2 : zFL RX3 32 2 9 true := ⟨_, _, _, _, zkl2, by decide, rfl, q193, Or.inl rfl, fun _ => Or.inr trivial⟩
theorem wX3_32_2 : zFW RX3 32 2 9 := ⟨_, _, _, _, zkl2, by decide, rfl, q193, Or.inl rfl, rfl⟩
theorem fX3_35_2 : zFL RX3 35 2 10 true := ⟨_, _, _, _, zkl2, by decide, rfl, q195, Or.inl rfl, fun _ => Or.inr trivial⟩
theorem wX3_35_2 : zFW RX3 35 2 10 := ⟨_, _, _, _, zkl2, by decide, rfl, q195, Or.inl rfl, rfl⟩
theorem fX3_38_2 : zFL RX3 38 2 11 true := ⟨_, _, _, _, zkl2, by decide, rfl, q197, Or.inl rfl, fun _ => Or.inr trivial⟩
theorem wX3_38_2 : zFW RX3 38 2 11 := ⟨_, _, _, _, zkl2, by decide, rfl, q197, Or.inl rfl, rfl⟩
theorem fX3_41_2 : zFL RX3 41 2 12 true := ⟨_, _, _, _, zkl2, by decide, rfl, q199, Or.inl rfl, fun _ => Or.inr trivial⟩
theorem wX3_41_2 : zFW RX3 41 2 12 := ⟨_, _, _, _, zkl2, by decide, rfl, q199, Or.inl rfl, rfl⟩
theorem fX3_44_2 : zFL RX3 44 2 14 true := ⟨_, _, _, _, zkl2, by decide, rfl, q203, Or.inl rfl, fun _ => Or.inr trivial⟩
theorem wX3_44_2 : zFW RX3 44 2 14 := ⟨_, _, _, _, zkl2, by decide, rfl, q203, Or.inl rfl, rfl⟩
theorem fX3_47_2 : zFL RX3 47 2 0 false := ⟨_, _, _, _, zkl2, by decide, rfl, q172, Or.inl rfl, fun _ => Or.inr trivial⟩
theorem fX3_51_2 : zFL RX3 51 2 1 false := ⟨_, _, _, _, zkl2, by decide, rfl, q175, Or.inl rfl, fun _ => Or.inr trivial⟩
theorem fX3_54_2 : zFL RX3 54 2 2 false := ⟨_, _, _, _, zkl2, by decide, rfl, q177, Or.inl rfl, fun _ => Or.inr trivial⟩
theorem fX3_57_2 : zFL RX3 57 2 3 false := ⟨_, _, _, _, zkl2, by decide, rfl, q179, Or.inl rfl, fun _ => Or.inr trivial⟩
theorem fX3_77_6 : zFL RX3 77 6 5 true := ⟨_, _, _, _, zkl6, by decide, rfl, q582, Or.inl rfl, fun _ => Or.inr trivial⟩
theorem fX3_82_6 : zFL RX3 82 6 1 true := ⟨_, _, _, _, zkl6, by decide, rfl, q567, Or.inl rfl, fun _ => Or.inr trivial⟩
theorem fX3_85_6 : zFL RX3 85 6 2 true := ⟨_, _, _, _, zkl6, by decide, rfl, q570, Or.inl rfl, fun _ => Or.inr trivial⟩
theorem fX3_105_2 : zFL RX3 105 2 13 false := ⟨_, _, _, _, zkl2, by decide, rfl, q201, Or.inl rfl, fun _ => Or.inr trivial⟩
theorem fX3_112_1 : zFL RX3 112 1 0 true := ⟨_, _, _, _, zkl1, by decide, rfl, q137, Or.inl rfl, fun _ => Or.inr trivial⟩
theorem fX3_121_6 : zFL RX3 121 6 3 true := ⟨_, _, _, _, zkl6, by decide, rfl, q574, Or.inl rfl, fun _ => Or.inr trivial⟩
theorem fX3_124_6 : zFL RX3 124 6 0 true := ⟨_, _, _, _, zkl6, by decide, rfl, q562, Or.inl rfl, fun _ => Or.inr trivial⟩
theorem fX3_130_5 : zFL RX3 130 5 4 true := ⟨_, _, _, _, zkl5, by decide, rfl, q350, Or.inl rfl, fun _ => Or.inr trivial⟩
theorem fX3_145_5 : zFL RX3 145 5 3 true := ⟨_, _, _, _, zkl5, by decide, rfl, q347, Or.inl rfl, fun _ => Or.inr trivial⟩
theorem fX3_146_6 : zFL RX3 146 6 4 true := ⟨_, _, _, _, zkl6, by decide, rfl, q577, Or.inl rfl, fun _ => Or.inr trivial⟩
theorem fX3_153_1 : zFL RX3 153 1 5 false := ⟨_, _, _, _, zkl1, by decide, rfl, q151, Or.inl rfl, fun _ => Or.inr trivial⟩
theorem fX2_11_1 : zFL RX2 11 1 0 true := ⟨_, _, _, _, zkl1, by decide, rfl, q133, Or.inl rfl, fun _ => Or.inr trivial⟩
theorem wX2_11_1 : zFW RX2 11 1 0 := ⟨_, _, _, _, zkl1, by decide, rfl, q133, Or.inl rfl, rfl⟩
theorem fX2_17_1 : zFL RX2 17 1 2 false := ⟨_, _, _, _, zkl1, by decide, rfl, q142, Or.inl rfl, fun _ => Or.inr trivial⟩
theorem fX2_21_1 : zFL RX2 21 1 3 false := ⟨_, _, _, _, zkl1, by decide, rfl, q144, Or.inl rfl, fun _ => Or.inr trivial⟩
theorem fX2_26_1 : zFL RX2 26 1 4 true := ⟨_, _, _, _, zkl1, by decide, rfl, q146, Or.inl rfl, fun _ => Or.inr trivial⟩
theorem wX2_26_1 : zFW RX2 26 1 4 := ⟨_, _, _, _, zkl1, by decide, rfl, q146, Or.inl rfl, rfl⟩
theorem fX2_29_1 : zFL RX2 29 1 1 false := ⟨_, _, _, _, zkl1, by decide, rfl, q139, Or.inl rfl, fun _ => Or.inr trivial⟩
theorem fX2_32_1 : zFL RX2 32 1 5 false := ⟨_, _, _, _, zkl1, by decide, rfl, q149, Or.inl rfl, fun _ => Or.inr trivial⟩
theorem fX2_56_5 : zFL RX2 56 5 5 true := ⟨_, _, _, _, zkl5, by decide, rfl, q353, Or.inl rfl, fun _ => Or.inr trivial⟩
theorem fX5_3_4 : zFL RX5 3 4 0 false := ⟨_, _, _, _, zkl4, by decide, rfl, q1721, Or.inl rfl, fun _ => Or.inr trivial⟩
theorem fX5_7_4 : zFL RX5 7 4 2 true := ⟨_, _, _, _, zkl4, by decide, rfl, q1723, Or.inl rfl, fun _ => Or.inr trivial⟩
theorem wX5_7_4 : zFW RX5 7 4 2 := ⟨_, _, _, _, zkl4, by decide, rfl, q1723, Or.inl rfl, rfl⟩
theorem fX5_11_4 : zFL RX5 11 4 1 false := ⟨_, _, _, _, zkl4, by decide, rfl, q1722, Or.inl rfl, fun _ => Or.inr trivial⟩
theorem fX5_22_4 : zFL RX5 22 4 3 false := ⟨_, _, _, _, zkl4, by decide, rfl, q1724, Or.inl rfl, fun _ => Or.inr trivial⟩
theorem fX5_31_4 : zFL RX5 31 4 4 true := ⟨_, _, _, _, zkl4, by decide, rfl, q1725, Or.inl rfl, fun _ => Or.inr trivial⟩
theorem wX5_31_4 : zFW RX5 31 4 4 := ⟨_, _, _, _, zkl4, by decide, rfl, q1725, Or.inl rfl, rfl⟩
theorem fX5_35_4 : zFL RX5 35 4 5 true := ⟨_, _, _, _, zkl4, by decide, rfl, q1726, Or.inl rfl, fun _ => Or.inr trivial⟩
theorem wX5_35_4 : zFW RX5 35 4 5 := ⟨_, _, _, _, zkl4, by decide, rfl, q1726, Or.inl rfl, rfl⟩
theorem fX5_38_4 : zFL RX5 38 4 6 true := ⟨_, _, _, _, zkl4, by decide, rfl, q1727, Or.inl rfl, fun _ => Or.inr trivial⟩
theorem wX5_38_4 : zFW RX5 38 4 6 := ⟨_, _, _, _, zkl4, by decide, rfl, q1727, Or.inl rfl, rfl⟩
theorem fX5_41_4 : zFL RX5 41 4 7 true := ⟨_, _, _, _, zkl4, by decide, rfl, q1728, Or.inl rfl, fun _ => Or.inr trivial⟩
theorem wX5_41_4 : zFW RX5 41 4 7 := ⟨_, _, _, _, zkl4, by decide, rfl, q1728, Or.inl rfl, rfl⟩
theorem fX5_44_4 : zFL RX5 44 4 8 true := ⟨_, _, _, _, zkl4, by decide, rfl, q1729, Or.inl rfl, fun _ => Or.inr trivial⟩
theorem wX5_44_4 : zFW RX5 44 4 8 := ⟨_, _, _, _, zkl4, by decide, rfl, q1729, Or.inl rfl, rfl⟩
theorem fX5_47_4 : zFL RX5 47 4 9 true := ⟨_, _, _, _, zkl4, by decide, rfl, q1730, Or.inl rfl, fun _ => Or.inr trivial⟩
theorem wX5_47_4 : zFW RX5 47 4 9 := ⟨_, _, _, _, zkl4, by decide, rfl, q1730, Or.inl rfl, rfl⟩
theorem fX5_50_4 : zFL RX5 50 4 10 true := ⟨_, _, _, _, zkl4, by decide, rfl, q1731, Or.inl rfl, fun _ => Or.inr trivial⟩
theorem wX5_50_4 : zFW RX5 50 4 10 := ⟨_, _, _, _, zkl4, by decide, rfl, q1731, Or.inl rfl, rfl⟩
theorem fX5_53_4 : zFL RX5 53 4 11 true := ⟨_, _, _, _, zkl4, by decide, rfl, q1732, Or.inl rfl, fun _ => Or.inr trivial⟩
theorem wX5_53_4 : zFW RX5 53 4 11 := ⟨_, _, _, _, zkl4, by decide, rfl, q1732, Or.inl rfl, rfl⟩
theorem fX5_56_4 : zFL RX5 56 4 12 true := ⟨_, _, _, _, zkl4, by decide, rfl, q1733, Or.inl rfl, fun _ => Or.inr trivial⟩
theorem wX5_56_4 : zFW RX5 56 4 12 := ⟨_, _, _, _, zkl4, by decide, rfl, q1733, Or.inl rfl, rfl⟩
theorem fX5_60_4 : zFL RX5 60 4 13 true := ⟨_, _, _, _, zkl4, by decide, rfl, q1734, Or.inl rfl, fun _ => Or.inr trivial⟩
theorem wX5_60_4 : zFW RX5 60 4 13 := ⟨_, _, _, _, zkl4, by decide, rfl, q1734, Or.inl rfl, rfl⟩
theorem fX5_108_4 : zFL RX5 108 4 14 false := ⟨_, _, _, _, zkl4, by decide, rfl, q1735, Or.inl rfl, fun _ => Or.inr trivial⟩
theorem fX5_111_4 : zFL RX5 111 4 15 false := ⟨_, _, _, _, zkl4, by decide, rfl, q1736, Or.inl rfl, fun _ => Or.inr trivial⟩
theorem fX5_140_4 : zFL RX5 140 4 23 true := ⟨_, _, _, _, zkl4, by decide, rfl, q1744, Or.inl rfl, fun _ => Or.inr trivial⟩
theorem wX5_140_4 : zFW RX5 140 4 23 := ⟨_, _, _, _, zkl4, by decide, rfl, q1744, Or.inl rfl, rfl⟩
theorem fX5_143_4 : zFL RX5 143 4 20 true := ⟨_, _, _, _, zkl4, by decide, rfl, q1741, Or.inl rfl, fun _ => Or.inr trivial⟩
theorem wX5_143_4 : zFW RX5 143 4 20 := ⟨_, _, _, _, zkl4, by decide, rfl, q1741, Or.inl rfl, rfl⟩
theorem fX5_146_4 : zFL RX5 146 4 18 true := ⟨_, _, _, _, zkl4, by decide, rfl, q1739, Or.inl rfl, fun _ => Or.inr trivial⟩
theorem wX5_146_4 : zFW RX5 146 4 18 := ⟨_, _, _, _, zkl4, by decide, rfl, q1739, Or.inl rfl, rfl⟩
theorem fX5_151_4 : zFL RX5 151 4 16 false := ⟨_, _, _, _, zkl4, by decide, rfl, q1737, Or.inl rfl, fun _ => Or.inr trivial⟩
theorem fX5_154_4 : zFL RX5 154 4 17 true := ⟨_, _, _, _, zkl4, by decide, rfl, q1738, Or.inl rfl, fun _ => Or.inr trivial⟩
theorem wX5_154_4 : zFW RX5 154 4 17 := ⟨_, _, _, _, zkl4, by decide, rfl, q1738, Or.inl rfl, rfl⟩
theorem fX5_157_4 : zFL RX5 157 4 22 true := ⟨_, _, _, _, zkl4, by decide, rfl, q1743, Or.inl rfl, fun _ => Or.inr trivial⟩
theorem wX5_157_4 : zFW RX5 157 4 22 := ⟨_, _, _, _, zkl4, by decide, rfl, q1743, Or.inl rfl, rfl⟩
theorem fX5_160_4 : zFL RX5 160 4 19 true := ⟨_, _, _, _, zkl4, by decide, rfl, q1740, Or.inl rfl, fun _ => Or.inr trivial⟩
theorem wX5_160_4 : zFW RX5 160 4 19 := ⟨_, _, _, _, zkl4, by decide, rfl, q1740, Or.inl rfl, rfl⟩
theorem fX5_163_4 : zFL RX5 163 4 21 true := ⟨_, _, _, _, zkl4, by decide, rfl, q1742, Or.inl rfl, fun _ => Or.inr trivial⟩
theorem wX5_163_4 : zFW RX5 163 4 21 := ⟨_, _, _, _, zkl4, by decide, rfl, q1742, Or.inl rfl, rfl⟩
theorem fX5_170_4 : zFL RX5 170 4 29 false := ⟨_, _, _, _, zkl4, by decide, rfl, q1750, Or.inl rfl, fun _ => Or.inr trivial⟩
theorem fX5_173_4 : zFL RX5 173 4 28 true := ⟨_, _, _, _, zkl4, by decide, rfl, q1749, Or.inl rfl, fun _ => Or.inr trivial⟩
theorem wX5_173_4 : zFW RX5 173 4 28 := ⟨_, _, _, _, zkl4, by decide, rfl, q1749, Or.inl rfl, rfl⟩
theorem fX5_176_4 : zFL RX5 176 4 30 false := ⟨_, _, _, _, zkl4, by decide, rfl, q1751, Or.inl rfl, fun _ => Or.inr trivial⟩
theorem fX5_179_4 : zFL RX5 179 4 31 false := ⟨_, _, _, _, zkl4, by decide, rfl, q1752, Or.inl rfl, fun _ => Or.inr trivial⟩
theorem fX5_196_4 : zFL RX5 196 4 25 true := ⟨_, _, _, _, zkl4, by decide, rfl, q1746, Or.inl rfl, fun _ => Or.inr trivial⟩
theorem wX5_196_4 : zFW RX5 196 4 25 := ⟨_, _, _, _, zkl4, by decide, rfl, q1746, Or.inl rfl, rfl⟩
theorem fX5_199_4 : zFL RX5 199 4 26 true := ⟨_, _, _, _, zkl4, by decide, rfl, q1747, Or.inl rfl, fun _ => Or.inr trivial⟩
theorem wX5_199_4 : zFW RX5 199 4 26 := ⟨_, _, _, _, zkl4, by decide, rfl, q1747, Or.inl rfl, rfl⟩
theorem fX5_217_4 : zFL RX5 217 4 32 false := ⟨_, _, _, _, zkl4, by decide, rfl, q1753, Or.inl rfl, fun _ => Or.inr trivial⟩
theorem fX5_246_4 : zFL RX5 246 4 27 true := ⟨_, _, _, _, zkl4, by decide, rfl, q1748, Or.inl rfl, fun _ => Or.inr trivial⟩
theorem wX5_246_4 : zFW RX5 246 4 27 := ⟨_, _, _, _, zkl4, by decide, rfl, q1748, Or.inl rfl, rfl⟩
theorem fX5_271_4 : zFL RX5 271 4 37 false := ⟨_, _, _, _, zkl4, by decide, rfl, q1758, Or.inl rfl, fun _ => Or.inr trivial⟩
theorem fX5_278_4 : zFL RX5 278 4 34 false := ⟨_, _, _, _, zkl4, by decide, rfl, q1755, Or.inl rfl, fun _ => Or.inr trivial⟩
theorem fX5_281_4 : zFL RX5 281 4 35 false := ⟨_, _, _, _, zkl4, by decide, rfl, q1756, Or.inl rfl, fun _ => Or.inr trivial⟩
theorem fX5_284_4 : zFL RX5 284 4 36 false := ⟨_, _, _, _, zkl4, by decide, rfl, q1757, Or.inl rfl, fun _ => Or.inr trivial⟩
theorem fX5_287_4 : zFL RX5 287 4 33 true := ⟨_, _, _, _, zkl4, by decide, rfl, q1754, Or.inl rfl, fun _ => Or.inr trivial⟩
theorem wX5_287_4 : zFW RX5 287 4 33 := ⟨_, _, _, _, zkl4, by decide, rfl, q1754, Or.inl rfl, rfl⟩
theorem fX5_322_4 : zFL RX5 322 4 24 true := ⟨_, _, _, _, zkl4, by decide, rfl, q1745, Or.inl rfl, fun _ => Or.inr trivial⟩
theorem wX5_322_4 : zFW RX5 322 4 24 := ⟨_, _, _, _, zkl4, by decide, rfl, q1745, Or.inl rfl, rfl⟩
theorem fX5_335_4 : zFL RX5 335 4 40 true := ⟨_, _, _, _, zkl4, by decide, rfl, q1761, Or.inl rfl, fun _ => Or.inr trivial⟩
theorem wX5_335_4 : zFW RX5 335 4 40 := ⟨_, _, _, _, zkl4, by decide, rfl, q1761, Or.inl rfl, rfl⟩
theorem fX5_338_4 : zFL RX5 338 4 38 false := ⟨_, _, _, _, zkl4, by decide, rfl, q1759, Or.inl rfl, fun _ => Or.inr trivial⟩
theorem fX5_347_4 : zFL RX5 347 4 39 false := ⟨_, _, _, _, zkl4, by decide, rfl, q1760, Or.inl rfl, fun _ => Or.inr trivial⟩
theorem fX5_350_4 : zFL RX5 350 4 41 false := ⟨_, _, _, _, zkl4, by decide, rfl, q1762, Or.inl rfl, fun _ => Or.inr trivial⟩
theorem fX5_360_4 : zFL RX5 360 4 42 false := ⟨_, _, _, _, zkl4, by decide, rfl, q1763, Or.inl rfl, fun _ => Or.inr trivial⟩
theorem fX5_374_4 : zFL RX5 374 4 44 false := ⟨_, _, _, _, zkl4, by decide, rfl, q1765, Or.inl rfl, fun _ => Or.inr trivial⟩
theorem fX5_379_4 : zFL RX5 379 4 46 false := ⟨_, _, _, _, zkl4, by decide, rfl, q1767, Or.inl rfl, fun _ => Or.inr trivial⟩
theorem fX5_384_4 : zFL RX5 384 4 45 false := ⟨_, _, _, _, zkl4, by decide, rfl, q1766, Or.inl rfl, fun _ => Or.inr trivial⟩
theorem fX5_394_4 : zFL RX5 394 4 43 false := ⟨_, _, _, _, zkl4, by decide, rfl, q1764, Or.inl rfl, fun _ => Or.inr trivial⟩
theorem fX5_405_4 : zFL RX5 405 4 47 false := ⟨_, _, _, _, zkl4, by decide, rfl, q1768, Or.inl rfl, fun _ => Or.inr trivial⟩
theorem fX5_411_4 : zFL RX5 411 4 48 true := ⟨_, _, _, _, zkl4, by decide, rfl, q1769, Or.inl rfl, fun _ => Or.inr trivial⟩
theorem wX5_411_4 : zFW RX5 411 4 48 := ⟨_, _, _, _, zkl4, by decide, rfl, q1769, Or.inl rfl, rfl⟩
theorem fX5_425_4 : zFL RX5 425 4 49 true := ⟨_, _, _, _, zkl4, by decide, rfl, q1770, Or.inl rfl, fun _ => Or.inr trivial⟩
theorem wX5_425_4 : zFW RX5 425 4 49 := ⟨_, _, _, _, zkl4, by decide, rfl, q1770, Or.inl rfl, rfl⟩
theorem fX5_434_4 : zFL RX5 434 4 50 false := ⟨_, _, _, _, zkl4, by decide, rfl, q1771, Or.inl rfl, fun _ => Or.inr trivial⟩
theorem fX5_437_4 : zFL RX5 437 4 51 true := ⟨_, _, _, _, zkl4, by decide, rfl, q1772, Or.inl rfl, fun _ => Or.inr trivial⟩
theorem wX5_437_4 : zFW RX5 437 4 51 := ⟨_, _, _, _, zkl4, by decide, rfl, q1772, Or.inl rfl, rfl⟩
theorem fX5_440_4 : zFL RX5 440 4 52 true := ⟨_, _, _, _, zkl4, by decide, rfl, q1773, Or.inl rfl, fun _ => Or.inr trivial⟩
theorem wX5_440_4 : zFW RX5 440 4 52 := ⟨_, _, _, _, zkl4, by decide, rfl, q1773, Or.inl rfl, rfl⟩
theorem fX5_443_4 : zFL RX5 443 4 53 true := ⟨_, _, _, _, zkl4, by decide, rfl, q1774, Or.inl rfl, fun _ => Or.inr trivial⟩
theorem wX5_443_4 : zFW RX5 443 4 53 := ⟨_, _, _, _, zkl4, by decide, rfl, q1774, Or.inl rfl, rfl⟩
theorem fX5_446_4 : zFL RX5 446 4 54 true := ⟨_, _, _, _, zkl4, by decide, rfl, q1775, Or.inl rfl, fun _ => Or.inr trivial⟩
theorem wX5_446_4 : zFW RX5 446 4 54 := ⟨_, _, _, _, zkl4, by decide, rfl, q1775, Or.inl rfl, rfl⟩
theorem fX5_456_4 : zFL RX5 456 4 55 true := ⟨_, _, _, _, zkl4, by decide, rfl, q1776, Or.inl rfl, fun _ => Or.inr trivial⟩
theorem wX5_456_4 : zFW RX5 456 4 55 := ⟨_, _, _, _, zkl4, by decide, rfl, q1776, Or.inl rfl, rfl⟩
theorem fX5_469_4 : zFL RX5 469 4 56 true := ⟨_, _, _, _, zkl4, by decide, rfl, q1777, Or.inl rfl, fun _ => Or.inr trivial⟩
theorem wX5_469_4 : zFW RX5 469 4 56 := ⟨_, _, _, _, zkl4, by decide, rfl, q1777, Or.inl rfl, rfl⟩
theorem fX5_472_4 : zFL RX5 472 4 57 true := ⟨_, _, _, _, zkl4, by decide, rfl, q1778, Or.inl rfl, fun _ => Or.inr trivial⟩
theorem wX5_472_4 : zFW RX5 472 4 57 := ⟨_, _, _, _, zkl4, by decide, rfl, q1778, Or.inl rfl, rfl⟩
theorem fX1_209_10 : zFN RX1 209 10 0 true := ⟨_, _, _, _, _, zkl10, by decide, rfl, q708, rfl⟩
theorem fX17_44_0 : zFN RX17 44 0 2 true := ⟨_, _, _, _, _, zkl0, by decide, rfl, q265, rfl⟩
theorem fX8_15_0 : zFN RX8 15 0 8 false := ⟨_, _, _, _, _, zkl0, by decide, rfl, q274, rfl⟩
theorem fX8_34_0 : zFN RX8 34 0 7 true := ⟨_, _, _, _, _, zkl0, by decide, rfl, q272, rfl⟩
theorem fX15_19_0 : zFN RX15 19 0 0 true := ⟨_, _, _, _, _, zkl0, by decide, rfl, q260, rfl⟩
theorem fX15_39_0 : zFN RX15 39 0 2 true := ⟨_, _, _, _, _, zkl0, by decide, rfl, q266, rfl⟩
theorem fX15_85_0 : zFN RX15 85 0 10 false := ⟨_, _, _, _, _, zkl0, by decide, rfl, q278, rfl⟩
theorem fX3_60_0 : zFN RX3 60 0 1 false := ⟨_, _, _, _, _, zkl0, by decide, rfl, q263, rfl⟩
theorem fX3_73_0 : zFN RX3 73 0 0 true := ⟨_, _, _, _, _, zkl0, by decide, rfl, q261, rfl⟩
theorem wX1_8 : zNW RX1 8 2 16 := ⟨_, _, _, zkl2, by decide +kernel, q166, q167, q85⟩
theorem wX1_14 : zNW RX1 14 1 6 := ⟨_, _, _, zkl1, by decide +kernel, q123, q124, q84⟩
theorem wX1_28 : zNW RX1 28 3 4 := ⟨_, _, _, zkl3, by decide +kernel, q240, q241, q86⟩
theorem wX1_45 : zNW RX1 45 6 6 := ⟨_, _, _, zkl6, by decide +kernel, q121, q554, q95⟩
theorem wX1_112 : zNW RX1 112 5 9 := ⟨_, _, _, zkl5, by decide +kernel, q332, q333, q88⟩
theorem wX1_200 : zNW RX1 200 7 4 := ⟨_, _, _, zkl7, by decide +kernel, q613, q614, q96⟩
theorem wX1_303 : zNW RX1 303 14 7 := ⟨_, _, _, zkl14, by decide +kernel, q921, q922, q109⟩
theorem wX1_319 : zNW RX1 319 15 8 := ⟨_, _, _, zkl15, by decide +kernel, q1035, q1036, q111⟩
theorem wX8_62 : zNW RX8 62 13 3 := ⟨_, _, _, zkl13, by decide +kernel, q738, q739, q102⟩
theorem wX8_79 : zNW RX8 79 9 1 := ⟨_, _, _, zkl9, by decide +kernel, q669, q670, q98⟩
theorem wX8_84 : zNW RX8 84 8 1 := ⟨_, _, _, zkl8, by decide +kernel, q682, q683, q97⟩
theorem wX8_91 : zNW RX8 91 11 1 := ⟨_, _, _, zkl11, by decide +kernel, q714, q715, q100⟩
theorem wX8_97 : zNW RX8 97 12 1 := ⟨_, _, _, zkl12, by decide +kernel, q728, q729, q101⟩
theorem wX2_9 : zNW RX2 9 5 9 := ⟨_, _, _, zkl5, by decide +kernel, q129, q333, q88⟩
theorem wX0_8 : zNW RX0 8 0 17 := ⟨_, _, _, zkl0, by decide +kernel, q113, q114, q83⟩
theorem wX0_23 : zNW RX0 23 4 58 := ⟨_, _, _, zkl4, by decide +kernel, q1716, q1250, q87⟩
theorem gX1_3 : GoodIn lw_all (va_wsS RX1 3 mX1_in.1 (zws mX1_in)) := lw_S q326 q327 q83 q328
theorem gX1_27 : GoodIn lw_all (wsV RX1 27 mX4_of.1.cls mX4_of.1 (zws mX4_of)) := lw_V q790 q791 q792 q86 q793
theorem gX1_97 : GoodIn lw_all (va_wsS RX1 97 mX1_common.1 (zws mX1_common)) := lw_S q1126 q1127 q83 q1128
theorem gX1_101 : GoodIn lw_all (wsV RX1 101 mX1_tell.1.cls mX1_tell.1 (zws mX1_tell)) := lw_V q546 q548 qs2 q83 q549
theorem gX1_108 : GoodIn lw_all (va_wsS RX1 108 mX1_arePeople.1 (zws mX1_arePeople)) := lw_S q329 q330 q83 q331
theorem gX1_117 : GoodIn lw_all (wsV RX1 117 mX2_add.1.cls mX2_add.1 (zws mX2_add)) := lw_V q380 q381 q382 q84 q383
theorem gX1_121 : GoodIn lw_all (wsV RX1 121 mX1_isOffice.1.cls mX1_isOffice.1 (zws mX1_isOffice)) := lw_V q388 q390 qs0 q83 q391
theorem gX1_124 : GoodIn lw_all (va_wsS RX1 124 mX1_isHour.1 (zws mX1_isHour)) := lw_S q392 q393 q83 q394
theorem gX1_145 : GoodIn lw_all (wsV RX1 145 mX2_know.1.cls mX2_know.1 (zws mX2_know)) := lw_V q403 q404 q405 q84 q406
theorem gX1_153 : GoodIn lw_all (va_wsS RX1 153 mX1_rowOf.1 (zws mX1_rowOf)) := lw_S q481 q482 q83 q483
theorem gX1_159 : GoodIn lw_all (va_wsS RX1 159 mX1_entry.1 (zws mX1_entry)) := lw_S q484 q485 q83 q486
theorem gX1_163 : GoodIn lw_all (va_wsS RX1 163 mJ5_min.1 (zws mJ5_min)) := lw_S q490 q491 q94 q492
theorem gX1_169 : GoodIn lw_all (va_wsS RX1 169 mJ5_max.1 (zws mJ5_max)) := lw_S q493 q494 q94 q495
theorem gX1_178 : GoodIn lw_all (wsV RX1 178 mX6_isOpen.1.cls mX6_isOpen.1 (zws mX6_isOpen)) := lw_V q505 q506 q507 q88 q508
theorem gX1_181 : GoodIn lw_all (wsV RX1 181 mX2_overlap.1.cls mX2_overlap.1 (zws mX2_overlap)) := lw_V q520 q521 q522 q84 q523
theorem gX1_185 : GoodIn lw_all (wsV RX1 185 mX2_lost.1.cls mX2_lost.1 (zws mX2_lost)) := lw_V q529 q530 q531 q84 q532
theorem gX1_188 : GoodIn lw_all (wsV RX1 188 mX2_hasCraft.1.cls mX2_hasCraft.1 (zws mX2_hasCraft)) := lw_V q539 q540 q541 q84 q542
theorem gX1_193 : GoodIn lw_all (wsV RX1 193 mX3_fresh.1.cls mX3_fresh.1 (zws mX3_fresh)) := lw_V q596 q597 q598 q85 q599
theorem gX1_203 : GoodIn lw_all (wsV RX1 203 mX8_whole.1.cls mX8_whole.1 (zws mX8_whole)) := lw_V q633 q634 q635 q96 q636
theorem gX1_212 : GoodIn lw_all (wsV RX1 212 mX1_isPiece.1.cls mX1_isPiece.1 (zws mX1_isPiece)) := lw_V q874 q876 qs16 q83 q877
theorem gX1_221 : GoodIn lw_all (wsV RX1 221 mX3_begin.1.cls mX3_begin.1 (zws mX3_begin)) := lw_V q758 q759 q760 q85 q761
theorem gX1_228 : GoodIn lw_all (wsV RX1 228 mX3_hour.1.cls mX3_hour.1 (zws mX3_hour)) := lw_V q767 q768 q769 q85 q770
theorem gX1_253 : GoodIn lw_all (wsV RX1 253 mX3_isReady.1.cls mX3_isReady.1 (zws mX3_isReady)) := lw_V q1223 q772 q773 q85 q774
theorem gX1_256 : GoodIn lw_all (wsV RX1 256 mX3_hand.1.cls mX3_hand.1 (zws mX3_hand)) := lw_V q878 q862 q863 q85 q864
theorem gX1_268 : GoodIn lw_all (wsV RX1 268 mX3_end.1.cls mX3_end.1 (zws mX3_end)) := lw_V q894 q895 q896 q85 q897
theorem gX1_272 : GoodIn lw_all (wsV RX1 272 mX3_as.1.cls mX3_as.1 (zws mX3_as)) := lw_V q883 q884 q885 q85 q886
theorem gX1_276 : GoodIn lw_all (wsV RX1 276 mX1_endOf.1.cls mX1_endOf.1 (zws mX1_endOf)) := lw_V q890 q892 qs17 q83 q893
theorem gX1_280 : GoodIn lw_all (wsV RX1 280 mX3_isAllDone.1.cls mX3_isAllDone.1 (zws mX3_isAllDone)) := lw_V q911 q899 q900 q85 q901
theorem gX1_287 : GoodIn lw_all (va_wsS RX1 287 mX1_has.1 (zws mX1_has)) := lw_S q912 q544 q83 q545
theorem gX1_299 : GoodIn lw_all (wsV RX1 299 mX1_canAsk.1.cls mX1_canAsk.1 (zws mX1_canAsk)) := lw_V q917 q919 qs19 q83 q920
theorem gX1_324 : GoodIn lw_all (wsV RX1 324 mX1_soonest.1.cls mX1_soonest.1 (zws mX1_soonest)) := lw_V q1058 q1060 qs20 q83 q1061
theorem gX1_327 : GoodIn lw_all (wsV RX1 327 mX1_alone.1.cls mX1_alone.1 (zws mX1_alone)) := lw_V q1066 q1068 qs21 q83 q1069
theorem gX1_340 : GoodIn lw_all (va_wsS RX1 340 mJ11_bitCount.1 (zws mJ11_bitCount)) := lw_S q1074 q1075 q112 q1076
theorem gX1_346 : GoodIn lw_all (wsV RX1 346 mX2_as.1.cls mX2_as.1 (zws mX2_as)) := lw_V q1080 q1081 q1082 q84 q1083
theorem gX1_349 : GoodIn lw_all (wsV RX1 349 mX1_place.1.cls mX1_place.1 (zws mX1_place)) := lw_V q1085 q1087 qs22 q83 q1088
theorem gX1_355 : GoodIn lw_all (wsV RX1 355 mX1_price.1.cls mX1_price.1 (zws mX1_price)) := lw_V q1097 q1099 qs23 q83 q1100
theorem gX1_358 : GoodIn lw_all (wsV RX1 358 mX1_with.1.cls mX1_with.1 (zws mX1_with)) := lw_V q1101 q1103 qs24 q83 q1104
theorem gX1_362 : GoodIn lw_all (wsV RX1 362 mX1_endIn.1.cls mX1_endIn.1 (zws mX1_endIn)) := lw_V q1105 q1107 qs25 q83 q1108
theorem gX1_366 : GoodIn lw_all (wsV RX1 366 mX1_kept.1.cls mX1_kept.1 (zws mX1_kept)) := lw_V q1117 q1119 qs26 q83 q1120
theorem gX1_375 : GoodIn lw_all (wsV RX1 375 mX1_tellPart.1.cls mX1_tellPart.1 (zws mX1_tellPart)) := lw_V q1122 q1124 qs27 q83 q1125
theorem gX1_381 : GoodIn lw_all (va_wsS RX1 381 mX1_like.1 (zws mX1_like)) := lw_S q1146 q1147 q83 q1148
theorem gX1_410 : GoodIn lw_all (wsV RX1 410 mX1_sleeping.1.cls mX1_sleeping.1 (zws mX1_sleeping)) := lw_V q1159 q1161 qs28 q83 q1162
theorem gX1_414 : GoodIn lw_all (wsV RX1 414 mX1_endWith.1.cls mX1_endWith.1 (zws mX1_endWith)) := lw_V q1163 q1165 qs29 q83 q1166
theorem gX1_418 : GoodIn lw_all (wsV RX1 418 mX3_doneOnes.1.cls mX3_doneOnes.1 (zws mX3_doneOnes)) := lw_V q1187 q776 q777 q85 q778
theorem gX4_41 : GoodIn lw_all (wsV RX4 41 mX2_lost.1.cls mX2_lost.1 (zws mX2_lost)) := lw_V q845 q530 q531 q84 q532
theorem gX4_45 : GoodIn lw_all (wsV RX4 45 mX2_overlap.1.cls mX2_overlap.1 (zws mX2_overlap)) := lw_V q846 q521 q522 q84 q523
theorem gX4_52 : GoodIn lw_all (wsV RX4 52 mX6_isOpen.1.cls mX6_isOpen.1 (zws mX6_isOpen)) := lw_V q847 q506 q507 q88 q508
theorem gX4_58 : GoodIn lw_all (wsV RX4 58 mX4_rest.1.cls mX4_rest.1 (zws mX4_rest)) := lw_V q848 q850 qs15 q86 q851
theorem gX4_62 : GoodIn lw_all (wsV RX4 62 mX3_pieceOf.1.cls mX3_pieceOf.1 (zws mX3_pieceOf)) := lw_V q852 q853 q854 q85 q855
theorem gX4_71 : GoodIn lw_all (wsV RX4 71 mX2_hasCraft.1.cls mX2_hasCraft.1 (zws mX2_hasCraft)) := lw_V q856 q540 q541 q84 q542
theorem gX17_22 : GoodIn lw_all (va_wsS RX17 22 mJ10_fill.1 (zws mJ10_fill)) := lw_S q984 q985 q110 q986
theorem gX17_62 : GoodIn lw_all (va_wsS RX17 62 mJ5_min.1 (zws mJ5_min)) := lw_S q994 q491 q94 q492
theorem gX6_40 : GoodIn lw_all (va_wsS RX6 40 mJ5_floorMod.1 (zws mJ5_floorMod)) := lw_S q509 q510 q94 q511
theorem gX6_46 : GoodIn lw_all (va_wsS RX6 46 mJ5_floorDiv.1 (zws mJ5_floorDiv)) := lw_S q512 q513 q94 q514
theorem gX8_22 : GoodIn lw_all (va_wsS RX8 22 mJ5_min.1 (zws mJ5_min)) := lw_S q619 q491 q94 q492
theorem gX8_43 : GoodIn lw_all (wsV RX8 43 mX8_here.1.cls mX8_here.1 (zws mX8_here)) := lw_V q665 q667 qs10 q96 q668
theorem gX8_47 : GoodIn lw_all (wsV RX8 47 mX8_either.1.cls mX8_either.1 (zws mX8_either)) := lw_V q637 q639 qs3 q96 q640
theorem gX8_51 : GoodIn lw_all (wsV RX8 51 mX8_need.1.cls mX8_need.1 (zws mX8_need)) := lw_V q687 q689 qs11 q96 q690
theorem gX8_55 : GoodIn lw_all (wsV RX8 55 mX8_both.1.cls mX8_both.1 (zws mX8_both)) := lw_V q641 q643 qs4 q96 q644
theorem gX8_58 : GoodIn lw_all (wsV RX8 58 mX8_passes.1.cls mX8_passes.1 (zws mX8_passes)) := lw_V q661 q663 qs9 q96 q664
theorem gX8_67 : GoodIn lw_all (wsV RX8 67 mX8_held.1.cls mX8_held.1 (zws mX8_held)) := lw_V q645 q647 qs5 q96 q648
theorem gX8_70 : GoodIn lw_all (wsV RX8 70 mX8_sum.1.cls mX8_sum.1 (zws mX8_sum)) := lw_V q649 q651 qs6 q96 q652
theorem gX8_73 : GoodIn lw_all (wsV RX8 73 mX8_product.1.cls mX8_product.1 (zws mX8_product)) := lw_V q653 q655 qs7 q96 q656
theorem gX8_76 : GoodIn lw_all (wsV RX8 76 mX8_thing.1.cls mX8_thing.1 (zws mX8_thing)) := lw_V q657 q659 qs8 q96 q660
theorem gX8_94 : GoodIn lw_all (wsV RX8 94 mX8_isSign.1.cls mX8_isSign.1 (zws mX8_isSign)) := lw_V q724 q726 qs12 q96 q727
theorem gX15_46 : GoodIn lw_all (wsV RX15 46 mX2_hasCraft.1.cls mX2_hasCraft.1 (zws mX2_hasCraft)) := lw_V q975 q540 q541 q84 q542
theorem gX15_56 : GoodIn lw_all (va_wsS RX15 56 mJ10_copyOf.1 (zws mJ10_copyOf)) := lw_S q1012 q1013 q110 q1014
theorem gX15_75 : GoodIn lw_all (wsV RX15 75 mX6_isOpen.1.cls mX6_isOpen.1 (zws mX6_isOpen)) := lw_V q993 q506 q507 q88 q508
theorem gX15_81 : GoodIn lw_all (wsV RX15 81 mX2_lost.1.cls mX2_lost.1 (zws mX2_lost)) := lw_V q1001 q530 q531 q84 q532
theorem gX13_13 : GoodIn lw_all (wsV RX13 13 mX4_value.1.cls mX4_value.1 (zws mX4_value)) := lw_V q841 q842 q843 q86 q844
theorem gX16_36 : GoodIn lw_all (va_wsS RX16 36 mJ5_min.1 (zws mJ5_min)) := lw_S q1011 q491 q94 q492
theorem gX3_63 : GoodIn lw_all (wsV RX3 63 mX3_fresh.1.cls mX3_fresh.1 (zws mX3_fresh)) := lw_V q762 q597 q598 q85 q599
theorem gX3_88 : GoodIn lw_all (wsV RX3 88 mX3_doneOnes.1.cls mX3_doneOnes.1 (zws mX3_doneOnes)) := lw_V q775 q776 q777 q85 q778
theorem gX3_92 : GoodIn lw_all (wsV RX3 92 mX2_lost.1.cls mX2_lost.1 (zws mX2_lost)) := lw_V q865 q530 q531 q84 q532
theorem gX3_97 : GoodIn lw_all (wsV RX3 97 mX2_wrong.1.cls mX2_wrong.1 (zws mX2_wrong)) := lw_V q866 q867 q868 q84 q869
theorem gX3_101 : GoodIn lw_all (wsV RX3 101 mX3_isReady.1.cls mX3_isReady.1 (zws mX3_isReady)) := lw_V q771 q772 q773 q85 q774
theorem gX3_116 : GoodIn lw_all (wsV RX3 116 mX6_isOpen.1.cls mX6_isOpen.1 (zws mX6_isOpen)) := lw_V q780 q506 q507 q88 q508
theorem gX3_127 : GoodIn lw_all (wsV RX3 127 mX2_hasCraft.1.cls mX2_hasCraft.1 (zws mX2_hasCraft)) := lw_V q781 q540 q541 q84 q542
theorem gX3_133 : GoodIn lw_all (wsV RX3 133 mX3_work.1.cls mX3_work.1 (zws mX3_work)) := lw_V q782 q784 qs13 q85 q785
theorem gX3_141 : GoodIn lw_all (wsV RX3 141 mX3_hand.1.cls mX3_hand.1 (zws mX3_hand)) := lw_V q861 q862 q863 q85 q864
theorem gX3_149 : GoodIn lw_all (wsV RX3 149 mX3_isAllDone.1.cls mX3_isAllDone.1 (zws mX3_isAllDone)) := lw_V q898 q899 q900 q85 q901
theorem gX3_157 : GoodIn lw_all (wsV RX3 157 mX3_isStuck.1.cls mX3_isStuck.1 (zws mX3_isStuck)) := lw_V q902 q904 qs18 q85 q905
theorem gX3_161 : GoodIn lw_all (wsV RX3 161 mX3_hour.1.cls mX3_hour.1 (zws mX3_hour)) := lw_V q906 q768 q769 q85 q770
theorem gX2_42 : GoodIn lw_all (wsV RX2 42 mX6_isOpen.1.cls mX6_isOpen.1 (zws mX6_isOpen)) := lw_V q524 q506 q507 q88 q508
theorem gX2_46 : GoodIn lw_all (va_wsS RX2 46 mJ5_max.1 (zws mJ5_max)) := lw_S q533 q494 q94 q495
theorem gX2_52 : GoodIn lw_all (wsV RX2 52 mX2_overlap.1.cls mX2_overlap.1 (zws mX2_overlap)) := lw_V q534 q521 q522 q84 q523
theorem gX0_7 : GoodIn lw_all (wsV RX0 7 mX1_value.1.cls mX1_value.1 (zws mX1_value)) := lw_V q1192 q1193 q1194 q83 q1195
theorem gX0_15 : GoodIn lw_all (wsV RX0 15 mX1_of.1.cls mX1_of.1 (zws mX1_of)) := lw_V q1219 q1220 q1221 q83 q1222
theorem gX0_18 : GoodIn lw_all (wsV RX0 18 mX1_row.1.cls mX1_row.1 (zws mX1_row)) := lw_V q1227 q1228 q1229 q83 q1230
theorem gX0_26 : GoodIn lw_all (wsV RX0 26 mX1_office.1.cls mX1_office.1 (zws mX1_office)) := lw_V q322 q323 q324 q83 q325
theorem gX0_30 : GoodIn lw_all (wsV RX0 30 mX5_office.1.cls mX5_office.1 (zws mX5_office)) := lw_V q1235 q1236 q1237 q87 q1238
theorem gX0_31 : GoodIn lw_all (wsV RX0 31 mX1_clock.1.cls mX1_clock.1 (zws mX1_clock)) := lw_V q384 q385 q386 q83 q387
theorem gX0_35 : GoodIn lw_all (wsV RX0 35 mX5_clock.1.cls mX5_clock.1 (zws mX5_clock)) := lw_V q1252 q1253 q1254 q87 q1255
theorem gX0_36 : GoodIn lw_all (wsV RX0 36 mX1_feast.1.cls mX1_feast.1 (zws mX1_feast)) := lw_V q395 q396 q397 q83 q398
theorem gX0_40 : GoodIn lw_all (wsV RX0 40 mX5_feast.1.cls mX5_feast.1 (zws mX5_feast)) := lw_V q1265 q1266 q1267 q87 q1268
theorem gX0_41 : GoodIn lw_all (wsV RX0 41 mX1_know.1.cls mX1_know.1 (zws mX1_know)) := lw_V q399 q400 q401 q83 q402
theorem gX0_45 : GoodIn lw_all (wsV RX0 45 mX5_know.1.cls mX5_know.1 (zws mX5_know)) := lw_V q1272 q1273 q1274 q87 q1275
theorem gX0_46 : GoodIn lw_all (wsV RX0 46 mX1_sheet.1.cls mX1_sheet.1 (zws mX1_sheet)) := lw_VW q407 q408 q409 q83 q410
theorem gX0_50 : GoodIn lw_all (wsV RX0 50 mX5_sheet.1.cls mX5_sheet.1 (zws mX5_sheet)) := lw_V q1280 q1281 q1282 q87 q1283
theorem gX0_51 : GoodIn lw_all (wsV RX0 51 mX1_set.1.cls mX1_set.1 (zws mX1_set)) := lw_V q497 q498 q499 q83 q500
theorem gX0_54 : GoodIn lw_all (wsV RX0 54 mX5_set.1.cls mX5_set.1 (zws mX5_set)) := lw_V q1287 q1288 q1289 q87 q1290
theorem gX0_55 : GoodIn lw_all (wsV RX0 55 mX1_open.1.cls mX1_open.1 (zws mX1_open)) := lw_V q501 q502 q503 q83 q504
theorem gX0_58 : GoodIn lw_all (wsV RX0 58 mX5_open.1.cls mX5_open.1 (zws mX5_open)) := lw_V q1293 q1294 q1295 q87 q1296
theorem gX0_59 : GoodIn lw_all (wsV RX0 59 mX1_overlap.1.cls mX1_overlap.1 (zws mX1_overlap)) := lw_V q516 q517 q518 q83 q519
theorem gX0_62 : GoodIn lw_all (wsV RX0 62 mX5_overlap.1.cls mX5_overlap.1 (zws mX5_overlap)) := lw_V q1306 q1307 q1308 q87 q1309
theorem gX0_63 : GoodIn lw_all (wsV RX0 63 mX1_loses.1.cls mX1_loses.1 (zws mX1_loses)) := lw_V q525 q526 q527 q83 q528
theorem gX0_66 : GoodIn lw_all (wsV RX0 66 mX5_loses.1.cls mX5_loses.1 (zws mX5_loses)) := lw_V q1314 q1315 q1316 q87 q1317
theorem gX0_67 : GoodIn lw_all (wsV RX0 67 mX1_dark.1.cls mX1_dark.1 (zws mX1_dark)) := lw_V q535 q536 q537 q83 q538
theorem gX0_70 : GoodIn lw_all (wsV RX0 70 mX5_dark.1.cls mX5_dark.1 (zws mX5_dark)) := lw_V q1322 q1323 q1324 q87 q1325
theorem gX0_71 : GoodIn lw_all (wsV RX0 71 mX1_piece.1.cls mX1_piece.1 (zws mX1_piece)) := lw_V q550 q551 q552 q83 q553
theorem gX0_74 : GoodIn lw_all (wsV RX0 74 mX5_piece.1.cls mX5_piece.1 (zws mX5_piece)) := lw_V q1334 q1335 q1336 q87 q1337
theorem gX0_75 : GoodIn lw_all (wsV RX0 75 mX1_sign.1.cls mX1_sign.1 (zws mX1_sign)) := lw_V q600 q601 q602 q83 q603
theorem gX0_79 : GoodIn lw_all (wsV RX0 79 mX5_sign.1.cls mX5_sign.1 (zws mX5_sign)) := lw_V q1343 q1344 q1345 q87 q1346
theorem gX0_80 : GoodIn lw_all (wsV RX0 80 mX1_end.1.cls mX1_end.1 (zws mX1_end)) := lw_V q604 q605 q606 q83 q607
theorem gX0_84 : GoodIn lw_all (wsV RX0 84 mX5_end.1.cls mX5_end.1 (zws mX5_end)) := lw_V q1347 q1348 q1349 q87 q1350
theorem gX0_85 : GoodIn lw_all (wsV RX0 85 mX1_rule.1.cls mX1_rule.1 (zws mX1_rule)) := lw_VW q608 q609 q610 q83 q611
theorem gX0_89 : GoodIn lw_all (wsV RX0 89 mX5_rule.1.cls mX5_rule.1 (zws mX5_rule)) := lw_V q1351 q1352 q1353 q87 q1354
theorem gX0_90 : GoodIn lw_all (va_wsS RX0 90 mX0_value.1 (zws mX0_value)) := lw_SW q1188 q1189 q82 q1190
theorem gX0_95 : GoodIn lw_all (wsV RX0 95 mX5_value.1.cls mX5_value.1 (zws mX5_value)) := lw_V q1438 q1439 q1440 q87 q1441
theorem gX0_96 : GoodIn lw_all (wsV RX0 96 mX5_thrown.1.cls mX5_thrown.1 (zws mX5_thrown)) := lw_V q1231 q1232 q1233 q87 q1234
theorem gX0_99 : GoodIn lw_all (wsV RX0 99 mX1_begin.1.cls mX1_begin.1 (zws mX1_begin)) := lw_V q754 q755 q756 q83 q757
theorem gX0_102 : GoodIn lw_all (wsV RX0 102 mX5_begin.1.cls mX5_begin.1 (zws mX5_begin)) := lw_V q1465 q1466 q1467 q87 q1468
theorem gX0_103 : GoodIn lw_all (wsV RX0 103 mX1_go.1.cls mX1_go.1 (zws mX1_go)) := lw_V q763 q764 q765 q83 q766
theorem gX0_106 : GoodIn lw_all (wsV RX0 106 mX5_go.1.cls mX5_go.1 (zws mX5_go)) := lw_V q1473 q1474 q1475 q87 q1476
theorem gX0_107 : GoodIn lw_all (va_wsS RX0 107 mX0_of.1 (zws mX0_of)) := lw_SW q1216 q1217 q82 q1218
theorem gX0_109 : GoodIn lw_all (wsV RX0 109 mX5_of.1.cls mX5_of.1 (zws mX5_of)) := lw_V q1510 q1511 q1512 q87 q1513
theorem gX0_110 : GoodIn lw_all (wsV RX0 110 mX1_hand.1.cls mX1_hand.1 (zws mX1_hand)) := lw_V q870 q871 q872 q83 q873
theorem gX0_113 : GoodIn lw_all (wsV RX0 113 mX5_hand.1.cls mX5_hand.1 (zws mX5_hand)) := lw_V q1515 q1516 q1517 q87 q1518
theorem gX0_114 : GoodIn lw_all (wsV RX0 114 mX1_ends.1.cls mX1_ends.1 (zws mX1_ends)) := lw_V q879 q880 q881 q83 q882
theorem gX0_117 : GoodIn lw_all (wsV RX0 117 mX5_ends.1.cls mX5_ends.1 (zws mX5_ends)) := lw_V q1519 q1520 q1521 q87 q1522
theorem gX0_118 : GoodIn lw_all (wsV RX0 118 mX1_judge.1.cls mX1_judge.1 (zws mX1_judge)) := lw_V q907 q908 q909 q83 q910
theorem gX0_121 : GoodIn lw_all (wsV RX0 121 mX5_judge.1.cls mX5_judge.1 (zws mX5_judge)) := lw_V q1547 q1548 q1549 q87 q1550
theorem gX0_122 : GoodIn lw_all (wsV RX0 122 mX1_one.1.cls mX1_one.1 (zws mX1_one)) := lw_V q913 q914 q915 q83 q916
theorem gX0_125 : GoodIn lw_all (wsV RX0 125 mX5_one.1.cls mX5_one.1 (zws mX5_one)) := lw_V q1551 q1552 q1553 q87 q1554
theorem gX0_126 : GoodIn lw_all (wsV RX0 126 mX1_cheap.1.cls mX1_cheap.1 (zws mX1_cheap)) := lw_V q1031 q1032 q1033 q83 q1034
theorem gX0_129 : GoodIn lw_all (wsV RX0 129 mX5_cheap.1.cls mX5_cheap.1 (zws mX5_cheap)) := lw_V q1581 q1582 q1583 q87 q1584
theorem gX0_130 : GoodIn lw_all (wsV RX0 130 mX1_edge.1.cls mX1_edge.1 (zws mX1_edge)) := lw_V q1054 q1055 q1056 q83 q1057
theorem gX0_133 : GoodIn lw_all (wsV RX0 133 mX5_edge.1.cls mX5_edge.1 (zws mX5_edge)) := lw_V q1602 q1603 q1604 q87 q1605
theorem gX0_134 : GoodIn lw_all (wsV RX0 134 mX1_lie.1.cls mX1_lie.1 (zws mX1_lie)) := lw_V q1062 q1063 q1064 q83 q1065
theorem gX0_137 : GoodIn lw_all (wsV RX0 137 mX5_lie.1.cls mX5_lie.1 (zws mX5_lie)) := lw_V q1606 q1607 q1608 q87 q1609
theorem gX0_138 : GoodIn lw_all (wsV RX0 138 mX1_homes.1.cls mX1_homes.1 (zws mX1_homes)) := lw_V q1070 q1071 q1072 q83 q1073
theorem gX0_141 : GoodIn lw_all (wsV RX0 141 mX5_homes.1.cls mX5_homes.1 (zws mX5_homes)) := lw_V q1614 q1615 q1616 q87 q1617
theorem gX0_142 : GoodIn lw_all (wsV RX0 142 mX1_pair.1.cls mX1_pair.1 (zws mX1_pair)) := lw_V q1089 q1090 q1091 q83 q1092
theorem gX0_145 : GoodIn lw_all (wsV RX0 145 mX5_pair.1.cls mX5_pair.1 (zws mX5_pair)) := lw_V q1635 q1636 q1637 q87 q1638
theorem gX0_146 : GoodIn lw_all (wsV RX0 146 mX1_whom.1.cls mX1_whom.1 (zws mX1_whom)) := lw_V q1093 q1094 q1095 q83 q1096
theorem gX0_149 : GoodIn lw_all (wsV RX0 149 mX5_whom.1.cls mX5_whom.1 (zws mX5_whom)) := lw_V q1639 q1640 q1641 q87 q1642
theorem gX0_150 : GoodIn lw_all (wsV RX0 150 mX1_worth.1.cls mX1_worth.1 (zws mX1_worth)) := lw_V q1109 q1110 q1111 q83 q1112
theorem gX0_153 : GoodIn lw_all (wsV RX0 153 mX5_worth.1.cls mX5_worth.1 (zws mX5_worth)) := lw_V q1648 q1649 q1650 q87 q1651
theorem gX0_154 : GoodIn lw_all (wsV RX0 154 mX1_wrong.1.cls mX1_wrong.1 (zws mX1_wrong)) := lw_V q1113 q1114 q1115 q83 q1116
theorem gX0_157 : GoodIn lw_all (wsV RX0 157 mX5_wrong.1.cls mX5_wrong.1 (zws mX5_wrong)) := lw_V q1653 q1654 q1655 q87 q1656
theorem gX0_158 : GoodIn lw_all (wsV RX0 158 mX1_mean.1.cls mX1_mean.1 (zws mX1_mean)) := lw_V q1129 q1130 q1131 q83 q1132
theorem gX0_161 : GoodIn lw_all (wsV RX0 161 mX5_mean.1.cls mX5_mean.1 (zws mX5_mean)) := lw_V q1664 q1665 q1666 q87 q1667
theorem gX0_162 : GoodIn lw_all (wsV RX0 162 mX1_riskiest.1.cls mX1_riskiest.1 (zws mX1_riskiest)) := lw_V q1133 q1134 q1135 q83 q1136
theorem gX0_165 : GoodIn lw_all (wsV RX0 165 mX5_riskiest.1.cls mX5_riskiest.1 (zws mX5_riskiest)) := lw_V q1668 q1669 q1670 q87 q1671
theorem gX0_166 : GoodIn lw_all (wsV RX0 166 mX1_site.1.cls mX1_site.1 (zws mX1_site)) := lw_V q1137 q1138 q1139 q83 q1140
theorem gX0_169 : GoodIn lw_all (wsV RX0 169 mX5_site.1.cls mX5_site.1 (zws mX5_site)) := lw_V q1672 q1673 q1674 q87 q1675
theorem gX0_170 : GoodIn lw_all (wsV RX0 170 mX1_together.1.cls mX1_together.1 (zws mX1_together)) := lw_VW q1142 q1143 q1144 q83 q1145
theorem gX0_173 : GoodIn lw_all (wsV RX0 173 mX5_together.1.cls mX5_together.1 (zws mX5_together)) := lw_V q1676 q1677 q1678 q87 q1679
theorem gX0_174 : GoodIn lw_all (wsV RX0 174 mX1_sleeps.1.cls mX1_sleeps.1 (zws mX1_sleeps)) := lw_V q1155 q1156 q1157 q83 q1158
theorem gX0_177 : GoodIn lw_all (wsV RX0 177 mX5_sleeps.1.cls mX5_sleeps.1 (zws mX5_sleeps)) := lw_V q1680 q1681 q1682 q87 q1683
theorem gX0_178 : GoodIn lw_all (wsV RX0 178 mX1_worst.1.cls mX1_worst.1 (zws mX1_worst)) := lw_V q1167 q1168 q1169 q83 q1170
theorem gX0_181 : GoodIn lw_all (wsV RX0 181 mX5_worst.1.cls mX5_worst.1 (zws mX5_worst)) := lw_V q1692 q1693 q1694 q87 q1695
theorem gX0_182 : GoodIn lw_all (wsV RX0 182 mX1_march.1.cls mX1_march.1 (zws mX1_march)) := lw_V q1171 q1172 q1173 q83 q1174
theorem gX0_185 : GoodIn lw_all (wsV RX0 185 mX5_march.1.cls mX5_march.1 (zws mX5_march)) := lw_V q1696 q1697 q1698 q87 q1699
theorem gX0_186 : GoodIn lw_all (wsV RX0 186 mX1_keep.1.cls mX1_keep.1 (zws mX1_keep)) := lw_V q1175 q1176 q1177 q83 q1178
theorem gX0_189 : GoodIn lw_all (wsV RX0 189 mX5_keep.1.cls mX5_keep.1 (zws mX5_keep)) := lw_V q1700 q1701 q1702 q87 q1703
theorem gX0_190 : GoodIn lw_all (wsV RX0 190 mX1_again.1.cls mX1_again.1 (zws mX1_again)) := lw_V q1179 q1180 q1181 q83 q1182
theorem gX0_193 : GoodIn lw_all (wsV RX0 193 mX5_again.1.cls mX5_again.1 (zws mX5_again)) := lw_V q1704 q1705 q1706 q87 q1707
theorem gX0_194 : GoodIn lw_all (wsV RX0 194 mX1_count.1.cls mX1_count.1 (zws mX1_count)) := lw_V q1183 q1184 q1185 q83 q1186
theorem gX0_197 : GoodIn lw_all (wsV RX0 197 mX5_count.1.cls mX5_count.1 (zws mX5_count)) := lw_V q1708 q1709 q1710 q87 q1711
theorem gX0_198 : GoodIn lw_all (va_wsS RX0 198 mX0_row.1 (zws mX0_row)) := lw_SW q1224 q1225 q82 q1226
theorem gX0_201 : GoodIn lw_all (wsV RX0 201 mX5_row.1.cls mX5_row.1 (zws mX5_row)) := lw_V q1896 q1897 q1898 q87 q1899
theorem gX5_14 : GoodIn lw_all (va_wsS RX5 14 mX5_common.1 (zws mX5_common)) := lw_S q1661 q1662 q87 q1663
theorem gX5_18 : GoodIn lw_all (wsV RX5 18 mX5_enters.1.cls mX5_enters.1 (zws mX5_enters)) := lw_V q1330 q1332 qs36 q87 q1333
theorem gX5_25 : GoodIn lw_all (va_wsS RX5 25 mX5_in.1 (zws mX5_in)) := lw_S q1240 q1241 q87 q1242
theorem gX5_73 : GoodIn lw_all (wsV RX5 73 mX5_opens.1.cls mX5_opens.1 (zws mX5_opens)) := lw_V q1247 q1249 qs30 q87 q1251
theorem gX5_77 : GoodIn lw_all (wsV RX5 77 mX5_isOffice.1.cls mX5_isOffice.1 (zws mX5_isOffice)) := lw_V q1256 q1258 qs31 q87 q1259
theorem gX5_81 : GoodIn lw_all (va_wsS RX5 81 mX5_isHour.1 (zws mX5_isHour)) := lw_S q1260 q1261 q87 q1262
theorem gX5_86 : GoodIn lw_all (va_wsS RX5 86 mX5_isDay.1 (zws mX5_isDay)) := lw_S q1269 q1270 q87 q1271
theorem gX5_89 : GoodIn lw_all (wsV RX5 89 mX5_knows.1.cls mX5_knows.1 (zws mX5_knows)) := lw_V q1276 q1278 qs32 q87 q1279
theorem gX5_95 : GoodIn lw_all (va_wsS RX5 95 mJ5_min.1 (zws mJ5_min)) := lw_S q1285 q491 q94 q492
theorem gX5_101 : GoodIn lw_all (va_wsS RX5 101 mJ5_max.1 (zws mJ5_max)) := lw_S q1286 q494 q94 q495
theorem gX5_114 : GoodIn lw_all (va_wsS RX5 114 mJ5_floorMod.1 (zws mJ5_floorMod)) := lw_S q1301 q510 q94 q511
theorem gX5_117 : GoodIn lw_all (va_wsS RX5 117 mJ5_floorDiv.1 (zws mJ5_floorDiv)) := lw_S q1302 q513 q94 q514
theorem gX5_120 : GoodIn lw_all (wsV RX5 120 mX5_isOpen.1.cls mX5_isOpen.1 (zws mX5_isOpen)) := lw_V q1297 q1299 qs33 q87 q1300
theorem gX5_124 : GoodIn lw_all (va_wsS RX5 124 mX5_flag.1 (zws mX5_flag)) := lw_S q1303 q1304 q87 q1305
theorem gX5_128 : GoodIn lw_all (wsV RX5 128 mX5_overlapOf.1.cls mX5_overlapOf.1 (zws mX5_overlapOf)) := lw_V q1310 q1312 qs34 q87 q1313
theorem gX5_132 : GoodIn lw_all (wsV RX5 132 mX5_lostOf.1.cls mX5_lostOf.1 (zws mX5_lostOf)) := lw_V q1318 q1320 qs35 q87 q1321
theorem gX5_137 : GoodIn lw_all (va_wsS RX5 137 mX5_has.1 (zws mX5_has)) := lw_S q1327 q1328 q87 q1329
theorem gX5_166 : GoodIn lw_all (wsV RX5 166 mX5_lays.1.cls mX5_lays.1 (zws mX5_lays)) := lw_V q1339 q1341 qs37 q87 q1342
theorem gX5_186 : GoodIn lw_all (wsV RX5 186 mJ4_length.1.cls mJ4_length.1 (zws mJ4_length)) := lw_V q1368 q1369 q1370 q93 q1371
theorem gX5_192 : GoodIn lw_all (wsV RX5 192 mJ4_charAt.1.cls mJ4_charAt.1 (zws mJ4_charAt)) := lw_V q1378 q1379 q1380 q93 q1381
theorem gX5_202 : GoodIn lw_all (wsV RX5 202 mX5_isDigit.1.cls mX5_isDigit.1 (zws mX5_isDigit)) := lw_V q1420 q1422 qs42 q87 q1423
theorem gX5_206 : GoodIn lw_all (wsV RX5 206 mX5_marks.1.cls mX5_marks.1 (zws mX5_marks)) := lw_V q1426 q1428 qs43 q87 q1429
theorem gX5_211 : GoodIn lw_all (wsV RX5 211 mX5_among.1.cls mX5_among.1 (zws mX5_among)) := lw_V q1364 q1366 qs40 q87 q1367
theorem gX5_220 : GoodIn lw_all (wsV RX5 220 mX5_ranked.1.cls mX5_ranked.1 (zws mX5_ranked)) := lw_V q1355 q1357 qs38 q87 q1358
theorem gX5_227 : GoodIn lw_all (wsV RX5 227 mX5_thing.1.cls mX5_thing.1 (zws mX5_thing)) := lw_V q1416 q1418 qs41 q87 q1419
theorem gX5_230 : GoodIn lw_all (wsV RX5 230 mX5_ahead.1.cls mX5_ahead.1 (zws mX5_ahead)) := lw_V q1359 q1361 qs39 q87 q1362
theorem gX5_243 : GoodIn lw_all (wsV RX5 243 mX5_opensIn.1.cls mX5_opensIn.1 (zws mX5_opensIn)) := lw_V q1458 q1460 qs48 q87 q1461
theorem gX5_249 : GoodIn lw_all (wsV RX5 249 mX5_valueOf.1.cls mX5_valueOf.1 (zws mX5_valueOf)) := lw_V q1454 q1456 qs47 q87 q1457
theorem gX5_253 : GoodIn lw_all (va_wsS RX5 253 mX5_acted.1 (zws mX5_acted)) := lw_S q1462 q1463 q87 q1464
theorem gX5_256 : GoodIn lw_all (wsV RX5 256 mX5_isPiece.1.cls mX5_isPiece.1 (zws mX5_isPiece)) := lw_V q1442 q1444 qs44 q87 q1445
theorem gX5_259 : GoodIn lw_all (wsV RX5 259 mX5_refuse.1.cls mX5_refuse.1 (zws mX5_refuse)) := lw_V q1446 q1448 qs45 q87 q1449
theorem gX5_262 : GoodIn lw_all (wsV RX5 262 mX5_worked.1.cls mX5_worked.1 (zws mX5_worked)) := lw_V q1450 q1452 qs46 q87 q1453
theorem gX5_265 : GoodIn lw_all (wsV RX5 265 mX5_isDone.1.cls mX5_isDone.1 (zws mX5_isDone)) := lw_V q1494 q1496 qs54 q87 q1497
theorem gX5_268 : GoodIn lw_all (wsV RX5 268 mX5_isReady.1.cls mX5_isReady.1 (zws mX5_isReady)) := lw_V q1490 q1492 qs53 q87 q1493
theorem gX5_275 : GoodIn lw_all (wsV RX5 275 mX5_readyBits.1.cls mX5_readyBits.1 (zws mX5_readyBits)) := lw_V q1486 q1488 qs52 q87 q1489
theorem gX5_290 : GoodIn lw_all (wsV RX5 290 mX5_asked.1.cls mX5_asked.1 (zws mX5_asked)) := lw_V q1498 q1500 qs55 q87 q1501
theorem gX5_294 : GoodIn lw_all (wsV RX5 294 mX5_hands.1.cls mX5_hands.1 (zws mX5_hands)) := lw_V q1506 q1508 qs57 q87 q1509
theorem gX5_296 : GoodIn lw_all (wsV RX5 296 mX5_works.1.cls mX5_works.1 (zws mX5_works)) := lw_V q1482 q1484 qs51 q87 q1485
theorem gX5_300 : GoodIn lw_all (wsV RX5 300 mX5_closes.1.cls mX5_closes.1 (zws mX5_closes)) := lw_V q1502 q1504 qs56 q87 q1505
theorem gX5_303 : GoodIn lw_all (wsV RX5 303 mX5_begins.1.cls mX5_begins.1 (zws mX5_begins)) := lw_V q1469 q1471 qs49 q87 q1472
theorem gX5_308 : GoodIn lw_all (wsV RX5 308 mX5_passes.1.cls mX5_passes.1 (zws mX5_passes)) := lw_V q1478 q1480 qs50 q87 q1481
theorem gX5_313 : GoodIn lw_all (wsV RX5 313 mX5_isAllDone.1.cls mX5_isAllDone.1 (zws mX5_isAllDone)) := lw_V q1539 q1541 qs62 q87 q1542
theorem gX5_316 : GoodIn lw_all (wsV RX5 316 mX5_sumOf.1.cls mX5_sumOf.1 (zws mX5_sumOf)) := lw_V q1531 q1533 qs60 q87 q1534
theorem gX5_319 : GoodIn lw_all (wsV RX5 319 mX5_goesOn.1.cls mX5_goesOn.1 (zws mX5_goesOn)) := lw_V q1535 q1537 qs61 q87 q1538
theorem gX5_325 : GoodIn lw_all (wsV RX5 325 mX5_putsBy.1.cls mX5_putsBy.1 (zws mX5_putsBy)) := lw_V q1523 q1525 qs58 q87 q1526
theorem gX5_329 : GoodIn lw_all (wsV RX5 329 mX5_tellsEnd.1.cls mX5_tellsEnd.1 (zws mX5_tellsEnd)) := lw_V q1527 q1529 qs59 q87 q1530
theorem gX5_332 : GoodIn lw_all (wsV RX5 332 mX5_takesBack.1.cls mX5_takesBack.1 (zws mX5_takesBack)) := lw_V q1543 q1545 qs63 q87 q1546
theorem gX5_341 : GoodIn lw_all (wsV RX5 341 mX5_empties.1.cls mX5_empties.1 (zws mX5_empties)) := lw_V q1559 q1561 qs65 q87 q1562
theorem gX5_344 : GoodIn lw_all (va_wsS RX5 344 mX5_placeAt.1 (zws mX5_placeAt)) := lw_S q1563 q1564 q87 q1565
theorem gX5_353 : GoodIn lw_all (wsV RX5 353 mX5_losesAll.1.cls mX5_losesAll.1 (zws mX5_losesAll)) := lw_V q1566 q1568 qs66 q87 q1569
theorem gX5_356 : GoodIn lw_all (wsV RX5 356 mX5_goesFrom.1.cls mX5_goesFrom.1 (zws mX5_goesFrom)) := lw_V q1570 q1572 qs67 q87 q1573
theorem gX5_363 : GoodIn lw_all (va_wsS RX5 363 mX5_least.1 (zws mX5_least)) := lw_S q1574 q1575 q87 q1576
theorem gX5_367 : GoodIn lw_all (wsV RX5 367 mX5_soonest.1.cls mX5_soonest.1 (zws mX5_soonest)) := lw_V q1555 q1557 qs64 q87 q1558
theorem gX5_370 : GoodIn lw_all (wsV RX5 370 mX5_entersRoute.1.cls mX5_entersRoute.1 (zws mX5_entersRoute)) := lw_V q1577 q1579 qs68 q87 q1580
theorem gX5_377 : GoodIn lw_all (va_wsS RX5 377 mJ5_min_2.1 (zws mJ5_min_2)) := lw_S q1599 q1600 q94 q1601
theorem gX5_388 : GoodIn lw_all (wsV RX5 388 mX5_cheaper.1.cls mX5_cheaper.1 (zws mX5_cheaper)) := lw_V q1595 q1597 qs71 q87 q1598
theorem gX5_397 : GoodIn lw_all (wsV RX5 397 mX5_emptiesPaid.1.cls mX5_emptiesPaid.1 (zws mX5_emptiesPaid)) := lw_V q1586 q1588 qs69 q87 q1589
theorem gX5_401 : GoodIn lw_all (wsV RX5 401 mX5_goesPaid.1.cls mX5_goesPaid.1 (zws mX5_goesPaid)) := lw_V q1590 q1592 qs70 q87 q1593
theorem gX5_408 : GoodIn lw_all (wsV RX5 408 mX5_lies.1.cls mX5_lies.1 (zws mX5_lies)) := lw_V q1610 q1612 qs72 q87 q1613
theorem gX5_414 : GoodIn lw_all (va_wsS RX5 414 mJ11_bitCount.1 (zws mJ11_bitCount)) := lw_S q1618 q1075 q112 q1076
theorem gX5_419 : GoodIn lw_all (wsV RX5 419 mX5_keepsBorn.1.cls mX5_keepsBorn.1 (zws mX5_keepsBorn)) := lw_V q1619 q1621 qs73 q87 q1622
theorem gX5_422 : GoodIn lw_all (wsV RX5 422 mX5_endsFrom.1.cls mX5_endsFrom.1 (zws mX5_endsFrom)) := lw_V q1623 q1625 qs74 q87 q1626
theorem gX5_428 : GoodIn lw_all (wsV RX5 428 mX5_movesHomes.1.cls mX5_movesHomes.1 (zws mX5_movesHomes)) := lw_V q1627 q1629 qs75 q87 q1630
theorem gX5_431 : GoodIn lw_all (wsV RX5 431 mX5_givesBorn.1.cls mX5_givesBorn.1 (zws mX5_givesBorn)) := lw_V q1631 q1633 qs76 q87 q1634
theorem gX5_451 : GoodIn lw_all (wsV RX5 451 mX5_endsWith.1.cls mX5_endsWith.1 (zws mX5_endsWith)) := lw_V q1644 q1646 qs77 q87 q1647
theorem gX5_459 : GoodIn lw_all (wsV RX5 459 mX5_entersFraction.1.cls mX5_entersFraction.1 (zws mX5_entersFraction)) := lw_V q1657 q1659 qs78 q87 q1660
theorem gX5_463 : GoodIn lw_all (wsV RX5 463 mX5_endsNow.1.cls mX5_endsNow.1 (zws mX5_endsNow)) := lw_V q1684 q1686 qs79 q87 q1687
theorem gX5_466 : GoodIn lw_all (wsV RX5 466 mX5_endsOn.1.cls mX5_endsOn.1 (zws mX5_endsOn)) := lw_V q1688 q1690 qs80 q87 q1691
theorem gX5_475 : GoodIn lw_all (wsV RX5 475 mX5_doneBits.1.cls mX5_doneBits.1 (zws mX5_doneBits)) := lw_V q1712 q1714 qs81 q87 q1715
theorem gJ4_335 : GoodIn lw_all (wsV RJ4 335 mJ4_coder.1.cls mJ4_coder.1 (zws mJ4_coder)) := lw_V q1372 q1373 q1374 q93 q1375
theorem gJ4_492 : GoodIn lw_all (wsV RJ4 492 mJ4_isLatin1.1.cls mJ4_isLatin1.1 (zws mJ4_isLatin1)) := lw_V q1382 q1383 q1384 q93 q1385
theorem gJ4_495 : GoodIn lw_all (va_wsS RJ4 495 mJ6_charAt.1 (zws mJ6_charAt)) := lw_S q1386 q1387 q103 q1388
theorem gJ4_498 : GoodIn lw_all (va_wsS RJ4 498 mJ8_charAt.1 (zws mJ8_charAt)) := lw_S q1397 q1398 q105 q1399
theorem gJ4_1059 : GoodIn lw_all (va_wsS RJ4 1059 mJ7_checkIndex.1 (zws mJ7_checkIndex)) := lw_S q1394 q1395 q104 q1396
theorem gJ6_9 : GoodIn lw_all (va_wsS RJ6 9 mJ4_checkIndex.1 (zws mJ4_checkIndex)) := lw_S q1389 q1390 q93 q1391
theorem gJ8_48 : GoodIn lw_all (va_wsS RJ8 48 mJ8_length.1 (zws mJ8_length)) := lw_S q1403 q1404 q105 q1405
theorem gJ8_67 : GoodIn lw_all (va_wsS RJ8 67 mJ8_checkIndex.1 (zws mJ8_checkIndex)) := lw_S q1400 q1401 q105 q1402
theorem gJ8_71 : GoodIn lw_all (va_wsS RJ8 71 mJ8_getChar.1 (zws mJ8_getChar)) := lw_S q1407 q1408 q105 q1409
theorem gJ8_414 : GoodIn lw_all (va_wsS RJ8 414 mJ4_checkIndex.1 (zws mJ4_checkIndex)) := lw_S q1406 q1390 q93 q1391
theorem gJ10_304 : GoodIn lw_all (va_wsS RJ10 304 mJ5_min.1 (zws mJ5_min)) := lw_S q1022 q491 q94 q492
