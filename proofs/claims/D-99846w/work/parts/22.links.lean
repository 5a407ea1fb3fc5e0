set_option maxRecDepth 100000
theorem kn_X15_7 : exNw "ChairCane$Image" 7 1 18 := ⟨_, _, tyX1, rfl, in_X1, tyX1_ok, q1090, q152, q118, by decide +kernel⟩
theorem kn_X5_9 : exNw "ChairCane$Rule" 9 6 2 := ⟨_, _, tyX6, rfl, in_X6, tyX6_ok, q604, q620, q131, by decide +kernel⟩
theorem kn_X4_170 : exNw "ChairCane$Text" 170 6 2 := ⟨_, _, tyX6, rfl, in_X6, tyX6_ok, q619, q620, q131, by decide +kernel⟩
theorem kn_X4_193 : exNw "ChairCane$Text" 193 5 2 := ⟨_, _, tyX5, rfl, in_X5, tyX5_ok, q598, q599, q130, by decide +kernel⟩
theorem kn_X4_213 : exNw "ChairCane$Text" 213 12 3 := ⟨_, _, tyX14, rfl, in_X14, tyX14_ok, q746, q747, q139, by decide +kernel⟩
theorem kn_X4_228 : exNw "ChairCane$Text" 228 10 1 := ⟨_, _, tyX12, rfl, in_X12, tyX12_ok, q712, q713, q137, by decide +kernel⟩
theorem kn_X4_239 : exNw "ChairCane$Text" 239 11 3 := ⟨_, _, tyX13, rfl, in_X13, tyX13_ok, q729, q730, q138, by decide +kernel⟩
theorem kn_X4_247 : exNw "ChairCane$Text" 247 9 3 := ⟨_, _, tyX10, rfl, in_X10, tyX10_ok, q674, q675, q135, by decide +kernel⟩
theorem kn_X4_254 : exNw "ChairCane$Text" 254 7 1 := ⟨_, _, tyX8, rfl, in_X8, tyX8_ok, q651, q652, q133, by decide +kernel⟩
theorem kn_X4_259 : exNw "ChairCane$Text" 259 8 1 := ⟨_, _, tyX9, rfl, in_X9, tyX9_ok, q664, q665, q134, by decide +kernel⟩
theorem kn_X0_106 : exNw "ChairCane" 106 13 4 := ⟨_, _, tyX15, rfl, in_X15, tyX15_ok, q330, q1085, q142, by decide +kernel⟩
theorem kn_X0_125 : exNw "ChairCane" 125 4 7 := ⟨_, _, tyX4, rfl, in_X4, tyX4_ok, q427, q428, q124, by decide +kernel⟩
theorem kn_X0_29 : exNw "ChairCane" 29 2 8 := ⟨_, _, tyX2, rfl, in_X2, tyX2_ok, q238, q239, q122, by decide +kernel⟩
theorem kn_X0_7 : exNw "ChairCane" 7 1 18 := ⟨_, _, tyX1, rfl, in_X1, tyX1_ok, q151, q152, q118, by decide +kernel⟩
theorem kn_X0_80 : exNw "ChairCane" 80 5 2 := ⟨_, _, tyX5, rfl, in_X5, tyX5_ok, q328, q599, q130, by decide +kernel⟩
theorem kn_L_10 : exNw "ChairCaneLaw" 10 3 53 := ⟨_, _, tyX3, rfl, in_X3, tyX3_ok, q1110, q1111, q123, by decide +kernel⟩
theorem kn_L_7 : exNw "ChairCaneLaw" 7 0 23 := ⟨_, _, tyX0, rfl, in_X0, tyX0_ok, q143, q144, q117, by decide +kernel⟩
theorem kg_X14_13 : exG "ChairCane$Both" 13 12 2 := ⟨_, _, _, rfl, by decide, in_X14, Or.inl q754⟩
theorem kp_X14_13 : exPt "ChairCane$Both" 13 12 2 true .boolean := ⟨_, _, _, tyX14, rfl, by decide, in_X14, tyX14_ok, nmX14, tyX14_ok 2 (by decide), rfl, rfl, Or.inr ⟨rfl, rfl, q754⟩⟩
theorem kg_X14_17 : exG "ChairCane$Both" 17 12 1 := ⟨_, _, _, rfl, by decide, in_X14, Or.inl q753⟩
theorem kp_X14_17 : exPt "ChairCane$Both" 17 12 1 true (.object "ChairCane$Test") := ⟨_, _, _, tyX14, rfl, by decide, in_X14, tyX14_ok, nmX14, tyX14_ok 1 (by decide), rfl, rfl, Or.inr ⟨rfl, rfl, q753⟩⟩
theorem kg_X14_7 : exG "ChairCane$Both" 7 12 0 := ⟨_, _, _, rfl, by decide, in_X14, Or.inl q752⟩
theorem kp_X14_7 : exPt "ChairCane$Both" 7 12 0 true (.object "ChairCane$Test") := ⟨_, _, _, tyX14, rfl, by decide, in_X14, tyX14_ok, nmX14, tyX14_ok 0 (by decide), rfl, rfl, Or.inr ⟨rfl, rfl, q752⟩⟩
theorem kg_X6_7 : exG "ChairCane$Clause" 7 6 1 := ⟨_, _, _, rfl, by decide, in_X6, Or.inl q627⟩
theorem kp_X6_7 : exPt "ChairCane$Clause" 7 6 1 false (.object "ChairCane$Test") := ⟨_, _, _, tyX6, rfl, by decide, in_X6, tyX6_ok, nmX6, tyX6_ok 1 (by decide), rfl, rfl, Or.inl ⟨rfl, Or.inl q627⟩⟩
theorem kg_X13_13 : exG "ChairCane$Compare" 13 11 2 := ⟨_, _, _, rfl, by decide, in_X13, Or.inl q737⟩
theorem kp_X13_13 : exPt "ChairCane$Compare" 13 11 2 true .int := ⟨_, _, _, tyX13, rfl, by decide, in_X13, tyX13_ok, nmX13, tyX13_ok 2 (by decide), rfl, rfl, Or.inr ⟨rfl, rfl, q737⟩⟩
theorem kg_X13_17 : exG "ChairCane$Compare" 17 11 1 := ⟨_, _, _, rfl, by decide, in_X13, Or.inl q736⟩
theorem kp_X13_17 : exPt "ChairCane$Compare" 17 11 1 true (.object "ChairCane$Value") := ⟨_, _, _, tyX13, rfl, by decide, in_X13, tyX13_ok, nmX13, tyX13_ok 1 (by decide), rfl, rfl, Or.inr ⟨rfl, rfl, q736⟩⟩
theorem kg_X13_7 : exG "ChairCane$Compare" 7 11 0 := ⟨_, _, _, rfl, by decide, in_X13, Or.inl q735⟩
theorem kp_X13_7 : exPt "ChairCane$Compare" 7 11 0 true (.object "ChairCane$Value") := ⟨_, _, _, tyX13, rfl, by decide, in_X13, tyX13_ok, nmX13, tyX13_ok 0 (by decide), rfl, rfl, Or.inr ⟨rfl, rfl, q735⟩⟩
theorem kg_X1_15 : exG "ChairCane$Dinner" 15 1 8 := ⟨_, _, _, rfl, by decide, in_X1, Or.inl q176⟩
theorem kp_X1_15 : exPt "ChairCane$Dinner" 15 1 8 true (.array .int) := ⟨_, _, _, tyX1, rfl, by decide, in_X1, tyX1_ok, nmX1, tyX1_ok 8 (by decide), rfl, rfl, Or.inr ⟨rfl, rfl, q176⟩⟩
theorem kg_X1_18 : exG "ChairCane$Dinner" 18 1 9 := ⟨_, _, _, rfl, by decide, in_X1, Or.inl q179⟩
theorem kp_X1_18 : exPt "ChairCane$Dinner" 18 1 9 true (.array .int) := ⟨_, _, _, tyX1, rfl, by decide, in_X1, tyX1_ok, nmX1, tyX1_ok 9 (by decide), rfl, rfl, Or.inr ⟨rfl, rfl, q179⟩⟩
theorem kg_X1_21 : exG "ChairCane$Dinner" 21 1 10 := ⟨_, _, _, rfl, by decide, in_X1, Or.inl q182⟩
theorem kp_X1_21 : exPt "ChairCane$Dinner" 21 1 10 true (.array .int) := ⟨_, _, _, tyX1, rfl, by decide, in_X1, tyX1_ok, nmX1, tyX1_ok 10 (by decide), rfl, rfl, Or.inr ⟨rfl, rfl, q182⟩⟩
theorem kg_X1_24 : exG "ChairCane$Dinner" 24 1 11 := ⟨_, _, _, rfl, by decide, in_X1, Or.inl q185⟩
theorem kp_X1_24 : exPt "ChairCane$Dinner" 24 1 11 true (.array .int) := ⟨_, _, _, tyX1, rfl, by decide, in_X1, tyX1_ok, nmX1, tyX1_ok 11 (by decide), rfl, rfl, Or.inr ⟨rfl, rfl, q185⟩⟩
theorem kg_X1_27 : exG "ChairCane$Dinner" 27 1 12 := ⟨_, _, _, rfl, by decide, in_X1, Or.inl q188⟩
theorem kp_X1_27 : exPt "ChairCane$Dinner" 27 1 12 true (.array .int) := ⟨_, _, _, tyX1, rfl, by decide, in_X1, tyX1_ok, nmX1, tyX1_ok 12 (by decide), rfl, rfl, Or.inr ⟨rfl, rfl, q188⟩⟩
theorem kg_X1_30 : exG "ChairCane$Dinner" 30 1 13 := ⟨_, _, _, rfl, by decide, in_X1, Or.inl q190⟩
theorem kp_X1_30 : exPt "ChairCane$Dinner" 30 1 13 true (.array .int) := ⟨_, _, _, tyX1, rfl, by decide, in_X1, tyX1_ok, nmX1, tyX1_ok 13 (by decide), rfl, rfl, Or.inr ⟨rfl, rfl, q190⟩⟩
theorem kg_X1_33 : exG "ChairCane$Dinner" 33 1 14 := ⟨_, _, _, rfl, by decide, in_X1, Or.inl q192⟩
theorem kp_X1_33 : exPt "ChairCane$Dinner" 33 1 14 true (.array .int) := ⟨_, _, _, tyX1, rfl, by decide, in_X1, tyX1_ok, nmX1, tyX1_ok 14 (by decide), rfl, rfl, Or.inr ⟨rfl, rfl, q192⟩⟩
theorem kg_X1_36 : exG "ChairCane$Dinner" 36 1 15 := ⟨_, _, _, rfl, by decide, in_X1, Or.inl q194⟩
theorem kp_X1_36 : exPt "ChairCane$Dinner" 36 1 15 true (.array .int) := ⟨_, _, _, tyX1, rfl, by decide, in_X1, tyX1_ok, nmX1, tyX1_ok 15 (by decide), rfl, rfl, Or.inr ⟨rfl, rfl, q194⟩⟩
theorem kg_X1_39 : exG "ChairCane$Dinner" 39 1 16 := ⟨_, _, _, rfl, by decide, in_X1, Or.inl q196⟩
theorem kp_X1_39 : exPt "ChairCane$Dinner" 39 1 16 true (.array .long) := ⟨_, _, _, tyX1, rfl, by decide, in_X1, tyX1_ok, nmX1, tyX1_ok 16 (by decide), rfl, rfl, Or.inr ⟨rfl, rfl, q196⟩⟩
theorem kg_X1_43 : exG "ChairCane$Dinner" 43 1 17 := ⟨_, _, _, rfl, by decide, in_X1, Or.inl q197⟩
theorem kp_X1_43 : exPt "ChairCane$Dinner" 43 1 17 true (.array .int) := ⟨_, _, _, tyX1, rfl, by decide, in_X1, tyX1_ok, nmX1, tyX1_ok 17 (by decide), rfl, rfl, Or.inr ⟨rfl, rfl, q197⟩⟩
theorem kg_X1_46 : exG "ChairCane$Dinner" 46 1 0 := ⟨_, _, _, rfl, by decide, in_X1, Or.inl q157⟩
theorem kp_X1_46 : exPt "ChairCane$Dinner" 46 1 0 false .int := ⟨_, _, _, tyX1, rfl, by decide, in_X1, tyX1_ok, nmX1, tyX1_ok 0 (by decide), rfl, rfl, Or.inl ⟨rfl, Or.inl q157⟩⟩
theorem kg_X1_50 : exG "ChairCane$Dinner" 50 1 1 := ⟨_, _, _, rfl, by decide, in_X1, Or.inl q160⟩
theorem kp_X1_50 : exPt "ChairCane$Dinner" 50 1 1 false .int := ⟨_, _, _, tyX1, rfl, by decide, in_X1, tyX1_ok, nmX1, tyX1_ok 1 (by decide), rfl, rfl, Or.inl ⟨rfl, Or.inl q160⟩⟩
theorem kg_X1_53 : exG "ChairCane$Dinner" 53 1 2 := ⟨_, _, _, rfl, by decide, in_X1, Or.inl q163⟩
theorem kp_X1_53 : exPt "ChairCane$Dinner" 53 1 2 false .int := ⟨_, _, _, tyX1, rfl, by decide, in_X1, tyX1_ok, nmX1, tyX1_ok 2 (by decide), rfl, rfl, Or.inl ⟨rfl, Or.inl q163⟩⟩
theorem kg_X1_56 : exG "ChairCane$Dinner" 56 1 3 := ⟨_, _, _, rfl, by decide, in_X1, Or.inl q166⟩
theorem kp_X1_56 : exPt "ChairCane$Dinner" 56 1 3 false .int := ⟨_, _, _, tyX1, rfl, by decide, in_X1, tyX1_ok, nmX1, tyX1_ok 3 (by decide), rfl, rfl, Or.inl ⟨rfl, Or.inl q166⟩⟩
theorem kg_X1_59 : exG "ChairCane$Dinner" 59 1 4 := ⟨_, _, _, rfl, by decide, in_X1, Or.inl q168⟩
theorem kp_X1_59 : exPt "ChairCane$Dinner" 59 1 4 false .int := ⟨_, _, _, tyX1, rfl, by decide, in_X1, tyX1_ok, nmX1, tyX1_ok 4 (by decide), rfl, rfl, Or.inl ⟨rfl, Or.inl q168⟩⟩
theorem kg_X1_62 : exG "ChairCane$Dinner" 62 1 5 := ⟨_, _, _, rfl, by decide, in_X1, Or.inl q170⟩
theorem kp_X1_62 : exPt "ChairCane$Dinner" 62 1 5 false .int := ⟨_, _, _, tyX1, rfl, by decide, in_X1, tyX1_ok, nmX1, tyX1_ok 5 (by decide), rfl, rfl, Or.inl ⟨rfl, Or.inl q170⟩⟩
theorem kg_X1_75 : exG "ChairCane$Dinner" 75 1 6 := ⟨_, _, _, rfl, by decide, in_X1, Or.inl q172⟩
theorem kp_X1_75 : exPt "ChairCane$Dinner" 75 1 6 false .int := ⟨_, _, _, tyX1, rfl, by decide, in_X1, tyX1_ok, nmX1, tyX1_ok 6 (by decide), rfl, rfl, Or.inl ⟨rfl, Or.inl q172⟩⟩
theorem kg_X1_9 : exG "ChairCane$Dinner" 9 1 7 := ⟨_, _, _, rfl, by decide, in_X1, Or.inl q174⟩
theorem kp_X1_9 : exPt "ChairCane$Dinner" 9 1 7 true (.array .int) := ⟨_, _, _, tyX1, rfl, by decide, in_X1, tyX1_ok, nmX1, tyX1_ok 7 (by decide), rfl, rfl, Or.inr ⟨rfl, rfl, q174⟩⟩
theorem kg_X15_10 : exG "ChairCane$Image" 10 13 0 := ⟨_, _, _, rfl, by decide, in_X15, Or.inl q1092⟩
theorem kp_X15_10 : exPt "ChairCane$Image" 10 13 0 true (.object "ChairCane$Dinner") := ⟨_, _, _, tyX15, rfl, by decide, in_X15, tyX15_ok, nmX15, tyX15_ok 0 (by decide), rfl, rfl, Or.inr ⟨rfl, rfl, q1092⟩⟩
theorem kg_X12_7 : exG "ChairCane$Not" 7 10 0 := ⟨_, _, _, rfl, by decide, in_X12, Or.inl q721⟩
theorem kp_X12_7 : exPt "ChairCane$Not" 7 10 0 true (.object "ChairCane$Test") := ⟨_, _, _, tyX12, rfl, by decide, in_X12, tyX12_ok, nmX12, tyX12_ok 0 (by decide), rfl, rfl, Or.inr ⟨rfl, rfl, q721⟩⟩
theorem kg_X8_7 : exG "ChairCane$Number" 7 7 0 := ⟨_, _, _, rfl, by decide, in_X8, Or.inl q660⟩
theorem kp_X8_7 : exPt "ChairCane$Number" 7 7 0 true .long := ⟨_, _, _, tyX8, rfl, by decide, in_X8, tyX8_ok, nmX8, tyX8_ok 0 (by decide), rfl, rfl, Or.inr ⟨rfl, rfl, q660⟩⟩
theorem kg_X10_13 : exG "ChairCane$Pair" 13 9 2 := ⟨_, _, _, rfl, by decide, in_X10, Or.inl q682⟩
theorem kp_X10_13 : exPt "ChairCane$Pair" 13 9 2 true .int := ⟨_, _, _, tyX10, rfl, by decide, in_X10, tyX10_ok, nmX10, tyX10_ok 2 (by decide), rfl, rfl, Or.inr ⟨rfl, rfl, q682⟩⟩
theorem kg_X10_17 : exG "ChairCane$Pair" 17 9 1 := ⟨_, _, _, rfl, by decide, in_X10, Or.inl q681⟩
theorem kp_X10_17 : exPt "ChairCane$Pair" 17 9 1 true (.object "ChairCane$Value") := ⟨_, _, _, tyX10, rfl, by decide, in_X10, tyX10_ok, nmX10, tyX10_ok 1 (by decide), rfl, rfl, Or.inr ⟨rfl, rfl, q681⟩⟩
theorem kg_X10_7 : exG "ChairCane$Pair" 7 9 0 := ⟨_, _, _, rfl, by decide, in_X10, Or.inl q680⟩
theorem kp_X10_7 : exPt "ChairCane$Pair" 7 9 0 true (.object "ChairCane$Value") := ⟨_, _, _, tyX10, rfl, by decide, in_X10, tyX10_ok, nmX10, tyX10_ok 0 (by decide), rfl, rfl, Or.inr ⟨rfl, rfl, q680⟩⟩
theorem kg_X5_11 : exG "ChairCane$Rule" 11 5 0 := ⟨_, _, _, rfl, by decide, in_X5, Or.inl q606⟩
theorem kp_X5_11 : exPt "ChairCane$Rule" 11 5 0 true (.array (.object "ChairCane$Clause")) := ⟨_, _, _, tyX5, rfl, by decide, in_X5, tyX5_ok, nmX5, tyX5_ok 0 (by decide), rfl, rfl, Or.inr ⟨rfl, rfl, q606⟩⟩
theorem kg_X5_17 : exG "ChairCane$Rule" 17 5 1 := ⟨_, _, _, rfl, by decide, in_X5, Or.inl q608⟩
theorem kp_X5_17 : exPt "ChairCane$Rule" 17 5 1 false .int := ⟨_, _, _, tyX5, rfl, by decide, in_X5, tyX5_ok, nmX5, tyX5_ok 1 (by decide), rfl, rfl, Or.inl ⟨rfl, Or.inl q608⟩⟩
theorem kg_X4_19 : exG "ChairCane$Text" 19 4 0 := ⟨_, _, _, rfl, by decide, in_X4, Or.inl q433⟩
theorem kp_X4_19 : exPt "ChairCane$Text" 19 4 0 true (.array (.object "java/lang/String")) := ⟨_, _, _, tyX4, rfl, by decide, in_X4, tyX4_ok, nmX4, tyX4_ok 0 (by decide), rfl, rfl, Or.inr ⟨rfl, rfl, q433⟩⟩
theorem kg_X4_26 : exG "ChairCane$Text" 26 4 1 := ⟨_, _, _, rfl, by decide, in_X4, Or.inl q434⟩
theorem kp_X4_26 : exPt "ChairCane$Text" 26 4 1 true (.object "ChairCane$Dinner") := ⟨_, _, _, tyX4, rfl, by decide, in_X4, tyX4_ok, nmX4, tyX4_ok 1 (by decide), rfl, rfl, Or.inr ⟨rfl, rfl, q434⟩⟩
theorem kg_X4_3 : exG "ChairCane$Text" 3 4 6 := ⟨_, _, _, rfl, by decide, in_X4, Or.inl q439⟩
theorem kp_X4_3 : exPt "ChairCane$Text" 3 4 6 true (.object "ChairCane") := ⟨_, _, _, tyX4, rfl, by decide, in_X4, tyX4_ok, nmX4, tyX4_ok 6 (by decide), rfl, rfl, Or.inr ⟨rfl, rfl, q439⟩⟩
theorem kg_X4_42 : exG "ChairCane$Text" 42 4 2 := ⟨_, _, _, rfl, by decide, in_X4, Or.inl q435⟩
theorem kp_X4_42 : exPt "ChairCane$Text" 42 4 2 false .int := ⟨_, _, _, tyX4, rfl, by decide, in_X4, tyX4_ok, nmX4, tyX4_ok 2 (by decide), rfl, rfl, Or.inl ⟨rfl, Or.inl q435⟩⟩
theorem kg_X4_84 : exG "ChairCane$Text" 84 4 4 := ⟨_, _, _, rfl, by decide, in_X4, Or.inl q437⟩
theorem kp_X4_84 : exPt "ChairCane$Text" 84 4 4 false .int := ⟨_, _, _, tyX4, rfl, by decide, in_X4, tyX4_ok, nmX4, tyX4_ok 4 (by decide), rfl, rfl, Or.inl ⟨rfl, Or.inl q437⟩⟩
theorem kg_X4_87 : exG "ChairCane$Text" 87 4 3 := ⟨_, _, _, rfl, by decide, in_X4, Or.inl q436⟩
theorem kp_X4_87 : exPt "ChairCane$Text" 87 4 3 false .int := ⟨_, _, _, tyX4, rfl, by decide, in_X4, tyX4_ok, nmX4, tyX4_ok 3 (by decide), rfl, rfl, Or.inl ⟨rfl, Or.inl q436⟩⟩
theorem kg_X4_90 : exG "ChairCane$Text" 90 4 5 := ⟨_, _, _, rfl, by decide, in_X4, Or.inl q438⟩
theorem kp_X4_90 : exPt "ChairCane$Text" 90 4 5 false .int := ⟨_, _, _, tyX4, rfl, by decide, in_X4, tyX4_ok, nmX4, tyX4_ok 5 (by decide), rfl, rfl, Or.inl ⟨rfl, Or.inl q438⟩⟩
theorem kg_X9_7 : exG "ChairCane$Word" 7 8 0 := ⟨_, _, _, rfl, by decide, in_X9, Or.inl q670⟩
theorem kp_X9_7 : exPt "ChairCane$Word" 7 8 0 true .int := ⟨_, _, _, tyX9, rfl, by decide, in_X9, tyX9_ok, nmX9, tyX9_ok 0 (by decide), rfl, rfl, Or.inr ⟨rfl, rfl, q670⟩⟩
theorem kg_X0_10 : exG "ChairCane" 10 0 1 := ⟨_, _, _, rfl, by decide, in_X0, Or.inl q333⟩
theorem kp_X0_10 : exPt "ChairCane" 10 0 1 true (.object "ChairCane$Dinner") := ⟨_, _, _, tyX0, rfl, by decide, in_X0, tyX0_ok, nmX0, tyX0_ok 1 (by decide), rfl, rfl, Or.inr ⟨rfl, rfl, q333⟩⟩
theorem kg_X0_103 : exG "ChairCane" 103 0 20 := ⟨_, _, _, rfl, by decide, in_X0, Or.inl q360⟩
theorem kp_X0_103 : exPt "ChairCane" 103 0 20 true (.array .int) := ⟨_, _, _, tyX0, rfl, by decide, in_X0, tyX0_ok, nmX0, tyX0_ok 20 (by decide), rfl, rfl, Or.inr ⟨rfl, rfl, q360⟩⟩
theorem kg_X0_108 : exG "ChairCane" 108 0 22 := ⟨_, _, _, rfl, by decide, in_X0, Or.inl q362⟩
theorem kp_X0_108 : exPt "ChairCane" 108 0 22 true (.array (.object "ChairCane$Image")) := ⟨_, _, _, tyX0, rfl, by decide, in_X0, tyX0_ok, nmX0, tyX0_ok 22 (by decide), rfl, rfl, Or.inr ⟨rfl, rfl, q362⟩⟩
theorem kg_X0_112 : exG "ChairCane" 112 0 9 := ⟨_, _, _, rfl, by decide, in_X0, Or.inl q346⟩
theorem kp_X0_112 : exPt "ChairCane" 112 0 9 false .int := ⟨_, _, _, tyX0, rfl, by decide, in_X0, tyX0_ok, nmX0, tyX0_ok 9 (by decide), rfl, rfl, Or.inl ⟨rfl, Or.inl q346⟩⟩
theorem kg_X0_138 : exG "ChairCane" 138 0 0 := ⟨_, _, _, rfl, by decide, in_X0, Or.inl q332⟩
theorem kp_X0_138 : exPt "ChairCane" 138 0 0 false (.object "ChairCane$Dinner") := ⟨_, _, _, tyX0, rfl, by decide, in_X0, tyX0_ok, nmX0, tyX0_ok 0 (by decide), rfl, rfl, Or.inl ⟨rfl, Or.inl q332⟩⟩
theorem kg_X0_148 : exG "ChairCane" 148 0 14 := ⟨_, _, _, rfl, by decide, in_X0, Or.inl q354⟩
theorem kp_X0_148 : exPt "ChairCane" 148 0 14 false .int := ⟨_, _, _, tyX0, rfl, by decide, in_X0, tyX0_ok, nmX0, tyX0_ok 14 (by decide), rfl, rfl, Or.inl ⟨rfl, Or.inl q354⟩⟩
theorem kg_X0_16 : exG "ChairCane" 16 0 2 := ⟨_, _, _, rfl, by decide, in_X0, Or.inl q334⟩
theorem kp_X0_16 : exPt "ChairCane" 16 0 2 true (.object "ChairCane$Dinner") := ⟨_, _, _, tyX0, rfl, by decide, in_X0, tyX0_ok, nmX0, tyX0_ok 2 (by decide), rfl, rfl, Or.inr ⟨rfl, rfl, q334⟩⟩
theorem kg_X0_19 : exG "ChairCane" 19 0 3 := ⟨_, _, _, rfl, by decide, in_X0, Or.inl q336⟩
theorem kp_X0_19 : exPt "ChairCane" 19 0 3 true (.object "ChairCane$Dinner") := ⟨_, _, _, tyX0, rfl, by decide, in_X0, tyX0_ok, nmX0, tyX0_ok 3 (by decide), rfl, rfl, Or.inr ⟨rfl, rfl, q336⟩⟩
theorem kg_X0_22 : exG "ChairCane" 22 0 4 := ⟨_, _, _, rfl, by decide, in_X0, Or.inl q337⟩
theorem kp_X0_22 : exPt "ChairCane" 22 0 4 true (.object "ChairCane$Dinner") := ⟨_, _, _, tyX0, rfl, by decide, in_X0, tyX0_ok, nmX0, tyX0_ok 4 (by decide), rfl, rfl, Or.inr ⟨rfl, rfl, q337⟩⟩
theorem kg_X0_25 : exG "ChairCane" 25 0 6 := ⟨_, _, _, rfl, by decide, in_X0, Or.inl q340⟩
theorem kp_X0_25 : exPt "ChairCane" 25 0 6 false .int := ⟨_, _, _, tyX0, rfl, by decide, in_X0, tyX0_ok, nmX0, tyX0_ok 6 (by decide), rfl, rfl, Or.inl ⟨rfl, Or.inl q340⟩⟩
theorem kg_X0_32 : exG "ChairCane" 32 0 7 := ⟨_, _, _, rfl, by decide, in_X0, Or.inl q342⟩
theorem kp_X0_32 : exPt "ChairCane" 32 0 7 true (.object "ChairCane$Fault") := ⟨_, _, _, tyX0, rfl, by decide, in_X0, tyX0_ok, nmX0, tyX0_ok 7 (by decide), rfl, rfl, Or.inr ⟨rfl, rfl, q342⟩⟩
theorem kg_X0_329 : exG "ChairCane" 329 0 5 := ⟨_, _, _, rfl, by decide, in_X0, Or.inl q339⟩
theorem kp_X0_329 : exPt "ChairCane" 329 0 5 false .int := ⟨_, _, _, tyX0, rfl, by decide, in_X0, tyX0_ok, nmX0, tyX0_ok 5 (by decide), rfl, rfl, Or.inl ⟨rfl, Or.inl q339⟩⟩
theorem kg_X0_332 : exG "ChairCane" 332 0 21 := ⟨_, _, _, rfl, by decide, in_X0, Or.inl q361⟩
theorem kp_X0_332 : exPt "ChairCane" 332 0 21 false .int := ⟨_, _, _, tyX0, rfl, by decide, in_X0, tyX0_ok, nmX0, tyX0_ok 21 (by decide), rfl, rfl, Or.inl ⟨rfl, Or.inl q361⟩⟩
theorem kg_X0_36 : exG "ChairCane" 36 0 8 := ⟨_, _, _, rfl, by decide, in_X0, Or.inl q344⟩
theorem kp_X0_36 : exPt "ChairCane" 36 0 8 true (.array .byte) := ⟨_, _, _, tyX0, rfl, by decide, in_X0, tyX0_ok, nmX0, tyX0_ok 8 (by decide), rfl, rfl, Or.inr ⟨rfl, rfl, q344⟩⟩
theorem kg_X0_50 : exG "ChairCane" 50 0 10 := ⟨_, _, _, rfl, by decide, in_X0, Or.inl q347⟩
theorem kp_X0_50 : exPt "ChairCane" 50 0 10 true (.array (.object "java/lang/String")) := ⟨_, _, _, tyX0, rfl, by decide, in_X0, tyX0_ok, nmX0, tyX0_ok 10 (by decide), rfl, rfl, Or.inr ⟨rfl, rfl, q347⟩⟩
theorem kg_X0_56 : exG "ChairCane" 56 0 11 := ⟨_, _, _, rfl, by decide, in_X0, Or.inl q349⟩
theorem kp_X0_56 : exPt "ChairCane" 56 0 11 true (.array (.object "java/lang/String")) := ⟨_, _, _, tyX0, rfl, by decide, in_X0, tyX0_ok, nmX0, tyX0_ok 11 (by decide), rfl, rfl, Or.inr ⟨rfl, rfl, q349⟩⟩
theorem kg_X0_77 : exG "ChairCane" 77 0 12 := ⟨_, _, _, rfl, by decide, in_X0, Or.inl q352⟩
theorem kp_X0_77 : exPt "ChairCane" 77 0 12 true (.array (.object "java/lang/String")) := ⟨_, _, _, tyX0, rfl, by decide, in_X0, tyX0_ok, nmX0, tyX0_ok 12 (by decide), rfl, rfl, Or.inr ⟨rfl, rfl, q352⟩⟩
theorem kg_X0_82 : exG "ChairCane" 82 0 13 := ⟨_, _, _, rfl, by decide, in_X0, Or.inl q353⟩
theorem kp_X0_82 : exPt "ChairCane" 82 0 13 true (.array (.object "ChairCane$Rule")) := ⟨_, _, _, tyX0, rfl, by decide, in_X0, tyX0_ok, nmX0, tyX0_ok 13 (by decide), rfl, rfl, Or.inr ⟨rfl, rfl, q353⟩⟩
theorem kg_X0_86 : exG "ChairCane" 86 0 15 := ⟨_, _, _, rfl, by decide, in_X0, Or.inl q355⟩
theorem kp_X0_86 : exPt "ChairCane" 86 0 15 true (.array .int) := ⟨_, _, _, tyX0, rfl, by decide, in_X0, tyX0_ok, nmX0, tyX0_ok 15 (by decide), rfl, rfl, Or.inr ⟨rfl, rfl, q355⟩⟩
theorem kg_X0_90 : exG "ChairCane" 90 0 16 := ⟨_, _, _, rfl, by decide, in_X0, Or.inl q356⟩
theorem kp_X0_90 : exPt "ChairCane" 90 0 16 true (.array .int) := ⟨_, _, _, tyX0, rfl, by decide, in_X0, tyX0_ok, nmX0, tyX0_ok 16 (by decide), rfl, rfl, Or.inr ⟨rfl, rfl, q356⟩⟩
theorem kg_X0_93 : exG "ChairCane" 93 0 17 := ⟨_, _, _, rfl, by decide, in_X0, Or.inl q357⟩
theorem kp_X0_93 : exPt "ChairCane" 93 0 17 true (.array .int) := ⟨_, _, _, tyX0, rfl, by decide, in_X0, tyX0_ok, nmX0, tyX0_ok 17 (by decide), rfl, rfl, Or.inr ⟨rfl, rfl, q357⟩⟩
theorem kg_X0_96 : exG "ChairCane" 96 0 18 := ⟨_, _, _, rfl, by decide, in_X0, Or.inl q358⟩
theorem kp_X0_96 : exPt "ChairCane" 96 0 18 true (.array .int) := ⟨_, _, _, tyX0, rfl, by decide, in_X0, tyX0_ok, nmX0, tyX0_ok 18 (by decide), rfl, rfl, Or.inr ⟨rfl, rfl, q358⟩⟩
theorem kg_X0_99 : exG "ChairCane" 99 0 19 := ⟨_, _, _, rfl, by decide, in_X0, Or.inl q359⟩
theorem kp_X0_99 : exPt "ChairCane" 99 0 19 true (.array .boolean) := ⟨_, _, _, tyX0, rfl, by decide, in_X0, tyX0_ok, nmX0, tyX0_ok 19 (by decide), rfl, rfl, Or.inr ⟨rfl, rfl, q359⟩⟩
theorem kg_X3_100 : exG "ChairCaneModel" 100 3 39 := ⟨_, _, _, rfl, by decide, in_X3, Or.inl q1154⟩
theorem kp_X3_100 : exPt "ChairCaneModel" 100 3 39 true (.array .int) := ⟨_, _, _, tyX3, rfl, by decide, in_X3, tyX3_ok, nmX3, tyX3_ok 39 (by decide), rfl, rfl, Or.inr ⟨rfl, rfl, q1154⟩⟩
theorem kg_X3_103 : exG "ChairCaneModel" 103 3 40 := ⟨_, _, _, rfl, by decide, in_X3, Or.inl q1155⟩
theorem kp_X3_103 : exPt "ChairCaneModel" 103 3 40 true (.array .int) := ⟨_, _, _, tyX3, rfl, by decide, in_X3, tyX3_ok, nmX3, tyX3_ok 40 (by decide), rfl, rfl, Or.inr ⟨rfl, rfl, q1155⟩⟩
theorem kg_X3_106 : exG "ChairCaneModel" 106 3 44 := ⟨_, _, _, rfl, by decide, in_X3, Or.inl q1159⟩
theorem kp_X3_106 : exPt "ChairCaneModel" 106 3 44 true (.array .boolean) := ⟨_, _, _, tyX3, rfl, by decide, in_X3, tyX3_ok, nmX3, tyX3_ok 44 (by decide), rfl, rfl, Or.inr ⟨rfl, rfl, q1159⟩⟩
theorem kg_X3_110 : exG "ChairCaneModel" 110 3 45 := ⟨_, _, _, rfl, by decide, in_X3, Or.inl q1160⟩
theorem kp_X3_110 : exPt "ChairCaneModel" 110 3 45 true (.array .int) := ⟨_, _, _, tyX3, rfl, by decide, in_X3, tyX3_ok, nmX3, tyX3_ok 45 (by decide), rfl, rfl, Or.inr ⟨rfl, rfl, q1160⟩⟩
theorem kg_X3_113 : exG "ChairCaneModel" 113 3 46 := ⟨_, _, _, rfl, by decide, in_X3, Or.inl q1161⟩
theorem kp_X3_113 : exPt "ChairCaneModel" 113 3 46 true (.array .int) := ⟨_, _, _, tyX3, rfl, by decide, in_X3, tyX3_ok, nmX3, tyX3_ok 46 (by decide), rfl, rfl, Or.inr ⟨rfl, rfl, q1161⟩⟩
theorem kg_X3_116 : exG "ChairCaneModel" 116 3 47 := ⟨_, _, _, rfl, by decide, in_X3, Or.inl q1162⟩
theorem kp_X3_116 : exPt "ChairCaneModel" 116 3 47 true (.array .int) := ⟨_, _, _, tyX3, rfl, by decide, in_X3, tyX3_ok, nmX3, tyX3_ok 47 (by decide), rfl, rfl, Or.inr ⟨rfl, rfl, q1162⟩⟩
theorem kg_X3_119 : exG "ChairCaneModel" 119 3 48 := ⟨_, _, _, rfl, by decide, in_X3, Or.inl q1163⟩
theorem kp_X3_119 : exPt "ChairCaneModel" 119 3 48 true (.array .int) := ⟨_, _, _, tyX3, rfl, by decide, in_X3, tyX3_ok, nmX3, tyX3_ok 48 (by decide), rfl, rfl, Or.inr ⟨rfl, rfl, q1163⟩⟩
theorem kg_X3_122 : exG "ChairCaneModel" 122 3 49 := ⟨_, _, _, rfl, by decide, in_X3, Or.inl q1164⟩
theorem kp_X3_122 : exPt "ChairCaneModel" 122 3 49 true (.array .int) := ⟨_, _, _, tyX3, rfl, by decide, in_X3, tyX3_ok, nmX3, tyX3_ok 49 (by decide), rfl, rfl, Or.inr ⟨rfl, rfl, q1164⟩⟩
theorem kg_X3_125 : exG "ChairCaneModel" 125 3 50 := ⟨_, _, _, rfl, by decide, in_X3, Or.inl q1165⟩
theorem kp_X3_125 : exPt "ChairCaneModel" 125 3 50 true (.array .boolean) := ⟨_, _, _, tyX3, rfl, by decide, in_X3, tyX3_ok, nmX3, tyX3_ok 50 (by decide), rfl, rfl, Or.inr ⟨rfl, rfl, q1165⟩⟩
theorem kg_X3_13 : exG "ChairCaneModel" 13 3 2 := ⟨_, _, _, rfl, by decide, in_X3, Or.inl q1117⟩
theorem kp_X3_13 : exPt "ChairCaneModel" 13 3 2 true (.array .int) := ⟨_, _, _, tyX3, rfl, by decide, in_X3, tyX3_ok, nmX3, tyX3_ok 2 (by decide), rfl, rfl, Or.inr ⟨rfl, rfl, q1117⟩⟩
theorem kg_X3_135 : exG "ChairCaneModel" 135 3 18 := ⟨_, _, _, rfl, by decide, in_X3, Or.inl q1133⟩
theorem kp_X3_135 : exPt "ChairCaneModel" 135 3 18 false .int := ⟨_, _, _, tyX3, rfl, by decide, in_X3, tyX3_ok, nmX3, tyX3_ok 18 (by decide), rfl, rfl, Or.inl ⟨rfl, Or.inl q1133⟩⟩
theorem kg_X3_16 : exG "ChairCaneModel" 16 3 3 := ⟨_, _, _, rfl, by decide, in_X3, Or.inl q1118⟩
theorem kp_X3_16 : exPt "ChairCaneModel" 16 3 3 true (.array .int) := ⟨_, _, _, tyX3, rfl, by decide, in_X3, tyX3_ok, nmX3, tyX3_ok 3 (by decide), rfl, rfl, Or.inr ⟨rfl, rfl, q1118⟩⟩
theorem kg_X3_161 : exG "ChairCaneModel" 161 3 20 := ⟨_, _, _, rfl, by decide, in_X3, Or.inl q1135⟩
theorem kp_X3_161 : exPt "ChairCaneModel" 161 3 20 false .int := ⟨_, _, _, tyX3, rfl, by decide, in_X3, tyX3_ok, nmX3, tyX3_ok 20 (by decide), rfl, rfl, Or.inl ⟨rfl, Or.inl q1135⟩⟩
theorem kg_X3_164 : exG "ChairCaneModel" 164 3 19 := ⟨_, _, _, rfl, by decide, in_X3, Or.inl q1134⟩
theorem kp_X3_164 : exPt "ChairCaneModel" 164 3 19 false .int := ⟨_, _, _, tyX3, rfl, by decide, in_X3, tyX3_ok, nmX3, tyX3_ok 19 (by decide), rfl, rfl, Or.inl ⟨rfl, Or.inl q1134⟩⟩
theorem kg_X3_19 : exG "ChairCaneModel" 19 3 4 := ⟨_, _, _, rfl, by decide, in_X3, Or.inl q1119⟩
theorem kp_X3_19 : exPt "ChairCaneModel" 19 3 4 true (.array .int) := ⟨_, _, _, tyX3, rfl, by decide, in_X3, tyX3_ok, nmX3, tyX3_ok 4 (by decide), rfl, rfl, Or.inr ⟨rfl, rfl, q1119⟩⟩
theorem kg_X3_191 : exG "ChairCaneModel" 191 3 21 := ⟨_, _, _, rfl, by decide, in_X3, Or.inl q1136⟩
theorem kp_X3_191 : exPt "ChairCaneModel" 191 3 21 false .int := ⟨_, _, _, tyX3, rfl, by decide, in_X3, tyX3_ok, nmX3, tyX3_ok 21 (by decide), rfl, rfl, Or.inl ⟨rfl, Or.inl q1136⟩⟩
theorem kg_X3_194 : exG "ChairCaneModel" 194 3 23 := ⟨_, _, _, rfl, by decide, in_X3, Or.inl q1138⟩
theorem kp_X3_194 : exPt "ChairCaneModel" 194 3 23 false .int := ⟨_, _, _, tyX3, rfl, by decide, in_X3, tyX3_ok, nmX3, tyX3_ok 23 (by decide), rfl, rfl, Or.inl ⟨rfl, Or.inl q1138⟩⟩
theorem kg_X3_197 : exG "ChairCaneModel" 197 3 25 := ⟨_, _, _, rfl, by decide, in_X3, Or.inl q1140⟩
theorem kp_X3_197 : exPt "ChairCaneModel" 197 3 25 false .int := ⟨_, _, _, tyX3, rfl, by decide, in_X3, tyX3_ok, nmX3, tyX3_ok 25 (by decide), rfl, rfl, Or.inl ⟨rfl, Or.inl q1140⟩⟩
theorem kg_X3_22 : exG "ChairCaneModel" 22 3 5 := ⟨_, _, _, rfl, by decide, in_X3, Or.inl q1120⟩
theorem kp_X3_22 : exPt "ChairCaneModel" 22 3 5 true (.array .int) := ⟨_, _, _, tyX3, rfl, by decide, in_X3, tyX3_ok, nmX3, tyX3_ok 5 (by decide), rfl, rfl, Or.inr ⟨rfl, rfl, q1120⟩⟩
theorem kg_X3_232 : exG "ChairCaneModel" 232 3 26 := ⟨_, _, _, rfl, by decide, in_X3, Or.inl q1141⟩
theorem kp_X3_232 : exPt "ChairCaneModel" 232 3 26 false .int := ⟨_, _, _, tyX3, rfl, by decide, in_X3, tyX3_ok, nmX3, tyX3_ok 26 (by decide), rfl, rfl, Or.inl ⟨rfl, Or.inl q1141⟩⟩
theorem kg_X3_235 : exG "ChairCaneModel" 235 3 24 := ⟨_, _, _, rfl, by decide, in_X3, Or.inl q1139⟩
theorem kp_X3_235 : exPt "ChairCaneModel" 235 3 24 false .int := ⟨_, _, _, tyX3, rfl, by decide, in_X3, tyX3_ok, nmX3, tyX3_ok 24 (by decide), rfl, rfl, Or.inl ⟨rfl, Or.inl q1139⟩⟩
theorem kg_X3_25 : exG "ChairCaneModel" 25 3 6 := ⟨_, _, _, rfl, by decide, in_X3, Or.inl q1121⟩
theorem kp_X3_25 : exPt "ChairCaneModel" 25 3 6 true (.array .int) := ⟨_, _, _, tyX3, rfl, by decide, in_X3, tyX3_ok, nmX3, tyX3_ok 6 (by decide), rfl, rfl, Or.inr ⟨rfl, rfl, q1121⟩⟩
theorem kg_X3_28 : exG "ChairCaneModel" 28 3 7 := ⟨_, _, _, rfl, by decide, in_X3, Or.inl q1122⟩
theorem kp_X3_28 : exPt "ChairCaneModel" 28 3 7 true (.array .int) := ⟨_, _, _, tyX3, rfl, by decide, in_X3, tyX3_ok, nmX3, tyX3_ok 7 (by decide), rfl, rfl, Or.inr ⟨rfl, rfl, q1122⟩⟩
theorem kg_X3_299 : exG "ChairCaneModel" 299 3 41 := ⟨_, _, _, rfl, by decide, in_X3, Or.inl q1156⟩
theorem kp_X3_299 : exPt "ChairCaneModel" 299 3 41 false .int := ⟨_, _, _, tyX3, rfl, by decide, in_X3, tyX3_ok, nmX3, tyX3_ok 41 (by decide), rfl, rfl, Or.inl ⟨rfl, Or.inl q1156⟩⟩
theorem kg_X3_31 : exG "ChairCaneModel" 31 3 8 := ⟨_, _, _, rfl, by decide, in_X3, Or.inl q1123⟩
theorem kp_X3_31 : exPt "ChairCaneModel" 31 3 8 true (.array .int) := ⟨_, _, _, tyX3, rfl, by decide, in_X3, tyX3_ok, nmX3, tyX3_ok 8 (by decide), rfl, rfl, Or.inr ⟨rfl, rfl, q1123⟩⟩
theorem kg_X3_312 : exG "ChairCaneModel" 312 3 22 := ⟨_, _, _, rfl, by decide, in_X3, Or.inl q1137⟩
theorem kp_X3_312 : exPt "ChairCaneModel" 312 3 22 false .int := ⟨_, _, _, tyX3, rfl, by decide, in_X3, tyX3_ok, nmX3, tyX3_ok 22 (by decide), rfl, rfl, Or.inl ⟨rfl, Or.inl q1137⟩⟩
theorem kg_X3_34 : exG "ChairCaneModel" 34 3 9 := ⟨_, _, _, rfl, by decide, in_X3, Or.inl q1124⟩
theorem kp_X3_34 : exPt "ChairCaneModel" 34 3 9 true (.array .int) := ⟨_, _, _, tyX3, rfl, by decide, in_X3, tyX3_ok, nmX3, tyX3_ok 9 (by decide), rfl, rfl, Or.inr ⟨rfl, rfl, q1124⟩⟩
theorem kg_X3_37 : exG "ChairCaneModel" 37 3 10 := ⟨_, _, _, rfl, by decide, in_X3, Or.inl q1125⟩
theorem kp_X3_37 : exPt "ChairCaneModel" 37 3 10 true (.array .int) := ⟨_, _, _, tyX3, rfl, by decide, in_X3, tyX3_ok, nmX3, tyX3_ok 10 (by decide), rfl, rfl, Or.inr ⟨rfl, rfl, q1125⟩⟩
theorem kg_X3_386 : exG "ChairCaneModel" 386 3 43 := ⟨_, _, _, rfl, by decide, in_X3, Or.inl q1158⟩
theorem kp_X3_386 : exPt "ChairCaneModel" 386 3 43 false .boolean := ⟨_, _, _, tyX3, rfl, by decide, in_X3, tyX3_ok, nmX3, tyX3_ok 43 (by decide), rfl, rfl, Or.inl ⟨rfl, Or.inl q1158⟩⟩
theorem kg_X3_390 : exG "ChairCaneModel" 390 3 42 := ⟨_, _, _, rfl, by decide, in_X3, Or.inl q1157⟩
theorem kp_X3_390 : exPt "ChairCaneModel" 390 3 42 false .int := ⟨_, _, _, tyX3, rfl, by decide, in_X3, tyX3_ok, nmX3, tyX3_ok 42 (by decide), rfl, rfl, Or.inl ⟨rfl, Or.inl q1157⟩⟩
theorem kg_X3_40 : exG "ChairCaneModel" 40 3 11 := ⟨_, _, _, rfl, by decide, in_X3, Or.inl q1126⟩
theorem kp_X3_40 : exPt "ChairCaneModel" 40 3 11 true (.array .int) := ⟨_, _, _, tyX3, rfl, by decide, in_X3, tyX3_ok, nmX3, tyX3_ok 11 (by decide), rfl, rfl, Or.inr ⟨rfl, rfl, q1126⟩⟩
theorem kg_X3_43 : exG "ChairCaneModel" 43 3 12 := ⟨_, _, _, rfl, by decide, in_X3, Or.inl q1127⟩
theorem kp_X3_43 : exPt "ChairCaneModel" 43 3 12 true (.array .int) := ⟨_, _, _, tyX3, rfl, by decide, in_X3, tyX3_ok, nmX3, tyX3_ok 12 (by decide), rfl, rfl, Or.inr ⟨rfl, rfl, q1127⟩⟩
theorem kg_X3_46 : exG "ChairCaneModel" 46 3 13 := ⟨_, _, _, rfl, by decide, in_X3, Or.inl q1128⟩
theorem kp_X3_46 : exPt "ChairCaneModel" 46 3 13 true (.array .int) := ⟨_, _, _, tyX3, rfl, by decide, in_X3, tyX3_ok, nmX3, tyX3_ok 13 (by decide), rfl, rfl, Or.inr ⟨rfl, rfl, q1128⟩⟩
theorem kg_X3_483 : exG "ChairCaneModel" 483 3 52 := ⟨_, _, _, rfl, by decide, in_X3, Or.inl q1167⟩
theorem kp_X3_483 : exPt "ChairCaneModel" 483 3 52 false .boolean := ⟨_, _, _, tyX3, rfl, by decide, in_X3, tyX3_ok, nmX3, tyX3_ok 52 (by decide), rfl, rfl, Or.inl ⟨rfl, Or.inl q1167⟩⟩
theorem kg_X3_486 : exG "ChairCaneModel" 486 3 51 := ⟨_, _, _, rfl, by decide, in_X3, Or.inl q1166⟩
theorem kp_X3_486 : exPt "ChairCaneModel" 486 3 51 false .int := ⟨_, _, _, tyX3, rfl, by decide, in_X3, tyX3_ok, nmX3, tyX3_ok 51 (by decide), rfl, rfl, Or.inl ⟨rfl, Or.inl q1166⟩⟩
theorem kg_X3_49 : exG "ChairCaneModel" 49 3 14 := ⟨_, _, _, rfl, by decide, in_X3, Or.inl q1129⟩
theorem kp_X3_49 : exPt "ChairCaneModel" 49 3 14 true (.array .int) := ⟨_, _, _, tyX3, rfl, by decide, in_X3, tyX3_ok, nmX3, tyX3_ok 14 (by decide), rfl, rfl, Or.inr ⟨rfl, rfl, q1129⟩⟩
theorem kg_X3_52 : exG "ChairCaneModel" 52 3 15 := ⟨_, _, _, rfl, by decide, in_X3, Or.inl q1130⟩
theorem kp_X3_52 : exPt "ChairCaneModel" 52 3 15 true (.array .int) := ⟨_, _, _, tyX3, rfl, by decide, in_X3, tyX3_ok, nmX3, tyX3_ok 15 (by decide), rfl, rfl, Or.inr ⟨rfl, rfl, q1130⟩⟩
theorem kg_X3_55 : exG "ChairCaneModel" 55 3 16 := ⟨_, _, _, rfl, by decide, in_X3, Or.inl q1131⟩
theorem kp_X3_55 : exPt "ChairCaneModel" 55 3 16 true (.array .int) := ⟨_, _, _, tyX3, rfl, by decide, in_X3, tyX3_ok, nmX3, tyX3_ok 16 (by decide), rfl, rfl, Or.inr ⟨rfl, rfl, q1131⟩⟩
theorem kg_X3_58 : exG "ChairCaneModel" 58 3 17 := ⟨_, _, _, rfl, by decide, in_X3, Or.inl q1132⟩
theorem kp_X3_58 : exPt "ChairCaneModel" 58 3 17 true (.array .int) := ⟨_, _, _, tyX3, rfl, by decide, in_X3, tyX3_ok, nmX3, tyX3_ok 17 (by decide), rfl, rfl, Or.inr ⟨rfl, rfl, q1132⟩⟩
theorem kg_X3_61 : exG "ChairCaneModel" 61 3 27 := ⟨_, _, _, rfl, by decide, in_X3, Or.inl q1142⟩
theorem kp_X3_61 : exPt "ChairCaneModel" 61 3 27 false .int := ⟨_, _, _, tyX3, rfl, by decide, in_X3, tyX3_ok, nmX3, tyX3_ok 27 (by decide), rfl, rfl, Or.inl ⟨rfl, Or.inl q1142⟩⟩
theorem kg_X3_65 : exG "ChairCaneModel" 65 3 28 := ⟨_, _, _, rfl, by decide, in_X3, Or.inl q1143⟩
theorem kp_X3_65 : exPt "ChairCaneModel" 65 3 28 true (.array .byte) := ⟨_, _, _, tyX3, rfl, by decide, in_X3, tyX3_ok, nmX3, tyX3_ok 28 (by decide), rfl, rfl, Or.inr ⟨rfl, rfl, q1143⟩⟩
theorem kg_X3_69 : exG "ChairCaneModel" 69 3 29 := ⟨_, _, _, rfl, by decide, in_X3, Or.inl q1144⟩
theorem kp_X3_69 : exPt "ChairCaneModel" 69 3 29 true (.array .int) := ⟨_, _, _, tyX3, rfl, by decide, in_X3, tyX3_ok, nmX3, tyX3_ok 29 (by decide), rfl, rfl, Or.inr ⟨rfl, rfl, q1144⟩⟩
theorem kg_X3_72 : exG "ChairCaneModel" 72 3 30 := ⟨_, _, _, rfl, by decide, in_X3, Or.inl q1145⟩
theorem kp_X3_72 : exPt "ChairCaneModel" 72 3 30 true (.array .int) := ⟨_, _, _, tyX3, rfl, by decide, in_X3, tyX3_ok, nmX3, tyX3_ok 30 (by decide), rfl, rfl, Or.inr ⟨rfl, rfl, q1145⟩⟩
theorem kg_X3_75 : exG "ChairCaneModel" 75 3 31 := ⟨_, _, _, rfl, by decide, in_X3, Or.inl q1146⟩
theorem kp_X3_75 : exPt "ChairCaneModel" 75 3 31 true (.array .int) := ⟨_, _, _, tyX3, rfl, by decide, in_X3, tyX3_ok, nmX3, tyX3_ok 31 (by decide), rfl, rfl, Or.inr ⟨rfl, rfl, q1146⟩⟩
theorem kg_X3_78 : exG "ChairCaneModel" 78 3 32 := ⟨_, _, _, rfl, by decide, in_X3, Or.inl q1147⟩
theorem kp_X3_78 : exPt "ChairCaneModel" 78 3 32 true (.array .int) := ⟨_, _, _, tyX3, rfl, by decide, in_X3, tyX3_ok, nmX3, tyX3_ok 32 (by decide), rfl, rfl, Or.inr ⟨rfl, rfl, q1147⟩⟩
theorem kg_X3_81 : exG "ChairCaneModel" 81 3 33 := ⟨_, _, _, rfl, by decide, in_X3, Or.inl q1148⟩
theorem kp_X3_81 : exPt "ChairCaneModel" 81 3 33 true (.array .int) := ⟨_, _, _, tyX3, rfl, by decide, in_X3, tyX3_ok, nmX3, tyX3_ok 33 (by decide), rfl, rfl, Or.inr ⟨rfl, rfl, q1148⟩⟩
theorem kg_X3_84 : exG "ChairCaneModel" 84 3 34 := ⟨_, _, _, rfl, by decide, in_X3, Or.inl q1149⟩
theorem kp_X3_84 : exPt "ChairCaneModel" 84 3 34 true (.array .int) := ⟨_, _, _, tyX3, rfl, by decide, in_X3, tyX3_ok, nmX3, tyX3_ok 34 (by decide), rfl, rfl, Or.inr ⟨rfl, rfl, q1149⟩⟩
theorem kg_X3_87 : exG "ChairCaneModel" 87 3 35 := ⟨_, _, _, rfl, by decide, in_X3, Or.inl q1150⟩
theorem kp_X3_87 : exPt "ChairCaneModel" 87 3 35 true (.array .int) := ⟨_, _, _, tyX3, rfl, by decide, in_X3, tyX3_ok, nmX3, tyX3_ok 35 (by decide), rfl, rfl, Or.inr ⟨rfl, rfl, q1150⟩⟩
theorem kg_X3_9 : exG "ChairCaneModel" 9 3 1 := ⟨_, _, _, rfl, by decide, in_X3, Or.inl q1116⟩
theorem kp_X3_9 : exPt "ChairCaneModel" 9 3 1 true (.array .int) := ⟨_, _, _, tyX3, rfl, by decide, in_X3, tyX3_ok, nmX3, tyX3_ok 1 (by decide), rfl, rfl, Or.inr ⟨rfl, rfl, q1116⟩⟩
theorem kg_X3_90 : exG "ChairCaneModel" 90 3 36 := ⟨_, _, _, rfl, by decide, in_X3, Or.inl q1151⟩
theorem kp_X3_90 : exPt "ChairCaneModel" 90 3 36 true (.array .long) := ⟨_, _, _, tyX3, rfl, by decide, in_X3, tyX3_ok, nmX3, tyX3_ok 36 (by decide), rfl, rfl, Or.inr ⟨rfl, rfl, q1151⟩⟩
theorem kg_X3_94 : exG "ChairCaneModel" 94 3 37 := ⟨_, _, _, rfl, by decide, in_X3, Or.inl q1152⟩
theorem kp_X3_94 : exPt "ChairCaneModel" 94 3 37 true (.array .long) := ⟨_, _, _, tyX3, rfl, by decide, in_X3, tyX3_ok, nmX3, tyX3_ok 37 (by decide), rfl, rfl, Or.inr ⟨rfl, rfl, q1152⟩⟩
theorem kg_X3_97 : exG "ChairCaneModel" 97 3 38 := ⟨_, _, _, rfl, by decide, in_X3, Or.inl q1153⟩
theorem kp_X3_97 : exPt "ChairCaneModel" 97 3 38 true (.array .int) := ⟨_, _, _, tyX3, rfl, by decide, in_X3, tyX3_ok, nmX3, tyX3_ok 38 (by decide), rfl, rfl, Or.inr ⟨rfl, rfl, q1153⟩⟩
theorem kg_J0_17 : exG "java/lang/Throwable" 17 2 1 := ⟨_, _, _, rfl, by decide, in_X2, Or.inl q297⟩
theorem kp_J0_17 : exPt "java/lang/Throwable" 17 2 1 false (.array (.object "java/lang/StackTraceElement")) := ⟨_, _, _, tyX2, rfl, by decide, in_X2, tyX2_ok, nmX2, tyX2_ok 1 (by decide), rfl, rfl, Or.inl ⟨rfl, Or.inl q297⟩⟩
theorem kg_J0_198 : exG "java/lang/Throwable" 198 2 4 := ⟨_, _, _, rfl, by decide, in_X2, Or.inl q259⟩
theorem kp_J0_198 : exPt "java/lang/Throwable" 198 2 4 false (.object "java/lang/Object") := ⟨_, _, _, tyX2, rfl, by decide, in_X2, tyX2_ok, nmX2, tyX2_ok 4 (by decide), rfl, rfl, Or.inl ⟨rfl, Or.inl q259⟩⟩
theorem kg_J0_24 : exG "java/lang/Throwable" 24 2 2 := ⟨_, _, _, rfl, by decide, in_X2, Or.inl q298⟩
theorem kp_J0_24 : exPt "java/lang/Throwable" 24 2 2 false (.object "java/util/List") := ⟨_, _, _, tyX2, rfl, by decide, in_X2, tyX2_ok, nmX2, tyX2_ok 2 (by decide), rfl, rfl, Or.inl ⟨rfl, Or.inl q298⟩⟩
theorem kg_J0_31 : exG "java/lang/Throwable" 31 2 3 := ⟨_, _, _, rfl, by decide, in_X2, Or.inl q295⟩
theorem kp_J0_31 : exPt "java/lang/Throwable" 31 2 3 false (.object "java/lang/String") := ⟨_, _, _, tyX2, rfl, by decide, in_X2, tyX2_ok, nmX2, tyX2_ok 3 (by decide), rfl, rfl, Or.inl ⟨rfl, Or.inl q295⟩⟩
theorem kg_J0_7 : exG "java/lang/Throwable" 7 2 0 := ⟨_, _, _, rfl, by decide, in_X2, Or.inl q296⟩
theorem kp_J0_7 : exPt "java/lang/Throwable" 7 2 0 false (.object "java/lang/Throwable") := ⟨_, _, _, tyX2, rfl, by decide, in_X2, tyX2_ok, nmX2, tyX2_ok 0 (by decide), rfl, rfl, Or.inl ⟨rfl, Or.inl q296⟩⟩
theorem kg_X5_25 : exG "ChairCane$Rule" 25 6 0 := ⟨_, _, _, rfl, by decide, in_X6, Or.inr ⟨_, exNest_in q625 rfl⟩⟩
theorem kp_X5_25 : exPt "ChairCane$Rule" 25 6 0 false (.object "ChairCane$Value") := ⟨_, _, _, tyX6, rfl, by decide, in_X6, tyX6_ok, nmX6, tyX6_ok 0 (by decide), rfl, rfl, Or.inl ⟨rfl, Or.inr ⟨_, exNest_in q625 rfl⟩⟩⟩
theorem kg_X4_101 : exG "ChairCane$Text" 101 1 1 := ⟨_, _, _, rfl, by decide, in_X1, Or.inr ⟨_, exNest_in q162 rfl⟩⟩
theorem kp_X4_101 : exPt "ChairCane$Text" 101 1 1 false .int := ⟨_, _, _, tyX1, rfl, by decide, in_X1, tyX1_ok, nmX1, tyX1_ok 1 (by decide), rfl, rfl, Or.inl ⟨rfl, Or.inr ⟨_, exNest_in q162 rfl⟩⟩⟩
theorem kg_X4_104 : exG "ChairCane$Text" 104 1 7 := ⟨_, _, _, rfl, by decide, in_X1, Or.inr ⟨_, exNest_in q175 rfl⟩⟩
theorem kg_X4_112 : exG "ChairCane$Text" 112 1 8 := ⟨_, _, _, rfl, by decide, in_X1, Or.inr ⟨_, exNest_in q177 rfl⟩⟩
theorem kg_X4_115 : exG "ChairCane$Text" 115 1 9 := ⟨_, _, _, rfl, by decide, in_X1, Or.inr ⟨_, exNest_in q180 rfl⟩⟩
theorem kg_X4_122 : exG "ChairCane$Text" 122 1 2 := ⟨_, _, _, rfl, by decide, in_X1, Or.inr ⟨_, exNest_in q165 rfl⟩⟩
theorem kp_X4_122 : exPt "ChairCane$Text" 122 1 2 false .int := ⟨_, _, _, tyX1, rfl, by decide, in_X1, tyX1_ok, nmX1, tyX1_ok 2 (by decide), rfl, rfl, Or.inl ⟨rfl, Or.inr ⟨_, exNest_in q165 rfl⟩⟩⟩
theorem kg_X4_125 : exG "ChairCane$Text" 125 1 10 := ⟨_, _, _, rfl, by decide, in_X1, Or.inr ⟨_, exNest_in q183 rfl⟩⟩
theorem kg_X4_128 : exG "ChairCane$Text" 128 1 11 := ⟨_, _, _, rfl, by decide, in_X1, Or.inr ⟨_, exNest_in q186 rfl⟩⟩
theorem kg_X4_140 : exG "ChairCane$Text" 140 0 4 := ⟨_, _, _, rfl, by decide, in_X0, Or.inr ⟨_, exNest_in q338 rfl⟩⟩
theorem kg_X4_147 : exG "ChairCane$Text" 147 0 10 := ⟨_, _, _, rfl, by decide, in_X0, Or.inr ⟨_, exNest_in q348 rfl⟩⟩
theorem kg_X4_15 : exG "ChairCane$Text" 15 0 12 := ⟨_, _, _, rfl, by decide, in_X0, Or.inr ⟨_, exNest_in q351 rfl⟩⟩
theorem kg_X4_177 : exG "ChairCane$Text" 177 6 0 := ⟨_, _, _, rfl, by decide, in_X6, Or.inr ⟨_, exNest_in q626 rfl⟩⟩
theorem kp_X4_177 : exPt "ChairCane$Text" 177 6 0 false (.object "ChairCane$Value") := ⟨_, _, _, tyX6, rfl, by decide, in_X6, tyX6_ok, nmX6, tyX6_ok 0 (by decide), rfl, rfl, Or.inl ⟨rfl, Or.inr ⟨_, exNest_in q626 rfl⟩⟩⟩
theorem kg_X4_189 : exG "ChairCane$Text" 189 6 1 := ⟨_, _, _, rfl, by decide, in_X6, Or.inr ⟨_, exNest_in q628 rfl⟩⟩
theorem kp_X4_189 : exPt "ChairCane$Text" 189 6 1 false (.object "ChairCane$Test") := ⟨_, _, _, tyX6, rfl, by decide, in_X6, tyX6_ok, nmX6, tyX6_ok 1 (by decide), rfl, rfl, Or.inl ⟨rfl, Or.inr ⟨_, exNest_in q628 rfl⟩⟩⟩
theorem kg_X4_196 : exG "ChairCane$Text" 196 0 11 := ⟨_, _, _, rfl, by decide, in_X0, Or.inr ⟨_, exNest_in q350 rfl⟩⟩
theorem kg_X4_199 : exG "ChairCane$Text" 199 5 0 := ⟨_, _, _, rfl, by decide, in_X5, Or.inr ⟨_, exNest_in q607 rfl⟩⟩
theorem kg_X4_203 : exG "ChairCane$Text" 203 5 1 := ⟨_, _, _, rfl, by decide, in_X5, Or.inr ⟨_, exNest_in q609 rfl⟩⟩
theorem kp_X4_203 : exPt "ChairCane$Text" 203 5 1 false .int := ⟨_, _, _, tyX5, rfl, by decide, in_X5, tyX5_ok, nmX5, tyX5_ok 1 (by decide), rfl, rfl, Or.inl ⟨rfl, Or.inr ⟨_, exNest_in q609 rfl⟩⟩⟩
theorem kg_X4_22 : exG "ChairCane$Text" 22 0 3 := ⟨_, _, _, rfl, by decide, in_X0, Or.inr ⟨_, exNest_in q335 rfl⟩⟩
theorem kg_X4_29 : exG "ChairCane$Text" 29 0 7 := ⟨_, _, _, rfl, by decide, in_X0, Or.inr ⟨_, exNest_in q341 rfl⟩⟩
theorem kg_X4_33 : exG "ChairCane$Text" 33 2 6 := ⟨_, _, _, rfl, by decide, in_X2, Or.inr ⟨_, exNest_in q290 rfl⟩⟩
theorem kp_X4_33 : exPt "ChairCane$Text" 33 2 6 false .int := ⟨_, _, _, tyX2, rfl, by decide, in_X2, tyX2_ok, nmX2, tyX2_ok 6 (by decide), rfl, rfl, Or.inl ⟨rfl, Or.inr ⟨_, exNest_in q290 rfl⟩⟩⟩
theorem kg_X4_39 : exG "ChairCane$Text" 39 2 7 := ⟨_, _, _, rfl, by decide, in_X2, Or.inr ⟨_, exNest_in q292 rfl⟩⟩
theorem kp_X4_39 : exPt "ChairCane$Text" 39 2 7 false .int := ⟨_, _, _, tyX2, rfl, by decide, in_X2, tyX2_ok, nmX2, tyX2_ok 7 (by decide), rfl, rfl, Or.inl ⟨rfl, Or.inr ⟨_, exNest_in q292 rfl⟩⟩⟩
theorem kg_X4_45 : exG "ChairCane$Text" 45 0 9 := ⟨_, _, _, rfl, by decide, in_X0, Or.inr ⟨_, exNest_in q345 rfl⟩⟩
theorem kp_X4_45 : exPt "ChairCane$Text" 45 0 9 false .int := ⟨_, _, _, tyX0, rfl, by decide, in_X0, tyX0_ok, nmX0, tyX0_ok 9 (by decide), rfl, rfl, Or.inl ⟨rfl, Or.inr ⟨_, exNest_in q345 rfl⟩⟩⟩
theorem kg_X4_48 : exG "ChairCane$Text" 48 0 8 := ⟨_, _, _, rfl, by decide, in_X0, Or.inr ⟨_, exNest_in q343 rfl⟩⟩
theorem kg_X4_93 : exG "ChairCane$Text" 93 1 5 := ⟨_, _, _, rfl, by decide, in_X1, Or.inr ⟨_, exNest_in q171 rfl⟩⟩
theorem kp_X4_93 : exPt "ChairCane$Text" 93 1 5 false .int := ⟨_, _, _, tyX1, rfl, by decide, in_X1, tyX1_ok, nmX1, tyX1_ok 5 (by decide), rfl, rfl, Or.inl ⟨rfl, Or.inr ⟨_, exNest_in q171 rfl⟩⟩⟩
theorem kg_X4_98 : exG "ChairCane$Text" 98 1 0 := ⟨_, _, _, rfl, by decide, in_X1, Or.inr ⟨_, exNest_in q159 rfl⟩⟩
theorem kp_X4_98 : exPt "ChairCane$Text" 98 1 0 false .int := ⟨_, _, _, tyX1, rfl, by decide, in_X1, tyX1_ok, nmX1, tyX1_ok 0 (by decide), rfl, rfl, Or.inl ⟨rfl, Or.inr ⟨_, exNest_in q159 rfl⟩⟩⟩
theorem kg_X0_119 : exG "ChairCane" 119 2 7 := ⟨_, _, _, rfl, by decide, in_X2, Or.inr ⟨_, exNest_in q293 rfl⟩⟩
theorem kp_X0_119 : exPt "ChairCane" 119 2 7 false .int := ⟨_, _, _, tyX2, rfl, by decide, in_X2, tyX2_ok, nmX2, tyX2_ok 7 (by decide), rfl, rfl, Or.inl ⟨rfl, Or.inr ⟨_, exNest_in q293 rfl⟩⟩⟩
theorem kg_X0_122 : exG "ChairCane" 122 2 6 := ⟨_, _, _, rfl, by decide, in_X2, Or.inr ⟨_, exNest_in q291 rfl⟩⟩
theorem kp_X0_122 : exPt "ChairCane" 122 2 6 false .int := ⟨_, _, _, tyX2, rfl, by decide, in_X2, tyX2_ok, nmX2, tyX2_ok 6 (by decide), rfl, rfl, Or.inl ⟨rfl, Or.inr ⟨_, exNest_in q291 rfl⟩⟩⟩
theorem kg_X0_141 : exG "ChairCane" 141 1 2 := ⟨_, _, _, rfl, by decide, in_X1, Or.inr ⟨_, exNest_in q164 rfl⟩⟩
theorem kp_X0_141 : exPt "ChairCane" 141 1 2 false .int := ⟨_, _, _, tyX1, rfl, by decide, in_X1, tyX1_ok, nmX1, tyX1_ok 2 (by decide), rfl, rfl, Or.inl ⟨rfl, Or.inr ⟨_, exNest_in q164 rfl⟩⟩⟩
theorem kg_X0_155 : exG "ChairCane" 155 1 0 := ⟨_, _, _, rfl, by decide, in_X1, Or.inr ⟨_, exNest_in q158 rfl⟩⟩
theorem kp_X0_155 : exPt "ChairCane" 155 1 0 false .int := ⟨_, _, _, tyX1, rfl, by decide, in_X1, tyX1_ok, nmX1, tyX1_ok 0 (by decide), rfl, rfl, Or.inl ⟨rfl, Or.inr ⟨_, exNest_in q158 rfl⟩⟩⟩
theorem kg_X0_158 : exG "ChairCane" 158 1 1 := ⟨_, _, _, rfl, by decide, in_X1, Or.inr ⟨_, exNest_in q161 rfl⟩⟩
theorem kp_X0_158 : exPt "ChairCane" 158 1 1 false .int := ⟨_, _, _, tyX1, rfl, by decide, in_X1, tyX1_ok, nmX1, tyX1_ok 1 (by decide), rfl, rfl, Or.inl ⟨rfl, Or.inr ⟨_, exNest_in q161 rfl⟩⟩⟩
theorem kg_X0_165 : exG "ChairCane" 165 1 13 := ⟨_, _, _, rfl, by decide, in_X1, Or.inr ⟨_, exNest_in q191 rfl⟩⟩
theorem kg_X0_171 : exG "ChairCane" 171 1 14 := ⟨_, _, _, rfl, by decide, in_X1, Or.inr ⟨_, exNest_in q193 rfl⟩⟩
theorem kg_X0_186 : exG "ChairCane" 186 1 8 := ⟨_, _, _, rfl, by decide, in_X1, Or.inr ⟨_, exNest_in q178 rfl⟩⟩
theorem kg_X0_188 : exG "ChairCane" 188 1 9 := ⟨_, _, _, rfl, by decide, in_X1, Or.inr ⟨_, exNest_in q181 rfl⟩⟩
theorem kg_X0_195 : exG "ChairCane" 195 1 10 := ⟨_, _, _, rfl, by decide, in_X1, Or.inr ⟨_, exNest_in q184 rfl⟩⟩
theorem kg_X0_197 : exG "ChairCane" 197 1 11 := ⟨_, _, _, rfl, by decide, in_X1, Or.inr ⟨_, exNest_in q187 rfl⟩⟩
theorem kg_X0_199 : exG "ChairCane" 199 1 4 := ⟨_, _, _, rfl, by decide, in_X1, Or.inr ⟨_, exNest_in q169 rfl⟩⟩
theorem kp_X0_199 : exPt "ChairCane" 199 1 4 false .int := ⟨_, _, _, tyX1, rfl, by decide, in_X1, tyX1_ok, nmX1, tyX1_ok 4 (by decide), rfl, rfl, Or.inl ⟨rfl, Or.inr ⟨_, exNest_in q169 rfl⟩⟩⟩
theorem kg_X0_202 : exG "ChairCane" 202 1 15 := ⟨_, _, _, rfl, by decide, in_X1, Or.inr ⟨_, exNest_in q195 rfl⟩⟩
theorem kg_X0_217 : exG "ChairCane" 217 1 6 := ⟨_, _, _, rfl, by decide, in_X1, Or.inr ⟨_, exNest_in q173 rfl⟩⟩
theorem kp_X0_217 : exPt "ChairCane" 217 1 6 false .int := ⟨_, _, _, tyX1, rfl, by decide, in_X1, tyX1_ok, nmX1, tyX1_ok 6 (by decide), rfl, rfl, Or.inl ⟨rfl, Or.inr ⟨_, exNest_in q173 rfl⟩⟩⟩
theorem kg_X0_274 : exG "ChairCane" 274 1 17 := ⟨_, _, _, rfl, by decide, in_X1, Or.inr ⟨_, exNest_in q198 rfl⟩⟩
theorem kg_X0_300 : exG "ChairCane" 300 1 3 := ⟨_, _, _, rfl, by decide, in_X1, Or.inr ⟨_, exNest_in q167 rfl⟩⟩
theorem kp_X0_300 : exPt "ChairCane" 300 1 3 false .int := ⟨_, _, _, tyX1, rfl, by decide, in_X1, tyX1_ok, nmX1, tyX1_ok 3 (by decide), rfl, rfl, Or.inl ⟨rfl, Or.inr ⟨_, exNest_in q167 rfl⟩⟩⟩
theorem kg_X0_305 : exG "ChairCane" 305 1 12 := ⟨_, _, _, rfl, by decide, in_X1, Or.inr ⟨_, exNest_in q189 rfl⟩⟩
theorem kg_X0_353 : exG "ChairCane" 353 13 1 := ⟨_, _, _, rfl, by decide, in_X15, Or.inr ⟨_, exNest_in q1094 rfl⟩⟩
theorem kp_X0_353 : exPt "ChairCane" 353 13 1 false .boolean := ⟨_, _, _, tyX15, rfl, by decide, in_X15, tyX15_ok, nmX15, tyX15_ok 1 (by decide), rfl, rfl, Or.inl ⟨rfl, Or.inr ⟨_, exNest_in q1094 rfl⟩⟩⟩
theorem kg_X0_357 : exG "ChairCane" 357 13 2 := ⟨_, _, _, rfl, by decide, in_X15, Or.inr ⟨_, exNest_in q1095 rfl⟩⟩
theorem kp_X0_357 : exPt "ChairCane" 357 13 2 false .int := ⟨_, _, _, tyX15, rfl, by decide, in_X15, tyX15_ok, nmX15, tyX15_ok 2 (by decide), rfl, rfl, Or.inl ⟨rfl, Or.inr ⟨_, exNest_in q1095 rfl⟩⟩⟩
theorem kg_X0_358 : exG "ChairCane" 358 13 3 := ⟨_, _, _, rfl, by decide, in_X15, Or.inr ⟨_, exNest_in q1096 rfl⟩⟩
theorem kp_X0_358 : exPt "ChairCane" 358 13 3 false .int := ⟨_, _, _, tyX15, rfl, by decide, in_X15, tyX15_ok, nmX15, tyX15_ok 3 (by decide), rfl, rfl, Or.inl ⟨rfl, Or.inr ⟨_, exNest_in q1096 rfl⟩⟩⟩
theorem kg_X0_359 : exG "ChairCane" 359 13 0 := ⟨_, _, _, rfl, by decide, in_X15, Or.inr ⟨_, exNest_in q1093 rfl⟩⟩
theorem ku_X14_20_X12 : exCU "ChairCane$Both" 20 10 yX12_is cX12_is 2 (some .boolean) 1 := ⟨"ChairCane$Not", "ChairCane$Test", _, _, ⟨"ChairCane$Test", "is", "([J)Z"⟩, rfl, lw_good (fun w hw => by
  rcases List.mem_cons.mp hw with rfl | hw
  · exact q872
  rcases List.mem_cons.mp hw with rfl | hw
  · exact q868
  rcases List.mem_cons.mp hw with rfl | hw
  · exact q892
  rcases List.mem_cons.mp hw with rfl | hw
  · exact q888
  rcases List.mem_cons.mp hw with rfl | hw
  · exact q137
  rcases List.mem_cons.mp hw with rfl | hw
  · exact q889
  exact hw), exNest_in q867 rfl, ⟨by decide +kernel, by decide +kernel, by decide +kernel⟩, by decide⟩
theorem ku_X14_20_X13 : exCU "ChairCane$Both" 20 11 yX13_is cX13_is 6 (some .boolean) 1 := ⟨"ChairCane$Compare", "ChairCane$Test", _, _, ⟨"ChairCane$Test", "is", "([J)Z"⟩, rfl, lw_good (fun w hw => by
  rcases List.mem_cons.mp hw with rfl | hw
  · exact q872
  rcases List.mem_cons.mp hw with rfl | hw
  · exact q868
  rcases List.mem_cons.mp hw with rfl | hw
  · exact q891
  rcases List.mem_cons.mp hw with rfl | hw
  · exact q873
  rcases List.mem_cons.mp hw with rfl | hw
  · exact q138
  rcases List.mem_cons.mp hw with rfl | hw
  · exact q874
  exact hw), exNest_in q867 rfl, ⟨by decide +kernel, by decide +kernel, by decide +kernel⟩, by decide⟩
theorem ku_X14_20_X14 : exCU "ChairCane$Both" 20 12 yX14_is cX14_is 2 (some .boolean) 1 := ⟨"ChairCane$Both", "ChairCane$Test", _, _, ⟨"ChairCane$Test", "is", "([J)Z"⟩, rfl, lw_good (fun w hw => by
  rcases List.mem_cons.mp hw with rfl | hw
  · exact q872
  rcases List.mem_cons.mp hw with rfl | hw
  · exact q868
  rcases List.mem_cons.mp hw with rfl | hw
  · exact q869
  rcases List.mem_cons.mp hw with rfl | hw
  · exact q870
  rcases List.mem_cons.mp hw with rfl | hw
  · exact q139
  rcases List.mem_cons.mp hw with rfl | hw
  · exact q871
  exact hw), exNest_in q867 rfl, ⟨by decide +kernel, by decide +kernel, by decide +kernel⟩, by decide⟩
theorem ku_X6_13_X12 : exCU "ChairCane$Clause" 13 10 yX12_is cX12_is 2 (some .boolean) 1 := ⟨"ChairCane$Not", "ChairCane$Test", _, _, ⟨"ChairCane$Test", "is", "([J)Z"⟩, rfl, lw_good (fun w hw => by
  rcases List.mem_cons.mp hw with rfl | hw
  · exact q866
  rcases List.mem_cons.mp hw with rfl | hw
  · exact q868
  rcases List.mem_cons.mp hw with rfl | hw
  · exact q892
  rcases List.mem_cons.mp hw with rfl | hw
  · exact q888
  rcases List.mem_cons.mp hw with rfl | hw
  · exact q137
  rcases List.mem_cons.mp hw with rfl | hw
  · exact q889
  exact hw), exNest_in q867 rfl, ⟨by decide +kernel, by decide +kernel, by decide +kernel⟩, by decide⟩
theorem ku_X6_13_X13 : exCU "ChairCane$Clause" 13 11 yX13_is cX13_is 6 (some .boolean) 1 := ⟨"ChairCane$Compare", "ChairCane$Test", _, _, ⟨"ChairCane$Test", "is", "([J)Z"⟩, rfl, lw_good (fun w hw => by
  rcases List.mem_cons.mp hw with rfl | hw
  · exact q866
  rcases List.mem_cons.mp hw with rfl | hw
  · exact q868
  rcases List.mem_cons.mp hw with rfl | hw
  · exact q891
  rcases List.mem_cons.mp hw with rfl | hw
  · exact q873
  rcases List.mem_cons.mp hw with rfl | hw
  · exact q138
  rcases List.mem_cons.mp hw with rfl | hw
  · exact q874
  exact hw), exNest_in q867 rfl, ⟨by decide +kernel, by decide +kernel, by decide +kernel⟩, by decide⟩
theorem ku_X6_13_X14 : exCU "ChairCane$Clause" 13 12 yX14_is cX14_is 2 (some .boolean) 1 := ⟨"ChairCane$Both", "ChairCane$Test", _, _, ⟨"ChairCane$Test", "is", "([J)Z"⟩, rfl, lw_good (fun w hw => by
  rcases List.mem_cons.mp hw with rfl | hw
  · exact q866
  rcases List.mem_cons.mp hw with rfl | hw
  · exact q868
  rcases List.mem_cons.mp hw with rfl | hw
  · exact q869
  rcases List.mem_cons.mp hw with rfl | hw
  · exact q870
  rcases List.mem_cons.mp hw with rfl | hw
  · exact q139
  rcases List.mem_cons.mp hw with rfl | hw
  · exact q871
  exact hw), exNest_in q867 rfl, ⟨by decide +kernel, by decide +kernel, by decide +kernel⟩, by decide⟩
theorem ku_X13_20_X8 : exCU "ChairCane$Compare" 20 7 yX8_of cX8_of 2 (some .long) 1 := ⟨"ChairCane$Number", "ChairCane$Value", _, _, ⟨"ChairCane$Value", "of", "([J)J"⟩, rfl, lw_good (fun w hw => by
  rcases List.mem_cons.mp hw with rfl | hw
  · exact q875
  rcases List.mem_cons.mp hw with rfl | hw
  · exact q877
  rcases List.mem_cons.mp hw with rfl | hw
  · exact q878
  rcases List.mem_cons.mp hw with rfl | hw
  · exact q879
  rcases List.mem_cons.mp hw with rfl | hw
  · exact q133
  rcases List.mem_cons.mp hw with rfl | hw
  · exact q880
  exact hw), exNest_in q876 rfl, ⟨by decide +kernel, by decide +kernel, by decide +kernel⟩, by decide⟩
theorem ku_X13_20_X9 : exCU "ChairCane$Compare" 20 8 yX9_of cX9_of 2 (some .long) 1 := ⟨"ChairCane$Word", "ChairCane$Value", _, _, ⟨"ChairCane$Value", "of", "([J)J"⟩, rfl, lw_good (fun w hw => by
  rcases List.mem_cons.mp hw with rfl | hw
  · exact q875
  rcases List.mem_cons.mp hw with rfl | hw
  · exact q877
  rcases List.mem_cons.mp hw with rfl | hw
  · exact q887
  rcases List.mem_cons.mp hw with rfl | hw
  · exact q885
  rcases List.mem_cons.mp hw with rfl | hw
  · exact q134
  rcases List.mem_cons.mp hw with rfl | hw
  · exact q886
  exact hw), exNest_in q876 rfl, ⟨by decide +kernel, by decide +kernel, by decide +kernel⟩, by decide⟩
theorem ku_X13_20_X10 : exCU "ChairCane$Compare" 20 9 yX10_of cX10_of 6 (some .long) 1 := ⟨"ChairCane$Pair", "ChairCane$Value", _, _, ⟨"ChairCane$Value", "of", "([J)J"⟩, rfl, lw_good (fun w hw => by
  rcases List.mem_cons.mp hw with rfl | hw
  · exact q875
  rcases List.mem_cons.mp hw with rfl | hw
  · exact q877
  rcases List.mem_cons.mp hw with rfl | hw
  · exact q881
  rcases List.mem_cons.mp hw with rfl | hw
  · exact q882
  rcases List.mem_cons.mp hw with rfl | hw
  · exact q135
  rcases List.mem_cons.mp hw with rfl | hw
  · exact q883
  exact hw), exNest_in q876 rfl, ⟨by decide +kernel, by decide +kernel, by decide +kernel⟩, by decide⟩
theorem ks_X1_102 : exCS "ChairCane$Dinner" 102 yJ7_bitCount cJ7_bitCount 1 (some .int) 1 := ⟨Or.inl (lw_S q852 q853 q140 q854), ⟨by decide +kernel, by decide +kernel, by decide +kernel⟩, by decide⟩
theorem kv_X1_107 : exCV "ChairCane$Dinner" 107 5 yX5_summed cX5_summed 3 (some .long) 1 := ⟨_, _, _, rfl, Or.inl (lw_V q858 q859 q860 q130 q861), ⟨rfl, by decide +kernel, by decide +kernel, by decide +kernel⟩, by decide⟩
theorem kv_X1_113 : exCV "ChairCane$Dinner" 113 1 yX1_sumOf cX1_sumOf 7 (some .long) 2 := ⟨_, _, _, rfl, Or.inl (lw_V q847 q849 qs33 q118 q850), ⟨rfl, by decide +kernel, by decide +kernel, by decide +kernel⟩, by decide⟩
theorem kv_X1_117 : exCV "ChairCane$Dinner" 117 1 yX1_settled cX1_settled 4 (some .int) 0 := ⟨_, _, _, rfl, Or.inl (lw_V q894 q895 q896 q118 q897), ⟨rfl, by decide +kernel, by decide +kernel, by decide +kernel⟩, by decide⟩
theorem kv_X1_121 : exCV "ChairCane$Dinner" 121 1 yX1_passes cX1_passes 3 (some .int) 1 := ⟨_, _, _, rfl, Or.inl (lw_V q939 q844 q845 q118 q846), ⟨rfl, by decide +kernel, by decide +kernel, by decide +kernel⟩, by decide⟩
theorem kv_X1_71 : exCV "ChairCane$Dinner" 71 1 yX1_standsAs cX1_standsAs 3 (some (.object "ChairCane$Dinner")) 1 := ⟨_, _, _, rfl, Or.inl (lw_V q466 q467 q468 q118 q469), ⟨rfl, by decide +kernel, by decide +kernel, by decide +kernel⟩, by decide⟩
theorem kv_X1_82 : exCV "ChairCane$Dinner" 82 1 yX1_strandOf cX1_strandOf 2 (some .int) 1 := ⟨_, _, _, rfl, Or.inl (lw_V q801 q802 q803 q118 q804), ⟨rfl, by decide +kernel, by decide +kernel, by decide +kernel⟩, by decide⟩
theorem kv_X1_86 : exCV "ChairCane$Dinner" 86 1 yX1_pressOn cX1_pressOn 5 (some .int) 2 := ⟨_, _, _, rfl, Or.inl (lw_V q805 q806 q807 q118 q808), ⟨rfl, by decide +kernel, by decide +kernel, by decide +kernel⟩, by decide⟩
theorem kv_X1_90 : exCV "ChairCane$Dinner" 90 1 yX1_onesThat cX1_onesThat 4 (some .int) 1 := ⟨_, _, _, rfl, Or.inl (lw_V q790 q791 q792 q118 q793), ⟨rfl, by decide +kernel, by decide +kernel, by decide +kernel⟩, by decide⟩
theorem kv_X1_93 : exCV "ChairCane$Dinner" 93 1 yX1_giveOf cX1_giveOf 3 (some .int) 2 := ⟨_, _, _, rfl, Or.inl (lw_V q794 q795 q796 q118 q797), ⟨rfl, by decide +kernel, by decide +kernel, by decide +kernel⟩, by decide⟩
theorem kv_X1_96 : exCV "ChairCane$Dinner" 96 1 yX1_givesNow cX1_givesNow 2 (some .int) 1 := ⟨_, _, _, rfl, Or.inl (lw_V q851 q787 q788 q118 q789), ⟨rfl, by decide +kernel, by decide +kernel, by decide +kernel⟩, by decide⟩
theorem kv_X1_99 : exCV "ChairCane$Dinner" 99 1 yX1_dropsOf cX1_dropsOf 4 (some .int) 1 := ⟨_, _, _, rfl, Or.inl (lw_V q898 q899 q900 q118 q901), ⟨rfl, by decide +kernel, by decide +kernel, by decide +kernel⟩, by decide⟩
theorem ki_X2_3 : exCI "ChairCane$Fault" 3 yJ2_init cJ2_init 5 4 := ⟨rfl, q282, q121, lw_meth q283, Or.inl q281, ⟨by decide +kernel, by decide +kernel, by decide +kernel⟩, by decide⟩
theorem ku_X12_13_X12 : exCU "ChairCane$Not" 13 10 yX12_is cX12_is 2 (some .boolean) 1 := ⟨"ChairCane$Not", "ChairCane$Test", _, _, ⟨"ChairCane$Test", "is", "([J)Z"⟩, rfl, lw_good (fun w hw => by
  rcases List.mem_cons.mp hw with rfl | hw
  · exact q890
  rcases List.mem_cons.mp hw with rfl | hw
  · exact q868
  rcases List.mem_cons.mp hw with rfl | hw
  · exact q892
  rcases List.mem_cons.mp hw with rfl | hw
  · exact q888
  rcases List.mem_cons.mp hw with rfl | hw
  · exact q137
  rcases List.mem_cons.mp hw with rfl | hw
  · exact q889
  exact hw), exNest_in q867 rfl, ⟨by decide +kernel, by decide +kernel, by decide +kernel⟩, by decide⟩
theorem ku_X12_13_X13 : exCU "ChairCane$Not" 13 11 yX13_is cX13_is 6 (some .boolean) 1 := ⟨"ChairCane$Compare", "ChairCane$Test", _, _, ⟨"ChairCane$Test", "is", "([J)Z"⟩, rfl, lw_good (fun w hw => by
  rcases List.mem_cons.mp hw with rfl | hw
  · exact q890
  rcases List.mem_cons.mp hw with rfl | hw
  · exact q868
  rcases List.mem_cons.mp hw with rfl | hw
  · exact q891
  rcases List.mem_cons.mp hw with rfl | hw
  · exact q873
  rcases List.mem_cons.mp hw with rfl | hw
  · exact q138
  rcases List.mem_cons.mp hw with rfl | hw
  · exact q874
  exact hw), exNest_in q867 rfl, ⟨by decide +kernel, by decide +kernel, by decide +kernel⟩, by decide⟩
theorem ku_X12_13_X14 : exCU "ChairCane$Not" 13 12 yX14_is cX14_is 2 (some .boolean) 1 := ⟨"ChairCane$Both", "ChairCane$Test", _, _, ⟨"ChairCane$Test", "is", "([J)Z"⟩, rfl, lw_good (fun w hw => by
  rcases List.mem_cons.mp hw with rfl | hw
  · exact q890
  rcases List.mem_cons.mp hw with rfl | hw
  · exact q868
  rcases List.mem_cons.mp hw with rfl | hw
  · exact q869
  rcases List.mem_cons.mp hw with rfl | hw
  · exact q870
  rcases List.mem_cons.mp hw with rfl | hw
  · exact q139
  rcases List.mem_cons.mp hw with rfl | hw
  · exact q871
  exact hw), exNest_in q867 rfl, ⟨by decide +kernel, by decide +kernel, by decide +kernel⟩, by decide⟩
theorem ku_X10_20_X8 : exCU "ChairCane$Pair" 20 7 yX8_of cX8_of 2 (some .long) 1 := ⟨"ChairCane$Number", "ChairCane$Value", _, _, ⟨"ChairCane$Value", "of", "([J)J"⟩, rfl, lw_good (fun w hw => by
  rcases List.mem_cons.mp hw with rfl | hw
  · exact q884
  rcases List.mem_cons.mp hw with rfl | hw
  · exact q877
  rcases List.mem_cons.mp hw with rfl | hw
  · exact q878
  rcases List.mem_cons.mp hw with rfl | hw
  · exact q879
  rcases List.mem_cons.mp hw with rfl | hw
  · exact q133
  rcases List.mem_cons.mp hw with rfl | hw
  · exact q880
  exact hw), exNest_in q876 rfl, ⟨by decide +kernel, by decide +kernel, by decide +kernel⟩, by decide⟩
theorem ku_X10_20_X9 : exCU "ChairCane$Pair" 20 8 yX9_of cX9_of 2 (some .long) 1 := ⟨"ChairCane$Word", "ChairCane$Value", _, _, ⟨"ChairCane$Value", "of", "([J)J"⟩, rfl, lw_good (fun w hw => by
  rcases List.mem_cons.mp hw with rfl | hw
  · exact q884
  rcases List.mem_cons.mp hw with rfl | hw
  · exact q877
  rcases List.mem_cons.mp hw with rfl | hw
  · exact q887
  rcases List.mem_cons.mp hw with rfl | hw
  · exact q885
  rcases List.mem_cons.mp hw with rfl | hw
  · exact q134
  rcases List.mem_cons.mp hw with rfl | hw
  · exact q886
  exact hw), exNest_in q876 rfl, ⟨by decide +kernel, by decide +kernel, by decide +kernel⟩, by decide⟩
theorem ku_X10_20_X10 : exCU "ChairCane$Pair" 20 9 yX10_of cX10_of 6 (some .long) 1 := ⟨"ChairCane$Pair", "ChairCane$Value", _, _, ⟨"ChairCane$Value", "of", "([J)J"⟩, rfl, lw_good (fun w hw => by
  rcases List.mem_cons.mp hw with rfl | hw
  · exact q884
  rcases List.mem_cons.mp hw with rfl | hw
  · exact q877
  rcases List.mem_cons.mp hw with rfl | hw
  · exact q881
  rcases List.mem_cons.mp hw with rfl | hw
  · exact q882
  rcases List.mem_cons.mp hw with rfl | hw
  · exact q135
  rcases List.mem_cons.mp hw with rfl | hw
  · exact q883
  exact hw), exNest_in q876 rfl, ⟨by decide +kernel, by decide +kernel, by decide +kernel⟩, by decide⟩
theorem kv_X5_21 : exCV "ChairCane$Rule" 21 6 yX6_fits cX6_fits 2 (some .boolean) 1 := ⟨_, _, _, rfl, Or.inl (lw_V q862 q863 q864 q131 q865), ⟨rfl, by decide +kernel, by decide +kernel, by decide +kernel⟩, by decide⟩
theorem ku_X5_29_X8 : exCU "ChairCane$Rule" 29 7 yX8_of cX8_of 2 (some .long) 1 := ⟨"ChairCane$Number", "ChairCane$Value", _, _, ⟨"ChairCane$Value", "of", "([J)J"⟩, rfl, lw_good (fun w hw => by
  rcases List.mem_cons.mp hw with rfl | hw
  · exact q893
  rcases List.mem_cons.mp hw with rfl | hw
  · exact q877
  rcases List.mem_cons.mp hw with rfl | hw
  · exact q878
  rcases List.mem_cons.mp hw with rfl | hw
  · exact q879
  rcases List.mem_cons.mp hw with rfl | hw
  · exact q133
  rcases List.mem_cons.mp hw with rfl | hw
  · exact q880
  exact hw), exNest_in q876 rfl, ⟨by decide +kernel, by decide +kernel, by decide +kernel⟩, by decide⟩
theorem ku_X5_29_X9 : exCU "ChairCane$Rule" 29 8 yX9_of cX9_of 2 (some .long) 1 := ⟨"ChairCane$Word", "ChairCane$Value", _, _, ⟨"ChairCane$Value", "of", "([J)J"⟩, rfl, lw_good (fun w hw => by
  rcases List.mem_cons.mp hw with rfl | hw
  · exact q893
  rcases List.mem_cons.mp hw with rfl | hw
  · exact q877
  rcases List.mem_cons.mp hw with rfl | hw
  · exact q887
  rcases List.mem_cons.mp hw with rfl | hw
  · exact q885
  rcases List.mem_cons.mp hw with rfl | hw
  · exact q134
  rcases List.mem_cons.mp hw with rfl | hw
  · exact q886
  exact hw), exNest_in q876 rfl, ⟨by decide +kernel, by decide +kernel, by decide +kernel⟩, by decide⟩
theorem ku_X5_29_X10 : exCU "ChairCane$Rule" 29 9 yX10_of cX10_of 6 (some .long) 1 := ⟨"ChairCane$Pair", "ChairCane$Value", _, _, ⟨"ChairCane$Value", "of", "([J)J"⟩, rfl, lw_good (fun w hw => by
  rcases List.mem_cons.mp hw with rfl | hw
  · exact q893
  rcases List.mem_cons.mp hw with rfl | hw
  · exact q877
  rcases List.mem_cons.mp hw with rfl | hw
  · exact q881
  rcases List.mem_cons.mp hw with rfl | hw
  · exact q882
  rcases List.mem_cons.mp hw with rfl | hw
  · exact q135
  rcases List.mem_cons.mp hw with rfl | hw
  · exact q883
  exact hw), exNest_in q876 rfl, ⟨by decide +kernel, by decide +kernel, by decide +kernel⟩, by decide⟩
theorem kv_X4_108 : exCV "ChairCane$Text" 108 4 yX4_number cX4_number 5 (some .int) 2 := ⟨_, _, _, rfl, Or.inl (lw_V q550 q552 qs10 q124 q553), ⟨rfl, by decide +kernel, by decide +kernel, by decide +kernel⟩, by decide⟩
theorem kv_X4_118 : exCV "ChairCane$Text" 118 1 yX1_sitterOf cX1_sitterOf 3 (some .int) 1 := ⟨_, _, _, rfl, Or.inl (lw_V q569 q570 q571 q118 q572), ⟨rfl, by decide +kernel, by decide +kernel, by decide +kernel⟩, by decide⟩
theorem kv_X4_131 : exCV "ChairCane$Text" 131 4 yX4_strandHere cX4_strandHere 1 (none) 0 := ⟨_, _, _, rfl, Or.inl (lw_V q546 q548 qs9 q124 q549), ⟨rfl, by decide +kernel, by decide +kernel, by decide +kernel⟩, by decide⟩
theorem kv_X4_134 : exCV "ChairCane$Text" 134 4 yX4_chairHere cX4_chairHere 2 (none) 0 := ⟨_, _, _, rfl, Or.inl (lw_V q561 q563 qs12 q124 q564), ⟨rfl, by decide +kernel, by decide +kernel, by decide +kernel⟩, by decide⟩
theorem kv_X4_137 : exCV "ChairCane$Text" 137 4 yX4_sitterHere cX4_sitterHere 4 (none) 0 := ⟨_, _, _, rfl, Or.inl (lw_V q565 q567 qs13 q124 q568), ⟨rfl, by decide +kernel, by decide +kernel, by decide +kernel⟩, by decide⟩
theorem kv_X4_143 : exCV "ChairCane$Text" 143 1 yX1_copies cX1_copies 2 (some (.object "ChairCane$Dinner")) 1 := ⟨_, _, _, rfl, Or.inl (lw_V q459 q460 q461 q118 q462), ⟨rfl, by decide +kernel, by decide +kernel, by decide +kernel⟩, by decide⟩
theorem kv_X4_150 : exCV "ChairCane$Text" 150 4 yX4_oneOf cX4_oneOf 3 (some .int) 1 := ⟨_, _, _, rfl, Or.inl (lw_V q474 q476 qs3 q124 q477), ⟨rfl, by decide +kernel, by decide +kernel, by decide +kernel⟩, by decide⟩
theorem kv_X4_154 : exCV "ChairCane$Text" 154 4 yX4_canBe cX4_canBe 2 (some .boolean) 1 := ⟨_, _, _, rfl, Or.inl (lw_V q538 q540 qs7 q124 q541), ⟨rfl, by decide +kernel, by decide +kernel, by decide +kernel⟩, by decide⟩
theorem kv_X4_157 : exCV "ChairCane$Text" 157 4 yX4_line cX4_line 2 (none) 1 := ⟨_, _, _, rfl, Or.inl (lw_V q542 q544 qs8 q124 q545), ⟨rfl, by decide +kernel, by decide +kernel, by decide +kernel⟩, by decide⟩
theorem kv_X4_161 : exCV "ChairCane$Text" 161 4 yX4_takesSign cX4_takesSign 2 (some .boolean) 1 := ⟨_, _, _, rfl, Or.inl (lw_V q573 q575 qs14 q124 q576), ⟨rfl, by decide +kernel, by decide +kernel, by decide +kernel⟩, by decide⟩
theorem kv_X4_164 : exCV "ChairCane$Text" 164 4 yX4_closes cX4_closes 1 (none) 0 := ⟨_, _, _, rfl, Or.inl (lw_V q577 q579 qs15 q124 q580), ⟨rfl, by decide +kernel, by decide +kernel, by decide +kernel⟩, by decide⟩
theorem kv_X4_167 : exCV "ChairCane$Text" 167 1 yX1_begins cX1_begins 2 (none) 0 := ⟨_, _, _, rfl, Or.inl (lw_V q581 q582 q583 q118 q584), ⟨rfl, by decide +kernel, by decide +kernel, by decide +kernel⟩, by decide⟩
theorem kv_X4_173 : exCV "ChairCane$Text" 173 4 yX4_sum cX4_sum 3 (some (.object "ChairCane$Value")) 0 := ⟨_, _, _, rfl, Or.inl (lw_V q634 q636 qs18 q124 q637), ⟨rfl, by decide +kernel, by decide +kernel, by decide +kernel⟩, by decide⟩
theorem kv_X4_182 : exCV "ChairCane$Text" 182 4 yX4_takesWord cX4_takesWord 2 (some .boolean) 1 := ⟨_, _, _, rfl, Or.inl (lw_V q691 q693 qs22 q124 q694), ⟨rfl, by decide +kernel, by decide +kernel, by decide +kernel⟩, by decide⟩
theorem kv_X4_185 : exCV "ChairCane$Text" 185 4 yX4_tested cX4_tested 2 (some (.object "ChairCane$Test")) 0 := ⟨_, _, _, rfl, Or.inl (lw_V q695 q697 qs23 q124 q698), ⟨rfl, by decide +kernel, by decide +kernel, by decide +kernel⟩, by decide⟩
theorem kv_X4_204 : exCV "ChairCane$Text" 204 4 yX4_clauseHere cX4_clauseHere 2 (some (.object "ChairCane$Clause")) 0 := ⟨_, _, _, rfl, Or.inl (lw_V q615 q617 qs17 q124 q618), ⟨rfl, by decide +kernel, by decide +kernel, by decide +kernel⟩, by decide⟩
theorem kv_X4_208 : exCV "ChairCane$Text" 208 4 yX4_parted cX4_parted 2 (some (.object "ChairCane$Test")) 0 := ⟨_, _, _, rfl, Or.inl (lw_V q699 q701 qs24 q124 q702), ⟨rfl, by decide +kernel, by decide +kernel, by decide +kernel⟩, by decide⟩
theorem ki_X4_215 : exCI "ChairCane$Text" 215 yX14_init cX14_init 4 3 := ⟨rfl, q749, q139, lw_meth q750, Or.inl q748, ⟨by decide +kernel, by decide +kernel, by decide +kernel⟩, by decide⟩
theorem kv_X4_218 : exCV "ChairCane$Text" 218 4 yX4_fact cX4_fact 6 (some (.object "ChairCane$Test")) 0 := ⟨_, _, _, rfl, Or.inl (lw_V q703 q705 qs25 q124 q706), ⟨rfl, by decide +kernel, by decide +kernel, by decide +kernel⟩, by decide⟩
theorem kv_X4_225 : exCV "ChairCane$Text" 225 4 yX4_opens cX4_opens 2 (none) 1 := ⟨_, _, _, rfl, Or.inl (lw_V q708 q710 qs26 q124 q711), ⟨rfl, by decide +kernel, by decide +kernel, by decide +kernel⟩, by decide⟩
theorem ki_X4_230 : exCI "ChairCane$Text" 230 yX12_init cX12_init 2 1 := ⟨rfl, q715, q137, lw_meth q716, Or.inl q714, ⟨by decide +kernel, by decide +kernel, by decide +kernel⟩, by decide⟩
theorem kv_X4_233 : exCV "ChairCane$Text" 233 4 yX4_sign cX4_sign 3 (some .int) 0 := ⟨_, _, _, rfl, Or.inl (lw_V q725 q727 qs27 q124 q728), ⟨rfl, by decide +kernel, by decide +kernel, by decide +kernel⟩, by decide⟩
theorem kv_X4_236 : exCV "ChairCane$Text" 236 4 yX4_makes cX4_makes 2 (none) 1 := ⟨_, _, _, rfl, Or.inl (lw_V q647 q649 qs21 q124 q650), ⟨rfl, by decide +kernel, by decide +kernel, by decide +kernel⟩, by decide⟩
theorem ki_X4_241 : exCI "ChairCane$Text" 241 yX13_init cX13_init 4 3 := ⟨rfl, q732, q138, lw_meth q733, Or.inl q731, ⟨by decide +kernel, by decide +kernel, by decide +kernel⟩, by decide⟩
theorem kv_X4_244 : exCV "ChairCane$Text" 244 4 yX4_term cX4_term 3 (some (.object "ChairCane$Value")) 0 := ⟨_, _, _, rfl, Or.inl (lw_V q638 q640 qs19 q124 q641), ⟨rfl, by decide +kernel, by decide +kernel, by decide +kernel⟩, by decide⟩
theorem ki_X4_249 : exCI "ChairCane$Text" 249 yX10_init cX10_init 4 3 := ⟨rfl, q677, q135, lw_meth q678, Or.inl q676, ⟨by decide +kernel, by decide +kernel, by decide +kernel⟩, by decide⟩
theorem kv_X4_250 : exCV "ChairCane$Text" 250 4 yX4_value cX4_value 3 (some (.object "ChairCane$Value")) 0 := ⟨_, _, _, rfl, Or.inl (lw_V q642 q644 qs20 q124 q645), ⟨rfl, by decide +kernel, by decide +kernel, by decide +kernel⟩, by decide⟩
theorem ki_X4_256 : exCI "ChairCane$Text" 256 yX8_init cX8_init 3 1 := ⟨rfl, q654, q133, lw_meth q655, Or.inl q653, ⟨by decide +kernel, by decide +kernel, by decide +kernel⟩, by decide⟩
theorem ki_X4_261 : exCI "ChairCane$Text" 261 yX9_init cX9_init 2 1 := ⟨rfl, q667, q134, lw_meth q668, Or.inl q666, ⟨by decide +kernel, by decide +kernel, by decide +kernel⟩, by decide⟩
theorem kv_X4_52 : exCV "ChairCane$Text" 52 4 yX4_see cX4_see 1 (some .int) 0 := ⟨_, _, _, rfl, Or.inl (lw_V q470 q472 qs2 q124 q473), ⟨rfl, by decide +kernel, by decide +kernel, by decide +kernel⟩, by decide⟩
theorem kv_X4_56 : exCV "ChairCane$Text" 56 4 yX4_letters cX4_letters 2 (some .int) 0 := ⟨_, _, _, rfl, Or.inl (lw_V q482 q484 qs5 q124 q485), ⟨rfl, by decide +kernel, by decide +kernel, by decide +kernel⟩, by decide⟩
theorem kv_X4_68 : exCV "ChairCane$Text" 68 4 yX4_isWord cX4_isWord 5 (some .boolean) 1 := ⟨_, _, _, rfl, Or.inl (lw_V q478 q480 qs4 q124 q481), ⟨rfl, by decide +kernel, by decide +kernel, by decide +kernel⟩, by decide⟩
theorem kv_X4_72 : exCV "ChairCane$Text" 72 4 yX4_isDigit cX4_isDigit 2 (some .boolean) 1 := ⟨_, _, _, rfl, Or.inl (lw_V q554 q556 qs11 q124 q557), ⟨rfl, by decide +kernel, by decide +kernel, by decide +kernel⟩, by decide⟩
theorem kv_X4_76 : exCV "ChairCane$Text" 76 4 yX4_demand cX4_demand 4 (none) 3 := ⟨_, _, _, rfl, Or.inl (lw_V q534 q536 qs6 q124 q537), ⟨rfl, by decide +kernel, by decide +kernel, by decide +kernel⟩, by decide⟩
theorem kv_X0_115 : exCV "ChairCane" 115 0 yX0_four cX0_four 3 (none) 1 := ⟨_, _, _, rfl, Or.inl (lw_V q415 q417 qs1 q117 q418), ⟨rfl, by decide +kernel, by decide +kernel, by decide +kernel⟩, by decide⟩
theorem kv_X0_130 : exCV "ChairCane" 130 4 yX4_hallTold cX4_hallTold 3 (some (.object "ChairCane$Dinner")) 0 := ⟨_, _, _, rfl, Or.inl (lw_V q455 q456 q457 q124 q458), ⟨rfl, by decide +kernel, by decide +kernel, by decide +kernel⟩, by decide⟩
theorem kv_X0_134 : exCV "ChairCane" 134 1 yX1_copies cX1_copies 2 (some (.object "ChairCane$Dinner")) 1 := ⟨_, _, _, rfl, Or.inl (lw_V q585 q460 q461 q118 q462), ⟨rfl, by decide +kernel, by decide +kernel, by decide +kernel⟩, by decide⟩
theorem kv_X0_144 : exCV "ChairCane" 144 0 yX0_faulted cX0_faulted 1 (some .int) 0 := ⟨_, _, _, rfl, Or.inl (lw_V q586 q588 qs16 q117 q589), ⟨rfl, by decide +kernel, by decide +kernel, by decide +kernel⟩, by decide⟩
theorem kv_X0_151 : exCV "ChairCane" 151 4 yX4_ruleTold cX4_ruleTold 3 (some (.object "ChairCane$Rule")) 0 := ⟨_, _, _, rfl, Or.inl (lw_V q594 q595 q596 q124 q597), ⟨rfl, by decide +kernel, by decide +kernel, by decide +kernel⟩, by decide⟩
theorem kv_X0_161 : exCV "ChairCane" 161 0 yX0_isSitter cX0_isSitter 2 (some .boolean) 1 := ⟨_, _, _, rfl, Or.inl (lw_V q813 q815 qs30 q117 q816), ⟨rfl, by decide +kernel, by decide +kernel, by decide +kernel⟩, by decide⟩
theorem kv_X0_168 : exCV "ChairCane" 168 0 yX0_isStrand cX0_isStrand 2 (some .boolean) 1 := ⟨_, _, _, rfl, Or.inl (lw_V q771 q773 qs28 q117 q774), ⟨rfl, by decide +kernel, by decide +kernel, by decide +kernel⟩, by decide⟩
theorem kv_X0_173 : exCV "ChairCane" 173 0 yX0_isChair cX0_isChair 2 (some .boolean) 1 := ⟨_, _, _, rfl, Or.inl (lw_V q779 q781 qs29 q117 q782), ⟨rfl, by decide +kernel, by decide +kernel, by decide +kernel⟩, by decide⟩
theorem ks_X0_178 : exCS "ChairCane" 178 yX0_in cX0_in 6 (some .boolean) 3 := ⟨Or.inl (lw_S q784 q559 q117 q560), ⟨by decide +kernel, by decide +kernel, by decide +kernel⟩, by decide⟩
theorem kv_X0_182 : exCV "ChairCane" 182 1 yX1_sitterOf cX1_sitterOf 3 (some .int) 1 := ⟨_, _, _, rfl, Or.inl (lw_V q785 q570 q571 q118 q572), ⟨rfl, by decide +kernel, by decide +kernel, by decide +kernel⟩, by decide⟩
theorem kv_X0_190 : exCV "ChairCane" 190 1 yX1_givesNow cX1_givesNow 2 (some .int) 1 := ⟨_, _, _, rfl, Or.inl (lw_V q786 q787 q788 q118 q789), ⟨rfl, by decide +kernel, by decide +kernel, by decide +kernel⟩, by decide⟩
theorem kv_X0_211 : exCV "ChairCane" 211 1 yX1_lays cX1_lays 3 (none) 1 := ⟨_, _, _, rfl, Or.inl (lw_V q835 q836 q837 q118 q838), ⟨rfl, by decide +kernel, by decide +kernel, by decide +kernel⟩, by decide⟩
theorem kv_X0_214 : exCV "ChairCane" 214 1 yX1_laysBack cX1_laysBack 3 (none) 1 := ⟨_, _, _, rfl, Or.inl (lw_V q822 q823 q824 q118 q825), ⟨rfl, by decide +kernel, by decide +kernel, by decide +kernel⟩, by decide⟩
theorem kv_X0_220 : exCV "ChairCane" 220 0 yX0_keepsAct cX0_keepsAct 1 (none) 0 := ⟨_, _, _, rfl, Or.inl (lw_V q830 q832 qs31 q117 q833), ⟨rfl, by decide +kernel, by decide +kernel, by decide +kernel⟩, by decide⟩
theorem kv_X0_223 : exCV "ChairCane" 223 0 yX0_law cX0_law 1 (some (.object "ChairCane$Rule")) 0 := ⟨_, _, _, rfl, Or.inl (lw_V q839 q841 qs32 q117 q842), ⟨rfl, by decide +kernel, by decide +kernel, by decide +kernel⟩, by decide⟩
theorem kv_X0_226 : exCV "ChairCane" 226 1 yX1_passes cX1_passes 3 (some .int) 1 := ⟨_, _, _, rfl, Or.inl (lw_V q843 q844 q845 q118 q846), ⟨rfl, by decide +kernel, by decide +kernel, by decide +kernel⟩, by decide⟩
theorem kv_X0_230 : exCV "ChairCane" 230 1 yX1_settled cX1_settled 4 (some .int) 0 := ⟨_, _, _, rfl, Or.inl (lw_V q914 q895 q896 q118 q897), ⟨rfl, by decide +kernel, by decide +kernel, by decide +kernel⟩, by decide⟩
theorem kv_X0_233 : exCV "ChairCane" 233 0 yX0_isSitterThat cX0_isSitterThat 3 (some .boolean) 2 := ⟨_, _, _, rfl, Or.inl (lw_V q906 q908 qs34 q117 q909), ⟨rfl, by decide +kernel, by decide +kernel, by decide +kernel⟩, by decide⟩
theorem kv_X0_237 : exCV "ChairCane" 237 0 yX0_becomes cX0_becomes 3 (some .int) 2 := ⟨_, _, _, rfl, Or.inl (lw_V q910 q912 qs35 q117 q913), ⟨rfl, by decide +kernel, by decide +kernel, by decide +kernel⟩, by decide⟩
theorem kv_X0_241 : exCV "ChairCane" 241 1 yX1_onesThat cX1_onesThat 4 (some .int) 1 := ⟨_, _, _, rfl, Or.inl (lw_V q923 q791 q792 q118 q793), ⟨rfl, by decide +kernel, by decide +kernel, by decide +kernel⟩, by decide⟩
theorem ks_X0_244 : exCS "ChairCane" 244 yJ7_bitCount cJ7_bitCount 1 (some .int) 1 := ⟨Or.inl (lw_S q924 q853 q140 q854), ⟨by decide +kernel, by decide +kernel, by decide +kernel⟩, by decide⟩
theorem kv_X0_253 : exCV "ChairCane" 253 1 yX1_passesAll cX1_passesAll 4 (some (.object "ChairCane$Dinner")) 2 := ⟨_, _, _, rfl, Or.inl (lw_V q935 q936 q937 q118 q938), ⟨rfl, by decide +kernel, by decide +kernel, by decide +kernel⟩, by decide⟩
theorem kv_X0_257 : exCV "ChairCane" 257 0 yX0_fells cX0_fells 2 (some .int) 1 := ⟨_, _, _, rfl, Or.inl (lw_V q948 q950 qs36 q117 q951), ⟨rfl, by decide +kernel, by decide +kernel, by decide +kernel⟩, by decide⟩
theorem kv_X0_260 : exCV "ChairCane" 260 1 yX1_dropsOf cX1_dropsOf 4 (some .int) 1 := ⟨_, _, _, rfl, Or.inl (lw_V q960 q899 q900 q118 q901), ⟨rfl, by decide +kernel, by decide +kernel, by decide +kernel⟩, by decide⟩
theorem ks_X0_263 : exCS "ChairCane" 263 yX0_has cX0_has 2 (some .boolean) 2 := ⟨Or.inl (lw_S q970 q799 q117 q800), ⟨by decide +kernel, by decide +kernel, by decide +kernel⟩, by decide⟩
theorem kv_X0_268 : exCV "ChairCane" 268 0 yX0_upFrom cX0_upFrom 4 (some .int) 1 := ⟨_, _, _, rfl, Or.inl (lw_V q966 q968 qs37 q117 q969), ⟨rfl, by decide +kernel, by decide +kernel, by decide +kernel⟩, by decide⟩
theorem kv_X0_271 : exCV "ChairCane" 271 1 yX1_standsAs cX1_standsAs 3 (some (.object "ChairCane$Dinner")) 1 := ⟨_, _, _, rfl, Or.inl (lw_V q992 q467 q468 q118 q469), ⟨rfl, by decide +kernel, by decide +kernel, by decide +kernel⟩, by decide⟩
theorem kv_X0_277 : exCV "ChairCane" 277 0 yX0_gets cX0_gets 2 (some .int) 1 := ⟨_, _, _, rfl, Or.inl (lw_V q993 q995 qs40 q117 q996), ⟨rfl, by decide +kernel, by decide +kernel, by decide +kernel⟩, by decide⟩
theorem kv_X0_280 : exCV "ChairCane" 280 0 yX0_canChoose cX0_canChoose 2 (some .boolean) 1 := ⟨_, _, _, rfl, Or.inl (lw_V q983 q985 qs38 q117 q986), ⟨rfl, by decide +kernel, by decide +kernel, by decide +kernel⟩, by decide⟩
theorem kv_X0_285 : exCV "ChairCane" 285 0 yX0_weighs cX0_weighs 6 (none) 4 := ⟨_, _, _, rfl, Or.inl (lw_V q988 q990 qs39 q117 q991), ⟨rfl, by decide +kernel, by decide +kernel, by decide +kernel⟩, by decide⟩
theorem kv_X0_289 : exCV "ChairCane" 289 0 yX0_isRest cX0_isRest 3 (some .boolean) 2 := ⟨_, _, _, rfl, Or.inl (lw_V q997 q999 qs41 q117 q1000), ⟨rfl, by decide +kernel, by decide +kernel, by decide +kernel⟩, by decide⟩
theorem kv_X0_292 : exCV "ChairCane" 292 0 yX0_areAlike cX0_areAlike 4 (some .boolean) 2 := ⟨_, _, _, rfl, Or.inl (lw_V q1005 q1007 qs42 q117 q1008), ⟨rfl, by decide +kernel, by decide +kernel, by decide +kernel⟩, by decide⟩
theorem kv_X0_297 : exCV "ChairCane" 297 1 yX1_givesAll cX1_givesAll 3 (some .int) 0 := ⟨_, _, _, rfl, Or.inl (lw_V q1014 q1015 q1016 q118 q1017), ⟨rfl, by decide +kernel, by decide +kernel, by decide +kernel⟩, by decide⟩
theorem kv_X0_308 : exCV "ChairCane" 308 1 yX1_begins cX1_begins 2 (none) 0 := ⟨_, _, _, rfl, Or.inl (lw_V q1031 q582 q583 q118 q584), ⟨rfl, by decide +kernel, by decide +kernel, by decide +kernel⟩, by decide⟩
theorem ki_X0_31 : exCI "ChairCane" 31 yX2_init cX2_init 1 0 := ⟨rfl, q278, q122, lw_meth q279, Or.inl q277, ⟨by decide +kernel, by decide +kernel, by decide +kernel⟩, by decide⟩
theorem kv_X0_311 : exCV "ChairCane" 311 0 yX0_areNotesSo cX0_areNotesSo 3 (some .boolean) 1 := ⟨_, _, _, rfl, Or.inl (lw_V q1032 q1034 qs44 q117 q1035), ⟨rfl, by decide +kernel, by decide +kernel, by decide +kernel⟩, by decide⟩
theorem kv_X0_314 : exCV "ChairCane" 314 0 yX0_gathersRules cX0_gathersRules 4 (none) 1 := ⟨_, _, _, rfl, Or.inl (lw_V q1027 q1029 qs43 q117 q1030), ⟨rfl, by decide +kernel, by decide +kernel, by decide +kernel⟩, by decide⟩
theorem ks_X0_317 : exCS "ChairCane" 317 yJ8_max cJ8_max 2 (some .int) 2 := ⟨Or.inl (lw_S q1044 q1045 q141 q1046), ⟨by decide +kernel, by decide +kernel, by decide +kernel⟩, by decide⟩
theorem kv_X0_322 : exCV "ChairCane" 322 0 yX0_alikeOf cX0_alikeOf 6 (some .int) 1 := ⟨_, _, _, rfl, Or.inl (lw_V q1040 q1042 qs45 q117 q1043), ⟨rfl, by decide +kernel, by decide +kernel, by decide +kernel⟩, by decide⟩
theorem kv_X0_325 : exCV "ChairCane" 325 0 yX0_areAllSo cX0_areAllSo 3 (some .boolean) 0 := ⟨_, _, _, rfl, Or.inl (lw_V q1051 q1053 qs46 q117 q1054), ⟨rfl, by decide +kernel, by decide +kernel, by decide +kernel⟩, by decide⟩
theorem kv_X0_344 : exCV "ChairCane" 344 0 yX0_draw cX0_draw 2 (some .int) 1 := ⟨_, _, _, rfl, Or.inl (lw_V q1064 q1066 qs47 q117 q1067), ⟨rfl, by decide +kernel, by decide +kernel, by decide +kernel⟩, by decide⟩
theorem kv_X0_347 : exCV "ChairCane" 347 0 yX0_stirs cX0_stirs 2 (none) 1 := ⟨_, _, _, rfl, Or.inl (lw_V q1072 q1074 qs48 q117 q1075), ⟨rfl, by decide +kernel, by decide +kernel, by decide +kernel⟩, by decide⟩
theorem kv_L_101 : exCV "ChairCaneLaw" 101 3 yX3_most cX3_most 6 (some .int) 1 := ⟨_, _, _, rfl, Or.inl (lw_V q1636 q1637 q1638 q123 q1639), ⟨rfl, by decide +kernel, by decide +kernel, by decide +kernel⟩, by decide⟩
theorem kv_L_102 : exCV "ChairCaneLaw" 102 0 yX0_heavy cX0_heavy 7 (some .int) 2 := ⟨_, _, _, rfl, Or.inl (lw_V q975 q976 q977 q117 q978), ⟨rfl, by decide +kernel, by decide +kernel, by decide +kernel⟩, by decide⟩
theorem kv_L_105 : exCV "ChairCaneLaw" 105 3 yX3_heavy cX3_heavy 8 (some .int) 2 := ⟨_, _, _, rfl, Or.inl (lw_V q1640 q1641 q1642 q123 q1643), ⟨rfl, by decide +kernel, by decide +kernel, by decide +kernel⟩, by decide⟩
theorem kv_L_106 : exCV "ChairCaneLaw" 106 0 yX0_strung cX0_strung 4 (some .int) 1 := ⟨_, _, _, rfl, Or.inl (lw_V q1047 q1048 q1049 q117 q1050), ⟨rfl, by decide +kernel, by decide +kernel, by decide +kernel⟩, by decide⟩
theorem kv_L_109 : exCV "ChairCaneLaw" 109 3 yX3_strung cX3_strung 4 (some .int) 1 := ⟨_, _, _, rfl, Or.inl (lw_V q1695 q1696 q1697 q123 q1698), ⟨rfl, by decide +kernel, by decide +kernel, by decide +kernel⟩, by decide⟩
theorem kv_L_110 : exCV "ChairCaneLaw" 110 0 yX0_rests cX0_rests 8 (some .int) 4 := ⟨_, _, _, rfl, Or.inl (lw_V q979 q980 q981 q117 q982), ⟨rfl, by decide +kernel, by decide +kernel, by decide +kernel⟩, by decide⟩
theorem kv_L_114 : exCV "ChairCaneLaw" 114 3 yX3_rests cX3_rests 8 (some .int) 4 := ⟨_, _, _, rfl, Or.inl (lw_V q1644 q1645 q1646 q123 q1647), ⟨rfl, by decide +kernel, by decide +kernel, by decide +kernel⟩, by decide⟩
theorem kv_L_115 : exCV "ChairCaneLaw" 115 0 yX0_ring cX0_ring 4 (some .int) 1 := ⟨_, _, _, rfl, Or.inl (lw_V q1001 q1002 q1003 q117 q1004), ⟨rfl, by decide +kernel, by decide +kernel, by decide +kernel⟩, by decide⟩
theorem kv_L_118 : exCV "ChairCaneLaw" 118 3 yX3_ring cX3_ring 4 (some .int) 1 := ⟨_, _, _, rfl, Or.inl (lw_V q1657 q1658 q1659 q123 q1660), ⟨rfl, by decide +kernel, by decide +kernel, by decide +kernel⟩, by decide⟩
theorem kv_L_119 : exCV "ChairCaneLaw" 119 0 yX0_pence cX0_pence 9 (some .int) 2 := ⟨_, _, _, rfl, Or.inl (lw_V q1009 q1010 q1011 q117 q1012), ⟨rfl, by decide +kernel, by decide +kernel, by decide +kernel⟩, by decide⟩
theorem ki_L_12 : exCI "ChairCaneLaw" 12 yX3_init cX3_init 1 0 := ⟨rfl, q1113, q123, lw_meth q1114, Or.inl q1112, ⟨by decide +kernel, by decide +kernel, by decide +kernel⟩, by decide⟩
theorem kv_L_122 : exCV "ChairCaneLaw" 122 3 yX3_pence cX3_pence 10 (some .int) 2 := ⟨_, _, _, rfl, Or.inl (lw_V q1669 q1670 q1671 q123 q1672), ⟨rfl, by decide +kernel, by decide +kernel, by decide +kernel⟩, by decide⟩
theorem kv_L_123 : exCV "ChairCaneLaw" 123 0 yX0_note cX0_note 5 (some .int) 3 := ⟨_, _, _, rfl, Or.inl (lw_V q1018 q1019 q1020 q117 q1021), ⟨rfl, by decide +kernel, by decide +kernel, by decide +kernel⟩, by decide⟩
theorem kv_L_126 : exCV "ChairCaneLaw" 126 3 yX3_note cX3_note 5 (some .int) 3 := ⟨_, _, _, rfl, Or.inl (lw_V q1678 q1679 q1680 q123 q1681), ⟨rfl, by decide +kernel, by decide +kernel, by decide +kernel⟩, by decide⟩
theorem kv_L_127 : exCV "ChairCaneLaw" 127 0 yX0_ruled cX0_ruled 5 (some .int) 1 := ⟨_, _, _, rfl, Or.inl (lw_V q1023 q1024 q1025 q117 q1026), ⟨rfl, by decide +kernel, by decide +kernel, by decide +kernel⟩, by decide⟩
theorem kv_L_13 : exCV "ChairCaneLaw" 13 0 yX0_feed cX0_feed 6 (some .int) 5 := ⟨_, _, _, rfl, Or.inl (lw_V q411 q412 q413 q117 q414), ⟨rfl, by decide +kernel, by decide +kernel, by decide +kernel⟩, by decide⟩
theorem kv_L_130 : exCV "ChairCaneLaw" 130 3 yX3_ruled cX3_ruled 5 (some .int) 1 := ⟨_, _, _, rfl, Or.inl (lw_V q1683 q1684 q1685 q123 q1686), ⟨rfl, by decide +kernel, by decide +kernel, by decide +kernel⟩, by decide⟩
theorem kv_L_131 : exCV "ChairCaneLaw" 131 0 yX0_look cX0_look 7 (some .int) 2 := ⟨_, _, _, rfl, Or.inl (lw_V q1036 q1037 q1038 q117 q1039), ⟨rfl, by decide +kernel, by decide +kernel, by decide +kernel⟩, by decide⟩
theorem kv_L_134 : exCV "ChairCaneLaw" 134 3 yX3_look cX3_look 6 (some .int) 2 := ⟨_, _, _, rfl, Or.inl (lw_V q1699 q1700 q1701 q123 q1702), ⟨rfl, by decide +kernel, by decide +kernel, by decide +kernel⟩, by decide⟩
theorem kv_L_135 : exCV "ChairCaneLaw" 135 0 yX0_seed cX0_seed 3 (some .int) 1 := ⟨_, _, _, rfl, Or.inl (lw_V q1055 q1056 q1057 q117 q1058), ⟨rfl, by decide +kernel, by decide +kernel, by decide +kernel⟩, by decide⟩
theorem kv_L_138 : exCV "ChairCaneLaw" 138 3 yX3_seed cX3_seed 3 (some .int) 1 := ⟨_, _, _, rfl, Or.inl (lw_V q1707 q1708 q1709 q123 q1710), ⟨rfl, by decide +kernel, by decide +kernel, by decide +kernel⟩, by decide⟩
theorem kv_L_139 : exCV "ChairCaneLaw" 139 0 yX0_toasts cX0_toasts 10 (some .int) 4 := ⟨_, _, _, rfl, Or.inl (lw_V q1059 q1060 q1061 q117 q1062), ⟨rfl, by decide +kernel, by decide +kernel, by decide +kernel⟩, by decide⟩
theorem kv_L_142 : exCV "ChairCaneLaw" 142 3 yX3_toasts cX3_toasts 10 (some .int) 4 := ⟨_, _, _, rfl, Or.inl (lw_V q1711 q1712 q1713 q123 q1714), ⟨rfl, by decide +kernel, by decide +kernel, by decide +kernel⟩, by decide⟩
theorem kv_L_143 : exCV "ChairCaneLaw" 143 0 yX0_count cX0_count 2 (some .int) 1 := ⟨_, _, _, rfl, Or.inl (lw_V q1076 q1077 q1078 q117 q1079), ⟨rfl, by decide +kernel, by decide +kernel, by decide +kernel⟩, by decide⟩
theorem kv_L_146 : exCV "ChairCaneLaw" 146 3 yX3_count cX3_count 2 (some .int) 1 := ⟨_, _, _, rfl, Or.inl (lw_V q1728 q1729 q1730 q123 q1731), ⟨rfl, by decide +kernel, by decide +kernel, by decide +kernel⟩, by decide⟩
theorem kv_L_147 : exCV "ChairCaneLaw" 147 0 yX0_image cX0_image 3 (some .int) 1 := ⟨_, _, _, rfl, Or.inl (lw_V q1081 q1082 q1083 q117 q1084), ⟨rfl, by decide +kernel, by decide +kernel, by decide +kernel⟩, by decide⟩
theorem kv_L_150 : exCV "ChairCaneLaw" 150 3 yX3_image cX3_image 2 (some .int) 1 := ⟨_, _, _, rfl, Or.inl (lw_V q1732 q1733 q1734 q123 q1735), ⟨rfl, by decide +kernel, by decide +kernel, by decide +kernel⟩, by decide⟩
theorem kv_L_151 : exCV "ChairCaneLaw" 151 0 yX0_back cX0_back 2 (some .int) 1 := ⟨_, _, _, rfl, Or.inl (lw_V q1106 q1107 q1108 q117 q1109), ⟨rfl, by decide +kernel, by decide +kernel, by decide +kernel⟩, by decide⟩
theorem kv_L_154 : exCV "ChairCaneLaw" 154 3 yX3_back cX3_back 2 (some .int) 1 := ⟨_, _, _, rfl, Or.inl (lw_V q1736 q1737 q1738 q123 q1739), ⟨rfl, by decide +kernel, by decide +kernel, by decide +kernel⟩, by decide⟩
theorem kv_L_17 : exCV "ChairCaneLaw" 17 3 yX3_feed cX3_feed 6 (some .int) 5 := ⟨_, _, _, rfl, Or.inl (lw_V q1275 q1276 q1277 q123 q1278), ⟨rfl, by decide +kernel, by decide +kernel, by decide +kernel⟩, by decide⟩
theorem kv_L_18 : exCV "ChairCaneLaw" 18 0 yX0_end cX0_end 2 (some .int) 1 := ⟨_, _, _, rfl, Or.inl (lw_V q419 q420 q421 q117 q422), ⟨rfl, by decide +kernel, by decide +kernel, by decide +kernel⟩, by decide⟩
theorem kv_L_22 : exCV "ChairCaneLaw" 22 3 yX3_end cX3_end 2 (some .int) 1 := ⟨_, _, _, rfl, Or.inl (lw_V q1283 q1284 q1285 q123 q1286), ⟨rfl, by decide +kernel, by decide +kernel, by decide +kernel⟩, by decide⟩
theorem kv_L_27 : exCV "ChairCaneLaw" 27 3 yX3_hall cX3_hall 2 (some .int) 0 := ⟨_, _, _, rfl, Or.inl (lw_V q1287 q1288 q1289 q123 q1290), ⟨rfl, by decide +kernel, by decide +kernel, by decide +kernel⟩, by decide⟩
theorem kv_L_31 : exCV "ChairCaneLaw" 31 3 yX3_rule cX3_rule 3 (some .int) 0 := ⟨_, _, _, rfl, Or.inl (lw_V q1369 q1370 q1371 q123 q1372), ⟨rfl, by decide +kernel, by decide +kernel, by decide +kernel⟩, by decide⟩
theorem kv_L_32 : exCV "ChairCaneLaw" 32 0 yX0_force cX0_force 3 (some .int) 1 := ⟨_, _, _, rfl, Or.inl (lw_V q763 q764 q765 q117 q766), ⟨rfl, by decide +kernel, by decide +kernel, by decide +kernel⟩, by decide⟩
theorem kv_L_35 : exCV "ChairCaneLaw" 35 3 yX3_force cX3_force 3 (some .int) 1 := ⟨_, _, _, rfl, Or.inl (lw_V q1442 q1443 q1444 q123 q1445), ⟨rfl, by decide +kernel, by decide +kernel, by decide +kernel⟩, by decide⟩
theorem kv_L_36 : exCV "ChairCaneLaw" 36 0 yX0_strand cX0_strand 2 (some .int) 1 := ⟨_, _, _, rfl, Or.inl (lw_V q767 q768 q769 q117 q770), ⟨rfl, by decide +kernel, by decide +kernel, by decide +kernel⟩, by decide⟩
theorem kv_L_39 : exCV "ChairCaneLaw" 39 3 yX3_strand cX3_strand 2 (some .int) 1 := ⟨_, _, _, rfl, Or.inl (lw_V q1447 q1448 q1449 q123 q1450), ⟨rfl, by decide +kernel, by decide +kernel, by decide +kernel⟩, by decide⟩
theorem kv_L_40 : exCV "ChairCaneLaw" 40 0 yX0_chair cX0_chair 4 (some .int) 2 := ⟨_, _, _, rfl, Or.inl (lw_V q775 q776 q777 q117 q778), ⟨rfl, by decide +kernel, by decide +kernel, by decide +kernel⟩, by decide⟩
theorem kv_L_44 : exCV "ChairCaneLaw" 44 3 yX3_chair cX3_chair 4 (some .int) 2 := ⟨_, _, _, rfl, Or.inl (lw_V q1455 q1456 q1457 q123 q1458), ⟨rfl, by decide +kernel, by decide +kernel, by decide +kernel⟩, by decide⟩
theorem kv_L_45 : exCV "ChairCaneLaw" 45 0 yX0_sitter cX0_sitter 3 (some .int) 2 := ⟨_, _, _, rfl, Or.inl (lw_V q809 q810 q811 q117 q812), ⟨rfl, by decide +kernel, by decide +kernel, by decide +kernel⟩, by decide⟩
theorem kv_L_48 : exCV "ChairCaneLaw" 48 3 yX3_sitter cX3_sitter 3 (some .int) 2 := ⟨_, _, _, rfl, Or.inl (lw_V q1491 q1492 q1493 q123 q1494), ⟨rfl, by decide +kernel, by decide +kernel, by decide +kernel⟩, by decide⟩
theorem kv_L_49 : exCV "ChairCaneLaw" 49 0 yX0_minute cX0_minute 1 (some .int) 0 := ⟨_, _, _, rfl, Or.inl (lw_V q826 q827 q828 q117 q829), ⟨rfl, by decide +kernel, by decide +kernel, by decide +kernel⟩, by decide⟩
theorem kv_L_52 : exCV "ChairCaneLaw" 52 3 yX3_minute cX3_minute 1 (some .int) 0 := ⟨_, _, _, rfl, Or.inl (lw_V q1516 q1517 q1518 q123 q1519), ⟨rfl, by decide +kernel, by decide +kernel, by decide +kernel⟩, by decide⟩
theorem kv_L_53 : exCV "ChairCaneLaw" 53 0 yX0_sit cX0_sit 2 (some .int) 1 := ⟨_, _, _, rfl, Or.inl (lw_V q902 q903 q904 q117 q905), ⟨rfl, by decide +kernel, by decide +kernel, by decide +kernel⟩, by decide⟩
theorem kv_L_56 : exCV "ChairCaneLaw" 56 3 yX3_sit cX3_sit 2 (some .int) 1 := ⟨_, _, _, rfl, Or.inl (lw_V q1561 q1562 q1563 q123 q1564), ⟨rfl, by decide +kernel, by decide +kernel, by decide +kernel⟩, by decide⟩
theorem kv_L_57 : exCV "ChairCaneLaw" 57 0 yX0_rise cX0_rise 2 (some .int) 1 := ⟨_, _, _, rfl, Or.inl (lw_V q915 q916 q917 q117 q918), ⟨rfl, by decide +kernel, by decide +kernel, by decide +kernel⟩, by decide⟩
theorem kv_L_60 : exCV "ChairCaneLaw" 60 3 yX3_rise cX3_rise 2 (some .int) 1 := ⟨_, _, _, rfl, Or.inl (lw_V q1569 q1570 q1571 q123 q1572), ⟨rfl, by decide +kernel, by decide +kernel, by decide +kernel⟩, by decide⟩
theorem kv_L_61 : exCV "ChairCaneLaw" 61 0 yX0_help cX0_help 2 (some .int) 1 := ⟨_, _, _, rfl, Or.inl (lw_V q919 q920 q921 q117 q922), ⟨rfl, by decide +kernel, by decide +kernel, by decide +kernel⟩, by decide⟩
theorem kv_L_64 : exCV "ChairCaneLaw" 64 3 yX3_help cX3_help 2 (some .int) 1 := ⟨_, _, _, rfl, Or.inl (lw_V q1573 q1574 q1575 q123 q1576), ⟨rfl, by decide +kernel, by decide +kernel, by decide +kernel⟩, by decide⟩
theorem kv_L_65 : exCV "ChairCaneLaw" 65 0 yX0_let cX0_let 3 (some .int) 2 := ⟨_, _, _, rfl, Or.inl (lw_V q925 q926 q927 q117 q928), ⟨rfl, by decide +kernel, by decide +kernel, by decide +kernel⟩, by decide⟩
theorem kv_L_68 : exCV "ChairCaneLaw" 68 3 yX3_let cX3_let 3 (some .int) 2 := ⟨_, _, _, rfl, Or.inl (lw_V q1577 q1578 q1579 q123 q1580), ⟨rfl, by decide +kernel, by decide +kernel, by decide +kernel⟩, by decide⟩
theorem kv_L_69 : exCV "ChairCaneLaw" 69 0 yX0_undo cX0_undo 1 (some .int) 0 := ⟨_, _, _, rfl, Or.inl (lw_V q818 q819 q820 q117 q821), ⟨rfl, by decide +kernel, by decide +kernel, by decide +kernel⟩, by decide⟩
theorem kv_L_72 : exCV "ChairCaneLaw" 72 3 yX3_undo cX3_undo 1 (some .int) 0 := ⟨_, _, _, rfl, Or.inl (lw_V q1500 q1501 q1502 q123 q1503), ⟨rfl, by decide +kernel, by decide +kernel, by decide +kernel⟩, by decide⟩
theorem kv_L_73 : exCV "ChairCaneLaw" 73 0 yX0_ahead cX0_ahead 4 (some .int) 3 := ⟨_, _, _, rfl, Or.inl (lw_V q930 q931 q932 q117 q933), ⟨rfl, by decide +kernel, by decide +kernel, by decide +kernel⟩, by decide⟩
theorem kv_L_77 : exCV "ChairCaneLaw" 77 3 yX3_ahead cX3_ahead 5 (some .int) 3 := ⟨_, _, _, rfl, Or.inl (lw_V q1582 q1583 q1584 q123 q1585), ⟨rfl, by decide +kernel, by decide +kernel, by decide +kernel⟩, by decide⟩
theorem kv_L_78 : exCV "ChairCaneLaw" 78 0 yX0_falls cX0_falls 4 (some .int) 1 := ⟨_, _, _, rfl, Or.inl (lw_V q940 q941 q942 q117 q943), ⟨rfl, by decide +kernel, by decide +kernel, by decide +kernel⟩, by decide⟩
theorem kv_L_81 : exCV "ChairCaneLaw" 81 3 yX3_falls cX3_falls 5 (some .int) 1 := ⟨_, _, _, rfl, Or.inl (lw_V q1607 q1608 q1609 q123 q1610), ⟨rfl, by decide +kernel, by decide +kernel, by decide +kernel⟩, by decide⟩
theorem kv_L_82 : exCV "ChairCaneLaw" 82 0 yX0_felled cX0_felled 2 (some .int) 1 := ⟨_, _, _, rfl, Or.inl (lw_V q944 q945 q946 q117 q947), ⟨rfl, by decide +kernel, by decide +kernel, by decide +kernel⟩, by decide⟩
theorem kv_L_85 : exCV "ChairCaneLaw" 85 3 yX3_felled cX3_felled 2 (some .int) 1 := ⟨_, _, _, rfl, Or.inl (lw_V q1611 q1612 q1613 q123 q1614), ⟨rfl, by decide +kernel, by decide +kernel, by decide +kernel⟩, by decide⟩
theorem kv_L_86 : exCV "ChairCaneLaw" 86 0 yX0_tall cX0_tall 6 (some .int) 1 := ⟨_, _, _, rfl, Or.inl (lw_V q952 q953 q954 q117 q955), ⟨rfl, by decide +kernel, by decide +kernel, by decide +kernel⟩, by decide⟩
theorem kv_L_89 : exCV "ChairCaneLaw" 89 3 yX3_tall cX3_tall 5 (some .int) 1 := ⟨_, _, _, rfl, Or.inl (lw_V q1619 q1620 q1621 q123 q1622), ⟨rfl, by decide +kernel, by decide +kernel, by decide +kernel⟩, by decide⟩
theorem ki_L_9 : exCI "ChairCaneLaw" 9 yX0_init cX0_init 1 0 := ⟨rfl, q146, q117, lw_meth q147, Or.inl q145, ⟨by decide +kernel, by decide +kernel, by decide +kernel⟩, by decide⟩
theorem kv_L_90 : exCV "ChairCaneLaw" 90 0 yX0_ease cX0_ease 6 (some .int) 1 := ⟨_, _, _, rfl, Or.inl (lw_V q956 q957 q958 q117 q959), ⟨rfl, by decide +kernel, by decide +kernel, by decide +kernel⟩, by decide⟩
theorem kv_L_93 : exCV "ChairCaneLaw" 93 3 yX3_ease cX3_ease 6 (some .int) 1 := ⟨_, _, _, rfl, Or.inl (lw_V q1623 q1624 q1625 q123 q1626), ⟨rfl, by decide +kernel, by decide +kernel, by decide +kernel⟩, by decide⟩
theorem kv_L_94 : exCV "ChairCaneLaw" 94 0 yX0_way cX0_way 5 (some .int) 1 := ⟨_, _, _, rfl, Or.inl (lw_V q961 q962 q963 q117 q964), ⟨rfl, by decide +kernel, by decide +kernel, by decide +kernel⟩, by decide⟩
theorem kv_L_97 : exCV "ChairCaneLaw" 97 3 yX3_way cX3_way 5 (some .int) 1 := ⟨_, _, _, rfl, Or.inl (lw_V q1627 q1628 q1629 q123 q1630), ⟨rfl, by decide +kernel, by decide +kernel, by decide +kernel⟩, by decide⟩
theorem kv_L_98 : exCV "ChairCaneLaw" 98 0 yX0_most cX0_most 4 (some .int) 1 := ⟨_, _, _, rfl, Or.inl (lw_V q971 q972 q973 q117 q974), ⟨rfl, by decide +kernel, by decide +kernel, by decide +kernel⟩, by decide⟩
theorem ks_X3_131 : exCS "ChairCaneModel" 131 yX3_in cX3_in 6 (some .boolean) 3 := ⟨Or.inl (lw_S q1351 q1352 q123 q1353), ⟨by decide +kernel, by decide +kernel, by decide +kernel⟩, by decide⟩
theorem kv_X3_138 : exCV "ChairCaneModel" 138 3 yX3_put cX3_put 3 (none) 1 := ⟨_, _, _, rfl, Or.inl (lw_V q1279 q1281 qs49 q123 q1282), ⟨rfl, by decide +kernel, by decide +kernel, by decide +kernel⟩, by decide⟩
theorem kv_X3_167 : exCV "ChairCaneModel" 167 3 yX3_sign cX3_sign 1 (some .int) 0 := ⟨_, _, _, rfl, Or.inl (lw_V q1307 q1309 qs54 q123 q1310), ⟨rfl, by decide +kernel, by decide +kernel, by decide +kernel⟩, by decide⟩
theorem kv_X3_184 : exCV "ChairCaneModel" 184 3 yX3_blanks cX3_blanks 1 (none) 0 := ⟨_, _, _, rfl, Or.inl (lw_V q1303 q1305 qs53 q123 q1306), ⟨rfl, by decide +kernel, by decide +kernel, by decide +kernel⟩, by decide⟩
theorem kv_X3_187 : exCV "ChairCaneModel" 187 3 yX3_stood cX3_stood 5 (some .boolean) 1 := ⟨_, _, _, rfl, Or.inl (lw_V q1318 q1320 qs55 q123 q1321), ⟨rfl, by decide +kernel, by decide +kernel, by decide +kernel⟩, by decide⟩
theorem kv_X3_200 : exCV "ChairCaneModel" 200 3 yX3_fails cX3_fails 3 (none) 2 := ⟨_, _, _, rfl, Or.inl (lw_V q1324 q1326 qs56 q123 q1327), ⟨rfl, by decide +kernel, by decide +kernel, by decide +kernel⟩, by decide⟩
theorem kv_X3_204 : exCV "ChairCaneModel" 204 3 yX3_isDigit cX3_isDigit 1 (some .boolean) 0 := ⟨_, _, _, rfl, Or.inl (lw_V q1345 q1347 qs61 q123 q1348), ⟨rfl, by decide +kernel, by decide +kernel, by decide +kernel⟩, by decide⟩
theorem kv_X3_209 : exCV "ChairCaneModel" 209 3 yX3_digits cX3_digits 4 (some .int) 1 := ⟨_, _, _, rfl, Or.inl (lw_V q1341 q1343 qs60 q123 q1344), ⟨rfl, by decide +kernel, by decide +kernel, by decide +kernel⟩, by decide⟩
theorem kv_X3_213 : exCV "ChairCaneModel" 213 3 yX3_isCounted cX3_isCounted 2 (none) 1 := ⟨_, _, _, rfl, Or.inl (lw_V q1390 q1392 qs69 q123 q1393), ⟨rfl, by decide +kernel, by decide +kernel, by decide +kernel⟩, by decide⟩
theorem kv_X3_216 : exCV "ChairCaneModel" 216 3 yX3_entry cX3_entry 3 (none) 2 := ⟨_, _, _, rfl, Or.inl (lw_V q1394 q1396 qs70 q123 q1397), ⟨rfl, by decide +kernel, by decide +kernel, by decide +kernel⟩, by decide⟩
theorem ks_X3_219 : exCS "ChairCaneModel" 219 yX3_wordOf cX3_wordOf 1 (some (.object "java/lang/String")) 1 := ⟨Or.inl (lw_S q1398 q1399 q123 q1400), ⟨by decide +kernel, by decide +kernel, by decide +kernel⟩, by decide⟩
theorem kv_X3_223 : exCV "ChairCaneModel" 223 3 yX3_value cX3_value 3 (none) 0 := ⟨_, _, _, rfl, Or.inl (lw_V q1386 q1388 qs68 q123 q1389), ⟨rfl, by decide +kernel, by decide +kernel, by decide +kernel⟩, by decide⟩
theorem kv_X3_226 : exCV "ChairCaneModel" 226 3 yX3_term cX3_term 2 (none) 0 := ⟨_, _, _, rfl, Or.inl (lw_V q1382 q1384 qs67 q123 q1385), ⟨rfl, by decide +kernel, by decide +kernel, by decide +kernel⟩, by decide⟩
theorem kv_X3_229 : exCV "ChairCaneModel" 229 3 yX3_sum cX3_sum 2 (none) 0 := ⟨_, _, _, rfl, Or.inl (lw_V q1378 q1380 qs66 q123 q1381), ⟨rfl, by decide +kernel, by decide +kernel, by decide +kernel⟩, by decide⟩
theorem kv_X3_238 : exCV "ChairCaneModel" 238 3 yX3_top cX3_top 1 (some .int) 0 := ⟨_, _, _, rfl, Or.inl (lw_V q1436 q1438 qs77 q123 q1439), ⟨rfl, by decide +kernel, by decide +kernel, by decide +kernel⟩, by decide⟩
theorem kv_X3_243 : exCV "ChairCaneModel" 243 3 yX3_opens cX3_opens 2 (none) 1 := ⟨_, _, _, rfl, Or.inl (lw_V q1424 q1426 qs74 q123 q1427), ⟨rfl, by decide +kernel, by decide +kernel, by decide +kernel⟩, by decide⟩
theorem kv_X3_246 : exCV "ChairCaneModel" 246 3 yX3_compared cX3_compared 3 (none) 0 := ⟨_, _, _, rfl, Or.inl (lw_V q1428 q1430 qs75 q123 q1431), ⟨rfl, by decide +kernel, by decide +kernel, by decide +kernel⟩, by decide⟩
theorem kv_X3_249 : exCV "ChairCaneModel" 249 3 yX3_fact cX3_fact 1 (some .boolean) 0 := ⟨_, _, _, rfl, Or.inl (lw_V q1419 q1421 qs73 q123 q1422), ⟨rfl, by decide +kernel, by decide +kernel, by decide +kernel⟩, by decide⟩
theorem kv_X3_252 : exCV "ChairCaneModel" 252 3 yX3_answers cX3_answers 2 (none) 1 := ⟨_, _, _, rfl, Or.inl (lw_V q1432 q1434 qs76 q123 q1435), ⟨rfl, by decide +kernel, by decide +kernel, by decide +kernel⟩, by decide⟩
theorem kv_X3_263 : exCV "ChairCaneModel" 263 3 yX3_amount cX3_amount 5 (some .int) 2 := ⟨_, _, _, rfl, Or.inl (lw_V q1336 q1338 qs59 q123 q1339), ⟨rfl, by decide +kernel, by decide +kernel, by decide +kernel⟩, by decide⟩
theorem kv_X3_267 : exCV "ChairCaneModel" 267 3 yX3_sitterPart cX3_sitterPart 5 (none) 0 := ⟨_, _, _, rfl, Or.inl (lw_V q1354 q1356 qs62 q123 q1357), ⟨rfl, by decide +kernel, by decide +kernel, by decide +kernel⟩, by decide⟩
theorem ks_X3_270 : exCS "ChairCaneModel" 270 yX3_hallWord cX3_hallWord 1 (some (.object "java/lang/String")) 1 := ⟨Or.inl (lw_S q1311 q1312 q123 q1313), ⟨by decide +kernel, by decide +kernel, by decide +kernel⟩, by decide⟩
theorem kv_X3_273 : exCV "ChairCaneModel" 273 3 yX3_isFull cX3_isFull 3 (some .boolean) 2 := ⟨_, _, _, rfl, Or.inl (lw_V q1328 q1330 qs57 q123 q1331), ⟨rfl, by decide +kernel, by decide +kernel, by decide +kernel⟩, by decide⟩
theorem kv_X3_277 : exCV "ChairCaneModel" 277 3 yX3_hallPart cX3_hallPart 3 (none) 1 := ⟨_, _, _, rfl, Or.inl (lw_V q1332 q1334 qs58 q123 q1335), ⟨rfl, by decide +kernel, by decide +kernel, by decide +kernel⟩, by decide⟩
theorem kv_X3_280 : exCV "ChairCaneModel" 280 3 yX3_starts cX3_starts 1 (none) 0 := ⟨_, _, _, rfl, Or.inl (lw_V q1295 q1297 qs51 q123 q1298), ⟨rfl, by decide +kernel, by decide +kernel, by decide +kernel⟩, by decide⟩
theorem kv_X3_283 : exCV "ChairCaneModel" 283 3 yX3_hallClause cX3_hallClause 4 (none) 1 := ⟨_, _, _, rfl, Or.inl (lw_V q1299 q1301 qs52 q123 q1302), ⟨rfl, by decide +kernel, by decide +kernel, by decide +kernel⟩, by decide⟩
theorem kv_X3_286 : exCV "ChairCaneModel" 286 3 yX3_goesOn cX3_goesOn 2 (some .boolean) 0 := ⟨_, _, _, rfl, Or.inl (lw_V q1358 q1360 qs63 q123 q1361), ⟨rfl, by decide +kernel, by decide +kernel, by decide +kernel⟩, by decide⟩
theorem ks_X3_289 : exCS "ChairCaneModel" 289 yX3_copies cX3_copies 3 (none) 2 := ⟨Or.inl (lw_S q1362 q1363 q123 q1364), ⟨by decide +kernel, by decide +kernel, by decide +kernel⟩, by decide⟩
theorem kv_X3_293 : exCV "ChairCaneModel" 293 3 yX3_readsAll cX3_readsAll 3 (none) 0 := ⟨_, _, _, rfl, Or.inl (lw_V q1291 q1293 qs50 q123 q1294), ⟨rfl, by decide +kernel, by decide +kernel, by decide +kernel⟩, by decide⟩
theorem kv_X3_296 : exCV "ChairCaneModel" 296 3 yX3_begins cX3_begins 2 (none) 0 := ⟨_, _, _, rfl, Or.inl (lw_V q1365 q1367 qs64 q123 q1368), ⟨rfl, by decide +kernel, by decide +kernel, by decide +kernel⟩, by decide⟩
theorem kv_X3_306 : exCV "ChairCaneModel" 306 3 yX3_takes cX3_takes 3 (some .boolean) 1 := ⟨_, _, _, rfl, Or.inl (lw_V q1411 q1413 qs71 q123 q1414), ⟨rfl, by decide +kernel, by decide +kernel, by decide +kernel⟩, by decide⟩
theorem kv_X3_309 : exCV "ChairCaneModel" 309 3 yX3_test cX3_test 5 (none) 0 := ⟨_, _, _, rfl, Or.inl (lw_V q1415 q1417 qs72 q123 q1418), ⟨rfl, by decide +kernel, by decide +kernel, by decide +kernel⟩, by decide⟩
theorem kv_X3_315 : exCV "ChairCaneModel" 315 3 yX3_ruleClause cX3_ruleClause 4 (none) 1 := ⟨_, _, _, rfl, Or.inl (lw_V q1373 q1375 qs65 q123 q1376), ⟨rfl, by decide +kernel, by decide +kernel, by decide +kernel⟩, by decide⟩
theorem kv_X3_320 : exCV "ChairCaneModel" 320 3 yX3_answer cX3_answer 8 (some .long) 3 := ⟨_, _, _, rfl, Or.inl (lw_V q1543 q1545 qs95 q123 q1546), ⟨rfl, by decide +kernel, by decide +kernel, by decide +kernel⟩, by decide⟩
theorem ks_X3_324 : exCS "ChairCaneModel" 324 yX3_truth cX3_truth 1 (some .long) 1 := ⟨Or.inl (lw_S q1550 q1551 q123 q1552), ⟨by decide +kernel, by decide +kernel, by decide +kernel⟩, by decide⟩
theorem ks_X3_328 : exCS "ChairCaneModel" 328 yX3_both cX3_both 5 (some .long) 3 := ⟨Or.inl (lw_S q1547 q1548 q123 q1549), ⟨by decide +kernel, by decide +kernel, by decide +kernel⟩, by decide⟩
theorem ks_X3_332 : exCS "ChairCaneModel" 332 yX3_has cX3_has 2 (some .boolean) 2 := ⟨Or.inl (lw_S q1480 q1481 q123 q1482), ⟨by decide +kernel, by decide +kernel, by decide +kernel⟩, by decide⟩
theorem kv_X3_335 : exCV "ChairCaneModel" 335 3 yX3_onStrand cX3_onStrand 5 (some .int) 2 := ⟨_, _, _, rfl, Or.inl (lw_V q1483 q1485 qs84 q123 q1486), ⟨rfl, by decide +kernel, by decide +kernel, by decide +kernel⟩, by decide⟩
theorem kv_X3_338 : exCV "ChairCaneModel" 338 3 yX3_weightOf cX3_weightOf 4 (some .int) 1 := ⟨_, _, _, rfl, Or.inl (lw_V q1487 q1489 qs85 q123 q1490), ⟨rfl, by decide +kernel, by decide +kernel, by decide +kernel⟩, by decide⟩
theorem kv_X3_341 : exCV "ChairCaneModel" 341 3 yX3_those cX3_those 4 (some .int) 1 := ⟨_, _, _, rfl, Or.inl (lw_V q1472 q1474 qs82 q123 q1475), ⟨rfl, by decide +kernel, by decide +kernel, by decide +kernel⟩, by decide⟩
theorem kv_X3_344 : exCV "ChairCaneModel" 344 3 yX3_gives cX3_gives 4 (some .int) 2 := ⟨_, _, _, rfl, Or.inl (lw_V q1476 q1478 qs83 q123 q1479), ⟨rfl, by decide +kernel, by decide +kernel, by decide +kernel⟩, by decide⟩
theorem kv_X3_347 : exCV "ChairCaneModel" 347 3 yX3_isStrand cX3_isStrand 2 (some .boolean) 1 := ⟨_, _, _, rfl, Or.inl (lw_V q1451 q1453 qs78 q123 q1454), ⟨rfl, by decide +kernel, by decide +kernel, by decide +kernel⟩, by decide⟩
theorem kv_X3_351 : exCV "ChairCaneModel" 351 3 yX3_isChair cX3_isChair 2 (some .boolean) 1 := ⟨_, _, _, rfl, Or.inl (lw_V q1459 q1461 qs79 q123 q1462), ⟨rfl, by decide +kernel, by decide +kernel, by decide +kernel⟩, by decide⟩
theorem kv_X3_356 : exCV "ChairCaneModel" 356 3 yX3_sitterOf cX3_sitterOf 3 (some .int) 1 := ⟨_, _, _, rfl, Or.inl (lw_V q1464 q1466 qs80 q123 q1467), ⟨rfl, by decide +kernel, by decide +kernel, by decide +kernel⟩, by decide⟩
theorem kv_X3_359 : exCV "ChairCaneModel" 359 3 yX3_givesNow cX3_givesNow 2 (some .int) 1 := ⟨_, _, _, rfl, Or.inl (lw_V q1468 q1470 qs81 q123 q1471), ⟨rfl, by decide +kernel, by decide +kernel, by decide +kernel⟩, by decide⟩
theorem kv_X3_362 : exCV "ChairCaneModel" 362 3 yX3_isSitter cX3_isSitter 2 (some .boolean) 1 := ⟨_, _, _, rfl, Or.inl (lw_V q1495 q1497 qs86 q123 q1498), ⟨rfl, by decide +kernel, by decide +kernel, by decide +kernel⟩, by decide⟩
theorem kv_X3_367 : exCV "ChairCaneModel" 367 3 yX3_dropsOf cX3_dropsOf 4 (some .int) 1 := ⟨_, _, _, rfl, Or.inl (lw_V q1557 q1559 qs97 q123 q1560), ⟨rfl, by decide +kernel, by decide +kernel, by decide +kernel⟩, by decide⟩
theorem ks_X3_370 : exCS "ChairCaneModel" 370 yX3_bits cX3_bits 3 (some .int) 1 := ⟨Or.inl (lw_S q1536 q1537 q123 q1538), ⟨by decide +kernel, by decide +kernel, by decide +kernel⟩, by decide⟩
theorem kv_X3_373 : exCV "ChairCaneModel" 373 3 yX3_wanted cX3_wanted 3 (some .long) 0 := ⟨_, _, _, rfl, Or.inl (lw_V q1539 q1541 qs94 q123 q1542), ⟨rfl, by decide +kernel, by decide +kernel, by decide +kernel⟩, by decide⟩
theorem kv_X3_377 : exCV "ChairCaneModel" 377 3 yX3_choice cX3_choice 3 (some .int) 1 := ⟨_, _, _, rfl, Or.inl (lw_V q1532 q1534 qs93 q123 q1535), ⟨rfl, by decide +kernel, by decide +kernel, by decide +kernel⟩, by decide⟩
theorem kv_X3_380 : exCV "ChairCaneModel" 380 3 yX3_settles cX3_settles 4 (some .int) 0 := ⟨_, _, _, rfl, Or.inl (lw_V q1553 q1555 qs96 q123 q1556), ⟨rfl, by decide +kernel, by decide +kernel, by decide +kernel⟩, by decide⟩
theorem kv_X3_383 : exCV "ChairCaneModel" 383 3 yX3_goes cX3_goes 2 (some .int) 0 := ⟨_, _, _, rfl, Or.inl (lw_V q1528 q1530 qs92 q123 q1531), ⟨rfl, by decide +kernel, by decide +kernel, by decide +kernel⟩, by decide⟩
theorem kv_X3_393 : exCV "ChairCaneModel" 393 3 yX3_moves cX3_moves 3 (some .int) 1 := ⟨_, _, _, rfl, Or.inl (lw_V q1508 q1510 qs88 q123 q1511), ⟨rfl, by decide +kernel, by decide +kernel, by decide +kernel⟩, by decide⟩
theorem kv_X3_396 : exCV "ChairCaneModel" 396 3 yX3_movesRow cX3_movesRow 3 (none) 1 := ⟨_, _, _, rfl, Or.inl (lw_V q1512 q1514 qs89 q123 q1515), ⟨rfl, by decide +kernel, by decide +kernel, by decide +kernel⟩, by decide⟩
theorem kv_X3_400 : exCV "ChairCaneModel" 400 3 yX3_movesAll cX3_movesAll 3 (none) 2 := ⟨_, _, _, rfl, Or.inl (lw_V q1504 q1506 qs87 q123 q1507), ⟨rfl, by decide +kernel, by decide +kernel, by decide +kernel⟩, by decide⟩
theorem kv_X3_404 : exCV "ChairCaneModel" 404 3 yX3_isHall cX3_isHall 1 (some .boolean) 0 := ⟨_, _, _, rfl, Or.inl (lw_V q1520 q1522 qs90 q123 q1523), ⟨rfl, by decide +kernel, by decide +kernel, by decide +kernel⟩, by decide⟩
theorem kv_X3_407 : exCV "ChairCaneModel" 407 3 yX3_keepsAct cX3_keepsAct 2 (none) 0 := ⟨_, _, _, rfl, Or.inl (lw_V q1524 q1526 qs91 q123 q1527), ⟨rfl, by decide +kernel, by decide +kernel, by decide +kernel⟩, by decide⟩
theorem kv_X3_410 : exCV "ChairCaneModel" 410 3 yX3_isSo cX3_isSo 3 (some .boolean) 2 := ⟨_, _, _, rfl, Or.inl (lw_V q1565 q1567 qs98 q123 q1568), ⟨rfl, by decide +kernel, by decide +kernel, by decide +kernel⟩, by decide⟩
theorem kv_X3_415 : exCV "ChairCaneModel" 415 3 yX3_carriesAll cX3_carriesAll 3 (none) 2 := ⟨_, _, _, rfl, Or.inl (lw_V q1591 q1593 qs100 q123 q1594), ⟨rfl, by decide +kernel, by decide +kernel, by decide +kernel⟩, by decide⟩
theorem kv_X3_420 : exCV "ChairCaneModel" 420 3 yX3_keepsAll cX3_keepsAll 1 (none) 0 := ⟨_, _, _, rfl, Or.inl (lw_V q1587 q1589 qs99 q123 q1590), ⟨rfl, by decide +kernel, by decide +kernel, by decide +kernel⟩, by decide⟩
theorem kv_X3_423 : exCV "ChairCaneModel" 423 3 yX3_goFor cX3_goFor 3 (none) 1 := ⟨_, _, _, rfl, Or.inl (lw_V q1599 q1601 qs102 q123 q1602), ⟨rfl, by decide +kernel, by decide +kernel, by decide +kernel⟩, by decide⟩
theorem kv_X3_426 : exCV "ChairCaneModel" 426 3 yX3_laysBack cX3_laysBack 1 (none) 0 := ⟨_, _, _, rfl, Or.inl (lw_V q1603 q1605 qs103 q123 q1606), ⟨rfl, by decide +kernel, by decide +kernel, by decide +kernel⟩, by decide⟩
theorem kv_X3_429 : exCV "ChairCaneModel" 429 3 yX3_felledBy cX3_felledBy 3 (some .int) 1 := ⟨_, _, _, rfl, Or.inl (lw_V q1615 q1617 qs104 q123 q1618), ⟨rfl, by decide +kernel, by decide +kernel, by decide +kernel⟩, by decide⟩
theorem kv_X3_434 : exCV "ChairCaneModel" 434 3 yX3_nextOf cX3_nextOf 4 (some .int) 1 := ⟨_, _, _, rfl, Or.inl (lw_V q1632 q1634 qs105 q123 q1635), ⟨rfl, by decide +kernel, by decide +kernel, by decide +kernel⟩, by decide⟩
theorem kv_X3_437 : exCV "ChairCaneModel" 437 3 yX3_earns cX3_earns 2 (some .int) 1 := ⟨_, _, _, rfl, Or.inl (lw_V q1653 q1655 qs107 q123 q1656), ⟨rfl, by decide +kernel, by decide +kernel, by decide +kernel⟩, by decide⟩
theorem kv_X3_442 : exCV "ChairCaneModel" 442 3 yX3_laysWays cX3_laysWays 6 (none) 3 := ⟨_, _, _, rfl, Or.inl (lw_V q1649 q1651 qs106 q123 q1652), ⟨rfl, by decide +kernel, by decide +kernel, by decide +kernel⟩, by decide⟩
theorem kv_X3_446 : exCV "ChairCaneModel" 446 3 yX3_laysAll cX3_laysAll 3 (none) 0 := ⟨_, _, _, rfl, Or.inl (lw_V q1661 q1663 qs108 q123 q1664), ⟨rfl, by decide +kernel, by decide +kernel, by decide +kernel⟩, by decide⟩
theorem kv_X3_449 : exCV "ChairCaneModel" 449 3 yX3_isAlike cX3_isAlike 4 (some .boolean) 2 := ⟨_, _, _, rfl, Or.inl (lw_V q1665 q1667 qs109 q123 q1668), ⟨rfl, by decide +kernel, by decide +kernel, by decide +kernel⟩, by decide⟩
theorem kv_X3_454 : exCV "ChairCaneModel" 454 3 yX3_allGive cX3_allGive 3 (some .int) 0 := ⟨_, _, _, rfl, Or.inl (lw_V q1674 q1676 qs110 q123 q1677), ⟨rfl, by decide +kernel, by decide +kernel, by decide +kernel⟩, by decide⟩
theorem kv_X3_459 : exCV "ChairCaneModel" 459 3 yX3_doNotesFit cX3_doNotesFit 2 (some .boolean) 0 := ⟨_, _, _, rfl, Or.inl (lw_V q1691 q1693 qs112 q123 q1694), ⟨rfl, by decide +kernel, by decide +kernel, by decide +kernel⟩, by decide⟩
theorem kv_X3_462 : exCV "ChairCaneModel" 462 3 yX3_couldRule cX3_couldRule 2 (some .boolean) 1 := ⟨_, _, _, rfl, Or.inl (lw_V q1687 q1689 qs111 q123 q1690), ⟨rfl, by decide +kernel, by decide +kernel, by decide +kernel⟩, by decide⟩
theorem kv_X3_465 : exCV "ChairCaneModel" 465 3 yX3_mostAlike cX3_mostAlike 7 (some .int) 2 := ⟨_, _, _, rfl, Or.inl (lw_V q1703 q1705 qs113 q123 q1706), ⟨rfl, by decide +kernel, by decide +kernel, by decide +kernel⟩, by decide⟩
theorem kv_X3_477 : exCV "ChairCaneModel" 477 3 yX3_draws cX3_draws 2 (some .int) 1 := ⟨_, _, _, rfl, Or.inl (lw_V q1716 q1718 qs114 q123 q1719), ⟨rfl, by decide +kernel, by decide +kernel, by decide +kernel⟩, by decide⟩
theorem kv_X3_480 : exCV "ChairCaneModel" 480 3 yX3_toastOf cX3_toastOf 2 (none) 1 := ⟨_, _, _, rfl, Or.inl (lw_V q1724 q1726 qs115 q123 q1727), ⟨rfl, by decide +kernel, by decide +kernel, by decide +kernel⟩, by decide⟩
theorem kv_X3_489 : exCV "ChairCaneModel" 489 3 yX3_carryRow cX3_carryRow 3 (none) 1 := ⟨_, _, _, rfl, Or.inl (lw_V q1595 q1597 qs101 q123 q1598), ⟨rfl, by decide +kernel, by decide +kernel, by decide +kernel⟩, by decide⟩
theorem ki_J1_16 : exCI "java/lang/Exception" 16 yJ0_init_2 cJ0_init_2 5 4 := ⟨rfl, q288, q119, lw_meth q289, Or.inl q287, ⟨by decide +kernel, by decide +kernel, by decide +kernel⟩, by decide⟩
theorem ki_J2_16 : exCI "java/lang/RuntimeException" 16 yJ1_init cJ1_init 5 4 := ⟨rfl, q285, q120, lw_meth q286, Or.inl q284, ⟨by decide +kernel, by decide +kernel, by decide +kernel⟩, by decide⟩
theorem ks_J3_1059 : exCS "java/lang/String" 1059 yJ5_checkIndex cJ5_checkIndex 3 (some .int) 3 := ⟨Or.inl (lw_S q512 q513 q128 q514), ⟨by decide +kernel, by decide +kernel, by decide +kernel⟩, by decide⟩
theorem ks_J3_495 : exCS "java/lang/String" 495 yJ4_charAt cJ4_charAt 2 (some .char) 2 := ⟨Or.inl (lw_S q504 q505 q127 q506), ⟨by decide +kernel, by decide +kernel, by decide +kernel⟩, by decide⟩
theorem ks_J3_498 : exCS "java/lang/String" 498 yJ6_charAt cJ6_charAt 2 (some .char) 2 := ⟨Or.inl (lw_S q515 q516 q129 q517), ⟨by decide +kernel, by decide +kernel, by decide +kernel⟩, by decide⟩
theorem ks_J4_9 : exCS "java/lang/StringLatin1" 9 yJ3_checkIndex cJ3_checkIndex 2 (none) 2 := ⟨Or.inl (lw_S q507 q508 q126 q509), ⟨by decide +kernel, by decide +kernel, by decide +kernel⟩, by decide⟩
theorem ks_J6_414 : exCS "java/lang/StringUTF16" 414 yJ3_checkIndex cJ3_checkIndex 2 (none) 2 := ⟨Or.inl (lw_S q524 q508 q126 q509), ⟨by decide +kernel, by decide +kernel, by decide +kernel⟩, by decide⟩
theorem ks_J6_48 : exCS "java/lang/StringUTF16" 48 yJ6_length cJ6_length 1 (some .int) 1 := ⟨Or.inl (lw_S q521 q522 q129 q523), ⟨by decide +kernel, by decide +kernel, by decide +kernel⟩, by decide⟩
theorem ks_J6_67 : exCS "java/lang/StringUTF16" 67 yJ6_checkIndex cJ6_checkIndex 2 (none) 2 := ⟨Or.inl (lw_S q518 q519 q129 q520), ⟨by decide +kernel, by decide +kernel, by decide +kernel⟩, by decide⟩
theorem ks_J6_71 : exCS "java/lang/StringUTF16" 71 yJ6_getChar cJ6_getChar 2 (some .char) 2 := ⟨Or.inl (lw_S q525 q526 q129 q527), ⟨by decide +kernel, by decide +kernel, by decide +kernel⟩, by decide⟩
theorem ki_X14_1 : exCI "ChairCane$Both" 1 yX11_init cX11_init 1 0 := ⟨rfl, q718, q136, lw_meth q719, Or.inr ⟨_, exNest_in q751 rfl⟩, ⟨by decide +kernel, by decide +kernel, by decide +kernel⟩, by decide⟩
theorem ki_X13_1 : exCI "ChairCane$Compare" 1 yX11_init cX11_init 1 0 := ⟨rfl, q718, q136, lw_meth q719, Or.inr ⟨_, exNest_in q734 rfl⟩, ⟨by decide +kernel, by decide +kernel, by decide +kernel⟩, by decide⟩
theorem ks_X1_78 : exCS "ChairCane$Dinner" 78 yX0_has cX0_has 2 (some .boolean) 2 := ⟨Or.inr ⟨_, exNest_in q798 rfl, q799, q117, lw_meth q800⟩, ⟨by decide +kernel, by decide +kernel, by decide +kernel⟩, by decide⟩
theorem ki_X15_9 : exCI "ChairCane$Image" 9 yX1_init cX1_init 1 0 := ⟨rfl, q154, q118, lw_meth q155, Or.inr ⟨_, exNest_in q1091 rfl⟩, ⟨by decide +kernel, by decide +kernel, by decide +kernel⟩, by decide⟩
theorem ki_X12_1 : exCI "ChairCane$Not" 1 yX11_init cX11_init 1 0 := ⟨rfl, q718, q136, lw_meth q719, Or.inr ⟨_, exNest_in q717 rfl⟩, ⟨by decide +kernel, by decide +kernel, by decide +kernel⟩, by decide⟩
theorem ki_X8_1 : exCI "ChairCane$Number" 1 yX7_init cX7_init 1 0 := ⟨rfl, q657, q132, lw_meth q658, Or.inr ⟨_, exNest_in q656 rfl⟩, ⟨by decide +kernel, by decide +kernel, by decide +kernel⟩, by decide⟩
theorem ki_X10_1 : exCI "ChairCane$Pair" 1 yX7_init cX7_init 1 0 := ⟨rfl, q657, q132, lw_meth q658, Or.inr ⟨_, exNest_in q679 rfl⟩, ⟨by decide +kernel, by decide +kernel, by decide +kernel⟩, by decide⟩
theorem ki_X4_172 : exCI "ChairCane$Text" 172 yX6_init cX6_init 1 0 := ⟨rfl, q622, q131, lw_meth q623, Or.inr ⟨_, exNest_in q621 rfl⟩, ⟨by decide +kernel, by decide +kernel, by decide +kernel⟩, by decide⟩
theorem ki_X4_195 : exCI "ChairCane$Text" 195 yX5_init cX5_init 1 0 := ⟨rfl, q601, q130, lw_meth q602, Or.inr ⟨_, exNest_in q600 rfl⟩, ⟨by decide +kernel, by decide +kernel, by decide +kernel⟩, by decide⟩
theorem ks_X4_80 : exCS "ChairCane$Text" 80 yX0_in cX0_in 6 (some .boolean) 3 := ⟨Or.inr ⟨_, exNest_in q558 rfl, q559, q117, lw_meth q560⟩, ⟨by decide +kernel, by decide +kernel, by decide +kernel⟩, by decide⟩
theorem ki_X9_1 : exCI "ChairCane$Word" 1 yX7_init cX7_init 1 0 := ⟨rfl, q657, q132, lw_meth q658, Or.inr ⟨_, exNest_in q669 rfl⟩, ⟨by decide +kernel, by decide +kernel, by decide +kernel⟩, by decide⟩
theorem ki_X0_127 : exCI "ChairCane" 127 yX4_init cX4_init 2 1 := ⟨rfl, q430, q124, lw_meth q431, Or.inr ⟨_, exNest_in q429 rfl⟩, ⟨by decide +kernel, by decide +kernel, by decide +kernel⟩, by decide⟩
theorem ki_X0_352 : exCI "ChairCane" 352 yX15_init cX15_init 1 0 := ⟨rfl, q1087, q142, lw_meth q1088, Or.inr ⟨_, exNest_in q1086 rfl⟩, ⟨by decide +kernel, by decide +kernel, by decide +kernel⟩, by decide⟩
theorem ki_X0_9 : exCI "ChairCane" 9 yX1_init cX1_init 1 0 := ⟨rfl, q154, q118, lw_meth q155, Or.inr ⟨_, exNest_in q153 rfl⟩, ⟨by decide +kernel, by decide +kernel, by decide +kernel⟩, by decide⟩
abbrev mX0_init : ExM := ("ChairCane", cX0_init, 1, none, "<init>", [], none)
abbrev mX0_ahead : ExM := ("ChairCane", cX0_ahead, 4, some .int, "ahead", [], none)
abbrev mX0_alikeOf : ExM := ("ChairCane", cX0_alikeOf, 6, some .int, "alikeOf", [], none)
abbrev mX0_areAlike : ExM := ("ChairCane", cX0_areAlike, 4, some .boolean, "areAlike", [], none)
abbrev mX0_areAllSo : ExM := ("ChairCane", cX0_areAllSo, 3, some .boolean, "areAllSo", [], none)
abbrev mX0_areNotesSo : ExM := ("ChairCane", cX0_areNotesSo, 3, some .boolean, "areNotesSo", [], none)
abbrev mX0_back : ExM := ("ChairCane", cX0_back, 2, some .int, "back", [], none)
abbrev mX0_becomes : ExM := ("ChairCane", cX0_becomes, 3, some .int, "becomes", [], none)
abbrev mX0_canChoose : ExM := ("ChairCane", cX0_canChoose, 2, some .boolean, "canChoose", [], none)
abbrev mX0_chair : ExM := ("ChairCane", cX0_chair, 4, some .int, "chair", [], none)
abbrev mX0_count : ExM := ("ChairCane", cX0_count, 2, some .int, "count", [], none)
abbrev mX0_draw : ExM := ("ChairCane", cX0_draw, 2, some .int, "draw", [], none)
abbrev mX0_ease : ExM := ("ChairCane", cX0_ease, 6, some .int, "ease", [], none)
abbrev mX0_end : ExM := ("ChairCane", cX0_end, 2, some .int, "end", [], none)
abbrev mX0_falls : ExM := ("ChairCane", cX0_falls, 4, some .int, "falls", [], none)
abbrev mX0_faulted : ExM := ("ChairCane", cX0_faulted, 1, some .int, "faulted", [], none)
abbrev mX0_feed : ExM := ("ChairCane", cX0_feed, 6, some .int, "feed", [], none)
abbrev mX0_felled : ExM := ("ChairCane", cX0_felled, 2, some .int, "felled", [], none)
abbrev mX0_fells : ExM := ("ChairCane", cX0_fells, 2, some .int, "fells", [], none)
abbrev mX0_force : ExM := ("ChairCane", cX0_force, 3, some .int, "force", [], none)
abbrev mX0_four : ExM := ("ChairCane", cX0_four, 3, none, "four", [], none)
abbrev mX0_gathersRules : ExM := ("ChairCane", cX0_gathersRules, 4, none, "gathersRules", [], none)
abbrev mX0_gets : ExM := ("ChairCane", cX0_gets, 2, some .int, "gets", [], none)
abbrev mX0_hall : ExM := ("ChairCane", cX0_hall, 3, some .int, "hall", [], none)
abbrev mX0_has : ExM := ("ChairCane", cX0_has, 2, some .boolean, "has", [], none)
abbrev mX0_heavy : ExM := ("ChairCane", cX0_heavy, 7, some .int, "heavy", [], none)
abbrev mX0_help : ExM := ("ChairCane", cX0_help, 2, some .int, "help", [], none)
abbrev mX0_image : ExM := ("ChairCane", cX0_image, 3, some .int, "image", [], none)
abbrev mX0_in : ExM := ("ChairCane", cX0_in, 6, some .boolean, "in", [], none)
abbrev mX0_isChair : ExM := ("ChairCane", cX0_isChair, 2, some .boolean, "isChair", [], none)
abbrev mX0_isRest : ExM := ("ChairCane", cX0_isRest, 3, some .boolean, "isRest", [], none)
abbrev mX0_isSitter : ExM := ("ChairCane", cX0_isSitter, 2, some .boolean, "isSitter", [], none)
abbrev mX0_isSitterThat : ExM := ("ChairCane", cX0_isSitterThat, 3, some .boolean, "isSitterThat", [], none)
abbrev mX0_isStrand : ExM := ("ChairCane", cX0_isStrand, 2, some .boolean, "isStrand", [], none)
abbrev mX0_keepsAct : ExM := ("ChairCane", cX0_keepsAct, 1, none, "keepsAct", [], none)
abbrev mX0_law : ExM := ("ChairCane", cX0_law, 1, some (.object "ChairCane$Rule"), "law", [], none)
abbrev mX0_let : ExM := ("ChairCane", cX0_let, 3, some .int, "let", [], none)
abbrev mX0_look : ExM := ("ChairCane", cX0_look, 7, some .int, "look", [], none)
abbrev mX0_minute : ExM := ("ChairCane", cX0_minute, 1, some .int, "minute", [], none)
abbrev mX0_most : ExM := ("ChairCane", cX0_most, 4, some .int, "most", [], none)
abbrev mX0_note : ExM := ("ChairCane", cX0_note, 5, some .int, "note", [], none)
abbrev mX0_pence : ExM := ("ChairCane", cX0_pence, 9, some .int, "pence", [], none)
abbrev mX0_rests : ExM := ("ChairCane", cX0_rests, 8, some .int, "rests", [], none)
abbrev mX0_ring : ExM := ("ChairCane", cX0_ring, 4, some .int, "ring", [], none)
abbrev mX0_rise : ExM := ("ChairCane", cX0_rise, 2, some .int, "rise", [], none)
abbrev mX0_rule : ExM := ("ChairCane", cX0_rule, 3, some .int, "rule", [], none)
abbrev mX0_ruled : ExM := ("ChairCane", cX0_ruled, 5, some .int, "ruled", [], none)
abbrev mX0_seed : ExM := ("ChairCane", cX0_seed, 3, some .int, "seed", [], none)
abbrev mX0_sit : ExM := ("ChairCane", cX0_sit, 2, some .int, "sit", [], none)
abbrev mX0_sitter : ExM := ("ChairCane", cX0_sitter, 3, some .int, "sitter", [], none)
abbrev mX0_stirs : ExM := ("ChairCane", cX0_stirs, 2, none, "stirs", [], none)
abbrev mX0_strand : ExM := ("ChairCane", cX0_strand, 2, some .int, "strand", [], none)
abbrev mX0_strung : ExM := ("ChairCane", cX0_strung, 4, some .int, "strung", [], none)
abbrev mX0_tall : ExM := ("ChairCane", cX0_tall, 6, some .int, "tall", [], none)
abbrev mX0_toasts : ExM := ("ChairCane", cX0_toasts, 10, some .int, "toasts", [], none)
abbrev mX0_undo : ExM := ("ChairCane", cX0_undo, 1, some .int, "undo", [], none)
abbrev mX0_upFrom : ExM := ("ChairCane", cX0_upFrom, 4, some .int, "upFrom", [], none)
abbrev mX0_way : ExM := ("ChairCane", cX0_way, 5, some .int, "way", [], none)
abbrev mX0_weighs : ExM := ("ChairCane", cX0_weighs, 6, none, "weighs", [], none)
abbrev mX14_init : ExM := ("ChairCane$Both", cX14_init, 4, none, "<init>", [], none)
abbrev mX14_is : ExM := ("ChairCane$Both", cX14_is, 2, some .boolean, "is", [], none)
abbrev mX6_init : ExM := ("ChairCane$Clause", cX6_init, 1, none, "<init>", [], none)
abbrev mX6_fits : ExM := ("ChairCane$Clause", cX6_fits, 2, some .boolean, "fits", [], none)
abbrev mX13_init : ExM := ("ChairCane$Compare", cX13_init, 4, none, "<init>", [], none)
abbrev mX13_is : ExM := ("ChairCane$Compare", cX13_is, 6, some .boolean, "is", [], none)
abbrev mX1_init : ExM := ("ChairCane$Dinner", cX1_init, 1, none, "<init>", [], none)
abbrev mX1_begins : ExM := ("ChairCane$Dinner", cX1_begins, 2, none, "begins", [], none)
abbrev mX1_copies : ExM := ("ChairCane$Dinner", cX1_copies, 2, some (.object "ChairCane$Dinner"), "copies", [], none)
abbrev mX1_dropsOf : ExM := ("ChairCane$Dinner", cX1_dropsOf, 4, some .int, "dropsOf", [], none)
abbrev mX1_giveOf : ExM := ("ChairCane$Dinner", cX1_giveOf, 3, some .int, "giveOf", [], none)
abbrev mX1_givesAll : ExM := ("ChairCane$Dinner", cX1_givesAll, 3, some .int, "givesAll", [], none)
abbrev mX1_givesNow : ExM := ("ChairCane$Dinner", cX1_givesNow, 2, some .int, "givesNow", [], none)
abbrev mX1_lays : ExM := ("ChairCane$Dinner", cX1_lays, 3, none, "lays", [], none)
abbrev mX1_laysBack : ExM := ("ChairCane$Dinner", cX1_laysBack, 3, none, "laysBack", [], none)
abbrev mX1_onesThat : ExM := ("ChairCane$Dinner", cX1_onesThat, 4, some .int, "onesThat", [], none)
abbrev mX1_passes : ExM := ("ChairCane$Dinner", cX1_passes, 3, some .int, "passes", [], none)
abbrev mX1_passesAll : ExM := ("ChairCane$Dinner", cX1_passesAll, 4, some (.object "ChairCane$Dinner"), "passesAll", [], none)
abbrev mX1_pressOn : ExM := ("ChairCane$Dinner", cX1_pressOn, 5, some .int, "pressOn", [], none)
abbrev mX1_settled : ExM := ("ChairCane$Dinner", cX1_settled, 4, some .int, "settled", [], none)
abbrev mX1_sitterOf : ExM := ("ChairCane$Dinner", cX1_sitterOf, 3, some .int, "sitterOf", [], none)
abbrev mX1_standsAs : ExM := ("ChairCane$Dinner", cX1_standsAs, 3, some (.object "ChairCane$Dinner"), "standsAs", [], none)
abbrev mX1_strandOf : ExM := ("ChairCane$Dinner", cX1_strandOf, 2, some .int, "strandOf", [], none)
abbrev mX1_sumOf : ExM := ("ChairCane$Dinner", cX1_sumOf, 7, some .long, "sumOf", [], none)
abbrev mX2_init : ExM := ("ChairCane$Fault", cX2_init, 1, none, "<init>", [], none)
abbrev mX15_init : ExM := ("ChairCane$Image", cX15_init, 1, none, "<init>", [], none)
abbrev mX12_init : ExM := ("ChairCane$Not", cX12_init, 2, none, "<init>", [], none)
abbrev mX12_is : ExM := ("ChairCane$Not", cX12_is, 2, some .boolean, "is", [], none)
abbrev mX8_init : ExM := ("ChairCane$Number", cX8_init, 3, none, "<init>", [], none)
abbrev mX8_of : ExM := ("ChairCane$Number", cX8_of, 2, some .long, "of", [], none)
abbrev mX10_init : ExM := ("ChairCane$Pair", cX10_init, 4, none, "<init>", [], none)
abbrev mX10_of : ExM := ("ChairCane$Pair", cX10_of, 6, some .long, "of", [], none)
abbrev mX5_init : ExM := ("ChairCane$Rule", cX5_init, 1, none, "<init>", [], none)
abbrev mX5_summed : ExM := ("ChairCane$Rule", cX5_summed, 3, some .long, "summed", [], none)
abbrev mX11_init : ExM := ("ChairCane$Test", cX11_init, 1, none, "<init>", [], none)
abbrev mX4_init : ExM := ("ChairCane$Text", cX4_init, 2, none, "<init>", [], none)
abbrev mX4_canBe : ExM := ("ChairCane$Text", cX4_canBe, 2, some .boolean, "canBe", [], none)
abbrev mX4_chairHere : ExM := ("ChairCane$Text", cX4_chairHere, 2, none, "chairHere", [], none)
abbrev mX4_clauseHere : ExM := ("ChairCane$Text", cX4_clauseHere, 2, some (.object "ChairCane$Clause"), "clauseHere", [], none)
abbrev mX4_closes : ExM := ("ChairCane$Text", cX4_closes, 1, none, "closes", [], none)
abbrev mX4_demand : ExM := ("ChairCane$Text", cX4_demand, 4, none, "demand", [], none)
abbrev mX4_fact : ExM := ("ChairCane$Text", cX4_fact, 6, some (.object "ChairCane$Test"), "fact", [], none)
abbrev mX4_hallTold : ExM := ("ChairCane$Text", cX4_hallTold, 3, some (.object "ChairCane$Dinner"), "hallTold", [], none)
abbrev mX4_isDigit : ExM := ("ChairCane$Text", cX4_isDigit, 2, some .boolean, "isDigit", [], none)
abbrev mX4_isWord : ExM := ("ChairCane$Text", cX4_isWord, 5, some .boolean, "isWord", [], none)
abbrev mX4_letters : ExM := ("ChairCane$Text", cX4_letters, 2, some .int, "letters", [], none)
abbrev mX4_line : ExM := ("ChairCane$Text", cX4_line, 2, none, "line", [], none)
abbrev mX4_makes : ExM := ("ChairCane$Text", cX4_makes, 2, none, "makes", [], none)
abbrev mX4_number : ExM := ("ChairCane$Text", cX4_number, 5, some .int, "number", [], none)
abbrev mX4_oneOf : ExM := ("ChairCane$Text", cX4_oneOf, 3, some .int, "oneOf", [], none)
abbrev mX4_opens : ExM := ("ChairCane$Text", cX4_opens, 2, none, "opens", [], none)
abbrev mX4_parted : ExM := ("ChairCane$Text", cX4_parted, 2, some (.object "ChairCane$Test"), "parted", [], none)
abbrev mX4_ruleTold : ExM := ("ChairCane$Text", cX4_ruleTold, 3, some (.object "ChairCane$Rule"), "ruleTold", [], none)
abbrev mX4_see : ExM := ("ChairCane$Text", cX4_see, 1, some .int, "see", [], none)
abbrev mX4_sign : ExM := ("ChairCane$Text", cX4_sign, 3, some .int, "sign", [], none)
abbrev mX4_sitterHere : ExM := ("ChairCane$Text", cX4_sitterHere, 4, none, "sitterHere", [], none)
abbrev mX4_strandHere : ExM := ("ChairCane$Text", cX4_strandHere, 1, none, "strandHere", [], none)
abbrev mX4_sum : ExM := ("ChairCane$Text", cX4_sum, 3, some (.object "ChairCane$Value"), "sum", [], none)
abbrev mX4_takesSign : ExM := ("ChairCane$Text", cX4_takesSign, 2, some .boolean, "takesSign", [], none)
abbrev mX4_takesWord : ExM := ("ChairCane$Text", cX4_takesWord, 2, some .boolean, "takesWord", [], none)
abbrev mX4_term : ExM := ("ChairCane$Text", cX4_term, 3, some (.object "ChairCane$Value"), "term", [], none)
abbrev mX4_tested : ExM := ("ChairCane$Text", cX4_tested, 2, some (.object "ChairCane$Test"), "tested", [], none)
abbrev mX4_value : ExM := ("ChairCane$Text", cX4_value, 3, some (.object "ChairCane$Value"), "value", [], none)
abbrev mX7_init : ExM := ("ChairCane$Value", cX7_init, 1, none, "<init>", [], none)
abbrev mX9_init : ExM := ("ChairCane$Word", cX9_init, 2, none, "<init>", [], none)
abbrev mX9_of : ExM := ("ChairCane$Word", cX9_of, 2, some .long, "of", [], none)
abbrev mX3_init : ExM := ("ChairCaneModel", cX3_init, 1, none, "<init>", [], none)
abbrev mX3_ahead : ExM := ("ChairCaneModel", cX3_ahead, 5, some .int, "ahead", [], none)
abbrev mX3_allGive : ExM := ("ChairCaneModel", cX3_allGive, 3, some .int, "allGive", [], none)
abbrev mX3_amount : ExM := ("ChairCaneModel", cX3_amount, 5, some .int, "amount", [], none)
abbrev mX3_answer : ExM := ("ChairCaneModel", cX3_answer, 8, some .long, "answer", [], none)
abbrev mX3_answers : ExM := ("ChairCaneModel", cX3_answers, 2, none, "answers", [], none)
abbrev mX3_back : ExM := ("ChairCaneModel", cX3_back, 2, some .int, "back", [], none)
abbrev mX3_begins : ExM := ("ChairCaneModel", cX3_begins, 2, none, "begins", [], none)
abbrev mX3_bits : ExM := ("ChairCaneModel", cX3_bits, 3, some .int, "bits", [], none)
abbrev mX3_blanks : ExM := ("ChairCaneModel", cX3_blanks, 1, none, "blanks", [], none)
abbrev mX3_both : ExM := ("ChairCaneModel", cX3_both, 5, some .long, "both", [], none)
abbrev mX3_carriesAll : ExM := ("ChairCaneModel", cX3_carriesAll, 3, none, "carriesAll", [], none)
abbrev mX3_carryRow : ExM := ("ChairCaneModel", cX3_carryRow, 3, none, "carryRow", [], none)
abbrev mX3_chair : ExM := ("ChairCaneModel", cX3_chair, 4, some .int, "chair", [], none)
abbrev mX3_choice : ExM := ("ChairCaneModel", cX3_choice, 3, some .int, "choice", [], none)
abbrev mX3_compared : ExM := ("ChairCaneModel", cX3_compared, 3, none, "compared", [], none)
abbrev mX3_copies : ExM := ("ChairCaneModel", cX3_copies, 3, none, "copies", [], none)
abbrev mX3_couldRule : ExM := ("ChairCaneModel", cX3_couldRule, 2, some .boolean, "couldRule", [], none)
abbrev mX3_count : ExM := ("ChairCaneModel", cX3_count, 2, some .int, "count", [], none)
abbrev mX3_digits : ExM := ("ChairCaneModel", cX3_digits, 4, some .int, "digits", [], none)
abbrev mX3_doNotesFit : ExM := ("ChairCaneModel", cX3_doNotesFit, 2, some .boolean, "doNotesFit", [], none)
abbrev mX3_draws : ExM := ("ChairCaneModel", cX3_draws, 2, some .int, "draws", [], none)
abbrev mX3_dropsOf : ExM := ("ChairCaneModel", cX3_dropsOf, 4, some .int, "dropsOf", [], none)
abbrev mX3_earns : ExM := ("ChairCaneModel", cX3_earns, 2, some .int, "earns", [], none)
abbrev mX3_ease : ExM := ("ChairCaneModel", cX3_ease, 6, some .int, "ease", [], none)
abbrev mX3_end : ExM := ("ChairCaneModel", cX3_end, 2, some .int, "end", [], none)
abbrev mX3_entry : ExM := ("ChairCaneModel", cX3_entry, 3, none, "entry", [], none)
abbrev mX3_fact : ExM := ("ChairCaneModel", cX3_fact, 1, some .boolean, "fact", [], none)
abbrev mX3_fails : ExM := ("ChairCaneModel", cX3_fails, 3, none, "fails", [], none)
abbrev mX3_falls : ExM := ("ChairCaneModel", cX3_falls, 5, some .int, "falls", [], none)
abbrev mX3_feed : ExM := ("ChairCaneModel", cX3_feed, 6, some .int, "feed", [], none)
abbrev mX3_felled : ExM := ("ChairCaneModel", cX3_felled, 2, some .int, "felled", [], none)
abbrev mX3_felledBy : ExM := ("ChairCaneModel", cX3_felledBy, 3, some .int, "felledBy", [], none)
abbrev mX3_force : ExM := ("ChairCaneModel", cX3_force, 3, some .int, "force", [], none)
abbrev mX3_gives : ExM := ("ChairCaneModel", cX3_gives, 4, some .int, "gives", [], none)
abbrev mX3_givesNow : ExM := ("ChairCaneModel", cX3_givesNow, 2, some .int, "givesNow", [], none)
abbrev mX3_goFor : ExM := ("ChairCaneModel", cX3_goFor, 3, none, "goFor", [], none)
abbrev mX3_goes : ExM := ("ChairCaneModel", cX3_goes, 2, some .int, "goes", [], none)
abbrev mX3_goesOn : ExM := ("ChairCaneModel", cX3_goesOn, 2, some .boolean, "goesOn", [], none)
abbrev mX3_hall : ExM := ("ChairCaneModel", cX3_hall, 2, some .int, "hall", [], none)
abbrev mX3_hallClause : ExM := ("ChairCaneModel", cX3_hallClause, 4, none, "hallClause", [], none)
abbrev mX3_hallPart : ExM := ("ChairCaneModel", cX3_hallPart, 3, none, "hallPart", [], none)
abbrev mX3_hallWord : ExM := ("ChairCaneModel", cX3_hallWord, 1, some (.object "java/lang/String"), "hallWord", [], none)
abbrev mX3_has : ExM := ("ChairCaneModel", cX3_has, 2, some .boolean, "has", [], none)
abbrev mX3_heavy : ExM := ("ChairCaneModel", cX3_heavy, 8, some .int, "heavy", [], none)
abbrev mX3_help : ExM := ("ChairCaneModel", cX3_help, 2, some .int, "help", [], none)
abbrev mX3_image : ExM := ("ChairCaneModel", cX3_image, 2, some .int, "image", [], none)
abbrev mX3_in : ExM := ("ChairCaneModel", cX3_in, 6, some .boolean, "in", [], none)
abbrev mX3_isAlike : ExM := ("ChairCaneModel", cX3_isAlike, 4, some .boolean, "isAlike", [], none)
abbrev mX3_isChair : ExM := ("ChairCaneModel", cX3_isChair, 2, some .boolean, "isChair", [], none)
abbrev mX3_isCounted : ExM := ("ChairCaneModel", cX3_isCounted, 2, none, "isCounted", [], none)
abbrev mX3_isDigit : ExM := ("ChairCaneModel", cX3_isDigit, 1, some .boolean, "isDigit", [], none)
abbrev mX3_isFull : ExM := ("ChairCaneModel", cX3_isFull, 3, some .boolean, "isFull", [], none)
abbrev mX3_isHall : ExM := ("ChairCaneModel", cX3_isHall, 1, some .boolean, "isHall", [], none)
abbrev mX3_isSitter : ExM := ("ChairCaneModel", cX3_isSitter, 2, some .boolean, "isSitter", [], none)
abbrev mX3_isSo : ExM := ("ChairCaneModel", cX3_isSo, 3, some .boolean, "isSo", [], none)
abbrev mX3_isStrand : ExM := ("ChairCaneModel", cX3_isStrand, 2, some .boolean, "isStrand", [], none)
abbrev mX3_keepsAct : ExM := ("ChairCaneModel", cX3_keepsAct, 2, none, "keepsAct", [], none)
abbrev mX3_keepsAll : ExM := ("ChairCaneModel", cX3_keepsAll, 1, none, "keepsAll", [], none)
abbrev mX3_laysAll : ExM := ("ChairCaneModel", cX3_laysAll, 3, none, "laysAll", [], none)
abbrev mX3_laysBack : ExM := ("ChairCaneModel", cX3_laysBack, 1, none, "laysBack", [], none)
abbrev mX3_laysWays : ExM := ("ChairCaneModel", cX3_laysWays, 6, none, "laysWays", [], none)
abbrev mX3_let : ExM := ("ChairCaneModel", cX3_let, 3, some .int, "let", [], none)
abbrev mX3_look : ExM := ("ChairCaneModel", cX3_look, 6, some .int, "look", [], none)
abbrev mX3_minute : ExM := ("ChairCaneModel", cX3_minute, 1, some .int, "minute", [], none)
abbrev mX3_most : ExM := ("ChairCaneModel", cX3_most, 6, some .int, "most", [], none)
abbrev mX3_mostAlike : ExM := ("ChairCaneModel", cX3_mostAlike, 7, some .int, "mostAlike", [], none)
abbrev mX3_moves : ExM := ("ChairCaneModel", cX3_moves, 3, some .int, "moves", [], none)
abbrev mX3_movesAll : ExM := ("ChairCaneModel", cX3_movesAll, 3, none, "movesAll", [], none)
abbrev mX3_movesRow : ExM := ("ChairCaneModel", cX3_movesRow, 3, none, "movesRow", [], none)
abbrev mX3_nextOf : ExM := ("ChairCaneModel", cX3_nextOf, 4, some .int, "nextOf", [], none)
abbrev mX3_note : ExM := ("ChairCaneModel", cX3_note, 5, some .int, "note", [], none)
abbrev mX3_onStrand : ExM := ("ChairCaneModel", cX3_onStrand, 5, some .int, "onStrand", [], none)
abbrev mX3_opens : ExM := ("ChairCaneModel", cX3_opens, 2, none, "opens", [], none)
abbrev mX3_pence : ExM := ("ChairCaneModel", cX3_pence, 10, some .int, "pence", [], none)
abbrev mX3_put : ExM := ("ChairCaneModel", cX3_put, 3, none, "put", [], none)
abbrev mX3_readsAll : ExM := ("ChairCaneModel", cX3_readsAll, 3, none, "readsAll", [], none)
abbrev mX3_rests : ExM := ("ChairCaneModel", cX3_rests, 8, some .int, "rests", [], none)
abbrev mX3_ring : ExM := ("ChairCaneModel", cX3_ring, 4, some .int, "ring", [], none)
abbrev mX3_rise : ExM := ("ChairCaneModel", cX3_rise, 2, some .int, "rise", [], none)
abbrev mX3_rule : ExM := ("ChairCaneModel", cX3_rule, 3, some .int, "rule", [], none)
abbrev mX3_ruleClause : ExM := ("ChairCaneModel", cX3_ruleClause, 4, none, "ruleClause", [], none)
abbrev mX3_ruled : ExM := ("ChairCaneModel", cX3_ruled, 5, some .int, "ruled", [], none)
abbrev mX3_seed : ExM := ("ChairCaneModel", cX3_seed, 3, some .int, "seed", [], none)
abbrev mX3_settles : ExM := ("ChairCaneModel", cX3_settles, 4, some .int, "settles", [], none)
abbrev mX3_sign : ExM := ("ChairCaneModel", cX3_sign, 1, some .int, "sign", [], none)
abbrev mX3_sit : ExM := ("ChairCaneModel", cX3_sit, 2, some .int, "sit", [], none)
abbrev mX3_sitter : ExM := ("ChairCaneModel", cX3_sitter, 3, some .int, "sitter", [], none)
abbrev mX3_sitterOf : ExM := ("ChairCaneModel", cX3_sitterOf, 3, some .int, "sitterOf", [], none)
abbrev mX3_sitterPart : ExM := ("ChairCaneModel", cX3_sitterPart, 5, none, "sitterPart", [], none)
abbrev mX3_starts : ExM := ("ChairCaneModel", cX3_starts, 1, none, "starts", [], none)
abbrev mX3_stood : ExM := ("ChairCaneModel", cX3_stood, 5, some .boolean, "stood", [], none)
abbrev mX3_strand : ExM := ("ChairCaneModel", cX3_strand, 2, some .int, "strand", [], none)
abbrev mX3_strung : ExM := ("ChairCaneModel", cX3_strung, 4, some .int, "strung", [], none)
abbrev mX3_sum : ExM := ("ChairCaneModel", cX3_sum, 2, none, "sum", [], none)
abbrev mX3_takes : ExM := ("ChairCaneModel", cX3_takes, 3, some .boolean, "takes", [], none)
abbrev mX3_tall : ExM := ("ChairCaneModel", cX3_tall, 5, some .int, "tall", [], none)
abbrev mX3_term : ExM := ("ChairCaneModel", cX3_term, 2, none, "term", [], none)
abbrev mX3_test : ExM := ("ChairCaneModel", cX3_test, 5, none, "test", [], none)
abbrev mX3_those : ExM := ("ChairCaneModel", cX3_those, 4, some .int, "those", [], none)
abbrev mX3_toastOf : ExM := ("ChairCaneModel", cX3_toastOf, 2, none, "toastOf", [], none)
abbrev mX3_toasts : ExM := ("ChairCaneModel", cX3_toasts, 10, some .int, "toasts", [], none)
abbrev mX3_top : ExM := ("ChairCaneModel", cX3_top, 1, some .int, "top", [], none)
abbrev mX3_truth : ExM := ("ChairCaneModel", cX3_truth, 1, some .long, "truth", [], none)
abbrev mX3_undo : ExM := ("ChairCaneModel", cX3_undo, 1, some .int, "undo", [], none)
abbrev mX3_value : ExM := ("ChairCaneModel", cX3_value, 3, none, "value", [], none)
abbrev mX3_wanted : ExM := ("ChairCaneModel", cX3_wanted, 3, some .long, "wanted", [], none)
abbrev mX3_way : ExM := ("ChairCaneModel", cX3_way, 5, some .int, "way", [], none)
abbrev mX3_weightOf : ExM := ("ChairCaneModel", cX3_weightOf, 4, some .int, "weightOf", [], none)
abbrev mX3_wordOf : ExM := ("ChairCaneModel", cX3_wordOf, 1, some (.object "java/lang/String"), "wordOf", [], none)
abbrev mJ1_init : ExM := ("java/lang/Exception", cJ1_init, 5, none, "<init>", [], none)
abbrev mJ7_bitCount : ExM := ("java/lang/Integer", cJ7_bitCount, 1, some .int, "bitCount", [], none)
abbrev mJ8_max : ExM := ("java/lang/Math", cJ8_max, 2, some .int, "max", [], none)
abbrev mJ9_init : ExM := ("java/lang/Object", cJ9_init, 1, none, "<init>", [], none)
abbrev mJ2_init : ExM := ("java/lang/RuntimeException", cJ2_init, 5, none, "<init>", [], none)
abbrev mJ3_charAt : ExM := ("java/lang/String", cJ3_charAt, 2, some .char, "charAt", [], none)
abbrev mJ3_checkIndex : ExM := ("java/lang/String", cJ3_checkIndex, 2, none, "checkIndex", [], none)
abbrev mJ3_coder : ExM := ("java/lang/String", cJ3_coder, 1, some .byte, "coder", [], none)
abbrev mJ3_isLatin1 : ExM := ("java/lang/String", cJ3_isLatin1, 1, some .boolean, "isLatin1", [], none)
abbrev mJ3_length : ExM := ("java/lang/String", cJ3_length, 1, some .int, "length", [], none)
abbrev mJ4_charAt : ExM := ("java/lang/StringLatin1", cJ4_charAt, 2, some .char, "charAt", [], none)
abbrev mJ6_charAt : ExM := ("java/lang/StringUTF16", cJ6_charAt, 2, some .char, "charAt", [], none)
abbrev mJ6_checkIndex : ExM := ("java/lang/StringUTF16", cJ6_checkIndex, 2, none, "checkIndex", [], none)
abbrev mJ6_getChar : ExM := ("java/lang/StringUTF16", cJ6_getChar, 2, some .char, "getChar", [], none)
abbrev mJ6_length : ExM := ("java/lang/StringUTF16", cJ6_length, 1, some .int, "length", [], none)
abbrev mJ0_init : ExM := ("java/lang/Throwable", cJ0_init, 1, none, "<init>", [], none)
abbrev mJ0_init_2 : ExM := ("java/lang/Throwable", cJ0_init_2, 5, none, "<init>", [], none)
abbrev mJ5_checkIndex : ExM := ("jdk/internal/util/Preconditions", cJ5_checkIndex, 3, some .int, "checkIndex", [], none)
