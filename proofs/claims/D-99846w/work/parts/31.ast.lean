set_option maxRecDepth 100000
set_option maxRecDepth 100000 in
set_option maxHeartbeats 4000000 in
theorem ct_of8 {l : Launch} {sh : ExSh} {I : ExI} {L : ExL} {R : ExR} (n a wd : Nat) (v : Int32) (es : List Ent) (h0 : sh[a]? = some (7 + 8, 1)) (hv : L a 0 = v.toInt64) (he : es = [(0, v)]) : Ct l (ws_ yX8_of cX8_of 2 (some .long)) yX8_of (n + 1) 0 0 [(.ref a), (.ref wd)] sh I L R (kEq (some (some (.long (valE (L wd) es)))) sh (I) L R) := by
  subst he
  refine Ct.of (own := "ChairCane$Number") (nm := "of") rfl rfl rfl (Nat.le_of_ble_eq_true rfl) ?_
  obtain ⟨K, hK⟩ : ∃ K : ExK, K = kEq (some (some (.long (valE (L wd) [(0, v)])))) sh (I) L R := ⟨_, rfl⟩
  rw [← hK]
  show Ex l mX8_of (n + 1) K 0 [(0, (.ref a)), (1, (.ref wd))] [] sh I L R 0 0
  refine e_aload_n dX8_of_0 rfl rfl rfl ?_
  refine e_getL dX8_of_1 h0 kg_X8_7 rfl ?_
  exact e_lret dX8_of_4 rfl (by rw [hK]; exact kEq_of (congrArg (fun z => some (some (Value.long z))) (hv)) rfl)
set_option maxRecDepth 100000 in
set_option maxHeartbeats 4000000 in
theorem ct_of9 {l : Launch} {sh : ExSh} {I : ExI} {L : ExL} {R : ExR} (n a wd : Nat) (es : List Ent) (h0 : sh[a]? = some (8 + 8, 1)) (hv : vp_in (I a 0) 11) (he : es = [(1, I a 0)]) (hw : sh[wd]? = some (3, 11)) : Ct l (ws_ yX9_of cX9_of 2 (some .long)) yX9_of (n + 1) 0 0 [(.ref a), (.ref wd)] sh I L R (kEq (some (some (.long (valE (L wd) es)))) sh (I) L R) := by
  subst he
  refine Ct.of (own := "ChairCane$Word") (nm := "of") rfl rfl rfl (Nat.le_of_ble_eq_true rfl) ?_
  obtain ⟨K, hK⟩ : ∃ K : ExK, K = kEq (some (some (.long (valE (L wd) [(1, I a 0)])))) sh (I) L R := ⟨_, rfl⟩
  rw [← hK]
  show Ex l mX9_of (n + 1) K 0 [(0, (.ref a)), (1, (.ref wd))] [] sh I L R 0 0
  refine e_aload_n dX9_of_0 rfl rfl rfl ?_
  refine e_aload_n dX9_of_1 rfl rfl rfl ?_
  refine e_getIv (v := I a 0) dX9_of_2 h0 kg_X9_7 rfl rfl ?_
  refine e_laldv (j := ix (I a 0)) (v := L wd (ix (I a 0))) dX9_of_5 hw hv rfl rfl ?_
  exact e_lret dX9_of_6 rfl (by rw [hK]; exact kEq_of (congrArg (fun z => some (some (Value.long z))) (rfl)) rfl)
set_option maxRecDepth 100000 in
set_option maxHeartbeats 4000000 in
theorem ct_of10 {l : Launch} {sh : ExSh} {I : ExI} {L : ExL} {R : ExR} (n a a1 a2 k wd : Nat) (e1 e2 es : List Ent) (h0 : sh[a]? = some (9 + 8, 3)) (hr1 : R a 0 = .ref a1) (hr2 : R a 1 = .ref a2) (hsg : (I a 2, k) ∈ pairS) (hV1 : isV sh I L R n a1 e1) (hV2 : isV sh I L R n a2 e2) (hval : valE (L wd) es = both2 k (valE (L wd) e1) (valE (L wd) e2)) (hO1 : OfAt l n sh I L R a1 wd e1) (hO2 : OfAt l n sh I L R a2 wd e2) : Ct l (ws_ yX10_of cX10_of 6 (some .long)) yX10_of (n + 1) 0 0 [(.ref a), (.ref wd)] sh I L R (kEq (some (some (.long (valE (L wd) es)))) sh (I) L R) := by
  refine Ct.of (own := "ChairCane$Pair") (nm := "of") rfl rfl rfl (Nat.le_of_ble_eq_true rfl) ?_
  obtain ⟨K, hK⟩ : ∃ K : ExK, K = kEq (some (some (.long (valE (L wd) es)))) sh (I) L R := ⟨_, rfl⟩
  rw [← hK]
  show Ex l mX10_of (n + 1) K 0 [(0, (.ref a)), (1, (.ref wd))] [] sh I L R 0 0
  refine e_aload_n dX10_of_0 rfl rfl rfl ?_
  refine e_getR (v := (.ref a1)) dX10_of_1 h0 kg_X10_7 rfl hr1 ?_
  refine e_aload_n dX10_of_4 rfl rfl rfl ?_
  refine e_callOf dX10_of_5 ku_X10_20_X8 ku_X10_20_X9 ku_X10_20_X10 hV1 hO1 (by omega) (Nat.le_of_ble_eq_true rfl) ?_
  refine e_lstore_n (ls' := [(2, .long (valE (L wd) e1)), (0, (.ref a)), (1, (.ref wd))]) dX10_of_8 rfl (Nat.le_of_ble_eq_true rfl) rfl ?_
  refine e_aload_n dX10_of_9 rfl rfl rfl ?_
  refine e_getR (v := (.ref a2)) dX10_of_10 h0 kg_X10_17 rfl hr2 ?_
  refine e_aload_n dX10_of_13 rfl rfl rfl ?_
  refine e_callOf dX10_of_14 ku_X10_20_X8 ku_X10_20_X9 ku_X10_20_X10 hV2 hO2 (by omega) (Nat.le_of_ble_eq_true rfl) ?_
  refine e_lstore (ls' := [(4, .long (valE (L wd) e2)), (2, .long (valE (L wd) e1)), (0, (.ref a)), (1, (.ref wd))]) dX10_of_17 (Nat.le_of_ble_eq_true rfl) rfl ?_
  simp only [pairS, List.mem_cons, Prod.mk.injEq, List.not_mem_nil, or_false] at hsg
  rcases hsg with ⟨hsv, rfl⟩ | ⟨hsv, rfl⟩ | ⟨hsv, rfl⟩ | ⟨hsv, rfl⟩ | ⟨hsv, rfl⟩
  · refine e_aload_n dX10_of_19 rfl rfl rfl ?_
    refine e_getIv (v := 43) dX10_of_20 h0 kg_X10_13 rfl hsv ?_
    refine e_tableIn (off := 49) (tgt := 72) dX10_of_23 (by decide) (by decide) rfl (by decide) ?_
    refine e_lload_n dX10_of_72 rfl rfl ?_
    refine e_lload dX10_of_73 rfl ?_
    refine e_ladd dX10_of_75 ?_
    exact e_lret dX10_of_76 rfl (by rw [hK]; exact kEq_of (congrArg (fun z => some (some (Value.long z))) (by rw [hval]; first | rfl | exact (if_pos c_91).symm | exact (if_neg c_91).symm | exact (if_pos c_107).symm | exact (if_neg c_107).symm)) rfl)
  · refine e_aload_n dX10_of_19 rfl rfl rfl ?_
    refine e_getIv (v := 45) dX10_of_20 h0 kg_X10_13 rfl hsv ?_
    refine e_tableIn (off := 54) (tgt := 77) dX10_of_23 (by decide) (by decide) rfl (by decide) ?_
    refine e_lload_n dX10_of_77 rfl rfl ?_
    refine e_lload dX10_of_78 rfl ?_
    refine e_lsub dX10_of_80 ?_
    exact e_lret dX10_of_81 rfl (by rw [hK]; exact kEq_of (congrArg (fun z => some (some (Value.long z))) (by rw [hval]; first | rfl | exact (if_pos c_91).symm | exact (if_neg c_91).symm | exact (if_pos c_107).symm | exact (if_neg c_107).symm)) rfl)
  · refine e_aload_n dX10_of_19 rfl rfl rfl ?_
    refine e_getIv (v := 42) dX10_of_20 h0 kg_X10_13 rfl hsv ?_
    refine e_tableIn (off := 59) (tgt := 82) dX10_of_23 (by decide) (by decide) rfl (by decide) ?_
    refine e_lload_n dX10_of_82 rfl rfl ?_
    refine e_lload dX10_of_83 rfl ?_
    refine e_lmul dX10_of_85 ?_
    exact e_lret dX10_of_86 rfl (by rw [hK]; exact kEq_of (congrArg (fun z => some (some (Value.long z))) (by rw [hval]; first | rfl | exact (if_pos c_91).symm | exact (if_neg c_91).symm | exact (if_pos c_107).symm | exact (if_neg c_107).symm)) rfl)
  · refine e_aload_n dX10_of_19 rfl rfl rfl ?_
    refine e_getIv (v := 47) dX10_of_20 h0 kg_X10_13 rfl hsv ?_
    refine e_tableOut (tgt := 103) dX10_of_23 (by decide) (by decide) ?_
    refine e_lload dX10_of_103 rfl ?_
    refine e_lconst (v := 0) dX10_of_105 (by decide) ?_
    refine e_lcmp dX10_of_106 ?_
    refine e_if_ne (tgt := 114) dX10_of_107 (by decide) (fun c_107 => ?_) (fun c_107 => ?_)
    · have c_107 := mt lgc_0.mpr c_107
      refine e_lload_n dX10_of_114 rfl rfl ?_
      refine e_lload dX10_of_115 rfl ?_
      refine e_ldiv dX10_of_117 c_107 ?_
      exact e_lret dX10_of_118 rfl (by rw [hK]; exact kEq_of (congrArg (fun z => some (some (Value.long z))) (by rw [hval]; first | rfl | exact (if_pos c_91).symm | exact (if_neg c_91).symm | exact (if_pos c_107).symm | exact (if_neg c_107).symm)) rfl)
    · have c_107 := lgc_0.mp c_107
      refine e_lconst (v := 0) dX10_of_110 (by decide) ?_
      refine e_goto (tgt := 118) dX10_of_111 (by decide) ?_
      exact e_lret dX10_of_118 rfl (by rw [hK]; exact kEq_of (congrArg (fun z => some (some (Value.long z))) (by rw [hval]; first | rfl | exact (if_pos c_91).symm | exact (if_neg c_91).symm | exact (if_pos c_107).symm | exact (if_neg c_107).symm)) rfl)
  · refine e_aload_n dX10_of_19 rfl rfl rfl ?_
    refine e_getIv (v := 37) dX10_of_20 h0 kg_X10_13 rfl hsv ?_
    refine e_tableIn (off := 64) (tgt := 87) dX10_of_23 (by decide) (by decide) rfl (by decide) ?_
    refine e_lload dX10_of_87 rfl ?_
    refine e_lconst (v := 0) dX10_of_89 (by decide) ?_
    refine e_lcmp dX10_of_90 ?_
    refine e_if_ne (tgt := 98) dX10_of_91 (by decide) (fun c_91 => ?_) (fun c_91 => ?_)
    · have c_91 := mt lgc_0.mpr c_91
      refine e_lload_n dX10_of_98 rfl rfl ?_
      refine e_lload dX10_of_99 rfl ?_
      refine e_lrem dX10_of_101 c_91 ?_
      exact e_lret dX10_of_102 rfl (by rw [hK]; exact kEq_of (congrArg (fun z => some (some (Value.long z))) (by rw [hval]; first | rfl | exact (if_pos c_91).symm | exact (if_neg c_91).symm | exact (if_pos c_107).symm | exact (if_neg c_107).symm)) rfl)
    · have c_91 := lgc_0.mp c_91
      refine e_lconst (v := 0) dX10_of_94 (by decide) ?_
      refine e_goto (tgt := 102) dX10_of_95 (by decide) ?_
      exact e_lret dX10_of_102 rfl (by rw [hK]; exact kEq_of (congrArg (fun z => some (some (Value.long z))) (by rw [hval]; first | rfl | exact (if_pos c_91).symm | exact (if_neg c_91).symm | exact (if_pos c_107).symm | exact (if_neg c_107).symm)) rfl)
set_option maxRecDepth 100000 in
set_option maxHeartbeats 4000000 in
theorem ct_is12 {l : Launch} {sh : ExSh} {I : ExI} {L : ExL} {R : ExR} (n a a1 wd : Nat) (e1 es : List Ent) (h0 : sh[a]? = some (10 + 8, 1)) (hr1 : R a 0 = .ref a1) (hT1 : isT sh I L R n a1 e1) (h01 : valE (L wd) e1 = 0 ∨ valE (L wd) e1 = 1) (hval : valE (L wd) es = 1 - valE (L wd) e1) (hO1 : IsAt l n sh I L R a1 wd e1) : Ct l (ws_ yX12_is cX12_is 2 (some .boolean)) yX12_is (n + 1) 0 0 [(.ref a), (.ref wd)] sh I L R (kEq (some (some (.int (bI (valE (L wd) es = 1))))) sh (I) L R) := by
  refine Ct.of (own := "ChairCane$Not") (nm := "is") rfl rfl rfl (Nat.le_of_ble_eq_true rfl) ?_
  obtain ⟨K, hK⟩ : ∃ K : ExK, K = kEq (some (some (.int (bI (valE (L wd) es = 1))))) sh (I) L R := ⟨_, rfl⟩
  rw [← hK]
  show Ex l mX12_is (n + 1) K 0 [(0, (.ref a)), (1, (.ref wd))] [] sh I L R 0 0
  refine e_aload_n dX12_is_0 rfl rfl rfl ?_
  refine e_getR (v := (.ref a1)) dX12_is_1 h0 kg_X12_7 rfl hr1 ?_
  refine e_aload_n dX12_is_4 rfl rfl rfl ?_
  refine e_callIs dX12_is_5 ku_X12_13_X12 ku_X12_13_X13 ku_X12_13_X14 hT1 hO1 (by omega) (Nat.le_of_ble_eq_true rfl) ?_
  refine e_if_ne (tgt := 15) dX12_is_8 (by decide) (fun c_8 => ?_) (fun c_8 => ?_)
  · have c_8 := bI_n.mp c_8
    refine e_iconst (v := 0) dX12_is_15 (by decide) ?_
    exact e_zret dX12_is_16 rfl (by first | exact bI_z | rfl) (by rw [hK]; exact kEq_of (congrArg (fun z => some (some (Value.int z))) (by first | exact (bI_t (by rw [hval]; rcases h01 with h | h <;> first | (rw [h]; decide) | exact absurd h c_8)).symm | exact (bI_f (by rw [hval, c_8]; decide)).symm)) rfl)
  · have c_8 := bI_0.mp c_8
    refine e_iconst (v := 1) dX12_is_11 (by decide) ?_
    refine e_goto (tgt := 16) dX12_is_12 (by decide) ?_
    exact e_zret dX12_is_16 rfl (by first | exact bI_z | rfl) (by rw [hK]; exact kEq_of (congrArg (fun z => some (some (Value.int z))) (by first | exact (bI_t (by rw [hval]; rcases h01 with h | h <;> first | (rw [h]; decide) | exact absurd h c_8)).symm | exact (bI_f (by rw [hval, c_8]; decide)).symm)) rfl)
set_option maxRecDepth 100000 in
set_option maxHeartbeats 4000000 in
theorem ct_is13 {l : Launch} {sh : ExSh} {I : ExI} {L : ExL} {R : ExR} (n a a1 a2 k wd : Nat) (e1 e2 es : List Ent) (h0 : sh[a]? = some (11 + 8, 3)) (hr1 : R a 0 = .ref a1) (hr2 : R a 1 = .ref a2) (hsg : (I a 2, k) ∈ cmpS) (hV1 : isV sh I L R n a1 e1) (hV2 : isV sh I L R n a2 e2) (hval : valE (L wd) es = both2 k (valE (L wd) e1) (valE (L wd) e2)) (hO1 : OfAt l n sh I L R a1 wd e1) (hO2 : OfAt l n sh I L R a2 wd e2) : Ct l (ws_ yX13_is cX13_is 6 (some .boolean)) yX13_is (n + 1) 0 0 [(.ref a), (.ref wd)] sh I L R (kEq (some (some (.int (bI (valE (L wd) es = 1))))) sh (I) L R) := by
  refine Ct.of (own := "ChairCane$Compare") (nm := "is") rfl rfl rfl (Nat.le_of_ble_eq_true rfl) ?_
  obtain ⟨K, hK⟩ : ∃ K : ExK, K = kEq (some (some (.int (bI (valE (L wd) es = 1))))) sh (I) L R := ⟨_, rfl⟩
  rw [← hK]
  show Ex l mX13_is (n + 1) K 0 [(0, (.ref a)), (1, (.ref wd))] [] sh I L R 0 0
  refine e_aload_n dX13_is_0 rfl rfl rfl ?_
  refine e_getR (v := (.ref a1)) dX13_is_1 h0 kg_X13_7 rfl hr1 ?_
  refine e_aload_n dX13_is_4 rfl rfl rfl ?_
  refine e_callOf dX13_is_5 ku_X13_20_X8 ku_X13_20_X9 ku_X13_20_X10 hV1 hO1 (by omega) (Nat.le_of_ble_eq_true rfl) ?_
  refine e_lstore_n (ls' := [(2, .long (valE (L wd) e1)), (0, (.ref a)), (1, (.ref wd))]) dX13_is_8 rfl (Nat.le_of_ble_eq_true rfl) rfl ?_
  refine e_aload_n dX13_is_9 rfl rfl rfl ?_
  refine e_getR (v := (.ref a2)) dX13_is_10 h0 kg_X13_17 rfl hr2 ?_
  refine e_aload_n dX13_is_13 rfl rfl rfl ?_
  refine e_callOf dX13_is_14 ku_X13_20_X8 ku_X13_20_X9 ku_X13_20_X10 hV2 hO2 (by omega) (Nat.le_of_ble_eq_true rfl) ?_
  refine e_lstore (ls' := [(4, .long (valE (L wd) e2)), (2, .long (valE (L wd) e1)), (0, (.ref a)), (1, (.ref wd))]) dX13_is_17 (Nat.le_of_ble_eq_true rfl) rfl ?_
  simp only [cmpS, List.mem_cons, Prod.mk.injEq, List.not_mem_nil, or_false] at hsg
  rcases hsg with ⟨hsv, rfl⟩ | ⟨hsv, rfl⟩ | ⟨hsv, rfl⟩ | ⟨hsv, rfl⟩ | ⟨hsv, rfl⟩
  · refine e_aload_n dX13_is_19 rfl rfl rfl ?_
    refine e_getIv (v := 0) dX13_is_20 h0 kg_X13_13 rfl hsv ?_
    refine e_tableIn (off := 29) (tgt := 52) dX13_is_23 (by decide) (by decide) rfl (by decide) ?_
    refine e_lload_n dX13_is_52 rfl rfl ?_
    refine e_lload dX13_is_53 rfl ?_
    refine e_lcmp dX13_is_55 ?_
    refine e_if_ge (tgt := 63) dX13_is_56 (by decide) (fun c_56 => ?_) (fun c_56 => ?_)
    · have c_56 := Int64.not_lt.mpr (lgc_ge.mp c_56)
      refine e_iconst (v := 0) dX13_is_63 (by decide) ?_
      exact e_zret dX13_is_64 rfl (by first | exact bI_z | rfl) (by rw [hK]; exact kEq_of (congrArg (fun z => some (some (Value.int z))) (by first | exact (bI_t (by rw [hval]; exact tru_1.mpr c_56)).symm | exact (bI_f (by rw [hval]; exact mt tru_1.mp c_56)).symm | exact (bI_t (by rw [hval]; exact tru_1.mpr c_69)).symm | exact (bI_f (by rw [hval]; exact mt tru_1.mp c_69)).symm | exact (bI_t (by rw [hval]; exact tru_1.mpr c_82)).symm | exact (bI_f (by rw [hval]; exact mt tru_1.mp c_82)).symm | exact (bI_t (by rw [hval]; exact tru_1.mpr c_95)).symm | exact (bI_f (by rw [hval]; exact mt tru_1.mp c_95)).symm | exact (bI_t (by rw [hval]; exact tru_1.mpr c_108)).symm | exact (bI_f (by rw [hval]; exact mt tru_1.mp c_108)).symm)) rfl)
    · have c_56 := Int64.not_le.mp (mt lgc_ge.mpr c_56)
      refine e_iconst (v := 1) dX13_is_59 (by decide) ?_
      refine e_goto (tgt := 64) dX13_is_60 (by decide) ?_
      exact e_zret dX13_is_64 rfl (by first | exact bI_z | rfl) (by rw [hK]; exact kEq_of (congrArg (fun z => some (some (Value.int z))) (by first | exact (bI_t (by rw [hval]; exact tru_1.mpr c_56)).symm | exact (bI_f (by rw [hval]; exact mt tru_1.mp c_56)).symm | exact (bI_t (by rw [hval]; exact tru_1.mpr c_69)).symm | exact (bI_f (by rw [hval]; exact mt tru_1.mp c_69)).symm | exact (bI_t (by rw [hval]; exact tru_1.mpr c_82)).symm | exact (bI_f (by rw [hval]; exact mt tru_1.mp c_82)).symm | exact (bI_t (by rw [hval]; exact tru_1.mpr c_95)).symm | exact (bI_f (by rw [hval]; exact mt tru_1.mp c_95)).symm | exact (bI_t (by rw [hval]; exact tru_1.mpr c_108)).symm | exact (bI_f (by rw [hval]; exact mt tru_1.mp c_108)).symm)) rfl)
  · refine e_aload_n dX13_is_19 rfl rfl rfl ?_
    refine e_getIv (v := 1) dX13_is_20 h0 kg_X13_13 rfl hsv ?_
    refine e_tableIn (off := 42) (tgt := 65) dX13_is_23 (by decide) (by decide) rfl (by decide) ?_
    refine e_lload_n dX13_is_65 rfl rfl ?_
    refine e_lload dX13_is_66 rfl ?_
    refine e_lcmp dX13_is_68 ?_
    refine e_if_gt (tgt := 76) dX13_is_69 (by decide) (fun c_69 => ?_) (fun c_69 => ?_)
    · have c_69 := Int64.not_le.mpr (lgc_gt.mp c_69)
      refine e_iconst (v := 0) dX13_is_76 (by decide) ?_
      exact e_zret dX13_is_77 rfl (by first | exact bI_z | rfl) (by rw [hK]; exact kEq_of (congrArg (fun z => some (some (Value.int z))) (by first | exact (bI_t (by rw [hval]; exact tru_1.mpr c_56)).symm | exact (bI_f (by rw [hval]; exact mt tru_1.mp c_56)).symm | exact (bI_t (by rw [hval]; exact tru_1.mpr c_69)).symm | exact (bI_f (by rw [hval]; exact mt tru_1.mp c_69)).symm | exact (bI_t (by rw [hval]; exact tru_1.mpr c_82)).symm | exact (bI_f (by rw [hval]; exact mt tru_1.mp c_82)).symm | exact (bI_t (by rw [hval]; exact tru_1.mpr c_95)).symm | exact (bI_f (by rw [hval]; exact mt tru_1.mp c_95)).symm | exact (bI_t (by rw [hval]; exact tru_1.mpr c_108)).symm | exact (bI_f (by rw [hval]; exact mt tru_1.mp c_108)).symm)) rfl)
    · have c_69 := Int64.not_lt.mp (mt lgc_gt.mpr c_69)
      refine e_iconst (v := 1) dX13_is_72 (by decide) ?_
      refine e_goto (tgt := 77) dX13_is_73 (by decide) ?_
      exact e_zret dX13_is_77 rfl (by first | exact bI_z | rfl) (by rw [hK]; exact kEq_of (congrArg (fun z => some (some (Value.int z))) (by first | exact (bI_t (by rw [hval]; exact tru_1.mpr c_56)).symm | exact (bI_f (by rw [hval]; exact mt tru_1.mp c_56)).symm | exact (bI_t (by rw [hval]; exact tru_1.mpr c_69)).symm | exact (bI_f (by rw [hval]; exact mt tru_1.mp c_69)).symm | exact (bI_t (by rw [hval]; exact tru_1.mpr c_82)).symm | exact (bI_f (by rw [hval]; exact mt tru_1.mp c_82)).symm | exact (bI_t (by rw [hval]; exact tru_1.mpr c_95)).symm | exact (bI_f (by rw [hval]; exact mt tru_1.mp c_95)).symm | exact (bI_t (by rw [hval]; exact tru_1.mpr c_108)).symm | exact (bI_f (by rw [hval]; exact mt tru_1.mp c_108)).symm)) rfl)
  · refine e_aload_n dX13_is_19 rfl rfl rfl ?_
    refine e_getIv (v := 2) dX13_is_20 h0 kg_X13_13 rfl hsv ?_
    refine e_tableIn (off := 55) (tgt := 78) dX13_is_23 (by decide) (by decide) rfl (by decide) ?_
    refine e_lload_n dX13_is_78 rfl rfl ?_
    refine e_lload dX13_is_79 rfl ?_
    refine e_lcmp dX13_is_81 ?_
    refine e_if_ne (tgt := 89) dX13_is_82 (by decide) (fun c_82 => ?_) (fun c_82 => ?_)
    · have c_82 := mt lgc_0.mpr c_82
      refine e_iconst (v := 0) dX13_is_89 (by decide) ?_
      exact e_zret dX13_is_90 rfl (by first | exact bI_z | rfl) (by rw [hK]; exact kEq_of (congrArg (fun z => some (some (Value.int z))) (by first | exact (bI_t (by rw [hval]; exact tru_1.mpr c_56)).symm | exact (bI_f (by rw [hval]; exact mt tru_1.mp c_56)).symm | exact (bI_t (by rw [hval]; exact tru_1.mpr c_69)).symm | exact (bI_f (by rw [hval]; exact mt tru_1.mp c_69)).symm | exact (bI_t (by rw [hval]; exact tru_1.mpr c_82)).symm | exact (bI_f (by rw [hval]; exact mt tru_1.mp c_82)).symm | exact (bI_t (by rw [hval]; exact tru_1.mpr c_95)).symm | exact (bI_f (by rw [hval]; exact mt tru_1.mp c_95)).symm | exact (bI_t (by rw [hval]; exact tru_1.mpr c_108)).symm | exact (bI_f (by rw [hval]; exact mt tru_1.mp c_108)).symm)) rfl)
    · have c_82 := lgc_0.mp c_82
      refine e_iconst (v := 1) dX13_is_85 (by decide) ?_
      refine e_goto (tgt := 90) dX13_is_86 (by decide) ?_
      exact e_zret dX13_is_90 rfl (by first | exact bI_z | rfl) (by rw [hK]; exact kEq_of (congrArg (fun z => some (some (Value.int z))) (by first | exact (bI_t (by rw [hval]; exact tru_1.mpr c_56)).symm | exact (bI_f (by rw [hval]; exact mt tru_1.mp c_56)).symm | exact (bI_t (by rw [hval]; exact tru_1.mpr c_69)).symm | exact (bI_f (by rw [hval]; exact mt tru_1.mp c_69)).symm | exact (bI_t (by rw [hval]; exact tru_1.mpr c_82)).symm | exact (bI_f (by rw [hval]; exact mt tru_1.mp c_82)).symm | exact (bI_t (by rw [hval]; exact tru_1.mpr c_95)).symm | exact (bI_f (by rw [hval]; exact mt tru_1.mp c_95)).symm | exact (bI_t (by rw [hval]; exact tru_1.mpr c_108)).symm | exact (bI_f (by rw [hval]; exact mt tru_1.mp c_108)).symm)) rfl)
  · refine e_aload_n dX13_is_19 rfl rfl rfl ?_
    refine e_getIv (v := 3) dX13_is_20 h0 kg_X13_13 rfl hsv ?_
    refine e_tableIn (off := 68) (tgt := 91) dX13_is_23 (by decide) (by decide) rfl (by decide) ?_
    refine e_lload_n dX13_is_91 rfl rfl ?_
    refine e_lload dX13_is_92 rfl ?_
    refine e_lcmp dX13_is_94 ?_
    refine e_if_lt (tgt := 102) dX13_is_95 (by decide) (fun c_95 => ?_) (fun c_95 => ?_)
    · have c_95 := Int64.not_le.mpr (lgc_lt.mp c_95)
      refine e_iconst (v := 0) dX13_is_102 (by decide) ?_
      exact e_zret dX13_is_103 rfl (by first | exact bI_z | rfl) (by rw [hK]; exact kEq_of (congrArg (fun z => some (some (Value.int z))) (by first | exact (bI_t (by rw [hval]; exact tru_1.mpr c_56)).symm | exact (bI_f (by rw [hval]; exact mt tru_1.mp c_56)).symm | exact (bI_t (by rw [hval]; exact tru_1.mpr c_69)).symm | exact (bI_f (by rw [hval]; exact mt tru_1.mp c_69)).symm | exact (bI_t (by rw [hval]; exact tru_1.mpr c_82)).symm | exact (bI_f (by rw [hval]; exact mt tru_1.mp c_82)).symm | exact (bI_t (by rw [hval]; exact tru_1.mpr c_95)).symm | exact (bI_f (by rw [hval]; exact mt tru_1.mp c_95)).symm | exact (bI_t (by rw [hval]; exact tru_1.mpr c_108)).symm | exact (bI_f (by rw [hval]; exact mt tru_1.mp c_108)).symm)) rfl)
    · have c_95 := Int64.not_lt.mp (mt lgc_lt.mpr c_95)
      refine e_iconst (v := 1) dX13_is_98 (by decide) ?_
      refine e_goto (tgt := 103) dX13_is_99 (by decide) ?_
      exact e_zret dX13_is_103 rfl (by first | exact bI_z | rfl) (by rw [hK]; exact kEq_of (congrArg (fun z => some (some (Value.int z))) (by first | exact (bI_t (by rw [hval]; exact tru_1.mpr c_56)).symm | exact (bI_f (by rw [hval]; exact mt tru_1.mp c_56)).symm | exact (bI_t (by rw [hval]; exact tru_1.mpr c_69)).symm | exact (bI_f (by rw [hval]; exact mt tru_1.mp c_69)).symm | exact (bI_t (by rw [hval]; exact tru_1.mpr c_82)).symm | exact (bI_f (by rw [hval]; exact mt tru_1.mp c_82)).symm | exact (bI_t (by rw [hval]; exact tru_1.mpr c_95)).symm | exact (bI_f (by rw [hval]; exact mt tru_1.mp c_95)).symm | exact (bI_t (by rw [hval]; exact tru_1.mpr c_108)).symm | exact (bI_f (by rw [hval]; exact mt tru_1.mp c_108)).symm)) rfl)
  · refine e_aload_n dX13_is_19 rfl rfl rfl ?_
    refine e_getIv (v := 4) dX13_is_20 h0 kg_X13_13 rfl hsv ?_
    refine e_tableOut (tgt := 104) dX13_is_23 (by decide) (by decide) ?_
    refine e_lload_n dX13_is_104 rfl rfl ?_
    refine e_lload dX13_is_105 rfl ?_
    refine e_lcmp dX13_is_107 ?_
    refine e_if_le (tgt := 115) dX13_is_108 (by decide) (fun c_108 => ?_) (fun c_108 => ?_)
    · have c_108 := Int64.not_lt.mpr (lgc_le.mp c_108)
      refine e_iconst (v := 0) dX13_is_115 (by decide) ?_
      exact e_zret dX13_is_116 rfl (by first | exact bI_z | rfl) (by rw [hK]; exact kEq_of (congrArg (fun z => some (some (Value.int z))) (by first | exact (bI_t (by rw [hval]; exact tru_1.mpr c_56)).symm | exact (bI_f (by rw [hval]; exact mt tru_1.mp c_56)).symm | exact (bI_t (by rw [hval]; exact tru_1.mpr c_69)).symm | exact (bI_f (by rw [hval]; exact mt tru_1.mp c_69)).symm | exact (bI_t (by rw [hval]; exact tru_1.mpr c_82)).symm | exact (bI_f (by rw [hval]; exact mt tru_1.mp c_82)).symm | exact (bI_t (by rw [hval]; exact tru_1.mpr c_95)).symm | exact (bI_f (by rw [hval]; exact mt tru_1.mp c_95)).symm | exact (bI_t (by rw [hval]; exact tru_1.mpr c_108)).symm | exact (bI_f (by rw [hval]; exact mt tru_1.mp c_108)).symm)) rfl)
    · have c_108 := Int64.not_le.mp (mt lgc_le.mpr c_108)
      refine e_iconst (v := 1) dX13_is_111 (by decide) ?_
      refine e_goto (tgt := 116) dX13_is_112 (by decide) ?_
      exact e_zret dX13_is_116 rfl (by first | exact bI_z | rfl) (by rw [hK]; exact kEq_of (congrArg (fun z => some (some (Value.int z))) (by first | exact (bI_t (by rw [hval]; exact tru_1.mpr c_56)).symm | exact (bI_f (by rw [hval]; exact mt tru_1.mp c_56)).symm | exact (bI_t (by rw [hval]; exact tru_1.mpr c_69)).symm | exact (bI_f (by rw [hval]; exact mt tru_1.mp c_69)).symm | exact (bI_t (by rw [hval]; exact tru_1.mpr c_82)).symm | exact (bI_f (by rw [hval]; exact mt tru_1.mp c_82)).symm | exact (bI_t (by rw [hval]; exact tru_1.mpr c_95)).symm | exact (bI_f (by rw [hval]; exact mt tru_1.mp c_95)).symm | exact (bI_t (by rw [hval]; exact tru_1.mpr c_108)).symm | exact (bI_f (by rw [hval]; exact mt tru_1.mp c_108)).symm)) rfl)
set_option maxRecDepth 100000 in
set_option maxHeartbeats 4000000 in
theorem ct_is14 {l : Launch} {sh : ExSh} {I : ExI} {L : ExL} {R : ExR} (n a a1 a2 wd : Nat) (e1 e2 es : List Ent) (h0 : sh[a]? = some (12 + 8, 3)) (hr1 : R a 0 = .ref a1) (hr2 : R a 1 = .ref a2) (hT1 : isT sh I L R n a1 e1) (hT2 : isT sh I L R n a2 e2) (h01 : valE (L wd) e1 = 0 ∨ valE (L wd) e1 = 1) (h02 : valE (L wd) e2 = 0 ∨ valE (L wd) e2 = 1) (hval : (I a 2 = 1 ∧ valE (L wd) es = both2 10 (valE (L wd) e1) (valE (L wd) e2)) ∨ (I a 2 = 0 ∧ valE (L wd) es = both2 11 (valE (L wd) e1) (valE (L wd) e2))) (hO1 : IsAt l n sh I L R a1 wd e1) (hO2 : IsAt l n sh I L R a2 wd e2) : Ct l (ws_ yX14_is cX14_is 2 (some .boolean)) yX14_is (n + 1) 0 0 [(.ref a), (.ref wd)] sh I L R (kEq (some (some (.int (bI (valE (L wd) es = 1))))) sh (I) L R) := by
  refine Ct.of (own := "ChairCane$Both") (nm := "is") rfl rfl rfl (Nat.le_of_ble_eq_true rfl) ?_
  obtain ⟨K, hK⟩ : ∃ K : ExK, K = kEq (some (some (.int (bI (valE (L wd) es = 1))))) sh (I) L R := ⟨_, rfl⟩
  rw [← hK]
  show Ex l mX14_is (n + 1) K 0 [(0, (.ref a)), (1, (.ref wd))] [] sh I L R 0 0
  refine e_aload_n dX14_is_0 rfl rfl rfl ?_
  refine e_getIv (v := I a 2) dX14_is_1 h0 kg_X14_13 rfl rfl ?_
  refine e_if_eq (tgt := 37) dX14_is_4 (by decide) (fun c_4 => ?_) (fun c_4 => ?_)
  · refine e_aload_n dX14_is_37 rfl rfl rfl ?_
    refine e_getR (v := (.ref a1)) dX14_is_38 h0 kg_X14_7 rfl hr1 ?_
    refine e_aload_n dX14_is_41 rfl rfl rfl ?_
    refine e_callIs dX14_is_42 ku_X14_20_X12 ku_X14_20_X13 ku_X14_20_X14 hT1 hO1 (by omega) (Nat.le_of_ble_eq_true rfl) ?_
    refine e_if_ne (tgt := 59) dX14_is_45 (by decide) (fun c_45 => ?_) (fun c_45 => ?_)
    · have c_45 := bI_n.mp c_45
      refine e_iconst (v := 1) dX14_is_59 (by decide) ?_
      refine e_goto (tgt := 64) dX14_is_60 (by decide) ?_
      exact e_zret dX14_is_64 rfl (by first | exact bI_z | rfl) (by rw [hK]; exact kEq_of (congrArg (fun z => some (some (Value.int z))) (by rcases h01 with h1 | h1 <;> rcases h02 with h2 | h2 <;> rcases hval with ⟨hm, hval⟩ | ⟨hm, hval⟩ <;> rw [hval, h1, h2] <;> rw [hm] at c_4 <;> simp_all [bI] <;> decide)) rfl)
    · have c_45 := bI_0.mp c_45
      refine e_aload_n dX14_is_48 rfl rfl rfl ?_
      refine e_getR (v := (.ref a2)) dX14_is_49 h0 kg_X14_17 rfl hr2 ?_
      refine e_aload_n dX14_is_52 rfl rfl rfl ?_
      refine e_callIs dX14_is_53 ku_X14_20_X12 ku_X14_20_X13 ku_X14_20_X14 hT2 hO2 (by omega) (Nat.le_of_ble_eq_true rfl) ?_
      refine e_if_eq (tgt := 63) dX14_is_56 (by decide) (fun c_56 => ?_) (fun c_56 => ?_)
      · have c_56 := bI_0.mp c_56
        refine e_iconst (v := 0) dX14_is_63 (by decide) ?_
        exact e_zret dX14_is_64 rfl (by first | exact bI_z | rfl) (by rw [hK]; exact kEq_of (congrArg (fun z => some (some (Value.int z))) (by rcases h01 with h1 | h1 <;> rcases h02 with h2 | h2 <;> rcases hval with ⟨hm, hval⟩ | ⟨hm, hval⟩ <;> rw [hval, h1, h2] <;> rw [hm] at c_4 <;> simp_all [bI] <;> decide)) rfl)
      · have c_56 := bI_n.mp c_56
        refine e_iconst (v := 1) dX14_is_59 (by decide) ?_
        refine e_goto (tgt := 64) dX14_is_60 (by decide) ?_
        exact e_zret dX14_is_64 rfl (by first | exact bI_z | rfl) (by rw [hK]; exact kEq_of (congrArg (fun z => some (some (Value.int z))) (by rcases h01 with h1 | h1 <;> rcases h02 with h2 | h2 <;> rcases hval with ⟨hm, hval⟩ | ⟨hm, hval⟩ <;> rw [hval, h1, h2] <;> rw [hm] at c_4 <;> simp_all [bI] <;> decide)) rfl)
  · refine e_aload_n dX14_is_7 rfl rfl rfl ?_
    refine e_getR (v := (.ref a1)) dX14_is_8 h0 kg_X14_7 rfl hr1 ?_
    refine e_aload_n dX14_is_11 rfl rfl rfl ?_
    refine e_callIs dX14_is_12 ku_X14_20_X12 ku_X14_20_X13 ku_X14_20_X14 hT1 hO1 (by omega) (Nat.le_of_ble_eq_true rfl) ?_
    refine e_if_eq (tgt := 33) dX14_is_15 (by decide) (fun c_15 => ?_) (fun c_15 => ?_)
    · have c_15 := bI_0.mp c_15
      refine e_iconst (v := 0) dX14_is_33 (by decide) ?_
      refine e_goto (tgt := 64) dX14_is_34 (by decide) ?_
      exact e_zret dX14_is_64 rfl (by first | exact bI_z | rfl) (by rw [hK]; exact kEq_of (congrArg (fun z => some (some (Value.int z))) (by rcases h01 with h1 | h1 <;> rcases h02 with h2 | h2 <;> rcases hval with ⟨hm, hval⟩ | ⟨hm, hval⟩ <;> rw [hval, h1, h2] <;> rw [hm] at c_4 <;> simp_all [bI] <;> decide)) rfl)
    · have c_15 := bI_n.mp c_15
      refine e_aload_n dX14_is_18 rfl rfl rfl ?_
      refine e_getR (v := (.ref a2)) dX14_is_19 h0 kg_X14_17 rfl hr2 ?_
      refine e_aload_n dX14_is_22 rfl rfl rfl ?_
      refine e_callIs dX14_is_23 ku_X14_20_X12 ku_X14_20_X13 ku_X14_20_X14 hT2 hO2 (by omega) (Nat.le_of_ble_eq_true rfl) ?_
      refine e_if_eq (tgt := 33) dX14_is_26 (by decide) (fun c_26 => ?_) (fun c_26 => ?_)
      · have c_26 := bI_0.mp c_26
        refine e_iconst (v := 0) dX14_is_33 (by decide) ?_
        refine e_goto (tgt := 64) dX14_is_34 (by decide) ?_
        exact e_zret dX14_is_64 rfl (by first | exact bI_z | rfl) (by rw [hK]; exact kEq_of (congrArg (fun z => some (some (Value.int z))) (by rcases h01 with h1 | h1 <;> rcases h02 with h2 | h2 <;> rcases hval with ⟨hm, hval⟩ | ⟨hm, hval⟩ <;> rw [hval, h1, h2] <;> rw [hm] at c_4 <;> simp_all [bI] <;> decide)) rfl)
      · have c_26 := bI_n.mp c_26
        refine e_iconst (v := 1) dX14_is_29 (by decide) ?_
        refine e_goto (tgt := 64) dX14_is_30 (by decide) ?_
        exact e_zret dX14_is_64 rfl (by first | exact bI_z | rfl) (by rw [hK]; exact kEq_of (congrArg (fun z => some (some (Value.int z))) (by rcases h01 with h1 | h1 <;> rcases h02 with h2 | h2 <;> rcases hval with ⟨hm, hval⟩ | ⟨hm, hval⟩ <;> rw [hval, h1, h2] <;> rw [hm] at c_4 <;> simp_all [bI] <;> decide)) rfl)
