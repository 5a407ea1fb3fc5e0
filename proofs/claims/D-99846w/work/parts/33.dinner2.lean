set_option maxRecDepth 100000
def bitC (x : Int32) : Int32 := (((((((x - (((x.toUInt32 >>> ((1 : Int32).toUInt32 &&& Int32.toUInt32 31)).toInt32) &&& 1431655765)) &&& 858993459) + ((((x - (((x.toUInt32 >>> ((1 : Int32).toUInt32 &&& Int32.toUInt32 31)).toInt32) &&& 1431655765)).toUInt32 >>> ((2 : Int32).toUInt32 &&& Int32.toUInt32 31)).toInt32) &&& 858993459)) + (((((x - (((x.toUInt32 >>> ((1 : Int32).toUInt32 &&& Int32.toUInt32 31)).toInt32) &&& 1431655765)) &&& 858993459) + ((((x - (((x.toUInt32 >>> ((1 : Int32).toUInt32 &&& Int32.toUInt32 31)).toInt32) &&& 1431655765)).toUInt32 >>> ((2 : Int32).toUInt32 &&& Int32.toUInt32 31)).toInt32) &&& 858993459)).toUInt32 >>> ((4 : Int32).toUInt32 &&& Int32.toUInt32 31)).toInt32)) &&& 252645135) + (((((((x - (((x.toUInt32 >>> ((1 : Int32).toUInt32 &&& Int32.toUInt32 31)).toInt32) &&& 1431655765)) &&& 858993459) + ((((x - (((x.toUInt32 >>> ((1 : Int32).toUInt32 &&& Int32.toUInt32 31)).toInt32) &&& 1431655765)).toUInt32 >>> ((2 : Int32).toUInt32 &&& Int32.toUInt32 31)).toInt32) &&& 858993459)) + (((((x - (((x.toUInt32 >>> ((1 : Int32).toUInt32 &&& Int32.toUInt32 31)).toInt32) &&& 1431655765)) &&& 858993459) + ((((x - (((x.toUInt32 >>> ((1 : Int32).toUInt32 &&& Int32.toUInt32 31)).toInt32) &&& 1431655765)).toUInt32 >>> ((2 : Int32).toUInt32 &&& Int32.toUInt32 31)).toInt32) &&& 858993459)).toUInt32 >>> ((4 : Int32).toUInt32 &&& Int32.toUInt32 31)).toInt32)) &&& 252645135).toUInt32 >>> ((8 : Int32).toUInt32 &&& Int32.toUInt32 31)).toInt32)) + ((((((((x - (((x.toUInt32 >>> ((1 : Int32).toUInt32 &&& Int32.toUInt32 31)).toInt32) &&& 1431655765)) &&& 858993459) + ((((x - (((x.toUInt32 >>> ((1 : Int32).toUInt32 &&& Int32.toUInt32 31)).toInt32) &&& 1431655765)).toUInt32 >>> ((2 : Int32).toUInt32 &&& Int32.toUInt32 31)).toInt32) &&& 858993459)) + (((((x - (((x.toUInt32 >>> ((1 : Int32).toUInt32 &&& Int32.toUInt32 31)).toInt32) &&& 1431655765)) &&& 858993459) + ((((x - (((x.toUInt32 >>> ((1 : Int32).toUInt32 &&& Int32.toUInt32 31)).toInt32) &&& 1431655765)).toUInt32 >>> ((2 : Int32).toUInt32 &&& Int32.toUInt32 31)).toInt32) &&& 858993459)).toUInt32 >>> ((4 : Int32).toUInt32 &&& Int32.toUInt32 31)).toInt32)) &&& 252645135) + (((((((x - (((x.toUInt32 >>> ((1 : Int32).toUInt32 &&& Int32.toUInt32 31)).toInt32) &&& 1431655765)) &&& 858993459) + ((((x - (((x.toUInt32 >>> ((1 : Int32).toUInt32 &&& Int32.toUInt32 31)).toInt32) &&& 1431655765)).toUInt32 >>> ((2 : Int32).toUInt32 &&& Int32.toUInt32 31)).toInt32) &&& 858993459)) + (((((x - (((x.toUInt32 >>> ((1 : Int32).toUInt32 &&& Int32.toUInt32 31)).toInt32) &&& 1431655765)) &&& 858993459) + ((((x - (((x.toUInt32 >>> ((1 : Int32).toUInt32 &&& Int32.toUInt32 31)).toInt32) &&& 1431655765)).toUInt32 >>> ((2 : Int32).toUInt32 &&& Int32.toUInt32 31)).toInt32) &&& 858993459)).toUInt32 >>> ((4 : Int32).toUInt32 &&& Int32.toUInt32 31)).toInt32)) &&& 252645135).toUInt32 >>> ((8 : Int32).toUInt32 &&& Int32.toUInt32 31)).toInt32)).toUInt32 >>> ((16 : Int32).toUInt32 &&& Int32.toUInt32 31)).toInt32)) &&& 63
set_option maxRecDepth 100000 in
set_option maxHeartbeats 4000000 in
theorem ct_bitCount {l : Launch} {sh : ExSh} {I : ExI} {L : ExL} {R : ExR} (x : Int32) : Ct l (ws_ yJ7_bitCount cJ7_bitCount 1 (some .int)) yJ7_bitCount 1 0 0 [.int (x)] sh I L R (kEq (some (some (.int (bitC x)))) sh (I) L R) := by
  refine Ct.of (own := "java/lang/Integer") (nm := "bitCount") rfl rfl rfl (Nat.le_of_ble_eq_true rfl) ?_
  obtain ⟨K, hK⟩ : ∃ K : ExK, K = kEq (some (some (.int (bitC x)))) sh (I) L R := ⟨_, rfl⟩
  rw [← hK]
  show Ex l mJ7_bitCount 1 K 0 [(0, .int (x))] [] sh I L R 0 0
  refine e_iload_n dJ7_bitCount_0 rfl rfl ?_
  refine e_iload_n dJ7_bitCount_1 rfl rfl ?_
  refine e_iconst (v := 1) dJ7_bitCount_2 (by decide) ?_
  refine e_iushr dJ7_bitCount_3 ?_
  refine e_ldcw (v := 1431655765) dJ7_bitCount_4 q855 ?_
  refine e_iand dJ7_bitCount_7 ?_
  refine e_isub dJ7_bitCount_8 ?_
  refine e_istore_n (ls' := [(0, .int (x - (((x.toUInt32 >>> ((1 : Int32).toUInt32 &&& Int32.toUInt32 31)).toInt32) &&& 1431655765)))]) dJ7_bitCount_9 rfl (Nat.le_of_ble_eq_true rfl) rfl ?_
  refine e_iload_n dJ7_bitCount_10 rfl rfl ?_
  refine e_ldcw (v := 858993459) dJ7_bitCount_11 q856 ?_
  refine e_iand dJ7_bitCount_14 ?_
  refine e_iload_n dJ7_bitCount_15 rfl rfl ?_
  refine e_iconst (v := 2) dJ7_bitCount_16 (by decide) ?_
  refine e_iushr dJ7_bitCount_17 ?_
  refine e_ldcw (v := 858993459) dJ7_bitCount_18 q856 ?_
  refine e_iand dJ7_bitCount_21 ?_
  refine e_iadd dJ7_bitCount_22 ?_
  refine e_istore_n (ls' := [(0, .int (((x - (((x.toUInt32 >>> ((1 : Int32).toUInt32 &&& Int32.toUInt32 31)).toInt32) &&& 1431655765)) &&& 858993459) + ((((x - (((x.toUInt32 >>> ((1 : Int32).toUInt32 &&& Int32.toUInt32 31)).toInt32) &&& 1431655765)).toUInt32 >>> ((2 : Int32).toUInt32 &&& Int32.toUInt32 31)).toInt32) &&& 858993459)))]) dJ7_bitCount_23 rfl (Nat.le_of_ble_eq_true rfl) rfl ?_
  refine e_iload_n dJ7_bitCount_24 rfl rfl ?_
  refine e_iload_n dJ7_bitCount_25 rfl rfl ?_
  refine e_iconst (v := 4) dJ7_bitCount_26 (by decide) ?_
  refine e_iushr dJ7_bitCount_27 ?_
  refine e_iadd dJ7_bitCount_28 ?_
  refine e_ldcw (v := 252645135) dJ7_bitCount_29 q857 ?_
  refine e_iand dJ7_bitCount_32 ?_
  refine e_istore_n (ls' := [(0, .int (((((x - (((x.toUInt32 >>> ((1 : Int32).toUInt32 &&& Int32.toUInt32 31)).toInt32) &&& 1431655765)) &&& 858993459) + ((((x - (((x.toUInt32 >>> ((1 : Int32).toUInt32 &&& Int32.toUInt32 31)).toInt32) &&& 1431655765)).toUInt32 >>> ((2 : Int32).toUInt32 &&& Int32.toUInt32 31)).toInt32) &&& 858993459)) + (((((x - (((x.toUInt32 >>> ((1 : Int32).toUInt32 &&& Int32.toUInt32 31)).toInt32) &&& 1431655765)) &&& 858993459) + ((((x - (((x.toUInt32 >>> ((1 : Int32).toUInt32 &&& Int32.toUInt32 31)).toInt32) &&& 1431655765)).toUInt32 >>> ((2 : Int32).toUInt32 &&& Int32.toUInt32 31)).toInt32) &&& 858993459)).toUInt32 >>> ((4 : Int32).toUInt32 &&& Int32.toUInt32 31)).toInt32)) &&& 252645135))]) dJ7_bitCount_33 rfl (Nat.le_of_ble_eq_true rfl) rfl ?_
  refine e_iload_n dJ7_bitCount_34 rfl rfl ?_
  refine e_iload_n dJ7_bitCount_35 rfl rfl ?_
  refine e_bipush (v := 8) dJ7_bitCount_36 (by decide) ?_
  refine e_iushr dJ7_bitCount_38 ?_
  refine e_iadd dJ7_bitCount_39 ?_
  refine e_istore_n (ls' := [(0, .int ((((((x - (((x.toUInt32 >>> ((1 : Int32).toUInt32 &&& Int32.toUInt32 31)).toInt32) &&& 1431655765)) &&& 858993459) + ((((x - (((x.toUInt32 >>> ((1 : Int32).toUInt32 &&& Int32.toUInt32 31)).toInt32) &&& 1431655765)).toUInt32 >>> ((2 : Int32).toUInt32 &&& Int32.toUInt32 31)).toInt32) &&& 858993459)) + (((((x - (((x.toUInt32 >>> ((1 : Int32).toUInt32 &&& Int32.toUInt32 31)).toInt32) &&& 1431655765)) &&& 858993459) + ((((x - (((x.toUInt32 >>> ((1 : Int32).toUInt32 &&& Int32.toUInt32 31)).toInt32) &&& 1431655765)).toUInt32 >>> ((2 : Int32).toUInt32 &&& Int32.toUInt32 31)).toInt32) &&& 858993459)).toUInt32 >>> ((4 : Int32).toUInt32 &&& Int32.toUInt32 31)).toInt32)) &&& 252645135) + (((((((x - (((x.toUInt32 >>> ((1 : Int32).toUInt32 &&& Int32.toUInt32 31)).toInt32) &&& 1431655765)) &&& 858993459) + ((((x - (((x.toUInt32 >>> ((1 : Int32).toUInt32 &&& Int32.toUInt32 31)).toInt32) &&& 1431655765)).toUInt32 >>> ((2 : Int32).toUInt32 &&& Int32.toUInt32 31)).toInt32) &&& 858993459)) + (((((x - (((x.toUInt32 >>> ((1 : Int32).toUInt32 &&& Int32.toUInt32 31)).toInt32) &&& 1431655765)) &&& 858993459) + ((((x - (((x.toUInt32 >>> ((1 : Int32).toUInt32 &&& Int32.toUInt32 31)).toInt32) &&& 1431655765)).toUInt32 >>> ((2 : Int32).toUInt32 &&& Int32.toUInt32 31)).toInt32) &&& 858993459)).toUInt32 >>> ((4 : Int32).toUInt32 &&& Int32.toUInt32 31)).toInt32)) &&& 252645135).toUInt32 >>> ((8 : Int32).toUInt32 &&& Int32.toUInt32 31)).toInt32)))]) dJ7_bitCount_40 rfl (Nat.le_of_ble_eq_true rfl) rfl ?_
  refine e_iload_n dJ7_bitCount_41 rfl rfl ?_
  refine e_iload_n dJ7_bitCount_42 rfl rfl ?_
  refine e_bipush (v := 16) dJ7_bitCount_43 (by decide) ?_
  refine e_iushr dJ7_bitCount_45 ?_
  refine e_iadd dJ7_bitCount_46 ?_
  refine e_istore_n (ls' := [(0, .int (((((((x - (((x.toUInt32 >>> ((1 : Int32).toUInt32 &&& Int32.toUInt32 31)).toInt32) &&& 1431655765)) &&& 858993459) + ((((x - (((x.toUInt32 >>> ((1 : Int32).toUInt32 &&& Int32.toUInt32 31)).toInt32) &&& 1431655765)).toUInt32 >>> ((2 : Int32).toUInt32 &&& Int32.toUInt32 31)).toInt32) &&& 858993459)) + (((((x - (((x.toUInt32 >>> ((1 : Int32).toUInt32 &&& Int32.toUInt32 31)).toInt32) &&& 1431655765)) &&& 858993459) + ((((x - (((x.toUInt32 >>> ((1 : Int32).toUInt32 &&& Int32.toUInt32 31)).toInt32) &&& 1431655765)).toUInt32 >>> ((2 : Int32).toUInt32 &&& Int32.toUInt32 31)).toInt32) &&& 858993459)).toUInt32 >>> ((4 : Int32).toUInt32 &&& Int32.toUInt32 31)).toInt32)) &&& 252645135) + (((((((x - (((x.toUInt32 >>> ((1 : Int32).toUInt32 &&& Int32.toUInt32 31)).toInt32) &&& 1431655765)) &&& 858993459) + ((((x - (((x.toUInt32 >>> ((1 : Int32).toUInt32 &&& Int32.toUInt32 31)).toInt32) &&& 1431655765)).toUInt32 >>> ((2 : Int32).toUInt32 &&& Int32.toUInt32 31)).toInt32) &&& 858993459)) + (((((x - (((x.toUInt32 >>> ((1 : Int32).toUInt32 &&& Int32.toUInt32 31)).toInt32) &&& 1431655765)) &&& 858993459) + ((((x - (((x.toUInt32 >>> ((1 : Int32).toUInt32 &&& Int32.toUInt32 31)).toInt32) &&& 1431655765)).toUInt32 >>> ((2 : Int32).toUInt32 &&& Int32.toUInt32 31)).toInt32) &&& 858993459)).toUInt32 >>> ((4 : Int32).toUInt32 &&& Int32.toUInt32 31)).toInt32)) &&& 252645135).toUInt32 >>> ((8 : Int32).toUInt32 &&& Int32.toUInt32 31)).toInt32)) + ((((((((x - (((x.toUInt32 >>> ((1 : Int32).toUInt32 &&& Int32.toUInt32 31)).toInt32) &&& 1431655765)) &&& 858993459) + ((((x - (((x.toUInt32 >>> ((1 : Int32).toUInt32 &&& Int32.toUInt32 31)).toInt32) &&& 1431655765)).toUInt32 >>> ((2 : Int32).toUInt32 &&& Int32.toUInt32 31)).toInt32) &&& 858993459)) + (((((x - (((x.toUInt32 >>> ((1 : Int32).toUInt32 &&& Int32.toUInt32 31)).toInt32) &&& 1431655765)) &&& 858993459) + ((((x - (((x.toUInt32 >>> ((1 : Int32).toUInt32 &&& Int32.toUInt32 31)).toInt32) &&& 1431655765)).toUInt32 >>> ((2 : Int32).toUInt32 &&& Int32.toUInt32 31)).toInt32) &&& 858993459)).toUInt32 >>> ((4 : Int32).toUInt32 &&& Int32.toUInt32 31)).toInt32)) &&& 252645135) + (((((((x - (((x.toUInt32 >>> ((1 : Int32).toUInt32 &&& Int32.toUInt32 31)).toInt32) &&& 1431655765)) &&& 858993459) + ((((x - (((x.toUInt32 >>> ((1 : Int32).toUInt32 &&& Int32.toUInt32 31)).toInt32) &&& 1431655765)).toUInt32 >>> ((2 : Int32).toUInt32 &&& Int32.toUInt32 31)).toInt32) &&& 858993459)) + (((((x - (((x.toUInt32 >>> ((1 : Int32).toUInt32 &&& Int32.toUInt32 31)).toInt32) &&& 1431655765)) &&& 858993459) + ((((x - (((x.toUInt32 >>> ((1 : Int32).toUInt32 &&& Int32.toUInt32 31)).toInt32) &&& 1431655765)).toUInt32 >>> ((2 : Int32).toUInt32 &&& Int32.toUInt32 31)).toInt32) &&& 858993459)).toUInt32 >>> ((4 : Int32).toUInt32 &&& Int32.toUInt32 31)).toInt32)) &&& 252645135).toUInt32 >>> ((8 : Int32).toUInt32 &&& Int32.toUInt32 31)).toInt32)).toUInt32 >>> ((16 : Int32).toUInt32 &&& Int32.toUInt32 31)).toInt32)))]) dJ7_bitCount_47 rfl (Nat.le_of_ble_eq_true rfl) rfl ?_
  refine e_iload_n dJ7_bitCount_48 rfl rfl ?_
  refine e_bipush (v := 63) dJ7_bitCount_49 (by decide) ?_
  refine e_iand dJ7_bitCount_51 ?_
  exact e_iret dJ7_bitCount_52 rfl (by rw [hK]; exact kEq_of (congrArg (fun z => some (some (Value.int z))) (rfl)) rfl)
theorem bitC_N : ∀ n : Nat, n < 256 → bitC (nI n) = bitsN (nI n) 16 := by decide +kernel
theorem isT_ne {sh : ExSh} {I : ExI} {L : ExL} {R : ExR} {n a : Nat} {es : List Ent} (h : isT sh I L R n a es) : es ≠ [] := by
  cases n with
  | zero => exact h.elim
  | succ n =>
    rcases h with ⟨-, a1, e1, -, -, rfl⟩ | ⟨-, a1, a2, e1, e2, k, -, -, -, -, -, rfl⟩ | ⟨-, a1, a2, e1, e2, -, -, -, -, ⟨-, rfl⟩ | ⟨-, rfl⟩⟩ <;> simp
set_option maxRecDepth 100000 in
set_option maxHeartbeats 4000000 in
theorem ct_fits {l : Launch} {sh : ExSh} {I : ExI} {L : ExL} {R : ExR} (n c wd : Nat) (e : List Ent × List Ent) (hc : isCl sh I L R n c e) (hw : sh[wd]? = some (3, 11)) : Ct l (ws_ yX6_fits cX6_fits 2 (some .boolean)) yX6_fits (n + 1) 0 0 [(.ref c), (.ref wd)] sh I L R (kEq (some (some (.int (bI (e.2 = [] ∨ valE (L wd) e.2 = 1))))) sh (I) L R) := by
  refine Ct.of (own := "ChairCane$Clause") (nm := "fits") rfl rfl rfl (Nat.le_of_ble_eq_true rfl) ?_
  obtain ⟨K, hK⟩ : ∃ K : ExK, K = kEq (some (some (.int (bI (e.2 = [] ∨ valE (L wd) e.2 = 1))))) sh (I) L R := ⟨_, rfl⟩
  rw [← hK]
  show Ex l mX6_fits (n + 1) K 0 [(0, (.ref c)), (1, (.ref wd))] [] sh I L R 0 0
  obtain ⟨h0, -, h4⟩ := id hc
  rcases h4 with ⟨hr, he⟩ | ⟨t, hr, hT⟩
  · refine e_aload_n dX6_fits_0 rfl rfl rfl ?_
    refine e_getR (v := .null) dX6_fits_1 h0 kg_X6_7 rfl hr ?_
    refine e_ifnull (tgt := 18) dX6_fits_4 (by decide) rfl (fun c_4 => ?_) (fun c_4 => ?_)
    rotate_left
    · exact ((c_4 rfl)).elim
    refine e_iconst (v := 1) dX6_fits_18 (by decide) ?_
    refine e_goto (tgt := 23) dX6_fits_19 (by decide) ?_
    exact e_zret dX6_fits_23 rfl (by first | exact bI_z | rfl) (by rw [hK]; exact kEq_of (congrArg (fun z => some (some (Value.int z))) (by exact (bI_t (Or.inl he)).symm)) rfl)
  · refine e_aload_n dX6_fits_0 rfl rfl rfl ?_
    refine e_getR (v := (.ref t)) dX6_fits_1 h0 kg_X6_7 rfl hr ?_
    refine e_ifnull (tgt := 18) dX6_fits_4 (by decide) rfl (fun c_4 => ?_) (fun c_4 => ?_)
    · exact ((show False from by cases c_4)).elim
    refine e_aload_n dX6_fits_7 rfl rfl rfl ?_
    refine e_getR (v := (.ref t)) dX6_fits_8 h0 kg_X6_7 rfl hr ?_
    refine e_aload_n dX6_fits_11 rfl rfl rfl ?_
    refine e_callIs dX6_fits_12 ku_X6_13_X12 ku_X6_13_X13 ku_X6_13_X14 hT (isOk n l _ _ _ _ t wd _ hT hw) (by omega) (Nat.le_of_ble_eq_true rfl) ?_
    refine e_if_eq (tgt := 22) dX6_fits_15 (by decide) (fun c_15 => ?_) (fun c_15 => ?_)
    · have c_15 := bI_0.mp c_15
      refine e_iconst (v := 0) dX6_fits_22 (by decide) ?_
      exact e_zret dX6_fits_23 rfl (by first | exact bI_z | rfl) (by rw [hK]; exact kEq_of (congrArg (fun z => some (some (Value.int z))) (by first | exact (bI_t (Or.inr c_15)).symm | exact (bI_f (fun h => h.elim (isT_ne hT) c_15)).symm)) rfl)
    · have c_15 := bI_n.mp c_15
      refine e_iconst (v := 1) dX6_fits_18 (by decide) ?_
      refine e_goto (tgt := 23) dX6_fits_19 (by decide) ?_
      exact e_zret dX6_fits_23 rfl (by first | exact bI_z | rfl) (by rw [hK]; exact kEq_of (congrArg (fun z => some (some (Value.int z))) (by first | exact (bI_t (Or.inr c_15)).symm | exact (bI_f (fun h => h.elim (isT_ne hT) c_15)).symm)) rfl)
set_option maxRecDepth 100000 in
set_option maxHeartbeats 4000000 in
theorem ct_summed {l : Launch} {sh : ExSh} {I : ExI} {L : ExL} {R : ExR} (n r wd : Nat) (cl : Rul) (hr0 : isRu sh I L R n r cl) (hw : sh[wd]? = some (3, 11)) : Ct l (ws_ yX5_summed cX5_summed 3 (some .long)) yX5_summed (n + 2) 0 0 [(.ref r), (.ref wd)] sh I L R (kEq (some (some (.long (ruleV (L wd) cl)))) sh (I) L R) := by
  obtain ⟨h0, ⟨ca, hr, hca, hcl⟩, hmany, h12⟩ := id hr0
  refine Ct.of (own := "ChairCane$Rule") (nm := "summed") rfl rfl rfl (Nat.le_of_ble_eq_true rfl) ?_
  obtain ⟨K, hK⟩ : ∃ K : ExK, K = kEq (some (some (.long (ruleV (L wd) cl)))) sh (I) L R := ⟨_, rfl⟩
  rw [← hK]
  show Ex l mX5_summed (n + 2) K 0 [(0, (.ref r)), (1, (.ref wd))] [] sh I L R 0 0
  refine e_iconst (v := 0) dX5_summed_0 (by decide) ?_
  refine e_istore_n (ls' := [(2, .int (0)), (0, (.ref r)), (1, (.ref wd))]) dX5_summed_1 rfl (Nat.le_of_ble_eq_true rfl) rfl ?_
  refine e_pick (ls' := [(2, .int (0)), (0, (.ref r)), (1, (.ref wd))]) [0, 1, 2] rfl ?_
  refine ex_up (P := fun k => ruleV (L wd) (cl.drop k) = ruleV (L wd) cl → Ex l mX5_summed (n + 2) K 2 [(2, .int (nI k)), (0, (.ref r)), (1, (.ref wd))] [] sh I L R 0 0) cl.length (fun k hk ih hy => ?_) 0 (Nat.zero_le _) rfl
  refine e_iload_n dX5_summed_2 rfl rfl ?_
  refine e_aload_n dX5_summed_3 rfl rfl rfl ?_
  refine e_getIv (v := I r 1) dX5_summed_4 h0 kg_X5_17 rfl rfl ?_
  refine e_icmp_ge (tgt := 43) dX5_summed_7 (by decide) (fun c_7 => ?_) (fun c_7 => ?_)
  · have hkN : k = cl.length := by have := (ex_ge hmany (by omega) (by omega)).mp c_7; omega
    refine e_lconst (v := 0) dX5_summed_43 (by decide) ?_
    exact e_lret dX5_summed_44 rfl (by rw [hK]; exact kEq_of (congrArg (fun z => some (some (Value.long z))) (by rw [← hy, hkN, List.drop_length]; rfl)) rfl)
  · have hlt : k < cl.length := by have := mt (ex_ge hmany (by omega) (by omega)).mpr c_7; omega
    obtain ⟨e, he⟩ : ∃ e, cl[k]? = some e := ⟨_, List.getElem?_eq_getElem hlt⟩
    obtain ⟨c, hc1, hc2⟩ := hcl k e he
    obtain ⟨g1, ⟨a, g2, g3⟩, g4⟩ := id hc2
    have hdr : cl.drop k = e :: cl.drop (k + 1) := by
      rw [List.drop_eq_getElem_cons hlt]
      rw [List.getElem?_eq_getElem hlt] at he
      rw [Option.some.inj he]
    refine e_aload_n dX5_summed_10 rfl rfl rfl ?_
    refine e_getR (v := (.ref ca)) dX5_summed_11 h0 kg_X5_11 rfl hr ?_
    refine e_iload_n dX5_summed_14 rfl rfl ?_
    refine e_aaldv (j := k) (v := (.ref c)) dX5_summed_15 hca (by decide) (by decide) (vp_in_nI (by omega) (by omega)) (nI_clamp (by omega)) hc1 ?_
    refine e_aload_n dX5_summed_16 rfl rfl rfl ?_
    refine e_callVe (k2 := 0) (n2 := 0) (mc' := 0) (ms' := 0) (As := [(.ref wd)]) dX5_summed_17 kv_X5_21 g1 rfl rfl (Nat.le_of_ble_eq_true rfl) (by omega) (ct_fits n c wd e hc2 hw) ?_
    show Ex l mX5_summed (n + 2) K 20 [(2, .int (nI k)), (0, (.ref r)), (1, (.ref wd))] [.int (bI (e.2 = [] ∨ valE (L wd) e.2 = 1))] sh I L R 0 0
    refine e_if_eq (tgt := 37) dX5_summed_20 (by decide) (fun c_20 => ?_) (fun c_20 => ?_)
    · have c_20 := bI_0.mp c_20
      refine e_iinc (v := nI (k + 1)) (ls' := [(2, .int (nI (k + 1))), (0, (.ref r)), (1, (.ref wd))]) dX5_summed_37 rfl (nI_1 _) (Nat.le_of_ble_eq_true rfl) rfl ?_
      refine e_goto (tgt := 2) dX5_summed_40 (by decide) ?_
      refine e_pick (ls' := [(2, .int (nI (k + 1))), (0, (.ref r)), (1, (.ref wd))]) [0, 1, 2] rfl ?_
      exact ih hlt (by rw [← hy, hdr, ruleV_cons, if_neg c_20])
    · have c_20 := bI_n.mp c_20
      refine e_aload_n dX5_summed_23 rfl rfl rfl ?_
      refine e_getR (v := (.ref ca)) dX5_summed_24 h0 kg_X5_11 rfl hr ?_
      refine e_iload_n dX5_summed_27 rfl rfl ?_
      refine e_aaldv (j := k) (v := (.ref c)) dX5_summed_28 hca (by decide) (by decide) (vp_in_nI (by omega) (by omega)) (nI_clamp (by omega)) hc1 ?_
      refine e_getR (v := (.ref a)) dX5_summed_29 g1 kg_X5_25 rfl g2 ?_
      refine e_aload_n dX5_summed_32 rfl rfl rfl ?_
      refine e_callOf dX5_summed_33 ku_X5_29_X8 ku_X5_29_X9 ku_X5_29_X10 g3 (ofOk n l _ _ _ _ a wd _ g3 hw) (by omega) (Nat.le_of_ble_eq_true rfl) ?_
      exact e_lret dX5_summed_36 rfl (by rw [hK]; exact kEq_of (congrArg (fun z => some (some (Value.long z))) (by rw [← hy, hdr, ruleV_cons, if_pos c_20])) rfl)
/-- what a rule asks of sitter k -/
def wordsF (D : Nat → Nat → Int32) (N k : Nat) : Nat → Int64 := fun i => match i with
  | 0 => (nI k).toInt64
  | 1 => (D 4 k).toInt64
  | 2 => (D 5 k).toInt64
  | 3 => (D 2 (ix (D 4 k))).toInt64
  | 4 => (D 8 (ix (strOf D k))).toInt64
  | 5 => if D 7 k = 1 then 1 else 0
  | 6 => (giveNow D N k).toInt64
  | 7 => (manyN D (othersOf D N k) k N).toInt64
  | 8 => (pressN D (strOf D k) (othersOf D N k) N).toInt64
  | 9 => (bitC (onesN (D 7) 2 N)).toInt64
  | _ => (D 0 6).toInt64
/-- how all are when the first k sitters have had their minute -/
def passN (D : Nat → Nat → Int32) (N : Nat) (rl : Option Rul) : Nat → Nat → Int32
  | 0 => D 7
  | k + 1 => if passN D N rl k k = 2 then passN D N rl k else if D 11 k = -1 then (match rl with
      | none => passN D N rl k
      | some cl => va_up (passN D N rl k) k (if 0 < ruleV (wordsF (va_up D 7 (passN D N rl k)) N k) cl then 1 else 0)) else va_up (passN D N rl k) k (D 11 k)
/-- ahead of the settling -/
def passD0 (D : Nat → Nat → Int32) (N : Nat) (rl : Option Rul) : Nat → Nat → Int32 := va_up (va_up D 7 (passN D N rl N)) 0 (va_up (D 0) 6 (D 0 6 + 1))
/-- a minute: who is dropped; the Dinner behind it -/
def passV (D : Nat → Nat → Int32) (N : Nat) (rl : Option Rul) : Int32 := (settle (passD0 D N rl) N).1
def passD (D : Nat → Nat → Int32) (N : Nat) (rl : Option Rul) : Nat → Nat → Int32 := va_up (passD0 D N rl) 7 (settle (passD0 D N rl) N).2
def passI (I : ExI) (b N : Nat) (rl : Option Rul) : ExI := va_up (va_up (va_up I (b + 7) (passN (dn I b) N rl N)) b (va_up (I b) 6 (I b 6 + 1))) (b + 7) (settle (passD0 (dn I b) N rl) N).2
def passAll (I : ExI) (b N : Nat) (rl : Option Rul) : Nat → ExI
  | 0 => I
  | k + 1 => passI (passAll I b N rl k) b N rl
theorem okD_0 {D : Nat → Nat → Int32} {N : Nat} {f : Nat → Int32} (h : okD D N) (hf : f 2 = D 0 2) : okD (va_up D 0 f) N := by
  obtain ⟨a1, a2, a3, a4, a5⟩ := h
  exact ⟨by rw [va_up_self, hf]; exact a1, a2, a3, a4, a5⟩
theorem okD_passD0 {D : Nat → Nat → Int32} {N : Nat} {rl : Option Rul} (h : okD D N) : okD (passD0 D N rl) N := okD_0 (okD_up (j := 7) h (by decide) (by decide) (by decide) (by decide)) (va_up_ne _ _ (by decide))
theorem okD_passD {D : Nat → Nat → Int32} {N : Nat} {rl : Option Rul} (h : okD D N) : okD (passD D N rl) N := okD_up (j := 7) (okD_passD0 h) (by decide) (by decide) (by decide) (by decide)
theorem dn_passI {I : ExI} {b N : Nat} {rl : Option Rul} : dn (passI I b N rl) b = passD (dn I b) N rl := by
  unfold passI passD
  rw [dn_up, dn_up0, dn_up]
  rfl
/-- the law as an argument: none, or a rule's object -/
def lawAt (sh : ExSh) (I : ExI) (L : ExL) (R : ExR) (n : Nat) (v : Value) (rl : Option Rul) : Prop := (v = .null ∧ rl = none) ∨ ∃ r cl, v = .ref r ∧ rl = some cl ∧ isRu sh I L R n r cl ∧ okR cl
theorem lawAt_kept {sh : ExSh} {I I' : ExI} {L L' : ExL} {R R' : ExR} {n : Nat} {v : Value} {rl : Option Rul} (h : nodeS sh I L R I' L' R') (g : lawAt sh I L R n v rl) : lawAt sh I' L' R' n v rl := by
  rcases g with g | ⟨r, cl, g1, g2, g3, g4⟩
  · exact Or.inl g
  · exact Or.inr ⟨r, cl, g1, g2, isRu_kept h g3, g4⟩
/-- a post that leaves the longs of one row open -/
def kLw (row : Nat) (o : ExO) (sh : ExSh) (I : ExI) (L : ExL) (R : ExR) : ExK := fun o' sh' I' L' R' => o' = o ∧ sh' = sh ∧ I' = I ∧ R' = R ∧ ∀ j, j ≠ row → L' j = L j
theorem kLw_x {row : Nat} {v : Option Value} {sh : ExSh} {I : ExI} {L : ExL} {R : ExR} : ∀ sh' I' L' R', ¬ kLw row (some v) sh I L R none sh' I' L' R' := fun _ _ _ _ h => nomatch h.1

set_option maxRecDepth 100000 in
set_option maxHeartbeats 4000000 in
theorem ct_sumOf {l : Launch} {sh : ExSh} {I : ExI} {L : ExL} {R : ExR} (b N : Nat) (D : Nat → Nat → Int32) (hd : dn I b = D) (hD : isD sh R b) (hok : okD D N) (k n r : Nat) (cl : Rul) (hk : k < N) (hr : isRu sh I L R n r cl) (hcl : okR cl) : Ct l (ws_ yX1_sumOf cX1_sumOf 7 (some .long)) yX1_sumOf (n + 8) 0 0 [(.ref b), .int (nI k), (.ref r)] sh I L R (kLw (b + 10) (some (some (.long (ruleV (wordsF D N k) cl)))) sh I L R) := by
  subst hd
  obtain ⟨s0, s1, s2, s3, s4, s5, s6, s7, s8, s9, s10, s11, r7, r8, r9, r10, r11, r12, r13, r14, r15, r16, r17⟩ := id hD
  obtain ⟨hN0, h8, hch0, hst0, hw0⟩ := id hok
  have hN : I b 2 = nI N := hN0
  have hch : ∀ k, k < 8 → vp_in (I (b + 4) k) 8 := hch0
  have hst : ∀ c, c < 8 → vp_in (I (b + 3) c) 4 := hst0
  refine Ct.of (own := "ChairCane$Dinner") (nm := "sumOf") rfl rfl rfl (Nat.le_of_ble_eq_true rfl) ?_
  obtain ⟨K, hK⟩ : ∃ K : ExK, K = kLw (b + 10) (some (some (.long (ruleV (wordsF (dn I b) N k) cl)))) sh I L R := ⟨_, rfl⟩
  rw [← hK]
  show Ex l mX1_sumOf (n + 8) K 0 [(0, (.ref b)), (1, .int (nI k)), (2, (.ref r))] [] sh I L R 0 0
  refine e_aload_n dX1_sumOf_0 rfl rfl rfl ?_
  refine e_iconst (v := 1) dX1_sumOf_1 (by decide) ?_
  refine e_callVe (k2 := 0) (n2 := 0) (mc' := 0) (ms' := 0) (As := [.int (1)]) dX1_sumOf_2 kv_X1_90 s0 rfl rfl (Nat.le_of_ble_eq_true rfl) (Nat.le_of_ble_eq_true rfl) (ct_onesThat b N (dn I b) rfl hD hok 1) ?_
  show Ex l mX1_sumOf (n + 8) K 5 [(0, (.ref b)), (1, .int (nI k)), (2, (.ref r))] [.int (onesN ((dn I b) 7) 1 N)] sh I L R 0 0
  refine e_istore_n (ls' := [(3, .int (onesN ((dn I b) 7) 1 N)), (0, (.ref b)), (1, .int (nI k)), (2, (.ref r))]) dX1_sumOf_5 rfl (Nat.le_of_ble_eq_true rfl) rfl ?_
  refine e_iload_n dX1_sumOf_6 rfl rfl ?_
  refine e_iconst (v := 1) dX1_sumOf_7 (by decide) ?_
  refine e_iload_n dX1_sumOf_8 rfl rfl ?_
  refine e_ishl dX1_sumOf_9 ?_
  refine e_iconst (v := (-1)) dX1_sumOf_10 (by decide) ?_
  refine e_ixor dX1_sumOf_11 ?_
  refine e_iand dX1_sumOf_12 ?_
  refine e_cvI (y := othersOf (dn I b) N k) rfl ?_
  refine e_istore (ls' := [(4, .int (othersOf (dn I b) N k)), (3, .int (onesN ((dn I b) 7) 1 N)), (0, (.ref b)), (1, .int (nI k)), (2, (.ref r))]) dX1_sumOf_13 (Nat.le_of_ble_eq_true rfl) rfl ?_
  refine e_iconst (v := 0) dX1_sumOf_15 (by decide) ?_
  refine e_istore (ls' := [(5, .int (0)), (4, .int (othersOf (dn I b) N k)), (3, .int (onesN ((dn I b) 7) 1 N)), (0, (.ref b)), (1, .int (nI k)), (2, (.ref r))]) dX1_sumOf_16 (Nat.le_of_ble_eq_true rfl) rfl ?_
  refine e_iconst (v := 0) dX1_sumOf_18 (by decide) ?_
  refine e_istore (ls' := [(6, .int (0)), (5, .int (0)), (4, .int (othersOf (dn I b) N k)), (3, .int (onesN ((dn I b) 7) 1 N)), (0, (.ref b)), (1, .int (nI k)), (2, (.ref r))]) dX1_sumOf_19 (Nat.le_of_ble_eq_true rfl) rfl ?_
  refine e_pick (ls' := [(6, .int (0)), (5, .int (0)), (4, .int (othersOf (dn I b) N k)), (0, (.ref b)), (1, .int (nI k)), (2, (.ref r))]) [0, 1, 2, 4, 5, 6] rfl ?_
  refine ex_up (P := fun o => Ex l mX1_sumOf (n + 8) K 21 [(6, .int (nI o)), (5, .int (manyN (dn I b) (othersOf (dn I b) N k) k o)), (4, .int (othersOf (dn I b) N k)), (0, (.ref b)), (1, .int (nI k)), (2, (.ref r))] [] sh I L R 0 0) N (fun o ho ih => ?_) 0 (Nat.zero_le _)
  refine e_iload dX1_sumOf_21 rfl ?_
  refine e_aload_n dX1_sumOf_23 rfl rfl rfl ?_
  refine e_getIv (v := I b 2) dX1_sumOf_24 s0 kg_X1_53 rfl rfl ?_
  refine e_icmp_ge (tgt := 70) dX1_sumOf_27 (by decide) (fun c_27 => ?_) (fun c_27 => ?_)
  · have hkN_o : o = N := by have := (ex_ge hN (by omega) (by omega)).mp c_27; omega
    refine e_aload_n dX1_sumOf_70 rfl rfl rfl ?_
    refine e_getR (v := (.ref (b + 10))) dX1_sumOf_71 s0 kg_X1_39 rfl r16 ?_
    refine e_iconst (v := 0) dX1_sumOf_74 (by decide) ?_
    refine e_iload_n dX1_sumOf_75 rfl rfl ?_
    refine e_i2l dX1_sumOf_76 ?_
    refine e_lastw (j := 0) (L' := (va_up L (b + 10) (va_up (L (b + 10)) 0 ((nI k).toInt64)))) dX1_sumOf_77 s10 (vp_in_nI (n := 0) (by omega) (by omega)) rfl (exU_rw rfl) ?_
    refine e_aload_n dX1_sumOf_78 rfl rfl rfl ?_
    refine e_getR (v := (.ref (b + 10))) dX1_sumOf_79 s0 kg_X1_39 rfl r16 ?_
    refine e_iconst (v := 1) dX1_sumOf_82 (by decide) ?_
    refine e_aload_n dX1_sumOf_83 rfl rfl rfl ?_
    refine e_getR (v := (.ref (b + 4))) dX1_sumOf_84 s0 kg_X1_21 rfl r10 ?_
    refine e_iload_n dX1_sumOf_87 rfl rfl ?_
    refine e_ialdv (j := k) (v := I (b + 4) k) dX1_sumOf_88 s4 (vp_in_nI (by omega) (by omega)) (nI_clamp (by omega)) rfl ?_
    refine e_i2l dX1_sumOf_89 ?_
    refine e_lastw (j := 1) (L' := (va_up L (b + 10) (va_up (va_up (L (b + 10)) 0 ((nI k).toInt64)) 1 ((I (b + 4) k).toInt64)))) dX1_sumOf_90 s10 (vp_in_nI (n := 1) (by omega) (by omega)) rfl exU_up ?_
    refine e_aload_n dX1_sumOf_91 rfl rfl rfl ?_
    refine e_getR (v := (.ref (b + 10))) dX1_sumOf_92 s0 kg_X1_39 rfl r16 ?_
    refine e_iconst (v := 2) dX1_sumOf_95 (by decide) ?_
    refine e_aload_n dX1_sumOf_96 rfl rfl rfl ?_
    refine e_getR (v := (.ref (b + 5))) dX1_sumOf_97 s0 kg_X1_24 rfl r11 ?_
    refine e_iload_n dX1_sumOf_100 rfl rfl ?_
    refine e_ialdv (j := k) (v := I (b + 5) k) dX1_sumOf_101 s5 (vp_in_nI (by omega) (by omega)) (nI_clamp (by omega)) rfl ?_
    refine e_i2l dX1_sumOf_102 ?_
    refine e_lastw (j := 2) (L' := (va_up L (b + 10) (va_up (va_up (va_up (L (b + 10)) 0 ((nI k).toInt64)) 1 ((I (b + 4) k).toInt64)) 2 ((I (b + 5) k).toInt64)))) dX1_sumOf_103 s10 (vp_in_nI (n := 2) (by omega) (by omega)) rfl exU_up ?_
    refine e_aload_n dX1_sumOf_104 rfl rfl rfl ?_
    refine e_getR (v := (.ref (b + 10))) dX1_sumOf_105 s0 kg_X1_39 rfl r16 ?_
    refine e_iconst (v := 3) dX1_sumOf_108 (by decide) ?_
    refine e_aload_n dX1_sumOf_109 rfl rfl rfl ?_
    refine e_getR (v := (.ref (b + 2))) dX1_sumOf_110 s0 kg_X1_15 rfl r8 ?_
    refine e_aload_n dX1_sumOf_113 rfl rfl rfl ?_
    refine e_getR (v := (.ref (b + 4))) dX1_sumOf_114 s0 kg_X1_21 rfl r10 ?_
    refine e_iload_n dX1_sumOf_117 rfl rfl ?_
    refine e_ialdv (j := k) (v := I (b + 4) k) dX1_sumOf_118 s4 (vp_in_nI (by omega) (by omega)) (nI_clamp (by omega)) rfl ?_
    refine e_ialdv (j := ix (I (b + 4) k)) (v := I (b + 2) (ix (I (b + 4) k))) dX1_sumOf_119 s2 (hch k (by omega)) rfl rfl ?_
    refine e_i2l dX1_sumOf_120 ?_
    refine e_lastw (j := 3) (L' := (va_up L (b + 10) (va_up (va_up (va_up (va_up (L (b + 10)) 0 ((nI k).toInt64)) 1 ((I (b + 4) k).toInt64)) 2 ((I (b + 5) k).toInt64)) 3 ((I (b + 2) (ix (I (b + 4) k))).toInt64)))) dX1_sumOf_121 s10 (vp_in_nI (n := 3) (by omega) (by omega)) rfl exU_up ?_
    refine e_aload_n dX1_sumOf_122 rfl rfl rfl ?_
    refine e_getR (v := (.ref (b + 10))) dX1_sumOf_123 s0 kg_X1_39 rfl r16 ?_
    refine e_iconst (v := 4) dX1_sumOf_126 (by decide) ?_
    refine e_aload_n dX1_sumOf_127 rfl rfl rfl ?_
    refine e_getR (v := (.ref (b + 8))) dX1_sumOf_128 s0 kg_X1_33 rfl r14 ?_
    refine e_aload_n dX1_sumOf_131 rfl rfl rfl ?_
    refine e_iload_n dX1_sumOf_132 rfl rfl ?_
    refine e_callVe (k2 := 0) (n2 := 0) (mc' := 0) (ms' := 0) (As := [.int (nI k)]) dX1_sumOf_133 kv_X1_82 s0 rfl rfl (Nat.le_of_ble_eq_true rfl) (Nat.le_of_ble_eq_true rfl) (ct_strandOf b N (dn I b) rfl hD hok k (by omega)) ?_
    show Ex l mX1_sumOf (n + 8) K 136 [(6, .int (nI o)), (5, .int (manyN (dn I b) (othersOf (dn I b) N k) k o)), (4, .int (othersOf (dn I b) N k)), (0, (.ref b)), (1, .int (nI k)), (2, (.ref r))] [.int (strOf (dn I b) k), ((.ref (b + 8))), .int (4), ((.ref (b + 10)))] sh I (va_up L (b + 10) (va_up (va_up (va_up (va_up (L (b + 10)) 0 ((nI k).toInt64)) 1 ((I (b + 4) k).toInt64)) 2 ((I (b + 5) k).toInt64)) 3 ((I (b + 2) (ix (I (b + 4) k))).toInt64))) R 0 0
    refine e_ialdv (j := ix (strOf (dn I b) k)) (v := I (b + 8) (ix (strOf (dn I b) k))) dX1_sumOf_136 s8 (hst (ix (I (b + 4) k)) (vp_in_lt (hch k (by omega)))) rfl rfl ?_
    refine e_i2l dX1_sumOf_137 ?_
    refine e_lastw (j := 4) (L' := (va_up L (b + 10) (va_up (va_up (va_up (va_up (va_up (L (b + 10)) 0 ((nI k).toInt64)) 1 ((I (b + 4) k).toInt64)) 2 ((I (b + 5) k).toInt64)) 3 ((I (b + 2) (ix (I (b + 4) k))).toInt64)) 4 ((I (b + 8) (ix (strOf (dn I b) k))).toInt64)))) dX1_sumOf_138 s10 (vp_in_nI (n := 4) (by omega) (by omega)) rfl exU_up ?_
    refine e_aload_n dX1_sumOf_139 rfl rfl rfl ?_
    refine e_getR (v := (.ref (b + 10))) dX1_sumOf_140 s0 kg_X1_39 rfl r16 ?_
    refine e_iconst (v := 5) dX1_sumOf_143 (by decide) ?_
    refine e_aload_n dX1_sumOf_144 rfl rfl rfl ?_
    refine e_getR (v := (.ref (b + 7))) dX1_sumOf_145 s0 kg_X1_30 rfl r13 ?_
    refine e_iload_n dX1_sumOf_148 rfl rfl ?_
    refine e_ialdv (j := k) (v := I (b + 7) k) dX1_sumOf_149 s7 (vp_in_nI (by omega) (by omega)) (nI_clamp (by omega)) rfl ?_
    refine e_iconst (v := 1) dX1_sumOf_150 (by decide) ?_
    refine e_icmp_ne (tgt := 158) dX1_sumOf_151 (by decide) (fun c_151 => ?_) (fun c_151 => ?_)
    · refine e_lconst (v := 0) dX1_sumOf_158 (by decide) ?_
      refine e_lastw (j := 5) (L' := (va_up L (b + 10) (va_up (va_up (va_up (va_up (va_up (va_up (L (b + 10)) 0 ((nI k).toInt64)) 1 ((I (b + 4) k).toInt64)) 2 ((I (b + 5) k).toInt64)) 3 ((I (b + 2) (ix (I (b + 4) k))).toInt64)) 4 ((I (b + 8) (ix (strOf (dn I b) k))).toInt64)) 5 0))) dX1_sumOf_159 s10 (vp_in_nI (n := 5) (by omega) (by omega)) rfl exU_up ?_
      refine e_aload_n dX1_sumOf_160 rfl rfl rfl ?_
      refine e_getR (v := (.ref (b + 10))) dX1_sumOf_161 s0 kg_X1_39 rfl r16 ?_
      refine e_bipush (v := 6) dX1_sumOf_164 (by decide) ?_
      refine e_aload_n dX1_sumOf_166 rfl rfl rfl ?_
      refine e_iload_n dX1_sumOf_167 rfl rfl ?_
      refine e_callVe (k2 := 0) (n2 := 0) (mc' := 0) (ms' := 0) (As := [.int (nI k)]) dX1_sumOf_168 kv_X1_96 s0 rfl rfl (Nat.le_of_ble_eq_true rfl) (Nat.le_of_ble_eq_true rfl) (ct_givesNow b N (dn I b) rfl hD hok k (by omega)) ?_
      show Ex l mX1_sumOf (n + 8) K 171 [(6, .int (nI o)), (5, .int (manyN (dn I b) (othersOf (dn I b) N k) k o)), (4, .int (othersOf (dn I b) N k)), (0, (.ref b)), (1, .int (nI k)), (2, (.ref r))] [.int (giveNow (dn I b) N k), .int (6), ((.ref (b + 10)))] sh I (va_up L (b + 10) (va_up (va_up (va_up (va_up (va_up (va_up (L (b + 10)) 0 ((nI k).toInt64)) 1 ((I (b + 4) k).toInt64)) 2 ((I (b + 5) k).toInt64)) 3 ((I (b + 2) (ix (I (b + 4) k))).toInt64)) 4 ((I (b + 8) (ix (strOf (dn I b) k))).toInt64)) 5 0)) R 0 0
      refine e_i2l dX1_sumOf_171 ?_
      refine e_lastw (j := 6) (L' := (va_up L (b + 10) (va_up (va_up (va_up (va_up (va_up (va_up (va_up (L (b + 10)) 0 ((nI k).toInt64)) 1 ((I (b + 4) k).toInt64)) 2 ((I (b + 5) k).toInt64)) 3 ((I (b + 2) (ix (I (b + 4) k))).toInt64)) 4 ((I (b + 8) (ix (strOf (dn I b) k))).toInt64)) 5 0) 6 ((giveNow (dn I b) N k).toInt64)))) dX1_sumOf_172 s10 (vp_in_nI (n := 6) (by omega) (by omega)) rfl exU_up ?_
      refine e_aload_n dX1_sumOf_173 rfl rfl rfl ?_
      refine e_getR (v := (.ref (b + 10))) dX1_sumOf_174 s0 kg_X1_39 rfl r16 ?_
      refine e_bipush (v := 7) dX1_sumOf_177 (by decide) ?_
      refine e_iload dX1_sumOf_179 rfl ?_
      refine e_i2l dX1_sumOf_181 ?_
      refine e_lastw (j := 7) (L' := (va_up L (b + 10) (va_up (va_up (va_up (va_up (va_up (va_up (va_up (va_up (L (b + 10)) 0 ((nI k).toInt64)) 1 ((I (b + 4) k).toInt64)) 2 ((I (b + 5) k).toInt64)) 3 ((I (b + 2) (ix (I (b + 4) k))).toInt64)) 4 ((I (b + 8) (ix (strOf (dn I b) k))).toInt64)) 5 0) 6 ((giveNow (dn I b) N k).toInt64)) 7 ((manyN (dn I b) (othersOf (dn I b) N k) k o).toInt64)))) dX1_sumOf_182 s10 (vp_in_nI (n := 7) (by omega) (by omega)) rfl exU_up ?_
      refine e_aload_n dX1_sumOf_183 rfl rfl rfl ?_
      refine e_getR (v := (.ref (b + 10))) dX1_sumOf_184 s0 kg_X1_39 rfl r16 ?_
      refine e_bipush (v := 8) dX1_sumOf_187 (by decide) ?_
      refine e_aload_n dX1_sumOf_189 rfl rfl rfl ?_
      refine e_aload_n dX1_sumOf_190 rfl rfl rfl ?_
      refine e_iload_n dX1_sumOf_191 rfl rfl ?_
      refine e_callVe (k2 := 0) (n2 := 0) (mc' := 0) (ms' := 0) (As := [.int (nI k)]) dX1_sumOf_192 kv_X1_82 s0 rfl rfl (Nat.le_of_ble_eq_true rfl) (Nat.le_of_ble_eq_true rfl) (ct_strandOf b N (dn I b) rfl hD hok k (by omega)) ?_
      show Ex l mX1_sumOf (n + 8) K 195 [(6, .int (nI o)), (5, .int (manyN (dn I b) (othersOf (dn I b) N k) k o)), (4, .int (othersOf (dn I b) N k)), (0, (.ref b)), (1, .int (nI k)), (2, (.ref r))] [.int (strOf (dn I b) k), (.ref b), .int (8), ((.ref (b + 10)))] sh I (va_up L (b + 10) (va_up (va_up (va_up (va_up (va_up (va_up (va_up (va_up (L (b + 10)) 0 ((nI k).toInt64)) 1 ((I (b + 4) k).toInt64)) 2 ((I (b + 5) k).toInt64)) 3 ((I (b + 2) (ix (I (b + 4) k))).toInt64)) 4 ((I (b + 8) (ix (strOf (dn I b) k))).toInt64)) 5 0) 6 ((giveNow (dn I b) N k).toInt64)) 7 ((manyN (dn I b) (othersOf (dn I b) N k) k o).toInt64))) R 0 0
      refine e_iload dX1_sumOf_195 rfl ?_
      refine e_callVe (k2 := 0) (n2 := 0) (mc' := 0) (ms' := 0) (As := [.int (strOf (dn I b) k), .int (othersOf (dn I b) N k)]) dX1_sumOf_197 kv_X1_86 s0 rfl rfl (Nat.le_of_ble_eq_true rfl) (Nat.le_of_ble_eq_true rfl) (ct_pressOn b N (dn I b) rfl hD hok (strOf (dn I b) k) (othersOf (dn I b) N k)) ?_
      show Ex l mX1_sumOf (n + 8) K 200 [(6, .int (nI o)), (5, .int (manyN (dn I b) (othersOf (dn I b) N k) k o)), (4, .int (othersOf (dn I b) N k)), (0, (.ref b)), (1, .int (nI k)), (2, (.ref r))] [.int (pressN (dn I b) (strOf (dn I b) k) (othersOf (dn I b) N k) N), .int (8), ((.ref (b + 10)))] sh I (va_up L (b + 10) (va_up (va_up (va_up (va_up (va_up (va_up (va_up (va_up (L (b + 10)) 0 ((nI k).toInt64)) 1 ((I (b + 4) k).toInt64)) 2 ((I (b + 5) k).toInt64)) 3 ((I (b + 2) (ix (I (b + 4) k))).toInt64)) 4 ((I (b + 8) (ix (strOf (dn I b) k))).toInt64)) 5 0) 6 ((giveNow (dn I b) N k).toInt64)) 7 ((manyN (dn I b) (othersOf (dn I b) N k) k o).toInt64))) R 0 0
      refine e_i2l dX1_sumOf_200 ?_
      refine e_lastw (j := 8) (L' := (va_up L (b + 10) (va_up (va_up (va_up (va_up (va_up (va_up (va_up (va_up (va_up (L (b + 10)) 0 ((nI k).toInt64)) 1 ((I (b + 4) k).toInt64)) 2 ((I (b + 5) k).toInt64)) 3 ((I (b + 2) (ix (I (b + 4) k))).toInt64)) 4 ((I (b + 8) (ix (strOf (dn I b) k))).toInt64)) 5 0) 6 ((giveNow (dn I b) N k).toInt64)) 7 ((manyN (dn I b) (othersOf (dn I b) N k) k o).toInt64)) 8 ((pressN (dn I b) (strOf (dn I b) k) (othersOf (dn I b) N k) N).toInt64)))) dX1_sumOf_201 s10 (vp_in_nI (n := 8) (by omega) (by omega)) rfl exU_up ?_
      refine e_aload_n dX1_sumOf_202 rfl rfl rfl ?_
      refine e_getR (v := (.ref (b + 10))) dX1_sumOf_203 s0 kg_X1_39 rfl r16 ?_
      refine e_bipush (v := 9) dX1_sumOf_206 (by decide) ?_
      refine e_aload_n dX1_sumOf_208 rfl rfl rfl ?_
      refine e_iconst (v := 2) dX1_sumOf_209 (by decide) ?_
      refine e_callVe (k2 := 0) (n2 := 0) (mc' := 0) (ms' := 0) (As := [.int (2)]) dX1_sumOf_210 kv_X1_90 s0 rfl rfl (Nat.le_of_ble_eq_true rfl) (Nat.le_of_ble_eq_true rfl) (ct_onesThat b N (dn I b) rfl hD hok 2) ?_
      show Ex l mX1_sumOf (n + 8) K 213 [(6, .int (nI o)), (5, .int (manyN (dn I b) (othersOf (dn I b) N k) k o)), (4, .int (othersOf (dn I b) N k)), (0, (.ref b)), (1, .int (nI k)), (2, (.ref r))] [.int (onesN ((dn I b) 7) 2 N), .int (9), ((.ref (b + 10)))] sh I (va_up L (b + 10) (va_up (va_up (va_up (va_up (va_up (va_up (va_up (va_up (va_up (L (b + 10)) 0 ((nI k).toInt64)) 1 ((I (b + 4) k).toInt64)) 2 ((I (b + 5) k).toInt64)) 3 ((I (b + 2) (ix (I (b + 4) k))).toInt64)) 4 ((I (b + 8) (ix (strOf (dn I b) k))).toInt64)) 5 0) 6 ((giveNow (dn I b) N k).toInt64)) 7 ((manyN (dn I b) (othersOf (dn I b) N k) k o).toInt64)) 8 ((pressN (dn I b) (strOf (dn I b) k) (othersOf (dn I b) N k) N).toInt64))) R 0 0
      refine e_callSe (k2 := 0) (n2 := 0) (mc' := 0) (ms' := 0) (As := [.int (onesN ((dn I b) 7) 2 N)]) dX1_sumOf_213 ks_X1_102 rfl rfl (Nat.le_of_ble_eq_true rfl) (Nat.le_of_ble_eq_true rfl) (ct_bitCount (onesN ((dn I b) 7) 2 N)) ?_
      show Ex l mX1_sumOf (n + 8) K 216 [(6, .int (nI o)), (5, .int (manyN (dn I b) (othersOf (dn I b) N k) k o)), (4, .int (othersOf (dn I b) N k)), (0, (.ref b)), (1, .int (nI k)), (2, (.ref r))] [.int (bitC (onesN ((dn I b) 7) 2 N)), .int (9), ((.ref (b + 10)))] sh I (va_up L (b + 10) (va_up (va_up (va_up (va_up (va_up (va_up (va_up (va_up (va_up (L (b + 10)) 0 ((nI k).toInt64)) 1 ((I (b + 4) k).toInt64)) 2 ((I (b + 5) k).toInt64)) 3 ((I (b + 2) (ix (I (b + 4) k))).toInt64)) 4 ((I (b + 8) (ix (strOf (dn I b) k))).toInt64)) 5 0) 6 ((giveNow (dn I b) N k).toInt64)) 7 ((manyN (dn I b) (othersOf (dn I b) N k) k o).toInt64)) 8 ((pressN (dn I b) (strOf (dn I b) k) (othersOf (dn I b) N k) N).toInt64))) R 0 0
      refine e_i2l dX1_sumOf_216 ?_
      refine e_lastw (j := 9) (L' := (va_up L (b + 10) (va_up (va_up (va_up (va_up (va_up (va_up (va_up (va_up (va_up (va_up (L (b + 10)) 0 ((nI k).toInt64)) 1 ((I (b + 4) k).toInt64)) 2 ((I (b + 5) k).toInt64)) 3 ((I (b + 2) (ix (I (b + 4) k))).toInt64)) 4 ((I (b + 8) (ix (strOf (dn I b) k))).toInt64)) 5 0) 6 ((giveNow (dn I b) N k).toInt64)) 7 ((manyN (dn I b) (othersOf (dn I b) N k) k o).toInt64)) 8 ((pressN (dn I b) (strOf (dn I b) k) (othersOf (dn I b) N k) N).toInt64)) 9 ((bitC (onesN ((dn I b) 7) 2 N)).toInt64)))) dX1_sumOf_217 s10 (vp_in_nI (n := 9) (by omega) (by omega)) rfl exU_up ?_
      refine e_aload_n dX1_sumOf_218 rfl rfl rfl ?_
      refine e_getR (v := (.ref (b + 10))) dX1_sumOf_219 s0 kg_X1_39 rfl r16 ?_
      refine e_bipush (v := 10) dX1_sumOf_222 (by decide) ?_
      refine e_aload_n dX1_sumOf_224 rfl rfl rfl ?_
      refine e_getIv (v := I b 6) dX1_sumOf_225 s0 kg_X1_75 rfl rfl ?_
      refine e_i2l dX1_sumOf_228 ?_
      refine e_lastw (j := 10) (L' := (va_up L (b + 10) (va_up (va_up (va_up (va_up (va_up (va_up (va_up (va_up (va_up (va_up (va_up (L (b + 10)) 0 ((nI k).toInt64)) 1 ((I (b + 4) k).toInt64)) 2 ((I (b + 5) k).toInt64)) 3 ((I (b + 2) (ix (I (b + 4) k))).toInt64)) 4 ((I (b + 8) (ix (strOf (dn I b) k))).toInt64)) 5 0) 6 ((giveNow (dn I b) N k).toInt64)) 7 ((manyN (dn I b) (othersOf (dn I b) N k) k o).toInt64)) 8 ((pressN (dn I b) (strOf (dn I b) k) (othersOf (dn I b) N k) N).toInt64)) 9 ((bitC (onesN ((dn I b) 7) 2 N)).toInt64)) 10 ((I b 6).toInt64)))) dX1_sumOf_229 s10 (vp_in_nI (n := 10) (by omega) (by omega)) rfl exU_up ?_
      refine e_aload_n dX1_sumOf_230 rfl rfl rfl ?_
      refine e_aload_n dX1_sumOf_231 rfl rfl rfl ?_
      refine e_getR (v := (.ref (b + 10))) dX1_sumOf_232 s0 kg_X1_39 rfl r16 ?_
      refine e_callVe (k2 := 0) (n2 := 0) (mc' := 0) (ms' := 0) (As := [((.ref (b + 10)))]) dX1_sumOf_235 kv_X1_107 hr.1 rfl rfl (Nat.le_of_ble_eq_true rfl) (by omega) (ct_summed n r (b + 10) cl (isRu_kept (nodeS_L s10 (by decide) (fun j hj => va_up_ne _ _ hj)) hr) s10) ?_
      show Ex l mX1_sumOf (n + 8) K 238 [(6, .int (nI o)), (5, .int (manyN (dn I b) (othersOf (dn I b) N k) k o)), (4, .int (othersOf (dn I b) N k)), (0, (.ref b)), (1, .int (nI k)), (2, (.ref r))] [.long (ruleV ((va_up L (b + 10) (va_up (va_up (va_up (va_up (va_up (va_up (va_up (va_up (va_up (va_up (va_up (L (b + 10)) 0 ((nI k).toInt64)) 1 ((I (b + 4) k).toInt64)) 2 ((I (b + 5) k).toInt64)) 3 ((I (b + 2) (ix (I (b + 4) k))).toInt64)) 4 ((I (b + 8) (ix (strOf (dn I b) k))).toInt64)) 5 0) 6 ((giveNow (dn I b) N k).toInt64)) 7 ((manyN (dn I b) (othersOf (dn I b) N k) k o).toInt64)) 8 ((pressN (dn I b) (strOf (dn I b) k) (othersOf (dn I b) N k) N).toInt64)) 9 ((bitC (onesN ((dn I b) 7) 2 N)).toInt64)) 10 ((I b 6).toInt64))) (b + 10)) cl)] sh I (va_up L (b + 10) (va_up (va_up (va_up (va_up (va_up (va_up (va_up (va_up (va_up (va_up (va_up (L (b + 10)) 0 ((nI k).toInt64)) 1 ((I (b + 4) k).toInt64)) 2 ((I (b + 5) k).toInt64)) 3 ((I (b + 2) (ix (I (b + 4) k))).toInt64)) 4 ((I (b + 8) (ix (strOf (dn I b) k))).toInt64)) 5 0) 6 ((giveNow (dn I b) N k).toInt64)) 7 ((manyN (dn I b) (othersOf (dn I b) N k) k o).toInt64)) 8 ((pressN (dn I b) (strOf (dn I b) k) (othersOf (dn I b) N k) N).toInt64)) 9 ((bitC (onesN ((dn I b) 7) 2 N)).toInt64)) 10 ((I b 6).toInt64))) R 0 0
      refine e_lret dX1_sumOf_238 rfl ?_
      rw [hK]
      refine ⟨congrArg (fun z => some (some (Value.long z))) ?_, rfl, rfl, rfl, fun j hj => va_up_ne _ _ hj⟩
      rw [va_up_self]
      refine ruleV_cg (fun j hj => ?_) cl hcl
      match j, hj with
      | 0, _ => rfl
      | 1, _ => rfl
      | 2, _ => rfl
      | 3, _ => rfl
      | 4, _ => rfl
      | 5, _ => first | exact (if_pos c_151).symm | exact (if_neg c_151).symm
      | 6, _ => rfl
      | 7, _ => rw [hkN_o]; rfl
      | 8, _ => rfl
      | 9, _ => rfl
      | 10, _ => rfl
    · refine e_lconst (v := 1) dX1_sumOf_154 (by decide) ?_
      refine e_goto (tgt := 159) dX1_sumOf_155 (by decide) ?_
      refine e_lastw (j := 5) (L' := (va_up L (b + 10) (va_up (va_up (va_up (va_up (va_up (va_up (L (b + 10)) 0 ((nI k).toInt64)) 1 ((I (b + 4) k).toInt64)) 2 ((I (b + 5) k).toInt64)) 3 ((I (b + 2) (ix (I (b + 4) k))).toInt64)) 4 ((I (b + 8) (ix (strOf (dn I b) k))).toInt64)) 5 1))) dX1_sumOf_159 s10 (vp_in_nI (n := 5) (by omega) (by omega)) rfl exU_up ?_
      refine e_aload_n dX1_sumOf_160 rfl rfl rfl ?_
      refine e_getR (v := (.ref (b + 10))) dX1_sumOf_161 s0 kg_X1_39 rfl r16 ?_
      refine e_bipush (v := 6) dX1_sumOf_164 (by decide) ?_
      refine e_aload_n dX1_sumOf_166 rfl rfl rfl ?_
      refine e_iload_n dX1_sumOf_167 rfl rfl ?_
      refine e_callVe (k2 := 0) (n2 := 0) (mc' := 0) (ms' := 0) (As := [.int (nI k)]) dX1_sumOf_168 kv_X1_96 s0 rfl rfl (Nat.le_of_ble_eq_true rfl) (Nat.le_of_ble_eq_true rfl) (ct_givesNow b N (dn I b) rfl hD hok k (by omega)) ?_
      show Ex l mX1_sumOf (n + 8) K 171 [(6, .int (nI o)), (5, .int (manyN (dn I b) (othersOf (dn I b) N k) k o)), (4, .int (othersOf (dn I b) N k)), (0, (.ref b)), (1, .int (nI k)), (2, (.ref r))] [.int (giveNow (dn I b) N k), .int (6), ((.ref (b + 10)))] sh I (va_up L (b + 10) (va_up (va_up (va_up (va_up (va_up (va_up (L (b + 10)) 0 ((nI k).toInt64)) 1 ((I (b + 4) k).toInt64)) 2 ((I (b + 5) k).toInt64)) 3 ((I (b + 2) (ix (I (b + 4) k))).toInt64)) 4 ((I (b + 8) (ix (strOf (dn I b) k))).toInt64)) 5 1)) R 0 0
      refine e_i2l dX1_sumOf_171 ?_
      refine e_lastw (j := 6) (L' := (va_up L (b + 10) (va_up (va_up (va_up (va_up (va_up (va_up (va_up (L (b + 10)) 0 ((nI k).toInt64)) 1 ((I (b + 4) k).toInt64)) 2 ((I (b + 5) k).toInt64)) 3 ((I (b + 2) (ix (I (b + 4) k))).toInt64)) 4 ((I (b + 8) (ix (strOf (dn I b) k))).toInt64)) 5 1) 6 ((giveNow (dn I b) N k).toInt64)))) dX1_sumOf_172 s10 (vp_in_nI (n := 6) (by omega) (by omega)) rfl exU_up ?_
      refine e_aload_n dX1_sumOf_173 rfl rfl rfl ?_
      refine e_getR (v := (.ref (b + 10))) dX1_sumOf_174 s0 kg_X1_39 rfl r16 ?_
      refine e_bipush (v := 7) dX1_sumOf_177 (by decide) ?_
      refine e_iload dX1_sumOf_179 rfl ?_
      refine e_i2l dX1_sumOf_181 ?_
      refine e_lastw (j := 7) (L' := (va_up L (b + 10) (va_up (va_up (va_up (va_up (va_up (va_up (va_up (va_up (L (b + 10)) 0 ((nI k).toInt64)) 1 ((I (b + 4) k).toInt64)) 2 ((I (b + 5) k).toInt64)) 3 ((I (b + 2) (ix (I (b + 4) k))).toInt64)) 4 ((I (b + 8) (ix (strOf (dn I b) k))).toInt64)) 5 1) 6 ((giveNow (dn I b) N k).toInt64)) 7 ((manyN (dn I b) (othersOf (dn I b) N k) k o).toInt64)))) dX1_sumOf_182 s10 (vp_in_nI (n := 7) (by omega) (by omega)) rfl exU_up ?_
      refine e_aload_n dX1_sumOf_183 rfl rfl rfl ?_
      refine e_getR (v := (.ref (b + 10))) dX1_sumOf_184 s0 kg_X1_39 rfl r16 ?_
      refine e_bipush (v := 8) dX1_sumOf_187 (by decide) ?_
      refine e_aload_n dX1_sumOf_189 rfl rfl rfl ?_
      refine e_aload_n dX1_sumOf_190 rfl rfl rfl ?_
      refine e_iload_n dX1_sumOf_191 rfl rfl ?_
      refine e_callVe (k2 := 0) (n2 := 0) (mc' := 0) (ms' := 0) (As := [.int (nI k)]) dX1_sumOf_192 kv_X1_82 s0 rfl rfl (Nat.le_of_ble_eq_true rfl) (Nat.le_of_ble_eq_true rfl) (ct_strandOf b N (dn I b) rfl hD hok k (by omega)) ?_
      show Ex l mX1_sumOf (n + 8) K 195 [(6, .int (nI o)), (5, .int (manyN (dn I b) (othersOf (dn I b) N k) k o)), (4, .int (othersOf (dn I b) N k)), (0, (.ref b)), (1, .int (nI k)), (2, (.ref r))] [.int (strOf (dn I b) k), (.ref b), .int (8), ((.ref (b + 10)))] sh I (va_up L (b + 10) (va_up (va_up (va_up (va_up (va_up (va_up (va_up (va_up (L (b + 10)) 0 ((nI k).toInt64)) 1 ((I (b + 4) k).toInt64)) 2 ((I (b + 5) k).toInt64)) 3 ((I (b + 2) (ix (I (b + 4) k))).toInt64)) 4 ((I (b + 8) (ix (strOf (dn I b) k))).toInt64)) 5 1) 6 ((giveNow (dn I b) N k).toInt64)) 7 ((manyN (dn I b) (othersOf (dn I b) N k) k o).toInt64))) R 0 0
      refine e_iload dX1_sumOf_195 rfl ?_
      refine e_callVe (k2 := 0) (n2 := 0) (mc' := 0) (ms' := 0) (As := [.int (strOf (dn I b) k), .int (othersOf (dn I b) N k)]) dX1_sumOf_197 kv_X1_86 s0 rfl rfl (Nat.le_of_ble_eq_true rfl) (Nat.le_of_ble_eq_true rfl) (ct_pressOn b N (dn I b) rfl hD hok (strOf (dn I b) k) (othersOf (dn I b) N k)) ?_
      show Ex l mX1_sumOf (n + 8) K 200 [(6, .int (nI o)), (5, .int (manyN (dn I b) (othersOf (dn I b) N k) k o)), (4, .int (othersOf (dn I b) N k)), (0, (.ref b)), (1, .int (nI k)), (2, (.ref r))] [.int (pressN (dn I b) (strOf (dn I b) k) (othersOf (dn I b) N k) N), .int (8), ((.ref (b + 10)))] sh I (va_up L (b + 10) (va_up (va_up (va_up (va_up (va_up (va_up (va_up (va_up (L (b + 10)) 0 ((nI k).toInt64)) 1 ((I (b + 4) k).toInt64)) 2 ((I (b + 5) k).toInt64)) 3 ((I (b + 2) (ix (I (b + 4) k))).toInt64)) 4 ((I (b + 8) (ix (strOf (dn I b) k))).toInt64)) 5 1) 6 ((giveNow (dn I b) N k).toInt64)) 7 ((manyN (dn I b) (othersOf (dn I b) N k) k o).toInt64))) R 0 0
      refine e_i2l dX1_sumOf_200 ?_
      refine e_lastw (j := 8) (L' := (va_up L (b + 10) (va_up (va_up (va_up (va_up (va_up (va_up (va_up (va_up (va_up (L (b + 10)) 0 ((nI k).toInt64)) 1 ((I (b + 4) k).toInt64)) 2 ((I (b + 5) k).toInt64)) 3 ((I (b + 2) (ix (I (b + 4) k))).toInt64)) 4 ((I (b + 8) (ix (strOf (dn I b) k))).toInt64)) 5 1) 6 ((giveNow (dn I b) N k).toInt64)) 7 ((manyN (dn I b) (othersOf (dn I b) N k) k o).toInt64)) 8 ((pressN (dn I b) (strOf (dn I b) k) (othersOf (dn I b) N k) N).toInt64)))) dX1_sumOf_201 s10 (vp_in_nI (n := 8) (by omega) (by omega)) rfl exU_up ?_
      refine e_aload_n dX1_sumOf_202 rfl rfl rfl ?_
      refine e_getR (v := (.ref (b + 10))) dX1_sumOf_203 s0 kg_X1_39 rfl r16 ?_
      refine e_bipush (v := 9) dX1_sumOf_206 (by decide) ?_
      refine e_aload_n dX1_sumOf_208 rfl rfl rfl ?_
      refine e_iconst (v := 2) dX1_sumOf_209 (by decide) ?_
      refine e_callVe (k2 := 0) (n2 := 0) (mc' := 0) (ms' := 0) (As := [.int (2)]) dX1_sumOf_210 kv_X1_90 s0 rfl rfl (Nat.le_of_ble_eq_true rfl) (Nat.le_of_ble_eq_true rfl) (ct_onesThat b N (dn I b) rfl hD hok 2) ?_
      show Ex l mX1_sumOf (n + 8) K 213 [(6, .int (nI o)), (5, .int (manyN (dn I b) (othersOf (dn I b) N k) k o)), (4, .int (othersOf (dn I b) N k)), (0, (.ref b)), (1, .int (nI k)), (2, (.ref r))] [.int (onesN ((dn I b) 7) 2 N), .int (9), ((.ref (b + 10)))] sh I (va_up L (b + 10) (va_up (va_up (va_up (va_up (va_up (va_up (va_up (va_up (va_up (L (b + 10)) 0 ((nI k).toInt64)) 1 ((I (b + 4) k).toInt64)) 2 ((I (b + 5) k).toInt64)) 3 ((I (b + 2) (ix (I (b + 4) k))).toInt64)) 4 ((I (b + 8) (ix (strOf (dn I b) k))).toInt64)) 5 1) 6 ((giveNow (dn I b) N k).toInt64)) 7 ((manyN (dn I b) (othersOf (dn I b) N k) k o).toInt64)) 8 ((pressN (dn I b) (strOf (dn I b) k) (othersOf (dn I b) N k) N).toInt64))) R 0 0
      refine e_callSe (k2 := 0) (n2 := 0) (mc' := 0) (ms' := 0) (As := [.int (onesN ((dn I b) 7) 2 N)]) dX1_sumOf_213 ks_X1_102 rfl rfl (Nat.le_of_ble_eq_true rfl) (Nat.le_of_ble_eq_true rfl) (ct_bitCount (onesN ((dn I b) 7) 2 N)) ?_
      show Ex l mX1_sumOf (n + 8) K 216 [(6, .int (nI o)), (5, .int (manyN (dn I b) (othersOf (dn I b) N k) k o)), (4, .int (othersOf (dn I b) N k)), (0, (.ref b)), (1, .int (nI k)), (2, (.ref r))] [.int (bitC (onesN ((dn I b) 7) 2 N)), .int (9), ((.ref (b + 10)))] sh I (va_up L (b + 10) (va_up (va_up (va_up (va_up (va_up (va_up (va_up (va_up (va_up (L (b + 10)) 0 ((nI k).toInt64)) 1 ((I (b + 4) k).toInt64)) 2 ((I (b + 5) k).toInt64)) 3 ((I (b + 2) (ix (I (b + 4) k))).toInt64)) 4 ((I (b + 8) (ix (strOf (dn I b) k))).toInt64)) 5 1) 6 ((giveNow (dn I b) N k).toInt64)) 7 ((manyN (dn I b) (othersOf (dn I b) N k) k o).toInt64)) 8 ((pressN (dn I b) (strOf (dn I b) k) (othersOf (dn I b) N k) N).toInt64))) R 0 0
      refine e_i2l dX1_sumOf_216 ?_
      refine e_lastw (j := 9) (L' := (va_up L (b + 10) (va_up (va_up (va_up (va_up (va_up (va_up (va_up (va_up (va_up (va_up (L (b + 10)) 0 ((nI k).toInt64)) 1 ((I (b + 4) k).toInt64)) 2 ((I (b + 5) k).toInt64)) 3 ((I (b + 2) (ix (I (b + 4) k))).toInt64)) 4 ((I (b + 8) (ix (strOf (dn I b) k))).toInt64)) 5 1) 6 ((giveNow (dn I b) N k).toInt64)) 7 ((manyN (dn I b) (othersOf (dn I b) N k) k o).toInt64)) 8 ((pressN (dn I b) (strOf (dn I b) k) (othersOf (dn I b) N k) N).toInt64)) 9 ((bitC (onesN ((dn I b) 7) 2 N)).toInt64)))) dX1_sumOf_217 s10 (vp_in_nI (n := 9) (by omega) (by omega)) rfl exU_up ?_
      refine e_aload_n dX1_sumOf_218 rfl rfl rfl ?_
      refine e_getR (v := (.ref (b + 10))) dX1_sumOf_219 s0 kg_X1_39 rfl r16 ?_
      refine e_bipush (v := 10) dX1_sumOf_222 (by decide) ?_
      refine e_aload_n dX1_sumOf_224 rfl rfl rfl ?_
      refine e_getIv (v := I b 6) dX1_sumOf_225 s0 kg_X1_75 rfl rfl ?_
      refine e_i2l dX1_sumOf_228 ?_
      refine e_lastw (j := 10) (L' := (va_up L (b + 10) (va_up (va_up (va_up (va_up (va_up (va_up (va_up (va_up (va_up (va_up (va_up (L (b + 10)) 0 ((nI k).toInt64)) 1 ((I (b + 4) k).toInt64)) 2 ((I (b + 5) k).toInt64)) 3 ((I (b + 2) (ix (I (b + 4) k))).toInt64)) 4 ((I (b + 8) (ix (strOf (dn I b) k))).toInt64)) 5 1) 6 ((giveNow (dn I b) N k).toInt64)) 7 ((manyN (dn I b) (othersOf (dn I b) N k) k o).toInt64)) 8 ((pressN (dn I b) (strOf (dn I b) k) (othersOf (dn I b) N k) N).toInt64)) 9 ((bitC (onesN ((dn I b) 7) 2 N)).toInt64)) 10 ((I b 6).toInt64)))) dX1_sumOf_229 s10 (vp_in_nI (n := 10) (by omega) (by omega)) rfl exU_up ?_
      refine e_aload_n dX1_sumOf_230 rfl rfl rfl ?_
      refine e_aload_n dX1_sumOf_231 rfl rfl rfl ?_
      refine e_getR (v := (.ref (b + 10))) dX1_sumOf_232 s0 kg_X1_39 rfl r16 ?_
      refine e_callVe (k2 := 0) (n2 := 0) (mc' := 0) (ms' := 0) (As := [((.ref (b + 10)))]) dX1_sumOf_235 kv_X1_107 hr.1 rfl rfl (Nat.le_of_ble_eq_true rfl) (by omega) (ct_summed n r (b + 10) cl (isRu_kept (nodeS_L s10 (by decide) (fun j hj => va_up_ne _ _ hj)) hr) s10) ?_
      show Ex l mX1_sumOf (n + 8) K 238 [(6, .int (nI o)), (5, .int (manyN (dn I b) (othersOf (dn I b) N k) k o)), (4, .int (othersOf (dn I b) N k)), (0, (.ref b)), (1, .int (nI k)), (2, (.ref r))] [.long (ruleV ((va_up L (b + 10) (va_up (va_up (va_up (va_up (va_up (va_up (va_up (va_up (va_up (va_up (va_up (L (b + 10)) 0 ((nI k).toInt64)) 1 ((I (b + 4) k).toInt64)) 2 ((I (b + 5) k).toInt64)) 3 ((I (b + 2) (ix (I (b + 4) k))).toInt64)) 4 ((I (b + 8) (ix (strOf (dn I b) k))).toInt64)) 5 1) 6 ((giveNow (dn I b) N k).toInt64)) 7 ((manyN (dn I b) (othersOf (dn I b) N k) k o).toInt64)) 8 ((pressN (dn I b) (strOf (dn I b) k) (othersOf (dn I b) N k) N).toInt64)) 9 ((bitC (onesN ((dn I b) 7) 2 N)).toInt64)) 10 ((I b 6).toInt64))) (b + 10)) cl)] sh I (va_up L (b + 10) (va_up (va_up (va_up (va_up (va_up (va_up (va_up (va_up (va_up (va_up (va_up (L (b + 10)) 0 ((nI k).toInt64)) 1 ((I (b + 4) k).toInt64)) 2 ((I (b + 5) k).toInt64)) 3 ((I (b + 2) (ix (I (b + 4) k))).toInt64)) 4 ((I (b + 8) (ix (strOf (dn I b) k))).toInt64)) 5 1) 6 ((giveNow (dn I b) N k).toInt64)) 7 ((manyN (dn I b) (othersOf (dn I b) N k) k o).toInt64)) 8 ((pressN (dn I b) (strOf (dn I b) k) (othersOf (dn I b) N k) N).toInt64)) 9 ((bitC (onesN ((dn I b) 7) 2 N)).toInt64)) 10 ((I b 6).toInt64))) R 0 0
      refine e_lret dX1_sumOf_238 rfl ?_
      rw [hK]
      refine ⟨congrArg (fun z => some (some (Value.long z))) ?_, rfl, rfl, rfl, fun j hj => va_up_ne _ _ hj⟩
      rw [va_up_self]
      refine ruleV_cg (fun j hj => ?_) cl hcl
      match j, hj with
      | 0, _ => rfl
      | 1, _ => rfl
      | 2, _ => rfl
      | 3, _ => rfl
      | 4, _ => rfl
      | 5, _ => first | exact (if_pos c_151).symm | exact (if_neg c_151).symm
      | 6, _ => rfl
      | 7, _ => rw [hkN_o]; rfl
      | 8, _ => rfl
      | 9, _ => rfl
      | 10, _ => rfl
  · have hlt_o : o < N := by have := mt (ex_ge hN (by omega) (by omega)).mpr c_27; omega
    refine e_iload dX1_sumOf_30 rfl ?_
    refine e_iload dX1_sumOf_32 rfl ?_
    refine e_iload dX1_sumOf_34 rfl ?_
    refine e_callSe (k2 := 0) (n2 := 0) (mc' := 0) (ms' := 0) (As := [.int (othersOf (dn I b) N k), .int (nI o)]) dX1_sumOf_36 ks_X1_78 rfl rfl (Nat.le_of_ble_eq_true rfl) (Nat.le_of_ble_eq_true rfl) (ct_has (othersOf (dn I b) N k) (nI o)) ?_
    show Ex l mX1_sumOf (n + 8) K 39 [(6, .int (nI o)), (5, .int (manyN (dn I b) (othersOf (dn I b) N k) k o)), (4, .int (othersOf (dn I b) N k)), (0, (.ref b)), (1, .int (nI k)), (2, (.ref r))] [.int (bI (hasX (othersOf (dn I b) N k) (nI o))), .int (manyN (dn I b) (othersOf (dn I b) N k) k o)] sh I L R 0 0
    refine e_if_eq (tgt := 60) dX1_sumOf_39 (by decide) (fun c_39 => ?_) (fun c_39 => ?_)
    · have c_39 := bI_0.mp c_39
      refine e_iconst (v := 0) dX1_sumOf_60 (by decide) ?_
      refine e_iadd dX1_sumOf_61 ?_
      refine e_istore (ls' := [(5, .int ((manyN (dn I b) (othersOf (dn I b) N k) k o) + 0)), (6, .int (nI o)), (4, .int (othersOf (dn I b) N k)), (0, (.ref b)), (1, .int (nI k)), (2, (.ref r))]) dX1_sumOf_62 (Nat.le_of_ble_eq_true rfl) rfl ?_
      refine e_iinc (v := nI (o + 1)) (ls' := [(6, .int (nI (o + 1))), (5, .int ((manyN (dn I b) (othersOf (dn I b) N k) k o) + 0)), (4, .int (othersOf (dn I b) N k)), (0, (.ref b)), (1, .int (nI k)), (2, (.ref r))]) dX1_sumOf_64 rfl (nI_1 _) (Nat.le_of_ble_eq_true rfl) rfl ?_
      refine e_goto (tgt := 21) dX1_sumOf_67 (by decide) ?_
      refine e_pick (ls' := [(6, .int (nI (o + 1))), (5, .int ((manyN (dn I b) (othersOf (dn I b) N k) k o) + 0)), (4, .int (othersOf (dn I b) N k)), (0, (.ref b)), (1, .int (nI k)), (2, (.ref r))]) [0, 1, 2, 3, 4, 5] rfl ?_
      have eq_5 : (manyN (dn I b) (othersOf (dn I b) N k) k o) + 0 = manyN (dn I b) (othersOf (dn I b) N k) k (o + 1) := (by first | (rw [manyN, if_pos ⟨c_39, c_53⟩]; done) | (rw [manyN, if_neg (fun h => c_39 h.1)]; done) | (rw [manyN, if_neg (fun h => c_53 h.2)]; done))
      rw [eq_5]
      exact ih hlt_o
    · have c_39 := bI_n.mp c_39
      refine e_aload_n dX1_sumOf_42 rfl rfl rfl ?_
      refine e_iload dX1_sumOf_43 rfl ?_
      refine e_callVe (k2 := 0) (n2 := 0) (mc' := 0) (ms' := 0) (As := [.int (nI o)]) dX1_sumOf_45 kv_X1_82 s0 rfl rfl (Nat.le_of_ble_eq_true rfl) (Nat.le_of_ble_eq_true rfl) (ct_strandOf b N (dn I b) rfl hD hok o (by omega)) ?_
      show Ex l mX1_sumOf (n + 8) K 48 [(6, .int (nI o)), (5, .int (manyN (dn I b) (othersOf (dn I b) N k) k o)), (4, .int (othersOf (dn I b) N k)), (0, (.ref b)), (1, .int (nI k)), (2, (.ref r))] [.int (strOf (dn I b) o), .int (manyN (dn I b) (othersOf (dn I b) N k) k o)] sh I L R 0 0
      refine e_aload_n dX1_sumOf_48 rfl rfl rfl ?_
      refine e_iload_n dX1_sumOf_49 rfl rfl ?_
      refine e_callVe (k2 := 0) (n2 := 0) (mc' := 0) (ms' := 0) (As := [.int (nI k)]) dX1_sumOf_50 kv_X1_82 s0 rfl rfl (Nat.le_of_ble_eq_true rfl) (Nat.le_of_ble_eq_true rfl) (ct_strandOf b N (dn I b) rfl hD hok k (by omega)) ?_
      show Ex l mX1_sumOf (n + 8) K 53 [(6, .int (nI o)), (5, .int (manyN (dn I b) (othersOf (dn I b) N k) k o)), (4, .int (othersOf (dn I b) N k)), (0, (.ref b)), (1, .int (nI k)), (2, (.ref r))] [.int (strOf (dn I b) k), .int (strOf (dn I b) o), .int (manyN (dn I b) (othersOf (dn I b) N k) k o)] sh I L R 0 0
      refine e_icmp_ne (tgt := 60) dX1_sumOf_53 (by decide) (fun c_53 => ?_) (fun c_53 => ?_)
      · refine e_iconst (v := 0) dX1_sumOf_60 (by decide) ?_
        refine e_iadd dX1_sumOf_61 ?_
        refine e_istore (ls' := [(5, .int ((manyN (dn I b) (othersOf (dn I b) N k) k o) + 0)), (6, .int (nI o)), (4, .int (othersOf (dn I b) N k)), (0, (.ref b)), (1, .int (nI k)), (2, (.ref r))]) dX1_sumOf_62 (Nat.le_of_ble_eq_true rfl) rfl ?_
        refine e_iinc (v := nI (o + 1)) (ls' := [(6, .int (nI (o + 1))), (5, .int ((manyN (dn I b) (othersOf (dn I b) N k) k o) + 0)), (4, .int (othersOf (dn I b) N k)), (0, (.ref b)), (1, .int (nI k)), (2, (.ref r))]) dX1_sumOf_64 rfl (nI_1 _) (Nat.le_of_ble_eq_true rfl) rfl ?_
        refine e_goto (tgt := 21) dX1_sumOf_67 (by decide) ?_
        refine e_pick (ls' := [(6, .int (nI (o + 1))), (5, .int ((manyN (dn I b) (othersOf (dn I b) N k) k o) + 0)), (4, .int (othersOf (dn I b) N k)), (0, (.ref b)), (1, .int (nI k)), (2, (.ref r))]) [0, 1, 2, 3, 4, 5] rfl ?_
        have eq_5 : (manyN (dn I b) (othersOf (dn I b) N k) k o) + 0 = manyN (dn I b) (othersOf (dn I b) N k) k (o + 1) := (by first | (rw [manyN, if_pos ⟨c_39, c_53⟩]; done) | (rw [manyN, if_neg (fun h => c_39 h.1)]; done) | (rw [manyN, if_neg (fun h => c_53 h.2)]; done))
        rw [eq_5]
        exact ih hlt_o
      · refine e_iconst (v := 1) dX1_sumOf_56 (by decide) ?_
        refine e_goto (tgt := 61) dX1_sumOf_57 (by decide) ?_
        refine e_iadd dX1_sumOf_61 ?_
        refine e_istore (ls' := [(5, .int ((manyN (dn I b) (othersOf (dn I b) N k) k o) + 1)), (6, .int (nI o)), (4, .int (othersOf (dn I b) N k)), (0, (.ref b)), (1, .int (nI k)), (2, (.ref r))]) dX1_sumOf_62 (Nat.le_of_ble_eq_true rfl) rfl ?_
        refine e_iinc (v := nI (o + 1)) (ls' := [(6, .int (nI (o + 1))), (5, .int ((manyN (dn I b) (othersOf (dn I b) N k) k o) + 1)), (4, .int (othersOf (dn I b) N k)), (0, (.ref b)), (1, .int (nI k)), (2, (.ref r))]) dX1_sumOf_64 rfl (nI_1 _) (Nat.le_of_ble_eq_true rfl) rfl ?_
        refine e_goto (tgt := 21) dX1_sumOf_67 (by decide) ?_
        refine e_pick (ls' := [(6, .int (nI (o + 1))), (5, .int ((manyN (dn I b) (othersOf (dn I b) N k) k o) + 1)), (4, .int (othersOf (dn I b) N k)), (0, (.ref b)), (1, .int (nI k)), (2, (.ref r))]) [0, 1, 2, 3, 4, 5] rfl ?_
        have eq_5 : (manyN (dn I b) (othersOf (dn I b) N k) k o) + 1 = manyN (dn I b) (othersOf (dn I b) N k) k (o + 1) := (by first | (rw [manyN, if_pos ⟨c_39, c_53⟩]; done) | (rw [manyN, if_neg (fun h => c_39 h.1)]; done) | (rw [manyN, if_neg (fun h => c_53 h.2)]; done))
        rw [eq_5]
        exact ih hlt_o
set_option maxRecDepth 100000 in
set_option maxHeartbeats 4000000 in
theorem ct_passes0 {l : Launch} {sh : ExSh} {I : ExI} {L : ExL} {R : ExR} (b N : Nat) (D : Nat → Nat → Int32) (hd : dn I b = D) (hD : isD sh R b) (hok : okD D N) (n : Nat) : Ct l (ws_ yX1_passes cX1_passes 3 (some .int)) yX1_passes (n + 9) 0 0 [(.ref b), .null] sh I L R (kLw (b + 10) (some (some (.int (passV D N none)))) sh (passI I b N none) L R) := by
  subst hd
  obtain ⟨s0, s1, s2, s3, s4, s5, s6, s7, s8, s9, s10, s11, r7, r8, r9, r10, r11, r12, r13, r14, r15, r16, r17⟩ := id hD
  obtain ⟨hN0, h8, hch0, hst0, hw0⟩ := id hok
  have hN : I b 2 = nI N := hN0
  have hch : ∀ k, k < 8 → vp_in (I (b + 4) k) 8 := hch0
  have hst : ∀ c, c < 8 → vp_in (I (b + 3) c) 4 := hst0
  refine Ct.of (own := "ChairCane$Dinner") (nm := "passes") rfl rfl rfl (Nat.le_of_ble_eq_true rfl) ?_
  obtain ⟨K, hK⟩ : ∃ K : ExK, K = kLw (b + 10) (some (some (.int (passV (dn I b) N none)))) sh (passI I b N none) L R := ⟨_, rfl⟩
  rw [← hK]
  show Ex l mX1_passes (n + 9) K 0 [(0, (.ref b)), (1, .null)] [] sh I L R 0 0
  refine e_iconst (v := 0) dX1_passes_0 (by decide) ?_
  refine e_istore_n (ls' := [(2, .int (0)), (0, (.ref b)), (1, .null)]) dX1_passes_1 rfl (Nat.le_of_ble_eq_true rfl) rfl ?_
  have hL0 : ∀ j, j ≠ b + 10 → L j = L j := fun _ _ => rfl
  refine e_pick (ls' := [(2, .int (0)), (0, (.ref b)), (1, .null)]) [0, 1, 2] rfl ?_
  refine e_memI (show I = (va_up I (b + 7) (passN (dn I b) N none 0)) from (va_up_idr rfl).symm) ?_
  refine ex_up (P := fun k => ∀ L2 : ExL, (∀ j, j ≠ b + 10 → L2 j = L j) → Ex l mX1_passes (n + 9) K 2 [(2, .int (nI k)), (0, (.ref b)), (1, .null)] [] sh (va_up I (b + 7) (passN (dn I b) N none k)) L2 R 0 0) N (fun k hk ih L2 hL2 => ?_) 0 (Nat.zero_le _) L hL0
  refine e_iload_n dX1_passes_2 rfl rfl ?_
  refine e_aload_n dX1_passes_3 rfl rfl rfl ?_
  refine e_getIv (v := I b 2) dX1_passes_4 s0 kg_X1_53 rfl (by rw [va_up_ne _ _ (by omega)]) ?_
  refine e_icmp_ge (tgt := 80) dX1_passes_7 (by decide) (fun c_7 => ?_) (fun c_7 => ?_)
  · have hkN : k = N := by have := (ex_ge hN (by omega) (by omega)).mp c_7; omega
    refine e_aload_n dX1_passes_80 rfl rfl rfl ?_
    refine e_dup dX1_passes_81 rfl ?_
    refine e_getIv (v := I b 6) dX1_passes_82 s0 kg_X1_75 rfl (by rw [va_up_ne _ _ (by omega)]) ?_
    refine e_iconst (v := 1) dX1_passes_85 (by decide) ?_
    refine e_iadd dX1_passes_86 ?_
    refine e_putIw (I' := (va_up (va_up I (b + 7) (passN (dn I b) N none k)) b (va_up (I b) 6 ((I b 6) + 1)))) dX1_passes_87 s0 kp_X1_75 (fun h => nomatch h) rfl rfl rfl (exU_rw (by rw [va_up_ne _ _ (by omega)])) ?_
    refine e_aload_n dX1_passes_90 rfl rfl rfl ?_
    refine e_callVe (k2 := 0) (n2 := 0) (mc' := 0) (ms' := 0) (As := []) dX1_passes_91 kv_X1_117 s0 rfl rfl (Nat.le_of_ble_eq_true rfl) (Nat.le_of_ble_eq_true rfl) (ct_settled b N (va_up (va_up (dn I b) 7 (passN (dn I b) N none k)) 0 (va_up (I b) 6 ((I b 6) + 1))) (by rw [dn_up0, dn_up]) hD (okD_0 (okD_up (j := 7) hok (by decide) (by decide) (by decide) (by decide)) (by repeat (first | rfl | rw [va_up_ne _ _ (by decide)])))) ?_
    show Ex l mX1_passes (n + 9) K 94 [(2, .int (nI k)), (0, (.ref b)), (1, .null)] [.int ((settle (va_up (va_up (dn I b) 7 (passN (dn I b) N none k)) 0 (va_up (I b) 6 ((I b 6) + 1))) N).1)] sh (va_up (va_up (va_up I (b + 7) (passN (dn I b) N none k)) b (va_up (I b) 6 ((I b 6) + 1))) (b + 7) ((settle (va_up (va_up (dn I b) 7 (passN (dn I b) N none k)) 0 (va_up (I b) 6 ((I b 6) + 1))) N).2)) L2 R 0 0
    refine e_iret dX1_passes_94 rfl ?_
    rw [hK, hkN]
    exact ⟨rfl, rfl, rfl, rfl, hL2⟩
  · have hlt : k < N := by have := mt (ex_ge hN (by omega) (by omega)).mpr c_7; omega
    refine e_aload_n dX1_passes_10 rfl rfl rfl ?_
    refine e_getR (v := (.ref (b + 7))) dX1_passes_11 s0 kg_X1_30 rfl r13 ?_
    refine e_iload_n dX1_passes_14 rfl rfl ?_
    refine e_ialdv (j := k) (v := (passN (dn I b) N none k) k) dX1_passes_15 s7 (vp_in_nI (by omega) (by omega)) (nI_clamp (by omega)) (by rw [va_up_self]) ?_
    refine e_iconst (v := 2) dX1_passes_16 (by decide) ?_
    refine e_icmp_ne (tgt := 23) dX1_passes_17 (by decide) (fun c_17 => ?_) (fun c_17 => ?_)
    · refine e_aload_n dX1_passes_23 rfl rfl rfl ?_
      refine e_getR (v := (.ref (b + 11))) dX1_passes_24 s0 kg_X1_43 rfl r17 ?_
      refine e_iload_n dX1_passes_27 rfl rfl ?_
      refine e_ialdv (j := k) (v := I (b + 11) k) dX1_passes_28 s11 (vp_in_nI (by omega) (by omega)) (nI_clamp (by omega)) (by rw [va_up_ne _ _ (by omega)]) ?_
      refine e_iconst (v := (-1)) dX1_passes_29 (by decide) ?_
      refine e_icmp_eq (tgt := 48) dX1_passes_30 (by decide) (fun c_30 => ?_) (fun c_30 => ?_)
      · refine e_aload_n dX1_passes_48 rfl rfl rfl ?_
        refine e_ifnull (tgt := 74) dX1_passes_49 (by decide) rfl (fun c_49 => ?_) (fun c_49 => ?_)
        rotate_left
        · exact ((c_49 rfl)).elim
        refine e_iinc (v := nI (k + 1)) (ls' := [(2, .int (nI (k + 1))), (0, (.ref b)), (1, .null)]) dX1_passes_74 rfl (nI_1 _) (Nat.le_of_ble_eq_true rfl) rfl ?_
        refine e_goto (tgt := 2) dX1_passes_77 (by decide) ?_
        refine e_pick (ls' := [(2, .int (nI (k + 1))), (0, (.ref b)), (1, .null)]) [0, 1, 2] rfl ?_
        refine e_memI (show (va_up I (b + 7) (passN (dn I b) N none k)) = (va_up I (b + 7) (passN (dn I b) N none (k + 1))) from (by first | (rw [passN, if_pos c_17]; done) | (rw [passN, if_neg c_17, if_neg c_30]; done) | (rw [passN, if_neg c_17, if_pos c_30]; done) | (rw [passN, if_neg c_17, if_pos c_30]; exact congrArg (fun z => va_up I (b + 7) (va_up (passN (dn I b) N none k) k z)) (if_pos c_65).symm) | (rw [passN, if_neg c_17, if_pos c_30]; exact congrArg (fun z => va_up I (b + 7) (va_up (passN (dn I b) N none k) k z)) (if_neg c_65).symm))) ?_
        exact ih hlt L2 hL2
      · refine e_aload_n dX1_passes_33 rfl rfl rfl ?_
        refine e_getR (v := (.ref (b + 7))) dX1_passes_34 s0 kg_X1_30 rfl r13 ?_
        refine e_iload_n dX1_passes_37 rfl rfl ?_
        refine e_aload_n dX1_passes_38 rfl rfl rfl ?_
        refine e_getR (v := (.ref (b + 11))) dX1_passes_39 s0 kg_X1_43 rfl r17 ?_
        refine e_iload_n dX1_passes_42 rfl rfl ?_
        refine e_ialdv (j := k) (v := I (b + 11) k) dX1_passes_43 s11 (vp_in_nI (by omega) (by omega)) (nI_clamp (by omega)) (by rw [va_up_ne _ _ (by omega)]) ?_
        refine e_iastw (j := k) (I' := (va_up I (b + 7) (va_up (passN (dn I b) N none k) k (I (b + 11) k)))) dX1_passes_44 s7 (vp_in_nI (by omega) (by omega)) (nI_clamp (by omega)) exU_up ?_
        refine e_goto (tgt := 74) dX1_passes_45 (by decide) ?_
        refine e_iinc (v := nI (k + 1)) (ls' := [(2, .int (nI (k + 1))), (0, (.ref b)), (1, .null)]) dX1_passes_74 rfl (nI_1 _) (Nat.le_of_ble_eq_true rfl) rfl ?_
        refine e_goto (tgt := 2) dX1_passes_77 (by decide) ?_
        refine e_pick (ls' := [(2, .int (nI (k + 1))), (0, (.ref b)), (1, .null)]) [0, 1, 2] rfl ?_
        refine e_memI (show (va_up I (b + 7) (va_up (passN (dn I b) N none k) k (I (b + 11) k))) = (va_up I (b + 7) (passN (dn I b) N none (k + 1))) from (by first | (rw [passN, if_pos c_17]; done) | (rw [passN, if_neg c_17, if_neg c_30]; done) | (rw [passN, if_neg c_17, if_pos c_30]; done) | (rw [passN, if_neg c_17, if_pos c_30]; exact congrArg (fun z => va_up I (b + 7) (va_up (passN (dn I b) N none k) k z)) (if_pos c_65).symm) | (rw [passN, if_neg c_17, if_pos c_30]; exact congrArg (fun z => va_up I (b + 7) (va_up (passN (dn I b) N none k) k z)) (if_neg c_65).symm))) ?_
        exact ih hlt L2 hL2
    · refine e_goto (tgt := 74) dX1_passes_20 (by decide) ?_
      refine e_iinc (v := nI (k + 1)) (ls' := [(2, .int (nI (k + 1))), (0, (.ref b)), (1, .null)]) dX1_passes_74 rfl (nI_1 _) (Nat.le_of_ble_eq_true rfl) rfl ?_
      refine e_goto (tgt := 2) dX1_passes_77 (by decide) ?_
      refine e_pick (ls' := [(2, .int (nI (k + 1))), (0, (.ref b)), (1, .null)]) [0, 1, 2] rfl ?_
      refine e_memI (show (va_up I (b + 7) (passN (dn I b) N none k)) = (va_up I (b + 7) (passN (dn I b) N none (k + 1))) from (by first | (rw [passN, if_pos c_17]; done) | (rw [passN, if_neg c_17, if_neg c_30]; done) | (rw [passN, if_neg c_17, if_pos c_30]; done) | (rw [passN, if_neg c_17, if_pos c_30]; exact congrArg (fun z => va_up I (b + 7) (va_up (passN (dn I b) N none k) k z)) (if_pos c_65).symm) | (rw [passN, if_neg c_17, if_pos c_30]; exact congrArg (fun z => va_up I (b + 7) (va_up (passN (dn I b) N none k) k z)) (if_neg c_65).symm))) ?_
      exact ih hlt L2 hL2
set_option maxRecDepth 100000 in
set_option maxHeartbeats 4000000 in
theorem ct_passes1 {l : Launch} {sh : ExSh} {I : ExI} {L : ExL} {R : ExR} (b N : Nat) (D : Nat → Nat → Int32) (hd : dn I b = D) (hD : isD sh R b) (hok : okD D N) (n r : Nat) (cl : Rul) (hr : isRu sh I L R n r cl) (hcl : okR cl) : Ct l (ws_ yX1_passes cX1_passes 3 (some .int)) yX1_passes (n + 9) 0 0 [(.ref b), (.ref r)] sh I L R (kLw (b + 10) (some (some (.int (passV D N (some cl))))) sh (passI I b N (some cl)) L R) := by
  subst hd
  obtain ⟨s0, s1, s2, s3, s4, s5, s6, s7, s8, s9, s10, s11, r7, r8, r9, r10, r11, r12, r13, r14, r15, r16, r17⟩ := id hD
  obtain ⟨hN0, h8, hch0, hst0, hw0⟩ := id hok
  have hN : I b 2 = nI N := hN0
  have hch : ∀ k, k < 8 → vp_in (I (b + 4) k) 8 := hch0
  have hst : ∀ c, c < 8 → vp_in (I (b + 3) c) 4 := hst0
  refine Ct.of (own := "ChairCane$Dinner") (nm := "passes") rfl rfl rfl (Nat.le_of_ble_eq_true rfl) ?_
  obtain ⟨K, hK⟩ : ∃ K : ExK, K = kLw (b + 10) (some (some (.int (passV (dn I b) N (some cl))))) sh (passI I b N (some cl)) L R := ⟨_, rfl⟩
  rw [← hK]
  show Ex l mX1_passes (n + 9) K 0 [(0, (.ref b)), (1, (.ref r))] [] sh I L R 0 0
  refine e_iconst (v := 0) dX1_passes_0 (by decide) ?_
  refine e_istore_n (ls' := [(2, .int (0)), (0, (.ref b)), (1, (.ref r))]) dX1_passes_1 rfl (Nat.le_of_ble_eq_true rfl) rfl ?_
  have hL0 : ∀ j, j ≠ b + 10 → L j = L j := fun _ _ => rfl
  refine e_pick (ls' := [(2, .int (0)), (0, (.ref b)), (1, (.ref r))]) [0, 1, 2] rfl ?_
  refine e_memI (show I = (va_up I (b + 7) (passN (dn I b) N (some cl) 0)) from (va_up_idr rfl).symm) ?_
  refine ex_up (P := fun k => ∀ L2 : ExL, (∀ j, j ≠ b + 10 → L2 j = L j) → Ex l mX1_passes (n + 9) K 2 [(2, .int (nI k)), (0, (.ref b)), (1, (.ref r))] [] sh (va_up I (b + 7) (passN (dn I b) N (some cl) k)) L2 R 0 0) N (fun k hk ih L2 hL2 => ?_) 0 (Nat.zero_le _) L hL0
  refine e_iload_n dX1_passes_2 rfl rfl ?_
  refine e_aload_n dX1_passes_3 rfl rfl rfl ?_
  refine e_getIv (v := I b 2) dX1_passes_4 s0 kg_X1_53 rfl (by rw [va_up_ne _ _ (by omega)]) ?_
  refine e_icmp_ge (tgt := 80) dX1_passes_7 (by decide) (fun c_7 => ?_) (fun c_7 => ?_)
  · have hkN : k = N := by have := (ex_ge hN (by omega) (by omega)).mp c_7; omega
    refine e_aload_n dX1_passes_80 rfl rfl rfl ?_
    refine e_dup dX1_passes_81 rfl ?_
    refine e_getIv (v := I b 6) dX1_passes_82 s0 kg_X1_75 rfl (by rw [va_up_ne _ _ (by omega)]) ?_
    refine e_iconst (v := 1) dX1_passes_85 (by decide) ?_
    refine e_iadd dX1_passes_86 ?_
    refine e_putIw (I' := (va_up (va_up I (b + 7) (passN (dn I b) N (some cl) k)) b (va_up (I b) 6 ((I b 6) + 1)))) dX1_passes_87 s0 kp_X1_75 (fun h => nomatch h) rfl rfl rfl (exU_rw (by rw [va_up_ne _ _ (by omega)])) ?_
    refine e_aload_n dX1_passes_90 rfl rfl rfl ?_
    refine e_callVe (k2 := 0) (n2 := 0) (mc' := 0) (ms' := 0) (As := []) dX1_passes_91 kv_X1_117 s0 rfl rfl (Nat.le_of_ble_eq_true rfl) (Nat.le_of_ble_eq_true rfl) (ct_settled b N (va_up (va_up (dn I b) 7 (passN (dn I b) N (some cl) k)) 0 (va_up (I b) 6 ((I b 6) + 1))) (by rw [dn_up0, dn_up]) hD (okD_0 (okD_up (j := 7) hok (by decide) (by decide) (by decide) (by decide)) (by repeat (first | rfl | rw [va_up_ne _ _ (by decide)])))) ?_
    show Ex l mX1_passes (n + 9) K 94 [(2, .int (nI k)), (0, (.ref b)), (1, (.ref r))] [.int ((settle (va_up (va_up (dn I b) 7 (passN (dn I b) N (some cl) k)) 0 (va_up (I b) 6 ((I b 6) + 1))) N).1)] sh (va_up (va_up (va_up I (b + 7) (passN (dn I b) N (some cl) k)) b (va_up (I b) 6 ((I b 6) + 1))) (b + 7) ((settle (va_up (va_up (dn I b) 7 (passN (dn I b) N (some cl) k)) 0 (va_up (I b) 6 ((I b 6) + 1))) N).2)) L2 R 0 0
    refine e_iret dX1_passes_94 rfl ?_
    rw [hK, hkN]
    exact ⟨rfl, rfl, rfl, rfl, hL2⟩
  · have hlt : k < N := by have := mt (ex_ge hN (by omega) (by omega)).mpr c_7; omega
    refine e_aload_n dX1_passes_10 rfl rfl rfl ?_
    refine e_getR (v := (.ref (b + 7))) dX1_passes_11 s0 kg_X1_30 rfl r13 ?_
    refine e_iload_n dX1_passes_14 rfl rfl ?_
    refine e_ialdv (j := k) (v := (passN (dn I b) N (some cl) k) k) dX1_passes_15 s7 (vp_in_nI (by omega) (by omega)) (nI_clamp (by omega)) (by rw [va_up_self]) ?_
    refine e_iconst (v := 2) dX1_passes_16 (by decide) ?_
    refine e_icmp_ne (tgt := 23) dX1_passes_17 (by decide) (fun c_17 => ?_) (fun c_17 => ?_)
    · refine e_aload_n dX1_passes_23 rfl rfl rfl ?_
      refine e_getR (v := (.ref (b + 11))) dX1_passes_24 s0 kg_X1_43 rfl r17 ?_
      refine e_iload_n dX1_passes_27 rfl rfl ?_
      refine e_ialdv (j := k) (v := I (b + 11) k) dX1_passes_28 s11 (vp_in_nI (by omega) (by omega)) (nI_clamp (by omega)) (by rw [va_up_ne _ _ (by omega)]) ?_
      refine e_iconst (v := (-1)) dX1_passes_29 (by decide) ?_
      refine e_icmp_eq (tgt := 48) dX1_passes_30 (by decide) (fun c_30 => ?_) (fun c_30 => ?_)
      · refine e_aload_n dX1_passes_48 rfl rfl rfl ?_
        refine e_ifnull (tgt := 74) dX1_passes_49 (by decide) rfl (fun c_49 => ?_) (fun c_49 => ?_)
        · exact ((show False from by cases c_49)).elim
        refine e_aload_n dX1_passes_52 rfl rfl rfl ?_
        refine e_getR (v := (.ref (b + 7))) dX1_passes_53 s0 kg_X1_30 rfl r13 ?_
        refine e_iload_n dX1_passes_56 rfl rfl ?_
        refine e_aload_n dX1_passes_57 rfl rfl rfl ?_
        refine e_iload_n dX1_passes_58 rfl rfl ?_
        refine e_aload_n dX1_passes_59 rfl rfl rfl ?_
        refine e_callV (k2 := 0) (n2 := 0) (mc' := 0) (ms' := 0) (As := [.int (nI k), .ref r]) dX1_passes_60 kv_X1_113 s0 rfl rfl (Nat.le_of_ble_eq_true rfl) (by omega) (ct_sumOf b N (va_up (dn I b) 7 (passN (dn I b) N (some cl) k)) (by rw [dn_up]) hD (okD_up (j := 7) hok (by decide) (by decide) (by decide) (by decide)) k n r cl hlt (isRu_kept (nodeS_tr (nodeS_I s7 (by decide)) (nodeS_L s10 (by decide) hL2)) hr) hcl) (fun v sh' I' L3 R' hh => ?_) (Or.inr kLw_x)
        obtain ⟨hv, h1, h2, h3, hL3⟩ := hh
        cases hv
        have h1 := h1.symm; have h2 := h2.symm; have h3 := h3.symm; subst h1; subst h2; subst h3
        show Ex l mX1_passes (n + 9) K 63 [(2, .int (nI k)), (0, (.ref b)), (1, (.ref r))] [.long (ruleV (wordsF (va_up (dn I b) 7 (passN (dn I b) N (some cl) k)) N k) cl), .int (nI k), ((.ref (b + 7)))] sh (va_up I (b + 7) (passN (dn I b) N (some cl) k)) L3 R 0 0
        refine e_lconst (v := 0) dX1_passes_63 (by decide) ?_
        refine e_lcmp dX1_passes_64 ?_
        refine e_if_le (tgt := 72) dX1_passes_65 (by decide) (fun c_65 => ?_) (fun c_65 => ?_)
        · have c_65 := Int64.not_lt.mpr (lgc_le.mp c_65)
          refine e_iconst (v := 0) dX1_passes_72 (by decide) ?_
          refine e_iastw (j := k) (I' := (va_up I (b + 7) (va_up (passN (dn I b) N (some cl) k) k 0))) dX1_passes_73 s7 (vp_in_nI (by omega) (by omega)) (nI_clamp (by omega)) exU_up ?_
          refine e_iinc (v := nI (k + 1)) (ls' := [(2, .int (nI (k + 1))), (0, (.ref b)), (1, (.ref r))]) dX1_passes_74 rfl (nI_1 _) (Nat.le_of_ble_eq_true rfl) rfl ?_
          refine e_goto (tgt := 2) dX1_passes_77 (by decide) ?_
          refine e_pick (ls' := [(2, .int (nI (k + 1))), (0, (.ref b)), (1, (.ref r))]) [0, 1, 2] rfl ?_
          refine e_memI (show (va_up I (b + 7) (va_up (passN (dn I b) N (some cl) k) k 0)) = (va_up I (b + 7) (passN (dn I b) N (some cl) (k + 1))) from (by first | (rw [passN, if_pos c_17]; done) | (rw [passN, if_neg c_17, if_neg c_30]; done) | (rw [passN, if_neg c_17, if_pos c_30]; done) | (rw [passN, if_neg c_17, if_pos c_30]; exact congrArg (fun z => va_up I (b + 7) (va_up (passN (dn I b) N (some cl) k) k z)) (if_pos c_65).symm) | (rw [passN, if_neg c_17, if_pos c_30]; exact congrArg (fun z => va_up I (b + 7) (va_up (passN (dn I b) N (some cl) k) k z)) (if_neg c_65).symm))) ?_
          exact ih hlt L3 (fun j hj => (hL3 j hj).trans (hL2 j hj))
        · have c_65 := Int64.not_le.mp (mt lgc_le.mpr c_65)
          refine e_iconst (v := 1) dX1_passes_68 (by decide) ?_
          refine e_goto (tgt := 73) dX1_passes_69 (by decide) ?_
          refine e_iastw (j := k) (I' := (va_up I (b + 7) (va_up (passN (dn I b) N (some cl) k) k 1))) dX1_passes_73 s7 (vp_in_nI (by omega) (by omega)) (nI_clamp (by omega)) exU_up ?_
          refine e_iinc (v := nI (k + 1)) (ls' := [(2, .int (nI (k + 1))), (0, (.ref b)), (1, (.ref r))]) dX1_passes_74 rfl (nI_1 _) (Nat.le_of_ble_eq_true rfl) rfl ?_
          refine e_goto (tgt := 2) dX1_passes_77 (by decide) ?_
          refine e_pick (ls' := [(2, .int (nI (k + 1))), (0, (.ref b)), (1, (.ref r))]) [0, 1, 2] rfl ?_
          refine e_memI (show (va_up I (b + 7) (va_up (passN (dn I b) N (some cl) k) k 1)) = (va_up I (b + 7) (passN (dn I b) N (some cl) (k + 1))) from (by first | (rw [passN, if_pos c_17]; done) | (rw [passN, if_neg c_17, if_neg c_30]; done) | (rw [passN, if_neg c_17, if_pos c_30]; done) | (rw [passN, if_neg c_17, if_pos c_30]; exact congrArg (fun z => va_up I (b + 7) (va_up (passN (dn I b) N (some cl) k) k z)) (if_pos c_65).symm) | (rw [passN, if_neg c_17, if_pos c_30]; exact congrArg (fun z => va_up I (b + 7) (va_up (passN (dn I b) N (some cl) k) k z)) (if_neg c_65).symm))) ?_
          exact ih hlt L3 (fun j hj => (hL3 j hj).trans (hL2 j hj))
      · refine e_aload_n dX1_passes_33 rfl rfl rfl ?_
        refine e_getR (v := (.ref (b + 7))) dX1_passes_34 s0 kg_X1_30 rfl r13 ?_
        refine e_iload_n dX1_passes_37 rfl rfl ?_
        refine e_aload_n dX1_passes_38 rfl rfl rfl ?_
        refine e_getR (v := (.ref (b + 11))) dX1_passes_39 s0 kg_X1_43 rfl r17 ?_
        refine e_iload_n dX1_passes_42 rfl rfl ?_
        refine e_ialdv (j := k) (v := I (b + 11) k) dX1_passes_43 s11 (vp_in_nI (by omega) (by omega)) (nI_clamp (by omega)) (by rw [va_up_ne _ _ (by omega)]) ?_
        refine e_iastw (j := k) (I' := (va_up I (b + 7) (va_up (passN (dn I b) N (some cl) k) k (I (b + 11) k)))) dX1_passes_44 s7 (vp_in_nI (by omega) (by omega)) (nI_clamp (by omega)) exU_up ?_
        refine e_goto (tgt := 74) dX1_passes_45 (by decide) ?_
        refine e_iinc (v := nI (k + 1)) (ls' := [(2, .int (nI (k + 1))), (0, (.ref b)), (1, (.ref r))]) dX1_passes_74 rfl (nI_1 _) (Nat.le_of_ble_eq_true rfl) rfl ?_
        refine e_goto (tgt := 2) dX1_passes_77 (by decide) ?_
        refine e_pick (ls' := [(2, .int (nI (k + 1))), (0, (.ref b)), (1, (.ref r))]) [0, 1, 2] rfl ?_
        refine e_memI (show (va_up I (b + 7) (va_up (passN (dn I b) N (some cl) k) k (I (b + 11) k))) = (va_up I (b + 7) (passN (dn I b) N (some cl) (k + 1))) from (by first | (rw [passN, if_pos c_17]; done) | (rw [passN, if_neg c_17, if_neg c_30]; done) | (rw [passN, if_neg c_17, if_pos c_30]; done) | (rw [passN, if_neg c_17, if_pos c_30]; exact congrArg (fun z => va_up I (b + 7) (va_up (passN (dn I b) N (some cl) k) k z)) (if_pos c_65).symm) | (rw [passN, if_neg c_17, if_pos c_30]; exact congrArg (fun z => va_up I (b + 7) (va_up (passN (dn I b) N (some cl) k) k z)) (if_neg c_65).symm))) ?_
        exact ih hlt L2 hL2
    · refine e_goto (tgt := 74) dX1_passes_20 (by decide) ?_
      refine e_iinc (v := nI (k + 1)) (ls' := [(2, .int (nI (k + 1))), (0, (.ref b)), (1, (.ref r))]) dX1_passes_74 rfl (nI_1 _) (Nat.le_of_ble_eq_true rfl) rfl ?_
      refine e_goto (tgt := 2) dX1_passes_77 (by decide) ?_
      refine e_pick (ls' := [(2, .int (nI (k + 1))), (0, (.ref b)), (1, (.ref r))]) [0, 1, 2] rfl ?_
      refine e_memI (show (va_up I (b + 7) (passN (dn I b) N (some cl) k)) = (va_up I (b + 7) (passN (dn I b) N (some cl) (k + 1))) from (by first | (rw [passN, if_pos c_17]; done) | (rw [passN, if_neg c_17, if_neg c_30]; done) | (rw [passN, if_neg c_17, if_pos c_30]; done) | (rw [passN, if_neg c_17, if_pos c_30]; exact congrArg (fun z => va_up I (b + 7) (va_up (passN (dn I b) N (some cl) k) k z)) (if_pos c_65).symm) | (rw [passN, if_neg c_17, if_pos c_30]; exact congrArg (fun z => va_up I (b + 7) (va_up (passN (dn I b) N (some cl) k) k z)) (if_neg c_65).symm))) ?_
      exact ih hlt L2 hL2
theorem ct_passes {l : Launch} {sh : ExSh} {I : ExI} {L : ExL} {R : ExR} (b N : Nat) (D : Nat → Nat → Int32) (hd : dn I b = D) (hD : isD sh R b) (hok : okD D N) (n : Nat) (lw : Value) (rl : Option Rul) (hlw : lawAt sh I L R n lw rl) : Ct l (ws_ yX1_passes cX1_passes 3 (some .int)) yX1_passes (n + 9) 0 0 [.ref b, lw] sh I L R (kLw (b + 10) (some (some (.int (passV D N rl)))) sh (passI I b N rl) L R) := by
  rcases hlw with ⟨rfl, rfl⟩ | ⟨r, cl, rfl, rfl, hr, hcl⟩
  · exact ct_passes0 b N D hd hD hok n
  · exact ct_passes1 b N D hd hD hok n r cl hr hcl
