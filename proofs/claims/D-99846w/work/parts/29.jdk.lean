set_option maxRecDepth 100000
set_option maxRecDepth 100000 in
set_option maxHeartbeats 4000000 in
theorem ct_coder {l : Launch} {sh : ExSh} {I : ExI} {L : ExL} {R : ExR} (j : Nat) (hj : j < 19) : Ct l (ws_ yJ3_coder cJ3_coder 1 (some .byte)) yJ3_coder 1 0 0 [((.float (j : Nat).toUInt32))] sh I L R (kEq (some (some (.int 0))) sh (I) L R) := by
  refine Ct.of (own := "java/lang/String") (nm := "coder") rfl rfl rfl (Nat.le_of_ble_eq_true rfl) ?_
  obtain ⟨K, hK⟩ : ∃ K : ExK, K = kEq (some (some (.int 0))) sh (I) L R := ⟨_, rfl⟩
  rw [← hK]
  show Ex l mJ3_coder 1 K 0 [(0, ((.float (j : Nat).toUInt32)))] [] sh I L R 0 0
  refine e_gets (v := .int (1)) dJ3_coder_0 q494 (Or.inl ⟨rfl, rfl, rfl, rfl⟩) ?_
  refine e_if_eq (tgt := 13) dJ3_coder_3 (by decide) (fun c_3 => ?_) (fun c_3 => ?_)
  · exact ((show False from absurd c_3 (by decide))).elim
  refine e_aload_n dJ3_coder_6 rfl rfl rfl ?_
  refine e_strF (j := j) (v := .int 0) dJ3_coder_7 hj q1742 (Or.inl ⟨rfl, rfl, rfl⟩) ?_
  refine e_goto (tgt := 14) dJ3_coder_10 (by decide) ?_
  exact e_zret dJ3_coder_14 rfl rfl (by rw [hK]; exact kEq_of rfl rfl)
set_option maxRecDepth 100000 in
set_option maxHeartbeats 4000000 in
theorem ct_isLatin1 {l : Launch} {sh : ExSh} {I : ExI} {L : ExL} {R : ExR} (j : Nat) (hj : j < 19) : Ct l (ws_ yJ3_isLatin1 cJ3_isLatin1 1 (some .boolean)) yJ3_isLatin1 1 0 0 [((.float (j : Nat).toUInt32))] sh I L R (kEq (some (some (.int 1))) sh (I) L R) := by
  refine Ct.of (own := "java/lang/String") (nm := "isLatin1") rfl rfl rfl (Nat.le_of_ble_eq_true rfl) ?_
  obtain ⟨K, hK⟩ : ∃ K : ExK, K = kEq (some (some (.int 1))) sh (I) L R := ⟨_, rfl⟩
  rw [← hK]
  show Ex l mJ3_isLatin1 1 K 0 [(0, ((.float (j : Nat).toUInt32)))] [] sh I L R 0 0
  refine e_gets (v := .int (1)) dJ3_isLatin1_0 q494 (Or.inl ⟨rfl, rfl, rfl, rfl⟩) ?_
  refine e_if_eq (tgt := 17) dJ3_isLatin1_3 (by decide) (fun c_3 => ?_) (fun c_3 => ?_)
  · exact ((show False from absurd c_3 (by decide))).elim
  refine e_aload_n dJ3_isLatin1_6 rfl rfl rfl ?_
  refine e_strF (j := j) (v := .int 0) dJ3_isLatin1_7 hj q1742 (Or.inl ⟨rfl, rfl, rfl⟩) ?_
  refine e_if_ne (tgt := 17) dJ3_isLatin1_10 (by decide) (fun c_10 => ?_) (fun c_10 => ?_)
  · exact ((c_10 rfl)).elim
  refine e_iconst (v := 1) dJ3_isLatin1_13 (by decide) ?_
  refine e_goto (tgt := 18) dJ3_isLatin1_14 (by decide) ?_
  exact e_zret dJ3_isLatin1_18 rfl rfl (by rw [hK]; exact kEq_of rfl rfl)
set_option maxRecDepth 100000 in
set_option maxHeartbeats 4000000 in
theorem ct_length {l : Launch} {sh : ExSh} {I : ExI} {L : ExL} {R : ExR} (j : Nat) (hj : j < 19) : Ct l (ws_ yJ3_length cJ3_length 1 (some .int)) yJ3_length 2 0 0 [((.float (j : Nat).toUInt32))] sh I L R (kEq (some (some (.int (nI (exTx.getD j []).length)))) sh (I) L R) := by
  refine Ct.of (own := "java/lang/String") (nm := "length") rfl rfl rfl (Nat.le_of_ble_eq_true rfl) ?_
  obtain ⟨K, hK⟩ : ∃ K : ExK, K = kEq (some (some (.int (nI (exTx.getD j []).length)))) sh (I) L R := ⟨_, rfl⟩
  rw [← hK]
  show Ex l mJ3_length 2 K 0 [(0, ((.float (j : Nat).toUInt32)))] [] sh I L R 0 0
  refine e_aload_n dJ3_length_0 rfl rfl rfl ?_
  refine e_strF (j := j) (v := .float (32 + j).toUInt32) dJ3_length_1 hj q1741 (Or.inr ⟨rfl, rfl, rfl⟩) ?_
  refine e_strL (j := j) (v := nI (exTx.getD j []).length) dJ3_length_4 hj rfl ?_
  refine e_aload_n dJ3_length_5 rfl rfl rfl ?_
  refine e_callT (j := j) (As := []) dJ3_length_6 kt_J3_335 hj rfl rfl (Nat.le_of_ble_eq_true rfl) (Nat.le_of_ble_eq_true rfl) (ct_coder j hj) ?_
  show Ex l mJ3_length 2 K 9 [(0, ((.float (j : Nat).toUInt32)))] [.int (0), .int (nI (exTx.getD j []).length)] sh I L R 0 0
  refine e_ishr dJ3_length_9 ?_
  exact e_iret dJ3_length_10 rfl (by rw [hK]; exact kEq_of (congrArg (fun z => some (some (Value.int z))) (sb_shr0 _)) rfl)
set_option maxRecDepth 100000 in
set_option maxHeartbeats 4000000 in
theorem ct_chk0 {l : Launch} {sh : ExSh} {I : ExI} {L : ExL} {R : ExR} (b n : Nat) (hb : b < n) (hn : n < 100000) : Ct l (ws_ yJ5_checkIndex cJ5_checkIndex 3 (some .int)) yJ5_checkIndex 1 0 0 [.int (nI b), .int (nI n), ((.float 67))] sh I L R (kEq (some (some (.int (nI b)))) sh (I) L R) := by
  refine Ct.of (own := "jdk/internal/util/Preconditions") (nm := "checkIndex") rfl rfl rfl (Nat.le_of_ble_eq_true rfl) ?_
  obtain ⟨K, hK⟩ : ∃ K : ExK, K = kEq (some (some (.int (nI b)))) sh (I) L R := ⟨_, rfl⟩
  rw [← hK]
  show Ex l mJ5_checkIndex 1 K 0 [(0, .int (nI b)), (1, .int (nI n)), (2, ((.float 67)))] [] sh I L R 0 0
  refine e_iload_n dJ5_checkIndex_0 rfl rfl ?_
  refine e_if_lt (tgt := 9) dJ5_checkIndex_1 (by decide) (fun c_1 => ?_) (fun c_1 => ?_)
  · exact ((show False from nI_pos (by omega) c_1)).elim
  refine e_iload_n dJ5_checkIndex_4 rfl rfl ?_
  refine e_iload_n dJ5_checkIndex_5 rfl rfl ?_
  refine e_icmp_lt (tgt := 16) dJ5_checkIndex_6 (by decide) (fun c_6 => ?_) (fun c_6 => ?_)
  rotate_left
  · exact ((show False from c_6 (nI_lt hb (by omega)))).elim
  refine e_iload_n dJ5_checkIndex_16 rfl rfl ?_
  exact e_iret dJ5_checkIndex_17 rfl (by rw [hK]; exact kEq_of rfl rfl)
set_option maxRecDepth 100000 in
set_option maxHeartbeats 4000000 in
theorem ct_chk1 {l : Launch} {sh : ExSh} {I : ExI} {L : ExL} {R : ExR} (b n : Nat) (hb : b < n) (hn : n < 100000) : Ct l (ws_ yJ3_checkIndex cJ3_checkIndex 2 (none)) yJ3_checkIndex 2 0 0 [.int (nI b), .int (nI n)] sh I L R (kEq (some none) sh (I) L R) := by
  refine Ct.of (own := "java/lang/String") (nm := "checkIndex") rfl rfl rfl (Nat.le_of_ble_eq_true rfl) ?_
  obtain ⟨K, hK⟩ : ∃ K : ExK, K = kEq (some none) sh (I) L R := ⟨_, rfl⟩
  rw [← hK]
  show Ex l mJ3_checkIndex 2 K 0 [(0, .int (nI b)), (1, .int (nI n))] [] sh I L R 0 0
  refine e_iload_n dJ3_checkIndex_0 rfl rfl ?_
  refine e_iload_n dJ3_checkIndex_1 rfl rfl ?_
  refine e_gets (v := ((.float 67))) dJ3_checkIndex_2 q510 (Or.inr (Or.inr (Or.inr ⟨rfl, rfl, rfl, rfl⟩))) ?_
  refine e_callSe (k2 := 0) (n2 := 0) (mc' := 0) (ms' := 0) (As := [.int (nI b), .int (nI n), ((.float 67))]) dJ3_checkIndex_5 ks_J3_1059 rfl rfl (Nat.le_of_ble_eq_true rfl) (Nat.le_of_ble_eq_true rfl) (ct_chk0 b n hb hn) ?_
  show Ex l mJ3_checkIndex 2 K 8 [(0, .int (nI b)), (1, .int (nI n))] [.int (nI b)] sh I L R 0 0
  refine e_pop dJ3_checkIndex_8 rfl ?_
  exact e_vret dJ3_checkIndex_9 rfl (by rw [hK]; exact kEq_of rfl rfl)
theorem exTx_c : ∀ j, j < 19 → ∀ b, b < (exTx.getD j []).length → ((((exTx.getD j []).getD b 0) &&& 255).toUInt32 % 65536).toInt32 = (exTx.getD j []).getD b 0 ∧ narrow .char (.int ((exTx.getD j []).getD b 0)) = .int ((exTx.getD j []).getD b 0) := by decide +kernel
set_option maxRecDepth 100000 in
set_option maxHeartbeats 4000000 in
theorem ct_chr0 {l : Launch} {sh : ExSh} {I : ExI} {L : ExL} {R : ExR} (j : Nat) (hj : j < 19) (b : Nat) (hb : b < (exTx.getD j []).length) : Ct l (ws_ yJ4_charAt cJ4_charAt 2 (some .char)) yJ4_charAt 3 0 0 [((.float (32 + j).toUInt32)), .int (nI b)] sh I L R (kEq (some (some (.int ((exTx.getD j []).getD b 0)))) sh (I) L R) := by
  have hn : (exTx.getD j []).length < 100000 := (by decide +kernel : ∀ j, j < 19 → (exTx.getD j []).length < 100000) j hj
  refine Ct.of (own := "java/lang/StringLatin1") (nm := "charAt") rfl rfl rfl (Nat.le_of_ble_eq_true rfl) ?_
  obtain ⟨K, hK⟩ : ∃ K : ExK, K = kEq (some (some (.int ((exTx.getD j []).getD b 0)))) sh (I) L R := ⟨_, rfl⟩
  rw [← hK]
  show Ex l mJ4_charAt 3 K 0 [(0, ((.float (32 + j).toUInt32))), (1, .int (nI b))] [] sh I L R 0 0
  refine e_iload_n dJ4_charAt_0 rfl rfl ?_
  refine e_aload_n dJ4_charAt_1 rfl rfl rfl ?_
  refine e_strL (j := j) (v := nI (exTx.getD j []).length) dJ4_charAt_2 hj rfl ?_
  refine e_callSe (k2 := 0) (n2 := 0) (mc' := 0) (ms' := 0) (As := [.int (nI b), .int (nI (exTx.getD j []).length)]) dJ4_charAt_3 ks_J4_9 rfl rfl (Nat.le_of_ble_eq_true rfl) (Nat.le_of_ble_eq_true rfl) (ct_chk1 b ((exTx.getD j []).length) hb hn) ?_
  show Ex l mJ4_charAt 3 K 6 [(0, ((.float (32 + j).toUInt32))), (1, .int (nI b))] [] sh I L R 0 0
  refine e_aload_n dJ4_charAt_6 rfl rfl rfl ?_
  refine e_iload_n dJ4_charAt_7 rfl rfl ?_
  refine e_strB (j := j) (b := b) (v := (exTx.getD j []).getD b 0) dJ4_charAt_8 hj rfl hb rfl ?_
  refine e_sipush (v := 255) dJ4_charAt_9 (by decide) ?_
  refine e_iand dJ4_charAt_12 ?_
  refine e_i2c (v := (exTx.getD j []).getD b 0) dJ4_charAt_13 (exTx_c j hj b hb).1 ?_
  exact e_zret dJ4_charAt_14 rfl (exTx_c j hj b hb).2 (by rw [hK]; exact kEq_of rfl rfl)
set_option maxRecDepth 100000 in
set_option maxHeartbeats 4000000 in
theorem ct_charAt {l : Launch} {sh : ExSh} {I : ExI} {L : ExL} {R : ExR} (j : Nat) (hj : j < 19) (b : Nat) (hb : b < (exTx.getD j []).length) : Ct l (ws_ yJ3_charAt cJ3_charAt 2 (some .char)) yJ3_charAt 4 0 0 [((.float (j : Nat).toUInt32)), .int (nI b)] sh I L R (kEq (some (some (.int ((exTx.getD j []).getD b 0)))) sh (I) L R) := by
  refine Ct.of (own := "java/lang/String") (nm := "charAt") rfl rfl rfl (Nat.le_of_ble_eq_true rfl) ?_
  obtain ⟨K, hK⟩ : ∃ K : ExK, K = kEq (some (some (.int ((exTx.getD j []).getD b 0)))) sh (I) L R := ⟨_, rfl⟩
  rw [← hK]
  show Ex l mJ3_charAt 4 K 0 [(0, ((.float (j : Nat).toUInt32))), (1, .int (nI b))] [] sh I L R 0 0
  refine e_aload_n dJ3_charAt_0 rfl rfl rfl ?_
  refine e_callT (j := j) (As := []) dJ3_charAt_1 kt_J3_492 hj rfl rfl (Nat.le_of_ble_eq_true rfl) (Nat.le_of_ble_eq_true rfl) (ct_isLatin1 j hj) ?_
  show Ex l mJ3_charAt 4 K 4 [(0, ((.float (j : Nat).toUInt32))), (1, .int (nI b))] [.int (1)] sh I L R 0 0
  refine e_if_eq (tgt := 16) dJ3_charAt_4 (by decide) (fun c_4 => ?_) (fun c_4 => ?_)
  · exact ((show False from absurd c_4 (by decide))).elim
  refine e_aload_n dJ3_charAt_7 rfl rfl rfl ?_
  refine e_strF (j := j) (v := .float (32 + j).toUInt32) dJ3_charAt_8 hj q1741 (Or.inr ⟨rfl, rfl, rfl⟩) ?_
  refine e_iload_n dJ3_charAt_11 rfl rfl ?_
  refine e_callSe (k2 := 0) (n2 := 0) (mc' := 0) (ms' := 0) (As := [((.float (32 + j).toUInt32)), .int (nI b)]) dJ3_charAt_12 ks_J3_495 rfl rfl (Nat.le_of_ble_eq_true rfl) (Nat.le_of_ble_eq_true rfl) (ct_chr0 j hj b hb) ?_
  show Ex l mJ3_charAt 4 K 15 [(0, ((.float (j : Nat).toUInt32))), (1, .int (nI b))] [.int ((exTx.getD j []).getD b 0)] sh I L R 0 0
  exact e_zret dJ3_charAt_15 rfl (exTx_c j hj b hb).2 (by rw [hK]; exact kEq_of rfl rfl)
