set_option maxRecDepth 100000
/-- a Dinner at b: its shapes, and where its arrays are -/
def isD (sh : ExSh) (R : ExR) (b : Nat) : Prop := sh[b]? = some (1 + 8, 18) ∧ sh[b + 1]? = some (0, 4) ∧ sh[b + 2]? = some (0, 8) ∧ sh[b + 3]? = some (0, 8) ∧ sh[b + 4]? = some (0, 8) ∧ sh[b + 5]? = some (0, 8) ∧ sh[b + 6]? = some (0, 30) ∧ sh[b + 7]? = some (0, 8) ∧ sh[b + 8]? = some (0, 4) ∧ sh[b + 9]? = some (0, 260) ∧ sh[b + 10]? = some (3, 11) ∧ sh[b + 11]? = some (0, 8) ∧ R b 7 = .ref (b + 1) ∧ R b 8 = .ref (b + 2) ∧ R b 9 = .ref (b + 3) ∧ R b 10 = .ref (b + 4) ∧ R b 11 = .ref (b + 5) ∧ R b 12 = .ref (b + 6) ∧ R b 13 = .ref (b + 7) ∧ R b 14 = .ref (b + 8) ∧ R b 15 = .ref (b + 9) ∧ R b 16 = .ref (b + 10) ∧ R b 17 = .ref (b + 11)
set_option maxRecDepth 100000 in
set_option maxHeartbeats 4000000 in
theorem ct_has {l : Launch} {sh : ExSh} {I : ExI} {L : ExL} {R : ExR} (x y : Int32) : Ct l (ws_ yX0_has cX0_has 2 (some .boolean)) yX0_has 1 0 0 [.int (x), .int (y)] sh I L R (kEq (some (some (.int (bI (hasX x y))))) sh (I) L R) := by
  refine Ct.of (own := "ChairCane") (nm := "has") rfl rfl rfl (Nat.le_of_ble_eq_true rfl) ?_
  obtain ⟨K, hK⟩ : ∃ K : ExK, K = kEq (some (some (.int (bI (hasX x y))))) sh (I) L R := ⟨_, rfl⟩
  rw [← hK]
  show Ex l mX0_has 1 K 0 [(0, .int (x)), (1, .int (y))] [] sh I L R 0 0
  refine e_iload_n dX0_has_0 rfl rfl ?_
  refine e_iload_n dX0_has_1 rfl rfl ?_
  refine e_ishr dX0_has_2 ?_
  refine e_iconst (v := 1) dX0_has_3 (by decide) ?_
  refine e_iand dX0_has_4 ?_
  refine e_iconst (v := 1) dX0_has_5 (by decide) ?_
  refine e_icmp_ne (tgt := 13) dX0_has_6 (by decide) (fun c_6 => ?_) (fun c_6 => ?_)
  · refine e_iconst (v := 0) dX0_has_13 (by decide) ?_
    exact e_zret dX0_has_14 rfl (by first | exact bI_z | rfl) (by rw [hK]; exact kEq_of (congrArg (fun z => some (some (Value.int z))) (by first | exact (bI_t c_6).symm | exact (bI_f c_6).symm)) rfl)
  · refine e_iconst (v := 1) dX0_has_9 (by decide) ?_
    refine e_goto (tgt := 14) dX0_has_10 (by decide) ?_
    exact e_zret dX0_has_14 rfl (by first | exact bI_z | rfl) (by rw [hK]; exact kEq_of (congrArg (fun z => some (some (Value.int z))) (by first | exact (bI_t c_6).symm | exact (bI_f c_6).symm)) rfl)
set_option maxRecDepth 100000 in
set_option maxHeartbeats 4000000 in
theorem ct_onesThat {l : Launch} {sh : ExSh} {I : ExI} {L : ExL} {R : ExR} (b N : Nat) (D : Nat → Nat → Int32) (hd : dn I b = D) (hD : isD sh R b) (hok : okD D N) (what : Int32) : Ct l (ws_ yX1_onesThat cX1_onesThat 4 (some .int)) yX1_onesThat 2 0 0 [(.ref b), .int (what)] sh I L R (kEq (some (some (.int (onesN (D 7) what N)))) sh (I) L R) := by
  subst hd
  obtain ⟨s0, s1, s2, s3, s4, s5, s6, s7, s8, s9, s10, s11, r7, r8, r9, r10, r11, r12, r13, r14, r15, r16, r17⟩ := id hD
  obtain ⟨hN0, h8, hch0, hst0, hw0⟩ := id hok
  have hN : I b 2 = nI N := hN0
  have hch : ∀ k, k < 8 → vp_in (I (b + 4) k) 8 := hch0
  have hst : ∀ c, c < 8 → vp_in (I (b + 3) c) 4 := hst0
  refine Ct.of (own := "ChairCane$Dinner") (nm := "onesThat") rfl rfl rfl (Nat.le_of_ble_eq_true rfl) ?_
  obtain ⟨K, hK⟩ : ∃ K : ExK, K = kEq (some (some (.int (onesN ((dn I b) 7) what N)))) sh (I) L R := ⟨_, rfl⟩
  rw [← hK]
  show Ex l mX1_onesThat 2 K 0 [(0, (.ref b)), (1, .int (what))] [] sh I L R 0 0
  refine e_iconst (v := 0) dX1_onesThat_0 (by decide) ?_
  refine e_istore_n (ls' := [(2, .int (0)), (0, (.ref b)), (1, .int (what))]) dX1_onesThat_1 rfl (Nat.le_of_ble_eq_true rfl) rfl ?_
  refine e_iconst (v := 0) dX1_onesThat_2 (by decide) ?_
  refine e_istore_n (ls' := [(3, .int (0)), (2, .int (0)), (0, (.ref b)), (1, .int (what))]) dX1_onesThat_3 rfl (Nat.le_of_ble_eq_true rfl) rfl ?_
  refine e_pick (ls' := [(3, .int (0)), (2, .int (0)), (0, (.ref b)), (1, .int (what))]) [0, 1, 2, 3] rfl ?_
  refine ex_up (P := fun k => Ex l mX1_onesThat 2 K 4 [(3, .int (nI k)), (2, .int (onesN (I (b + 7)) what k)), (0, (.ref b)), (1, .int (what))] [] sh I L R 0 0) N (fun k hk ih => ?_) 0 (Nat.zero_le _)
  refine e_iload_n dX1_onesThat_4 rfl rfl ?_
  refine e_aload_n dX1_onesThat_5 rfl rfl rfl ?_
  refine e_getIv (v := I b 2) dX1_onesThat_6 s0 kg_X1_53 rfl rfl ?_
  refine e_icmp_ge (tgt := 38) dX1_onesThat_9 (by decide) (fun c_9 => ?_) (fun c_9 => ?_)
  · have hkN : k = N := by have := (ex_ge hN (by omega) (by omega)).mp c_9; omega
    refine e_iload_n dX1_onesThat_38 rfl rfl ?_
    exact e_iret dX1_onesThat_39 rfl (by rw [hK]; exact kEq_of (congrArg (fun z => some (some (Value.int z))) (by rw [hkN])) rfl)
  · have hlt : k < N := by have := mt (ex_ge hN (by omega) (by omega)).mpr c_9; omega
    refine e_iload_n dX1_onesThat_12 rfl rfl ?_
    refine e_aload_n dX1_onesThat_13 rfl rfl rfl ?_
    refine e_getR (v := (.ref (b + 7))) dX1_onesThat_14 s0 kg_X1_30 rfl r13 ?_
    refine e_iload_n dX1_onesThat_17 rfl rfl ?_
    refine e_ialdv (j := k) (v := I (b + 7) k) dX1_onesThat_18 s7 (vp_in_nI (by omega) (by omega)) (nI_clamp (by omega)) rfl ?_
    refine e_iload_n dX1_onesThat_19 rfl rfl ?_
    refine e_icmp_ne (tgt := 29) dX1_onesThat_20 (by decide) (fun c_20 => ?_) (fun c_20 => ?_)
    · refine e_iconst (v := 0) dX1_onesThat_29 (by decide) ?_
      refine e_ior dX1_onesThat_30 ?_
      refine e_istore_n (ls' := [(2, .int ((onesN (I (b + 7)) what k) ||| 0)), (3, .int (nI k)), (0, (.ref b)), (1, .int (what))]) dX1_onesThat_31 rfl (Nat.le_of_ble_eq_true rfl) rfl ?_
      refine e_iinc (v := nI (k + 1)) (ls' := [(3, .int (nI (k + 1))), (2, .int ((onesN (I (b + 7)) what k) ||| 0)), (0, (.ref b)), (1, .int (what))]) dX1_onesThat_32 rfl (nI_1 _) (Nat.le_of_ble_eq_true rfl) rfl ?_
      refine e_goto (tgt := 4) dX1_onesThat_35 (by decide) ?_
      refine e_pick (ls' := [(3, .int (nI (k + 1))), (2, .int ((onesN (I (b + 7)) what k) ||| 0)), (0, (.ref b)), (1, .int (what))]) [0, 1, 2, 3] rfl ?_
      have eq_2 : (onesN (I (b + 7)) what k) ||| 0 = onesN (I (b + 7)) what (k + 1) := (by first | rw [onesN, if_pos c_20] | rw [onesN, if_neg c_20])
      rw [eq_2]
      exact ih hlt
    · refine e_iconst (v := 1) dX1_onesThat_23 (by decide) ?_
      refine e_iload_n dX1_onesThat_24 rfl rfl ?_
      refine e_ishl dX1_onesThat_25 ?_
      refine e_goto (tgt := 30) dX1_onesThat_26 (by decide) ?_
      refine e_ior dX1_onesThat_30 ?_
      refine e_istore_n (ls' := [(2, .int ((onesN (I (b + 7)) what k) ||| (1 <<< (nI k &&& 31)))), (3, .int (nI k)), (0, (.ref b)), (1, .int (what))]) dX1_onesThat_31 rfl (Nat.le_of_ble_eq_true rfl) rfl ?_
      refine e_iinc (v := nI (k + 1)) (ls' := [(3, .int (nI (k + 1))), (2, .int ((onesN (I (b + 7)) what k) ||| (1 <<< (nI k &&& 31)))), (0, (.ref b)), (1, .int (what))]) dX1_onesThat_32 rfl (nI_1 _) (Nat.le_of_ble_eq_true rfl) rfl ?_
      refine e_goto (tgt := 4) dX1_onesThat_35 (by decide) ?_
      refine e_pick (ls' := [(3, .int (nI (k + 1))), (2, .int ((onesN (I (b + 7)) what k) ||| (1 <<< (nI k &&& 31)))), (0, (.ref b)), (1, .int (what))]) [0, 1, 2, 3] rfl ?_
      have eq_2 : (onesN (I (b + 7)) what k) ||| (1 <<< (nI k &&& 31)) = onesN (I (b + 7)) what (k + 1) := (by first | rw [onesN, if_pos c_20] | rw [onesN, if_neg c_20])
      rw [eq_2]
      exact ih hlt
set_option maxRecDepth 100000 in
set_option maxHeartbeats 4000000 in
theorem ct_sitterOf {l : Launch} {sh : ExSh} {I : ExI} {L : ExL} {R : ExR} (b N : Nat) (D : Nat → Nat → Int32) (hd : dn I b = D) (hD : isD sh R b) (hok : okD D N) (c : Int32) : Ct l (ws_ yX1_sitterOf cX1_sitterOf 3 (some .int)) yX1_sitterOf 2 0 0 [(.ref b), .int (c)] sh I L R (kEq (some (some (.int (sitOfN (D 4) c N N)))) sh (I) L R) := by
  subst hd
  obtain ⟨s0, s1, s2, s3, s4, s5, s6, s7, s8, s9, s10, s11, r7, r8, r9, r10, r11, r12, r13, r14, r15, r16, r17⟩ := id hD
  obtain ⟨hN0, h8, hch0, hst0, hw0⟩ := id hok
  have hN : I b 2 = nI N := hN0
  have hch : ∀ k, k < 8 → vp_in (I (b + 4) k) 8 := hch0
  have hst : ∀ c, c < 8 → vp_in (I (b + 3) c) 4 := hst0
  refine Ct.of (own := "ChairCane$Dinner") (nm := "sitterOf") rfl rfl rfl (Nat.le_of_ble_eq_true rfl) ?_
  obtain ⟨K, hK⟩ : ∃ K : ExK, K = kEq (some (some (.int (sitOfN ((dn I b) 4) c N N)))) sh (I) L R := ⟨_, rfl⟩
  rw [← hK]
  show Ex l mX1_sitterOf 2 K 0 [(0, (.ref b)), (1, .int (c))] [] sh I L R 0 0
  refine e_iconst (v := 0) dX1_sitterOf_0 (by decide) ?_
  refine e_istore_n (ls' := [(2, .int (0)), (0, (.ref b)), (1, .int (c))]) dX1_sitterOf_1 rfl (Nat.le_of_ble_eq_true rfl) rfl ?_
  refine e_pick (ls' := [(2, .int (0)), (0, (.ref b)), (1, .int (c))]) [0, 1, 2] rfl ?_
  refine ex_up (P := fun k => sitOfN (I (b + 4)) c N (N - k) = sitOfN (I (b + 4)) c N N → Ex l mX1_sitterOf 2 K 2 [(2, .int (nI k)), (0, (.ref b)), (1, .int (c))] [] sh I L R 0 0) N (fun k hk ih hy => ?_) 0 (Nat.zero_le _) rfl
  refine e_iload_n dX1_sitterOf_2 rfl rfl ?_
  refine e_aload_n dX1_sitterOf_3 rfl rfl rfl ?_
  refine e_getIv (v := I b 2) dX1_sitterOf_4 s0 kg_X1_53 rfl rfl ?_
  refine e_icmp_ge (tgt := 28) dX1_sitterOf_7 (by decide) (fun c_7 => ?_) (fun c_7 => ?_)
  · have hkN : k = N := by have := (ex_ge hN (by omega) (by omega)).mp c_7; omega
    refine e_iconst (v := (-1)) dX1_sitterOf_28 (by decide) ?_
    exact e_iret dX1_sitterOf_29 rfl (by rw [hK]; exact kEq_of (congrArg (fun z => some (some (Value.int z))) (by first | (rw [← hy, hkN, Nat.sub_self, sitOfN]) | (show _ = sitOfN (I (b + 4)) c N N; rw [← hy, hkN, Nat.sub_self, sitOfN]))) rfl)
  · have hlt : k < N := by have := mt (ex_ge hN (by omega) (by omega)).mpr c_7; omega
    refine e_aload_n dX1_sitterOf_10 rfl rfl rfl ?_
    refine e_getR (v := (.ref (b + 4))) dX1_sitterOf_11 s0 kg_X1_21 rfl r10 ?_
    refine e_iload_n dX1_sitterOf_14 rfl rfl ?_
    refine e_ialdv (j := k) (v := I (b + 4) k) dX1_sitterOf_15 s4 (vp_in_nI (by omega) (by omega)) (nI_clamp (by omega)) rfl ?_
    refine e_iload_n dX1_sitterOf_16 rfl rfl ?_
    refine e_icmp_ne (tgt := 22) dX1_sitterOf_17 (by decide) (fun c_17 => ?_) (fun c_17 => ?_)
    · refine e_iinc (v := nI (k + 1)) (ls' := [(2, .int (nI (k + 1))), (0, (.ref b)), (1, .int (c))]) dX1_sitterOf_22 rfl (nI_1 _) (Nat.le_of_ble_eq_true rfl) rfl ?_
      refine e_goto (tgt := 2) dX1_sitterOf_25 (by decide) ?_
      refine e_pick (ls' := [(2, .int (nI (k + 1))), (0, (.ref b)), (1, .int (c))]) [0, 1, 2] rfl ?_
      exact ih hlt (by rw [← hy, show N - k = (N - (k + 1)) + 1 by omega, sitOfN, show N - ((N - (k + 1)) + 1) = k by omega, if_neg c_17])
    · refine e_iload_n dX1_sitterOf_20 rfl rfl ?_
      exact e_iret dX1_sitterOf_21 rfl (by rw [hK]; exact kEq_of (congrArg (fun z => some (some (Value.int z))) (by first | (rw [← hy, show N - k = (N - (k + 1)) + 1 by omega, sitOfN, show N - ((N - (k + 1)) + 1) = k by omega, if_pos c_17]) | (show _ = sitOfN (I (b + 4)) c N N; rw [← hy, show N - k = (N - (k + 1)) + 1 by omega, sitOfN, show N - ((N - (k + 1)) + 1) = k by omega, if_pos c_17]))) rfl)
set_option maxRecDepth 100000 in
set_option maxHeartbeats 4000000 in
theorem ct_strandOf {l : Launch} {sh : ExSh} {I : ExI} {L : ExL} {R : ExR} (b N : Nat) (D : Nat → Nat → Int32) (hd : dn I b = D) (hD : isD sh R b) (hok : okD D N) (k : Nat) (hk : k < 8) : Ct l (ws_ yX1_strandOf cX1_strandOf 2 (some .int)) yX1_strandOf 1 0 0 [(.ref b), .int (nI k)] sh I L R (kEq (some (some (.int (strOf D k)))) sh (I) L R) := by
  subst hd
  obtain ⟨s0, s1, s2, s3, s4, s5, s6, s7, s8, s9, s10, s11, r7, r8, r9, r10, r11, r12, r13, r14, r15, r16, r17⟩ := id hD
  obtain ⟨hN0, h8, hch0, hst0, hw0⟩ := id hok
  have hN : I b 2 = nI N := hN0
  have hch : ∀ k, k < 8 → vp_in (I (b + 4) k) 8 := hch0
  have hst : ∀ c, c < 8 → vp_in (I (b + 3) c) 4 := hst0
  refine Ct.of (own := "ChairCane$Dinner") (nm := "strandOf") rfl rfl rfl (Nat.le_of_ble_eq_true rfl) ?_
  obtain ⟨K, hK⟩ : ∃ K : ExK, K = kEq (some (some (.int (strOf (dn I b) k)))) sh (I) L R := ⟨_, rfl⟩
  rw [← hK]
  show Ex l mX1_strandOf 1 K 0 [(0, (.ref b)), (1, .int (nI k))] [] sh I L R 0 0
  refine e_aload_n dX1_strandOf_0 rfl rfl rfl ?_
  refine e_getR (v := (.ref (b + 3))) dX1_strandOf_1 s0 kg_X1_18 rfl r9 ?_
  refine e_aload_n dX1_strandOf_4 rfl rfl rfl ?_
  refine e_getR (v := (.ref (b + 4))) dX1_strandOf_5 s0 kg_X1_21 rfl r10 ?_
  refine e_iload_n dX1_strandOf_8 rfl rfl ?_
  refine e_ialdv (j := k) (v := I (b + 4) k) dX1_strandOf_9 s4 (vp_in_nI (by omega) (by omega)) (nI_clamp (by omega)) rfl ?_
  refine e_ialdv (j := ix (I (b + 4) k)) (v := I (b + 3) (ix (I (b + 4) k))) dX1_strandOf_10 s3 (hch k (by omega)) rfl rfl ?_
  exact e_iret dX1_strandOf_11 rfl (by rw [hK]; exact kEq_of (congrArg (fun z => some (some (Value.int z))) (rfl)) rfl)
set_option maxRecDepth 100000 in
set_option maxHeartbeats 4000000 in
theorem ct_pressOn {l : Launch} {sh : ExSh} {I : ExI} {L : ExL} {R : ExR} (b N : Nat) (D : Nat → Nat → Int32) (hd : dn I b = D) (hD : isD sh R b) (hok : okD D N) (sx set : Int32) : Ct l (ws_ yX1_pressOn cX1_pressOn 5 (some .int)) yX1_pressOn 3 0 0 [(.ref b), .int (sx), .int (set)] sh I L R (kEq (some (some (.int (pressN D sx set N)))) sh (I) L R) := by
  subst hd
  obtain ⟨s0, s1, s2, s3, s4, s5, s6, s7, s8, s9, s10, s11, r7, r8, r9, r10, r11, r12, r13, r14, r15, r16, r17⟩ := id hD
  obtain ⟨hN0, h8, hch0, hst0, hw0⟩ := id hok
  have hN : I b 2 = nI N := hN0
  have hch : ∀ k, k < 8 → vp_in (I (b + 4) k) 8 := hch0
  have hst : ∀ c, c < 8 → vp_in (I (b + 3) c) 4 := hst0
  refine Ct.of (own := "ChairCane$Dinner") (nm := "pressOn") rfl rfl rfl (Nat.le_of_ble_eq_true rfl) ?_
  obtain ⟨K, hK⟩ : ∃ K : ExK, K = kEq (some (some (.int (pressN (dn I b) sx set N)))) sh (I) L R := ⟨_, rfl⟩
  rw [← hK]
  show Ex l mX1_pressOn 3 K 0 [(0, (.ref b)), (1, .int (sx)), (2, .int (set))] [] sh I L R 0 0
  refine e_iconst (v := 0) dX1_pressOn_0 (by decide) ?_
  refine e_istore_n (ls' := [(3, .int (0)), (0, (.ref b)), (1, .int (sx)), (2, .int (set))]) dX1_pressOn_1 rfl (Nat.le_of_ble_eq_true rfl) rfl ?_
  refine e_iconst (v := 0) dX1_pressOn_2 (by decide) ?_
  refine e_istore (ls' := [(4, .int (0)), (3, .int (0)), (0, (.ref b)), (1, .int (sx)), (2, .int (set))]) dX1_pressOn_3 (Nat.le_of_ble_eq_true rfl) rfl ?_
  refine e_pick (ls' := [(4, .int (0)), (3, .int (0)), (0, (.ref b)), (1, .int (sx)), (2, .int (set))]) [0, 1, 2, 3, 4] rfl ?_
  refine ex_up (P := fun k => Ex l mX1_pressOn 3 K 5 [(4, .int (nI k)), (3, .int (pressN (dn I b) sx set k)), (0, (.ref b)), (1, .int (sx)), (2, .int (set))] [] sh I L R 0 0) N (fun k hk ih => ?_) 0 (Nat.zero_le _)
  refine e_iload dX1_pressOn_5 rfl ?_
  refine e_aload_n dX1_pressOn_7 rfl rfl rfl ?_
  refine e_getIv (v := I b 2) dX1_pressOn_8 s0 kg_X1_53 rfl rfl ?_
  refine e_icmp_ge (tgt := 53) dX1_pressOn_11 (by decide) (fun c_11 => ?_) (fun c_11 => ?_)
  · have hkN : k = N := by have := (ex_ge hN (by omega) (by omega)).mp c_11; omega
    refine e_iload_n dX1_pressOn_53 rfl rfl ?_
    exact e_iret dX1_pressOn_54 rfl (by rw [hK]; exact kEq_of (congrArg (fun z => some (some (Value.int z))) (by rw [hkN])) rfl)
  · have hlt : k < N := by have := mt (ex_ge hN (by omega) (by omega)).mpr c_11; omega
    refine e_iload_n dX1_pressOn_14 rfl rfl ?_
    refine e_iload_n dX1_pressOn_15 rfl rfl ?_
    refine e_iload dX1_pressOn_16 rfl ?_
    refine e_callSe (k2 := 0) (n2 := 0) (mc' := 0) (ms' := 0) (As := [.int (set), .int (nI k)]) dX1_pressOn_18 ks_X1_78 rfl rfl (Nat.le_of_ble_eq_true rfl) (Nat.le_of_ble_eq_true rfl) (ct_has (set) (nI k)) ?_
    show Ex l mX1_pressOn 3 K 21 [(4, .int (nI k)), (3, .int (pressN (dn I b) sx set k)), (0, (.ref b)), (1, .int (sx)), (2, .int (set))] [.int (bI (hasX (set) (nI k))), .int (pressN (dn I b) sx set k)] sh I L R 0 0
    refine e_if_eq (tgt := 44) dX1_pressOn_21 (by decide) (fun c_21 => ?_) (fun c_21 => ?_)
    · have c_21 := bI_0.mp c_21
      refine e_iconst (v := 0) dX1_pressOn_44 (by decide) ?_
      refine e_iadd dX1_pressOn_45 ?_
      refine e_istore_n (ls' := [(3, .int ((pressN (dn I b) sx set k) + 0)), (4, .int (nI k)), (0, (.ref b)), (1, .int (sx)), (2, .int (set))]) dX1_pressOn_46 rfl (Nat.le_of_ble_eq_true rfl) rfl ?_
      refine e_iinc (v := nI (k + 1)) (ls' := [(4, .int (nI (k + 1))), (3, .int ((pressN (dn I b) sx set k) + 0)), (0, (.ref b)), (1, .int (sx)), (2, .int (set))]) dX1_pressOn_47 rfl (nI_1 _) (Nat.le_of_ble_eq_true rfl) rfl ?_
      refine e_goto (tgt := 5) dX1_pressOn_50 (by decide) ?_
      refine e_pick (ls' := [(4, .int (nI (k + 1))), (3, .int ((pressN (dn I b) sx set k) + 0)), (0, (.ref b)), (1, .int (sx)), (2, .int (set))]) [0, 1, 2, 3, 4] rfl ?_
      have eq_3 : (pressN (dn I b) sx set k) + 0 = pressN (dn I b) sx set (k + 1) := (by first | (rw [pressN, if_pos ⟨c_21, c_31⟩]; done) | rw [pressN, if_neg (fun h => c_21 h.1)] | rw [pressN, if_neg (fun h => c_31 h.2)])
      rw [eq_3]
      exact ih hlt
    · have c_21 := bI_n.mp c_21
      refine e_aload_n dX1_pressOn_24 rfl rfl rfl ?_
      refine e_iload dX1_pressOn_25 rfl ?_
      refine e_callVe (k2 := 0) (n2 := 0) (mc' := 0) (ms' := 0) (As := [.int (nI k)]) dX1_pressOn_27 kv_X1_82 s0 rfl rfl (Nat.le_of_ble_eq_true rfl) (Nat.le_of_ble_eq_true rfl) (ct_strandOf b N (dn I b) rfl hD hok k (by omega)) ?_
      show Ex l mX1_pressOn 3 K 30 [(4, .int (nI k)), (3, .int (pressN (dn I b) sx set k)), (0, (.ref b)), (1, .int (sx)), (2, .int (set))] [.int (strOf (dn I b) k), .int (pressN (dn I b) sx set k)] sh I L R 0 0
      refine e_iload_n dX1_pressOn_30 rfl rfl ?_
      refine e_icmp_ne (tgt := 44) dX1_pressOn_31 (by decide) (fun c_31 => ?_) (fun c_31 => ?_)
      · refine e_iconst (v := 0) dX1_pressOn_44 (by decide) ?_
        refine e_iadd dX1_pressOn_45 ?_
        refine e_istore_n (ls' := [(3, .int ((pressN (dn I b) sx set k) + 0)), (4, .int (nI k)), (0, (.ref b)), (1, .int (sx)), (2, .int (set))]) dX1_pressOn_46 rfl (Nat.le_of_ble_eq_true rfl) rfl ?_
        refine e_iinc (v := nI (k + 1)) (ls' := [(4, .int (nI (k + 1))), (3, .int ((pressN (dn I b) sx set k) + 0)), (0, (.ref b)), (1, .int (sx)), (2, .int (set))]) dX1_pressOn_47 rfl (nI_1 _) (Nat.le_of_ble_eq_true rfl) rfl ?_
        refine e_goto (tgt := 5) dX1_pressOn_50 (by decide) ?_
        refine e_pick (ls' := [(4, .int (nI (k + 1))), (3, .int ((pressN (dn I b) sx set k) + 0)), (0, (.ref b)), (1, .int (sx)), (2, .int (set))]) [0, 1, 2, 3, 4] rfl ?_
        have eq_3 : (pressN (dn I b) sx set k) + 0 = pressN (dn I b) sx set (k + 1) := (by first | (rw [pressN, if_pos ⟨c_21, c_31⟩]; done) | rw [pressN, if_neg (fun h => c_21 h.1)] | rw [pressN, if_neg (fun h => c_31 h.2)])
        rw [eq_3]
        exact ih hlt
      · refine e_aload_n dX1_pressOn_34 rfl rfl rfl ?_
        refine e_getR (v := (.ref (b + 5))) dX1_pressOn_35 s0 kg_X1_24 rfl r11 ?_
        refine e_iload dX1_pressOn_38 rfl ?_
        refine e_ialdv (j := k) (v := I (b + 5) k) dX1_pressOn_40 s5 (vp_in_nI (by omega) (by omega)) (nI_clamp (by omega)) rfl ?_
        refine e_goto (tgt := 45) dX1_pressOn_41 (by decide) ?_
        refine e_iadd dX1_pressOn_45 ?_
        refine e_istore_n (ls' := [(3, .int ((pressN (dn I b) sx set k) + (I (b + 5) k))), (4, .int (nI k)), (0, (.ref b)), (1, .int (sx)), (2, .int (set))]) dX1_pressOn_46 rfl (Nat.le_of_ble_eq_true rfl) rfl ?_
        refine e_iinc (v := nI (k + 1)) (ls' := [(4, .int (nI (k + 1))), (3, .int ((pressN (dn I b) sx set k) + (I (b + 5) k))), (0, (.ref b)), (1, .int (sx)), (2, .int (set))]) dX1_pressOn_47 rfl (nI_1 _) (Nat.le_of_ble_eq_true rfl) rfl ?_
        refine e_goto (tgt := 5) dX1_pressOn_50 (by decide) ?_
        refine e_pick (ls' := [(4, .int (nI (k + 1))), (3, .int ((pressN (dn I b) sx set k) + (I (b + 5) k))), (0, (.ref b)), (1, .int (sx)), (2, .int (set))]) [0, 1, 2, 3, 4] rfl ?_
        have eq_3 : (pressN (dn I b) sx set k) + (I (b + 5) k) = pressN (dn I b) sx set (k + 1) := (by first | (rw [pressN, if_pos ⟨c_21, c_31⟩]; done) | rw [pressN, if_neg (fun h => c_21 h.1)] | rw [pressN, if_neg (fun h => c_31 h.2)])
        rw [eq_3]
        exact ih hlt
set_option maxRecDepth 100000 in
set_option maxHeartbeats 4000000 in
theorem ct_giveOf {l : Launch} {sh : ExSh} {I : ExI} {L : ExL} {R : ExR} (b N : Nat) (D : Nat → Nat → Int32) (hd : dn I b = D) (hD : isD sh R b) (hok : okD D N) (k : Nat) (set : Int32) (hk : k < N) : Ct l (ws_ yX1_giveOf cX1_giveOf 3 (some .int)) yX1_giveOf 4 0 0 [(.ref b), .int (nI k), .int (set)] sh I L R (kEq (some (some (.int (give D N k set)))) sh (I) L R) := by
  subst hd
  obtain ⟨s0, s1, s2, s3, s4, s5, s6, s7, s8, s9, s10, s11, r7, r8, r9, r10, r11, r12, r13, r14, r15, r16, r17⟩ := id hD
  obtain ⟨hN0, h8, hch0, hst0, hw0⟩ := id hok
  have hN : I b 2 = nI N := hN0
  have hch : ∀ k, k < 8 → vp_in (I (b + 4) k) 8 := hch0
  have hst : ∀ c, c < 8 → vp_in (I (b + 3) c) 4 := hst0
  refine Ct.of (own := "ChairCane$Dinner") (nm := "giveOf") rfl rfl rfl (Nat.le_of_ble_eq_true rfl) ?_
  obtain ⟨K, hK⟩ : ∃ K : ExK, K = kEq (some (some (.int (give (dn I b) N k set)))) sh (I) L R := ⟨_, rfl⟩
  rw [← hK]
  show Ex l mX1_giveOf 4 K 0 [(0, (.ref b)), (1, .int (nI k)), (2, .int (set))] [] sh I L R 0 0
  refine e_iload_n dX1_giveOf_0 rfl rfl ?_
  refine e_iload_n dX1_giveOf_1 rfl rfl ?_
  refine e_callSe (k2 := 0) (n2 := 0) (mc' := 0) (ms' := 0) (As := [.int (set), .int (nI k)]) dX1_giveOf_2 ks_X1_78 rfl rfl (Nat.le_of_ble_eq_true rfl) (Nat.le_of_ble_eq_true rfl) (ct_has (set) (nI k)) ?_
  show Ex l mX1_giveOf 4 K 5 [(0, (.ref b)), (1, .int (nI k)), (2, .int (set))] [.int (bI (hasX (set) (nI k)))] sh I L R 0 0
  refine e_if_eq (tgt := 39) dX1_giveOf_5 (by decide) (fun c_5 => ?_) (fun c_5 => ?_)
  · have c_5 := bI_0.mp c_5
    refine e_iconst (v := 0) dX1_giveOf_39 (by decide) ?_
    exact e_iret dX1_giveOf_40 rfl (by rw [hK]; exact kEq_of (congrArg (fun z => some (some (Value.int z))) (by first | exact (if_pos c_5).symm | exact (if_neg c_5).symm)) rfl)
  · have c_5 := bI_n.mp c_5
    refine e_aload_n dX1_giveOf_8 rfl rfl rfl ?_
    refine e_getR (v := (.ref (b + 8))) dX1_giveOf_9 s0 kg_X1_33 rfl r14 ?_
    refine e_aload_n dX1_giveOf_12 rfl rfl rfl ?_
    refine e_iload_n dX1_giveOf_13 rfl rfl ?_
    refine e_callVe (k2 := 0) (n2 := 0) (mc' := 0) (ms' := 0) (As := [.int (nI k)]) dX1_giveOf_14 kv_X1_82 s0 rfl rfl (Nat.le_of_ble_eq_true rfl) (Nat.le_of_ble_eq_true rfl) (ct_strandOf b N (dn I b) rfl hD hok k (by omega)) ?_
    show Ex l mX1_giveOf 4 K 17 [(0, (.ref b)), (1, .int (nI k)), (2, .int (set))] [.int (strOf (dn I b) k), ((.ref (b + 8)))] sh I L R 0 0
    refine e_ialdv (j := ix (strOf (dn I b) k)) (v := I (b + 8) (ix (strOf (dn I b) k))) dX1_giveOf_17 s8 (hst (ix (I (b + 4) k)) (vp_in_lt (hch k (by omega)))) rfl rfl ?_
    refine e_aload_n dX1_giveOf_18 rfl rfl rfl ?_
    refine e_getR (v := (.ref (b + 5))) dX1_giveOf_19 s0 kg_X1_24 rfl r11 ?_
    refine e_iload_n dX1_giveOf_22 rfl rfl ?_
    refine e_ialdv (j := k) (v := I (b + 5) k) dX1_giveOf_23 s5 (vp_in_nI (by omega) (by omega)) (nI_clamp (by omega)) rfl ?_
    refine e_imul dX1_giveOf_24 ?_
    refine e_aload_n dX1_giveOf_25 rfl rfl rfl ?_
    refine e_aload_n dX1_giveOf_26 rfl rfl rfl ?_
    refine e_iload_n dX1_giveOf_27 rfl rfl ?_
    refine e_callVe (k2 := 0) (n2 := 0) (mc' := 0) (ms' := 0) (As := [.int (nI k)]) dX1_giveOf_28 kv_X1_82 s0 rfl rfl (Nat.le_of_ble_eq_true rfl) (Nat.le_of_ble_eq_true rfl) (ct_strandOf b N (dn I b) rfl hD hok k (by omega)) ?_
    show Ex l mX1_giveOf 4 K 31 [(0, (.ref b)), (1, .int (nI k)), (2, .int (set))] [.int (strOf (dn I b) k), (.ref b), .int ((I (b + 8) (ix (strOf (dn I b) k))) * (I (b + 5) k))] sh I L R 0 0
    refine e_iload_n dX1_giveOf_31 rfl rfl ?_
    refine e_callVe (k2 := 0) (n2 := 0) (mc' := 0) (ms' := 0) (As := [.int (strOf (dn I b) k), .int (set)]) dX1_giveOf_32 kv_X1_86 s0 rfl rfl (Nat.le_of_ble_eq_true rfl) (Nat.le_of_ble_eq_true rfl) (ct_pressOn b N (dn I b) rfl hD hok (strOf (dn I b) k) set) ?_
    show Ex l mX1_giveOf 4 K 35 [(0, (.ref b)), (1, .int (nI k)), (2, .int (set))] [.int (pressN (dn I b) (strOf (dn I b) k) set N), .int ((I (b + 8) (ix (strOf (dn I b) k))) * (I (b + 5) k))] sh I L R 0 0
    refine e_idiv dX1_giveOf_35 (press_ne h8 hw0 hk c_5) ?_
    refine e_goto (tgt := 40) dX1_giveOf_36 (by decide) ?_
    exact e_iret dX1_giveOf_40 rfl (by rw [hK]; exact kEq_of (congrArg (fun z => some (some (Value.int z))) (by first | exact (if_pos c_5).symm | exact (if_neg c_5).symm)) rfl)
set_option maxRecDepth 100000 in
set_option maxHeartbeats 4000000 in
theorem ct_givesNow {l : Launch} {sh : ExSh} {I : ExI} {L : ExL} {R : ExR} (b N : Nat) (D : Nat → Nat → Int32) (hd : dn I b = D) (hD : isD sh R b) (hok : okD D N) (k : Nat) (hk : k < N) : Ct l (ws_ yX1_givesNow cX1_givesNow 2 (some .int)) yX1_givesNow 5 0 0 [(.ref b), .int (nI k)] sh I L R (kEq (some (some (.int (giveNow D N k)))) sh (I) L R) := by
  subst hd
  obtain ⟨s0, s1, s2, s3, s4, s5, s6, s7, s8, s9, s10, s11, r7, r8, r9, r10, r11, r12, r13, r14, r15, r16, r17⟩ := id hD
  obtain ⟨hN0, h8, hch0, hst0, hw0⟩ := id hok
  have hN : I b 2 = nI N := hN0
  have hch : ∀ k, k < 8 → vp_in (I (b + 4) k) 8 := hch0
  have hst : ∀ c, c < 8 → vp_in (I (b + 3) c) 4 := hst0
  refine Ct.of (own := "ChairCane$Dinner") (nm := "givesNow") rfl rfl rfl (Nat.le_of_ble_eq_true rfl) ?_
  obtain ⟨K, hK⟩ : ∃ K : ExK, K = kEq (some (some (.int (giveNow (dn I b) N k)))) sh (I) L R := ⟨_, rfl⟩
  rw [← hK]
  show Ex l mX1_givesNow 5 K 0 [(0, (.ref b)), (1, .int (nI k))] [] sh I L R 0 0
  refine e_aload_n dX1_givesNow_0 rfl rfl rfl ?_
  refine e_iload_n dX1_givesNow_1 rfl rfl ?_
  refine e_aload_n dX1_givesNow_2 rfl rfl rfl ?_
  refine e_iconst (v := 1) dX1_givesNow_3 (by decide) ?_
  refine e_callVe (k2 := 0) (n2 := 0) (mc' := 0) (ms' := 0) (As := [.int (1)]) dX1_givesNow_4 kv_X1_90 s0 rfl rfl (Nat.le_of_ble_eq_true rfl) (Nat.le_of_ble_eq_true rfl) (ct_onesThat b N (dn I b) rfl hD hok 1) ?_
  show Ex l mX1_givesNow 5 K 7 [(0, (.ref b)), (1, .int (nI k))] [.int (onesN ((dn I b) 7) 1 N), .int (nI k), (.ref b)] sh I L R 0 0
  refine e_callVe (k2 := 0) (n2 := 0) (mc' := 0) (ms' := 0) (As := [.int (nI k), .int (onesN ((dn I b) 7) 1 N)]) dX1_givesNow_7 kv_X1_93 s0 rfl rfl (Nat.le_of_ble_eq_true rfl) (Nat.le_of_ble_eq_true rfl) (ct_giveOf b N (dn I b) rfl hD hok k (onesN ((dn I b) 7) 1 N) (by omega)) ?_
  show Ex l mX1_givesNow 5 K 10 [(0, (.ref b)), (1, .int (nI k))] [.int (give (dn I b) N k (onesN ((dn I b) 7) 1 N))] sh I L R 0 0
  exact e_iret dX1_givesNow_10 rfl (by rw [hK]; exact kEq_of (congrArg (fun z => some (some (Value.int z))) (rfl)) rfl)
set_option maxRecDepth 100000 in
set_option maxHeartbeats 4000000 in
theorem ct_givesAll {l : Launch} {sh : ExSh} {I : ExI} {L : ExL} {R : ExR} (b N : Nat) (D : Nat → Nat → Int32) (hd : dn I b = D) (hD : isD sh R b) (hok : okD D N) : Ct l (ws_ yX1_givesAll cX1_givesAll 3 (some .int)) yX1_givesAll 6 0 0 [(.ref b)] sh I L R (kEq (some (some (.int (givesN D N N)))) sh (I) L R) := by
  subst hd
  obtain ⟨s0, s1, s2, s3, s4, s5, s6, s7, s8, s9, s10, s11, r7, r8, r9, r10, r11, r12, r13, r14, r15, r16, r17⟩ := id hD
  obtain ⟨hN0, h8, hch0, hst0, hw0⟩ := id hok
  have hN : I b 2 = nI N := hN0
  have hch : ∀ k, k < 8 → vp_in (I (b + 4) k) 8 := hch0
  have hst : ∀ c, c < 8 → vp_in (I (b + 3) c) 4 := hst0
  refine Ct.of (own := "ChairCane$Dinner") (nm := "givesAll") rfl rfl rfl (Nat.le_of_ble_eq_true rfl) ?_
  obtain ⟨K, hK⟩ : ∃ K : ExK, K = kEq (some (some (.int (givesN (dn I b) N N)))) sh (I) L R := ⟨_, rfl⟩
  rw [← hK]
  show Ex l mX1_givesAll 6 K 0 [(0, (.ref b))] [] sh I L R 0 0
  refine e_iconst (v := 0) dX1_givesAll_0 (by decide) ?_
  refine e_istore_n (ls' := [(1, .int (0)), (0, (.ref b))]) dX1_givesAll_1 rfl (Nat.le_of_ble_eq_true rfl) rfl ?_
  refine e_iconst (v := 0) dX1_givesAll_2 (by decide) ?_
  refine e_istore_n (ls' := [(2, .int (0)), (1, .int (0)), (0, (.ref b))]) dX1_givesAll_3 rfl (Nat.le_of_ble_eq_true rfl) rfl ?_
  refine e_pick (ls' := [(2, .int (0)), (1, .int (0)), (0, (.ref b))]) [0, 1, 2] rfl ?_
  refine ex_up (P := fun k => Ex l mX1_givesAll 6 K 4 [(2, .int (nI k)), (1, .int (givesN (dn I b) N k)), (0, (.ref b))] [] sh I L R 0 0) N (fun k hk ih => ?_) 0 (Nat.zero_le _)
  refine e_iload_n dX1_givesAll_4 rfl rfl ?_
  refine e_aload_n dX1_givesAll_5 rfl rfl rfl ?_
  refine e_getIv (v := I b 2) dX1_givesAll_6 s0 kg_X1_53 rfl rfl ?_
  refine e_icmp_ge (tgt := 26) dX1_givesAll_9 (by decide) (fun c_9 => ?_) (fun c_9 => ?_)
  · have hkN : k = N := by have := (ex_ge hN (by omega) (by omega)).mp c_9; omega
    refine e_iload_n dX1_givesAll_26 rfl rfl ?_
    exact e_iret dX1_givesAll_27 rfl (by rw [hK]; exact kEq_of (congrArg (fun z => some (some (Value.int z))) (by rw [hkN])) rfl)
  · have hlt : k < N := by have := mt (ex_ge hN (by omega) (by omega)).mpr c_9; omega
    refine e_iload_n dX1_givesAll_12 rfl rfl ?_
    refine e_aload_n dX1_givesAll_13 rfl rfl rfl ?_
    refine e_iload_n dX1_givesAll_14 rfl rfl ?_
    refine e_callVe (k2 := 0) (n2 := 0) (mc' := 0) (ms' := 0) (As := [.int (nI k)]) dX1_givesAll_15 kv_X1_96 s0 rfl rfl (Nat.le_of_ble_eq_true rfl) (Nat.le_of_ble_eq_true rfl) (ct_givesNow b N (dn I b) rfl hD hok k (by omega)) ?_
    show Ex l mX1_givesAll 6 K 18 [(2, .int (nI k)), (1, .int (givesN (dn I b) N k)), (0, (.ref b))] [.int (giveNow (dn I b) N k), .int (givesN (dn I b) N k)] sh I L R 0 0
    refine e_iadd dX1_givesAll_18 ?_
    refine e_istore_n (ls' := [(1, .int ((givesN (dn I b) N k) + (giveNow (dn I b) N k))), (2, .int (nI k)), (0, (.ref b))]) dX1_givesAll_19 rfl (Nat.le_of_ble_eq_true rfl) rfl ?_
    refine e_iinc (v := nI (k + 1)) (ls' := [(2, .int (nI (k + 1))), (1, .int ((givesN (dn I b) N k) + (giveNow (dn I b) N k))), (0, (.ref b))]) dX1_givesAll_20 rfl (nI_1 _) (Nat.le_of_ble_eq_true rfl) rfl ?_
    refine e_goto (tgt := 4) dX1_givesAll_23 (by decide) ?_
    refine e_pick (ls' := [(2, .int (nI (k + 1))), (1, .int ((givesN (dn I b) N k) + (giveNow (dn I b) N k))), (0, (.ref b))]) [0, 1, 2] rfl ?_
    have eq_1 : (givesN (dn I b) N k) + (giveNow (dn I b) N k) = givesN (dn I b) N (k + 1) := (by rw [givesN])
    rw [eq_1]
    exact ih hlt
set_option maxRecDepth 100000 in
set_option maxHeartbeats 4000000 in
theorem ct_dropsOf {l : Launch} {sh : ExSh} {I : ExI} {L : ExL} {R : ExR} (b N : Nat) (D : Nat → Nat → Int32) (hd : dn I b = D) (hD : isD sh R b) (hok : okD D N) (set : Int32) : Ct l (ws_ yX1_dropsOf cX1_dropsOf 4 (some .int)) yX1_dropsOf 5 0 0 [(.ref b), .int (set)] sh I L R (kEq (some (some (.int (drops D N set)))) sh (I) L R) := by
  subst hd
  obtain ⟨s0, s1, s2, s3, s4, s5, s6, s7, s8, s9, s10, s11, r7, r8, r9, r10, r11, r12, r13, r14, r15, r16, r17⟩ := id hD
  obtain ⟨hN0, h8, hch0, hst0, hw0⟩ := id hok
  have hN : I b 2 = nI N := hN0
  have hch : ∀ k, k < 8 → vp_in (I (b + 4) k) 8 := hch0
  have hst : ∀ c, c < 8 → vp_in (I (b + 3) c) 4 := hst0
  refine Ct.of (own := "ChairCane$Dinner") (nm := "dropsOf") rfl rfl rfl (Nat.le_of_ble_eq_true rfl) ?_
  obtain ⟨K, hK⟩ : ∃ K : ExK, K = kEq (some (some (.int (drops (dn I b) N set)))) sh (I) L R := ⟨_, rfl⟩
  rw [← hK]
  show Ex l mX1_dropsOf 5 K 0 [(0, (.ref b)), (1, .int (set))] [] sh I L R 0 0
  refine e_iconst (v := 0) dX1_dropsOf_0 (by decide) ?_
  refine e_istore_n (ls' := [(2, .int (0)), (0, (.ref b)), (1, .int (set))]) dX1_dropsOf_1 rfl (Nat.le_of_ble_eq_true rfl) rfl ?_
  refine e_iconst (v := 0) dX1_dropsOf_2 (by decide) ?_
  refine e_istore_n (ls' := [(3, .int (0)), (2, .int (0)), (0, (.ref b)), (1, .int (set))]) dX1_dropsOf_3 rfl (Nat.le_of_ble_eq_true rfl) rfl ?_
  refine e_pick (ls' := [(3, .int (0)), (2, .int (0)), (0, (.ref b)), (1, .int (set))]) [0, 1, 2, 3] rfl ?_
  refine ex_up (P := fun k => Ex l mX1_dropsOf 5 K 4 [(3, .int (nI k)), (2, .int (dropsN (dn I b) N set k)), (0, (.ref b)), (1, .int (set))] [] sh I L R 0 0) N (fun k hk ih => ?_) 0 (Nat.zero_le _)
  refine e_iload_n dX1_dropsOf_4 rfl rfl ?_
  refine e_aload_n dX1_dropsOf_5 rfl rfl rfl ?_
  refine e_getIv (v := I b 2) dX1_dropsOf_6 s0 kg_X1_53 rfl rfl ?_
  refine e_icmp_ge (tgt := 56) dX1_dropsOf_9 (by decide) (fun c_9 => ?_) (fun c_9 => ?_)
  · have hkN : k = N := by have := (ex_ge hN (by omega) (by omega)).mp c_9; omega
    refine e_iload_n dX1_dropsOf_56 rfl rfl ?_
    exact e_iret dX1_dropsOf_57 rfl (by rw [hK]; exact kEq_of (congrArg (fun z => some (some (Value.int z))) (by rw [hkN]; rfl)) rfl)
  · have hlt : k < N := by have := mt (ex_ge hN (by omega) (by omega)).mpr c_9; omega
    refine e_iload_n dX1_dropsOf_12 rfl rfl ?_
    refine e_iload_n dX1_dropsOf_13 rfl rfl ?_
    refine e_iload_n dX1_dropsOf_14 rfl rfl ?_
    refine e_callSe (k2 := 0) (n2 := 0) (mc' := 0) (ms' := 0) (As := [.int (set), .int (nI k)]) dX1_dropsOf_15 ks_X1_78 rfl rfl (Nat.le_of_ble_eq_true rfl) (Nat.le_of_ble_eq_true rfl) (ct_has (set) (nI k)) ?_
    show Ex l mX1_dropsOf 5 K 18 [(3, .int (nI k)), (2, .int (dropsN (dn I b) N set k)), (0, (.ref b)), (1, .int (set))] [.int (bI (hasX (set) (nI k))), .int (dropsN (dn I b) N set k)] sh I L R 0 0
    refine e_if_eq (tgt := 47) dX1_dropsOf_18 (by decide) (fun c_18 => ?_) (fun c_18 => ?_)
    · have c_18 := bI_0.mp c_18
      refine e_iconst (v := 0) dX1_dropsOf_47 (by decide) ?_
      refine e_ior dX1_dropsOf_48 ?_
      refine e_istore_n (ls' := [(2, .int ((dropsN (dn I b) N set k) ||| 0)), (3, .int (nI k)), (0, (.ref b)), (1, .int (set))]) dX1_dropsOf_49 rfl (Nat.le_of_ble_eq_true rfl) rfl ?_
      refine e_iinc (v := nI (k + 1)) (ls' := [(3, .int (nI (k + 1))), (2, .int ((dropsN (dn I b) N set k) ||| 0)), (0, (.ref b)), (1, .int (set))]) dX1_dropsOf_50 rfl (nI_1 _) (Nat.le_of_ble_eq_true rfl) rfl ?_
      refine e_goto (tgt := 4) dX1_dropsOf_53 (by decide) ?_
      refine e_pick (ls' := [(3, .int (nI (k + 1))), (2, .int ((dropsN (dn I b) N set k) ||| 0)), (0, (.ref b)), (1, .int (set))]) [0, 1, 2, 3] rfl ?_
      have eq_2 : (dropsN (dn I b) N set k) ||| 0 = dropsN (dn I b) N set (k + 1) := (by first | (rw [dropsN, if_pos ⟨c_18, Int32.not_lt.mp c_38⟩]; done) | (rw [dropsN, if_neg (fun h => c_18 h.1)]; done) | (rw [dropsN, if_neg (fun h => Int32.not_lt.mpr h.2 c_38)]; done))
      rw [eq_2]
      exact ih hlt
    · have c_18 := bI_n.mp c_18
      refine e_aload_n dX1_dropsOf_21 rfl rfl rfl ?_
      refine e_iload_n dX1_dropsOf_22 rfl rfl ?_
      refine e_iload_n dX1_dropsOf_23 rfl rfl ?_
      refine e_callVe (k2 := 0) (n2 := 0) (mc' := 0) (ms' := 0) (As := [.int (nI k), .int (set)]) dX1_dropsOf_24 kv_X1_93 s0 rfl rfl (Nat.le_of_ble_eq_true rfl) (Nat.le_of_ble_eq_true rfl) (ct_giveOf b N (dn I b) rfl hD hok k set (by omega)) ?_
      show Ex l mX1_dropsOf 5 K 27 [(3, .int (nI k)), (2, .int (dropsN (dn I b) N set k)), (0, (.ref b)), (1, .int (set))] [.int (give (dn I b) N k set), .int (dropsN (dn I b) N set k)] sh I L R 0 0
      refine e_aload_n dX1_dropsOf_27 rfl rfl rfl ?_
      refine e_getR (v := (.ref (b + 2))) dX1_dropsOf_28 s0 kg_X1_15 rfl r8 ?_
      refine e_aload_n dX1_dropsOf_31 rfl rfl rfl ?_
      refine e_getR (v := (.ref (b + 4))) dX1_dropsOf_32 s0 kg_X1_21 rfl r10 ?_
      refine e_iload_n dX1_dropsOf_35 rfl rfl ?_
      refine e_ialdv (j := k) (v := I (b + 4) k) dX1_dropsOf_36 s4 (vp_in_nI (by omega) (by omega)) (nI_clamp (by omega)) rfl ?_
      refine e_ialdv (j := ix (I (b + 4) k)) (v := I (b + 2) (ix (I (b + 4) k))) dX1_dropsOf_37 s2 (hch k (by omega)) rfl rfl ?_
      refine e_icmp_lt (tgt := 47) dX1_dropsOf_38 (by decide) (fun c_38 => ?_) (fun c_38 => ?_)
      · refine e_iconst (v := 0) dX1_dropsOf_47 (by decide) ?_
        refine e_ior dX1_dropsOf_48 ?_
        refine e_istore_n (ls' := [(2, .int ((dropsN (dn I b) N set k) ||| 0)), (3, .int (nI k)), (0, (.ref b)), (1, .int (set))]) dX1_dropsOf_49 rfl (Nat.le_of_ble_eq_true rfl) rfl ?_
        refine e_iinc (v := nI (k + 1)) (ls' := [(3, .int (nI (k + 1))), (2, .int ((dropsN (dn I b) N set k) ||| 0)), (0, (.ref b)), (1, .int (set))]) dX1_dropsOf_50 rfl (nI_1 _) (Nat.le_of_ble_eq_true rfl) rfl ?_
        refine e_goto (tgt := 4) dX1_dropsOf_53 (by decide) ?_
        refine e_pick (ls' := [(3, .int (nI (k + 1))), (2, .int ((dropsN (dn I b) N set k) ||| 0)), (0, (.ref b)), (1, .int (set))]) [0, 1, 2, 3] rfl ?_
        have eq_2 : (dropsN (dn I b) N set k) ||| 0 = dropsN (dn I b) N set (k + 1) := (by first | (rw [dropsN, if_pos ⟨c_18, Int32.not_lt.mp c_38⟩]; done) | (rw [dropsN, if_neg (fun h => c_18 h.1)]; done) | (rw [dropsN, if_neg (fun h => Int32.not_lt.mpr h.2 c_38)]; done))
        rw [eq_2]
        exact ih hlt
      · refine e_iconst (v := 1) dX1_dropsOf_41 (by decide) ?_
        refine e_iload_n dX1_dropsOf_42 rfl rfl ?_
        refine e_ishl dX1_dropsOf_43 ?_
        refine e_goto (tgt := 48) dX1_dropsOf_44 (by decide) ?_
        refine e_ior dX1_dropsOf_48 ?_
        refine e_istore_n (ls' := [(2, .int ((dropsN (dn I b) N set k) ||| (1 <<< (nI k &&& 31)))), (3, .int (nI k)), (0, (.ref b)), (1, .int (set))]) dX1_dropsOf_49 rfl (Nat.le_of_ble_eq_true rfl) rfl ?_
        refine e_iinc (v := nI (k + 1)) (ls' := [(3, .int (nI (k + 1))), (2, .int ((dropsN (dn I b) N set k) ||| (1 <<< (nI k &&& 31)))), (0, (.ref b)), (1, .int (set))]) dX1_dropsOf_50 rfl (nI_1 _) (Nat.le_of_ble_eq_true rfl) rfl ?_
        refine e_goto (tgt := 4) dX1_dropsOf_53 (by decide) ?_
        refine e_pick (ls' := [(3, .int (nI (k + 1))), (2, .int ((dropsN (dn I b) N set k) ||| (1 <<< (nI k &&& 31)))), (0, (.ref b)), (1, .int (set))]) [0, 1, 2, 3] rfl ?_
        have eq_2 : (dropsN (dn I b) N set k) ||| (1 <<< (nI k &&& 31)) = dropsN (dn I b) N set (k + 1) := (by first | (rw [dropsN, if_pos ⟨c_18, Int32.not_lt.mp c_38⟩]; done) | (rw [dropsN, if_neg (fun h => c_18 h.1)]; done) | (rw [dropsN, if_neg (fun h => Int32.not_lt.mpr h.2 c_38)]; done))
        rw [eq_2]
        exact ih hlt
set_option maxRecDepth 100000 in
set_option maxHeartbeats 4000000 in
theorem ct_settled {l : Launch} {sh : ExSh} {I : ExI} {L : ExL} {R : ExR} (b N : Nat) (D : Nat → Nat → Int32) (hd : dn I b = D) (hD : isD sh R b) (hok : okD D N) : Ct l (ws_ yX1_settled cX1_settled 4 (some .int)) yX1_settled 6 0 0 [(.ref b)] sh I L R (kEq (some (some (.int (settle D N).1))) sh ((va_up I (b + 7) (settle D N).2)) L R) := by
  subst hd
  obtain ⟨s0, s1, s2, s3, s4, s5, s6, s7, s8, s9, s10, s11, r7, r8, r9, r10, r11, r12, r13, r14, r15, r16, r17⟩ := id hD
  obtain ⟨hN0, h8, hch0, hst0, hw0⟩ := id hok
  have hN : I b 2 = nI N := hN0
  have hch : ∀ k, k < 8 → vp_in (I (b + 4) k) 8 := hch0
  have hst : ∀ c, c < 8 → vp_in (I (b + 3) c) 4 := hst0
  refine Ct.of (own := "ChairCane$Dinner") (nm := "settled") rfl rfl rfl (Nat.le_of_ble_eq_true rfl) ?_
  obtain ⟨K, hK⟩ : ∃ K : ExK, K = kEq (some (some (.int (settle (dn I b) N).1))) sh ((va_up I (b + 7) (settle (dn I b) N).2)) L R := ⟨_, rfl⟩
  rw [← hK]
  show Ex l mX1_settled 6 K 0 [(0, (.ref b))] [] sh I L R 0 0
  refine e_iconst (v := 0) dX1_settled_0 (by decide) ?_
  refine e_istore_n (ls' := [(1, .int (0)), (0, (.ref b))]) dX1_settled_1 rfl (Nat.le_of_ble_eq_true rfl) rfl ?_
  refine e_aload_n dX1_settled_2 rfl rfl rfl ?_
  refine e_aload_n dX1_settled_3 rfl rfl rfl ?_
  refine e_iconst (v := 1) dX1_settled_4 (by decide) ?_
  refine e_callVe (k2 := 0) (n2 := 0) (mc' := 0) (ms' := 0) (As := [.int (1)]) dX1_settled_5 kv_X1_90 s0 rfl rfl (Nat.le_of_ble_eq_true rfl) (Nat.le_of_ble_eq_true rfl) (ct_onesThat b N (dn I b) rfl hD hok 1) ?_
  show Ex l mX1_settled 6 K 8 [(1, .int (0)), (0, (.ref b))] [.int (onesN ((dn I b) 7) 1 N), (.ref b)] sh I L R 0 0
  refine e_callVe (k2 := 0) (n2 := 0) (mc' := 0) (ms' := 0) (As := [.int (onesN ((dn I b) 7) 1 N)]) dX1_settled_8 kv_X1_99 s0 rfl rfl (Nat.le_of_ble_eq_true rfl) (Nat.le_of_ble_eq_true rfl) (ct_dropsOf b N (dn I b) rfl hD hok (onesN ((dn I b) 7) 1 N)) ?_
  show Ex l mX1_settled 6 K 11 [(1, .int (0)), (0, (.ref b))] [.int (drops (dn I b) N (onesN ((dn I b) 7) 1 N))] sh I L R 0 0
  refine e_istore_n (ls' := [(2, .int (drops (dn I b) N (onesN ((dn I b) 7) 1 N))), (1, .int (0)), (0, (.ref b))]) dX1_settled_11 rfl (Nat.le_of_ble_eq_true rfl) rfl ?_
  have hloop : ∀ (f : Nat) (st : Nat → Int32) (all : Int32), cntN st N ≤ f → settleN (dn I b) N (f + 1) st all = settle (dn I b) N → Ex l mX1_settled 6 K 12 [(2, .int (dropSt (dn I b) N st)), (1, .int (all)), (0, (.ref b))] [] sh (va_up I (b + 7) st) L R 0 0 := by
    intro f
    induction f using Nat.strongRecOn with
    | _ f ihF =>
      intro st all hc hres
      rw [settleN] at hres
      refine e_iload_n dX1_settled_12 rfl rfl ?_
      refine e_if_eq (tgt := 64) dX1_settled_13 (by decide) (fun c_13 => ?_) (fun c_13 => ?_)
      · rw [if_pos c_13] at hres
        refine e_iload_n dX1_settled_64 rfl rfl ?_
        exact e_iret dX1_settled_65 rfl (by rw [hK]; exact kEq_of (congrArg (fun z => some (some (Value.int z))) (by rw [← hres])) (by rw [← hres]))
      · rw [if_neg c_13] at hres
        have hcn := drop_cnt h8 c_13
        obtain ⟨g, rfl⟩ : ∃ g, f = g + 1 := ⟨f - 1, by omega⟩
        refine e_iconst (v := 0) dX1_settled_16 (by decide) ?_
        refine e_istore_n (ls' := [(3, .int (0)), (2, .int (dropSt (dn I b) N st)), (1, .int (all)), (0, (.ref b))]) dX1_settled_17 rfl (Nat.le_of_ble_eq_true rfl) rfl ?_
        refine e_pick (ls' := [(3, .int (0)), (2, .int (dropSt (dn I b) N st)), (1, .int (all)), (0, (.ref b))]) [0, 1, 2, 3] rfl ?_
        refine ex_up (P := fun k => Ex l mX1_settled 6 K 18 [(3, .int (nI k)), (2, .int (dropSt (dn I b) N st)), (1, .int (all)), (0, (.ref b))] [] sh (va_up I (b + 7) (fallN (dropSt (dn I b) N st) st k)) L R 0 0) N (fun k hk ih => ?_) 0 (Nat.zero_le _)
        refine e_iload_n dX1_settled_18 rfl rfl ?_
        refine e_aload_n dX1_settled_19 rfl rfl rfl ?_
        refine e_getIv (v := I b 2) dX1_settled_20 s0 kg_X1_53 rfl (by rw [va_up_ne _ _ (by omega)]) ?_
        refine e_icmp_ge (tgt := 47) dX1_settled_23 (by decide) (fun c_23 => ?_) (fun c_23 => ?_)
        · have hkN : k = N := by have := (ex_ge hN (by omega) (by omega)).mp c_23; omega
          refine e_iload_n dX1_settled_47 rfl rfl ?_
          refine e_iload_n dX1_settled_48 rfl rfl ?_
          refine e_ior dX1_settled_49 ?_
          refine e_istore_n (ls' := [(1, .int (all ||| (dropSt (dn I b) N st))), (3, .int (nI k)), (2, .int (dropSt (dn I b) N st)), (0, (.ref b))]) dX1_settled_50 rfl (Nat.le_of_ble_eq_true rfl) rfl ?_
          refine e_aload_n dX1_settled_51 rfl rfl rfl ?_
          refine e_aload_n dX1_settled_52 rfl rfl rfl ?_
          refine e_iconst (v := 1) dX1_settled_53 (by decide) ?_
          refine e_callVe (k2 := 0) (n2 := 0) (mc' := 0) (ms' := 0) (As := [.int (1)]) dX1_settled_54 kv_X1_90 s0 rfl rfl (Nat.le_of_ble_eq_true rfl) (Nat.le_of_ble_eq_true rfl) (ct_onesThat b N (va_up (dn I b) 7 (fallN (dropSt (dn I b) N st) st k)) (by rw [dn_up]) hD (okD_up (j := 7) hok (by decide) (by decide) (by decide) (by decide)) 1) ?_
          show Ex l mX1_settled 6 K 57 [(1, .int (all ||| (dropSt (dn I b) N st))), (3, .int (nI k)), (2, .int (dropSt (dn I b) N st)), (0, (.ref b))] [.int (onesN ((va_up (dn I b) 7 (fallN (dropSt (dn I b) N st) st k)) 7) 1 N), (.ref b)] sh (va_up I (b + 7) (fallN (dropSt (dn I b) N st) st k)) L R 0 0
          refine e_callVe (k2 := 0) (n2 := 0) (mc' := 0) (ms' := 0) (As := [.int (onesN ((va_up (dn I b) 7 (fallN (dropSt (dn I b) N st) st k)) 7) 1 N)]) dX1_settled_57 kv_X1_99 s0 rfl rfl (Nat.le_of_ble_eq_true rfl) (Nat.le_of_ble_eq_true rfl) (ct_dropsOf b N (va_up (dn I b) 7 (fallN (dropSt (dn I b) N st) st k)) (by rw [dn_up]) hD (okD_up (j := 7) hok (by decide) (by decide) (by decide) (by decide)) (onesN ((va_up (dn I b) 7 (fallN (dropSt (dn I b) N st) st k)) 7) 1 N)) ?_
          show Ex l mX1_settled 6 K 60 [(1, .int (all ||| (dropSt (dn I b) N st))), (3, .int (nI k)), (2, .int (dropSt (dn I b) N st)), (0, (.ref b))] [.int (drops (va_up (dn I b) 7 (fallN (dropSt (dn I b) N st) st k)) N (onesN ((va_up (dn I b) 7 (fallN (dropSt (dn I b) N st) st k)) 7) 1 N))] sh (va_up I (b + 7) (fallN (dropSt (dn I b) N st) st k)) L R 0 0
          refine e_istore_n (ls' := [(2, .int (drops (va_up (dn I b) 7 (fallN (dropSt (dn I b) N st) st k)) N (onesN ((va_up (dn I b) 7 (fallN (dropSt (dn I b) N st) st k)) 7) 1 N))), (1, .int (all ||| (dropSt (dn I b) N st))), (3, .int (nI k)), (0, (.ref b))]) dX1_settled_60 rfl (Nat.le_of_ble_eq_true rfl) rfl ?_
          refine e_goto (tgt := 12) dX1_settled_61 (by decide) ?_
          refine e_pick (ls' := [(2, .int (drops (va_up (dn I b) 7 (fallN (dropSt (dn I b) N st) st k)) N (onesN ((va_up (dn I b) 7 (fallN (dropSt (dn I b) N st) st k)) 7) 1 N))), (1, .int (all ||| (dropSt (dn I b) N st))), (0, (.ref b))]) [0, 1, 3] rfl ?_
          have e2 : drops (va_up (dn I b) 7 (fallN (dropSt (dn I b) N st) st k)) N (onesN ((va_up (dn I b) 7 (fallN (dropSt (dn I b) N st) st k)) 7) 1 N) = dropSt (dn I b) N (fallN (dropSt (dn I b) N st) st k) := dropSt_at
          rw [e2, hkN]
          exact ihF g (by omega) (fallN (dropSt (dn I b) N st) st N) (all ||| (dropSt (dn I b) N st)) (by omega) hres
        · have hlt : k < N := by have := mt (ex_ge hN (by omega) (by omega)).mpr c_23; omega
          refine e_iload_n dX1_settled_26 rfl rfl ?_
          refine e_iload_n dX1_settled_27 rfl rfl ?_
          refine e_callSe (k2 := 0) (n2 := 0) (mc' := 0) (ms' := 0) (As := [.int (dropSt (dn I b) N st), .int (nI k)]) dX1_settled_28 ks_X1_78 rfl rfl (Nat.le_of_ble_eq_true rfl) (Nat.le_of_ble_eq_true rfl) (ct_has (dropSt (dn I b) N st) (nI k)) ?_
          show Ex l mX1_settled 6 K 31 [(3, .int (nI k)), (2, .int (dropSt (dn I b) N st)), (1, .int (all)), (0, (.ref b))] [.int (bI (hasX (dropSt (dn I b) N st) (nI k)))] sh (va_up I (b + 7) (fallN (dropSt (dn I b) N st) st k)) L R 0 0
          refine e_if_eq (tgt := 41) dX1_settled_31 (by decide) (fun c_31 => ?_) (fun c_31 => ?_)
          · have c_31 := bI_0.mp c_31
            refine e_iinc (v := nI (k + 1)) (ls' := [(3, .int (nI (k + 1))), (2, .int (dropSt (dn I b) N st)), (1, .int (all)), (0, (.ref b))]) dX1_settled_41 rfl (nI_1 _) (Nat.le_of_ble_eq_true rfl) rfl ?_
            refine e_goto (tgt := 18) dX1_settled_44 (by decide) ?_
            refine e_pick (ls' := [(3, .int (nI (k + 1))), (2, .int (dropSt (dn I b) N st)), (1, .int (all)), (0, (.ref b))]) [0, 1, 2, 3] rfl ?_
            refine e_memI (show (va_up I (b + 7) (fallN (dropSt (dn I b) N st) st k)) = (va_up I (b + 7) (fallN (dropSt (dn I b) N st) st (k + 1))) from (by first | (rw [fallN, if_pos c_31]; done) | (rw [fallN, if_neg c_31]; done))) ?_
            exact ih hlt
          · have c_31 := bI_n.mp c_31
            refine e_aload_n dX1_settled_34 rfl rfl rfl ?_
            refine e_getR (v := (.ref (b + 7))) dX1_settled_35 s0 kg_X1_30 rfl r13 ?_
            refine e_iload_n dX1_settled_38 rfl rfl ?_
            refine e_iconst (v := 2) dX1_settled_39 (by decide) ?_
            refine e_iastw (j := k) (I' := (va_up I (b + 7) (va_up (fallN (dropSt (dn I b) N st) st k) k 2))) dX1_settled_40 s7 (vp_in_nI (by omega) (by omega)) (nI_clamp (by omega)) exU_up ?_
            refine e_iinc (v := nI (k + 1)) (ls' := [(3, .int (nI (k + 1))), (2, .int (dropSt (dn I b) N st)), (1, .int (all)), (0, (.ref b))]) dX1_settled_41 rfl (nI_1 _) (Nat.le_of_ble_eq_true rfl) rfl ?_
            refine e_goto (tgt := 18) dX1_settled_44 (by decide) ?_
            refine e_pick (ls' := [(3, .int (nI (k + 1))), (2, .int (dropSt (dn I b) N st)), (1, .int (all)), (0, (.ref b))]) [0, 1, 2, 3] rfl ?_
            refine e_memI (show (va_up I (b + 7) (va_up (fallN (dropSt (dn I b) N st) st k) k 2)) = (va_up I (b + 7) (fallN (dropSt (dn I b) N st) st (k + 1))) from (by first | (rw [fallN, if_pos c_31]; done) | (rw [fallN, if_neg c_31]; done))) ?_
            exact ih hlt
  have h := hloop 8 (I (b + 7)) 0 (Nat.le_trans (cntN_le _ _) h8) rfl
  rw [va_up_id] at h
  refine e_pick (ls' := [(2, .int (drops (dn I b) N (onesN ((dn I b) 7) 1 N))), (1, .int (0)), (0, (.ref b))]) [0, 1, 2] rfl ?_
  have e2 : drops (dn I b) N (onesN ((dn I b) 7) 1 N) = dropSt (dn I b) N (I (b + 7)) := dropSt_self
  rw [e2]
  exact h
set_option maxRecDepth 100000 in
set_option maxHeartbeats 4000000 in
theorem ct_lays {l : Launch} {sh : ExSh} {I : ExI} {L : ExL} {R : ExR} (b N : Nat) (D : Nat → Nat → Int32) (hd : dn I b = D) (hD : isD sh R b) (hok : okD D N) (k : Nat) (hk : k < 20) : Ct l (ws_ yX1_lays cX1_lays 3 (none)) yX1_lays 2 0 0 [(.ref b), .int (nI k)] sh I L R (kEq (some none) sh ((va_up I (b + 9) (laysR (I (b + 9)) k (I b 6) (I (b + 7)) (I (b + 8))))) L R) := by
  subst hd
  obtain ⟨s0, s1, s2, s3, s4, s5, s6, s7, s8, s9, s10, s11, r7, r8, r9, r10, r11, r12, r13, r14, r15, r16, r17⟩ := id hD
  obtain ⟨hN0, h8, hch0, hst0, hw0⟩ := id hok
  have hN : I b 2 = nI N := hN0
  have hch : ∀ k, k < 8 → vp_in (I (b + 4) k) 8 := hch0
  have hst : ∀ c, c < 8 → vp_in (I (b + 3) c) 4 := hst0
  refine Ct.of (own := "ChairCane$Dinner") (nm := "lays") rfl rfl rfl (Nat.le_of_ble_eq_true rfl) ?_
  obtain ⟨K, hK⟩ : ∃ K : ExK, K = kEq (some none) sh ((va_up I (b + 9) (laysR (I (b + 9)) k (I b 6) (I (b + 7)) (I (b + 8))))) L R := ⟨_, rfl⟩
  rw [← hK]
  show Ex l mX1_lays 2 K 0 [(0, (.ref b)), (1, .int (nI k))] [] sh I L R 0 0
  refine e_bipush (v := 13) dX1_lays_0 (by decide) ?_
  refine e_iload_n dX1_lays_2 rfl rfl ?_
  refine e_imul dX1_lays_3 ?_
  refine e_cvI (y := nI (13 * k)) (pk_mul 13 k) ?_
  refine e_istore_n (ls' := [(2, .int (nI (13 * k))), (0, (.ref b)), (1, .int (nI k))]) dX1_lays_4 rfl (Nat.le_of_ble_eq_true rfl) rfl ?_
  refine e_aload_n dX1_lays_5 rfl rfl rfl ?_
  refine e_getR (v := (.ref (b + 9))) dX1_lays_6 s0 kg_X1_36 rfl r15 ?_
  refine e_iload_n dX1_lays_9 rfl rfl ?_
  refine e_aload_n dX1_lays_10 rfl rfl rfl ?_
  refine e_getIv (v := I b 6) dX1_lays_11 s0 kg_X1_75 rfl rfl ?_
  refine e_iastw (j := (13 * k)) (I' := (va_up I (b + 9) (va_up (I (b + 9)) (13 * k) (I b 6)))) dX1_lays_14 s9 (vp_in_nI (by omega) (by omega)) (nI_clamp (by omega)) (exU_rw rfl) ?_
  refine e_aload_n dX1_lays_15 rfl rfl rfl ?_
  refine e_getR (v := (.ref (b + 7))) dX1_lays_16 s0 kg_X1_30 rfl r13 ?_
  refine e_iconst (v := 0) dX1_lays_19 (by decide) ?_
  refine e_aload_n dX1_lays_20 rfl rfl rfl ?_
  refine e_getR (v := (.ref (b + 9))) dX1_lays_21 s0 kg_X1_36 rfl r15 ?_
  refine e_iload_n dX1_lays_24 rfl rfl ?_
  refine e_iconst (v := 1) dX1_lays_25 (by decide) ?_
  refine e_iadd dX1_lays_26 ?_
  refine e_cvI (y := nI ((13 * k) + 1)) (nI_add (13 * k) 1) ?_
  refine e_bipush (v := 8) dX1_lays_27 (by decide) ?_
  refine e_copyw (jx := 0) (jy := ((13 * k) + 1)) (jz := 8) (f := (I (b + 7))) (g := (va_up (I (b + 9)) (13 * k) (I b 6))) (I' := (va_up I (b + 9) (va_cpy (I (b + 7)) (va_up (I (b + 9)) (13 * k) (I b 6)) 0 ((13 * k) + 1) 8))) dX1_lays_29 q463 s7 s9 ⟨⟨rfl, rfl, rfl⟩, by omega, by omega, by omega, by omega⟩ (Nat.le_of_ble_eq_true rfl) (Nat.le_of_ble_eq_true rfl) (by rw [va_up_ne _ _ (by omega)]) (by rw [va_up_self]) va_up_up ?_
  refine e_aload_n dX1_lays_32 rfl rfl rfl ?_
  refine e_getR (v := (.ref (b + 8))) dX1_lays_33 s0 kg_X1_33 rfl r14 ?_
  refine e_iconst (v := 0) dX1_lays_36 (by decide) ?_
  refine e_aload_n dX1_lays_37 rfl rfl rfl ?_
  refine e_getR (v := (.ref (b + 9))) dX1_lays_38 s0 kg_X1_36 rfl r15 ?_
  refine e_iload_n dX1_lays_41 rfl rfl ?_
  refine e_bipush (v := 9) dX1_lays_42 (by decide) ?_
  refine e_iadd dX1_lays_44 ?_
  refine e_cvI (y := nI ((13 * k) + 9)) (nI_add (13 * k) 9) ?_
  refine e_iconst (v := 4) dX1_lays_45 (by decide) ?_
  refine e_copyw (jx := 0) (jy := ((13 * k) + 9)) (jz := 4) (f := (I (b + 8))) (g := (va_cpy (I (b + 7)) (va_up (I (b + 9)) (13 * k) (I b 6)) 0 ((13 * k) + 1) 8)) (I' := (va_up I (b + 9) (va_cpy (I (b + 8)) (va_cpy (I (b + 7)) (va_up (I (b + 9)) (13 * k) (I b 6)) 0 ((13 * k) + 1) 8) 0 ((13 * k) + 9) 4))) dX1_lays_46 q463 s8 s9 ⟨⟨rfl, rfl, rfl⟩, by omega, by omega, by omega, by omega⟩ (Nat.le_of_ble_eq_true rfl) (Nat.le_of_ble_eq_true rfl) (by rw [va_up_ne _ _ (by omega)]) (by rw [va_up_self]) va_up_up ?_
  exact e_vret dX1_lays_49 rfl (by rw [hK]; exact kEq_of rfl (rfl))
def backI (I : ExI) (b : Nat) (k : Nat) : ExI := (va_up (va_up (va_up I b (va_up (I b) 6 (I (b + 9) (13 * k)))) (b + 7) (va_cpy (I (b + 9)) (I (b + 7)) ((13 * k) + 1) 0 8)) (b + 8) (va_cpy (I (b + 9)) (I (b + 8)) ((13 * k) + 9) 0 4))
set_option maxRecDepth 100000 in
set_option maxHeartbeats 4000000 in
theorem ct_laysBack {l : Launch} {sh : ExSh} {I : ExI} {L : ExL} {R : ExR} (b N : Nat) (D : Nat → Nat → Int32) (hd : dn I b = D) (hD : isD sh R b) (hok : okD D N) (k : Nat) (hk : k < 20) : Ct l (ws_ yX1_laysBack cX1_laysBack 3 (none)) yX1_laysBack 2 0 0 [(.ref b), .int (nI k)] sh I L R (kEq (some none) sh ((backI I b k)) L R) := by
  subst hd
  obtain ⟨s0, s1, s2, s3, s4, s5, s6, s7, s8, s9, s10, s11, r7, r8, r9, r10, r11, r12, r13, r14, r15, r16, r17⟩ := id hD
  obtain ⟨hN0, h8, hch0, hst0, hw0⟩ := id hok
  have hN : I b 2 = nI N := hN0
  have hch : ∀ k, k < 8 → vp_in (I (b + 4) k) 8 := hch0
  have hst : ∀ c, c < 8 → vp_in (I (b + 3) c) 4 := hst0
  refine Ct.of (own := "ChairCane$Dinner") (nm := "laysBack") rfl rfl rfl (Nat.le_of_ble_eq_true rfl) ?_
  obtain ⟨K, hK⟩ : ∃ K : ExK, K = kEq (some none) sh ((backI I b k)) L R := ⟨_, rfl⟩
  rw [← hK]
  show Ex l mX1_laysBack 2 K 0 [(0, (.ref b)), (1, .int (nI k))] [] sh I L R 0 0
  refine e_bipush (v := 13) dX1_laysBack_0 (by decide) ?_
  refine e_iload_n dX1_laysBack_2 rfl rfl ?_
  refine e_imul dX1_laysBack_3 ?_
  refine e_cvI (y := nI (13 * k)) (pk_mul 13 k) ?_
  refine e_istore_n (ls' := [(2, .int (nI (13 * k))), (0, (.ref b)), (1, .int (nI k))]) dX1_laysBack_4 rfl (Nat.le_of_ble_eq_true rfl) rfl ?_
  refine e_aload_n dX1_laysBack_5 rfl rfl rfl ?_
  refine e_aload_n dX1_laysBack_6 rfl rfl rfl ?_
  refine e_getR (v := (.ref (b + 9))) dX1_laysBack_7 s0 kg_X1_36 rfl r15 ?_
  refine e_iload_n dX1_laysBack_10 rfl rfl ?_
  refine e_ialdv (j := (13 * k)) (v := I (b + 9) (13 * k)) dX1_laysBack_11 s9 (vp_in_nI (by omega) (by omega)) (nI_clamp (by omega)) rfl ?_
  refine e_putIw (I' := (va_up I b (va_up (I b) 6 (I (b + 9) (13 * k))))) dX1_laysBack_12 s0 kp_X1_75 (fun h => nomatch h) rfl rfl rfl (exU_rw rfl) ?_
  refine e_aload_n dX1_laysBack_15 rfl rfl rfl ?_
  refine e_getR (v := (.ref (b + 9))) dX1_laysBack_16 s0 kg_X1_36 rfl r15 ?_
  refine e_iload_n dX1_laysBack_19 rfl rfl ?_
  refine e_iconst (v := 1) dX1_laysBack_20 (by decide) ?_
  refine e_iadd dX1_laysBack_21 ?_
  refine e_cvI (y := nI ((13 * k) + 1)) (nI_add (13 * k) 1) ?_
  refine e_aload_n dX1_laysBack_22 rfl rfl rfl ?_
  refine e_getR (v := (.ref (b + 7))) dX1_laysBack_23 s0 kg_X1_30 rfl r13 ?_
  refine e_iconst (v := 0) dX1_laysBack_26 (by decide) ?_
  refine e_bipush (v := 8) dX1_laysBack_27 (by decide) ?_
  refine e_copyw (jx := ((13 * k) + 1)) (jy := 0) (jz := 8) (f := (I (b + 9))) (g := (I (b + 7))) (I' := (va_up (va_up I b (va_up (I b) 6 (I (b + 9) (13 * k)))) (b + 7) (va_cpy (I (b + 9)) (I (b + 7)) ((13 * k) + 1) 0 8))) dX1_laysBack_29 q463 s9 s7 ⟨⟨rfl, rfl, rfl⟩, by omega, by omega, by omega, by omega⟩ (Nat.le_of_ble_eq_true rfl) (Nat.le_of_ble_eq_true rfl) (by rw [va_up_ne _ _ (by omega)]) (by rw [va_up_ne _ _ (by omega)]) rfl ?_
  refine e_aload_n dX1_laysBack_32 rfl rfl rfl ?_
  refine e_getR (v := (.ref (b + 9))) dX1_laysBack_33 s0 kg_X1_36 rfl r15 ?_
  refine e_iload_n dX1_laysBack_36 rfl rfl ?_
  refine e_bipush (v := 9) dX1_laysBack_37 (by decide) ?_
  refine e_iadd dX1_laysBack_39 ?_
  refine e_cvI (y := nI ((13 * k) + 9)) (nI_add (13 * k) 9) ?_
  refine e_aload_n dX1_laysBack_40 rfl rfl rfl ?_
  refine e_getR (v := (.ref (b + 8))) dX1_laysBack_41 s0 kg_X1_33 rfl r14 ?_
  refine e_iconst (v := 0) dX1_laysBack_44 (by decide) ?_
  refine e_iconst (v := 4) dX1_laysBack_45 (by decide) ?_
  refine e_copyw (jx := ((13 * k) + 9)) (jy := 0) (jz := 4) (f := (I (b + 9))) (g := (I (b + 8))) (I' := (va_up (va_up (va_up I b (va_up (I b) 6 (I (b + 9) (13 * k)))) (b + 7) (va_cpy (I (b + 9)) (I (b + 7)) ((13 * k) + 1) 0 8)) (b + 8) (va_cpy (I (b + 9)) (I (b + 8)) ((13 * k) + 9) 0 4))) dX1_laysBack_46 q463 s9 s8 ⟨⟨rfl, rfl, rfl⟩, by omega, by omega, by omega, by omega⟩ (Nat.le_of_ble_eq_true rfl) (Nat.le_of_ble_eq_true rfl) (by rw [va_up_ne _ _ (by omega), va_up_ne _ _ (by omega)]) (by rw [va_up_ne _ _ (by omega), va_up_ne _ _ (by omega)]) rfl ?_
  exact e_vret dX1_laysBack_49 rfl (by rw [hK]; exact kEq_of rfl ((by rfl)))
def beginI (I : ExI) (b : Nat) : ExI := (va_up (va_up (va_up I b (va_up (I b) 6 0)) (b + 7) (fillN 0 (I (b + 7)) 8)) (b + 8) (va_cpy (I (b + 1)) (I (b + 8)) 0 0 4))
set_option maxRecDepth 100000 in
set_option maxHeartbeats 4000000 in
theorem ct_begins {l : Launch} {sh : ExSh} {I : ExI} {L : ExL} {R : ExR} (b N : Nat) (D : Nat → Nat → Int32) (hd : dn I b = D) (hD : isD sh R b) (hok : okD D N) : Ct l (ws_ yX1_begins cX1_begins 2 (none)) yX1_begins 2 0 0 [(.ref b)] sh I L R (kEq (some none) sh ((beginI I b)) L R) := by
  subst hd
  obtain ⟨s0, s1, s2, s3, s4, s5, s6, s7, s8, s9, s10, s11, r7, r8, r9, r10, r11, r12, r13, r14, r15, r16, r17⟩ := id hD
  obtain ⟨hN0, h8, hch0, hst0, hw0⟩ := id hok
  have hN : I b 2 = nI N := hN0
  have hch : ∀ k, k < 8 → vp_in (I (b + 4) k) 8 := hch0
  have hst : ∀ c, c < 8 → vp_in (I (b + 3) c) 4 := hst0
  refine Ct.of (own := "ChairCane$Dinner") (nm := "begins") rfl rfl rfl (Nat.le_of_ble_eq_true rfl) ?_
  obtain ⟨K, hK⟩ : ∃ K : ExK, K = kEq (some none) sh ((beginI I b)) L R := ⟨_, rfl⟩
  rw [← hK]
  show Ex l mX1_begins 2 K 0 [(0, (.ref b))] [] sh I L R 0 0
  refine e_aload_n dX1_begins_0 rfl rfl rfl ?_
  refine e_iconst (v := 0) dX1_begins_1 (by decide) ?_
  refine e_putIw (I' := (va_up I b (va_up (I b) 6 0))) dX1_begins_2 s0 kp_X1_75 (fun h => nomatch h) rfl rfl rfl (exU_rw rfl) ?_
  refine e_iconst (v := 0) dX1_begins_5 (by decide) ?_
  refine e_istore_n (ls' := [(1, .int (0)), (0, (.ref b))]) dX1_begins_6 rfl (Nat.le_of_ble_eq_true rfl) rfl ?_
  refine e_pick (ls' := [(1, .int (0)), (0, (.ref b))]) [0, 1] rfl ?_
  refine e_memI (show (va_up I b (va_up (I b) 6 0)) = (va_up (va_up I b (va_up (I b) 6 0)) (b + 7) (fillN 0 (I (b + 7)) 0)) from (va_up_idr (by rw [va_up_ne _ _ (by omega)]; rfl)).symm) ?_
  refine ex_up (P := fun k => Ex l mX1_begins 2 K 7 [(1, .int (nI k)), (0, (.ref b))] [] sh (va_up (va_up I b (va_up (I b) 6 0)) (b + 7) (fillN 0 (I (b + 7)) k)) L R 0 0) 8 (fun k hk ih => ?_) 0 (Nat.zero_le _)
  refine e_iload_n dX1_begins_7 rfl rfl ?_
  refine e_bipush (v := 8) dX1_begins_8 (by decide) ?_
  refine e_icmp_ge (tgt := 26) dX1_begins_10 (by decide) (fun c_10 => ?_) (fun c_10 => ?_)
  · have hkN : k = 8 := by have := (ex_ge (show (8 : Int32) = nI 8 from rfl) (by omega) (by omega)).mp c_10; omega
    refine e_aload_n dX1_begins_26 rfl rfl rfl ?_
    refine e_getR (v := (.ref (b + 1))) dX1_begins_27 s0 kg_X1_9 rfl r7 ?_
    refine e_iconst (v := 0) dX1_begins_30 (by decide) ?_
    refine e_aload_n dX1_begins_31 rfl rfl rfl ?_
    refine e_getR (v := (.ref (b + 8))) dX1_begins_32 s0 kg_X1_33 rfl r14 ?_
    refine e_iconst (v := 0) dX1_begins_35 (by decide) ?_
    refine e_iconst (v := 4) dX1_begins_36 (by decide) ?_
    refine e_copyw (jx := 0) (jy := 0) (jz := 4) (f := (I (b + 1))) (g := (I (b + 8))) (I' := (va_up (va_up (va_up I b (va_up (I b) 6 0)) (b + 7) (fillN 0 (I (b + 7)) k)) (b + 8) (va_cpy (I (b + 1)) (I (b + 8)) 0 0 4))) dX1_begins_37 q463 s1 s8 ⟨⟨rfl, rfl, rfl⟩, by omega, by omega, by omega, by omega⟩ (Nat.le_of_ble_eq_true rfl) (Nat.le_of_ble_eq_true rfl) (by rw [va_up_ne _ _ (by omega), va_up_ne _ _ (by omega)]) (by rw [va_up_ne _ _ (by omega), va_up_ne _ _ (by omega)]) rfl ?_
    exact e_vret dX1_begins_40 rfl (by rw [hK]; exact kEq_of rfl ((by rw [hkN]; rfl)))
  · have hlt : k < 8 := by have := mt (ex_ge (show (8 : Int32) = nI 8 from rfl) (by omega) (by omega)).mpr c_10; omega
    refine e_aload_n dX1_begins_13 rfl rfl rfl ?_
    refine e_getR (v := (.ref (b + 7))) dX1_begins_14 s0 kg_X1_30 rfl r13 ?_
    refine e_iload_n dX1_begins_17 rfl rfl ?_
    refine e_iconst (v := 0) dX1_begins_18 (by decide) ?_
    refine e_iastw (j := k) (I' := (va_up (va_up I b (va_up (I b) 6 0)) (b + 7) (va_up (fillN 0 (I (b + 7)) k) k 0))) dX1_begins_19 s7 (vp_in_nI (by omega) (by omega)) (nI_clamp (by omega)) exU_up ?_
    refine e_iinc (v := nI (k + 1)) (ls' := [(1, .int (nI (k + 1))), (0, (.ref b))]) dX1_begins_20 rfl (nI_1 _) (Nat.le_of_ble_eq_true rfl) rfl ?_
    refine e_goto (tgt := 7) dX1_begins_23 (by decide) ?_
    refine e_pick (ls' := [(1, .int (nI (k + 1))), (0, (.ref b))]) [0, 1] rfl ?_
    refine e_memI (show (va_up (va_up I b (va_up (I b) 6 0)) (b + 7) (va_up (fillN 0 (I (b + 7)) k) k 0)) = (va_up (va_up I b (va_up (I b) 6 0)) (b + 7) (fillN 0 (I (b + 7)) (k + 1))) from rfl) ?_
    exact ih hlt
def standI (I : ExI) (b : Nat) (o : Nat) : ExI := (va_up (va_up (va_up (va_up (va_up (va_up (va_up (va_up I b (va_up (I b) 6 (I o 6))) (b + 11) (fillN (-1) (I (b + 11)) 8)) (b + 2) (va_cpy (I (o + 2)) (I (b + 2)) 0 0 8)) (b + 3) (va_cpy (I (o + 3)) (I (b + 3)) 0 0 8)) (b + 4) (va_cpy (I (o + 4)) (I (b + 4)) 0 0 8)) (b + 5) (va_cpy (I (o + 5)) (I (b + 5)) 0 0 8)) (b + 7) (va_cpy (I (o + 7)) (I (b + 7)) 0 0 8)) (b + 8) (va_cpy (I (o + 8)) (I (b + 8)) 0 0 4))
set_option maxRecDepth 100000 in
set_option maxHeartbeats 4000000 in
theorem ct_standsAs {l : Launch} {sh : ExSh} {I : ExI} {L : ExL} {R : ExR} (b o : Nat) (hD : isD sh R b) (hO : isD sh R o) (hbo : b + 12 ≤ o ∨ o + 12 ≤ b) : Ct l (ws_ yX1_standsAs cX1_standsAs 3 (some (.object "ChairCane$Dinner"))) yX1_standsAs 2 0 0 [(.ref b), (.ref o)] sh I L R (kEq (some (some (.ref b))) sh ((standI I b o)) L R) := by
  obtain ⟨s0, s1, s2, s3, s4, s5, s6, s7, s8, s9, s10, s11, r7, r8, r9, r10, r11, r12, r13, r14, r15, r16, r17⟩ := id hD
  obtain ⟨t0, t1, t2, t3, t4, t5, t6, t7, t8, t9, t10, t11, u7, u8, u9, u10, u11, u12, u13, u14, u15, u16, u17⟩ := id hO
  refine Ct.of (own := "ChairCane$Dinner") (nm := "standsAs") rfl rfl rfl (Nat.le_of_ble_eq_true rfl) ?_
  obtain ⟨K, hK⟩ : ∃ K : ExK, K = kEq (some (some (.ref b))) sh ((standI I b o)) L R := ⟨_, rfl⟩
  rw [← hK]
  show Ex l mX1_standsAs 2 K 0 [(0, (.ref b)), (1, (.ref o))] [] sh I L R 0 0
  refine e_aload_n dX1_standsAs_0 rfl rfl rfl ?_
  refine e_aload_n dX1_standsAs_1 rfl rfl rfl ?_
  refine e_getIv (v := I o 6) dX1_standsAs_2 t0 kg_X1_75 rfl rfl ?_
  refine e_putIw (I' := (va_up I b (va_up (I b) 6 (I o 6)))) dX1_standsAs_5 s0 kp_X1_75 (fun h => nomatch h) rfl rfl rfl (exU_rw rfl) ?_
  refine e_iconst (v := 0) dX1_standsAs_8 (by decide) ?_
  refine e_istore_n (ls' := [(2, .int (0)), (0, (.ref b)), (1, (.ref o))]) dX1_standsAs_9 rfl (Nat.le_of_ble_eq_true rfl) rfl ?_
  refine e_pick (ls' := [(2, .int (0)), (0, (.ref b)), (1, (.ref o))]) [0, 1, 2] rfl ?_
  refine e_memI (show (va_up I b (va_up (I b) 6 (I o 6))) = (va_up (va_up I b (va_up (I b) 6 (I o 6))) (b + 11) (fillN (-1) (I (b + 11)) 0)) from (va_up_idr (by rw [va_up_ne _ _ (by omega)]; rfl)).symm) ?_
  refine ex_up (P := fun k => Ex l mX1_standsAs 2 K 10 [(2, .int (nI k)), (0, (.ref b)), (1, (.ref o))] [] sh (va_up (va_up I b (va_up (I b) 6 (I o 6))) (b + 11) (fillN (-1) (I (b + 11)) k)) L R 0 0) 8 (fun k hk ih => ?_) 0 (Nat.zero_le _)
  refine e_iload_n dX1_standsAs_10 rfl rfl ?_
  refine e_bipush (v := 8) dX1_standsAs_11 (by decide) ?_
  refine e_icmp_ge (tgt := 29) dX1_standsAs_13 (by decide) (fun c_13 => ?_) (fun c_13 => ?_)
  · have hkN : k = 8 := by have := (ex_ge (show (8 : Int32) = nI 8 from rfl) (by omega) (by omega)).mp c_13; omega
    refine e_aload_n dX1_standsAs_29 rfl rfl rfl ?_
    refine e_getR (v := (.ref (o + 2))) dX1_standsAs_30 t0 kg_X1_15 rfl u8 ?_
    refine e_iconst (v := 0) dX1_standsAs_33 (by decide) ?_
    refine e_aload_n dX1_standsAs_34 rfl rfl rfl ?_
    refine e_getR (v := (.ref (b + 2))) dX1_standsAs_35 s0 kg_X1_15 rfl r8 ?_
    refine e_iconst (v := 0) dX1_standsAs_38 (by decide) ?_
    refine e_bipush (v := 8) dX1_standsAs_39 (by decide) ?_
    refine e_copyw (jx := 0) (jy := 0) (jz := 8) (f := (I (o + 2))) (g := (I (b + 2))) (I' := (va_up (va_up (va_up I b (va_up (I b) 6 (I o 6))) (b + 11) (fillN (-1) (I (b + 11)) k)) (b + 2) (va_cpy (I (o + 2)) (I (b + 2)) 0 0 8))) dX1_standsAs_41 q463 t2 s2 ⟨⟨rfl, rfl, rfl⟩, by omega, by omega, by omega, by omega⟩ (Nat.le_of_ble_eq_true rfl) (Nat.le_of_ble_eq_true rfl) (by rw [va_up_ne _ _ (by omega), va_up_ne _ _ (by omega)]) (by rw [va_up_ne _ _ (by omega), va_up_ne _ _ (by omega)]) rfl ?_
    refine e_aload_n dX1_standsAs_44 rfl rfl rfl ?_
    refine e_getR (v := (.ref (o + 3))) dX1_standsAs_45 t0 kg_X1_18 rfl u9 ?_
    refine e_iconst (v := 0) dX1_standsAs_48 (by decide) ?_
    refine e_aload_n dX1_standsAs_49 rfl rfl rfl ?_
    refine e_getR (v := (.ref (b + 3))) dX1_standsAs_50 s0 kg_X1_18 rfl r9 ?_
    refine e_iconst (v := 0) dX1_standsAs_53 (by decide) ?_
    refine e_bipush (v := 8) dX1_standsAs_54 (by decide) ?_
    refine e_copyw (jx := 0) (jy := 0) (jz := 8) (f := (I (o + 3))) (g := (I (b + 3))) (I' := (va_up (va_up (va_up (va_up I b (va_up (I b) 6 (I o 6))) (b + 11) (fillN (-1) (I (b + 11)) k)) (b + 2) (va_cpy (I (o + 2)) (I (b + 2)) 0 0 8)) (b + 3) (va_cpy (I (o + 3)) (I (b + 3)) 0 0 8))) dX1_standsAs_56 q463 t3 s3 ⟨⟨rfl, rfl, rfl⟩, by omega, by omega, by omega, by omega⟩ (Nat.le_of_ble_eq_true rfl) (Nat.le_of_ble_eq_true rfl) (by rw [va_up_ne _ _ (by omega), va_up_ne _ _ (by omega), va_up_ne _ _ (by omega)]) (by rw [va_up_ne _ _ (by omega), va_up_ne _ _ (by omega), va_up_ne _ _ (by omega)]) rfl ?_
    refine e_aload_n dX1_standsAs_59 rfl rfl rfl ?_
    refine e_getR (v := (.ref (o + 4))) dX1_standsAs_60 t0 kg_X1_21 rfl u10 ?_
    refine e_iconst (v := 0) dX1_standsAs_63 (by decide) ?_
    refine e_aload_n dX1_standsAs_64 rfl rfl rfl ?_
    refine e_getR (v := (.ref (b + 4))) dX1_standsAs_65 s0 kg_X1_21 rfl r10 ?_
    refine e_iconst (v := 0) dX1_standsAs_68 (by decide) ?_
    refine e_bipush (v := 8) dX1_standsAs_69 (by decide) ?_
    refine e_copyw (jx := 0) (jy := 0) (jz := 8) (f := (I (o + 4))) (g := (I (b + 4))) (I' := (va_up (va_up (va_up (va_up (va_up I b (va_up (I b) 6 (I o 6))) (b + 11) (fillN (-1) (I (b + 11)) k)) (b + 2) (va_cpy (I (o + 2)) (I (b + 2)) 0 0 8)) (b + 3) (va_cpy (I (o + 3)) (I (b + 3)) 0 0 8)) (b + 4) (va_cpy (I (o + 4)) (I (b + 4)) 0 0 8))) dX1_standsAs_71 q463 t4 s4 ⟨⟨rfl, rfl, rfl⟩, by omega, by omega, by omega, by omega⟩ (Nat.le_of_ble_eq_true rfl) (Nat.le_of_ble_eq_true rfl) (by rw [va_up_ne _ _ (by omega), va_up_ne _ _ (by omega), va_up_ne _ _ (by omega), va_up_ne _ _ (by omega)]) (by rw [va_up_ne _ _ (by omega), va_up_ne _ _ (by omega), va_up_ne _ _ (by omega), va_up_ne _ _ (by omega)]) rfl ?_
    refine e_aload_n dX1_standsAs_74 rfl rfl rfl ?_
    refine e_getR (v := (.ref (o + 5))) dX1_standsAs_75 t0 kg_X1_24 rfl u11 ?_
    refine e_iconst (v := 0) dX1_standsAs_78 (by decide) ?_
    refine e_aload_n dX1_standsAs_79 rfl rfl rfl ?_
    refine e_getR (v := (.ref (b + 5))) dX1_standsAs_80 s0 kg_X1_24 rfl r11 ?_
    refine e_iconst (v := 0) dX1_standsAs_83 (by decide) ?_
    refine e_bipush (v := 8) dX1_standsAs_84 (by decide) ?_
    refine e_copyw (jx := 0) (jy := 0) (jz := 8) (f := (I (o + 5))) (g := (I (b + 5))) (I' := (va_up (va_up (va_up (va_up (va_up (va_up I b (va_up (I b) 6 (I o 6))) (b + 11) (fillN (-1) (I (b + 11)) k)) (b + 2) (va_cpy (I (o + 2)) (I (b + 2)) 0 0 8)) (b + 3) (va_cpy (I (o + 3)) (I (b + 3)) 0 0 8)) (b + 4) (va_cpy (I (o + 4)) (I (b + 4)) 0 0 8)) (b + 5) (va_cpy (I (o + 5)) (I (b + 5)) 0 0 8))) dX1_standsAs_86 q463 t5 s5 ⟨⟨rfl, rfl, rfl⟩, by omega, by omega, by omega, by omega⟩ (Nat.le_of_ble_eq_true rfl) (Nat.le_of_ble_eq_true rfl) (by rw [va_up_ne _ _ (by omega), va_up_ne _ _ (by omega), va_up_ne _ _ (by omega), va_up_ne _ _ (by omega), va_up_ne _ _ (by omega)]) (by rw [va_up_ne _ _ (by omega), va_up_ne _ _ (by omega), va_up_ne _ _ (by omega), va_up_ne _ _ (by omega), va_up_ne _ _ (by omega)]) rfl ?_
    refine e_aload_n dX1_standsAs_89 rfl rfl rfl ?_
    refine e_getR (v := (.ref (o + 7))) dX1_standsAs_90 t0 kg_X1_30 rfl u13 ?_
    refine e_iconst (v := 0) dX1_standsAs_93 (by decide) ?_
    refine e_aload_n dX1_standsAs_94 rfl rfl rfl ?_
    refine e_getR (v := (.ref (b + 7))) dX1_standsAs_95 s0 kg_X1_30 rfl r13 ?_
    refine e_iconst (v := 0) dX1_standsAs_98 (by decide) ?_
    refine e_bipush (v := 8) dX1_standsAs_99 (by decide) ?_
    refine e_copyw (jx := 0) (jy := 0) (jz := 8) (f := (I (o + 7))) (g := (I (b + 7))) (I' := (va_up (va_up (va_up (va_up (va_up (va_up (va_up I b (va_up (I b) 6 (I o 6))) (b + 11) (fillN (-1) (I (b + 11)) k)) (b + 2) (va_cpy (I (o + 2)) (I (b + 2)) 0 0 8)) (b + 3) (va_cpy (I (o + 3)) (I (b + 3)) 0 0 8)) (b + 4) (va_cpy (I (o + 4)) (I (b + 4)) 0 0 8)) (b + 5) (va_cpy (I (o + 5)) (I (b + 5)) 0 0 8)) (b + 7) (va_cpy (I (o + 7)) (I (b + 7)) 0 0 8))) dX1_standsAs_101 q463 t7 s7 ⟨⟨rfl, rfl, rfl⟩, by omega, by omega, by omega, by omega⟩ (Nat.le_of_ble_eq_true rfl) (Nat.le_of_ble_eq_true rfl) (by rw [va_up_ne _ _ (by omega), va_up_ne _ _ (by omega), va_up_ne _ _ (by omega), va_up_ne _ _ (by omega), va_up_ne _ _ (by omega), va_up_ne _ _ (by omega)]) (by rw [va_up_ne _ _ (by omega), va_up_ne _ _ (by omega), va_up_ne _ _ (by omega), va_up_ne _ _ (by omega), va_up_ne _ _ (by omega), va_up_ne _ _ (by omega)]) rfl ?_
    refine e_aload_n dX1_standsAs_104 rfl rfl rfl ?_
    refine e_getR (v := (.ref (o + 8))) dX1_standsAs_105 t0 kg_X1_33 rfl u14 ?_
    refine e_iconst (v := 0) dX1_standsAs_108 (by decide) ?_
    refine e_aload_n dX1_standsAs_109 rfl rfl rfl ?_
    refine e_getR (v := (.ref (b + 8))) dX1_standsAs_110 s0 kg_X1_33 rfl r14 ?_
    refine e_iconst (v := 0) dX1_standsAs_113 (by decide) ?_
    refine e_iconst (v := 4) dX1_standsAs_114 (by decide) ?_
    refine e_copyw (jx := 0) (jy := 0) (jz := 4) (f := (I (o + 8))) (g := (I (b + 8))) (I' := (va_up (va_up (va_up (va_up (va_up (va_up (va_up (va_up I b (va_up (I b) 6 (I o 6))) (b + 11) (fillN (-1) (I (b + 11)) k)) (b + 2) (va_cpy (I (o + 2)) (I (b + 2)) 0 0 8)) (b + 3) (va_cpy (I (o + 3)) (I (b + 3)) 0 0 8)) (b + 4) (va_cpy (I (o + 4)) (I (b + 4)) 0 0 8)) (b + 5) (va_cpy (I (o + 5)) (I (b + 5)) 0 0 8)) (b + 7) (va_cpy (I (o + 7)) (I (b + 7)) 0 0 8)) (b + 8) (va_cpy (I (o + 8)) (I (b + 8)) 0 0 4))) dX1_standsAs_115 q463 t8 s8 ⟨⟨rfl, rfl, rfl⟩, by omega, by omega, by omega, by omega⟩ (Nat.le_of_ble_eq_true rfl) (Nat.le_of_ble_eq_true rfl) (by rw [va_up_ne _ _ (by omega), va_up_ne _ _ (by omega), va_up_ne _ _ (by omega), va_up_ne _ _ (by omega), va_up_ne _ _ (by omega), va_up_ne _ _ (by omega), va_up_ne _ _ (by omega)]) (by rw [va_up_ne _ _ (by omega), va_up_ne _ _ (by omega), va_up_ne _ _ (by omega), va_up_ne _ _ (by omega), va_up_ne _ _ (by omega), va_up_ne _ _ (by omega), va_up_ne _ _ (by omega)]) rfl ?_
    refine e_aload_n dX1_standsAs_118 rfl rfl rfl ?_
    exact e_aret dX1_standsAs_119 rfl rfl rfl (by rw [hK]; exact kEq_of rfl ((by rw [hkN]; rfl)))
  · have hlt : k < 8 := by have := mt (ex_ge (show (8 : Int32) = nI 8 from rfl) (by omega) (by omega)).mpr c_13; omega
    refine e_aload_n dX1_standsAs_16 rfl rfl rfl ?_
    refine e_getR (v := (.ref (b + 11))) dX1_standsAs_17 s0 kg_X1_43 rfl r17 ?_
    refine e_iload_n dX1_standsAs_20 rfl rfl ?_
    refine e_iconst (v := (-1)) dX1_standsAs_21 (by decide) ?_
    refine e_iastw (j := k) (I' := (va_up (va_up I b (va_up (I b) 6 (I o 6))) (b + 11) (va_up (fillN (-1) (I (b + 11)) k) k (-1)))) dX1_standsAs_22 s11 (vp_in_nI (by omega) (by omega)) (nI_clamp (by omega)) exU_up ?_
    refine e_iinc (v := nI (k + 1)) (ls' := [(2, .int (nI (k + 1))), (0, (.ref b)), (1, (.ref o))]) dX1_standsAs_23 rfl (nI_1 _) (Nat.le_of_ble_eq_true rfl) rfl ?_
    refine e_goto (tgt := 10) dX1_standsAs_26 (by decide) ?_
    refine e_pick (ls' := [(2, .int (nI (k + 1))), (0, (.ref b)), (1, (.ref o))]) [0, 1, 2] rfl ?_
    refine e_memI (show (va_up (va_up I b (va_up (I b) 6 (I o 6))) (b + 11) (va_up (fillN (-1) (I (b + 11)) k) k (-1))) = (va_up (va_up I b (va_up (I b) 6 (I o 6))) (b + 11) (fillN (-1) (I (b + 11)) (k + 1))) from rfl) ?_
    exact ih hlt
def copyI (I : ExI) (b : Nat) (o : Nat) : ExI := (standI (va_up (va_up (va_up (va_up I b (va_up (va_up (va_up (va_up (va_up (va_up (I b) 0 (I o 0)) 1 (I o 1)) 2 (I o 2)) 3 (I o 3)) 4 (I o 4)) 5 (I o 5))) (b + 1) (va_cpy (I (o + 1)) (I (b + 1)) 0 0 4)) (b + 6) (va_cpy (I (o + 6)) (I (b + 6)) 0 0 30)) (b + 9) (va_cpy (I (o + 9)) (I (b + 9)) 0 0 260)) b o)
set_option maxRecDepth 100000 in
set_option maxHeartbeats 4000000 in
theorem ct_copies {l : Launch} {sh : ExSh} {I : ExI} {L : ExL} {R : ExR} (b o : Nat) (hD : isD sh R b) (hO : isD sh R o) (hbo : b + 12 ≤ o ∨ o + 12 ≤ b) : Ct l (ws_ yX1_copies cX1_copies 2 (some (.object "ChairCane$Dinner"))) yX1_copies 3 0 0 [(.ref b), (.ref o)] sh I L R (kEq (some (some (.ref b))) sh ((copyI I b o)) L R) := by
  obtain ⟨s0, s1, s2, s3, s4, s5, s6, s7, s8, s9, s10, s11, r7, r8, r9, r10, r11, r12, r13, r14, r15, r16, r17⟩ := id hD
  obtain ⟨t0, t1, t2, t3, t4, t5, t6, t7, t8, t9, t10, t11, u7, u8, u9, u10, u11, u12, u13, u14, u15, u16, u17⟩ := id hO
  refine Ct.of (own := "ChairCane$Dinner") (nm := "copies") rfl rfl rfl (Nat.le_of_ble_eq_true rfl) ?_
  obtain ⟨K, hK⟩ : ∃ K : ExK, K = kEq (some (some (.ref b))) sh ((copyI I b o)) L R := ⟨_, rfl⟩
  rw [← hK]
  show Ex l mX1_copies 3 K 0 [(0, (.ref b)), (1, (.ref o))] [] sh I L R 0 0
  refine e_aload_n dX1_copies_0 rfl rfl rfl ?_
  refine e_aload_n dX1_copies_1 rfl rfl rfl ?_
  refine e_getIv (v := I o 0) dX1_copies_2 t0 kg_X1_46 rfl rfl ?_
  refine e_putIw (I' := (va_up I b (va_up (I b) 0 (I o 0)))) dX1_copies_5 s0 kp_X1_46 (fun h => nomatch h) rfl rfl rfl (exU_rw rfl) ?_
  refine e_aload_n dX1_copies_8 rfl rfl rfl ?_
  refine e_aload_n dX1_copies_9 rfl rfl rfl ?_
  refine e_getIv (v := I o 1) dX1_copies_10 t0 kg_X1_50 rfl (by rw [va_up_ne _ _ (by omega)]) ?_
  refine e_putIw (I' := (va_up I b (va_up (va_up (I b) 0 (I o 0)) 1 (I o 1)))) dX1_copies_13 s0 kp_X1_50 (fun h => nomatch h) rfl rfl rfl exU_up ?_
  refine e_aload_n dX1_copies_16 rfl rfl rfl ?_
  refine e_aload_n dX1_copies_17 rfl rfl rfl ?_
  refine e_getIv (v := I o 2) dX1_copies_18 t0 kg_X1_53 rfl (by rw [va_up_ne _ _ (by omega)]) ?_
  refine e_putIw (I' := (va_up I b (va_up (va_up (va_up (I b) 0 (I o 0)) 1 (I o 1)) 2 (I o 2)))) dX1_copies_21 s0 kp_X1_53 (fun h => nomatch h) rfl rfl rfl exU_up ?_
  refine e_aload_n dX1_copies_24 rfl rfl rfl ?_
  refine e_aload_n dX1_copies_25 rfl rfl rfl ?_
  refine e_getIv (v := I o 3) dX1_copies_26 t0 kg_X1_56 rfl (by rw [va_up_ne _ _ (by omega)]) ?_
  refine e_putIw (I' := (va_up I b (va_up (va_up (va_up (va_up (I b) 0 (I o 0)) 1 (I o 1)) 2 (I o 2)) 3 (I o 3)))) dX1_copies_29 s0 kp_X1_56 (fun h => nomatch h) rfl rfl rfl exU_up ?_
  refine e_aload_n dX1_copies_32 rfl rfl rfl ?_
  refine e_aload_n dX1_copies_33 rfl rfl rfl ?_
  refine e_getIv (v := I o 4) dX1_copies_34 t0 kg_X1_59 rfl (by rw [va_up_ne _ _ (by omega)]) ?_
  refine e_putIw (I' := (va_up I b (va_up (va_up (va_up (va_up (va_up (I b) 0 (I o 0)) 1 (I o 1)) 2 (I o 2)) 3 (I o 3)) 4 (I o 4)))) dX1_copies_37 s0 kp_X1_59 (fun h => nomatch h) rfl rfl rfl exU_up ?_
  refine e_aload_n dX1_copies_40 rfl rfl rfl ?_
  refine e_aload_n dX1_copies_41 rfl rfl rfl ?_
  refine e_getIv (v := I o 5) dX1_copies_42 t0 kg_X1_62 rfl (by rw [va_up_ne _ _ (by omega)]) ?_
  refine e_putIw (I' := (va_up I b (va_up (va_up (va_up (va_up (va_up (va_up (I b) 0 (I o 0)) 1 (I o 1)) 2 (I o 2)) 3 (I o 3)) 4 (I o 4)) 5 (I o 5)))) dX1_copies_45 s0 kp_X1_62 (fun h => nomatch h) rfl rfl rfl exU_up ?_
  refine e_aload_n dX1_copies_48 rfl rfl rfl ?_
  refine e_getR (v := (.ref (o + 1))) dX1_copies_49 t0 kg_X1_9 rfl u7 ?_
  refine e_iconst (v := 0) dX1_copies_52 (by decide) ?_
  refine e_aload_n dX1_copies_53 rfl rfl rfl ?_
  refine e_getR (v := (.ref (b + 1))) dX1_copies_54 s0 kg_X1_9 rfl r7 ?_
  refine e_iconst (v := 0) dX1_copies_57 (by decide) ?_
  refine e_iconst (v := 4) dX1_copies_58 (by decide) ?_
  refine e_copyw (jx := 0) (jy := 0) (jz := 4) (f := (I (o + 1))) (g := (I (b + 1))) (I' := (va_up (va_up I b (va_up (va_up (va_up (va_up (va_up (va_up (I b) 0 (I o 0)) 1 (I o 1)) 2 (I o 2)) 3 (I o 3)) 4 (I o 4)) 5 (I o 5))) (b + 1) (va_cpy (I (o + 1)) (I (b + 1)) 0 0 4))) dX1_copies_59 q463 t1 s1 ⟨⟨rfl, rfl, rfl⟩, by omega, by omega, by omega, by omega⟩ (Nat.le_of_ble_eq_true rfl) (Nat.le_of_ble_eq_true rfl) (by rw [va_up_ne _ _ (by omega)]) (by rw [va_up_ne _ _ (by omega)]) rfl ?_
  refine e_aload_n dX1_copies_62 rfl rfl rfl ?_
  refine e_getR (v := (.ref (o + 6))) dX1_copies_63 t0 kg_X1_27 rfl u12 ?_
  refine e_iconst (v := 0) dX1_copies_66 (by decide) ?_
  refine e_aload_n dX1_copies_67 rfl rfl rfl ?_
  refine e_getR (v := (.ref (b + 6))) dX1_copies_68 s0 kg_X1_27 rfl r12 ?_
  refine e_iconst (v := 0) dX1_copies_71 (by decide) ?_
  refine e_bipush (v := 30) dX1_copies_72 (by decide) ?_
  refine e_copyw (jx := 0) (jy := 0) (jz := 30) (f := (I (o + 6))) (g := (I (b + 6))) (I' := (va_up (va_up (va_up I b (va_up (va_up (va_up (va_up (va_up (va_up (I b) 0 (I o 0)) 1 (I o 1)) 2 (I o 2)) 3 (I o 3)) 4 (I o 4)) 5 (I o 5))) (b + 1) (va_cpy (I (o + 1)) (I (b + 1)) 0 0 4)) (b + 6) (va_cpy (I (o + 6)) (I (b + 6)) 0 0 30))) dX1_copies_74 q463 t6 s6 ⟨⟨rfl, rfl, rfl⟩, by omega, by omega, by omega, by omega⟩ (Nat.le_of_ble_eq_true rfl) (Nat.le_of_ble_eq_true rfl) (by rw [va_up_ne _ _ (by omega), va_up_ne _ _ (by omega)]) (by rw [va_up_ne _ _ (by omega), va_up_ne _ _ (by omega)]) rfl ?_
  refine e_aload_n dX1_copies_77 rfl rfl rfl ?_
  refine e_getR (v := (.ref (o + 9))) dX1_copies_78 t0 kg_X1_36 rfl u15 ?_
  refine e_iconst (v := 0) dX1_copies_81 (by decide) ?_
  refine e_aload_n dX1_copies_82 rfl rfl rfl ?_
  refine e_getR (v := (.ref (b + 9))) dX1_copies_83 s0 kg_X1_36 rfl r15 ?_
  refine e_iconst (v := 0) dX1_copies_86 (by decide) ?_
  refine e_sipush (v := 260) dX1_copies_87 (by decide) ?_
  refine e_copyw (jx := 0) (jy := 0) (jz := 260) (f := (I (o + 9))) (g := (I (b + 9))) (I' := (va_up (va_up (va_up (va_up I b (va_up (va_up (va_up (va_up (va_up (va_up (I b) 0 (I o 0)) 1 (I o 1)) 2 (I o 2)) 3 (I o 3)) 4 (I o 4)) 5 (I o 5))) (b + 1) (va_cpy (I (o + 1)) (I (b + 1)) 0 0 4)) (b + 6) (va_cpy (I (o + 6)) (I (b + 6)) 0 0 30)) (b + 9) (va_cpy (I (o + 9)) (I (b + 9)) 0 0 260))) dX1_copies_90 q463 t9 s9 ⟨⟨rfl, rfl, rfl⟩, by omega, by omega, by omega, by omega⟩ (Nat.le_of_ble_eq_true rfl) (Nat.le_of_ble_eq_true rfl) (by rw [va_up_ne _ _ (by omega), va_up_ne _ _ (by omega), va_up_ne _ _ (by omega)]) (by rw [va_up_ne _ _ (by omega), va_up_ne _ _ (by omega), va_up_ne _ _ (by omega)]) rfl ?_
  refine e_aload_n dX1_copies_93 rfl rfl rfl ?_
  refine e_aload_n dX1_copies_94 rfl rfl rfl ?_
  refine e_callVe (k2 := 0) (n2 := 0) (mc' := 0) (ms' := 0) (As := [(.ref o)]) dX1_copies_95 kv_X1_71 s0 rfl rfl (Nat.le_of_ble_eq_true rfl) (Nat.le_of_ble_eq_true rfl) (ct_standsAs b o hD hO hbo) ?_
  show Ex l mX1_copies 3 K 98 [(0, (.ref b)), (1, (.ref o))] [(.ref b)] sh (standI (va_up (va_up (va_up (va_up I b (va_up (va_up (va_up (va_up (va_up (va_up (I b) 0 (I o 0)) 1 (I o 1)) 2 (I o 2)) 3 (I o 3)) 4 (I o 4)) 5 (I o 5))) (b + 1) (va_cpy (I (o + 1)) (I (b + 1)) 0 0 4)) (b + 6) (va_cpy (I (o + 6)) (I (b + 6)) 0 0 30)) (b + 9) (va_cpy (I (o + 9)) (I (b + 9)) 0 0 260)) b o) L R 0 0
  exact e_aret dX1_copies_98 rfl rfl rfl (by rw [hK]; exact kEq_of rfl ((by rfl)))
