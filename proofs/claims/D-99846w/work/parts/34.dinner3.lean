set_option maxRecDepth 100000
theorem okD_passI {I : ExI} {b N : Nat} {rl : Option Rul} (h : okD (dn I b) N) : okD (dn (passI I b N rl) b) N := by rw [dn_passI]; exact okD_passD h
theorem okD_passAll {I : ExI} {b N : Nat} {rl : Option Rul} (h : okD (dn I b) N) : ∀ k, okD (dn (passAll I b N rl k) b) N
  | 0 => h
  | k + 1 => okD_passI (okD_passAll h k)
theorem nodeS_passI {sh : ExSh} {I : ExI} {L : ExL} {R : ExR} {b N : Nat} {rl : Option Rul} (hD : isD sh R b) : nodeS sh I L R (passI I b N rl) L R :=
  nodeS_tr (nodeS_tr (nodeS_I hD.2.2.2.2.2.2.2.1 (by decide)) (nodeS_I hD.1 (by decide))) (nodeS_I hD.2.2.2.2.2.2.2.1 (by decide))
theorem nodeS_passAll {sh : ExSh} {I : ExI} {L : ExL} {R : ExR} {b N : Nat} {rl : Option Rul} (hD : isD sh R b) : ∀ k, nodeS sh I L R (passAll I b N rl k) L R
  | 0 => nodeS_rf
  | k + 1 => nodeS_tr (nodeS_passAll hD k) (nodeS_passI hD)
theorem isD_10 {sh : ExSh} {R : ExR} {b : Nat} (hD : isD sh R b) : sh[b + 10]? = some (3, 11) := hD.2.2.2.2.2.2.2.2.2.2.1
theorem nodeS_w {sh : ExSh} {I : ExI} {L L' : ExL} {R : ExR} {b : Nat} (hD : isD sh R b) (h : ∀ j, j ≠ b + 10 → L' j = L j) : nodeS sh I L R I L' R := nodeS_L (isD_10 hD) (by decide) h
set_option maxRecDepth 100000 in
set_option maxHeartbeats 4000000 in
theorem ct_passesAll0 {l : Launch} {sh : ExSh} {I : ExI} {L : ExL} {R : ExR} (b N : Nat) (hD : isD sh R b) (hok : okD (dn I b) N) (n cnt : Nat) (hcnt : cnt ≤ 100) (hlw : lawAt sh I L R n .null none) : Ct l (ws_ yX1_passesAll cX1_passesAll 4 (some (.object "ChairCane$Dinner"))) yX1_passesAll (n + 10) 0 0 [(.ref b), .int (nI cnt), .null] sh I L R (kLw (b + 10) (some (some (.ref b))) sh (passAll I b N none cnt) L R) := by
  obtain ⟨s0, s1, s2, s3, s4, s5, s6, s7, s8, s9, s10, s11, r7, r8, r9, r10, r11, r12, r13, r14, r15, r16, r17⟩ := id hD
  obtain ⟨hN0, h8, hch0, hst0, hw0⟩ := id hok
  have hN : I b 2 = nI N := hN0
  have hch : ∀ k, k < 8 → vp_in (I (b + 4) k) 8 := hch0
  have hst : ∀ c, c < 8 → vp_in (I (b + 3) c) 4 := hst0
  refine Ct.of (own := "ChairCane$Dinner") (nm := "passesAll") rfl rfl rfl (Nat.le_of_ble_eq_true rfl) ?_
  obtain ⟨K, hK⟩ : ∃ K : ExK, K = kLw (b + 10) (some (some (.ref b))) sh (passAll I b N none cnt) L R := ⟨_, rfl⟩
  rw [← hK]
  show Ex l mX1_passesAll (n + 10) K 0 [(0, (.ref b)), (1, .int (nI cnt)), (2, .null)] [] sh I L R 0 0
  refine e_iconst (v := 0) dX1_passesAll_0 (by decide) ?_
  refine e_istore_n (ls' := [(3, .int (0)), (0, (.ref b)), (1, .int (nI cnt)), (2, .null)]) dX1_passesAll_1 rfl (Nat.le_of_ble_eq_true rfl) rfl ?_
  have hL0 : ∀ j, j ≠ b + 10 → L j = L j := fun _ _ => rfl
  refine e_pick (ls' := [(3, .int (0)), (0, (.ref b)), (1, .int (nI cnt)), (2, .null)]) [0, 1, 2, 3] rfl ?_
  refine e_memI (show I = (passAll I b N none 0) from rfl) ?_
  refine ex_up (P := fun k => ∀ L2 : ExL, (∀ j, j ≠ b + 10 → L2 j = L j) → Ex l mX1_passesAll (n + 10) K 2 [(3, .int (nI k)), (0, (.ref b)), (1, .int (nI cnt)), (2, .null)] [] sh (passAll I b N none k) L2 R 0 0) cnt (fun k hk ih L2 hL2 => ?_) 0 (Nat.zero_le _) L hL0
  refine e_iload_n dX1_passesAll_2 rfl rfl ?_
  refine e_iload_n dX1_passesAll_3 rfl rfl ?_
  refine e_icmp_ge (tgt := 19) dX1_passesAll_4 (by decide) (fun c_4 => ?_) (fun c_4 => ?_)
  · have hkN : k = cnt := by have := (ex_ge (show nI cnt = nI cnt from rfl) (by omega) (by omega)).mp c_4; omega
    refine e_aload_n dX1_passesAll_19 rfl rfl rfl ?_
    refine e_aret dX1_passesAll_20 rfl rfl rfl ?_
    rw [hK, hkN]
    exact ⟨rfl, rfl, rfl, rfl, hL2⟩
  · have hlt : k < cnt := by have := mt (ex_ge (show nI cnt = nI cnt from rfl) (by omega) (by omega)).mpr c_4; omega
    refine e_aload_n dX1_passesAll_7 rfl rfl rfl ?_
    refine e_aload_n dX1_passesAll_8 rfl rfl rfl ?_
    refine e_callV (k2 := 0) (n2 := 0) (mc' := 0) (ms' := 0) (As := [.null]) dX1_passesAll_9 kv_X1_121 s0 rfl rfl (Nat.le_of_ble_eq_true rfl) (by omega) (ct_passes b N (dn (passAll I b N none k) b) rfl hD (okD_passAll hok k) n .null none (lawAt_kept (nodeS_tr (nodeS_passAll hD k) (nodeS_w hD hL2)) hlw)) (fun v sh' I' L3 R' hh => ?_) (Or.inr kLw_x)
    obtain ⟨hv, h1, h2, h3, hL3⟩ := hh
    cases hv
    have h1 := h1.symm; have h2 := h2.symm; have h3 := h3.symm; subst h1; subst h2; subst h3
    show Ex l mX1_passesAll (n + 10) K 12 [(3, .int (nI k)), (0, (.ref b)), (1, .int (nI cnt)), (2, .null)] [.int (passV (dn (passAll I b N none k) b) N none)] sh (passI (passAll I b N none k) b N none) L3 R 0 0
    refine e_pop dX1_passesAll_12 rfl ?_
    refine e_iinc (v := nI (k + 1)) (ls' := [(3, .int (nI (k + 1))), (0, (.ref b)), (1, .int (nI cnt)), (2, .null)]) dX1_passesAll_13 rfl (nI_1 _) (Nat.le_of_ble_eq_true rfl) rfl ?_
    refine e_goto (tgt := 2) dX1_passesAll_16 (by decide) ?_
    refine e_pick (ls' := [(3, .int (nI (k + 1))), (0, (.ref b)), (1, .int (nI cnt)), (2, .null)]) [0, 1, 2, 3] rfl ?_
    refine e_memI (show (passI (passAll I b N none k) b N none) = (passAll I b N none (k + 1)) from rfl) ?_
    exact ih hlt L3 (fun j hj => (hL3 j hj).trans (hL2 j hj))
set_option maxRecDepth 100000 in
set_option maxHeartbeats 4000000 in
theorem ct_passesAll1 {l : Launch} {sh : ExSh} {I : ExI} {L : ExL} {R : ExR} (b N : Nat) (hD : isD sh R b) (hok : okD (dn I b) N) (n cnt : Nat) (hcnt : cnt ≤ 100) (r : Nat) (cl : Rul) (hlw : lawAt sh I L R n (.ref r) (some cl)) : Ct l (ws_ yX1_passesAll cX1_passesAll 4 (some (.object "ChairCane$Dinner"))) yX1_passesAll (n + 10) 0 0 [(.ref b), .int (nI cnt), ((.ref r))] sh I L R (kLw (b + 10) (some (some (.ref b))) sh (passAll I b N (some cl) cnt) L R) := by
  obtain ⟨s0, s1, s2, s3, s4, s5, s6, s7, s8, s9, s10, s11, r7, r8, r9, r10, r11, r12, r13, r14, r15, r16, r17⟩ := id hD
  obtain ⟨hN0, h8, hch0, hst0, hw0⟩ := id hok
  have hN : I b 2 = nI N := hN0
  have hch : ∀ k, k < 8 → vp_in (I (b + 4) k) 8 := hch0
  have hst : ∀ c, c < 8 → vp_in (I (b + 3) c) 4 := hst0
  refine Ct.of (own := "ChairCane$Dinner") (nm := "passesAll") rfl rfl rfl (Nat.le_of_ble_eq_true rfl) ?_
  obtain ⟨K, hK⟩ : ∃ K : ExK, K = kLw (b + 10) (some (some (.ref b))) sh (passAll I b N (some cl) cnt) L R := ⟨_, rfl⟩
  rw [← hK]
  show Ex l mX1_passesAll (n + 10) K 0 [(0, (.ref b)), (1, .int (nI cnt)), (2, ((.ref r)))] [] sh I L R 0 0
  refine e_iconst (v := 0) dX1_passesAll_0 (by decide) ?_
  refine e_istore_n (ls' := [(3, .int (0)), (0, (.ref b)), (1, .int (nI cnt)), (2, ((.ref r)))]) dX1_passesAll_1 rfl (Nat.le_of_ble_eq_true rfl) rfl ?_
  have hL0 : ∀ j, j ≠ b + 10 → L j = L j := fun _ _ => rfl
  refine e_pick (ls' := [(3, .int (0)), (0, (.ref b)), (1, .int (nI cnt)), (2, ((.ref r)))]) [0, 1, 2, 3] rfl ?_
  refine e_memI (show I = (passAll I b N (some cl) 0) from rfl) ?_
  refine ex_up (P := fun k => ∀ L2 : ExL, (∀ j, j ≠ b + 10 → L2 j = L j) → Ex l mX1_passesAll (n + 10) K 2 [(3, .int (nI k)), (0, (.ref b)), (1, .int (nI cnt)), (2, ((.ref r)))] [] sh (passAll I b N (some cl) k) L2 R 0 0) cnt (fun k hk ih L2 hL2 => ?_) 0 (Nat.zero_le _) L hL0
  refine e_iload_n dX1_passesAll_2 rfl rfl ?_
  refine e_iload_n dX1_passesAll_3 rfl rfl ?_
  refine e_icmp_ge (tgt := 19) dX1_passesAll_4 (by decide) (fun c_4 => ?_) (fun c_4 => ?_)
  · have hkN : k = cnt := by have := (ex_ge (show nI cnt = nI cnt from rfl) (by omega) (by omega)).mp c_4; omega
    refine e_aload_n dX1_passesAll_19 rfl rfl rfl ?_
    refine e_aret dX1_passesAll_20 rfl rfl rfl ?_
    rw [hK, hkN]
    exact ⟨rfl, rfl, rfl, rfl, hL2⟩
  · have hlt : k < cnt := by have := mt (ex_ge (show nI cnt = nI cnt from rfl) (by omega) (by omega)).mpr c_4; omega
    refine e_aload_n dX1_passesAll_7 rfl rfl rfl ?_
    refine e_aload_n dX1_passesAll_8 rfl rfl rfl ?_
    refine e_callV (k2 := 0) (n2 := 0) (mc' := 0) (ms' := 0) (As := [(.ref r)]) dX1_passesAll_9 kv_X1_121 s0 rfl rfl (Nat.le_of_ble_eq_true rfl) (by omega) (ct_passes b N (dn (passAll I b N (some cl) k) b) rfl hD (okD_passAll hok k) n (.ref r) (some cl) (lawAt_kept (nodeS_tr (nodeS_passAll hD k) (nodeS_w hD hL2)) hlw)) (fun v sh' I' L3 R' hh => ?_) (Or.inr kLw_x)
    obtain ⟨hv, h1, h2, h3, hL3⟩ := hh
    cases hv
    have h1 := h1.symm; have h2 := h2.symm; have h3 := h3.symm; subst h1; subst h2; subst h3
    show Ex l mX1_passesAll (n + 10) K 12 [(3, .int (nI k)), (0, (.ref b)), (1, .int (nI cnt)), (2, ((.ref r)))] [.int (passV (dn (passAll I b N (some cl) k) b) N (some cl))] sh (passI (passAll I b N (some cl) k) b N (some cl)) L3 R 0 0
    refine e_pop dX1_passesAll_12 rfl ?_
    refine e_iinc (v := nI (k + 1)) (ls' := [(3, .int (nI (k + 1))), (0, (.ref b)), (1, .int (nI cnt)), (2, ((.ref r)))]) dX1_passesAll_13 rfl (nI_1 _) (Nat.le_of_ble_eq_true rfl) rfl ?_
    refine e_goto (tgt := 2) dX1_passesAll_16 (by decide) ?_
    refine e_pick (ls' := [(3, .int (nI (k + 1))), (0, (.ref b)), (1, .int (nI cnt)), (2, ((.ref r)))]) [0, 1, 2, 3] rfl ?_
    refine e_memI (show (passI (passAll I b N (some cl) k) b N (some cl)) = (passAll I b N (some cl) (k + 1)) from rfl) ?_
    exact ih hlt L3 (fun j hj => (hL3 j hj).trans (hL2 j hj))
theorem ct_passesAll {l : Launch} {sh : ExSh} {I : ExI} {L : ExL} {R : ExR} (b N : Nat) (hD : isD sh R b) (hok : okD (dn I b) N) (n cnt : Nat) (hcnt : cnt ≤ 100) (lw : Value) (rl : Option Rul) (hlw : lawAt sh I L R n lw rl) : Ct l (ws_ yX1_passesAll cX1_passesAll 4 (some (.object "ChairCane$Dinner"))) yX1_passesAll (n + 10) 0 0 [.ref b, .int (nI cnt), lw] sh I L R (kLw (b + 10) (some (some (.ref b))) sh (passAll I b N rl cnt) L R) := by
  rcases id hlw with ⟨rfl, rfl⟩ | ⟨r, cl, rfl, rfl, -⟩
  · exact ct_passesAll0 b N hD hok n cnt hcnt hlw
  · exact ct_passesAll1 b N hD hok n cnt hcnt r cl hlw
