set_option maxRecDepth 100000
theorem sh_app {sh t : ExSh} {i : Nat} {q : Nat × Nat} (h : sh[i]? = some q) : (sh ++ t)[i]? = some q := by
  rw [List.getElem?_append_left (List.getElem?_eq_some_iff.mp h).1]; exact h
def thrR (R : ExR) (f : Nat) : ExR := (exU (exU (exU (exU (exU (exU (exU R f 0 (.ref f)) f 1 (.float 65)) f 2 (.float 66)) f 1 .null) f 3 (.float (14 : Nat).toUInt32)) f 0 .null) f 2 .null)
set_option maxRecDepth 100000 in
set_option maxHeartbeats 4000000 in
theorem ct_throwable {l : Launch} {sh : ExSh} {I : ExI} {L : ExL} {R : ExR} (f : Nat) (hf : sh[f]? = some (2 + 8, 8)) : Ct l (ws_ yJ0_init_2 cJ0_init_2 5 (none)) yJ0_init_2 2 0 0 [(.ref f), ((.float (14 : Nat).toUInt32)), .null, .int (0), .int (0)] sh I L R (kEq (some none) sh I L (thrR R f)) := by
  refine Ct.of (own := "java/lang/Throwable") (nm := "<init>") rfl rfl rfl (Nat.le_of_ble_eq_true rfl) ?_
  obtain ⟨K, hK⟩ : ∃ K : ExK, K = kEq (some none) sh I L (thrR R f) := ⟨_, rfl⟩
  rw [← hK]
  show Ex l mJ0_init_2 2 K 0 [(0, (.ref f)), (1, ((.float (14 : Nat).toUInt32))), (2, .null), (3, .int (0)), (4, .int (0))] [] sh I L R 0 0
  refine e_aload_n dJ0_init_2_0 rfl rfl rfl ?_
  refine e_objInit dJ0_init_2_1 q263 q149 q150 (Nat.le_of_ble_eq_true rfl) (Nat.le_of_ble_eq_true rfl) ?_
  refine e_aload_n dJ0_init_2_4 rfl rfl rfl ?_
  refine e_aload_n dJ0_init_2_5 rfl rfl rfl ?_
  refine e_putRw (R' := (exU R f 0 (.ref f))) dJ0_init_2_6 hf kp_J0_7 (fun h => nomatch h) rfl rfl rfl rfl ?_
  refine e_aload_n dJ0_init_2_9 rfl rfl rfl ?_
  refine e_gets (v := ((.float 65))) dJ0_init_2_10 q264 (Or.inr (Or.inl ⟨rfl, rfl, rfl, rfl⟩)) ?_
  refine e_putRw (R' := (exU (exU R f 0 (.ref f)) f 1 (.float 65))) dJ0_init_2_13 hf kp_J0_17 (fun h => nomatch h) rfl rfl rfl rfl ?_
  refine e_aload_n dJ0_init_2_16 rfl rfl rfl ?_
  refine e_gets (v := ((.float 66))) dJ0_init_2_17 q266 (Or.inr (Or.inr (Or.inl ⟨rfl, rfl, rfl, rfl⟩))) ?_
  refine e_putRw (R' := (exU (exU (exU R f 0 (.ref f)) f 1 (.float 65)) f 2 (.float 66))) dJ0_init_2_20 hf kp_J0_24 (fun h => nomatch h) rfl rfl rfl rfl ?_
  refine e_iload dJ0_init_2_23 rfl ?_
  refine e_if_eq (tgt := 36) dJ0_init_2_25 (by decide) (fun c_25 => ?_) (fun c_25 => ?_)
  rotate_left
  · exact ((show False from c_25 rfl)).elim
  refine e_aload_n dJ0_init_2_36 rfl rfl rfl ?_
  refine e_null dJ0_init_2_37 ?_
  refine e_putRw (R' := (exU (exU (exU (exU R f 0 (.ref f)) f 1 (.float 65)) f 2 (.float 66)) f 1 .null)) dJ0_init_2_38 hf kp_J0_17 (fun h => nomatch h) rfl rfl rfl rfl ?_
  refine e_aload_n dJ0_init_2_41 rfl rfl rfl ?_
  refine e_aload_n dJ0_init_2_42 rfl rfl rfl ?_
  refine e_putRw (R' := (exU (exU (exU (exU (exU R f 0 (.ref f)) f 1 (.float 65)) f 2 (.float 66)) f 1 .null) f 3 (.float (14 : Nat).toUInt32))) dJ0_init_2_43 hf kp_J0_31 (fun h => nomatch h) rfl rfl rfl rfl ?_
  refine e_aload_n dJ0_init_2_46 rfl rfl rfl ?_
  refine e_aload_n dJ0_init_2_47 rfl rfl rfl ?_
  refine e_putRw (R' := (exU (exU (exU (exU (exU (exU R f 0 (.ref f)) f 1 (.float 65)) f 2 (.float 66)) f 1 .null) f 3 (.float (14 : Nat).toUInt32)) f 0 .null)) dJ0_init_2_48 hf kp_J0_7 (fun h => nomatch h) rfl rfl rfl rfl ?_
  refine e_iload_n dJ0_init_2_51 rfl rfl ?_
  refine e_if_ne (tgt := 60) dJ0_init_2_52 (by decide) (fun c_52 => ?_) (fun c_52 => ?_)
  · exact ((show False from c_52 rfl)).elim
  refine e_aload_n dJ0_init_2_55 rfl rfl rfl ?_
  refine e_null dJ0_init_2_56 ?_
  refine e_putRw (R' := (exU (exU (exU (exU (exU (exU (exU R f 0 (.ref f)) f 1 (.float 65)) f 2 (.float 66)) f 1 .null) f 3 (.float (14 : Nat).toUInt32)) f 0 .null) f 2 .null)) dJ0_init_2_57 hf kp_J0_24 (fun h => nomatch h) rfl rfl rfl rfl ?_
  exact e_vret dJ0_init_2_60 rfl (by rw [hK]; exact ⟨rfl, rfl, rfl, rfl, rfl⟩)
set_option maxRecDepth 100000 in
set_option maxHeartbeats 4000000 in
theorem ct_exception {l : Launch} {sh : ExSh} {I : ExI} {L : ExL} {R : ExR} (f : Nat) (hf : sh[f]? = some (2 + 8, 8)) : Ct l (ws_ yJ1_init cJ1_init 5 (none)) yJ1_init 3 0 0 [(.ref f), ((.float (14 : Nat).toUInt32)), .null, .int (0), .int (0)] sh I L R (kEq (some none) sh I L (thrR R f)) := by
  refine Ct.of (own := "java/lang/Exception") (nm := "<init>") rfl rfl rfl (Nat.le_of_ble_eq_true rfl) ?_
  obtain ⟨K, hK⟩ : ∃ K : ExK, K = kEq (some none) sh I L (thrR R f) := ⟨_, rfl⟩
  rw [← hK]
  show Ex l mJ1_init 3 K 0 [(0, (.ref f)), (1, ((.float (14 : Nat).toUInt32))), (2, .null), (3, .int (0)), (4, .int (0))] [] sh I L R 0 0
  refine e_aload_n dJ1_init_0 rfl rfl rfl ?_
  refine e_aload_n dJ1_init_1 rfl rfl rfl ?_
  refine e_aload_n dJ1_init_2 rfl rfl rfl ?_
  refine e_iload_n dJ1_init_3 rfl rfl ?_
  refine e_iload dJ1_init_4 rfl ?_
  refine e_callIe (k2 := 0) (n2 := 0) (mc' := 0) (ms' := 0) (As := [((.float (14 : Nat).toUInt32)), .null, .int (0), .int (0)]) dJ1_init_6 ki_J1_16 rfl rfl (Nat.le_of_ble_eq_true rfl) (Nat.le_of_ble_eq_true rfl) (ct_throwable f hf) ?_
  show Ex l mJ1_init 3 K 9 [(0, (.ref f)), (1, ((.float (14 : Nat).toUInt32))), (2, .null), (3, .int (0)), (4, .int (0))] [] sh I L (thrR R f) 0 0
  exact e_vret dJ1_init_9 rfl (by rw [hK]; exact ⟨rfl, rfl, rfl, rfl, rfl⟩)
set_option maxRecDepth 100000 in
set_option maxHeartbeats 4000000 in
theorem ct_runtime {l : Launch} {sh : ExSh} {I : ExI} {L : ExL} {R : ExR} (f : Nat) (hf : sh[f]? = some (2 + 8, 8)) : Ct l (ws_ yJ2_init cJ2_init 5 (none)) yJ2_init 4 0 0 [(.ref f), ((.float (14 : Nat).toUInt32)), .null, .int (0), .int (0)] sh I L R (kEq (some none) sh I L (thrR R f)) := by
  refine Ct.of (own := "java/lang/RuntimeException") (nm := "<init>") rfl rfl rfl (Nat.le_of_ble_eq_true rfl) ?_
  obtain ⟨K, hK⟩ : ∃ K : ExK, K = kEq (some none) sh I L (thrR R f) := ⟨_, rfl⟩
  rw [← hK]
  show Ex l mJ2_init 4 K 0 [(0, (.ref f)), (1, ((.float (14 : Nat).toUInt32))), (2, .null), (3, .int (0)), (4, .int (0))] [] sh I L R 0 0
  refine e_aload_n dJ2_init_0 rfl rfl rfl ?_
  refine e_aload_n dJ2_init_1 rfl rfl rfl ?_
  refine e_aload_n dJ2_init_2 rfl rfl rfl ?_
  refine e_iload_n dJ2_init_3 rfl rfl ?_
  refine e_iload dJ2_init_4 rfl ?_
  refine e_callIe (k2 := 0) (n2 := 0) (mc' := 0) (ms' := 0) (As := [((.float (14 : Nat).toUInt32)), .null, .int (0), .int (0)]) dJ2_init_6 ki_J2_16 rfl rfl (Nat.le_of_ble_eq_true rfl) (Nat.le_of_ble_eq_true rfl) (ct_exception f hf) ?_
  show Ex l mJ2_init 4 K 9 [(0, (.ref f)), (1, ((.float (14 : Nat).toUInt32))), (2, .null), (3, .int (0)), (4, .int (0))] [] sh I L (thrR R f) 0 0
  exact e_vret dJ2_init_9 rfl (by rw [hK]; exact ⟨rfl, rfl, rfl, rfl, rfl⟩)
set_option maxRecDepth 100000 in
set_option maxHeartbeats 4000000 in
theorem ct_fault {l : Launch} {sh : ExSh} {I : ExI} {L : ExL} {R : ExR} (f : Nat) (hf : sh[f]? = some (2 + 8, 8)) : Ct l (ws_ yX2_init cX2_init 1 (none)) yX2_init 5 0 0 [(.ref f)] sh I L R (kEq (some none) sh I L (thrR R f)) := by
  refine Ct.of (own := "ChairCane$Fault") (nm := "<init>") rfl rfl rfl (Nat.le_of_ble_eq_true rfl) ?_
  obtain ⟨K, hK⟩ : ∃ K : ExK, K = kEq (some none) sh I L (thrR R f) := ⟨_, rfl⟩
  rw [← hK]
  show Ex l mX2_init 5 K 0 [(0, (.ref f))] [] sh I L R 0 0
  refine e_aload_n dX2_init_0 rfl rfl rfl ?_
  refine e_ldcS (j := 14) (tx := "fault") dX2_init_1 (by decide) (List.mem_of_getElem? (i := 14) rfl) ?_
  refine e_null dX2_init_3 ?_
  refine e_iconst (v := 0) dX2_init_4 (by decide) ?_
  refine e_iconst (v := 0) dX2_init_5 (by decide) ?_
  refine e_callIe (k2 := 0) (n2 := 0) (mc' := 0) (ms' := 0) (As := [(.float (14 : Nat).toUInt32), .null, .int (0), .int (0)]) dX2_init_6 ki_X2_3 rfl rfl (Nat.le_of_ble_eq_true rfl) (Nat.le_of_ble_eq_true rfl) (ct_runtime f hf) ?_
  show Ex l mX2_init 5 K 9 [(0, (.ref f))] [] sh I L (thrR R f) 0 0
  exact e_vret dX2_init_9 rfl (by rw [hK]; exact ⟨rfl, rfl, rfl, rfl, rfl⟩)
def dSH : ExSh := [(0, 4), (0, 8), (0, 8), (0, 8), (0, 8), (0, 30), (0, 8), (0, 4), (0, 260), (3, 11), (0, 8)]
def initI (I : ExI) (b : Nat) : ExI := (va_up (va_up (va_up (va_up (va_up (va_up (va_up (va_up (va_up (va_up I (b + 1) (fun _ => 0)) (b + 2) (fun _ => 0)) (b + 3) (fun _ => 0)) (b + 4) (fun _ => 0)) (b + 5) (fun _ => 0)) (b + 6) (fun _ => 0)) (b + 7) (fun _ => 0)) (b + 8) (fun _ => 0)) (b + 9) (fun _ => 0)) (b + 11) (fun _ => 0))
def initL (L : ExL) (b : Nat) : ExL := (va_up L (b + 10) (fun _ => 0))
def initR (R : ExR) (b : Nat) : ExR := (exU (va_up (exU (va_up (exU (va_up (exU (va_up (exU (va_up (exU (va_up (exU (va_up (exU (va_up (exU (va_up (exU (va_up (exU (va_up R (b + 1) (fun _ => .null)) b 7 (.ref (b + 1))) (b + 2) (fun _ => .null)) b 8 (.ref (b + 2))) (b + 3) (fun _ => .null)) b 9 (.ref (b + 3))) (b + 4) (fun _ => .null)) b 10 (.ref (b + 4))) (b + 5) (fun _ => .null)) b 11 (.ref (b + 5))) (b + 6) (fun _ => .null)) b 12 (.ref (b + 6))) (b + 7) (fun _ => .null)) b 13 (.ref (b + 7))) (b + 8) (fun _ => .null)) b 14 (.ref (b + 8))) (b + 9) (fun _ => .null)) b 15 (.ref (b + 9))) (b + 10) (fun _ => .null)) b 16 (.ref (b + 10))) (b + 11) (fun _ => .null)) b 17 (.ref (b + 11)))
set_option maxRecDepth 100000 in
set_option maxHeartbeats 4000000 in
theorem ct_dinner0 {l : Launch} {sh : ExSh} {I : ExI} {L : ExL} {R : ExR} (b : Nat) (hb : sh[b]? = some (1 + 8, 18)) (hlen : sh.length = b + 1) : Ct l (ws_ yX1_init cX1_init 1 (none)) yX1_init 2 11 365 [(.ref b)] sh I L R (kEq (some none) (((((((((((sh ++ [(0, 4)]) ++ [(0, 8)]) ++ [(0, 8)]) ++ [(0, 8)]) ++ [(0, 8)]) ++ [(0, 30)]) ++ [(0, 8)]) ++ [(0, 4)]) ++ [(0, 260)]) ++ [(3, 11)]) ++ [(0, 8)]) (initI I b) (initL L b) (initR R b)) := by
  refine Ct.of (own := "ChairCane$Dinner") (nm := "<init>") rfl rfl rfl (Nat.le_of_ble_eq_true rfl) ?_
  obtain ⟨K, hK⟩ : ∃ K : ExK, K = kEq (some none) (((((((((((sh ++ [(0, 4)]) ++ [(0, 8)]) ++ [(0, 8)]) ++ [(0, 8)]) ++ [(0, 8)]) ++ [(0, 30)]) ++ [(0, 8)]) ++ [(0, 4)]) ++ [(0, 260)]) ++ [(3, 11)]) ++ [(0, 8)]) (initI I b) (initL L b) (initR R b) := ⟨_, rfl⟩
  rw [← hK]
  show Ex l mX1_init 2 K 0 [(0, (.ref b))] [] sh I L R 11 365
  refine e_aload_n dX1_init_0 rfl rfl rfl ?_
  refine e_objInit dX1_init_1 q156 q149 q150 (Nat.le_of_ble_eq_true rfl) (Nat.le_of_ble_eq_true rfl) ?_
  refine e_aload_n dX1_init_4 rfl rfl rfl ?_
  refine e_iconst (v := 4) dX1_init_5 (by decide) ?_
  refine e_newIv (k := 10) (n := 361) (j := (b + 1)) (N := 4) (t := 0) dX1_init_6 (by simp [hlen]) q236 rfl (by decide) (fun _ => rfl) rfl (by decide) ?_
  refine e_putRw (R' := (exU (va_up R (b + 1) (fun _ => .null)) b 7 (.ref (b + 1)))) dX1_init_8 (sh_app hb) kp_X1_9 (fun _ => rfl) rfl rfl rfl rfl ?_
  refine e_aload_n dX1_init_11 rfl rfl rfl ?_
  refine e_bipush (v := 8) dX1_init_12 (by decide) ?_
  refine e_newIv (k := 9) (n := 353) (j := (b + 2)) (N := 8) (t := 0) dX1_init_14 (by simp [hlen]) q236 rfl (by decide) (fun _ => rfl) rfl (by decide) ?_
  refine e_putRw (R' := (exU (va_up (exU (va_up R (b + 1) (fun _ => .null)) b 7 (.ref (b + 1))) (b + 2) (fun _ => .null)) b 8 (.ref (b + 2)))) dX1_init_16 (sh_app (sh_app hb)) kp_X1_15 (fun _ => rfl) rfl rfl rfl rfl ?_
  refine e_aload_n dX1_init_19 rfl rfl rfl ?_
  refine e_bipush (v := 8) dX1_init_20 (by decide) ?_
  refine e_newIv (k := 8) (n := 345) (j := (b + 3)) (N := 8) (t := 0) dX1_init_22 (by simp [hlen]) q236 rfl (by decide) (fun _ => rfl) rfl (by decide) ?_
  refine e_putRw (R' := (exU (va_up (exU (va_up (exU (va_up R (b + 1) (fun _ => .null)) b 7 (.ref (b + 1))) (b + 2) (fun _ => .null)) b 8 (.ref (b + 2))) (b + 3) (fun _ => .null)) b 9 (.ref (b + 3)))) dX1_init_24 (sh_app (sh_app (sh_app hb))) kp_X1_18 (fun _ => rfl) rfl rfl rfl rfl ?_
  refine e_aload_n dX1_init_27 rfl rfl rfl ?_
  refine e_bipush (v := 8) dX1_init_28 (by decide) ?_
  refine e_newIv (k := 7) (n := 337) (j := (b + 4)) (N := 8) (t := 0) dX1_init_30 (by simp [hlen]) q236 rfl (by decide) (fun _ => rfl) rfl (by decide) ?_
  refine e_putRw (R' := (exU (va_up (exU (va_up (exU (va_up (exU (va_up R (b + 1) (fun _ => .null)) b 7 (.ref (b + 1))) (b + 2) (fun _ => .null)) b 8 (.ref (b + 2))) (b + 3) (fun _ => .null)) b 9 (.ref (b + 3))) (b + 4) (fun _ => .null)) b 10 (.ref (b + 4)))) dX1_init_32 (sh_app (sh_app (sh_app (sh_app hb)))) kp_X1_21 (fun _ => rfl) rfl rfl rfl rfl ?_
  refine e_aload_n dX1_init_35 rfl rfl rfl ?_
  refine e_bipush (v := 8) dX1_init_36 (by decide) ?_
  refine e_newIv (k := 6) (n := 329) (j := (b + 5)) (N := 8) (t := 0) dX1_init_38 (by simp [hlen]) q236 rfl (by decide) (fun _ => rfl) rfl (by decide) ?_
  refine e_putRw (R' := (exU (va_up (exU (va_up (exU (va_up (exU (va_up (exU (va_up R (b + 1) (fun _ => .null)) b 7 (.ref (b + 1))) (b + 2) (fun _ => .null)) b 8 (.ref (b + 2))) (b + 3) (fun _ => .null)) b 9 (.ref (b + 3))) (b + 4) (fun _ => .null)) b 10 (.ref (b + 4))) (b + 5) (fun _ => .null)) b 11 (.ref (b + 5)))) dX1_init_40 (sh_app (sh_app (sh_app (sh_app (sh_app hb))))) kp_X1_24 (fun _ => rfl) rfl rfl rfl rfl ?_
  refine e_aload_n dX1_init_43 rfl rfl rfl ?_
  refine e_bipush (v := 30) dX1_init_44 (by decide) ?_
  refine e_newIv (k := 5) (n := 299) (j := (b + 6)) (N := 30) (t := 0) dX1_init_46 (by simp [hlen]) q236 rfl (by decide) (fun _ => rfl) rfl (by decide) ?_
  refine e_putRw (R' := (exU (va_up (exU (va_up (exU (va_up (exU (va_up (exU (va_up (exU (va_up R (b + 1) (fun _ => .null)) b 7 (.ref (b + 1))) (b + 2) (fun _ => .null)) b 8 (.ref (b + 2))) (b + 3) (fun _ => .null)) b 9 (.ref (b + 3))) (b + 4) (fun _ => .null)) b 10 (.ref (b + 4))) (b + 5) (fun _ => .null)) b 11 (.ref (b + 5))) (b + 6) (fun _ => .null)) b 12 (.ref (b + 6)))) dX1_init_48 (sh_app (sh_app (sh_app (sh_app (sh_app (sh_app hb)))))) kp_X1_27 (fun _ => rfl) rfl rfl rfl rfl ?_
  refine e_aload_n dX1_init_51 rfl rfl rfl ?_
  refine e_bipush (v := 8) dX1_init_52 (by decide) ?_
  refine e_newIv (k := 4) (n := 291) (j := (b + 7)) (N := 8) (t := 0) dX1_init_54 (by simp [hlen]) q236 rfl (by decide) (fun _ => rfl) rfl (by decide) ?_
  refine e_putRw (R' := (exU (va_up (exU (va_up (exU (va_up (exU (va_up (exU (va_up (exU (va_up (exU (va_up R (b + 1) (fun _ => .null)) b 7 (.ref (b + 1))) (b + 2) (fun _ => .null)) b 8 (.ref (b + 2))) (b + 3) (fun _ => .null)) b 9 (.ref (b + 3))) (b + 4) (fun _ => .null)) b 10 (.ref (b + 4))) (b + 5) (fun _ => .null)) b 11 (.ref (b + 5))) (b + 6) (fun _ => .null)) b 12 (.ref (b + 6))) (b + 7) (fun _ => .null)) b 13 (.ref (b + 7)))) dX1_init_56 (sh_app (sh_app (sh_app (sh_app (sh_app (sh_app (sh_app hb))))))) kp_X1_30 (fun _ => rfl) rfl rfl rfl rfl ?_
  refine e_aload_n dX1_init_59 rfl rfl rfl ?_
  refine e_iconst (v := 4) dX1_init_60 (by decide) ?_
  refine e_newIv (k := 3) (n := 287) (j := (b + 8)) (N := 4) (t := 0) dX1_init_61 (by simp [hlen]) q236 rfl (by decide) (fun _ => rfl) rfl (by decide) ?_
  refine e_putRw (R' := (exU (va_up (exU (va_up (exU (va_up (exU (va_up (exU (va_up (exU (va_up (exU (va_up (exU (va_up R (b + 1) (fun _ => .null)) b 7 (.ref (b + 1))) (b + 2) (fun _ => .null)) b 8 (.ref (b + 2))) (b + 3) (fun _ => .null)) b 9 (.ref (b + 3))) (b + 4) (fun _ => .null)) b 10 (.ref (b + 4))) (b + 5) (fun _ => .null)) b 11 (.ref (b + 5))) (b + 6) (fun _ => .null)) b 12 (.ref (b + 6))) (b + 7) (fun _ => .null)) b 13 (.ref (b + 7))) (b + 8) (fun _ => .null)) b 14 (.ref (b + 8)))) dX1_init_63 (sh_app (sh_app (sh_app (sh_app (sh_app (sh_app (sh_app (sh_app hb)))))))) kp_X1_33 (fun _ => rfl) rfl rfl rfl rfl ?_
  refine e_aload_n dX1_init_66 rfl rfl rfl ?_
  refine e_sipush (v := 260) dX1_init_67 (by decide) ?_
  refine e_newIv (k := 2) (n := 27) (j := (b + 9)) (N := 260) (t := 0) dX1_init_70 (by simp [hlen]) q236 rfl (by decide) (fun _ => rfl) rfl (by decide) ?_
  refine e_putRw (R' := (exU (va_up (exU (va_up (exU (va_up (exU (va_up (exU (va_up (exU (va_up (exU (va_up (exU (va_up (exU (va_up R (b + 1) (fun _ => .null)) b 7 (.ref (b + 1))) (b + 2) (fun _ => .null)) b 8 (.ref (b + 2))) (b + 3) (fun _ => .null)) b 9 (.ref (b + 3))) (b + 4) (fun _ => .null)) b 10 (.ref (b + 4))) (b + 5) (fun _ => .null)) b 11 (.ref (b + 5))) (b + 6) (fun _ => .null)) b 12 (.ref (b + 6))) (b + 7) (fun _ => .null)) b 13 (.ref (b + 7))) (b + 8) (fun _ => .null)) b 14 (.ref (b + 8))) (b + 9) (fun _ => .null)) b 15 (.ref (b + 9)))) dX1_init_72 (sh_app (sh_app (sh_app (sh_app (sh_app (sh_app (sh_app (sh_app (sh_app hb))))))))) kp_X1_36 (fun _ => rfl) rfl rfl rfl rfl ?_
  refine e_aload_n dX1_init_75 rfl rfl rfl ?_
  refine e_bipush (v := 11) dX1_init_76 (by decide) ?_
  refine e_newLv (k := 1) (n := 16) (j := (b + 10)) (N := 11) dX1_init_78 (by simp [hlen]) rfl (by decide) ?_
  refine e_putRw (R' := (exU (va_up (exU (va_up (exU (va_up (exU (va_up (exU (va_up (exU (va_up (exU (va_up (exU (va_up (exU (va_up (exU (va_up R (b + 1) (fun _ => .null)) b 7 (.ref (b + 1))) (b + 2) (fun _ => .null)) b 8 (.ref (b + 2))) (b + 3) (fun _ => .null)) b 9 (.ref (b + 3))) (b + 4) (fun _ => .null)) b 10 (.ref (b + 4))) (b + 5) (fun _ => .null)) b 11 (.ref (b + 5))) (b + 6) (fun _ => .null)) b 12 (.ref (b + 6))) (b + 7) (fun _ => .null)) b 13 (.ref (b + 7))) (b + 8) (fun _ => .null)) b 14 (.ref (b + 8))) (b + 9) (fun _ => .null)) b 15 (.ref (b + 9))) (b + 10) (fun _ => .null)) b 16 (.ref (b + 10)))) dX1_init_80 (sh_app (sh_app (sh_app (sh_app (sh_app (sh_app (sh_app (sh_app (sh_app (sh_app hb)))))))))) kp_X1_39 (fun _ => rfl) rfl rfl rfl rfl ?_
  refine e_aload_n dX1_init_83 rfl rfl rfl ?_
  refine e_bipush (v := 8) dX1_init_84 (by decide) ?_
  refine e_newIv (k := 0) (n := 8) (j := (b + 11)) (N := 8) (t := 0) dX1_init_86 (by simp [hlen]) q236 rfl (by decide) (fun _ => rfl) rfl (by decide) ?_
  refine e_putRw (R' := (exU (va_up (exU (va_up (exU (va_up (exU (va_up (exU (va_up (exU (va_up (exU (va_up (exU (va_up (exU (va_up (exU (va_up (exU (va_up R (b + 1) (fun _ => .null)) b 7 (.ref (b + 1))) (b + 2) (fun _ => .null)) b 8 (.ref (b + 2))) (b + 3) (fun _ => .null)) b 9 (.ref (b + 3))) (b + 4) (fun _ => .null)) b 10 (.ref (b + 4))) (b + 5) (fun _ => .null)) b 11 (.ref (b + 5))) (b + 6) (fun _ => .null)) b 12 (.ref (b + 6))) (b + 7) (fun _ => .null)) b 13 (.ref (b + 7))) (b + 8) (fun _ => .null)) b 14 (.ref (b + 8))) (b + 9) (fun _ => .null)) b 15 (.ref (b + 9))) (b + 10) (fun _ => .null)) b 16 (.ref (b + 10))) (b + 11) (fun _ => .null)) b 17 (.ref (b + 11)))) dX1_init_88 (sh_app (sh_app (sh_app (sh_app (sh_app (sh_app (sh_app (sh_app (sh_app (sh_app (sh_app hb))))))))))) kp_X1_43 (fun _ => rfl) rfl rfl rfl rfl ?_
  exact e_vret dX1_init_91 rfl (by rw [hK]; exact ⟨rfl, rfl, rfl, rfl, rfl⟩)
theorem ct_dinner {l : Launch} {sh : ExSh} {I : ExI} {L : ExL} {R : ExR} (b : Nat) (hb : sh[b]? = some (1 + 8, 18)) (hlen : sh.length = b + 1) : Ct l (ws_ yX1_init cX1_init 1 (none)) yX1_init 2 11 365 [.ref b] sh I L R (kEq (some none) (sh ++ dSH) (initI I b) (initL L b) (initR R b)) :=
  Ct.mono (fun o a b2 c2 r h => by obtain ⟨h1, h2, h3⟩ := h; exact ⟨h1, by rw [h2]; simp [dSH], h3⟩) (ct_dinner0 b hb hlen)
