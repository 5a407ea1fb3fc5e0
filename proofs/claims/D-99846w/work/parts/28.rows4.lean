set_option maxRecDepth 100000
/-- a call of a method of String's, of a literal -/
def exCT (own : String) (ix : Nat) (y : MethodName) (bytes : ByteArray) (mL : Nat) (ret : Option FieldType) (nA : Nat) : Prop := GoodIn lw_all (wsV own ix "java/lang/String" y (ws_ y bytes mL ret)) ∧ (y.cls = "java/lang/String" ∧ y.cls ≠ "java/lang/invoke/MethodHandle" ∧ y.cls ≠ "java/lang/invoke/VarHandle" ∧ (parseMethodDescriptor y.desc).map (fun d => d.parameters.length) = some nA) ∧ mL ≤ 200
section EXR4
variable {l : Launch} {M : ExM} {d : Nat} {K : ExK} {pc : Nat} {ls ls' : List (Nat × Value)} {st : List Value} {sh sh' : ExSh} {I I' : ExI} {L L' : ExL} {R R' : ExR} {k n : Nat}
theorem e_callT {ix j nA mL d' : Nat} {y : MethodName} {bytes : ByteArray} {ret : Option FieldType} {As stk : List Value} {v : Option Value} (hd : decode M.2.1 pc = .ok (.invokevirtual ix, 3)) (hw : exCT M.1 ix y bytes mL ret nA) (hj : j < 19) (hA : As.length = nA) (hst : As.reverse ++ .float j.toUInt32 :: st = stk) (hw8 : (st.map Value.category).sum ≤ 8) (hdd : d' + 1 ≤ d) (hC : Ct l (ws_ y bytes mL ret) y d' 0 0 (.float j.toUInt32 :: As) sh I L R (kEq (some v) sh I L R))
    (kk : Ex l M d K (pc + 3) ls (v.toList ++ st) sh I L R k n) : Ex l M d K pc ls stk sh I L R k n := by
  intro w p e s m args below meth c A mc ms n0 ad0 ad H locs cells slots la F S hS hk hn hl ho hs
  subst hst
  obtain ⟨hG, hy, hmL⟩ := hw
  have hj2 : (j.toUInt32).toNat = j := by simp [Nat.toUInt32]; omega
  have hsA : ∀ v ∈ Value.float j.toUInt32 :: As, exOk sh.length v := fun v hv => by
    rcases List.mem_cons.mp hv with rfl | hv
    · trivial
    · exact hs v (List.mem_append_left _ (List.mem_reverse.mpr hv))
  have hM := hC w ad H.size hsA S.2.2.1
  obtain ⟨hfr, hbl, hpc⟩ := ex_pre (av := .float j.toUInt32 :: As) F S hS
  have hrm : (exRm d' 0 0).frames + 1 ≤ (exRm d mc ms).frames ∧ 8 + (mL + 11) + (exRm d' 0 0).locals ≤ (exRm d mc ms).locals := ⟨hdd, by show 8 + (mL + 11) + 256 * d' ≤ 256 * d; omega⟩
  have hsr : ∀ v ∈ st, exOk sh.length v := fun v hv => hs v (List.mem_append_right _ (List.mem_cons_of_mem _ hv))
  have hfit : cells + 0 ≤ (exRm d mc ms).cells ∧ slots + 0 ≤ (exRm d mc ms).slots := ⟨by show cells + 0 ≤ mc; omega, by show slots + 0 ≤ ms; omega⟩
  have hrecv : ∃ cell : Cell, H[w.2.2 (j.toUInt32).toNat]? = some cell ∧ cell.vm.isStatics = false ∧ s.vm.findClass "java/lang/String" = some cell.cls := by
    rw [hj2]
    obtain ⟨cell, q1, q2, q3, q4⟩ := (F.B.2.1 j hj).1
    exact ⟨cell, (hS.2.1 _ (Array.getElem?_eq_some_iff.mp q1).1 q4).trans q1, q2, q3⟩
  exact ex_go (k2 := k) (n2 := n) F S hS (by omega) (by omega) hl ho hsr (vx_runV (As := As.map (exV w ad)) (rest := st.map (exV w ad)) ⟨F.x, F.b, F.ml, F.own, F.ts⟩ hM (cwV nA F.ts hG rfl rfl rfl hy hrm) ⟨hbl, hrecv, hpc⟩ rfl (by rw [List.length_map]; exact hA) hl.1 exMap_rev (exCat hw8) hd hfit)
    (kEq_go (P := fun v a b c e => Ex l M d K (pc + 3) ls (v.toList ++ st) a b c e k n) kk) (Or.inr kEq_x)
end EXR4
theorem kt_X4_59 : exCT "ChairCane$Text" 59 yJ3_length cJ3_length 1 (some .int) 0 := ⟨lw_V q486 q487 q488 q126 q489, ⟨rfl, by decide +kernel, by decide +kernel, by decide +kernel⟩, by decide⟩
theorem kt_X4_64 : exCT "ChairCane$Text" 64 yJ3_charAt cJ3_charAt 2 (some .char) 1 := ⟨lw_V q496 q497 q498 q126 q499, ⟨rfl, by decide +kernel, by decide +kernel, by decide +kernel⟩, by decide⟩
theorem kt_X3_175 : exCT "ChairCaneModel" 175 yJ3_length cJ3_length 1 (some .int) 0 := ⟨lw_V q1322 q487 q488 q126 q489, ⟨rfl, by decide +kernel, by decide +kernel, by decide +kernel⟩, by decide⟩
theorem kt_X3_180 : exCT "ChairCaneModel" 180 yJ3_charAt cJ3_charAt 2 (some .char) 1 := ⟨lw_V q1323 q497 q498 q126 q499, ⟨rfl, by decide +kernel, by decide +kernel, by decide +kernel⟩, by decide⟩
theorem kt_J3_335 : exCT "java/lang/String" 335 yJ3_coder cJ3_coder 1 (some .byte) 0 := ⟨lw_V q490 q491 q492 q126 q493, ⟨rfl, by decide +kernel, by decide +kernel, by decide +kernel⟩, by decide⟩
theorem kt_J3_492 : exCT "java/lang/String" 492 yJ3_isLatin1 cJ3_isLatin1 1 (some .boolean) 0 := ⟨lw_V q500 q501 q502 q126 q503, ⟨rfl, by decide +kernel, by decide +kernel, by decide +kernel⟩, by decide⟩
