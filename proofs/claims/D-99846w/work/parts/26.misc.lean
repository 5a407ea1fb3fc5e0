set_option maxRecDepth 100000
theorem lgc_0 {x y : Int64} : lg_cmp x y = 0 ↔ x = y := by
  unfold lg_cmp
  by_cases h : x > y
  · rw [if_pos h]
    exact ⟨fun z => absurd z (by decide), fun z => by subst z; exact absurd h Int64.lt_irrefl⟩
  · rw [if_neg h]
    by_cases e : x = y
    · rw [if_pos e]; exact ⟨fun _ => e, fun _ => rfl⟩
    · rw [if_neg e]; exact ⟨fun z => absurd z (by decide), fun z => absurd z e⟩
theorem lgc_gt {x y : Int64} : 0 < lg_cmp x y ↔ y < x := by
  unfold lg_cmp
  by_cases h : x > y
  · rw [if_pos h]; exact ⟨fun _ => h, fun _ => by decide⟩
  · rw [if_neg h]
    by_cases e : x = y
    · rw [if_pos e]; exact ⟨fun z => absurd z (by decide), fun z => absurd z h⟩
    · rw [if_neg e]; exact ⟨fun z => absurd z (by decide), fun z => absurd z h⟩
theorem lgc_ge {x y : Int64} : 0 ≤ lg_cmp x y ↔ y ≤ x := by
  unfold lg_cmp
  by_cases h : x > y
  · rw [if_pos h]; exact ⟨fun _ => Int64.le_of_lt h, fun _ => by decide⟩
  · rw [if_neg h]
    by_cases e : x = y
    · rw [if_pos e]; exact ⟨fun _ => by rw [e]; exact Int64.le_refl _, fun _ => by decide⟩
    · rw [if_neg e]; exact ⟨fun z => absurd z (by decide), fun z => absurd (Int64.le_antisymm (Int64.not_lt.mp h) z) e⟩
theorem lgc_le {x y : Int64} : lg_cmp x y ≤ 0 ↔ x ≤ y := by
  rw [← Int32.not_lt, lgc_gt, Int64.not_lt]
theorem lgc_lt {x y : Int64} : lg_cmp x y < 0 ↔ x < y := by
  rw [← Int32.not_le, lgc_ge, Int64.not_le]
theorem tru_1 {p : Prop} [Decidable p] : tru p = 1 ↔ p := by
  unfold tru
  by_cases h : p
  · rw [if_pos h]; exact ⟨fun _ => h, fun _ => rfl⟩
  · rw [if_neg h]; exact ⟨fun z => absurd z (by decide), fun z => absurd z h⟩
/-- the two answers a sum's object may give, by its class -/
def OfAt (l : Launch) (n : Nat) (sh : ExSh) (I : ExI) (L : ExL) (R : ExR) (a wd : Nat) (es : List Ent) : Prop :=
  (sh[a]? = some (7 + 8, 1) → Ct l (ws_ yX8_of cX8_of 2 (some .long)) yX8_of n 0 0 [.ref a, .ref wd] sh I L R (kEq (some (some (.long (valE (L wd) es)))) sh I L R))
  ∧ (sh[a]? = some (8 + 8, 1) → Ct l (ws_ yX9_of cX9_of 2 (some .long)) yX9_of n 0 0 [.ref a, .ref wd] sh I L R (kEq (some (some (.long (valE (L wd) es)))) sh I L R))
  ∧ (sh[a]? = some (9 + 8, 3) → Ct l (ws_ yX10_of cX10_of 6 (some .long)) yX10_of n 0 0 [.ref a, .ref wd] sh I L R (kEq (some (some (.long (valE (L wd) es)))) sh I L R))
def IsAt (l : Launch) (n : Nat) (sh : ExSh) (I : ExI) (L : ExL) (R : ExR) (a wd : Nat) (es : List Ent) : Prop :=
  (sh[a]? = some (10 + 8, 1) → Ct l (ws_ yX12_is cX12_is 2 (some .boolean)) yX12_is n 0 0 [.ref a, .ref wd] sh I L R (kEq (some (some (.int (bI (valE (L wd) es = 1))))) sh I L R))
  ∧ (sh[a]? = some (11 + 8, 3) → Ct l (ws_ yX13_is cX13_is 6 (some .boolean)) yX13_is n 0 0 [.ref a, .ref wd] sh I L R (kEq (some (some (.int (bI (valE (L wd) es = 1))))) sh I L R))
  ∧ (sh[a]? = some (12 + 8, 3) → Ct l (ws_ yX14_is cX14_is 2 (some .boolean)) yX14_is n 0 0 [.ref a, .ref wd] sh I L R (kEq (some (some (.int (bI (valE (L wd) es = 1))))) sh I L R))
section CALLOF
variable {l : Launch} {M : ExM} {d : Nat} {K : ExK} {pc : Nat} {ls ls' : List (Nat × Value)} {st : List Value} {sh sh' : ExSh} {I I' : ExI} {L L' : ExL} {R R' : ExR} {k n : Nat}
theorem e_callOf {ix n1 a wd : Nat} {es : List Ent} (hd : decode M.2.1 pc = .ok (.invokevirtual ix, 3)) (h7 : exCU M.1 ix 7 yX8_of cX8_of 2 (some .long) 1) (h8 : exCU M.1 ix 8 yX9_of cX9_of 2 (some .long) 1) (h9 : exCU M.1 ix 9 yX10_of cX10_of 6 (some .long) 1) (hV : isV sh I L R n1 a es) (hO : OfAt l n1 sh I L R a wd es) (hdd : n1 + 1 ≤ d) (hw8 : (st.map Value.category).sum ≤ 8)
    (kk : Ex l M d K (pc + 3) ls (.long (valE (L wd) es) :: st) sh I L R k n) : Ex l M d K pc ls (.ref wd :: .ref a :: st) sh I L R k n := by
  cases n1 with
  | zero => exact hV.elim
  | succ n1 =>
    rcases hV with ⟨g1, -⟩ | ⟨g1, -⟩ | ⟨g1, -⟩
    · exact e_callU (k2 := k) (n2 := n) (mc' := 0) (ms' := 0) (As := [.ref wd]) hd h7 g1 rfl rfl hw8 hdd (hO.1 g1) (kEq_go (P := fun v a b c e => Ex l M d K (pc + 3) ls (v.toList ++ st) a b c e k n) kk) (Or.inr kEq_x)
    · exact e_callU (k2 := k) (n2 := n) (mc' := 0) (ms' := 0) (As := [.ref wd]) hd h8 g1 rfl rfl hw8 hdd (hO.2.1 g1) (kEq_go (P := fun v a b c e => Ex l M d K (pc + 3) ls (v.toList ++ st) a b c e k n) kk) (Or.inr kEq_x)
    · exact e_callU (k2 := k) (n2 := n) (mc' := 0) (ms' := 0) (As := [.ref wd]) hd h9 g1 rfl rfl hw8 hdd (hO.2.2 g1) (kEq_go (P := fun v a b c e => Ex l M d K (pc + 3) ls (v.toList ++ st) a b c e k n) kk) (Or.inr kEq_x)
theorem e_callIs {ix n1 a wd : Nat} {es : List Ent} (hd : decode M.2.1 pc = .ok (.invokevirtual ix, 3)) (h7 : exCU M.1 ix 10 yX12_is cX12_is 2 (some .boolean) 1) (h8 : exCU M.1 ix 11 yX13_is cX13_is 6 (some .boolean) 1) (h9 : exCU M.1 ix 12 yX14_is cX14_is 2 (some .boolean) 1) (hV : isT sh I L R n1 a es) (hO : IsAt l n1 sh I L R a wd es) (hdd : n1 + 1 ≤ d) (hw8 : (st.map Value.category).sum ≤ 8)
    (kk : Ex l M d K (pc + 3) ls (.int (bI (valE (L wd) es = 1)) :: st) sh I L R k n) : Ex l M d K pc ls (.ref wd :: .ref a :: st) sh I L R k n := by
  cases n1 with
  | zero => exact hV.elim
  | succ n1 =>
    rcases hV with ⟨g1, -⟩ | ⟨g1, -⟩ | ⟨g1, -⟩
    · exact e_callU (k2 := k) (n2 := n) (mc' := 0) (ms' := 0) (As := [.ref wd]) hd h7 g1 rfl rfl hw8 hdd (hO.1 g1) (kEq_go (P := fun v a b c e => Ex l M d K (pc + 3) ls (v.toList ++ st) a b c e k n) kk) (Or.inr kEq_x)
    · exact e_callU (k2 := k) (n2 := n) (mc' := 0) (ms' := 0) (As := [.ref wd]) hd h8 g1 rfl rfl hw8 hdd (hO.2.1 g1) (kEq_go (P := fun v a b c e => Ex l M d K (pc + 3) ls (v.toList ++ st) a b c e k n) kk) (Or.inr kEq_x)
    · exact e_callU (k2 := k) (n2 := n) (mc' := 0) (ms' := 0) (As := [.ref wd]) hd h9 g1 rfl rfl hw8 hdd (hO.2.2 g1) (kEq_go (P := fun v a b c e => Ex l M d K (pc + 3) ls (v.toList ++ st) a b c e k n) kk) (Or.inr kEq_x)
end CALLOF
