set_option maxRecDepth 100000
theorem ofOk : ∀ (n : Nat) (l : Launch) (sh : ExSh) (I : ExI) (L : ExL) (R : ExR) (a wd : Nat) (es : List Ent), isV sh I L R n a es → sh[wd]? = some (3, 11) → OfAt l n sh I L R a wd es := by
  intro n
  induction n with
  | zero => intro l sh I L R a wd es h; exact h.elim
  | succ n ih =>
    intro l sh I L R a wd es h hw
    rcases h with ⟨g1, v, g2, g3⟩ | ⟨g1, g2, g3⟩ | ⟨g1, a1, a2, e1, e2, k, g2, g3, g4, g5, g6, g7⟩
    · exact ⟨fun _ => ct_of8 n a wd v es g1 g2 g3, fun h => absurd (g1.symm.trans h) (by decide), fun h => absurd (g1.symm.trans h) (by decide)⟩
    · exact ⟨fun h => absurd (g1.symm.trans h) (by decide), fun _ => ct_of9 n a wd es g1 g2 g3 hw, fun h => absurd (g1.symm.trans h) (by decide)⟩
    · refine ⟨fun h => absurd (g1.symm.trans h) (by decide), fun h => absurd (g1.symm.trans h) (by decide), fun _ => ?_⟩
      have hk := g4
      simp only [pairS, List.mem_cons, Prod.mk.injEq, List.not_mem_nil, or_false] at hk
      exact ct_of10 n a a1 a2 k wd e1 e2 es g1 g2 g3 g4 g5 g6 (by rw [g7]; exact (goodE_two (by omega) (by omega) (by omega) (isV_good n a1 e1 g5) (isV_good n a2 e2 g6)).2 _) (ih l sh I L R a1 wd e1 g5 hw) (ih l sh I L R a2 wd e2 g6 hw)
theorem isOk : ∀ (n : Nat) (l : Launch) (sh : ExSh) (I : ExI) (L : ExL) (R : ExR) (a wd : Nat) (es : List Ent), isT sh I L R n a es → sh[wd]? = some (3, 11) → IsAt l n sh I L R a wd es := by
  intro n
  induction n with
  | zero => intro l sh I L R a wd es h; exact h.elim
  | succ n ih =>
    intro l sh I L R a wd es h hw
    rcases h with ⟨g1, a1, e1, g2, g3, g4⟩ | ⟨g1, a1, a2, e1, e2, k, g2, g3, g4, g5, g6, g7⟩ | ⟨g1, a1, a2, e1, e2, g2, g3, g4, g5, g6⟩
    · refine ⟨fun _ => ?_, fun h => absurd (g1.symm.trans h) (by decide), fun h => absurd (g1.symm.trans h) (by decide)⟩
      obtain ⟨q1, q2⟩ := isT_good n a1 e1 g3
      exact ct_is12 n a a1 wd e1 es g1 g2 g3 (q2 _) (by rw [g4]; exact (goodE_not q1).2 _) (ih l sh I L R a1 wd e1 g3 hw)
    · refine ⟨fun h => absurd (g1.symm.trans h) (by decide), fun _ => ?_, fun h => absurd (g1.symm.trans h) (by decide)⟩
      have hk := g4
      simp only [cmpS, List.mem_cons, Prod.mk.injEq, List.not_mem_nil, or_false] at hk
      exact ct_is13 n a a1 a2 k wd e1 e2 es g1 g2 g3 g4 g5 g6 (by rw [g7]; exact (goodE_two (by omega) (by omega) (by omega) (isV_good n a1 e1 g5) (isV_good n a2 e2 g6)).2 _) (ofOk n l sh I L R a1 wd e1 g5 hw) (ofOk n l sh I L R a2 wd e2 g6 hw)
    · refine ⟨fun h => absurd (g1.symm.trans h) (by decide), fun h => absurd (g1.symm.trans h) (by decide), fun _ => ?_⟩
      obtain ⟨q1, q2⟩ := isT_good n a1 e1 g4
      obtain ⟨f1, f2⟩ := isT_good n a2 e2 g5
      refine ct_is14 n a a1 a2 wd e1 e2 es g1 g2 g3 g4 g5 (q2 _) (f2 _) ?_ (ih l sh I L R a1 wd e1 g4 hw) (ih l sh I L R a2 wd e2 g5 hw)
      rcases g6 with ⟨h1, h2⟩ | ⟨h1, h2⟩
      · exact Or.inl ⟨h1, by rw [h2]; exact (goodE_two (by omega) (by omega) (by omega) q1 f1).2 _⟩
      · exact Or.inr ⟨h1, by rw [h2]; exact (goodE_two (by omega) (by omega) (by omega) q1 f1).2 _⟩
theorem ruleV_cons {w : Nat → Int64} {e : List Ent × List Ent} {cl : Rul} : ruleV w (e :: cl) = if e.2 = [] ∨ valE w e.2 = 1 then valE w e.1 else ruleV w cl := rfl
/-- the words that are asked are among the eleven -/
def okE (es : List Ent) : Prop := ∀ e ∈ es, e.1 = 1 → ix e.2 < 11
def okR (cl : Rul) : Prop := ∀ e ∈ cl, okE e.1 ∧ okE e.2
theorem runE_cg {w w' : Nat → Int64} (h : ∀ j, j < 11 → w j = w' j) : ∀ (es : List Ent) (s : List Int64), okE es → runE w es s = runE w' es s := by
  intro es
  induction es with
  | nil => intro s _; rfl
  | cons e es ih =>
    intro s hk
    have e1 : stepE w e s = stepE w' e s := by
      unfold stepE
      by_cases h0 : e.1 = 0
      · rw [if_pos h0, if_pos h0]
      · rw [if_neg h0, if_neg h0]
        by_cases h1 : e.1 = 1
        · rw [if_pos h1, if_pos h1, h _ (hk e List.mem_cons_self h1)]
        · rw [if_neg h1, if_neg h1]
    show runE w es (stepE w e s) = runE w' es (stepE w' e s)
    rw [e1]
    exact ih _ (fun x hx => hk x (List.mem_cons_of_mem _ hx))
theorem valE_cg {w w' : Nat → Int64} (h : ∀ j, j < 11 → w j = w' j) {es : List Ent} (hk : okE es) : valE w es = valE w' es := by
  unfold valE; rw [runE_cg h es [] hk]
theorem ruleV_cg {w w' : Nat → Int64} (h : ∀ j, j < 11 → w j = w' j) : ∀ (cl : Rul), okR cl → ruleV w cl = ruleV w' cl := by
  intro cl
  induction cl with
  | nil => intro _; rfl
  | cons e cl ih =>
    intro hk
    obtain ⟨h1, h2⟩ := hk e List.mem_cons_self
    rw [ruleV_cons, ruleV_cons, valE_cg h h1, valE_cg h h2, ih (fun x hx => hk x (List.mem_cons_of_mem _ hx))]
/-- the ones of a set, as Integer.bitCount has them -/
def bitsN (x : Int32) : Nat → Int32
  | 0 => 0
  | k + 1 => bitsN x k + ((x >>> (nI k &&& 31)) &&& 1)
/-- who else of the sitters stands on k's strand -/
def manyN (D : Nat → Nat → Int32) (others : Int32) (k : Nat) : Nat → Int32
  | 0 => 0
  | o + 1 => manyN D others k o + (if hasX others (nI o) ∧ strOf D o = strOf D k then 1 else 0)
def othersOf (D : Nat → Nat → Int32) (N k : Nat) : Int32 := onesN (D 7) 1 N &&& (bitX k ^^^ (-1))
