set_option maxRecDepth 100000
/-! THE RULES' TEXTS AS LISTS OF ENTRIES (sort, number), in postfix order: sorts 0 number, 1 word, 2 +, 3 -, 4 <, 5 <=, 6 =, 7 >=, 8 >, 9 not, 10 and, 11 or, 13 *, 14 /, 15 %. -/
abbrev Ent : Type := Nat × Int32
abbrev Rul : Type := List (List Ent × List Ent)
def tru (p : Prop) [Decidable p] : Int64 := if p then 1 else 0
/-- what a sign makes of two numbers -/
def both2 (k : Nat) (a b : Int64) : Int64 :=
  if k = 2 then a + b else if k = 3 then a - b else if k = 13 then a * b
  else if k = 14 then (if b = 0 then 0 else a / b) else if k = 15 then (if b = 0 then 0 else a - a / b * b)
  else if k = 4 then tru (a < b) else if k = 5 then tru (a ≤ b) else if k = 6 then tru (a = b) else if k = 7 then tru (b ≤ a) else if k = 8 then tru (b < a)
  else if k = 10 then a &&& b else a ||| b
/-- one entry, on a stack (its top first) -/
def stepE (w : Nat → Int64) (e : Ent) (s : List Int64) : List Int64 :=
  if e.1 = 0 then e.2.toInt64 :: s
  else if e.1 = 1 then w (ix e.2) :: s
  else if e.1 = 9 then match s with | a :: s => (1 - a) :: s | [] => []
  else match s with | b :: a :: s => both2 e.1 a b :: s | _ => []
def runE (w : Nat → Int64) : List Ent → List Int64 → List Int64
  | [], s => s
  | e :: es, s => runE w es (stepE w e s)
theorem runE_app (w : Nat → Int64) (a b : List Ent) (s : List Int64) : runE w (a ++ b) s = runE w b (runE w a s) := by
  induction a generalizing s with
  | nil => rfl
  | cons e a ih => exact ih _
/-- what a list of entries comes to -/
def valE (w : Nat → Int64) (es : List Ent) : Int64 := (runE w es []).headD 0
/-- a list that leaves one number more on any stack, whatever is asked -/
def goodE (es : List Ent) : Prop := ∀ w s, runE w es s = valE w es :: s
theorem goodE_num (v : Int32) : goodE [(0, v)] := fun w s => rfl
theorem goodE_word (v : Int32) : goodE [(1, v)] := fun w s => rfl
theorem goodE_not {a : List Ent} {z : Int32} (h : goodE a) : goodE (a ++ [(9, z)]) ∧ ∀ w, valE w (a ++ [(9, z)]) = 1 - valE w a := by
  have hr : ∀ w s, runE w (a ++ [(9, z)]) s = (1 - valE w a) :: s := fun w s => by rw [runE_app, h w s]; rfl
  have hv : ∀ w, valE w (a ++ [(9, z)]) = 1 - valE w a := fun w => by unfold valE; rw [hr w []]; rfl
  exact ⟨fun w s => by rw [hr w s, hv w], hv⟩
theorem goodE_two {a b : List Ent} {k : Nat} {z : Int32} (h0 : k ≠ 0) (h1 : k ≠ 1) (h9 : k ≠ 9) (ha : goodE a) (hb : goodE b) : goodE (a ++ b ++ [(k, z)]) ∧ ∀ w, valE w (a ++ b ++ [(k, z)]) = both2 k (valE w a) (valE w b) := by
  have hr : ∀ w s, runE w (a ++ b ++ [(k, z)]) s = both2 k (valE w a) (valE w b) :: s := fun w s => by
    rw [runE_app, runE_app, ha w s, hb w (valE w a :: s)]
    show stepE w (k, z) (valE w b :: valE w a :: s) = _
    unfold stepE
    rw [if_neg h0, if_neg h1, if_neg h9]
  have hv : ∀ w, valE w (a ++ b ++ [(k, z)]) = both2 k (valE w a) (valE w b) := fun w => by unfold valE; rw [hr w []]; rfl
  exact ⟨fun w s => by rw [hr w s, hv w], hv⟩
/-- signs of a Pair, and their sorts -/
def pairS : List (Int32 × Nat) := [(43, 2), (45, 3), (42, 13), (47, 14), (37, 15)]
/-- the object a holds the sum es, in at most n levels -/
def isV (sh : ExSh) (I : ExI) (L : ExL) (R : ExR) : Nat → Nat → List Ent → Prop
  | 0, _, _ => False
  | n + 1, a, es => (sh[a]? = some (7 + 8, 1) ∧ ∃ v : Int32, L a 0 = v.toInt64 ∧ es = [(0, v)])
    ∨ (sh[a]? = some (8 + 8, 1) ∧ vp_in (I a 0) 11 ∧ es = [(1, I a 0)])
    ∨ (sh[a]? = some (9 + 8, 3) ∧ ∃ (a1 a2 : Nat) (e1 e2 : List Ent) (k : Nat), R a 0 = .ref a1 ∧ R a 1 = .ref a2 ∧ (I a 2, k) ∈ pairS ∧ isV sh I L R n a1 e1 ∧ isV sh I L R n a2 e2 ∧ es = e1 ++ e2 ++ [(k, 0)])
def cmpS : List (Int32 × Nat) := [(0, 4), (1, 5), (2, 6), (3, 7), (4, 8)]
/-- the object a holds the test es, in at most n levels -/
def isT (sh : ExSh) (I : ExI) (L : ExL) (R : ExR) : Nat → Nat → List Ent → Prop
  | 0, _, _ => False
  | n + 1, a, es => (sh[a]? = some (10 + 8, 1) ∧ ∃ (a1 : Nat) (e1 : List Ent), R a 0 = .ref a1 ∧ isT sh I L R n a1 e1 ∧ es = e1 ++ [(9, 0)])
    ∨ (sh[a]? = some (11 + 8, 3) ∧ ∃ (a1 a2 : Nat) (e1 e2 : List Ent) (k : Nat), R a 0 = .ref a1 ∧ R a 1 = .ref a2 ∧ (I a 2, k) ∈ cmpS ∧ isV sh I L R n a1 e1 ∧ isV sh I L R n a2 e2 ∧ es = e1 ++ e2 ++ [(k, 0)])
    ∨ (sh[a]? = some (12 + 8, 3) ∧ ∃ (a1 a2 : Nat) (e1 e2 : List Ent), R a 0 = .ref a1 ∧ R a 1 = .ref a2 ∧ isT sh I L R n a1 e1 ∧ isT sh I L R n a2 e2 ∧ ((I a 2 = 1 ∧ es = e1 ++ e2 ++ [(10, 0)]) ∨ (I a 2 = 0 ∧ es = e1 ++ e2 ++ [(11, 0)])))
/-- the object c is this clause -/
def isCl (sh : ExSh) (I : ExI) (L : ExL) (R : ExR) (n c : Nat) (e : List Ent × List Ent) : Prop := sh[c]? = some (6 + 8, 2) ∧ (∃ a, R c 0 = .ref a ∧ isV sh I L R n a e.1) ∧ ((R c 1 = .null ∧ e.2 = []) ∨ ∃ t, R c 1 = .ref t ∧ isT sh I L R n t e.2)
/-- the object r is this rule -/
def isRu (sh : ExSh) (I : ExI) (L : ExL) (R : ExR) (n r : Nat) (cl : Rul) : Prop := sh[r]? = some (5 + 8, 2) ∧ (∃ ca, R r 0 = .ref ca ∧ sh[ca]? = some (6, 12) ∧ ∀ i e, cl[i]? = some e → ∃ c, R ca i = .ref c ∧ isCl sh I L R n c e) ∧ I r 1 = nI cl.length ∧ cl.length ≤ 12
theorem both2_01 {k : Nat} {a b : Int64} (hk : (k = 4 ∨ k = 5 ∨ k = 6 ∨ k = 7 ∨ k = 8) ∨ ((k = 10 ∨ k = 11) ∧ (a = 0 ∨ a = 1) ∧ (b = 0 ∨ b = 1))) : both2 k a b = 0 ∨ both2 k a b = 1 := by
  rcases hk with (rfl | rfl | rfl | rfl | rfl) | ⟨rfl | rfl, rfl | rfl, rfl | rfl⟩ <;> first | (unfold both2 tru; simp only [Nat.reduceEqDiff, if_false, if_true]; split <;> simp) | decide
theorem isV_good {sh : ExSh} {I : ExI} {L : ExL} {R : ExR} : ∀ n a es, isV sh I L R n a es → goodE es := by
  intro n
  induction n with
  | zero => intro a es h; exact h.elim
  | succ n ih =>
    intro a es h
    rcases h with ⟨-, v, -, rfl⟩ | ⟨-, -, rfl⟩ | ⟨-, a1, a2, e1, e2, k, -, -, hk, h1, h2, rfl⟩
    · exact goodE_num v
    · exact goodE_word _
    · simp only [pairS, List.mem_cons, Prod.mk.injEq, List.not_mem_nil, or_false] at hk
      exact (goodE_two (by omega) (by omega) (by omega) (ih a1 e1 h1) (ih a2 e2 h2)).1
theorem isT_good {sh : ExSh} {I : ExI} {L : ExL} {R : ExR} : ∀ n a es, isT sh I L R n a es → goodE es ∧ ∀ w, valE w es = 0 ∨ valE w es = 1 := by
  intro n
  induction n with
  | zero => intro a es h; exact h.elim
  | succ n ih =>
    intro a es h
    rcases h with ⟨-, a1, e1, -, h1, rfl⟩ | ⟨-, a1, a2, e1, e2, k, -, -, hk, h1, h2, rfl⟩ | ⟨-, a1, a2, e1, e2, -, -, h1, h2, h3⟩
    · obtain ⟨g1, g2⟩ := ih a1 e1 h1
      obtain ⟨q1, q2⟩ := goodE_not (z := 0) g1
      refine ⟨q1, fun w => ?_⟩
      rw [q2 w]
      rcases g2 w with h | h <;> rw [h] <;> decide
    · simp only [cmpS, List.mem_cons, Prod.mk.injEq, List.not_mem_nil, or_false] at hk
      obtain ⟨q1, q2⟩ := goodE_two (k := k) (z := 0) (by omega) (by omega) (by omega) (isV_good n a1 e1 h1) (isV_good n a2 e2 h2)
      refine ⟨q1, fun w => ?_⟩
      rw [q2 w]
      exact both2_01 (Or.inl (by omega))
    · obtain ⟨g1, g2⟩ := ih a1 e1 h1
      obtain ⟨f1, f2⟩ := ih a2 e2 h2
      rcases h3 with ⟨-, rfl⟩ | ⟨-, rfl⟩
      · obtain ⟨q1, q2⟩ := goodE_two (k := 10) (z := 0) (by omega) (by omega) (by omega) g1 f1
        exact ⟨q1, fun w => by rw [q2 w]; exact both2_01 (Or.inr ⟨Or.inl rfl, g2 w, f2 w⟩)⟩
      · obtain ⟨q1, q2⟩ := goodE_two (k := 11) (z := 0) (by omega) (by omega) (by omega) g1 f1
        exact ⟨q1, fun w => by rw [q2 w]; exact both2_01 (Or.inr ⟨Or.inr rfl, g2 w, f2 w⟩)⟩
/-- what a rule wants: the sum of its first clause that fits -/
def ruleV (w : Nat → Int64) : Rul → Int64
  | [] => 0
  | (s, t) :: cl => if t = [] ∨ valE w t = 1 then valE w s else ruleV w cl
/-- rows of texts stay: what is no node's row may change -/
def nodeS (sh : ExSh) (I : ExI) (L : ExL) (R : ExR) (I' : ExI) (L' : ExL) (R' : ExR) : Prop := ∀ j t n, sh[j]? = some (t, n) → (t = 6 ∨ (13 ≤ t ∧ t ≤ 20)) → I' j = I j ∧ L' j = L j ∧ R' j = R j
theorem isV_kept {sh : ExSh} {I I' : ExI} {L L' : ExL} {R R' : ExR} (h : nodeS sh I L R I' L' R') : ∀ n a es, isV sh I L R n a es → isV sh I' L' R' n a es := by
  intro n
  induction n with
  | zero => intro a es g; exact g
  | succ n ih =>
    intro a es g
    rcases g with ⟨g1, v, g2, g3⟩ | ⟨g1, g2, g3⟩ | ⟨g1, a1, a2, e1, e2, k, g2, g3, g4, g5, g6, g7⟩
    · obtain ⟨-, q, -⟩ := h a _ _ g1 (by omega)
      exact Or.inl ⟨g1, v, by rw [q]; exact g2, g3⟩
    · obtain ⟨q, -, -⟩ := h a _ _ g1 (by omega)
      exact Or.inr (Or.inl ⟨g1, by rw [q]; exact g2, by rw [q]; exact g3⟩)
    · obtain ⟨q, -, r⟩ := h a _ _ g1 (by omega)
      exact Or.inr (Or.inr ⟨g1, a1, a2, e1, e2, k, by rw [r]; exact g2, by rw [r]; exact g3, by rw [q]; exact g4, ih a1 e1 g5, ih a2 e2 g6, g7⟩)
theorem isT_kept {sh : ExSh} {I I' : ExI} {L L' : ExL} {R R' : ExR} (h : nodeS sh I L R I' L' R') : ∀ n a es, isT sh I L R n a es → isT sh I' L' R' n a es := by
  intro n
  induction n with
  | zero => intro a es g; exact g
  | succ n ih =>
    intro a es g
    rcases g with ⟨g1, a1, e1, g2, g3, g4⟩ | ⟨g1, a1, a2, e1, e2, k, g2, g3, g4, g5, g6, g7⟩ | ⟨g1, a1, a2, e1, e2, g2, g3, g4, g5, g6⟩
    · obtain ⟨-, -, r⟩ := h a _ _ g1 (by omega)
      exact Or.inl ⟨g1, a1, e1, by rw [r]; exact g2, ih a1 e1 g3, g4⟩
    · obtain ⟨q, -, r⟩ := h a _ _ g1 (by omega)
      exact Or.inr (Or.inl ⟨g1, a1, a2, e1, e2, k, by rw [r]; exact g2, by rw [r]; exact g3, by rw [q]; exact g4, isV_kept h n a1 e1 g5, isV_kept h n a2 e2 g6, g7⟩)
    · obtain ⟨q, -, r⟩ := h a _ _ g1 (by omega)
      exact Or.inr (Or.inr ⟨g1, a1, a2, e1, e2, by rw [r]; exact g2, by rw [r]; exact g3, ih a1 e1 g4, ih a2 e2 g5, by rw [q]; exact g6⟩)
theorem isCl_kept {sh : ExSh} {I I' : ExI} {L L' : ExL} {R R' : ExR} {n c : Nat} {e : List Ent × List Ent} (h : nodeS sh I L R I' L' R') (g : isCl sh I L R n c e) : isCl sh I' L' R' n c e := by
  obtain ⟨g1, ⟨a, g2, g3⟩, g4⟩ := g
  obtain ⟨-, -, r⟩ := h c _ _ g1 (by omega)
  refine ⟨g1, ⟨a, by rw [r]; exact g2, isV_kept h n a _ g3⟩, ?_⟩
  rcases g4 with ⟨g4, g5⟩ | ⟨t, g4, g5⟩
  · exact Or.inl ⟨by rw [r]; exact g4, g5⟩
  · exact Or.inr ⟨t, by rw [r]; exact g4, isT_kept h n t _ g5⟩
theorem isRu_kept {sh : ExSh} {I I' : ExI} {L L' : ExL} {R R' : ExR} {n r : Nat} {cl : Rul} (h : nodeS sh I L R I' L' R') (g : isRu sh I L R n r cl) : isRu sh I' L' R' n r cl := by
  obtain ⟨g1, ⟨ca, g2, g3, g4⟩, g5, g6⟩ := g
  obtain ⟨q, -, rr⟩ := h r _ _ g1 (by omega)
  obtain ⟨-, -, rc⟩ := h ca _ _ g3 (by omega)
  refine ⟨g1, ⟨ca, by rw [rr]; exact g2, g3, fun i e hi => ?_⟩, by rw [q]; exact g5, g6⟩
  obtain ⟨c, k1, k2⟩ := g4 i e hi
  exact ⟨c, by rw [rc]; exact k1, isCl_kept h k2⟩
theorem nodeS_rf {sh : ExSh} {I : ExI} {L : ExL} {R : ExR} : nodeS sh I L R I L R := fun _ _ _ _ _ => ⟨rfl, rfl, rfl⟩
theorem nodeS_tr {sh : ExSh} {I I1 I2 : ExI} {L L1 L2 : ExL} {R R1 R2 : ExR} (h : nodeS sh I L R I1 L1 R1) (g : nodeS sh I1 L1 R1 I2 L2 R2) : nodeS sh I L R I2 L2 R2 := fun j t n h1 h2 => by
  obtain ⟨a, b, c⟩ := h j t n h1 h2
  obtain ⟨a2, b2, c2⟩ := g j t n h1 h2
  exact ⟨a2.trans a, b2.trans b, c2.trans c⟩
theorem nodeS_I {sh : ExSh} {I : ExI} {L : ExL} {R : ExR} {i t n : Nat} {f : Nat → Int32} (h : sh[i]? = some (t, n)) (ht : ¬ (t = 6 ∨ (13 ≤ t ∧ t ≤ 20))) : nodeS sh I L R (va_up I i f) L R := fun j t' n' h1 h2 => by
  refine ⟨va_up_ne _ _ (fun e => ?_), rfl, rfl⟩
  subst e
  rw [h] at h1
  cases h1
  exact ht h2
theorem nodeS_L {sh : ExSh} {I : ExI} {L L' : ExL} {R : ExR} {i t n : Nat} (h : sh[i]? = some (t, n)) (ht : ¬ (t = 6 ∨ (13 ≤ t ∧ t ≤ 20))) (hL : ∀ j, j ≠ i → L' j = L j) : nodeS sh I L R I L' R := fun j t' n' h1 h2 => by
  refine ⟨rfl, hL j (fun e => ?_), rfl⟩
  subst e
  rw [h] at h1
  cases h1
  exact ht h2
