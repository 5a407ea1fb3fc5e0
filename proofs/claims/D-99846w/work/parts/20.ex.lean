set_option maxRecDepth 100000
/-! THE Ex-LOGIC: a method walk over a memory of numbered cells (ints, longs, references), over any heap that holds it. -/
abbrev ExW : Type := va_G × (Nat → ClassId) × (Nat → Nat)
abbrev ExSh : Type := List (Nat × Nat)
abbrev ExI : Type := Nat → Nat → Int32
abbrev ExL : Type := Nat → Nat → Int64
abbrev ExR : Type := Nat → Nat → Value
abbrev ExO : Type := Option (Option Value)
abbrev ExK : Type := ExO → ExSh → ExI → ExL → ExR → Prop
abbrev ExM : Type := String × ByteArray × Nat × Option FieldType × String × List (Nat × Nat × Nat × Nat) × Option (Nat × (Nat → Int32))
/-- the classes of the cells, by their number here -/
abbrev exCl : List vw_C := [(RX0, TX0, 23), (RX1, TX1, 18), (RX2, TX2, 8), (RX3, TX3, 53), (RX4, TX4, 7), (RX5, TX5, 2), (RX6, TX6, 2), (RX8, TX8, 1), (RX9, TX9, 1), (RX10, TX10, 3), (RX12, TX12, 1), (RX13, TX13, 3), (RX14, TX14, 3), (RX15, TX15, 4)]
/-- the kinds of their fields: 0 a whole number of an int, 1 a long, 2 a reference -/
def exKinds : List (List Nat) := [[2, 2, 2, 2, 2, 0, 0, 2, 2, 0, 2, 2, 2, 2, 0, 2, 2, 2, 2, 2, 2, 0, 2], [0, 0, 0, 0, 0, 0, 0, 2, 2, 2, 2, 2, 2, 2, 2, 2, 2, 2], [2, 2, 2, 2, 2, 0, 0, 0], [0, 2, 2, 2, 2, 2, 2, 2, 2, 2, 2, 2, 2, 2, 2, 2, 2, 2, 0, 0, 0, 0, 0, 0, 0, 0, 0, 0, 2, 2, 2, 2, 2, 2, 2, 2, 2, 2, 2, 2, 2, 0, 0, 0, 2, 2, 2, 2, 2, 2, 2, 0, 0], [2, 2, 0, 0, 0, 0, 2], [2, 0], [2, 2], [1], [0], [2, 2, 0], [2], [2, 2, 0], [2, 2, 0], [2, 0, 0, 0]]
/-- the 19 literals, by their bytes -/
def exTx : List (List Int32) := [[104, 97, 108, 108], [115, 116, 114, 97, 110, 100], [99, 104, 97, 105, 114], [115, 105, 116, 116, 101, 114], [115, 105, 116], [119, 101, 105, 103, 104, 116], [104, 101, 105, 103, 104, 116], [99, 97, 110, 101], [115, 105, 116, 115], [103, 105, 118, 101], [111, 116, 104, 101, 114, 115], [112, 114, 101, 115, 115], [100, 114, 111, 112, 112, 101, 100], [109, 105, 110, 117, 116, 101], [102, 97, 117, 108, 116], [105, 102], [110, 111, 116], [97, 110, 100], [111, 114]]
/-- every entry of a literal: class, entry, text, literal -/
def exLd : List (String × Nat × String × Nat) := [("ChairCane", 42, "hall", 0), ("ChairCane", 44, "strand", 1), ("ChairCane", 46, "chair", 2), ("ChairCane", 48, "sitter", 3), ("ChairCane", 54, "sit", 4), ("ChairCane", 59, "weight", 5), ("ChairCane", 61, "height", 6), ("ChairCane", 63, "cane", 7), ("ChairCane", 65, "sits", 8), ("ChairCane", 67, "give", 9), ("ChairCane", 69, "others", 10), ("ChairCane", 71, "press", 11), ("ChairCane", 73, "dropped", 12), ("ChairCane", 75, "minute", 13), ("ChairCane$Fault", 1, "fault", 14), ("ChairCane$Text", 180, "if", 15), ("ChairCane$Text", 223, "not", 16), ("ChairCane$Text", 221, "and", 17), ("ChairCane$Text", 211, "or", 18), ("ChairCaneModel", 142, "sitter", 3), ("ChairCaneModel", 144, "chair", 2), ("ChairCaneModel", 146, "weight", 5), ("ChairCaneModel", 147, "height", 6), ("ChairCaneModel", 148, "cane", 7), ("ChairCaneModel", 149, "sits", 8), ("ChairCaneModel", 151, "give", 9), ("ChairCaneModel", 153, "others", 10), ("ChairCaneModel", 155, "press", 11), ("ChairCaneModel", 157, "dropped", 12), ("ChairCaneModel", 159, "minute", 13), ("ChairCaneModel", 241, "not", 16), ("ChairCaneModel", 255, "and", 17), ("ChairCaneModel", 257, "or", 18), ("ChairCaneModel", 259, "hall", 0), ("ChairCaneModel", 261, "strand", 1), ("ChairCaneModel", 302, "sit", 4), ("ChairCaneModel", 304, "if", 15)]
def exOv : List String := ["java/lang/String", RX5, RX6, RX15]
/-- a value of the numbered memory as the machine has it: .ref i is cell i, .float k an address outside -/
def exV (w : ExW) (ad : Nat → Nat) (v : Value) : Value := match v with
  | .ref i => .ref (ad i)
  | .float k => .ref (w.2.2 k.toNat)
  | v => v
def exO (w : ExW) (ad : Nat → Nat) (v : Value) : Option Nat := match v with
  | .ref i => some (ad i)
  | .float k => some (w.2.2 k.toNat)
  | _ => none
def exFs (w : ExW) (ad : Nat → Nat) (ks : List Nat) (f : Nat → Int32) (g : Nat → Int64) (r : Nat → Value) : List Value := ks.mapIdx (fun k kd => if kd = 0 then .int (f k) else if kd = 1 then .long (g k) else exV w ad (r k))
def exC (w : ExW) (ad : Nat → Nat) (q : Nat × Nat) (f : Nat → Int32) (g : Nat → Int64) (r : Nat → Value) : va_E :=
  if q.1 < 3 then .inl (w.2.1 q.1, q.2, .inl f)
  else if q.1 = 3 then .inl (w.2.1 3, q.2, .inr (.inl g))
  else if q.1 < 8 then .inl (w.2.1 q.1, q.2, .inr (.inr (.inr (.inr (fun k => exO w ad (r k))))))
  else .inr (q.1 - 8, exFs w ad (exKinds.getD (q.1 - 8) []) f g r)
def exWs (w : ExW) (ad : Nat → Nat) (sh : ExSh) (I : ExI) (L : ExL) (R : ExR) : va_W := sh.mapIdx (fun i q => (ad i, exC w ad q (I i) (L i) (R i)))
def exOk (n : Nat) (v : Value) : Prop := match v with
  | .ref i => i < n
  | _ => True
def exRk (n : Nat) (v : Value) : Prop := match v with
  | .ref i => i < n
  | .float _ => True
  | .null => True
  | _ => False
abbrev exTys (w : ExW) : List (ClassId × FieldType) := [(w.2.1 0, .int), (w.2.1 1, .byte), (w.2.1 2, .boolean), (w.2.1 3, .long), (w.2.1 4, .object "java/lang/String"), (w.2.1 5, .object RX5), (w.2.1 6, .object RX6), (w.2.1 7, .object RX15)]
/-- the literals' objects (outside address i) and their bytes (outside address 32 + i) -/
def exStr (w : ExW) (A : Nat → Prop) (U : State) (H : Heap) : Prop := ∀ i, i < 19 → va_O "java/lang/String" (w.2.2 i) A U H ∧ va_OF "java/lang/String" "coder" "B" (.int 0) (w.2.2 i) A U H ∧ va_OF "java/lang/String" "value" "[B" (.ref (w.2.2 (32 + i))) (w.2.2 i) A U H ∧ va_T .byte (w.2.2 (32 + i)) (exTx.getD i []).length (fun j => .int ((exTx.getD i []).getD j 0)) A U H
def exSta (w : ExW) (A : Nat → Prop) (U : State) (H : Heap) : Prop := va_Z "java/lang/String" "COMPACT_STRINGS" "Z" (.int 1) A U H ∧ va_Z "java/lang/Throwable" "UNASSIGNED_STACK" "[Ljava/lang/StackTraceElement;" (.ref (w.2.2 65)) A U H ∧ va_Z "java/lang/Throwable" "SUPPRESSED_SENTINEL" "Ljava/util/List;" (.ref (w.2.2 66)) A U H ∧ va_Z "jdk/internal/util/Preconditions" "SIOOBE_FORMATTER" "Ljava/util/function/BiFunction;" (.ref (w.2.2 67)) A U H
def exIsN : Cond → Bool
  | .fieldLinkNest _ _ _ _ _ _ => true
  | .methodLinkNest _ _ _ _ => true
  | .castable _ _ => true
  | .declares _ => true
  | _ => false
def exNest : List Cond := lw_tbl.filter exIsN
theorem exNest_in {w : Cond} (h : w ∈ lw_tbl) (hn : exIsN w = true) : w ∈ exNest := List.mem_filter.mpr ⟨h, hn⟩
theorem exNest_is {w : Cond} (h : w ∈ exNest) : exIsN w = true := (List.mem_filter.mp h).2
theorem exNw_on {w : Cond} (h : exIsN w = true) : w.onTables = true := by
  cases w <;> first | rfl | (exact absurd h (by simp [exIsN]))
theorem exNw_warm {w : Cond} {s U : State} (h : exIsN w = true) (hW : s.WarmedH U.vm) (hZ : va_Nw w s) : va_Nw w U := by
  cases w <;> first | exact va_Nw.warmF hW hZ | exact va_Nw.warmM hW hZ | exact va_Nw.warmC hW hZ | exact va_Nw.warmD hW hZ | (exact absurd h (by simp [exIsN]))
/-- what holds of the tables and of the cells outside, all through a run -/
def exB (w : ExW) (A : Nat → Prop) (U : State) (H : Heap) : Prop := va_K w.1 exCl (exTys w) U ∧ exStr w A U H ∧ exSta w A U H ∧ (∀ x ∈ exLd, vk_R x.1 x.2.1 x.2.2.1 (w.2.2 x.2.2.2) U) ∧ (∀ x ∈ exNest, va_Nw x U) ∧ ∀ C ∈ exOv, va_AO C U
theorem exStr.moved {w : ExW} {A : Nat → Prop} {u U : State} {H : Heap} (hvm : u.vm.Alike U.vm) (h : exStr w A u H) : exStr w A U H := fun i hi => ⟨(h i hi).1.moved hvm, (h i hi).2.1.moved hvm, (h i hi).2.2.1.moved hvm, (h i hi).2.2.2.moved hvm⟩
theorem exStr.kept {w : ExW} {A : Nat → Prop} {U : State} {H H1 : Heap} (h : exStr w A U H) (hq : ∀ a : Nat, a < H.size → ¬ A a → H1[a]? = H[a]?) : exStr w A U H1 := fun i hi => ⟨(h i hi).1.kept hq, (h i hi).2.1.kept hq, (h i hi).2.2.1.kept hq, (h i hi).2.2.2.kept hq⟩
theorem exStr.narrow {w : ExW} {A B : Nat → Prop} {U : State} {H : Heap} (h : exStr w A U H) (hAB : ∀ q, B q → A q) : exStr w B U H := fun i hi => ⟨(h i hi).1.narrow hAB, (h i hi).2.1.narrow hAB, (h i hi).2.2.1.narrow hAB, (h i hi).2.2.2.narrow hAB⟩
theorem exSta.moved {w : ExW} {A : Nat → Prop} {u U : State} {H : Heap} (hvm : u.vm.Alike U.vm) (h : exSta w A u H) : exSta w A U H := ⟨h.1.moved hvm, h.2.1.moved hvm, h.2.2.1.moved hvm, h.2.2.2.moved hvm⟩
theorem exSta.kept {w : ExW} {A : Nat → Prop} {U : State} {H H1 : Heap} (h : exSta w A U H) (hq : ∀ a : Nat, a < H.size → ¬ A a → H1[a]? = H[a]?) : exSta w A U H1 := ⟨h.1.kept hq, h.2.1.kept hq, h.2.2.1.kept hq, h.2.2.2.kept hq⟩
theorem exSta.narrow {w : ExW} {A B : Nat → Prop} {U : State} {H : Heap} (h : exSta w A U H) (hAB : ∀ q, B q → A q) : exSta w B U H := ⟨h.1.narrow hAB, h.2.1.narrow hAB, h.2.2.1.narrow hAB, h.2.2.2.narrow hAB⟩
/-- the same, for a callee, at its own start -/
theorem exB.call {w : ExW} {A B : Nat → Prop} {s U : State} {H : Heap} {locs : List Loc} (h : exB w A s s.heap) (hS : va_S A s.heap H locs) (hAB : ∀ q, B q → A q) (hU : U.heap = H) (hW : s.WarmedH U.vm) : exB w B U U.heap := by
  obtain ⟨h1, h2, h3, h4, h5, h6⟩ := h
  have hq : ∀ a : Nat, a < s.heap.size → ¬ A a → U.heap[a]? = s.heap[a]? := fun a ha hn => by rw [hU]; exact hS.2.1 a ha hn
  exact ⟨va_K.moved hW.alike h1, ((h2.kept hq).moved hW.alike).narrow hAB, ((h3.kept hq).moved hW.alike).narrow hAB, fun x hx => (h4 x hx).warm hW, fun x hx => exNw_warm (exNest_is hx) hW (h5 x hx), fun C hC => (h6 C hC).moved hW.alike⟩
theorem exB.same {w : ExW} {A : Nat → Prop} {U V : State} (h : exB w A U U.heap) (hv : V.vm = U.vm) (hh : V.heap = U.heap) : exB w A V V.heap := by
  obtain ⟨h1, h2, h3, h4, h5, h6⟩ := h
  have ha : U.vm.Alike V.vm := by rw [hv]; exact Vm.Alike.refl _
  refine ⟨va_K.moved ha h1, ?_, ?_, fun x hx => (h4 x hx).same hv, fun x hx => va_Nw.same (exNw_on (exNest_is hx)) hv.symm (h5 x hx), fun C hC => (h6 C hC).moved ha⟩
  · rw [hh]; exact h2.moved ha
  · rw [hh]; exact h3.moved ha
abbrev exRm (d mc ms : Nat) : Room := { frames := d, cells := mc, slots := ms, locals := 256 * d }
/-- what stays all through a method -/
def exFix (l : Launch) (M : ExM) (w : ExW) (p : Program) (s : State) (m : MethodId) (args : Array Value) (meth : Method) (c : Code) (A : Nat → Prop) : Prop :=
  p.tables.exec = Jvm.exec ∧ c.code = M.2.1 ∧ meth.sig.returnType = M.2.2.2.1 ∧ meth.locks = false ∧ c.maxLocals = M.2.2.1 ∧ s.vm.findClass M.1 = some m.cls ∧ (∀ q ∈ lw_all, q.before args s = true) ∧ exB w A s s.heap ∧ (∀ q : Nat, s.heap.size ≤ q → A q) ∧ meth.name = M.2.2.2.2.1 ∧ c.exceptionTable.toList = tableOf M.2.2.2.2.2.1 ∧ (∀ L xs, M.2.2.2.2.2.2 = some (L, xs) → va_X (w.2.2 64) L xs s s.heap ∧ w.2.2 64 < s.heap.size ∧ ¬ A (w.2.2 64))
def exIn (w : ExW) (n0 : Nat) (ad0 ad : Nat → Nat) (A : Nat → Prop) (sh : ExSh) (I : ExI) (L : ExL) (R : ExR) (H : Heap) : Prop :=
  n0 ≤ sh.length ∧ (∀ i, i < n0 → ad i = ad0 i) ∧ (∀ i k, exRk sh.length (R i k)) ∧ va_P w.1 exCl (exWs w ad sh I L R) H ∧ va_D A (exWs w ad sh I L R)
def exQ (w : ExW) (n0 : Nat) (ad0 : Nat → Nat) (K : ExK) (A : Nat → Prop) : Array Value → State → Outcome → State → Prop := fun _ st o t =>
  (∃ (v : Option Value) (sh : ExSh) (I : ExI) (L : ExL) (R : ExR) (ad : Nat → Nat), o = .returned (v.map (exV w ad)) ∧ K (some v) sh I L R ∧ (∀ x, v = some x → exOk sh.length x) ∧ exIn w n0 ad0 ad A sh I L R t.heap) ∧ va_F A st t
def exX (w : ExW) (n0 : Nat) (ad0 : Nat → Nat) (K : ExK) (A : Nat → Prop) : String → State → State → Prop := fun E st t =>
  (E = RX2 ∧ ∃ (sh : ExSh) (I : ExI) (L : ExL) (R : ExR) (ad : Nat → Nat), K none sh I L R ∧ exIn w n0 ad0 ad A sh I L R t.heap) ∧ va_F A st t
/-- THE JUDGEMENT: at pc, with these locals and this stack, over any heap that holds the memory, with k cells and n slots still to make: the method ends with K -/
def Ex (l : Launch) (M : ExM) (d : Nat) (K : ExK) (pc : Nat) (ls : List (Nat × Value)) (st : List Value) (sh : ExSh) (I : ExI) (L : ExL) (R : ExR) (k n : Nat) : Prop :=
  ∀ (w : ExW) (p : Program) (e : Env) (s : State) (m : MethodId) (args : Array Value) (below : List Frame) (meth : Method) (c : Code) (A : Nat → Prop) (mc ms n0 : Nat) (ad0 ad : Nat → Nat) (H : Heap) (locs : List Loc) (cells slots : Nat) (la : Array Slot),
    exFix l M w p s m args meth c A → exIn w n0 ad0 ad A sh I L R H → va_S A s.heap H locs → cells + k ≤ mc → slots + n ≤ ms →
    lv_has la M.2.2.1 (ls.map (fun q => (q.1, exV w ad q.2))) → (∀ q ∈ ls, exOk sh.length q.2) → (∀ v ∈ st, exOk sh.length v) →
    W p l e (exRm d mc ms) s m args below meth c H locs cells slots (vx_MQ below (exQ w n0 ad0 K A) (exX w n0 ad0 K A) args s mc ms A) (F0 m pc la (st.map (exV w ad)))
/-- A CONTRACT: the method y, called with these arguments over this memory, ends with K; it makes mc cells of ms slots -/
def Ct (l : Launch) (ws : List Cond) (y : MethodName) (d mc ms : Nat) (av : List Value) (sh : ExSh) (I : ExI) (L : ExL) (R : ExR) (K : ExK) : Prop :=
  ∀ (w : ExW) (ad : Nat → Nat) (sz : Nat), (∀ v ∈ av, exOk sh.length v) → (∀ i k, exRk sh.length (R i k)) →
    vx_Met l y ws (exRm d mc ms) (va_Pc (av.map (exV w ad)) (fun U => U.heap.size = sz ∧ va_P w.1 exCl (exWs w ad sh I L R) U.heap ∧ va_D (fun _ => True) (exWs w ad sh I L R) ∧ exB w (va_A (exWs w ad sh I L R) sz) U U.heap))
      (exQ w sh.length ad K (va_A (exWs w ad sh I L R) sz)) (exX w sh.length ad K (va_A (exWs w ad sh I L R) sz)) mc ms (va_A (exWs w ad sh I L R) sz)
theorem exFix.x {l M w p s m args meth c A} (F : exFix l M w p s m args meth c A) : p.tables.exec = Jvm.exec := F.1
theorem exFix.b {l M w p s m args meth c A} (F : exFix l M w p s m args meth c A) : c.code = M.2.1 := F.2.1
theorem exFix.r {l M w p s m args meth c A} (F : exFix l M w p s m args meth c A) : meth.sig.returnType = M.2.2.2.1 := F.2.2.1
theorem exFix.lk {l M w p s m args meth c A} (F : exFix l M w p s m args meth c A) : meth.locks = false := F.2.2.2.1
theorem exFix.ml {l M w p s m args meth c A} (F : exFix l M w p s m args meth c A) : c.maxLocals = M.2.2.1 := F.2.2.2.2.1
theorem exFix.own {l M w p s m args meth c A} (F : exFix l M w p s m args meth c A) : s.vm.findClass M.1 = some m.cls := F.2.2.2.2.2.1
theorem exFix.ts {l M w p s m args meth c A} (F : exFix l M w p s m args meth c A) : ∀ q ∈ lw_all, q.before args s = true := F.2.2.2.2.2.2.1
theorem exFix.B {l M w p s m args meth c A} (F : exFix l M w p s m args meth c A) : exB w A s s.heap := F.2.2.2.2.2.2.2.1
theorem exFix.hA {l M w p s m args meth c A} (F : exFix l M w p s m args meth c A) : ∀ q : Nat, s.heap.size ≤ q → A q := F.2.2.2.2.2.2.2.2.1
theorem exFix.nm {l M w p s m args meth c A} (F : exFix l M w p s m args meth c A) : meth.name = M.2.2.2.2.1 := F.2.2.2.2.2.2.2.2.2.1
theorem exFix.tb {l M w p s m args meth c A} (F : exFix l M w p s m args meth c A) : c.exceptionTable.toList = tableOf M.2.2.2.2.2.1 := F.2.2.2.2.2.2.2.2.2.2.1
theorem exFix.sc {l M w p s m args meth c A} (F : exFix l M w p s m args meth c A) : ∀ L xs, M.2.2.2.2.2.2 = some (L, xs) → va_X (w.2.2 64) L xs s s.heap ∧ w.2.2 64 < s.heap.size ∧ ¬ A (w.2.2 64) := F.2.2.2.2.2.2.2.2.2.2.2
-- locals
def exAt : List (Nat × Value) → Nat → Option Value
  | [], _ => none
  | q :: l, i => bif Nat.beq q.1 i then some q.2 else exAt l i
theorem exAt_mem {l : List (Nat × Value)} {i : Nat} {v : Value} (h : exAt l i = some v) : (i, v) ∈ l := by
  induction l with
  | nil => cases h
  | cons q l ih =>
    obtain ⟨j, x⟩ := q
    unfold exAt at h
    cases hb : Nat.beq j i with
    | true =>
      rw [hb] at h
      have e : j = i := Nat.eq_of_beq_eq_true hb
      subst e
      cases h
      exact List.mem_cons_self
    | false =>
      rw [hb] at h
      exact List.mem_cons_of_mem _ (ih h)
theorem exAt_has {w : ExW} {ad : Nat → Nat} {la : Array Slot} {nL : Nat} {ls : List (Nat × Value)} {i : Nat} {v : Value} (hl : lv_has la nL (ls.map (fun q => (q.1, exV w ad q.2)))) (h : exAt ls i = some v) : la[i]? = some (.val (exV w ad v)) :=
  hl.2.2 (i, exV w ad v) (List.mem_map.mpr ⟨(i, v), exAt_mem h, rfl⟩)
def exC2 : Value → Bool
  | .long _ => true
  | .double _ => true
  | _ => false
theorem exV_cat (w : ExW) (ad : Nat → Nat) (v : Value) : (exV w ad v).category = v.category := by cases v <;> rfl
theorem exC2_cat (v : Value) : (v.category == 2) = exC2 v := by cases v <;> rfl
def exDel1 (i : Nat) : List (Nat × Value) → List (Nat × Value)
  | [] => []
  | q :: l => bif (Nat.beq q.1 i || (Nat.beq (q.1 + 1) i && exC2 q.2)) then exDel1 i l else q :: exDel1 i l
def exDel2 (i : Nat) : List (Nat × Value) → List (Nat × Value)
  | [] => []
  | q :: l => bif (Nat.beq q.1 i || (Nat.beq q.1 (i + 1) || (Nat.beq (q.1 + 1) i && exC2 q.2))) then exDel2 i l else q :: exDel2 i l
theorem ex_nb (a b : Nat) : (a == b) = Nat.beq a b := by
  cases h : Nat.beq a b with
  | true => rw [Nat.eq_of_beq_eq_true h]; simp
  | false => have := Nat.ne_of_beq_eq_false h; simp [this]
theorem exDel1_eq (i : Nat) (l : List (Nat × Value)) : exDel1 i l = l.filter (fun q => !(q.1 == i) && !(q.1 + 1 == i && q.2.category == 2)) := by
  induction l with
  | nil => rfl
  | cons q l ih =>
    rw [List.filter_cons, exDel1, ih, exC2_cat, ex_nb, ex_nb]
    cases Nat.beq q.1 i <;> cases Nat.beq (q.1 + 1) i <;> cases exC2 q.2 <;> rfl
theorem exDel2_eq (i : Nat) (l : List (Nat × Value)) : exDel2 i l = l.filter (fun q => !(q.1 == i) && (!(q.1 == i + 1) && !(q.1 + 1 == i && q.2.category == 2))) := by
  induction l with
  | nil => rfl
  | cons q l ih =>
    rw [List.filter_cons, exDel2, ih, exC2_cat, ex_nb, ex_nb, ex_nb]
    cases Nat.beq q.1 i <;> cases Nat.beq q.1 (i + 1) <;> cases Nat.beq (q.1 + 1) i <;> cases exC2 q.2 <;> rfl
theorem exDel1_map (w : ExW) (ad : Nat → Nat) (i : Nat) (l : List (Nat × Value)) : (l.map (fun q => (q.1, exV w ad q.2))).filter (fun q => !(q.1 == i) && !(q.1 + 1 == i && q.2.category == 2)) = (exDel1 i l).map (fun q => (q.1, exV w ad q.2)) := by
  rw [exDel1_eq, List.filter_map]
  congr 1
  apply List.filter_congr
  intro q _
  simp [Function.comp, exV_cat]
theorem exDel2_map (w : ExW) (ad : Nat → Nat) (i : Nat) (l : List (Nat × Value)) : (l.map (fun q => (q.1, exV w ad q.2))).filter (fun q => !(q.1 == i) && (!(q.1 == i + 1) && !(q.1 + 1 == i && q.2.category == 2))) = (exDel2 i l).map (fun q => (q.1, exV w ad q.2)) := by
  rw [exDel2_eq, List.filter_map]
  congr 1
  apply List.filter_congr
  intro q _
  simp [Function.comp, exV_cat]
theorem exDel1_sub {i : Nat} {l : List (Nat × Value)} {q : Nat × Value} (h : q ∈ exDel1 i l) : q ∈ l := by rw [exDel1_eq] at h; exact (List.mem_filter.mp h).1
theorem exDel2_sub {i : Nat} {l : List (Nat × Value)} {q : Nat × Value} (h : q ∈ exDel2 i l) : q ∈ l := by rw [exDel2_eq] at h; exact (List.mem_filter.mp h).1
-- the memory as the kit's list of cells
theorem exWs_at {w : ExW} {ad : Nat → Nat} {sh : ExSh} {I : ExI} {L : ExL} {R : ExR} {i : Nat} {q : Nat × Nat} (h : sh[i]? = some q) : (exWs w ad sh I L R)[i]? = some (ad i, exC w ad q (I i) (L i) (R i)) := by
  rw [exWs, List.getElem?_mapIdx, h]; rfl
theorem exWs_len {w : ExW} {ad : Nat → Nat} {sh : ExSh} {I : ExI} {L : ExL} {R : ExR} : (exWs w ad sh I L R).length = sh.length := by rw [exWs, List.length_mapIdx]
theorem exWs_set {w : ExW} {ad : Nat → Nat} {sh : ExSh} {I I' : ExI} {L L' : ExL} {R R' : ExR} {i : Nat} {q : Nat × Nat} (h : sh[i]? = some q) {e : va_E} (he : e = exC w ad q (I' i) (L' i) (R' i)) (hI : ∀ j, j ≠ i → I' j = I j) (hL : ∀ j, j ≠ i → L' j = L j) (hR : ∀ j, j ≠ i → R' j = R j) : (exWs w ad sh I L R).set i (ad i, e) = exWs w ad sh I' L' R' := by
  apply List.ext_getElem?
  intro j
  rw [List.getElem?_set]
  by_cases hj : i = j
  · subst hj
    rw [if_pos rfl, exWs_at h, exWs_len, if_pos (List.getElem?_eq_some_iff.mp h).1, he]
  · rw [if_neg hj]
    have hn : j ≠ i := fun q => hj q.symm
    rw [exWs, exWs, List.getElem?_mapIdx, List.getElem?_mapIdx, hI j hn, hL j hn, hR j hn]
theorem exWs_push {w : ExW} {ad : Nat → Nat} {sh : ExSh} {I I' : ExI} {L L' : ExL} {R R' : ExR} {a : Nat} {q : Nat × Nat} {e : va_E} (he : e = exC w (va_up ad sh.length a) q (I' sh.length) (L' sh.length) (R' sh.length)) (hI : ∀ j, j < sh.length → I' j = I j) (hL : ∀ j, j < sh.length → L' j = L j) (hR : ∀ j, j < sh.length → R' j = R j) (hk : ∀ i k, exRk sh.length (R i k)) : exWs w ad sh I L R ++ [(a, e)] = exWs w (va_up ad sh.length a) (sh ++ [q]) I' L' R' := by
  apply List.ext_getElem?
  intro j
  by_cases hj : j < sh.length
  · rw [List.getElem?_append_left (by rw [exWs_len]; exact hj), exWs, exWs, List.getElem?_mapIdx, List.getElem?_mapIdx, List.getElem?_append_left hj, hI j hj, hL j hj, hR j hj]
    have hne : j ≠ sh.length := Nat.ne_of_lt hj
    have e1 : ∀ v, exRk sh.length v → exV w (va_up ad sh.length a) v = exV w ad v := by
      intro v hv
      cases v <;> first | rfl | (simp only [exV]; rw [va_up_ne]; exact Nat.ne_of_lt hv)
    have e2 : ∀ v, exRk sh.length v → exO w (va_up ad sh.length a) v = exO w ad v := by
      intro v hv
      cases v <;> first | rfl | (simp only [exO]; rw [va_up_ne]; exact Nat.ne_of_lt hv)
    cases hs : sh[j]? with
    | none => rfl
    | some q0 =>
      simp only [Option.map_some]
      rw [va_up_ne _ _ hne]
      congr 2
      unfold exC exFs
      simp only [e1 _ (hk j _), e2 _ (hk j _)]
  · by_cases hj2 : j = sh.length
    · subst hj2
      rw [List.getElem?_append_right (by rw [exWs_len]; exact Nat.le_refl _), exWs_len, exWs, List.getElem?_mapIdx, List.getElem?_append_right (Nat.le_refl _), Nat.sub_self]
      simp only [List.getElem?_cons_zero, Option.map_some, va_up_self, he]
    · rw [List.getElem?_eq_none (by simp [exWs_len]; omega), List.getElem?_eq_none (by simp [exWs_len]; omega)]
theorem exV_up {w : ExW} {ad : Nat → Nat} {n a : Nat} {v : Value} (h : exOk n v) : exV w (va_up ad n a) v = exV w ad v := by
  cases v <;> first | rfl | (simp only [exV]; rw [va_up_ne]; exact Nat.ne_of_lt h)
theorem exV_ag {w : ExW} {ad ad' : Nat → Nat} {n : Nat} {v : Value} (hk : ∀ i, i < n → ad' i = ad i) (h : exOk n v) : exV w ad' v = exV w ad v := by
  cases v <;> first | rfl | (simp only [exV]; rw [hk _ h])
theorem exMap_ag {w : ExW} {ad ad' : Nat → Nat} {n : Nat} {st : List Value} (hk : ∀ i, i < n → ad' i = ad i) (h : ∀ v ∈ st, exOk n v) : st.map (exV w ad') = st.map (exV w ad) := List.map_congr_left (fun v hv => exV_ag hk (h v hv))
theorem exLs_ag {w : ExW} {ad ad' : Nat → Nat} {n : Nat} {ls : List (Nat × Value)} (hk : ∀ i, i < n → ad' i = ad i) (h : ∀ q ∈ ls, exOk n q.2) : ls.map (fun q => (q.1, exV w ad' q.2)) = ls.map (fun q => (q.1, exV w ad q.2)) := List.map_congr_left (fun q hq => by rw [exV_ag hk (h q hq)])
theorem exOk_mono {n n' : Nat} {v : Value} (h : n ≤ n') (hv : exOk n v) : exOk n' v := by
  cases v <;> first | trivial | exact Nat.lt_of_lt_of_le hv h
theorem exRk_mono {n n' : Nat} {v : Value} (h : n ≤ n') (hv : exRk n v) : exRk n' v := by
  cases v <;> first | trivial | exact hv | exact Nat.lt_of_lt_of_le hv h
theorem exRk_ok {n : Nat} {v : Value} (hv : exRk n v) : exOk n v := by
  cases v <;> first | trivial | exact hv
def exRl : Value → Bool
  | .ref _ => true
  | .float _ => true
  | .null => true
  | _ => false
theorem exRl_rk {n : Nat} {v : Value} (h : exRl v = true) (hv : exOk n v) : exRk n v := by
  cases v <;> first | trivial | exact hv | (cases h)
theorem exRk_rl {n : Nat} {v : Value} (hv : exRk n v) : exRl v = true := by
  cases v <;> first | rfl | exact hv.elim
theorem exO_rf {w : ExW} {ad : Nat → Nat} {n : Nat} {v : Value} (hv : exRk n v) : va_rf (exO w ad v) = exV w ad v := by
  cases v <;> first | rfl | exact hv.elim
theorem exFs_at {w : ExW} {ad : Nat → Nat} {ks : List Nat} {f : Nat → Int32} {g : Nat → Int64} {r : Nat → Value} {k kd : Nat} (h : ks[k]? = some kd) : (exFs w ad ks f g r)[k]? = some (if kd = 0 then .int (f k) else if kd = 1 then .long (g k) else exV w ad (r k)) := by
  rw [exFs, List.getElem?_mapIdx, h]; rfl
theorem exFs_len {w : ExW} {ad : Nat → Nat} {ks : List Nat} {f : Nat → Int32} {g : Nat → Int64} {r : Nat → Value} : (exFs w ad ks f g r).length = ks.length := by rw [exFs, List.length_mapIdx]
theorem exFs_set {w : ExW} {ad : Nat → Nat} {ks : List Nat} {f f' : Nat → Int32} {g g' : Nat → Int64} {r r' : Nat → Value} {k kd : Nat} {v : Value} (h : ks[k]? = some kd) (hv : v = if kd = 0 then .int (f' k) else if kd = 1 then .long (g' k) else exV w ad (r' k)) (hf : ∀ j, j ≠ k → f' j = f j) (hg : ∀ j, j ≠ k → g' j = g j) (hr : ∀ j, j ≠ k → r' j = r j) : (exFs w ad ks f g r).set k v = exFs w ad ks f' g' r' := by
  apply List.ext_getElem?
  intro j
  rw [List.getElem?_set]
  by_cases hj : k = j
  · subst hj
    rw [if_pos rfl, exFs_at h, exFs_len, if_pos (List.getElem?_eq_some_iff.mp h).1, hv]
  · rw [if_neg hj]
    have hn : j ≠ k := fun q => hj q.symm
    rw [exFs, exFs, List.getElem?_mapIdx, List.getElem?_mapIdx, hf j hn, hg j hn, hr j hn]
theorem exC_obj {w : ExW} {ad : Nat → Nat} {ci N : Nat} {f : Nat → Int32} {g : Nat → Int64} {r : Nat → Value} : exC w ad (ci + 8, N) f g r = .inr (ci, exFs w ad (exKinds.getD ci []) f g r) := by
  unfold exC
  rw [if_neg (by show ¬ ci + 8 < 3; omega), if_neg (by show ¬ ci + 8 = 3; omega), if_neg (by show ¬ ci + 8 < 8; omega), show (ci + 8, N).1 - 8 = ci by show ci + 8 - 8 = ci; omega]
theorem exC_int {w : ExW} {ad : Nat → Nat} {t N : Nat} (ht : t < 3) {f : Nat → Int32} {g : Nat → Int64} {r : Nat → Value} : exC w ad (t, N) f g r = .inl (w.2.1 t, N, .inl f) := by
  unfold exC
  rw [if_pos ht]
theorem exC_long {w : ExW} {ad : Nat → Nat} {N : Nat} {f : Nat → Int32} {g : Nat → Int64} {r : Nat → Value} : exC w ad (3, N) f g r = .inl (w.2.1 3, N, .inr (.inl g)) := rfl
theorem exC_ref {w : ExW} {ad : Nat → Nat} {t N : Nat} (h1 : 4 ≤ t) (h2 : t < 8) {f : Nat → Int32} {g : Nat → Int64} {r : Nat → Value} : exC w ad (t, N) f g r = .inl (w.2.1 t, N, .inr (.inr (.inr (.inr (fun k => exO w ad (r k)))))) := by
  unfold exC
  rw [if_neg (by show ¬ t < 3; omega), if_neg (by show ¬ t = 3; omega), if_pos h2]
