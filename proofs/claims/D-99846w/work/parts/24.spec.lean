set_option maxRecDepth 100000
/-! ===== Int32 by its bits: bt x i ===== -/
def bt (x : Int32) (i : Nat) : Bool := x.toBitVec.getLsbD i
theorem b_ext {x y : Int32} (h : ∀ i, i < 32 → bt x i = bt y i) : x = y := Int32.toBitVec_inj.mp (BitVec.eq_of_getLsbD_eq (fun i hi => h i hi))
theorem b_or (x y : Int32) (i : Nat) : bt (x ||| y) i = (bt x i || bt y i) := by unfold bt; rw [Int32.toBitVec_or, BitVec.getLsbD_or]
theorem b_and (x y : Int32) (i : Nat) : bt (x &&& y) i = (bt x i && bt y i) := by unfold bt; rw [Int32.toBitVec_and, BitVec.getLsbD_and]
theorem b_xor (x y : Int32) (i : Nat) : bt (x ^^^ y) i = (bt x i ^^ bt y i) := by unfold bt; rw [Int32.toBitVec_xor, BitVec.getLsbD_xor]
theorem b_big {x : Int32} {i : Nat} (h : 32 ≤ i) : bt x i = false := BitVec.getLsbD_of_ge _ _ h
theorem b_255 (i : Nat) : bt 255 i = decide (i < 8) := by
  rcases Nat.lt_or_ge i 32 with h | h
  · exact (by decide +kernel : ∀ i, i < 32 → bt 255 i = decide (i < 8)) i h
  · rw [b_big h, decide_eq_false (by omega)]
theorem b_65535 (i : Nat) : bt 65535 i = decide (i < 16) := by
  rcases Nat.lt_or_ge i 32 with h | h
  · exact (by decide +kernel : ∀ i, i < 32 → bt 65535 i = decide (i < 16)) i h
  · rw [b_big h, decide_eq_false (by omega)]
theorem b_m1 : ∀ i, i < 32 → bt (-1) i = true := by decide +kernel
theorem b_0 (i : Nat) : bt 0 i = false := BitVec.getLsbD_zero
theorem s_l : ∀ n, n < 32 → ((nI n &&& 31).toBitVec.smod 32).toNat = n := by decide +kernel
theorem s_u : ∀ n, n < 32 → (((nI n).toUInt32 &&& Int32.toUInt32 31).toBitVec % 32).toNat = n := by decide +kernel
theorem b_shl (n : Nat) (hn : n < 32) (x : Int32) {i : Nat} (hi : i < 32) : bt (x <<< (nI n &&& 31)) i = (decide (n ≤ i) && bt x (i - n)) := by
  unfold bt
  rw [Int32.toBitVec_shiftLeft]
  show (x.toBitVec <<< ((nI n &&& 31).toBitVec.smod 32).toNat).getLsbD i = _
  rw [s_l n hn, BitVec.getLsbD_shiftLeft]
  rcases Nat.lt_or_ge i n with h | h
  · simp [h, Nat.not_le.mpr h]
  · simp [hi, h, Nat.not_lt.mpr h]
theorem b_ushr (n : Nat) (hn : n < 32) (x : Int32) (i : Nat) : bt ((x.toUInt32 >>> ((nI n).toUInt32 &&& Int32.toUInt32 31)).toInt32) i = bt x (n + i) := by
  show (x.toUInt32 >>> ((nI n).toUInt32 &&& Int32.toUInt32 31)).toBitVec.getLsbD i = x.toUInt32.toBitVec.getLsbD (n + i)
  rw [UInt32.toBitVec_shiftRight]
  show (x.toUInt32.toBitVec >>> (((nI n).toUInt32 &&& Int32.toUInt32 31).toBitVec % 32).toNat).getLsbD i = _
  rw [s_u n hn, BitVec.getLsbD_ushiftRight]
theorem b_sshr (n : Nat) (hn : n < 32) (x : Int32) {i : Nat} (hi : i < 32) : bt (x >>> (nI n &&& 31)) i = if n + i < 32 then bt x (n + i) else bt x 31 := by
  unfold bt
  rw [Int32.toBitVec_shiftRight]
  show (x.toBitVec.sshiftRight ((nI n &&& 31).toBitVec.smod 32).toNat).getLsbD i = _
  rw [s_l n hn, BitVec.getLsbD_sshiftRight, BitVec.msb_eq_getLsbD_last]
  simp [hi]
/-! PURE: what the hall's numbers come to, on its rows. A Dinner D: D 0 its fields, D 1 toldCane, D 2 height, D 3 strand, D 4 chair, D 5 weight, D 6 notes, D 7 status, D 8 cane, D 9 undo, D 11 plan. -/
abbrev hasX (set x : Int32) : Prop := (set >>> (x &&& 31)) &&& 1 = 1
abbrev bitX (k : Nat) : Int32 := 1 <<< (nI k &&& 31)
/-- the rows of a Dinner at b -/
abbrev dn (I : ExI) (b : Nat) : Nat → Nat → Int32 := fun j => I (b + j)
def onesN (st : Nat → Int32) (what : Int32) : Nat → Int32
  | 0 => 0
  | k + 1 => onesN st what k ||| (if st k = what then bitX k else 0)
def sitOfN (ch : Nat → Int32) (c : Int32) (N : Nat) : Nat → Int32
  | 0 => -1
  | j + 1 => if ch (N - (j + 1)) = c then nI (N - (j + 1)) else sitOfN ch c N j
def strOf (D : Nat → Nat → Int32) (k : Nat) : Int32 := D 3 (ix (D 4 k))
def pressN (D : Nat → Nat → Int32) (s set : Int32) : Nat → Int32
  | 0 => 0
  | k + 1 => pressN D s set k + (if hasX set (nI k) ∧ strOf D k = s then D 5 k else 0)
def give (D : Nat → Nat → Int32) (N : Nat) (k : Nat) (set : Int32) : Int32 :=
  if hasX set (nI k) then D 8 (ix (strOf D k)) * D 5 k / pressN D (strOf D k) set N else 0
def giveNow (D : Nat → Nat → Int32) (N : Nat) (k : Nat) : Int32 := give D N k (onesN (D 7) 1 N)
def givesN (D : Nat → Nat → Int32) (N : Nat) : Nat → Int32
  | 0 => 0
  | k + 1 => givesN D N k + giveNow D N k
def dropsN (D : Nat → Nat → Int32) (N : Nat) (set : Int32) : Nat → Int32
  | 0 => 0
  | k + 1 => dropsN D N set k ||| (if hasX set (nI k) ∧ D 2 (ix (D 4 k)) ≤ give D N k set then bitX k else 0)
def drops (D : Nat → Nat → Int32) (N : Nat) (set : Int32) : Int32 := dropsN D N set N
/-- who is of a set becomes dropped -/
def fallN (drop : Int32) (st : Nat → Int32) : Nat → Nat → Int32
  | 0 => st
  | k + 1 => if hasX drop (nI k) then va_up (fallN drop st k) k 2 else fallN drop st k
/-- what is asked of D in every call -/
def okD (D : Nat → Nat → Int32) (N : Nat) : Prop := D 0 2 = nI N ∧ N ≤ 8 ∧ (∀ k, k < 8 → vp_in (D 4 k) 8) ∧ (∀ c, c < 8 → vp_in (D 3 c) 4) ∧ ∀ k, k < N → ∃ w : Nat, 1 ≤ w ∧ w ≤ 20 ∧ D 5 k = nI w
theorem vp_in_lt {x : Int32} {n : Nat} (h : vp_in x n) : ix x < n := Nat.not_le.mp (fun q => h (Or.inr q))
theorem press_nI {D : Nat → Nat → Int32} {s set : Int32} {N : Nat} (hw : ∀ k, k < N → ∃ w : Nat, 1 ≤ w ∧ w ≤ 20 ∧ D 5 k = nI w) : ∀ k, k ≤ N → ∃ W : Nat, W ≤ 20 * k ∧ pressN D s set k = nI W ∧ ∀ j, j < k → (hasX set (nI j) ∧ strOf D j = s) → 1 ≤ W := by
  intro k
  induction k with
  | zero => intro _; exact ⟨0, by omega, rfl, fun j h => absurd h (by omega)⟩
  | succ k ih =>
    intro hk
    obtain ⟨W, h1, h2, h3⟩ := ih (by omega)
    obtain ⟨w, g1, g2, g3⟩ := hw k (by omega)
    unfold pressN
    by_cases c : hasX set (nI k) ∧ strOf D k = s
    · rw [if_pos c, h2, g3, nI_add]
      exact ⟨W + w, by omega, rfl, fun j _ _ => by omega⟩
    · rw [if_neg c, h2]
      refine ⟨W, by omega, by simp, fun j hj hc => ?_⟩
      by_cases e : j = k
      · subst e; exact absurd hc c
      · exact h3 j (by omega) hc
theorem press_ne {D : Nat → Nat → Int32} {N k : Nat} {set : Int32} (hN : N ≤ 8) (hw : ∀ k, k < N → ∃ w : Nat, 1 ≤ w ∧ w ≤ 20 ∧ D 5 k = nI w) (hk : k < N) (h : hasX set (nI k)) : ¬ pressN D (strOf D k) set N = 0 := by
  obtain ⟨W, h1, h2, h3⟩ := press_nI (D := D) (s := strOf D k) (set := set) hw N (Nat.le_refl _)
  rw [h2]
  exact nI_ne0 (by have := h3 k hk ⟨h, rfl⟩; omega) (by omega)
theorem bt_1 : ∀ i, i < 32 → bt 1 i = decide (i = 0) := by decide +kernel
theorem and1_bt (x : Int32) : x &&& 1 = 1 ↔ bt x 0 = true := by
  constructor
  · intro h
    have := b_and x 1 0
    rw [h] at this
    rw [bt_1 0 (by omega)] at this
    simpa using this.symm
  · intro h
    refine b_ext (fun i hi => ?_)
    rw [b_and, bt_1 i hi]
    by_cases e : i = 0
    · subst e; simp [h]
    · simp [e]
theorem hasX_bt {set : Int32} {k : Nat} (hk : k < 32) : hasX set (nI k) ↔ bt set k = true := by
  rw [hasX, and1_bt, b_sshr k hk set (by omega), if_pos (by omega)]
  simp
theorem bt_bitX {k i : Nat} (hk : k < 32) (hi : i < 32) : bt (bitX k) i = decide (i = k) := by
  rw [bitX, b_shl k hk 1 hi, bt_1 _ (by omega)]
  by_cases e : i = k
  · subst e; simp
  · by_cases h : k ≤ i
    · simp [e, h]; omega
    · simp [e, h]
theorem bt_or_if {x : Int32} {p : Prop} [Decidable p] {k i : Nat} (hk : k < 32) (hi : i < 32) : bt (x ||| (if p then bitX k else 0)) i = (bt x i || decide (i = k ∧ p)) := by
  rw [b_or]
  by_cases h : p
  · rw [if_pos h, bt_bitX hk hi]; simp [h]
  · rw [if_neg h, b_0]; simp [h]
theorem bt_ones {st : Nat → Int32} {what : Int32} {i : Nat} (hi : i < 32) : ∀ n, n ≤ 32 → bt (onesN st what n) i = decide (i < n ∧ st i = what) := by
  intro n
  induction n with
  | zero => intro _; rw [onesN, b_0]; simp
  | succ n ih =>
    intro hn
    rw [onesN, bt_or_if (by omega) hi, ih (by omega), Bool.eq_iff_iff]
    simp only [Bool.or_eq_true, decide_eq_true_eq]
    constructor
    · rintro (⟨h1, h2⟩ | ⟨h1, h2⟩)
      · exact ⟨by omega, h2⟩
      · subst h1; exact ⟨by omega, h2⟩
    · rintro ⟨h1, h2⟩
      by_cases e : i = n
      · subst e; exact Or.inr ⟨rfl, h2⟩
      · exact Or.inl ⟨by omega, h2⟩
theorem bt_drops {D : Nat → Nat → Int32} {N : Nat} {set : Int32} {i : Nat} (hi : i < 32) : ∀ n, n ≤ 32 → bt (dropsN D N set n) i = decide (i < n ∧ hasX set (nI i) ∧ D 2 (ix (D 4 i)) ≤ give D N i set) := by
  intro n
  induction n with
  | zero => intro _; rw [dropsN, b_0]; simp
  | succ n ih =>
    intro hn
    rw [dropsN, bt_or_if (by omega) hi, ih (by omega), Bool.eq_iff_iff]
    simp only [Bool.or_eq_true, decide_eq_true_eq]
    constructor
    · rintro (⟨h1, h2⟩ | ⟨h1, h2⟩)
      · exact ⟨by omega, h2⟩
      · subst h1; exact ⟨by omega, h2⟩
    · rintro ⟨h1, h2⟩
      by_cases e : i = n
      · subst e; exact Or.inr ⟨rfl, h2⟩
      · exact Or.inl ⟨by omega, h2⟩
theorem bt_ne0 {x : Int32} (h : ¬ x = 0) : ∃ i, i < 32 ∧ bt x i = true := by
  false_or_by_contra
  rename_i hn
  refine h (b_ext (fun i hi => ?_))
  rw [b_0]
  cases hb : bt x i with
  | false => rfl
  | true => exact absurd ⟨i, hi, hb⟩ hn
theorem fallN_at {drop : Int32} {st : Nat → Int32} {k : Nat} : ∀ n, fallN drop st n k = if k < n ∧ hasX drop (nI k) then 2 else st k := by
  intro n
  induction n with
  | zero => rw [fallN, if_neg (fun h => absurd h.1 (by omega))]
  | succ n ih =>
    rw [fallN]
    by_cases c : hasX drop (nI n)
    · rw [if_pos c]
      by_cases e : k = n
      · subst e; rw [va_up_self, if_pos ⟨by omega, c⟩]
      · rw [va_up_ne _ _ e, ih]
        by_cases q : k < n ∧ hasX drop (nI k)
        · rw [if_pos q, if_pos ⟨by omega, q.2⟩]
        · rw [if_neg q, if_neg (fun z => q ⟨by omega, z.2⟩)]
    · rw [if_neg c, ih]
      by_cases q : k < n ∧ hasX drop (nI k)
      · rw [if_pos q, if_pos ⟨by omega, q.2⟩]
      · rw [if_neg q, if_neg]
        rintro ⟨h1, h2⟩
        by_cases e : k = n
        · subst e; exact c h2
        · exact q ⟨by omega, h2⟩
/-- how many sit -/
def cntN (st : Nat → Int32) : Nat → Nat
  | 0 => 0
  | k + 1 => cntN st k + (if st k = 1 then 1 else 0)
theorem cntN_le (st : Nat → Int32) : ∀ n, cntN st n ≤ n := by
  intro n
  induction n with
  | zero => exact Nat.le_refl _
  | succ n ih => rw [cntN]; split <;> omega
theorem cntN_mono {st st' : Nat → Int32} (h : ∀ k, st' k = 1 → st k = 1) : ∀ n, cntN st' n ≤ cntN st n := by
  intro n
  induction n with
  | zero => exact Nat.le_refl _
  | succ n ih =>
    rw [cntN, cntN]
    by_cases c : st' n = 1
    · rw [if_pos c, if_pos (h n c)]; omega
    · rw [if_neg c]; omega
theorem cntN_lt {st st' : Nat → Int32} (h : ∀ k, st' k = 1 → st k = 1) {j : Nat} (hj : st j = 1) (hj' : ¬ st' j = 1) : ∀ n, j < n → cntN st' n < cntN st n := by
  intro n
  induction n with
  | zero => intro hn; omega
  | succ n ih =>
    intro hn
    rw [cntN, cntN]
    by_cases e : j = n
    · subst e
      rw [if_pos hj, if_neg hj']
      have := cntN_mono h j
      omega
    · have := ih (by omega)
      by_cases c : st' n = 1
      · rw [if_pos c, if_pos (h n c)]; omega
      · rw [if_neg c]; omega
/-- who falls at once, as all are in st -/
def dropSt (D : Nat → Nat → Int32) (N : Nat) (st : Nat → Int32) : Int32 := drops (va_up D 7 st) N (onesN st 1 N)
theorem drop_cnt {D : Nat → Nat → Int32} {N : Nat} {st : Nat → Int32} (hN : N ≤ 8) (h : ¬ dropSt D N st = 0) : cntN (fallN (dropSt D N st) st N) N < cntN st N := by
  obtain ⟨i, hi, hb⟩ := bt_ne0 h
  have hb2 := hb
  rw [dropSt, drops, bt_drops hi N (by omega)] at hb2
  simp only [decide_eq_true_eq] at hb2
  obtain ⟨h1, h2, -⟩ := hb2
  have h3 := (hasX_bt hi).mp h2
  rw [bt_ones hi N (by omega)] at h3
  simp only [decide_eq_true_eq] at h3
  refine cntN_lt (fun k hk => ?_) h3.2 ?_ N h1
  · rw [fallN_at] at hk
    by_cases q : k < N ∧ hasX (dropSt D N st) (nI k)
    · rw [if_pos q] at hk; exact absurd hk (by decide)
    · rw [if_neg q] at hk; exact hk
  · rw [fallN_at, if_pos ⟨h1, (hasX_bt hi).mpr hb⟩]; decide
/-- it settles, by at most so many rounds: all that fell, how all are then -/
def settleN (D : Nat → Nat → Int32) (N : Nat) : Nat → (Nat → Int32) → Int32 → Int32 × (Nat → Int32)
  | 0, st, all => (all, st)
  | f + 1, st, all => if dropSt D N st = 0 then (all, st) else settleN D N f (fallN (dropSt D N st) st N) (all ||| dropSt D N st)
/-- it settles -/
def settle (D : Nat → Nat → Int32) (N : Nat) : Int32 × (Nat → Int32) := settleN D N 9 (D 7) 0
theorem dn_up (I : ExI) (b j : Nat) (f : Nat → Int32) : dn (va_up I (b + j) f) b = va_up (dn I b) j f := by
  funext a
  show va_up I (b + j) f (b + a) = _
  by_cases h : a = j
  · subst h; rw [va_up_self, va_up_self]
  · rw [va_up_ne _ _ (by omega), va_up_ne _ _ h]
theorem okD_up {D : Nat → Nat → Int32} {N j : Nat} {f : Nat → Int32} (h : okD D N) (h0 : j ≠ 0) (h3 : j ≠ 3) (h4 : j ≠ 4) (h5 : j ≠ 5) : okD (va_up D j f) N := by
  obtain ⟨a1, a2, a3, a4, a5⟩ := h
  refine ⟨?_, a2, ?_, ?_, ?_⟩
  · rw [va_up_ne _ _ (Ne.symm h0)]; exact a1
  · rw [va_up_ne _ _ (Ne.symm h4)]; exact a3
  · rw [va_up_ne _ _ (Ne.symm h3)]; exact a4
  · rw [va_up_ne _ _ (Ne.symm h5)]; exact a5
theorem dn_up0 (I : ExI) (b : Nat) (f : Nat → Int32) : dn (va_up I b f) b = va_up (dn I b) 0 f := dn_up I b 0 f
theorem dn_out {I : ExI} {a b : Nat} {f : Nat → Int32} (h : a < b) : dn (va_up I a f) b = dn I b := by
  funext j
  show va_up I a f (b + j) = _
  rw [va_up_ne _ _ (by omega)]
theorem give_st {D : Nat → Nat → Int32} {N k : Nat} {set : Int32} {f : Nat → Int32} : give (va_up D 7 f) N k set = give D N k set := by
  have hp : ∀ s n, pressN (va_up D 7 f) s set n = pressN D s set n := by
    intro s n
    induction n with
    | zero => rfl
    | succ n ih => unfold pressN; rw [ih]; rfl
  unfold give
  rw [show strOf (va_up D 7 f) k = strOf D k from rfl, hp]
  rfl
/-- the first n places hold v -/
def fillN (v : Int32) (f : Nat → Int32) : Nat → Nat → Int32
  | 0 => f
  | k + 1 => va_up (fillN v f k) k v
theorem fillN_at {v : Int32} {f : Nat → Int32} {j : Nat} : ∀ n, fillN v f n j = if j < n then v else f j := by
  intro n
  induction n with
  | zero => rw [fillN, if_neg (by omega)]
  | succ n ih =>
    rw [fillN]
    by_cases e : j = n
    · subst e; rw [va_up_self, if_pos (by omega)]
    · rw [va_up_ne _ _ e, ih]
      by_cases h : j < n
      · rw [if_pos h, if_pos (by omega)]
      · rw [if_neg h, if_neg (by omega)]
theorem dropSt_self {D : Nat → Nat → Int32} {N : Nat} : drops D N (onesN (D 7) 1 N) = dropSt D N (D 7) := by
  unfold dropSt; rw [va_up_id]
theorem dropSt_at {D : Nat → Nat → Int32} {N : Nat} {f : Nat → Int32} : drops (va_up D 7 f) N (onesN (va_up D 7 f 7) 1 N) = dropSt D N f := by
  unfold dropSt; rw [va_up_self]
/-- a row of the past, laid -/
def laysR (u : Nat → Int32) (k : Nat) (now : Int32) (st cane : Nat → Int32) : Nat → Int32 := va_cpy cane (va_cpy st (va_up u (13 * k) now) 0 (13 * k + 1) 8) 0 (13 * k + 9) 4
