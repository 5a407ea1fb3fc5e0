set_option maxRecDepth 100000
abbrev ix (x : Int32) : Nat := x.toNatClampNeg
section EXM
variable {l : Launch} {M : ExM} {d : Nat} {K : ExK} {pc : Nat} {ls ls' : List (Nat × Value)} {st : List Value} {sh sh' : ExSh} {I I' : ExI} {L L' : ExL} {R R' : ExR} {k n : Nat}
theorem e_nmI {x : Int32} (kk : ∀ y : Int32, y = x → Ex l M d K pc ls (.int y :: st) sh I L R k n) : Ex l M d K pc ls (.int x :: st) sh I L R k n := kk x rfl
theorem e_nmL {x : Int64} (kk : ∀ y : Int64, y = x → Ex l M d K pc ls (.long y :: st) sh I L R k n) : Ex l M d K pc ls (.long x :: st) sh I L R k n := kk x rfl
theorem e_getIv {i ci N q ix : Nat} {v : Int32} (hd : decode M.2.1 pc = .ok (.getfield ix, 3)) (hs0 : sh[i]? = some (ci + 8, N)) (hG : exG M.1 ix ci q) (hkd : (exKinds.getD ci [])[q]? = some 0) (hv : I i q = v) (kk : Ex l M d K (pc + 3) ls (.int v :: st) sh I L R k n) : Ex l M d K pc ls (.ref i :: st) sh I L R k n := by subst hv; exact e_getI hd hs0 hG hkd kk
theorem e_ialdv {i N j : Nat} {x v : Int32} (hd : decode M.2.1 pc = .ok (.iaload, 1)) (hs0 : sh[i]? = some (0, N)) (hin : vp_in x N) (hj : x.toNatClampNeg = j) (hv : I i j = v) (kk : Ex l M d K (pc + 1) ls (.int v :: st) sh I L R k n) : Ex l M d K pc ls (.int x :: .ref i :: st) sh I L R k n := by subst hj; subst hv; exact e_iald hd hs0 hin kk
theorem e_baldv {i N j : Nat} {x v : Int32} (hd : decode M.2.1 pc = .ok (.baload, 1)) (hs0 : sh[i]? = some (1, N)) (hin : vp_in x N) (hj : x.toNatClampNeg = j) (hv : I i j = v) (kk : Ex l M d K (pc + 1) ls (.int v :: st) sh I L R k n) : Ex l M d K pc ls (.int x :: .ref i :: st) sh I L R k n := by subst hj; subst hv; exact e_bald hd hs0 hin kk
theorem e_zaldv {i N j : Nat} {x v : Int32} (hd : decode M.2.1 pc = .ok (.baload, 1)) (hs0 : sh[i]? = some (2, N)) (hin : vp_in x N) (hj : x.toNatClampNeg = j) (hv : I i j = v) (kk : Ex l M d K (pc + 1) ls (.int v :: st) sh I L R k n) : Ex l M d K pc ls (.int x :: .ref i :: st) sh I L R k n := by subst hj; subst hv; exact e_zald hd hs0 hin kk
theorem e_laldv {i N j : Nat} {x : Int32} {v : Int64} (hd : decode M.2.1 pc = .ok (.laload, 1)) (hs0 : sh[i]? = some (3, N)) (hin : vp_in x N) (hj : x.toNatClampNeg = j) (hv : L i j = v) (kk : Ex l M d K (pc + 1) ls (.long v :: st) sh I L R k n) : Ex l M d K pc ls (.int x :: .ref i :: st) sh I L R k n := by subst hj; subst hv; exact e_lald hd hs0 hin kk
theorem e_aaldv {i t N j : Nat} {x : Int32} {v : Value} (hd : decode M.2.1 pc = .ok (.aaload, 1)) (hs0 : sh[i]? = some (t, N)) (h1 : 4 ≤ t) (h2 : t < 8) (hin : vp_in x N) (hj : x.toNatClampNeg = j) (hv : R i j = v) (kk : Ex l M d K (pc + 1) ls (v :: st) sh I L R k n) : Ex l M d K pc ls (.int x :: .ref i :: st) sh I L R k n := by subst hj; exact e_aald hd hs0 h1 h2 hin hv kk
theorem e_iastv {i N j : Nat} {x y : Int32} (hd : decode M.2.1 pc = .ok (.iastore, 1)) (hs0 : sh[i]? = some (0, N)) (hin : vp_in x N) (hj : x.toNatClampNeg = j) (kk : Ex l M d K (pc + 1) ls st sh (exU I i j y) L R k n) : Ex l M d K pc ls (.int y :: .int x :: .ref i :: st) sh I L R k n := by subst hj; exact e_iast hd hs0 hin kk
theorem e_bastv {i N j : Nat} {x y z : Int32} (hd : decode M.2.1 pc = .ok (.bastore, 1)) (hs0 : sh[i]? = some (1, N)) (hin : vp_in x N) (hj : x.toNatClampNeg = j) (hz : vp_nar .byte y = z) (kk : Ex l M d K (pc + 1) ls st sh (exU I i j z) L R k n) : Ex l M d K pc ls (.int y :: .int x :: .ref i :: st) sh I L R k n := by subst hj; exact e_bast hd hs0 hin hz kk
theorem e_zastv {i N j : Nat} {x y z : Int32} (hd : decode M.2.1 pc = .ok (.bastore, 1)) (hs0 : sh[i]? = some (2, N)) (hin : vp_in x N) (hj : x.toNatClampNeg = j) (hz : vp_nar .boolean y = z) (kk : Ex l M d K (pc + 1) ls st sh (exU I i j z) L R k n) : Ex l M d K pc ls (.int y :: .int x :: .ref i :: st) sh I L R k n := by subst hj; exact e_zast hd hs0 hin hz kk
theorem e_lastv {i N j : Nat} {x : Int32} {y : Int64} (hd : decode M.2.1 pc = .ok (.lastore, 1)) (hs0 : sh[i]? = some (3, N)) (hin : vp_in x N) (hj : x.toNatClampNeg = j) (kk : Ex l M d K (pc + 1) ls st sh I (exU L i j y) R k n) : Ex l M d K pc ls (.long y :: .int x :: .ref i :: st) sh I L R k n := by subst hj; exact e_last hd hs0 hin kk
theorem e_copyv {i j N N' ix jx jy jz : Nat} {x y z : Int32} (hd : decode M.2.1 pc = .ok (.invokestatic ix, 3)) (hq : Cond.methodLink M.1 ix arraycopyName ∈ lw_all) (hs0 : sh[i]? = some (0, N)) (hs1 : sh[j]? = some (0, N')) (hb : (x = nI jx ∧ y = nI jy ∧ z = nI jz) ∧ jx + jz ≤ N ∧ jy + jz ≤ N' ∧ N < 100000 ∧ N' < 100000) (hd1 : 1 ≤ d) (hw8 : (st.map Value.category).sum ≤ 8)
    (kk : Ex l M d K (pc + 3) ls st sh (va_up I j (va_cpy (I i) (I j) jx jy jz)) L R k n) : Ex l M d K pc ls (.int z :: .int y :: .ref j :: .int x :: .ref i :: st) sh I L R k n := by
  obtain ⟨⟨rfl, rfl, rfl⟩, h1, h2, h3, h4⟩ := hb
  refine e_copy hd hq hs0 hs1 (nI_pos (by omega)) (nI_pos (by omega)) (nI_pos (by omega)) ?_ ?_ hd1 hw8 ?_
  · rw [nI_clamp (by omega), nI_clamp (by omega)]; exact h1
  · rw [nI_clamp (by omega), nI_clamp (by omega)]; exact h2
  · rw [nI_clamp (by omega), nI_clamp (by omega), nI_clamp (by omega)]; exact kk
/-- a post that names all: the outcome, the memory -/
def kEq (o : ExO) (sh : ExSh) (I : ExI) (L : ExL) (R : ExR) : ExK := fun o' sh' I' L' R' => o' = o ∧ sh' = sh ∧ I' = I ∧ L' = L ∧ R' = R
theorem kEq_rf {o : ExO} : kEq o sh I L R o sh I L R := ⟨rfl, rfl, rfl, rfl, rfl⟩
theorem kEq_of {o o' : ExO} (h1 : o' = o) (h2 : I' = I) : kEq o sh I L R o' sh I' L R := ⟨h1, rfl, h2, rfl, rfl⟩
theorem kEq_go {P : Option Value → ExSh → ExI → ExL → ExR → Prop} {v : Option Value} (h : P v sh I L R) : ∀ v' sh' I' L' R', kEq (some v) sh I L R (some v') sh' I' L' R' → P v' sh' I' L' R' := by
  intro v' sh' I' L' R' ⟨h1, h2, h3, h4, h5⟩
  cases h1; subst h2; subst h3; subst h4; subst h5
  exact h
theorem kEq_x {v : Option Value} : ∀ sh' I' L' R', ¬ kEq (some v) sh I L R none sh' I' L' R' := fun _ _ _ _ h => nomatch h.1
/-- calls of methods whose post names all -/
theorem e_callVe {ix i ci N nA mL d' mc' ms' k2 n2 : Nat} {y : MethodName} {bytes : ByteArray} {ret : Option FieldType} {As stk : List Value} {v : Option Value} (hd : decode M.2.1 pc = .ok (.invokevirtual ix, 3)) (hw : exCV M.1 ix ci y bytes mL ret nA) (hs0 : sh[i]? = some (ci + 8, N)) (hA : As.length = nA) (hst : As.reverse ++ .ref i :: st = stk) (hw8 : (st.map Value.category).sum ≤ 8) (hdd : d' + 1 ≤ d) (hC : Ct l (ws_ y bytes mL ret) y d' mc' ms' (.ref i :: As) sh I L R (kEq (some v) sh' I' L' R'))
    (kk : Ex l M d K (pc + 3) ls (v.toList ++ st) sh' I' L' R' k2 n2) : Ex l M d K pc ls stk sh I L R (k2 + mc') (n2 + ms') :=
  e_callV hd hw hs0 hA hst hw8 hdd hC (kEq_go (P := fun v a b c e => Ex l M d K (pc + 3) ls (v.toList ++ st) a b c e k2 n2) kk) (Or.inr kEq_x)
theorem e_callSe {ix nA mL d' mc' ms' k2 n2 : Nat} {y : MethodName} {bytes : ByteArray} {ret : Option FieldType} {As stk : List Value} {v : Option Value} (hd : decode M.2.1 pc = .ok (.invokestatic ix, 3)) (hw : exCS M.1 ix y bytes mL ret nA) (hA : As.length = nA) (hst : As.reverse ++ st = stk) (hw8 : (st.map Value.category).sum ≤ 8) (hdd : d' + 1 ≤ d) (hC : Ct l (ws_ y bytes mL ret) y d' mc' ms' As sh I L R (kEq (some v) sh' I' L' R'))
    (kk : Ex l M d K (pc + 3) ls (v.toList ++ st) sh' I' L' R' k2 n2) : Ex l M d K pc ls stk sh I L R (k2 + mc') (n2 + ms') :=
  e_callS hd hw hA hst hw8 hdd hC (kEq_go (P := fun v a b c e => Ex l M d K (pc + 3) ls (v.toList ++ st) a b c e k2 n2) kk) (Or.inr kEq_x)
theorem e_callIe {ix i nA mL d' mc' ms' k2 n2 : Nat} {y : MethodName} {bytes : ByteArray} {As stk : List Value} {v : Option Value} (hd : decode M.2.1 pc = .ok (.invokespecial ix, 3)) (hw : exCI M.1 ix y bytes mL nA) (hA : As.length = nA) (hst : As.reverse ++ .ref i :: st = stk) (hw8 : (st.map Value.category).sum ≤ 8) (hdd : d' + 1 ≤ d) (hC : Ct l (ws_ y bytes mL none) y d' mc' ms' (.ref i :: As) sh I L R (kEq (some v) sh' I' L' R'))
    (kk : Ex l M d K (pc + 3) ls (v.toList ++ st) sh' I' L' R' k2 n2) : Ex l M d K pc ls stk sh I L R (k2 + mc') (n2 + ms') :=
  e_callI hd hw hA hst hw8 hdd hC (kEq_go (P := fun v a b c e => Ex l M d K (pc + 3) ls (v.toList ++ st) a b c e k2 n2) kk) (Or.inr kEq_x)
/-- a truth as the machine has it -/
def bI (p : Prop) [Decidable p] : Int32 := if p then 1 else 0
theorem bI_t {p : Prop} [Decidable p] (h : p) : bI p = 1 := if_pos h
theorem bI_f {p : Prop} [Decidable p] (h : ¬ p) : bI p = 0 := if_neg h
theorem bI_0 {p : Prop} [Decidable p] : bI p = 0 ↔ ¬ p := by
  by_cases h : p
  · rw [bI_t h]; exact ⟨fun z => absurd z (by decide), fun z => absurd h z⟩
  · rw [bI_f h]; exact ⟨fun _ => h, fun _ => rfl⟩
theorem bI_n {p : Prop} [Decidable p] : ¬ bI p = 0 ↔ p := by rw [bI_0, Decidable.not_not]
theorem bI_z {p : Prop} [Decidable p] : narrow .boolean (.int (bI p)) = .int (bI p) := by
  by_cases h : p
  · rw [bI_t h]; rfl
  · rw [bI_f h]; rfl
/-- a loop that counts up: 'P k' for its state at k -/
theorem ex_up {P : Nat → Prop} (N : Nat) (hs : ∀ k, k ≤ N → (k < N → P (k + 1)) → P k) : ∀ k, k ≤ N → P k := by
  have h : ∀ j k, N - k = j → k ≤ N → P k := by
    intro j
    induction j with
    | zero => intro k h1 h2; exact hs k h2 (fun h => absurd h (by omega))
    | succ j ih => intro k h1 h2; exact hs k h2 (fun h => ih (k + 1) (by omega) (by omega))
  exact fun k hk => h _ k rfl hk
theorem ex_n31 {N : Nat} (h : N ≤ 100000) : N < 2 ^ 31 := by omega
theorem ex_ge {y : Int32} {N k : Nat} (hy : y = nI N) (h1 : N ≤ 100000) (h2 : k ≤ 100000) : y ≤ nI k ↔ N ≤ k := by rw [hy]; exact nI_leI (by omega) (by omega)
theorem ex_in {N k n : Nat} (h : k < N) (hN : N ≤ n) (hn : n ≤ 100000) : vp_in (nI k) n := vp_in_nI (by omega) (by omega)
end EXM
section EXM2
variable {l : Launch} {M : ExM} {d : Nat} {K : ExK} {pc : Nat} {ls ls' : List (Nat × Value)} {st : List Value} {sh sh' : ExSh} {I I' : ExI} {L L' : ExL} {R R' : ExR} {k n : Nat}
theorem va_up_up {α : Type} {f : Nat → α} {k : Nat} {v w : α} : va_up (va_up f k v) k w = va_up f k w := by
  funext j
  unfold va_up
  by_cases h : j = k
  · rw [if_pos h, if_pos h]
  · rw [if_neg h, if_neg h, if_neg h]
theorem va_up_id {α : Type} {f : Nat → α} {k : Nat} : va_up f k (f k) = f := by
  funext j
  unfold va_up
  by_cases h : j = k
  · rw [if_pos h, h]
  · rw [if_neg h]
theorem exU_up {α : Type} {I : Nat → Nat → α} {i k : Nat} {f : Nat → α} {v : α} : exU (va_up I i f) i k v = va_up I i (va_up f k v) := by
  unfold exU
  rw [va_up_self, va_up_up]
theorem e_cvI {x y : Int32} (h : x = y) (kk : Ex l M d K pc ls (.int y :: st) sh I L R k n) : Ex l M d K pc ls (.int x :: st) sh I L R k n := by subst h; exact kk
theorem e_cvL {x y : Int64} (h : x = y) (kk : Ex l M d K pc ls (.long y :: st) sh I L R k n) : Ex l M d K pc ls (.long x :: st) sh I L R k n := by subst h; exact kk
theorem e_iastw {i N j : Nat} {x y : Int32} (hd : decode M.2.1 pc = .ok (.iastore, 1)) (hs0 : sh[i]? = some (0, N)) (hin : vp_in x N) (hj : x.toNatClampNeg = j) (hI : exU I i j y = I') (kk : Ex l M d K (pc + 1) ls st sh I' L R k n) : Ex l M d K pc ls (.int y :: .int x :: .ref i :: st) sh I L R k n := by subst hI; exact e_iastv hd hs0 hin hj kk
theorem e_bastw {i N j : Nat} {x y z : Int32} (hd : decode M.2.1 pc = .ok (.bastore, 1)) (hs0 : sh[i]? = some (1, N)) (hin : vp_in x N) (hj : x.toNatClampNeg = j) (hz : vp_nar .byte y = z) (hI : exU I i j z = I') (kk : Ex l M d K (pc + 1) ls st sh I' L R k n) : Ex l M d K pc ls (.int y :: .int x :: .ref i :: st) sh I L R k n := by subst hI; exact e_bastv hd hs0 hin hj hz kk
theorem e_zastw {i N j : Nat} {x y z : Int32} (hd : decode M.2.1 pc = .ok (.bastore, 1)) (hs0 : sh[i]? = some (2, N)) (hin : vp_in x N) (hj : x.toNatClampNeg = j) (hz : vp_nar .boolean y = z) (hI : exU I i j z = I') (kk : Ex l M d K (pc + 1) ls st sh I' L R k n) : Ex l M d K pc ls (.int y :: .int x :: .ref i :: st) sh I L R k n := by subst hI; exact e_zastv hd hs0 hin hj hz kk
theorem e_lastw {i N j : Nat} {x : Int32} {y : Int64} (hd : decode M.2.1 pc = .ok (.lastore, 1)) (hs0 : sh[i]? = some (3, N)) (hin : vp_in x N) (hj : x.toNatClampNeg = j) (hI : exU L i j y = L') (kk : Ex l M d K (pc + 1) ls st sh I L' R k n) : Ex l M d K pc ls (.long y :: .int x :: .ref i :: st) sh I L R k n := by subst hI; exact e_lastv hd hs0 hin hj kk
theorem e_putIw {i ci N q ix : Nat} {x : Int32} {fin : Bool} {ty : FieldType} (hd : decode M.2.1 pc = .ok (.putfield ix, 3)) (hs0 : sh[i]? = some (ci + 8, N)) (hG : exPt M.1 ix ci q fin ty) (hin2 : fin = true → M.2.2.2.2.1 = "<init>") (hkd : (exKinds.getD ci [])[q]? = some 0) (hnr : narrow ty (.int x) = .int x) (hft : fits ty (.int x) = true) (hI : exU I i q x = I') (kk : Ex l M d K (pc + 3) ls st sh I' L R k n) : Ex l M d K pc ls (.int x :: .ref i :: st) sh I L R k n := by subst hI; exact e_putI hd hs0 hG hin2 hkd hnr hft kk
theorem e_copyw {i j N N' ix jx jy jz : Nat} {x y z : Int32} {f g : Nat → Int32} (hd : decode M.2.1 pc = .ok (.invokestatic ix, 3)) (hq : Cond.methodLink M.1 ix arraycopyName ∈ lw_all) (hs0 : sh[i]? = some (0, N)) (hs1 : sh[j]? = some (0, N')) (hb : (x = nI jx ∧ y = nI jy ∧ z = nI jz) ∧ jx + jz ≤ N ∧ jy + jz ≤ N' ∧ N < 100000 ∧ N' < 100000) (hd1 : 1 ≤ d) (hw8 : (st.map Value.category).sum ≤ 8) (hf : I i = f) (hg : I j = g) (hI : va_up I j (va_cpy f g jx jy jz) = I')
    (kk : Ex l M d K (pc + 3) ls st sh I' L R k n) : Ex l M d K pc ls (.int z :: .int y :: .ref j :: .int x :: .ref i :: st) sh I L R k n := by
  subst hf; subst hg; subst hI
  exact e_copyv hd hq hs0 hs1 hb hd1 hw8 kk
end EXM2
section EXM3
variable {l : Launch} {M : ExM} {d : Nat} {K : ExK} {pc : Nat} {ls ls' : List (Nat × Value)} {st st' : List Value} {sh sh' : ExSh} {I I' : ExI} {L L' : ExL} {R R' : ExR} {k n : Nat}
theorem va_up_idr {α : Type} {f : Nat → α} {k : Nat} {v : α} (h : f k = v) : va_up f k v = f := by subst h; exact va_up_id
theorem e_memI (h : I = I') (kk : Ex l M d K pc ls st sh I' L R k n) : Ex l M d K pc ls st sh I L R k n := by subst h; exact kk
theorem e_memL (h : L = L') (kk : Ex l M d K pc ls st sh I L' R k n) : Ex l M d K pc ls st sh I L R k n := by subst h; exact kk
theorem e_memR (h : R = R') (kk : Ex l M d K pc ls st sh I L R' k n) : Ex l M d K pc ls st sh I L R k n := by subst h; exact kk
theorem e_memS (h : sh = sh') (kk : Ex l M d K pc ls st sh' I L R k n) : Ex l M d K pc ls st sh I L R k n := by subst h; exact kk
theorem e_lsc (h : ls = ls') (kk : Ex l M d K pc ls' st sh I L R k n) : Ex l M d K pc ls st sh I L R k n := by subst h; exact kk
theorem e_stc (h : st = st') (kk : Ex l M d K pc ls st' sh I L R k n) : Ex l M d K pc ls st sh I L R k n := by subst h; exact kk
end EXM3
theorem exU_rw {α : Type} {I : Nat → Nat → α} {i k : Nat} {f : Nat → α} {v : α} (h : I i = f) : exU I i k v = va_up I i (va_up f k v) := by subst h; rfl
