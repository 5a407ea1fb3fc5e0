set_option maxRecDepth 100000
section EXR3
variable {l : Launch} {M : ExM} {d : Nat} {K : ExK} {pc : Nat} {ls ls' : List (Nat × Value)} {st : List Value} {sh sh' : ExSh} {I I' : ExI} {L L' : ExL} {R R' : ExR} {k n : Nat}
theorem e_newIv {j t N : Nat} {x : Int32} {at0 : ArrayType} {ty : FieldType} (hd : decode M.2.1 pc = .ok (.newarray at0, 2)) (hj : sh.length = j) (hq : Cond.arrayClass ty ∈ lw_all) (hty : newarray.typeOf at0 = ty) (ht : t < 3) (hT : ∀ w : ExW, (exTys w)[t]? = some (w.2.1 t, ty)) (hx : x = nI N) (hN : N ≤ 100000)
    (kk : Ex l M d K (pc + 2) ls (.ref j :: st) (sh ++ [(t, N)]) (va_up I j (fun _ => 0)) L (va_up R j (fun _ => .null)) k n) : Ex l M d K pc ls (.int x :: st) sh I L R (k + 1) (n + N) := by
  subst hj
  exact e_newaI hd hq hty ht hT hx hN (fun j hj => va_up_ne _ _ hj) (va_up_self _ _ _) kk
theorem e_newLv {j N : Nat} {x : Int32} (hd : decode M.2.1 pc = .ok (.newarray .long, 2)) (hj : sh.length = j) (hx : x = nI N) (hN : N ≤ 100000)
    (kk : Ex l M d K (pc + 2) ls (.ref j :: st) (sh ++ [(3, N)]) I (va_up L j (fun _ => 0)) (va_up R j (fun _ => .null)) k n) : Ex l M d K pc ls (.int x :: st) sh I L R (k + 1) (n + N) := by
  subst hj
  exact e_newaL hd q237 hx hN (fun j hj => va_up_ne _ _ hj) (va_up_self _ _ _) kk
theorem e_newRv {j ix t N : Nat} {x : Int32} {C : String} (hd : decode M.2.1 pc = .ok (.anewarray ix, 3)) (hj : sh.length = j) (hq : Cond.classLink M.1 ix C ∈ lw_all) (hov : C ∈ exOv) (h1 : 4 ≤ t) (h2 : t < 8) (hT : ∀ w : ExW, (exTys w)[t]? = some (w.2.1 t, .object C)) (hx : x = nI N) (hN : N ≤ 100000)
    (kk : Ex l M d K (pc + 3) ls (.ref j :: st) (sh ++ [(t, N)]) I L (va_up R j (fun _ => .null)) k n) : Ex l M d K pc ls (.int x :: st) sh I L R (k + 1) (n + N) := by
  subst hj
  exact e_newq hd hq hov h1 h2 hT hx hN (fun j hj => va_up_ne _ _ hj) (va_up_self _ _ _) kk
theorem e_newOv {j ix ci N : Nat} (hd : decode M.2.1 pc = .ok (.new ix, 3)) (hj : sh.length = j) (hw : exNw M.1 ix ci N)
    (kk : Ex l M d K (pc + 3) ls (.ref j :: st) (sh ++ [(ci + 8, N)]) (va_up I j (fun _ => 0)) (va_up L j (fun _ => 0)) (va_up R j (fun _ => .null)) k n) : Ex l M d K pc ls st sh I L R (k + 1) (n + N) := by
  subst hj
  exact e_new hd hw (fun j hj => va_up_ne _ _ hj) (va_up_self _ _ _) (fun j hj => va_up_ne _ _ hj) (va_up_self _ _ _) (fun j hj => va_up_ne _ _ hj) (va_up_self _ _ _) kk
theorem e_putRw {i ci N q ix : Nat} {v : Value} {fin : Bool} {ty : FieldType} (hd : decode M.2.1 pc = .ok (.putfield ix, 3)) (hs0 : sh[i]? = some (ci + 8, N)) (hG : exPt M.1 ix ci q fin ty) (hin2 : fin = true → M.2.2.2.2.1 = "<init>") (hkd : (exKinds.getD ci [])[q]? = some 2) (hty : exRT ty = true) (hr : exRl v = true) (hR : exU R i q v = R') (kk : Ex l M d K (pc + 3) ls st sh I L R' k n) : Ex l M d K pc ls (v :: .ref i :: st) sh I L R k n := by subst hR; exact e_putR hd hs0 hG hin2 hkd hty hr kk
theorem e_aastw {i t N j : Nat} {x : Int32} {v : Value} {E : String} (hd : decode M.2.1 pc = .ok (.aastore, 1)) (hs0 : sh[i]? = some (t, N)) (h1 : 4 ≤ t) (h2 : t < 8) (hE : ∀ w : ExW, (exTys w)[t]? = some (w.2.1 t, .object E)) (hin : vp_in x N) (hj : x.toNatClampNeg = j) (hv : v = .null ∨ (∃ j cj Nj T NT, v = .ref j ∧ sh[j]? = some (cj + 8, Nj) ∧ exCl[cj]? = some (E, T, NT)) ∨ (∃ q : Nat, v = .float q.toUInt32 ∧ q < 19 ∧ E = "java/lang/String")) (hR : exU R i j v = R')
    (kk : Ex l M d K (pc + 1) ls st sh I L R' k n) : Ex l M d K pc ls (v :: .int x :: .ref i :: st) sh I L R k n := by
  subst hj; subst hR
  exact e_aast hd hs0 h1 h2 hE hin hv kk
/-- Math.max -/
theorem e_mmax {ix : Nat} {x y : Int32} (hd : decode M.2.1 pc = .ok (.invokestatic ix, 3)) (hq : Cond.methodLink M.1 ix yJ8_max ∈ lw_all) (hd1 : 1 ≤ d) (hw8 : (st.map Value.category).sum ≤ 8)
    (kk : Ex l M d K (pc + 3) ls (.int (if x < y then y else x) :: st) sh I L R k n) : Ex l M d K pc ls (.int y :: .int x :: st) sh I L R k n := by
  intro w p e s m args below meth c A mc ms n0 ad0 ad H locs cells slots la F S hS hk hn hl ho hs
  have hcat := exCat (w := w) (ad := ad) hw8
  refine va_mmax F.x F.b (F.ml.trans hl.1.symm) F.own (F.ts _ hq) (F.ts _ q1045) (F.ts _ q141) (F.ts _ q1046) hd1 ?_ (by show cells ≤ mc; omega) (by show slots ≤ ms; omega) hd ?_
  · show ((st.map (exV w ad)).map fun v => v.category).sum + 13 ≤ 256 * d
    omega
  · exact kk w p e s m args below meth c A mc ms n0 ad0 ad H locs cells slots la F S hS hk hn hl ho (fun v hv => by rcases List.mem_cons.mp hv with rfl | hv; exact trivial; exact hs v (List.mem_cons_of_mem _ (List.mem_cons_of_mem _ hv)))
-- literals and statics
theorem e_strF {j ix : Nat} {v : Value} {nm ds : String} (hd : decode M.2.1 pc = .ok (.getfield ix, 3)) (hj : j < 19) (hq : Cond.fieldLink M.1 ix "java/lang/String" nm ds ∈ lw_all) (hv : (nm = "coder" ∧ ds = "B" ∧ v = .int 0) ∨ (nm = "value" ∧ ds = "[B" ∧ v = .float (32 + j).toUInt32))
    (kk : Ex l M d K (pc + 3) ls (v :: st) sh I L R k n) : Ex l M d K pc ls (.float j.toUInt32 :: st) sh I L R k n := by
  intro w p e s m args below meth c A mc ms n0 ad0 ad H locs cells slots la F S hS hk hn hl ho hs
  have hj2 : (j.toUInt32).toNat = j := by simp [Nat.toUInt32]; omega
  have hj3 : ((32 + j).toUInt32).toNat = 32 + j := by simp [Nat.toUInt32]; omega
  have hok : exOk sh.length v := by rcases hv with ⟨-, -, rfl⟩ | ⟨-, -, rfl⟩ <;> trivial
  have k2 := kk w p e s m args below meth c A mc ms n0 ad0 ad H locs cells slots la F S hS hk hn hl ho (fun x hx => by rcases List.mem_cons.mp hx with rfl | hx; exact hok; exact hs x (List.mem_cons_of_mem _ hx))
  have e1 : exV w ad (.float j.toUInt32) = .ref (w.2.2 j) := by show Value.ref (w.2.2 j.toUInt32.toNat) = _; rw [hj2]
  show W p l e (exRm d mc ms) s m args below meth c H locs cells slots _ (F0 m pc la (exV w ad (.float j.toUInt32) :: st.map (exV w ad)))
  rw [e1]
  obtain ⟨-, h2, h3, -⟩ := F.B.2.1 j hj
  rcases hv with ⟨rfl, rfl, rfl⟩ | ⟨rfl, rfl, rfl⟩
  · exact vk_getf F.x F.b h2 hS F.own (F.ts _ hq) (fun x h => h) hd k2
  · refine vk_getf F.x F.b h3 hS F.own (F.ts _ hq) (fun x h => h) hd ?_
    have e2 : exV w ad (.float (32 + j).toUInt32) = .ref (w.2.2 (32 + j)) := by show Value.ref (w.2.2 ((32 + j).toUInt32).toNat) = _; rw [hj3]
    rw [← e2]
    exact k2
theorem e_strL {j : Nat} {v : Int32} (hd : decode M.2.1 pc = .ok (.arraylength, 1)) (hj : j < 19) (hv : nI (exTx.getD j []).length = v) (kk : Ex l M d K (pc + 1) ls (.int v :: st) sh I L R k n) : Ex l M d K pc ls (.float (32 + j).toUInt32 :: st) sh I L R k n := by
  intro w p e s m args below meth c A mc ms n0 ad0 ad H locs cells slots la F S hS hk hn hl ho hs
  have hj3 : ((32 + j).toUInt32).toNat = 32 + j := by simp [Nat.toUInt32]; omega
  have k2 := kk w p e s m args below meth c A mc ms n0 ad0 ad H locs cells slots la F S hS hk hn hl ho (fun x hx => by rcases List.mem_cons.mp hx with rfl | hx; exact trivial; exact hs x (List.mem_cons_of_mem _ hx))
  have e2 : exV w ad (.float (32 + j).toUInt32) = .ref (w.2.2 (32 + j)) := by show Value.ref (w.2.2 ((32 + j).toUInt32).toNat) = _; rw [hj3]
  show W p l e (exRm d mc ms) s m args below meth c H locs cells slots _ (F0 m pc la (exV w ad (.float (32 + j).toUInt32) :: st.map (exV w ad)))
  rw [e2]
  exact va_tlen F.x F.b (F.B.2.1 j hj).2.2.2 hS hv hd k2
theorem e_strB {j b : Nat} {x : Int32} {v : Int32} (hd : decode M.2.1 pc = .ok (.baload, 1)) (hj : j < 19) (hx : x = nI b) (hb : b < (exTx.getD j []).length) (hv : (exTx.getD j []).getD b 0 = v) (kk : Ex l M d K (pc + 1) ls (.int v :: st) sh I L R k n) : Ex l M d K pc ls (.int x :: .float (32 + j).toUInt32 :: st) sh I L R k n := by
  intro w p e s m args below meth c A mc ms n0 ad0 ad H locs cells slots la F S hS hk hn hl ho hs
  subst hx
  have hj3 : ((32 + j).toUInt32).toNat = 32 + j := by simp [Nat.toUInt32]; omega
  have hlen : (exTx.getD j []).length < 100 := (by decide +kernel : ∀ j, j < 19 → (exTx.getD j []).length < 100) j hj
  have k2 := kk w p e s m args below meth c A mc ms n0 ad0 ad H locs cells slots la F S hS hk hn hl ho (fun x hx => by rcases List.mem_cons.mp hx with rfl | hx; exact trivial; exact hs x (List.mem_cons_of_mem _ (List.mem_cons_of_mem _ hx)))
  have e2 : exV w ad (.float (32 + j).toUInt32) = .ref (w.2.2 (32 + j)) := by show Value.ref (w.2.2 ((32 + j).toUInt32).toNat) = _; rw [hj3]
  show W p l e (exRm d mc ms) s m args below meth c H locs cells slots _ (F0 m pc la (.int (nI b) :: exV w ad (.float (32 + j).toUInt32) :: st.map (exV w ad)))
  rw [e2]
  exact va_tb F.x F.b (F.B.2.1 j hj).2.2.2 hS (vp_in_nI hb (by omega)) (v := .int v) (by rw [nI_clamp (by omega), hv]) hd k2
theorem e_gets {ix : Nat} {C nm ds : String} {v : Value} (hd : decode M.2.1 pc = .ok (.getstatic ix, 3)) (hq : Cond.fieldLink M.1 ix C nm ds ∈ lw_all) (hv : (C = "java/lang/String" ∧ nm = "COMPACT_STRINGS" ∧ ds = "Z" ∧ v = .int 1) ∨ (C = "java/lang/Throwable" ∧ nm = "UNASSIGNED_STACK" ∧ ds = "[Ljava/lang/StackTraceElement;" ∧ v = .float 65) ∨ (C = "java/lang/Throwable" ∧ nm = "SUPPRESSED_SENTINEL" ∧ ds = "Ljava/util/List;" ∧ v = .float 66) ∨ (C = "jdk/internal/util/Preconditions" ∧ nm = "SIOOBE_FORMATTER" ∧ ds = "Ljava/util/function/BiFunction;" ∧ v = .float 67))
    (kk : Ex l M d K (pc + 3) ls (v :: st) sh I L R k n) : Ex l M d K pc ls st sh I L R k n := by
  intro w p e s m args below meth c A mc ms n0 ad0 ad H locs cells slots la F S hS hk hn hl ho hs
  have hok : exOk sh.length v := by rcases hv with ⟨-, -, -, rfl⟩ | ⟨-, -, -, rfl⟩ | ⟨-, -, -, rfl⟩ | ⟨-, -, -, rfl⟩ <;> trivial
  have k2 := kk w p e s m args below meth c A mc ms n0 ad0 ad H locs cells slots la F S hS hk hn hl ho (fun x hx => by rcases List.mem_cons.mp hx with rfl | hx; exact hok; exact hs x hx)
  obtain ⟨h1, h2, h3, h4⟩ := F.B.2.2.1
  rcases hv with ⟨rfl, rfl, rfl, rfl⟩ | ⟨rfl, rfl, rfl, rfl⟩ | ⟨rfl, rfl, rfl, rfl⟩ | ⟨rfl, rfl, rfl, rfl⟩
  · exact va_gets F.x F.b h1 hS F.own (F.ts _ hq) (fun x h => h) hd k2
  · exact va_gets F.x F.b h2 hS F.own (F.ts _ hq) (fun x h => h) hd k2
  · exact va_gets F.x F.b h3 hS F.own (F.ts _ hq) (fun x h => h) hd k2
  · exact va_gets F.x F.b h4 hS F.own (F.ts _ hq) (fun x h => h) hd k2
end EXR3
