set_option maxRecDepth 100000
section EXR
variable {l : Launch} {M : ExM} {d : Nat} {K : ExK} {pc : Nat} {ls ls' : List (Nat × Value)} {st : List Value} {sh sh' : ExSh} {I I' : ExI} {L L' : ExL} {R R' : ExR} {k n : Nat}

theorem e_iconst {z : Int} {v : Int32} (hd : decode M.2.1 pc = .ok (.iconst z, 1)) (hv : Int32.ofInt z = v) (kk : Ex l M d K (pc + 1) ls (.int v :: st) sh I L R k n) : Ex l M d K (pc) ls (st) sh I L R k n := by
  intro w p e s m args below meth c A mc ms n0 ad0 ad H locs cells slots la F S hS hk hn hl ho hs
  exact lv_iconst F.x F.b hd hv (kk w p e s m args below meth c A mc ms n0 ad0 ad H locs cells slots la F S hS hk hn hl ho (fun v hv => by rcases List.mem_cons.mp hv with rfl | hv; exact trivial; exact hs v hv))
theorem e_bipush {z : Int} {v : Int32} (hd : decode M.2.1 pc = .ok (.bipush z, 2)) (hv : (Int8.ofInt z).toInt32 = v) (kk : Ex l M d K (pc + 2) ls (.int v :: st) sh I L R k n) : Ex l M d K (pc) ls (st) sh I L R k n := by
  intro w p e s m args below meth c A mc ms n0 ad0 ad H locs cells slots la F S hS hk hn hl ho hs
  exact lv_bipush F.x F.b hd hv (kk w p e s m args below meth c A mc ms n0 ad0 ad H locs cells slots la F S hS hk hn hl ho (fun v hv => by rcases List.mem_cons.mp hv with rfl | hv; exact trivial; exact hs v hv))
theorem e_sipush {z : Int} {v : Int32} (hd : decode M.2.1 pc = .ok (.sipush z, 3)) (hv : (Int16.ofInt z).toInt32 = v) (kk : Ex l M d K (pc + 3) ls (.int v :: st) sh I L R k n) : Ex l M d K (pc) ls (st) sh I L R k n := by
  intro w p e s m args below meth c A mc ms n0 ad0 ad H locs cells slots la F S hS hk hn hl ho hs
  exact lv_sipush F.x F.b hd hv (kk w p e s m args below meth c A mc ms n0 ad0 ad H locs cells slots la F S hS hk hn hl ho (fun v hv => by rcases List.mem_cons.mp hv with rfl | hv; exact trivial; exact hs v hv))
theorem e_lconst {z : Fin 2} {v : Int64} (hd : decode M.2.1 pc = .ok (.lconst z, 1)) (hv : Int64.ofNat (z : Nat) = v) (kk : Ex l M d K (pc + 1) ls (.long v :: st) sh I L R k n) : Ex l M d K (pc) ls (st) sh I L R k n := by
  intro w p e s m args below meth c A mc ms n0 ad0 ad H locs cells slots la F S hS hk hn hl ho hs
  exact lv_lconst F.x F.b hd hv (kk w p e s m args below meth c A mc ms n0 ad0 ad H locs cells slots la F S hS hk hn hl ho (fun v hv => by rcases List.mem_cons.mp hv with rfl | hv; exact trivial; exact hs v hv))
theorem e_null  (hd : decode M.2.1 pc = .ok (.aconst_null, 1))  (kk : Ex l M d K (pc + 1) ls (.null :: st) sh I L R k n) : Ex l M d K (pc) ls (st) sh I L R k n := by
  intro w p e s m args below meth c A mc ms n0 ad0 ad H locs cells slots la F S hS hk hn hl ho hs
  exact lv_null F.x F.b hd (kk w p e s m args below meth c A mc ms n0 ad0 ad H locs cells slots la F S hS hk hn hl ho (fun v hv => by rcases List.mem_cons.mp hv with rfl | hv; exact trivial; exact hs v hv))
theorem e_iadd {x y : Int32} (hd : decode M.2.1 pc = .ok (.iadd, 1))  (kk : Ex l M d K (pc + 1) ls (.int (x + y) :: st) sh I L R k n) : Ex l M d K (pc) ls (.int y :: .int x :: st) sh I L R k n := by
  intro w p e s m args below meth c A mc ms n0 ad0 ad H locs cells slots la F S hS hk hn hl ho hs
  exact lv_iadd F.x F.b hd (kk w p e s m args below meth c A mc ms n0 ad0 ad H locs cells slots la F S hS hk hn hl ho (fun v hv => by rcases List.mem_cons.mp hv with rfl | hv; exact trivial; exact (fun v hv => hs v (List.mem_cons_of_mem _ (List.mem_cons_of_mem _ (hv)))) v hv))
theorem e_isub {x y : Int32} (hd : decode M.2.1 pc = .ok (.isub, 1))  (kk : Ex l M d K (pc + 1) ls (.int (x - y) :: st) sh I L R k n) : Ex l M d K (pc) ls (.int y :: .int x :: st) sh I L R k n := by
  intro w p e s m args below meth c A mc ms n0 ad0 ad H locs cells slots la F S hS hk hn hl ho hs
  exact lv_isub F.x F.b hd (kk w p e s m args below meth c A mc ms n0 ad0 ad H locs cells slots la F S hS hk hn hl ho (fun v hv => by rcases List.mem_cons.mp hv with rfl | hv; exact trivial; exact (fun v hv => hs v (List.mem_cons_of_mem _ (List.mem_cons_of_mem _ (hv)))) v hv))
theorem e_imul {x y : Int32} (hd : decode M.2.1 pc = .ok (.imul, 1))  (kk : Ex l M d K (pc + 1) ls (.int (x * y) :: st) sh I L R k n) : Ex l M d K (pc) ls (.int y :: .int x :: st) sh I L R k n := by
  intro w p e s m args below meth c A mc ms n0 ad0 ad H locs cells slots la F S hS hk hn hl ho hs
  exact lv_imul F.x F.b hd (kk w p e s m args below meth c A mc ms n0 ad0 ad H locs cells slots la F S hS hk hn hl ho (fun v hv => by rcases List.mem_cons.mp hv with rfl | hv; exact trivial; exact (fun v hv => hs v (List.mem_cons_of_mem _ (List.mem_cons_of_mem _ (hv)))) v hv))
theorem e_iand {x y : Int32} (hd : decode M.2.1 pc = .ok (.iand, 1))  (kk : Ex l M d K (pc + 1) ls (.int (x &&& y) :: st) sh I L R k n) : Ex l M d K (pc) ls (.int y :: .int x :: st) sh I L R k n := by
  intro w p e s m args below meth c A mc ms n0 ad0 ad H locs cells slots la F S hS hk hn hl ho hs
  exact lv_iand F.x F.b hd (kk w p e s m args below meth c A mc ms n0 ad0 ad H locs cells slots la F S hS hk hn hl ho (fun v hv => by rcases List.mem_cons.mp hv with rfl | hv; exact trivial; exact (fun v hv => hs v (List.mem_cons_of_mem _ (List.mem_cons_of_mem _ (hv)))) v hv))
theorem e_ior {x y : Int32} (hd : decode M.2.1 pc = .ok (.ior, 1))  (kk : Ex l M d K (pc + 1) ls (.int (x ||| y) :: st) sh I L R k n) : Ex l M d K (pc) ls (.int y :: .int x :: st) sh I L R k n := by
  intro w p e s m args below meth c A mc ms n0 ad0 ad H locs cells slots la F S hS hk hn hl ho hs
  exact lv_ior F.x F.b hd (kk w p e s m args below meth c A mc ms n0 ad0 ad H locs cells slots la F S hS hk hn hl ho (fun v hv => by rcases List.mem_cons.mp hv with rfl | hv; exact trivial; exact (fun v hv => hs v (List.mem_cons_of_mem _ (List.mem_cons_of_mem _ (hv)))) v hv))
theorem e_ixor {x y : Int32} (hd : decode M.2.1 pc = .ok (.ixor, 1))  (kk : Ex l M d K (pc + 1) ls (.int (x ^^^ y) :: st) sh I L R k n) : Ex l M d K (pc) ls (.int y :: .int x :: st) sh I L R k n := by
  intro w p e s m args below meth c A mc ms n0 ad0 ad H locs cells slots la F S hS hk hn hl ho hs
  exact lv_ixor F.x F.b hd (kk w p e s m args below meth c A mc ms n0 ad0 ad H locs cells slots la F S hS hk hn hl ho (fun v hv => by rcases List.mem_cons.mp hv with rfl | hv; exact trivial; exact (fun v hv => hs v (List.mem_cons_of_mem _ (List.mem_cons_of_mem _ (hv)))) v hv))
theorem e_ishl {x y : Int32} (hd : decode M.2.1 pc = .ok (.ishl, 1))  (kk : Ex l M d K (pc + 1) ls (.int (x <<< (y &&& 31)) :: st) sh I L R k n) : Ex l M d K (pc) ls (.int y :: .int x :: st) sh I L R k n := by
  intro w p e s m args below meth c A mc ms n0 ad0 ad H locs cells slots la F S hS hk hn hl ho hs
  exact lv_ishl F.x F.b hd (kk w p e s m args below meth c A mc ms n0 ad0 ad H locs cells slots la F S hS hk hn hl ho (fun v hv => by rcases List.mem_cons.mp hv with rfl | hv; exact trivial; exact (fun v hv => hs v (List.mem_cons_of_mem _ (List.mem_cons_of_mem _ (hv)))) v hv))
theorem e_ishr {x y : Int32} (hd : decode M.2.1 pc = .ok (.ishr, 1))  (kk : Ex l M d K (pc + 1) ls (.int (x >>> (y &&& 31)) :: st) sh I L R k n) : Ex l M d K (pc) ls (.int y :: .int x :: st) sh I L R k n := by
  intro w p e s m args below meth c A mc ms n0 ad0 ad H locs cells slots la F S hS hk hn hl ho hs
  exact lv_ishr F.x F.b hd (kk w p e s m args below meth c A mc ms n0 ad0 ad H locs cells slots la F S hS hk hn hl ho (fun v hv => by rcases List.mem_cons.mp hv with rfl | hv; exact trivial; exact (fun v hv => hs v (List.mem_cons_of_mem _ (List.mem_cons_of_mem _ (hv)))) v hv))
theorem e_iushr {x y : Int32} (hd : decode M.2.1 pc = .ok (.iushr, 1))  (kk : Ex l M d K (pc + 1) ls (.int ((x.toUInt32 >>> (y.toUInt32 &&& Int32.toUInt32 31)).toInt32) :: st) sh I L R k n) : Ex l M d K (pc) ls (.int y :: .int x :: st) sh I L R k n := by
  intro w p e s m args below meth c A mc ms n0 ad0 ad H locs cells slots la F S hS hk hn hl ho hs
  exact lv_iushr F.x F.b hd rfl (kk w p e s m args below meth c A mc ms n0 ad0 ad H locs cells slots la F S hS hk hn hl ho (fun v hv => by rcases List.mem_cons.mp hv with rfl | hv; exact trivial; exact (fun v hv => hs v (List.mem_cons_of_mem _ (List.mem_cons_of_mem _ (hv)))) v hv))
theorem e_idiv {x y : Int32} (hd : decode M.2.1 pc = .ok (.idiv, 1)) (hne : ¬ y = 0) (kk : Ex l M d K (pc + 1) ls (.int (x / y) :: st) sh I L R k n) : Ex l M d K (pc) ls (.int y :: .int x :: st) sh I L R k n := by
  intro w p e s m args below meth c A mc ms n0 ad0 ad H locs cells slots la F S hS hk hn hl ho hs
  exact lv_idiv F.x F.b hd hne (kk w p e s m args below meth c A mc ms n0 ad0 ad H locs cells slots la F S hS hk hn hl ho (fun v hv => by rcases List.mem_cons.mp hv with rfl | hv; exact trivial; exact (fun v hv => hs v (List.mem_cons_of_mem _ (List.mem_cons_of_mem _ (hv)))) v hv))
theorem e_irem {x y : Int32} (hd : decode M.2.1 pc = .ok (.irem, 1)) (hne : ¬ y = 0) (kk : Ex l M d K (pc + 1) ls (.int (x - x / y * y) :: st) sh I L R k n) : Ex l M d K (pc) ls (.int y :: .int x :: st) sh I L R k n := by
  intro w p e s m args below meth c A mc ms n0 ad0 ad H locs cells slots la F S hS hk hn hl ho hs
  exact lv_irem F.x F.b hd hne (kk w p e s m args below meth c A mc ms n0 ad0 ad H locs cells slots la F S hS hk hn hl ho (fun v hv => by rcases List.mem_cons.mp hv with rfl | hv; exact trivial; exact (fun v hv => hs v (List.mem_cons_of_mem _ (List.mem_cons_of_mem _ (hv)))) v hv))
theorem e_ladd {x y : Int64} (hd : decode M.2.1 pc = .ok (.ladd, 1))  (kk : Ex l M d K (pc + 1) ls (.long (x + y) :: st) sh I L R k n) : Ex l M d K (pc) ls (.long y :: .long x :: st) sh I L R k n := by
  intro w p e s m args below meth c A mc ms n0 ad0 ad H locs cells slots la F S hS hk hn hl ho hs
  exact lv_ladd F.x F.b hd (kk w p e s m args below meth c A mc ms n0 ad0 ad H locs cells slots la F S hS hk hn hl ho (fun v hv => by rcases List.mem_cons.mp hv with rfl | hv; exact trivial; exact (fun v hv => hs v (List.mem_cons_of_mem _ (List.mem_cons_of_mem _ (hv)))) v hv))
theorem e_lsub {x y : Int64} (hd : decode M.2.1 pc = .ok (.lsub, 1))  (kk : Ex l M d K (pc + 1) ls (.long (x - y) :: st) sh I L R k n) : Ex l M d K (pc) ls (.long y :: .long x :: st) sh I L R k n := by
  intro w p e s m args below meth c A mc ms n0 ad0 ad H locs cells slots la F S hS hk hn hl ho hs
  exact lv_lsub F.x F.b hd (kk w p e s m args below meth c A mc ms n0 ad0 ad H locs cells slots la F S hS hk hn hl ho (fun v hv => by rcases List.mem_cons.mp hv with rfl | hv; exact trivial; exact (fun v hv => hs v (List.mem_cons_of_mem _ (List.mem_cons_of_mem _ (hv)))) v hv))
theorem e_lmul {x y : Int64} (hd : decode M.2.1 pc = .ok (.lmul, 1))  (kk : Ex l M d K (pc + 1) ls (.long (x * y) :: st) sh I L R k n) : Ex l M d K (pc) ls (.long y :: .long x :: st) sh I L R k n := by
  intro w p e s m args below meth c A mc ms n0 ad0 ad H locs cells slots la F S hS hk hn hl ho hs
  exact lv_lmul F.x F.b hd (kk w p e s m args below meth c A mc ms n0 ad0 ad H locs cells slots la F S hS hk hn hl ho (fun v hv => by rcases List.mem_cons.mp hv with rfl | hv; exact trivial; exact (fun v hv => hs v (List.mem_cons_of_mem _ (List.mem_cons_of_mem _ (hv)))) v hv))
theorem e_land {x y : Int64} (hd : decode M.2.1 pc = .ok (.land, 1))  (kk : Ex l M d K (pc + 1) ls (.long (x &&& y) :: st) sh I L R k n) : Ex l M d K (pc) ls (.long y :: .long x :: st) sh I L R k n := by
  intro w p e s m args below meth c A mc ms n0 ad0 ad H locs cells slots la F S hS hk hn hl ho hs
  exact lv_land F.x F.b hd (kk w p e s m args below meth c A mc ms n0 ad0 ad H locs cells slots la F S hS hk hn hl ho (fun v hv => by rcases List.mem_cons.mp hv with rfl | hv; exact trivial; exact (fun v hv => hs v (List.mem_cons_of_mem _ (List.mem_cons_of_mem _ (hv)))) v hv))
theorem e_lor {x y : Int64} (hd : decode M.2.1 pc = .ok (.lor, 1))  (kk : Ex l M d K (pc + 1) ls (.long (x ||| y) :: st) sh I L R k n) : Ex l M d K (pc) ls (.long y :: .long x :: st) sh I L R k n := by
  intro w p e s m args below meth c A mc ms n0 ad0 ad H locs cells slots la F S hS hk hn hl ho hs
  exact lv_lor F.x F.b hd (kk w p e s m args below meth c A mc ms n0 ad0 ad H locs cells slots la F S hS hk hn hl ho (fun v hv => by rcases List.mem_cons.mp hv with rfl | hv; exact trivial; exact (fun v hv => hs v (List.mem_cons_of_mem _ (List.mem_cons_of_mem _ (hv)))) v hv))
theorem e_ldiv {x y : Int64} (hd : decode M.2.1 pc = .ok (.ldiv, 1)) (hne : ¬ y = 0) (kk : Ex l M d K (pc + 1) ls (.long (x / y) :: st) sh I L R k n) : Ex l M d K (pc) ls (.long y :: .long x :: st) sh I L R k n := by
  intro w p e s m args below meth c A mc ms n0 ad0 ad H locs cells slots la F S hS hk hn hl ho hs
  exact lv_ldiv F.x F.b hd hne (kk w p e s m args below meth c A mc ms n0 ad0 ad H locs cells slots la F S hS hk hn hl ho (fun v hv => by rcases List.mem_cons.mp hv with rfl | hv; exact trivial; exact (fun v hv => hs v (List.mem_cons_of_mem _ (List.mem_cons_of_mem _ (hv)))) v hv))
theorem e_lrem {x y : Int64} (hd : decode M.2.1 pc = .ok (.lrem, 1)) (hne : ¬ y = 0) (kk : Ex l M d K (pc + 1) ls (.long (x - x / y * y) :: st) sh I L R k n) : Ex l M d K (pc) ls (.long y :: .long x :: st) sh I L R k n := by
  intro w p e s m args below meth c A mc ms n0 ad0 ad H locs cells slots la F S hS hk hn hl ho hs
  exact lv_lrem F.x F.b hd hne (kk w p e s m args below meth c A mc ms n0 ad0 ad H locs cells slots la F S hS hk hn hl ho (fun v hv => by rcases List.mem_cons.mp hv with rfl | hv; exact trivial; exact (fun v hv => hs v (List.mem_cons_of_mem _ (List.mem_cons_of_mem _ (hv)))) v hv))
theorem e_i2l {x : Int32} (hd : decode M.2.1 pc = .ok (.i2l, 1))  (kk : Ex l M d K (pc + 1) ls (.long x.toInt64 :: st) sh I L R k n) : Ex l M d K (pc) ls (.int x :: st) sh I L R k n := by
  intro w p e s m args below meth c A mc ms n0 ad0 ad H locs cells slots la F S hS hk hn hl ho hs
  exact lv_i2l F.x F.b hd rfl (kk w p e s m args below meth c A mc ms n0 ad0 ad H locs cells slots la F S hS hk hn hl ho (fun v hv => by rcases List.mem_cons.mp hv with rfl | hv; exact trivial; exact (fun v hv => hs v (List.mem_cons_of_mem _ (hv))) v hv))
theorem e_l2i {x : Int64} (hd : decode M.2.1 pc = .ok (.l2i, 1))  (kk : Ex l M d K (pc + 1) ls (.int x.toInt32 :: st) sh I L R k n) : Ex l M d K (pc) ls (.long x :: st) sh I L R k n := by
  intro w p e s m args below meth c A mc ms n0 ad0 ad H locs cells slots la F S hS hk hn hl ho hs
  exact lv_l2i F.x F.b hd rfl (kk w p e s m args below meth c A mc ms n0 ad0 ad H locs cells slots la F S hS hk hn hl ho (fun v hv => by rcases List.mem_cons.mp hv with rfl | hv; exact trivial; exact (fun v hv => hs v (List.mem_cons_of_mem _ (hv))) v hv))
theorem e_i2b {x : Int32} (hd : decode M.2.1 pc = .ok (.i2b, 1))  (kk : Ex l M d K (pc + 1) ls (.int x.toInt8.toInt32 :: st) sh I L R k n) : Ex l M d K (pc) ls (.int x :: st) sh I L R k n := by
  intro w p e s m args below meth c A mc ms n0 ad0 ad H locs cells slots la F S hS hk hn hl ho hs
  exact lv_i2b F.x F.b hd rfl (kk w p e s m args below meth c A mc ms n0 ad0 ad H locs cells slots la F S hS hk hn hl ho (fun v hv => by rcases List.mem_cons.mp hv with rfl | hv; exact trivial; exact (fun v hv => hs v (List.mem_cons_of_mem _ (hv))) v hv))
theorem e_i2c {x v : Int32} (hd : decode M.2.1 pc = .ok (.i2c, 1)) (hv : (x.toUInt32 % 65536).toInt32 = v) (kk : Ex l M d K (pc + 1) ls (.int v :: st) sh I L R k n) : Ex l M d K (pc) ls (.int x :: st) sh I L R k n := by
  intro w p e s m args below meth c A mc ms n0 ad0 ad H locs cells slots la F S hS hk hn hl ho hs
  exact lv_i2c F.x F.b hd hv (kk w p e s m args below meth c A mc ms n0 ad0 ad H locs cells slots la F S hS hk hn hl ho (fun v hv => by rcases List.mem_cons.mp hv with rfl | hv; exact trivial; exact (fun v hv => hs v (List.mem_cons_of_mem _ (hv))) v hv))
theorem e_lcmp {x y : Int64} (hd : decode M.2.1 pc = .ok (.lcmp, 1))  (kk : Ex l M d K (pc + 1) ls (.int (lg_cmp x y) :: st) sh I L R k n) : Ex l M d K (pc) ls (.long y :: .long x :: st) sh I L R k n := by
  intro w p e s m args below meth c A mc ms n0 ad0 ad H locs cells slots la F S hS hk hn hl ho hs
  exact W.lcmp F.x F.b hd (kk w p e s m args below meth c A mc ms n0 ad0 ad H locs cells slots la F S hS hk hn hl ho (fun v hv => by rcases List.mem_cons.mp hv with rfl | hv; exact trivial; exact (fun v hv => hs v (List.mem_cons_of_mem _ (List.mem_cons_of_mem _ (hv)))) v hv))
theorem e_ldc {ix : Nat} {v : Int32} (hd : decode M.2.1 pc = .ok (.ldc ix, 2)) (hq : Jvm.Cond.constant M.1 ix v ∈ lw_all) (kk : Ex l M d K (pc + 2) ls (.int v :: st) sh I L R k n) : Ex l M d K (pc) ls (st) sh I L R k n := by
  intro w p e s m args below meth c A mc ms n0 ad0 ad H locs cells slots la F S hS hk hn hl ho hs
  exact lv_ldc F.x F.b F.own (F.ts _ hq) hd (kk w p e s m args below meth c A mc ms n0 ad0 ad H locs cells slots la F S hS hk hn hl ho (fun v hv => by rcases List.mem_cons.mp hv with rfl | hv; exact trivial; exact hs v hv))
theorem e_ldcw {ix : Nat} {v : Int32} (hd : decode M.2.1 pc = .ok (.ldc_w ix, 3)) (hq : Jvm.Cond.constant M.1 ix v ∈ lw_all) (kk : Ex l M d K (pc + 3) ls (.int v :: st) sh I L R k n) : Ex l M d K (pc) ls (st) sh I L R k n := by
  intro w p e s m args below meth c A mc ms n0 ad0 ad H locs cells slots la F S hS hk hn hl ho hs
  exact lv_ldcw F.x F.b F.own (F.ts _ hq) hd (kk w p e s m args below meth c A mc ms n0 ad0 ad H locs cells slots la F S hS hk hn hl ho (fun v hv => by rcases List.mem_cons.mp hv with rfl | hv; exact trivial; exact hs v hv))
theorem e_ldc2 {ix : Nat} {v : Int64} (hd : decode M.2.1 pc = .ok (.ldc2_w ix, 3)) (hq : Jvm.Cond.constantLong M.1 ix v ∈ lw_all) (kk : Ex l M d K (pc + 3) ls (.long v :: st) sh I L R k n) : Ex l M d K (pc) ls (st) sh I L R k n := by
  intro w p e s m args below meth c A mc ms n0 ad0 ad H locs cells slots la F S hS hk hn hl ho hs
  exact lv_ldc2 F.x F.b F.own (F.ts _ hq) hd (kk w p e s m args below meth c A mc ms n0 ad0 ad H locs cells slots la F S hS hk hn hl ho (fun v hv => by rcases List.mem_cons.mp hv with rfl | hv; exact trivial; exact hs v hv))
theorem e_ldcS {ix : Nat} {j : Nat} {tx : String} (hd : decode M.2.1 pc = .ok (.ldc ix, 2)) (hj : j < 19) (hq : (M.1, ix, tx, j) ∈ exLd) (kk : Ex l M d K (pc + 2) ls (.float j.toUInt32 :: st) sh I L R k n) : Ex l M d K (pc) ls (st) sh I L R k n := by
  intro w p e s m args below meth c A mc ms n0 ad0 ad H locs cells slots la F S hS hk hn hl ho hs
  exact va_ldcS F.x F.b F.own (by have h := F.B.2.2.2.1 _ hq; exact (show (Nat.toUInt32 j).toNat = j from by simp [Nat.toUInt32]; omega) ▸ h) hd (kk w p e s m args below meth c A mc ms n0 ad0 ad H locs cells slots la F S hS hk hn hl ho (fun v hv => by rcases List.mem_cons.mp hv with rfl | hv; exact trivial; exact hs v hv))
theorem e_iload_n {z : Fin 4} {i : Nat} {x : Int32} (hd : decode M.2.1 pc = .ok (.iload_n z, 1)) (hi : (z : Nat) = i) (hg : exAt ls i = some (.int x)) (kk : Ex l M d K (pc + 1) ls (.int x :: st) sh I L R k n) : Ex l M d K (pc) ls (st) sh I L R k n := by
  intro w p e s m args below meth c A mc ms n0 ad0 ad H locs cells slots la F S hS hk hn hl ho hs
  have hv := exAt_has hl hg
  have hs2 : ∀ v ∈ (.int x) :: st, exOk sh.length v := fun v hv => by rcases List.mem_cons.mp hv with rfl | hv; exact ho _ (exAt_mem hg); exact hs v hv
  exact lv_iload_n F.x F.b hd hi hv (kk w p e s m args below meth c A mc ms n0 ad0 ad H locs cells slots la F S hS hk hn hl ho hs2)
theorem e_iload {i : Nat} {x : Int32} (hd : decode M.2.1 pc = .ok (.iload i, 2))  (hg : exAt ls i = some (.int x)) (kk : Ex l M d K (pc + 2) ls (.int x :: st) sh I L R k n) : Ex l M d K (pc) ls (st) sh I L R k n := by
  intro w p e s m args below meth c A mc ms n0 ad0 ad H locs cells slots la F S hS hk hn hl ho hs
  have hv := exAt_has hl hg
  have hs2 : ∀ v ∈ (.int x) :: st, exOk sh.length v := fun v hv => by rcases List.mem_cons.mp hv with rfl | hv; exact ho _ (exAt_mem hg); exact hs v hv
  exact lv_iload F.x F.b hd hv (kk w p e s m args below meth c A mc ms n0 ad0 ad H locs cells slots la F S hS hk hn hl ho hs2)
theorem e_lload_n {z : Fin 4} {i : Nat} {x : Int64} (hd : decode M.2.1 pc = .ok (.lload_n z, 1)) (hi : (z : Nat) = i) (hg : exAt ls i = some (.long x)) (kk : Ex l M d K (pc + 1) ls (.long x :: st) sh I L R k n) : Ex l M d K (pc) ls (st) sh I L R k n := by
  intro w p e s m args below meth c A mc ms n0 ad0 ad H locs cells slots la F S hS hk hn hl ho hs
  have hv := exAt_has hl hg
  have hs2 : ∀ v ∈ (.long x) :: st, exOk sh.length v := fun v hv => by rcases List.mem_cons.mp hv with rfl | hv; exact ho _ (exAt_mem hg); exact hs v hv
  exact lv_lload_n F.x F.b hd hi hv (kk w p e s m args below meth c A mc ms n0 ad0 ad H locs cells slots la F S hS hk hn hl ho hs2)
theorem e_lload {i : Nat} {x : Int64} (hd : decode M.2.1 pc = .ok (.lload i, 2))  (hg : exAt ls i = some (.long x)) (kk : Ex l M d K (pc + 2) ls (.long x :: st) sh I L R k n) : Ex l M d K (pc) ls (st) sh I L R k n := by
  intro w p e s m args below meth c A mc ms n0 ad0 ad H locs cells slots la F S hS hk hn hl ho hs
  have hv := exAt_has hl hg
  have hs2 : ∀ v ∈ (.long x) :: st, exOk sh.length v := fun v hv => by rcases List.mem_cons.mp hv with rfl | hv; exact ho _ (exAt_mem hg); exact hs v hv
  exact lv_lload F.x F.b hd hv (kk w p e s m args below meth c A mc ms n0 ad0 ad H locs cells slots la F S hS hk hn hl ho hs2)
theorem e_aload_n {z : Fin 4} {i : Nat} {x : Value} (hd : decode M.2.1 pc = .ok (.aload_n z, 1)) (hi : (z : Nat) = i) (hr : exRl x = true) (hg : exAt ls i = some (x)) (kk : Ex l M d K (pc + 1) ls (x :: st) sh I L R k n) : Ex l M d K (pc) ls (st) sh I L R k n := by
  intro w p e s m args below meth c A mc ms n0 ad0 ad H locs cells slots la F S hS hk hn hl ho hs
  have hv := exAt_has hl hg
  have hs2 : ∀ v ∈ (x) :: st, exOk sh.length v := fun v hv => by rcases List.mem_cons.mp hv with rfl | hv; exact ho _ (exAt_mem hg); exact hs v hv
  cases x <;> first | (exact lv_aload_n F.x F.b hd hi hv (kk w p e s m args below meth c A mc ms n0 ad0 ad H locs cells slots la F S hS hk hn hl ho hs2)) | (exact lv_aload_nN F.x F.b hd hi hv (kk w p e s m args below meth c A mc ms n0 ad0 ad H locs cells slots la F S hS hk hn hl ho hs2)) | (cases hr)
theorem e_aload {i : Nat} {x : Value} (hd : decode M.2.1 pc = .ok (.aload i, 2)) (hr : exRl x = true) (hg : exAt ls i = some (x)) (kk : Ex l M d K (pc + 2) ls (x :: st) sh I L R k n) : Ex l M d K (pc) ls (st) sh I L R k n := by
  intro w p e s m args below meth c A mc ms n0 ad0 ad H locs cells slots la F S hS hk hn hl ho hs
  have hv := exAt_has hl hg
  have hs2 : ∀ v ∈ (x) :: st, exOk sh.length v := fun v hv => by rcases List.mem_cons.mp hv with rfl | hv; exact ho _ (exAt_mem hg); exact hs v hv
  cases x <;> first | (exact lv_aload F.x F.b hd hv (kk w p e s m args below meth c A mc ms n0 ad0 ad H locs cells slots la F S hS hk hn hl ho hs2)) | (exact lv_aloadN F.x F.b hd hv (kk w p e s m args below meth c A mc ms n0 ad0 ad H locs cells slots la F S hS hk hn hl ho hs2)) | (cases hr)
theorem e_istore_n {z : Fin 4} {i : Nat} {x : Int32} (hd : decode M.2.1 pc = .ok (.istore_n z, 1)) (hi : (z : Nat) = i) (hi2 : i < M.2.2.1) (hls : (i, .int x) :: exDel1 i ls = ls') (kk : Ex l M d K (pc + 1) ls' (st) sh I L R k n) : Ex l M d K (pc) ls (.int x :: st) sh I L R k n := by
  intro w p e s m args below meth c A mc ms n0 ad0 ad H locs cells slots la F S hS hk hn hl ho hs
  subst hls
  have ho2 : ∀ q ∈ (i, .int x) :: exDel1 i ls, exOk sh.length q.2 := fun q hq => by rcases List.mem_cons.mp hq with rfl | hq; exact hs _ List.mem_cons_self; exact ho q (exDel1_sub hq)
  have hs2 : ∀ v ∈ st, exOk sh.length v := fun v hv => hs v (List.mem_cons_of_mem _ hv)
  exact lv_istore_n F.x F.b hd hi hl hi2 rfl (fun la' hl' => kk w p e s m args below meth c A mc ms n0 ad0 ad H locs cells slots la' F S hS hk hn (by rw [List.map_cons, ← exDel1_map]; exact hl') ho2 hs2)
theorem e_istore {i : Nat} {x : Int32} (hd : decode M.2.1 pc = .ok (.istore i, 2))  (hi2 : i < M.2.2.1) (hls : (i, .int x) :: exDel1 i ls = ls') (kk : Ex l M d K (pc + 2) ls' (st) sh I L R k n) : Ex l M d K (pc) ls (.int x :: st) sh I L R k n := by
  intro w p e s m args below meth c A mc ms n0 ad0 ad H locs cells slots la F S hS hk hn hl ho hs
  subst hls
  have ho2 : ∀ q ∈ (i, .int x) :: exDel1 i ls, exOk sh.length q.2 := fun q hq => by rcases List.mem_cons.mp hq with rfl | hq; exact hs _ List.mem_cons_self; exact ho q (exDel1_sub hq)
  have hs2 : ∀ v ∈ st, exOk sh.length v := fun v hv => hs v (List.mem_cons_of_mem _ hv)
  exact lv_istore F.x F.b hd hl hi2 rfl (fun la' hl' => kk w p e s m args below meth c A mc ms n0 ad0 ad H locs cells slots la' F S hS hk hn (by rw [List.map_cons, ← exDel1_map]; exact hl') ho2 hs2)
theorem e_lstore_n {z : Fin 4} {i : Nat} {x : Int64} (hd : decode M.2.1 pc = .ok (.lstore_n z, 1)) (hi : (z : Nat) = i) (hi2 : i + 1 < M.2.2.1) (hls : (i, .long x) :: exDel2 i ls = ls') (kk : Ex l M d K (pc + 1) ls' (st) sh I L R k n) : Ex l M d K (pc) ls (.long x :: st) sh I L R k n := by
  intro w p e s m args below meth c A mc ms n0 ad0 ad H locs cells slots la F S hS hk hn hl ho hs
  subst hls
  have ho2 : ∀ q ∈ (i, .long x) :: exDel2 i ls, exOk sh.length q.2 := fun q hq => by rcases List.mem_cons.mp hq with rfl | hq; exact hs _ List.mem_cons_self; exact ho q (exDel2_sub hq)
  have hs2 : ∀ v ∈ st, exOk sh.length v := fun v hv => hs v (List.mem_cons_of_mem _ hv)
  exact lv_lstore_n F.x F.b hd hi hl hi2 rfl (fun la' hl' => kk w p e s m args below meth c A mc ms n0 ad0 ad H locs cells slots la' F S hS hk hn (by rw [List.map_cons, ← exDel2_map]; exact hl') ho2 hs2)
theorem e_lstore {i : Nat} {x : Int64} (hd : decode M.2.1 pc = .ok (.lstore i, 2))  (hi2 : i + 1 < M.2.2.1) (hls : (i, .long x) :: exDel2 i ls = ls') (kk : Ex l M d K (pc + 2) ls' (st) sh I L R k n) : Ex l M d K (pc) ls (.long x :: st) sh I L R k n := by
  intro w p e s m args below meth c A mc ms n0 ad0 ad H locs cells slots la F S hS hk hn hl ho hs
  subst hls
  have ho2 : ∀ q ∈ (i, .long x) :: exDel2 i ls, exOk sh.length q.2 := fun q hq => by rcases List.mem_cons.mp hq with rfl | hq; exact hs _ List.mem_cons_self; exact ho q (exDel2_sub hq)
  have hs2 : ∀ v ∈ st, exOk sh.length v := fun v hv => hs v (List.mem_cons_of_mem _ hv)
  exact lv_lstore F.x F.b hd hl hi2 rfl (fun la' hl' => kk w p e s m args below meth c A mc ms n0 ad0 ad H locs cells slots la' F S hS hk hn (by rw [List.map_cons, ← exDel2_map]; exact hl') ho2 hs2)
theorem e_astore_n {z : Fin 4} {i : Nat} {x : Value} (hd : decode M.2.1 pc = .ok (.astore_n z, 1)) (hi : (z : Nat) = i) (hr : exRl x = true) (hi2 : i < M.2.2.1) (hls : (i, x) :: exDel1 i ls = ls') (kk : Ex l M d K (pc + 1) ls' (st) sh I L R k n) : Ex l M d K (pc) ls (x :: st) sh I L R k n := by
  intro w p e s m args below meth c A mc ms n0 ad0 ad H locs cells slots la F S hS hk hn hl ho hs
  subst hls
  have ho2 : ∀ q ∈ (i, x) :: exDel1 i ls, exOk sh.length q.2 := fun q hq => by rcases List.mem_cons.mp hq with rfl | hq; exact hs _ List.mem_cons_self; exact ho q (exDel1_sub hq)
  have hs2 : ∀ v ∈ st, exOk sh.length v := fun v hv => hs v (List.mem_cons_of_mem _ hv)
  cases x <;> first | (exact lv_astore_n F.x F.b hd hi hl hi2 rfl (fun la' hl' => kk w p e s m args below meth c A mc ms n0 ad0 ad H locs cells slots la' F S hS hk hn (by rw [List.map_cons, ← exDel1_map]; exact hl') ho2 hs2)) | (exact lv_astore_nN F.x F.b hd hi hl hi2 rfl (fun la' hl' => kk w p e s m args below meth c A mc ms n0 ad0 ad H locs cells slots la' F S hS hk hn (by rw [List.map_cons, ← exDel1_map]; exact hl') ho2 hs2)) | (cases hr)
theorem e_astore {i : Nat} {x : Value} (hd : decode M.2.1 pc = .ok (.astore i, 2)) (hr : exRl x = true) (hi2 : i < M.2.2.1) (hls : (i, x) :: exDel1 i ls = ls') (kk : Ex l M d K (pc + 2) ls' (st) sh I L R k n) : Ex l M d K (pc) ls (x :: st) sh I L R k n := by
  intro w p e s m args below meth c A mc ms n0 ad0 ad H locs cells slots la F S hS hk hn hl ho hs
  subst hls
  have ho2 : ∀ q ∈ (i, x) :: exDel1 i ls, exOk sh.length q.2 := fun q hq => by rcases List.mem_cons.mp hq with rfl | hq; exact hs _ List.mem_cons_self; exact ho q (exDel1_sub hq)
  have hs2 : ∀ v ∈ st, exOk sh.length v := fun v hv => hs v (List.mem_cons_of_mem _ hv)
  cases x <;> first | (exact lv_astore F.x F.b hd hl hi2 rfl (fun la' hl' => kk w p e s m args below meth c A mc ms n0 ad0 ad H locs cells slots la' F S hS hk hn (by rw [List.map_cons, ← exDel1_map]; exact hl') ho2 hs2)) | (exact lv_astoreN F.x F.b hd hl hi2 rfl (fun la' hl' => kk w p e s m args below meth c A mc ms n0 ad0 ad H locs cells slots la' F S hS hk hn (by rw [List.map_cons, ← exDel1_map]; exact hl') ho2 hs2)) | (cases hr)
theorem exAt_place {w : ExW} {ad : Nat → Nat} {ls : List (Nat × Value)} {i : Nat} {x : Int32} (h : exAt ls i = some (.int x)) : ∃ j : Nat, (ls.map (fun q => (q.1, exV w ad q.2)))[j]? = some (i, Value.int x) := by
  obtain ⟨j, hj⟩ := List.getElem?_of_mem (exAt_mem h)
  exact ⟨j, by rw [List.getElem?_map, hj]; rfl⟩
theorem e_iinc {i : Nat} {z : Int} {x v : Int32} (hd : decode M.2.1 pc = .ok (.iinc i z, 3)) (hg : exAt ls i = some (.int x)) (hv : x + Int32.ofInt z = v) (hi2 : i < M.2.2.1) (hls : (i, .int v) :: exDel1 i ls = ls') (kk : Ex l M d K (pc + 3) ls' st sh I L R k n) : Ex l M d K pc ls st sh I L R k n := by
  intro w p e s m args below meth c A mc ms n0 ad0 ad H locs cells slots la F S hS hk hn hl ho hs
  subst hls
  obtain ⟨j, hj⟩ := exAt_place (w := w) (ad := ad) hg
  have ho2 : ∀ q ∈ (i, Value.int v) :: exDel1 i ls, exOk sh.length q.2 := fun q hq => by rcases List.mem_cons.mp hq with rfl | hq; exact trivial; exact ho q (exDel1_sub hq)
  exact lv_iinc F.x F.b hd hl hj hv hi2 rfl (fun la' hl' => kk w p e s m args below meth c A mc ms n0 ad0 ad H locs cells slots la' F S hS hk hn (by rw [List.map_cons, ← exDel1_map]; exact hl') ho2 hs)
theorem e_sub (hls : ∀ q ∈ ls', q ∈ ls) (kk : Ex l M d K pc ls' st sh I L R k n) : Ex l M d K pc ls st sh I L R k n := by
  intro w p e s m args below meth c A mc ms n0 ad0 ad H locs cells slots la F S hS hk hn hl ho hs
  refine kk w p e s m args below meth c A mc ms n0 ad0 ad H locs cells slots la F S hS hk hn ⟨hl.1, hl.2.1, fun q hq => ?_⟩ (fun q hq => ho q (hls q hq)) hs
  obtain ⟨q0, h1, h2⟩ := List.mem_map.mp hq
  exact hl.2.2 q (List.mem_map.mpr ⟨q0, hls q0 h1, h2⟩)
/-- the locals in another order, or fewer: by their places -/
theorem e_pick (ks : List Nat) (hls : ks.filterMap (fun j => ls[j]?) = ls') (kk : Ex l M d K pc ls' st sh I L R k n) : Ex l M d K pc ls st sh I L R k n := by
  refine e_sub (fun q hq => ?_) kk
  rw [← hls] at hq
  obtain ⟨j, -, hj⟩ := List.mem_filterMap.mp hq
  exact List.mem_of_getElem? hj
theorem e_widen {k' n' : Nat} (h1 : k' ≤ k) (h2 : n' ≤ n) (kk : Ex l M d K pc ls st sh I L R k' n') : Ex l M d K pc ls st sh I L R k n := by
  intro w p e s m args below meth c A mc ms n0 ad0 ad H locs cells slots la F S hS hk hn hl ho hs
  exact kk w p e s m args below meth c A mc ms n0 ad0 ad H locs cells slots la F S hS (by omega) (by omega) hl ho hs
theorem e_mono {K' : ExK} (h : ∀ o a b c2 r, K' o a b c2 r → K o a b c2 r) (kk : Ex l M d K' pc ls st sh I L R k n) : Ex l M d K pc ls st sh I L R k n := by
  intro w p e s m args below meth c A mc ms n0 ad0 ad H locs cells slots la F S hS hk hn hl ho hs
  intro T hT X
  obtain ⟨t, a1, o, b1, b2, b3⟩ := kk w p e s m args below meth c A mc ms n0 ad0 ad H locs cells slots la F S hS hk hn hl ho hs T hT X
  refine ⟨t, a1, o, b1, b2, ?_⟩
  rcases b3 with ⟨⟨⟨v, a2, b4, c4, r4, ad4, h1, h2, h3⟩, h4⟩, h5⟩ | ⟨q, h1, E, ce, L4, ⟨⟨h2, a2, b4, c4, r4, ad4, h3, h6⟩, h4⟩, h5⟩
  · exact Or.inl ⟨⟨⟨v, a2, b4, c4, r4, ad4, h1, h _ _ _ _ _ h2, h3⟩, h4⟩, h5⟩
  · exact Or.inr ⟨q, h1, E, ce, L4, ⟨⟨h2, a2, b4, c4, r4, ad4, h _ _ _ _ _ h3, h6⟩, h4⟩, h5⟩

theorem e_dup {v : Value} (hd : decode M.2.1 pc = .ok (.dup, 1)) (hc : exC2 v = false) (kk : Ex l M d K (pc + 1) ls (v :: v :: st) sh I L R k n) : Ex l M d K pc ls (v :: st) sh I L R k n := by
  intro w p e s m args below meth c A mc ms n0 ad0 ad H locs cells slots la F S hS hk hn hl ho hs
  exact lv_dup F.x F.b hd (by rw [exV_cat]; cases v <;> first | rfl | cases hc) (kk w p e s m args below meth c A mc ms n0 ad0 ad H locs cells slots la F S hS hk hn hl ho (fun v hv => by rcases List.mem_cons.mp hv with rfl | hv; exact hs _ List.mem_cons_self; exact hs _ hv))
theorem e_pop {v : Value} (hd : decode M.2.1 pc = .ok (.pop, 1)) (hc : exC2 v = false) (kk : Ex l M d K (pc + 1) ls st sh I L R k n) : Ex l M d K pc ls (v :: st) sh I L R k n := by
  intro w p e s m args below meth c A mc ms n0 ad0 ad H locs cells slots la F S hS hk hn hl ho hs
  exact lv_pop F.x F.b hd (by rw [exV_cat]; cases v <;> first | rfl | cases hc) (kk w p e s m args below meth c A mc ms n0 ad0 ad H locs cells slots la F S hS hk hn hl ho (fun v hv => hs _ (List.mem_cons_of_mem _ hv)))
theorem e_dup2 {v u : Value} (hd : decode M.2.1 pc = .ok (.dup2, 1)) (hc : exC2 v = false) (hc2 : exC2 u = false) (kk : Ex l M d K (pc + 1) ls (v :: u :: v :: u :: st) sh I L R k n) : Ex l M d K pc ls (v :: u :: st) sh I L R k n := by
  intro w p e s m args below meth c A mc ms n0 ad0 ad H locs cells slots la F S hS hk hn hl ho hs
  exact lv_dup2_11 F.x F.b hd (by rw [exV_cat]; cases v <;> first | rfl | cases hc) (by rw [exV_cat]; cases u <;> first | rfl | cases hc2) (kk w p e s m args below meth c A mc ms n0 ad0 ad H locs cells slots la F S hS hk hn hl ho (fun x hx => by rcases List.mem_cons.mp hx with rfl | hx; exact hs _ List.mem_cons_self; rcases List.mem_cons.mp hx with rfl | hx; exact hs _ (List.mem_cons_of_mem _ List.mem_cons_self); exact hs _ hx))
theorem e_dup_x1 {v u : Value} (hd : decode M.2.1 pc = .ok (.dup_x1, 1)) (hc : exC2 v = false) (hc2 : exC2 u = false) (kk : Ex l M d K (pc + 1) ls (v :: u :: v :: st) sh I L R k n) : Ex l M d K pc ls (v :: u :: st) sh I L R k n := by
  intro w p e s m args below meth c A mc ms n0 ad0 ad H locs cells slots la F S hS hk hn hl ho hs
  exact lv_dup_x1 F.x F.b hd (by rw [exV_cat]; cases v <;> first | rfl | cases hc) (by rw [exV_cat]; cases u <;> first | rfl | cases hc2) (kk w p e s m args below meth c A mc ms n0 ad0 ad H locs cells slots la F S hS hk hn hl ho (fun x hx => by rcases List.mem_cons.mp hx with rfl | hx; exact hs _ List.mem_cons_self; rcases List.mem_cons.mp hx with rfl | hx; exact hs _ (List.mem_cons_of_mem _ List.mem_cons_self); rcases List.mem_cons.mp hx with rfl | hx; exact hs _ List.mem_cons_self; exact hs _ (List.mem_cons_of_mem _ (List.mem_cons_of_mem _ hx))))

theorem e_if_eq {x : Int32} {off : Int} {tgt : Nat} (hd : decode M.2.1 pc = .ok (.ifCond .eq off, 3)) (ht : (pc : Int) + off = (tgt : Int)) (kt : x = 0 → Ex l M d K (tgt) ls (st) sh I L R k n) (kf : ¬ x = 0 → Ex l M d K (pc + 3) ls (st) sh I L R k n) : Ex l M d K (pc) ls (.int x :: st) sh I L R k n := by
  intro w p e s m args below meth c A mc ms n0 ad0 ad H locs cells slots la F S hS hk hn hl ho hs
  exact lv_if_eq F.x F.b hd ht (fun h => kt h w p e s m args below meth c A mc ms n0 ad0 ad H locs cells slots la F S hS hk hn hl ho (fun v hv => hs v (List.mem_cons_of_mem _ hv))) (fun h => kf h w p e s m args below meth c A mc ms n0 ad0 ad H locs cells slots la F S hS hk hn hl ho (fun v hv => hs v (List.mem_cons_of_mem _ hv)))
theorem e_icmp_eq {x y : Int32} {off : Int} {tgt : Nat} (hd : decode M.2.1 pc = .ok (.if_icmp .eq off, 3)) (ht : (pc : Int) + off = (tgt : Int)) (kt : x = y → Ex l M d K (tgt) ls (st) sh I L R k n) (kf : ¬ x = y → Ex l M d K (pc + 3) ls (st) sh I L R k n) : Ex l M d K (pc) ls (.int y :: .int x :: st) sh I L R k n := by
  intro w p e s m args below meth c A mc ms n0 ad0 ad H locs cells slots la F S hS hk hn hl ho hs
  exact lv_icmp_eq F.x F.b hd ht (fun h => kt h w p e s m args below meth c A mc ms n0 ad0 ad H locs cells slots la F S hS hk hn hl ho (fun v hv => hs v (List.mem_cons_of_mem _ (List.mem_cons_of_mem _ hv)))) (fun h => kf h w p e s m args below meth c A mc ms n0 ad0 ad H locs cells slots la F S hS hk hn hl ho (fun v hv => hs v (List.mem_cons_of_mem _ (List.mem_cons_of_mem _ hv))))
theorem e_if_ne {x : Int32} {off : Int} {tgt : Nat} (hd : decode M.2.1 pc = .ok (.ifCond .ne off, 3)) (ht : (pc : Int) + off = (tgt : Int)) (kt : ¬ x = 0 → Ex l M d K (tgt) ls (st) sh I L R k n) (kf : x = 0 → Ex l M d K (pc + 3) ls (st) sh I L R k n) : Ex l M d K (pc) ls (.int x :: st) sh I L R k n := by
  intro w p e s m args below meth c A mc ms n0 ad0 ad H locs cells slots la F S hS hk hn hl ho hs
  exact lv_if_ne F.x F.b hd ht (fun h => kt h w p e s m args below meth c A mc ms n0 ad0 ad H locs cells slots la F S hS hk hn hl ho (fun v hv => hs v (List.mem_cons_of_mem _ hv))) (fun h => kf h w p e s m args below meth c A mc ms n0 ad0 ad H locs cells slots la F S hS hk hn hl ho (fun v hv => hs v (List.mem_cons_of_mem _ hv)))
theorem e_icmp_ne {x y : Int32} {off : Int} {tgt : Nat} (hd : decode M.2.1 pc = .ok (.if_icmp .ne off, 3)) (ht : (pc : Int) + off = (tgt : Int)) (kt : ¬ x = y → Ex l M d K (tgt) ls (st) sh I L R k n) (kf : x = y → Ex l M d K (pc + 3) ls (st) sh I L R k n) : Ex l M d K (pc) ls (.int y :: .int x :: st) sh I L R k n := by
  intro w p e s m args below meth c A mc ms n0 ad0 ad H locs cells slots la F S hS hk hn hl ho hs
  exact lv_icmp_ne F.x F.b hd ht (fun h => kt h w p e s m args below meth c A mc ms n0 ad0 ad H locs cells slots la F S hS hk hn hl ho (fun v hv => hs v (List.mem_cons_of_mem _ (List.mem_cons_of_mem _ hv)))) (fun h => kf h w p e s m args below meth c A mc ms n0 ad0 ad H locs cells slots la F S hS hk hn hl ho (fun v hv => hs v (List.mem_cons_of_mem _ (List.mem_cons_of_mem _ hv))))
theorem e_if_lt {x : Int32} {off : Int} {tgt : Nat} (hd : decode M.2.1 pc = .ok (.ifCond .lt off, 3)) (ht : (pc : Int) + off = (tgt : Int)) (kt : x < 0 → Ex l M d K (tgt) ls (st) sh I L R k n) (kf : ¬ x < 0 → Ex l M d K (pc + 3) ls (st) sh I L R k n) : Ex l M d K (pc) ls (.int x :: st) sh I L R k n := by
  intro w p e s m args below meth c A mc ms n0 ad0 ad H locs cells slots la F S hS hk hn hl ho hs
  exact lv_if_lt F.x F.b hd ht (fun h => kt h w p e s m args below meth c A mc ms n0 ad0 ad H locs cells slots la F S hS hk hn hl ho (fun v hv => hs v (List.mem_cons_of_mem _ hv))) (fun h => kf h w p e s m args below meth c A mc ms n0 ad0 ad H locs cells slots la F S hS hk hn hl ho (fun v hv => hs v (List.mem_cons_of_mem _ hv)))
theorem e_icmp_lt {x y : Int32} {off : Int} {tgt : Nat} (hd : decode M.2.1 pc = .ok (.if_icmp .lt off, 3)) (ht : (pc : Int) + off = (tgt : Int)) (kt : x < y → Ex l M d K (tgt) ls (st) sh I L R k n) (kf : ¬ x < y → Ex l M d K (pc + 3) ls (st) sh I L R k n) : Ex l M d K (pc) ls (.int y :: .int x :: st) sh I L R k n := by
  intro w p e s m args below meth c A mc ms n0 ad0 ad H locs cells slots la F S hS hk hn hl ho hs
  exact lv_icmp_lt F.x F.b hd ht (fun h => kt h w p e s m args below meth c A mc ms n0 ad0 ad H locs cells slots la F S hS hk hn hl ho (fun v hv => hs v (List.mem_cons_of_mem _ (List.mem_cons_of_mem _ hv)))) (fun h => kf h w p e s m args below meth c A mc ms n0 ad0 ad H locs cells slots la F S hS hk hn hl ho (fun v hv => hs v (List.mem_cons_of_mem _ (List.mem_cons_of_mem _ hv))))
theorem e_if_ge {x : Int32} {off : Int} {tgt : Nat} (hd : decode M.2.1 pc = .ok (.ifCond .ge off, 3)) (ht : (pc : Int) + off = (tgt : Int)) (kt : 0 ≤ x → Ex l M d K (tgt) ls (st) sh I L R k n) (kf : ¬ 0 ≤ x → Ex l M d K (pc + 3) ls (st) sh I L R k n) : Ex l M d K (pc) ls (.int x :: st) sh I L R k n := by
  intro w p e s m args below meth c A mc ms n0 ad0 ad H locs cells slots la F S hS hk hn hl ho hs
  exact lv_if_ge F.x F.b hd ht (fun h => kt h w p e s m args below meth c A mc ms n0 ad0 ad H locs cells slots la F S hS hk hn hl ho (fun v hv => hs v (List.mem_cons_of_mem _ hv))) (fun h => kf h w p e s m args below meth c A mc ms n0 ad0 ad H locs cells slots la F S hS hk hn hl ho (fun v hv => hs v (List.mem_cons_of_mem _ hv)))
theorem e_icmp_ge {x y : Int32} {off : Int} {tgt : Nat} (hd : decode M.2.1 pc = .ok (.if_icmp .ge off, 3)) (ht : (pc : Int) + off = (tgt : Int)) (kt : y ≤ x → Ex l M d K (tgt) ls (st) sh I L R k n) (kf : ¬ y ≤ x → Ex l M d K (pc + 3) ls (st) sh I L R k n) : Ex l M d K (pc) ls (.int y :: .int x :: st) sh I L R k n := by
  intro w p e s m args below meth c A mc ms n0 ad0 ad H locs cells slots la F S hS hk hn hl ho hs
  exact lv_icmp_ge F.x F.b hd ht (fun h => kt h w p e s m args below meth c A mc ms n0 ad0 ad H locs cells slots la F S hS hk hn hl ho (fun v hv => hs v (List.mem_cons_of_mem _ (List.mem_cons_of_mem _ hv)))) (fun h => kf h w p e s m args below meth c A mc ms n0 ad0 ad H locs cells slots la F S hS hk hn hl ho (fun v hv => hs v (List.mem_cons_of_mem _ (List.mem_cons_of_mem _ hv))))
theorem e_if_gt {x : Int32} {off : Int} {tgt : Nat} (hd : decode M.2.1 pc = .ok (.ifCond .gt off, 3)) (ht : (pc : Int) + off = (tgt : Int)) (kt : 0 < x → Ex l M d K (tgt) ls (st) sh I L R k n) (kf : ¬ 0 < x → Ex l M d K (pc + 3) ls (st) sh I L R k n) : Ex l M d K (pc) ls (.int x :: st) sh I L R k n := by
  intro w p e s m args below meth c A mc ms n0 ad0 ad H locs cells slots la F S hS hk hn hl ho hs
  exact lv_if_gt F.x F.b hd ht (fun h => kt h w p e s m args below meth c A mc ms n0 ad0 ad H locs cells slots la F S hS hk hn hl ho (fun v hv => hs v (List.mem_cons_of_mem _ hv))) (fun h => kf h w p e s m args below meth c A mc ms n0 ad0 ad H locs cells slots la F S hS hk hn hl ho (fun v hv => hs v (List.mem_cons_of_mem _ hv)))
theorem e_icmp_gt {x y : Int32} {off : Int} {tgt : Nat} (hd : decode M.2.1 pc = .ok (.if_icmp .gt off, 3)) (ht : (pc : Int) + off = (tgt : Int)) (kt : y < x → Ex l M d K (tgt) ls (st) sh I L R k n) (kf : ¬ y < x → Ex l M d K (pc + 3) ls (st) sh I L R k n) : Ex l M d K (pc) ls (.int y :: .int x :: st) sh I L R k n := by
  intro w p e s m args below meth c A mc ms n0 ad0 ad H locs cells slots la F S hS hk hn hl ho hs
  exact lv_icmp_gt F.x F.b hd ht (fun h => kt h w p e s m args below meth c A mc ms n0 ad0 ad H locs cells slots la F S hS hk hn hl ho (fun v hv => hs v (List.mem_cons_of_mem _ (List.mem_cons_of_mem _ hv)))) (fun h => kf h w p e s m args below meth c A mc ms n0 ad0 ad H locs cells slots la F S hS hk hn hl ho (fun v hv => hs v (List.mem_cons_of_mem _ (List.mem_cons_of_mem _ hv))))
theorem e_if_le {x : Int32} {off : Int} {tgt : Nat} (hd : decode M.2.1 pc = .ok (.ifCond .le off, 3)) (ht : (pc : Int) + off = (tgt : Int)) (kt : x ≤ 0 → Ex l M d K (tgt) ls (st) sh I L R k n) (kf : ¬ x ≤ 0 → Ex l M d K (pc + 3) ls (st) sh I L R k n) : Ex l M d K (pc) ls (.int x :: st) sh I L R k n := by
  intro w p e s m args below meth c A mc ms n0 ad0 ad H locs cells slots la F S hS hk hn hl ho hs
  exact lv_if_le F.x F.b hd ht (fun h => kt h w p e s m args below meth c A mc ms n0 ad0 ad H locs cells slots la F S hS hk hn hl ho (fun v hv => hs v (List.mem_cons_of_mem _ hv))) (fun h => kf h w p e s m args below meth c A mc ms n0 ad0 ad H locs cells slots la F S hS hk hn hl ho (fun v hv => hs v (List.mem_cons_of_mem _ hv)))
theorem e_icmp_le {x y : Int32} {off : Int} {tgt : Nat} (hd : decode M.2.1 pc = .ok (.if_icmp .le off, 3)) (ht : (pc : Int) + off = (tgt : Int)) (kt : x ≤ y → Ex l M d K (tgt) ls (st) sh I L R k n) (kf : ¬ x ≤ y → Ex l M d K (pc + 3) ls (st) sh I L R k n) : Ex l M d K (pc) ls (.int y :: .int x :: st) sh I L R k n := by
  intro w p e s m args below meth c A mc ms n0 ad0 ad H locs cells slots la F S hS hk hn hl ho hs
  exact lv_icmp_le F.x F.b hd ht (fun h => kt h w p e s m args below meth c A mc ms n0 ad0 ad H locs cells slots la F S hS hk hn hl ho (fun v hv => hs v (List.mem_cons_of_mem _ (List.mem_cons_of_mem _ hv)))) (fun h => kf h w p e s m args below meth c A mc ms n0 ad0 ad H locs cells slots la F S hS hk hn hl ho (fun v hv => hs v (List.mem_cons_of_mem _ (List.mem_cons_of_mem _ hv))))
theorem e_goto {off : Int} {tgt : Nat} (hd : decode M.2.1 pc = .ok (.goto off, 3)) (ht : (pc : Int) + off = (tgt : Int)) (kk : Ex l M d K (tgt) ls (st) sh I L R k n) : Ex l M d K (pc) ls (st) sh I L R k n := by
  intro w p e s m args below meth c A mc ms n0 ad0 ad H locs cells slots la F S hS hk hn hl ho hs
  exact lv_goto F.x F.b hd ht (kk w p e s m args below meth c A mc ms n0 ad0 ad H locs cells slots la F S hS hk hn hl ho hs)
theorem e_ifnull {v : Value} {off : Int} {tgt : Nat} (hd : decode M.2.1 pc = .ok (.ifnull off, 3)) (ht : (pc : Int) + off = (tgt : Int)) (hr : exRl v = true) (kt : v = .null → Ex l M d K (tgt) ls (st) sh I L R k n) (kf : ¬ v = .null → Ex l M d K (pc + 3) ls (st) sh I L R k n) : Ex l M d K (pc) ls (v :: st) sh I L R k n := by
  intro w p e s m args below meth c A mc ms n0 ad0 ad H locs cells slots la F S hS hk hn hl ho hs
  cases v <;> first | (exact lv_ifnullN F.x F.b hd ht (kt rfl w p e s m args below meth c A mc ms n0 ad0 ad H locs cells slots la F S hS hk hn hl ho (fun v hv => hs v (List.mem_cons_of_mem _ hv)))) | (exact lv_ifnull F.x F.b hd (kf (fun z => nomatch z) w p e s m args below meth c A mc ms n0 ad0 ad H locs cells slots la F S hS hk hn hl ho (fun v hv => hs v (List.mem_cons_of_mem _ hv)))) | (cases hr)
theorem e_ifnonnull {v : Value} {off : Int} {tgt : Nat} (hd : decode M.2.1 pc = .ok (.ifnonnull off, 3)) (ht : (pc : Int) + off = (tgt : Int)) (hr : exRl v = true) (kt : ¬ v = .null → Ex l M d K (tgt) ls (st) sh I L R k n) (kf : v = .null → Ex l M d K (pc + 3) ls (st) sh I L R k n) : Ex l M d K (pc) ls (v :: st) sh I L R k n := by
  intro w p e s m args below meth c A mc ms n0 ad0 ad H locs cells slots la F S hS hk hn hl ho hs
  cases v <;> first | (exact lv_ifnonnullN F.x F.b hd (kf rfl w p e s m args below meth c A mc ms n0 ad0 ad H locs cells slots la F S hS hk hn hl ho (fun v hv => hs v (List.mem_cons_of_mem _ hv)))) | (exact lv_ifnonnull F.x F.b hd ht (kt (fun z => nomatch z) w p e s m args below meth c A mc ms n0 ad0 ad H locs cells slots la F S hS hk hn hl ho (fun v hv => hs v (List.mem_cons_of_mem _ hv)))) | (cases hr)
theorem e_tableOut {dflt lo hi : Int} {offs : Array Int} {len : Nat} {x : Int32} {tgt : Nat} (hd : decode M.2.1 pc = .ok (.tableswitch dflt lo hi offs, len)) (h : x.toInt < lo ∨ hi < x.toInt) (ht : (pc : Int) + dflt = (tgt : Int)) (kk : Ex l M d K (tgt) ls (st) sh I L R k n) : Ex l M d K (pc) ls (.int x :: st) sh I L R k n := by
  intro w p e s m args below meth c A mc ms n0 ad0 ad H locs cells slots la F S hS hk hn hl ho hs
  exact lv_tableOut F.x F.b hd h ht (kk w p e s m args below meth c A mc ms n0 ad0 ad H locs cells slots la F S hS hk hn hl ho (fun v hv => hs v (List.mem_cons_of_mem _ hv)))
theorem e_tableIn {dflt lo hi : Int} {offs : Array Int} {len : Nat} {x : Int32} {off : Int} {tgt : Nat} (hd : decode M.2.1 pc = .ok (.tableswitch dflt lo hi offs, len)) (h1 : ¬ x.toInt < lo) (h2 : ¬ hi < x.toInt) (hf : offs[(x.toInt - lo).toNat]? = some off) (ht : (pc : Int) + off = (tgt : Int)) (kk : Ex l M d K (tgt) ls (st) sh I L R k n) : Ex l M d K (pc) ls (.int x :: st) sh I L R k n := by
  intro w p e s m args below meth c A mc ms n0 ad0 ad H locs cells slots la F S hS hk hn hl ho hs
  exact lv_tableIn F.x F.b hd h1 h2 hf ht (kk w p e s m args below meth c A mc ms n0 ad0 ad H locs cells slots la F S hS hk hn hl ho (fun v hv => hs v (List.mem_cons_of_mem _ hv)))
theorem e_lookup {dflt : Int} {ps : Array (Int × Int)} {len : Nat} {x : Int32} {off : Int} {tgt : Nat} (hd : decode M.2.1 pc = .ok (.lookupswitch dflt ps, len)) (hp : (ps.toList.zip (ps.toList.drop 1)).all (fun (a, next) => a.1 < next.1) = true) (hf : Op.lookupswitch.offset ps.toList dflt x.toInt = off) (ht : (pc : Int) + off = (tgt : Int)) (kk : Ex l M d K (tgt) ls (st) sh I L R k n) : Ex l M d K (pc) ls (.int x :: st) sh I L R k n := by
  intro w p e s m args below meth c A mc ms n0 ad0 ad H locs cells slots la F S hS hk hn hl ho hs
  exact lv_lookup F.x F.b hd hp hf ht (kk w p e s m args below meth c A mc ms n0 ad0 ad H locs cells slots la F S hS hk hn hl ho (fun v hv => hs v (List.mem_cons_of_mem _ hv)))
abbrev exU {α : Type} (I : Nat → Nat → α) (i k : Nat) (v : α) : Nat → Nat → α := va_up I i (va_up (I i) k v)
/-- the field k of the class ci, by entry ix of own's pool -/
def exG (own : String) (ix ci k : Nat) : Prop := ∃ (C : String) (T : u_T) (N : Nat), exCl[ci]? = some (C, T, N) ∧ k < N ∧ (∀ q ∈ u_ws C T N, q ∈ lw_all) ∧ (Cond.fieldLink own ix (T k).1 (T k).2.1 (T k).2.2.1 ∈ lw_all ∨ ∃ host, Cond.fieldLinkNest own ix (T k).1 (T k).2.1 (T k).2.2.1 host ∈ exNest)
/-- the same, to be written: its type, whether it's final (then in its class's constructor) -/
def exPt (own : String) (ix ci k : Nat) (fin : Bool) (ty : FieldType) : Prop := ∃ (C : String) (T : u_T) (N : Nat) (ty0 : Nat → FieldType), exCl[ci]? = some (C, T, N) ∧ k < N ∧ (∀ q ∈ u_ws C T N, q ∈ lw_all) ∧ (∀ k, k < N → parseFieldDescriptor (T k).2.2.1 = some (ty0 k)) ∧ (∀ a, a < N → ∀ b, b < N → a ≠ b → (T a).2.1 ≠ (T b).2.1) ∧ parseFieldDescriptor (T k).2.2.1 = some ty ∧ (exKinds.getD ci []).length = N ∧ (T k).2.2.2 = fin ∧
  ((fin = false ∧ (Cond.fieldLink own ix (T k).1 (T k).2.1 (T k).2.2.1 ∈ lw_all ∨ ∃ host, Cond.fieldLinkNest own ix (T k).1 (T k).2.1 (T k).2.2.1 host ∈ exNest)) ∨ (fin = true ∧ (T k).1 = own ∧ Cond.fieldLink own ix (T k).1 (T k).2.1 (T k).2.2.1 ∈ lw_all))
theorem e_get {i ci N q ix kd : Nat} {v : Value} (hd : decode M.2.1 pc = .ok (.getfield ix, 3)) (hs0 : sh[i]? = some (ci + 8, N)) (hG : exG M.1 ix ci q) (hkd : (exKinds.getD ci [])[q]? = some kd) (hv : v = if kd = 0 then .int (I i q) else if kd = 1 then .long (L i q) else R i q) (kk : Ex l M d K (pc + 3) ls (v :: st) sh I L R k n) : Ex l M d K pc ls (.ref i :: st) sh I L R k n := by
  intro w p e s m args below meth c A mc ms n0 ad0 ad H locs cells slots la F S hS hk hn hl ho hs
  obtain ⟨hn0, hag, hRk, hP, hD⟩ := id S
  obtain ⟨C, T, N', hc, hk', hin, hlink⟩ := hG
  have he := exWs_at (w := w) (ad := ad) (I := I) (L := L) (R := R) hs0
  rw [exC_obj] at he
  have hf := exFs_at (w := w) (ad := ad) (f := I i) (g := L i) (r := R i) hkd
  have e1 : (if kd = 0 then Value.int (I i q) else if kd = 1 then Value.long (L i q) else exV w ad (R i q)) = exV w ad v := by
    subst hv
    by_cases h0 : kd = 0
    · rw [if_pos h0, if_pos h0]; rfl
    · rw [if_neg h0, if_neg h0]
      by_cases h1 : kd = 1
      · rw [if_pos h1, if_pos h1]; rfl
      · rw [if_neg h1, if_neg h1]
  have hv2 : exOk sh.length v := by
    subst hv
    by_cases h0 : kd = 0
    · rw [if_pos h0]; trivial
    · rw [if_neg h0]
      by_cases h1 : kd = 1
      · rw [if_pos h1]; trivial
      · rw [if_neg h1]; exact exRk_ok (hRk i q)
  rw [e1] at hf
  have k2 := kk w p e s m args below meth c A mc ms n0 ad0 ad H locs cells slots la F S hS hk hn hl ho (fun v hv => by rcases List.mem_cons.mp hv with rfl | hv; exact hv2; exact hs _ (List.mem_cons_of_mem _ hv))
  rcases hlink with hlink | ⟨host, hlink⟩
  · exact va_get F.x F.b F.ts hin F.own F.B.1 hP i he hc q hk' (F.ts _ hlink) (fun x h => h) hf hd k2
  · exact va_getN F.x F.b F.ts hin F.own F.B.1 hP i he hc q hk' (va_Nw.use (exNw_on (exNest_is hlink)) (F.B.2.2.2.2.1 _ hlink)) (fun x h => h) hf hd k2
theorem e_getI {i ci N q ix : Nat} (hd : decode M.2.1 pc = .ok (.getfield ix, 3)) (hs0 : sh[i]? = some (ci + 8, N)) (hG : exG M.1 ix ci q) (hkd : (exKinds.getD ci [])[q]? = some 0) (kk : Ex l M d K (pc + 3) ls (.int (I i q) :: st) sh I L R k n) : Ex l M d K pc ls (.ref i :: st) sh I L R k n := e_get hd hs0 hG hkd rfl kk
theorem e_getL {i ci N q ix : Nat} (hd : decode M.2.1 pc = .ok (.getfield ix, 3)) (hs0 : sh[i]? = some (ci + 8, N)) (hG : exG M.1 ix ci q) (hkd : (exKinds.getD ci [])[q]? = some 1) (kk : Ex l M d K (pc + 3) ls (.long (L i q) :: st) sh I L R k n) : Ex l M d K pc ls (.ref i :: st) sh I L R k n := e_get hd hs0 hG hkd rfl kk
theorem e_getR {i ci N q ix : Nat} {v : Value} (hd : decode M.2.1 pc = .ok (.getfield ix, 3)) (hs0 : sh[i]? = some (ci + 8, N)) (hG : exG M.1 ix ci q) (hkd : (exKinds.getD ci [])[q]? = some 2) (hv : R i q = v) (kk : Ex l M d K (pc + 3) ls (v :: st) sh I L R k n) : Ex l M d K pc ls (.ref i :: st) sh I L R k n := e_get hd hs0 hG hkd hv.symm kk
theorem ex_put {i ci N q ix kd : Nat} {v : Value} {fin : Bool} {ty : FieldType} (hd : decode M.2.1 pc = .ok (.putfield ix, 3)) (hs0 : sh[i]? = some (ci + 8, N)) (hG : exPt M.1 ix ci q fin ty) (hin2 : fin = true → M.2.2.2.2.1 = "<init>") (hkd : (exKinds.getD ci [])[q]? = some kd) (hv : ∀ w ad, exV w ad v = if kd = 0 then .int (I' i q) else if kd = 1 then .long (L' i q) else exV w ad (R' i q)) (hnr : ∀ w ad, narrow ty (exV w ad v) = exV w ad v) (hft : ∀ w ad, fits ty (exV w ad v) = true)
    (hI : ∀ a b, ¬ (a = i ∧ b = q) → I' a b = I a b) (hL : ∀ a b, ¬ (a = i ∧ b = q) → L' a b = L a b) (hR : ∀ a b, ¬ (a = i ∧ b = q) → R' a b = R a b) (hR2 : exOk sh.length v → exRk sh.length (R i q) → exRk sh.length (R' i q)) (kk : Ex l M d K (pc + 3) ls st sh I' L' R' k n) : Ex l M d K pc ls (v :: .ref i :: st) sh I L R k n := by
  intro w p e s m args below meth c A mc ms n0 ad0 ad H locs cells slots la F S hS hk hn hl ho hs
  obtain ⟨hn0, hag, hRk, hP, hD⟩ := id S
  obtain ⟨C, T, N', ty0, hc, hk', hin, hty, hnm, hds, hlen, hfin, hlink⟩ := hG
  have he := exWs_at (w := w) (ad := ad) (I := I) (L := L) (R := R) hs0
  rw [exC_obj] at he
  have hsv := hs v List.mem_cons_self
  have hRk' : ∀ a b, exRk sh.length (R' a b) := fun a b => by
    by_cases h : a = i ∧ b = q
    · rw [h.1, h.2]; exact hR2 hsv (hRk i q)
    · rw [hR a b h]; exact hRk a b
  have row : ∀ {α : Type} {f f' : Nat → Nat → α}, (∀ a b, ¬ (a = i ∧ b = q) → f' a b = f a b) → ∀ j, j ≠ i → f' j = f j := fun h j hj => funext fun b => h j b (fun z => hj z.1)
  have col : ∀ {α : Type} {f f' : Nat → Nat → α}, (∀ a b, ¬ (a = i ∧ b = q) → f' a b = f a b) → ∀ j, j ≠ q → f' i j = f i j := fun h j hj => h i j (fun z => hj z.2)
  have e2 : (exWs w ad sh I L R).set i (ad i, .inr (ci, (exFs w ad (exKinds.getD ci []) (I i) (L i) (R i)).set q (exV w ad v))) = exWs w ad sh I' L' R' :=
    exWs_set hs0 (by rw [exC_obj, exFs_set hkd (hv w ad) (col hI) (col hL) (col hR)]) (row hI) (row hL) (row hR)
  have k2 := fun (H1 : Heap) (locs1 : List Loc) (hP1 : va_P w.1 exCl ((exWs w ad sh I L R).set i (ad i, .inr (ci, (exFs w ad (exKinds.getD ci []) (I i) (L i) (R i)).set q (exV w ad v)))) H1) (hD1 : va_D A ((exWs w ad sh I L R).set i (ad i, .inr (ci, (exFs w ad (exKinds.getD ci []) (I i) (L i) (R i)).set q (exV w ad v))))) (hS1 : va_S A s.heap H1 locs1) =>
    kk w p e s m args below meth c A mc ms n0 ad0 ad H1 locs1 cells slots la F ⟨hn0, hag, hRk', by rw [← e2]; exact hP1, by rw [← e2]; exact hD1⟩ hS1 hk hn hl ho (fun v hv => hs v (List.mem_cons_of_mem _ (List.mem_cons_of_mem _ hv)))
  have hl2 : q < (exFs w ad (exKinds.getD ci []) (I i) (L i) (R i)).length := by rw [exFs_len, hlen]; exact hk'
  rcases hlink with ⟨hf0, hlink | ⟨host, hlink⟩⟩ | ⟨hf0, hdecl, hlink⟩
  · exact va_put F.x F.b F.ts hin ty0 hty hnm F.own F.B.1 hP hD hS i he hc q hk' (F.ts _ hlink) (fun x h => h) (hfin.trans hf0) hds (hnr w ad) (hft w ad) hl2 hd k2
  · exact va_putN F.x F.b F.ts hin ty0 hty hnm F.own F.B.1 hP hD hS i he hc q hk' (va_Nw.use (exNw_on (exNest_is hlink)) (F.B.2.2.2.2.1 _ hlink)) (fun x h => h) (hfin.trans hf0) hds (hnr w ad) (hft w ad) hl2 hd k2
  · exact va_putF F.x F.b F.ts hin ty0 hty hnm F.own F.B.1 hP hD hS i he hc q hk' (F.ts _ hlink) (fun x h => h) (hfin.trans hf0) (F.nm.trans (hin2 hf0)) hdecl hds (hnr w ad) (hft w ad) hl2 hd k2
theorem exU_at {α : Type} {I : Nat → Nat → α} {i k : Nat} {v : α} : exU I i k v i k = v := by unfold exU; rw [va_up_self, va_up_self]
theorem exU_ne {α : Type} {I : Nat → Nat → α} {i k a b : Nat} {v : α} (h : ¬ (a = i ∧ b = k)) : exU I i k v a b = I a b := by
  unfold exU va_up
  by_cases ha : a = i
  · subst ha
    rw [if_pos rfl]
    show (if b = k then v else I a b) = I a b
    rw [if_neg (fun z => h ⟨rfl, z⟩)]
  · rw [if_neg ha]
theorem e_putI {i ci N q ix : Nat} {x : Int32} {fin : Bool} {ty : FieldType} (hd : decode M.2.1 pc = .ok (.putfield ix, 3)) (hs0 : sh[i]? = some (ci + 8, N)) (hG : exPt M.1 ix ci q fin ty) (hin2 : fin = true → M.2.2.2.2.1 = "<init>") (hkd : (exKinds.getD ci [])[q]? = some 0) (hnr : narrow ty (.int x) = .int x) (hft : fits ty (.int x) = true) (kk : Ex l M d K (pc + 3) ls st sh (exU I i q x) L R k n) : Ex l M d K pc ls (.int x :: .ref i :: st) sh I L R k n :=
  ex_put hd hs0 hG hin2 hkd (fun w ad => by rw [if_pos rfl, exU_at]; rfl) (fun w ad => hnr) (fun w ad => hft) (fun a b h => exU_ne h) (fun a b h => rfl) (fun a b h => rfl) (fun _ h => h) kk
theorem e_putL {i ci N q ix : Nat} {x : Int64} {fin : Bool} (hd : decode M.2.1 pc = .ok (.putfield ix, 3)) (hs0 : sh[i]? = some (ci + 8, N)) (hG : exPt M.1 ix ci q fin .long) (hin2 : fin = true → M.2.2.2.2.1 = "<init>") (hkd : (exKinds.getD ci [])[q]? = some 1) (kk : Ex l M d K (pc + 3) ls st sh I (exU L i q x) R k n) : Ex l M d K pc ls (.long x :: .ref i :: st) sh I L R k n :=
  ex_put hd hs0 hG hin2 hkd (fun w ad => by rw [if_neg (by decide), if_pos rfl, exU_at]; rfl) (fun w ad => rfl) (fun w ad => rfl) (fun a b h => rfl) (fun a b h => exU_ne h) (fun a b h => rfl) (fun _ h => h) kk
def exRT : FieldType → Bool
  | .object _ => true
  | .array _ => true
  | _ => false
theorem exRT_fits {w : ExW} {ad : Nat → Nat} {ty : FieldType} {v : Value} (hty : exRT ty = true) (hr : exRl v = true) : fits ty (exV w ad v) = true := by
  cases ty <;> first | (exact absurd hty (by decide)) | (cases v <;> first | rfl | (exact absurd hr (by simp [exRl])))
theorem e_putR {i ci N q ix : Nat} {v : Value} {fin : Bool} {ty : FieldType} (hd : decode M.2.1 pc = .ok (.putfield ix, 3)) (hs0 : sh[i]? = some (ci + 8, N)) (hG : exPt M.1 ix ci q fin ty) (hin2 : fin = true → M.2.2.2.2.1 = "<init>") (hkd : (exKinds.getD ci [])[q]? = some 2) (hty : exRT ty = true) (hr : exRl v = true) (kk : Ex l M d K (pc + 3) ls st sh I L (exU R i q v) k n) : Ex l M d K pc ls (v :: .ref i :: st) sh I L R k n :=
  ex_put hd hs0 hG hin2 hkd (fun w ad => by rw [if_neg (by decide), if_neg (by decide), exU_at]) (fun w ad => by cases ty <;> first | (cases v <;> rfl) | (cases hty)) (fun w ad => exRT_fits hty hr) (fun a b h => rfl) (fun a b h => rfl) (fun a b h => exU_ne h) (fun h _ => by rw [exU_at]; exact exRl_rk hr h) kk
-- arrays
theorem ex_rows {i : Nat} {α : Type} {f : Nat → Nat → α} {g : Nat → α} : ∀ j, j ≠ i → (va_up f i g) j = f j := fun j hj => va_up_ne _ _ hj
theorem e_alen {i t N : Nat} {v : Int32} (hd : decode M.2.1 pc = .ok (.arraylength, 1)) (hs0 : sh[i]? = some (t, N)) (ht : t < 8) (hv : nI N = v) (kk : Ex l M d K (pc + 1) ls (.int v :: st) sh I L R k n) : Ex l M d K pc ls (.ref i :: st) sh I L R k n := by
  intro w p e s m args below meth c A mc ms n0 ad0 ad H locs cells slots la F S hS hk hn hl ho hs
  obtain ⟨hn0, hag, hRk, hP, hD⟩ := id S
  have he := exWs_at (w := w) (ad := ad) (I := I) (L := L) (R := R) hs0
  have k2 := kk w p e s m args below meth c A mc ms n0 ad0 ad H locs cells slots la F S hS hk hn hl ho (fun v hv => by rcases List.mem_cons.mp hv with rfl | hv; exact trivial; exact hs _ (List.mem_cons_of_mem _ hv))
  obtain ⟨x, hx, hx1⟩ : ∃ x : vp_A, exC w ad (t, N) (I i) (L i) (R i) = .inl (w.2.1 t, x) ∧ x.1 = N := by
    by_cases h3 : t < 3
    · exact ⟨_, exC_int h3, rfl⟩
    · by_cases h4 : t = 3
      · subst h4; exact ⟨_, exC_long, rfl⟩
      · exact ⟨_, exC_ref (by omega) ht, rfl⟩
  rw [hx] at he
  have ht2 : ∃ ty, (exTys w)[t]? = some (w.2.1 t, ty) := by
    match t, ht with
    | 0, _ => exact ⟨_, rfl⟩
    | 1, _ => exact ⟨_, rfl⟩
    | 2, _ => exact ⟨_, rfl⟩
    | 3, _ => exact ⟨_, rfl⟩
    | 4, _ => exact ⟨_, rfl⟩
    | 5, _ => exact ⟨_, rfl⟩
    | 6, _ => exact ⟨_, rfl⟩
    | 7, _ => exact ⟨_, rfl⟩
  obtain ⟨ty, hty⟩ := ht2
  exact va_alen F.x F.b F.B.1 hP i t he hty (by rw [hx1]; exact hv) hd k2
theorem e_iald {i N : Nat} {x : Int32} (hd : decode M.2.1 pc = .ok (.iaload, 1)) (hs0 : sh[i]? = some (0, N)) (hin : vp_in x N) (kk : Ex l M d K (pc + 1) ls (.int (I i x.toNatClampNeg) :: st) sh I L R k n) : Ex l M d K pc ls (.int x :: .ref i :: st) sh I L R k n := by
  intro w p e s m args below meth c A mc ms n0 ad0 ad H locs cells slots la F S hS hk hn hl ho hs
  have he := exWs_at (w := w) (ad := ad) (I := I) (L := L) (R := R) hs0
  exact va_iald F.x F.b F.B.1 S.2.2.2.1 i 0 he rfl hin hd (kk w p e s m args below meth c A mc ms n0 ad0 ad H locs cells slots la F S hS hk hn hl ho (fun v hv => by rcases List.mem_cons.mp hv with rfl | hv; exact trivial; exact hs _ (List.mem_cons_of_mem _ (List.mem_cons_of_mem _ hv))))
theorem e_bald {i N : Nat} {x : Int32} (hd : decode M.2.1 pc = .ok (.baload, 1)) (hs0 : sh[i]? = some (1, N)) (hin : vp_in x N) (kk : Ex l M d K (pc + 1) ls (.int (I i x.toNatClampNeg) :: st) sh I L R k n) : Ex l M d K pc ls (.int x :: .ref i :: st) sh I L R k n := by
  intro w p e s m args below meth c A mc ms n0 ad0 ad H locs cells slots la F S hS hk hn hl ho hs
  have he := exWs_at (w := w) (ad := ad) (I := I) (L := L) (R := R) hs0
  exact va_bald F.x F.b F.B.1 S.2.2.2.1 i 1 he rfl hin hd (kk w p e s m args below meth c A mc ms n0 ad0 ad H locs cells slots la F S hS hk hn hl ho (fun v hv => by rcases List.mem_cons.mp hv with rfl | hv; exact trivial; exact hs _ (List.mem_cons_of_mem _ (List.mem_cons_of_mem _ hv))))
theorem e_zald {i N : Nat} {x : Int32} (hd : decode M.2.1 pc = .ok (.baload, 1)) (hs0 : sh[i]? = some (2, N)) (hin : vp_in x N) (kk : Ex l M d K (pc + 1) ls (.int (I i x.toNatClampNeg) :: st) sh I L R k n) : Ex l M d K pc ls (.int x :: .ref i :: st) sh I L R k n := by
  intro w p e s m args below meth c A mc ms n0 ad0 ad H locs cells slots la F S hS hk hn hl ho hs
  have he := exWs_at (w := w) (ad := ad) (I := I) (L := L) (R := R) hs0
  exact va_zald F.x F.b F.B.1 S.2.2.2.1 i 2 he rfl hin hd (kk w p e s m args below meth c A mc ms n0 ad0 ad H locs cells slots la F S hS hk hn hl ho (fun v hv => by rcases List.mem_cons.mp hv with rfl | hv; exact trivial; exact hs _ (List.mem_cons_of_mem _ (List.mem_cons_of_mem _ hv))))
theorem e_lald {i N : Nat} {x : Int32} (hd : decode M.2.1 pc = .ok (.laload, 1)) (hs0 : sh[i]? = some (3, N)) (hin : vp_in x N) (kk : Ex l M d K (pc + 1) ls (.long (L i x.toNatClampNeg) :: st) sh I L R k n) : Ex l M d K pc ls (.int x :: .ref i :: st) sh I L R k n := by
  intro w p e s m args below meth c A mc ms n0 ad0 ad H locs cells slots la F S hS hk hn hl ho hs
  have he := exWs_at (w := w) (ad := ad) (I := I) (L := L) (R := R) hs0
  exact va_lald F.x F.b F.B.1 S.2.2.2.1 i 3 he rfl hin hd (kk w p e s m args below meth c A mc ms n0 ad0 ad H locs cells slots la F S hS hk hn hl ho (fun v hv => by rcases List.mem_cons.mp hv with rfl | hv; exact trivial; exact hs _ (List.mem_cons_of_mem _ (List.mem_cons_of_mem _ hv))))
theorem ex_ty4 {w : ExW} {t : Nat} (h1 : 4 ≤ t) (h2 : t < 8) : ∃ C, (exTys w)[t]? = some (w.2.1 t, .object C) := by
  match t, h1, h2 with
  | 4, _, _ => exact ⟨_, rfl⟩
  | 5, _, _ => exact ⟨_, rfl⟩
  | 6, _, _ => exact ⟨_, rfl⟩
  | 7, _, _ => exact ⟨_, rfl⟩
theorem e_aald {i t N : Nat} {x : Int32} {v : Value} (hd : decode M.2.1 pc = .ok (.aaload, 1)) (hs0 : sh[i]? = some (t, N)) (h1 : 4 ≤ t) (h2 : t < 8) (hin : vp_in x N) (hv : R i x.toNatClampNeg = v) (kk : Ex l M d K (pc + 1) ls (v :: st) sh I L R k n) : Ex l M d K pc ls (.int x :: .ref i :: st) sh I L R k n := by
  intro w p e s m args below meth c A mc ms n0 ad0 ad H locs cells slots la F S hS hk hn hl ho hs
  subst hv
  obtain ⟨hn0, hag, hRk, hP, hD⟩ := id S
  have he := exWs_at (w := w) (ad := ad) (I := I) (L := L) (R := R) hs0
  rw [exC_ref h1 h2] at he
  obtain ⟨C, hC⟩ := ex_ty4 (w := w) h1 h2
  have k2 := kk w p e s m args below meth c A mc ms n0 ad0 ad H locs cells slots la F S hS hk hn hl ho (fun v hv => by rcases List.mem_cons.mp hv with rfl | hv; exact exRk_ok (hRk _ _); exact hs _ (List.mem_cons_of_mem _ (List.mem_cons_of_mem _ hv)))
  refine va_aldq F.x F.b F.B.1 hP i t he hC hin hd ?_
  rw [exO_rf (hRk i x.toNatClampNeg)]
  exact k2
theorem ex_setI {w : ExW} {ad : Nat → Nat} {i t N : Nat} {f : Nat → Int32} (hs0 : sh[i]? = some (t, N)) (ht : t < 3) : (exWs w ad sh I L R).set i (ad i, .inl (w.2.1 t, N, .inl f)) = exWs w ad sh (va_up I i f) L R :=
  exWs_set hs0 (by rw [exC_int ht, va_up_self]) ex_rows (fun _ _ => rfl) (fun _ _ => rfl)
theorem e_iast {i N : Nat} {x y : Int32} (hd : decode M.2.1 pc = .ok (.iastore, 1)) (hs0 : sh[i]? = some (0, N)) (hin : vp_in x N) (kk : Ex l M d K (pc + 1) ls st sh (exU I i x.toNatClampNeg y) L R k n) : Ex l M d K pc ls (.int y :: .int x :: .ref i :: st) sh I L R k n := by
  intro w p e s m args below meth c A mc ms n0 ad0 ad H locs cells slots la F S hS hk hn hl ho hs
  obtain ⟨hn0, hag, hRk, hP, hD⟩ := id S
  have he := exWs_at (w := w) (ad := ad) (I := I) (L := L) (R := R) hs0
  refine va_iast F.x F.b F.B.1 hP hD hS i 0 he rfl hin hd (fun H1 locs1 hP1 hD1 hS1 => ?_)
  have e2 := ex_setI (w := w) (ad := ad) (I := I) (L := L) (R := R) (f := va_up (I i) x.toNatClampNeg y) hs0 (by decide)
  exact kk w p e s m args below meth c A mc ms n0 ad0 ad H1 locs1 cells slots la F ⟨hn0, hag, hRk, e2 ▸ hP1, e2 ▸ hD1⟩ hS1 hk hn hl ho (fun v hv => hs v (List.mem_cons_of_mem _ (List.mem_cons_of_mem _ (List.mem_cons_of_mem _ hv))))
theorem e_bast {i N : Nat} {x y z : Int32} (hd : decode M.2.1 pc = .ok (.bastore, 1)) (hs0 : sh[i]? = some (1, N)) (hin : vp_in x N) (hz : vp_nar .byte y = z) (kk : Ex l M d K (pc + 1) ls st sh (exU I i x.toNatClampNeg z) L R k n) : Ex l M d K pc ls (.int y :: .int x :: .ref i :: st) sh I L R k n := by
  intro w p e s m args below meth c A mc ms n0 ad0 ad H locs cells slots la F S hS hk hn hl ho hs
  subst hz
  obtain ⟨hn0, hag, hRk, hP, hD⟩ := id S
  have he := exWs_at (w := w) (ad := ad) (I := I) (L := L) (R := R) hs0
  refine va_bast F.x F.b F.B.1 hP hD hS i 1 he rfl hin hd (fun H1 locs1 hP1 hD1 hS1 => ?_)
  have e2 := ex_setI (w := w) (ad := ad) (I := I) (L := L) (R := R) (f := va_up (I i) x.toNatClampNeg (vp_nar .byte y)) hs0 (by decide)
  exact kk w p e s m args below meth c A mc ms n0 ad0 ad H1 locs1 cells slots la F ⟨hn0, hag, hRk, e2 ▸ hP1, e2 ▸ hD1⟩ hS1 hk hn hl ho (fun v hv => hs v (List.mem_cons_of_mem _ (List.mem_cons_of_mem _ (List.mem_cons_of_mem _ hv))))
theorem e_zast {i N : Nat} {x y z : Int32} (hd : decode M.2.1 pc = .ok (.bastore, 1)) (hs0 : sh[i]? = some (2, N)) (hin : vp_in x N) (hz : vp_nar .boolean y = z) (kk : Ex l M d K (pc + 1) ls st sh (exU I i x.toNatClampNeg z) L R k n) : Ex l M d K pc ls (.int y :: .int x :: .ref i :: st) sh I L R k n := by
  intro w p e s m args below meth c A mc ms n0 ad0 ad H locs cells slots la F S hS hk hn hl ho hs
  subst hz
  obtain ⟨hn0, hag, hRk, hP, hD⟩ := id S
  have he := exWs_at (w := w) (ad := ad) (I := I) (L := L) (R := R) hs0
  refine va_zast F.x F.b F.B.1 hP hD hS i 2 he rfl hin hd (fun H1 locs1 hP1 hD1 hS1 => ?_)
  have e2 := ex_setI (w := w) (ad := ad) (I := I) (L := L) (R := R) (f := va_up (I i) x.toNatClampNeg (vp_nar .boolean y)) hs0 (by decide)
  exact kk w p e s m args below meth c A mc ms n0 ad0 ad H1 locs1 cells slots la F ⟨hn0, hag, hRk, e2 ▸ hP1, e2 ▸ hD1⟩ hS1 hk hn hl ho (fun v hv => hs v (List.mem_cons_of_mem _ (List.mem_cons_of_mem _ (List.mem_cons_of_mem _ hv))))
theorem e_last {i N : Nat} {x : Int32} {y : Int64} (hd : decode M.2.1 pc = .ok (.lastore, 1)) (hs0 : sh[i]? = some (3, N)) (hin : vp_in x N) (kk : Ex l M d K (pc + 1) ls st sh I (exU L i x.toNatClampNeg y) R k n) : Ex l M d K pc ls (.long y :: .int x :: .ref i :: st) sh I L R k n := by
  intro w p e s m args below meth c A mc ms n0 ad0 ad H locs cells slots la F S hS hk hn hl ho hs
  obtain ⟨hn0, hag, hRk, hP, hD⟩ := id S
  have he := exWs_at (w := w) (ad := ad) (I := I) (L := L) (R := R) hs0
  refine va_last F.x F.b F.B.1 hP hD hS i 3 he rfl hin hd (fun H1 locs1 hP1 hD1 hS1 => ?_)
  have e2 : (exWs w ad sh I L R).set i (ad i, .inl (w.2.1 3, N, .inr (.inl (vp_updL (L i) x.toNatClampNeg y)))) = exWs w ad sh I (exU L i x.toNatClampNeg y) R := exWs_set hs0 (by rw [exC_long]; unfold exU; rw [va_up_self]; rfl) (fun _ _ => rfl) ex_rows (fun _ _ => rfl)
  exact kk w p e s m args below meth c A mc ms n0 ad0 ad H1 locs1 cells slots la F ⟨hn0, hag, hRk, e2 ▸ hP1, e2 ▸ hD1⟩ hS1 hk hn hl ho (fun v hv => hs v (List.mem_cons_of_mem _ (List.mem_cons_of_mem _ (List.mem_cons_of_mem _ hv))))
theorem ex_setR {w : ExW} {ad : Nat → Nat} {i t N : Nat} {f : Nat → Value} {g : Nat → Option Nat} (hs0 : sh[i]? = some (t, N)) (h1 : 4 ≤ t) (h2 : t < 8) (hg : g = fun k => exO w ad (f k)) : (exWs w ad sh I L R).set i (ad i, .inl (w.2.1 t, N, .inr (.inr (.inr (.inr g))))) = exWs w ad sh I L (va_up R i f) :=
  exWs_set hs0 (by rw [exC_ref h1 h2, va_up_self, hg]) (fun _ _ => rfl) (fun _ _ => rfl) ex_rows
theorem ex_upO {w : ExW} {ad : Nat → Nat} {f : Nat → Value} {j : Nat} {v : Value} : va_up (fun k => exO w ad (f k)) j (exO w ad v) = fun k => exO w ad (va_up f j v k) := by
  funext k
  unfold va_up
  by_cases h : k = j
  · rw [if_pos h, if_pos h]
  · rw [if_neg h, if_neg h]
/-- a reference into an array of references: the object's class is the array's, or it's a literal, or null -/
theorem e_aast {i t N : Nat} {x : Int32} {v : Value} {E : String} (hd : decode M.2.1 pc = .ok (.aastore, 1)) (hs0 : sh[i]? = some (t, N)) (h1 : 4 ≤ t) (h2 : t < 8) (hE : ∀ w : ExW, (exTys w)[t]? = some (w.2.1 t, .object E)) (hin : vp_in x N) (hv : v = .null ∨ (∃ j cj Nj T NT, v = .ref j ∧ sh[j]? = some (cj + 8, Nj) ∧ exCl[cj]? = some (E, T, NT)) ∨ (∃ q : Nat, v = .float q.toUInt32 ∧ q < 19 ∧ E = "java/lang/String"))
    (kk : Ex l M d K (pc + 1) ls st sh I L (exU R i x.toNatClampNeg v) k n) : Ex l M d K pc ls (v :: .int x :: .ref i :: st) sh I L R k n := by
  intro w p e s m args below meth c A mc ms n0 ad0 ad H locs cells slots la F S hS hk hn hl ho hs
  obtain ⟨hn0, hag, hRk, hP, hD⟩ := id S
  have he := exWs_at (w := w) (ad := ad) (I := I) (L := L) (R := R) hs0
  rw [exC_ref h1 h2] at he
  have hsv := hs v List.mem_cons_self
  have hrl : exRl v = true := by rcases hv with rfl | ⟨j, cj, Nj, T, NT, rfl, -⟩ | ⟨q, rfl, -⟩ <;> rfl
  have hRk' : ∀ a b, exRk sh.length (exU R i x.toNatClampNeg v a b) := fun a b => by
    by_cases h : a = i ∧ b = x.toNatClampNeg
    · rw [h.1, h.2, exU_at]; exact exRl_rk hrl hsv
    · rw [exU_ne h]; exact hRk a b
  have e2 : (exWs w ad sh I L R).set i (ad i, .inl (w.2.1 t, N, .inr (.inr (.inr (.inr (va_up (fun k => exO w ad (R i k)) x.toNatClampNeg (exO w ad v))))))) = exWs w ad sh I L (exU R i x.toNatClampNeg v) := ex_setR hs0 h1 h2 ex_upO
  have k2 := fun (H1 : Heap) (locs1 : List Loc) (hP1 : va_P w.1 exCl (exWs w ad sh I L (exU R i x.toNatClampNeg v)) H1) (hD1 : va_D A (exWs w ad sh I L (exU R i x.toNatClampNeg v))) (hS1 : va_S A s.heap H1 locs1) =>
    kk w p e s m args below meth c A mc ms n0 ad0 ad H1 locs1 cells slots la F ⟨hn0, hag, hRk', hP1, hD1⟩ hS1 hk hn hl ho (fun v hv => hs v (List.mem_cons_of_mem _ (List.mem_cons_of_mem _ (List.mem_cons_of_mem _ hv))))
  rcases hv with rfl | ⟨j, cj, Nj, T, NT, rfl, hj, hc⟩ | ⟨q, rfl, hq, rfl⟩
  · exact va_astqN F.x F.b F.B.1 hP hD hS i t he (hE w) hin hd (fun H1 locs1 hP1 hD1 hS1 => k2 H1 locs1 (e2 ▸ hP1) (e2 ▸ hD1) hS1)
  · have hj2 := exWs_at (w := w) (ad := ad) (I := I) (L := L) (R := R) hj
    rw [exC_obj] at hj2
    exact va_astq F.x F.b F.B.1 hP hD hS i t j cj he (r := (E, T, NT)) (hE w) hj2 hc hin hd (fun H1 locs1 hP1 hD1 hS1 => k2 H1 locs1 (e2 ▸ hP1) (e2 ▸ hD1) hS1)
  · have hq2 : (q.toUInt32).toNat = q := by simp [Nat.toUInt32]; omega
    have hany : va_Any "java/lang/String" s H (w.2.2 q.toUInt32.toNat) := by
      rw [hq2]
      obtain ⟨cell, q1, q2, q3, q4⟩ := (F.B.2.1 q hq).1
      have q5 : w.2.2 q < s.heap.size := (Array.getElem?_eq_some_iff.mp q1).1
      obtain ⟨kC, hkC, -⟩ := Vm.findClass_spec q3
      exact ⟨cell, (hS.2.1 _ q5 q4).trans q1, q2, ⟨kC, hkC⟩, fun comp hcomp => by cases hcomp.symm.trans q3; exact Vm.assignable_self _ _⟩
    exact va_astqM F.x F.b F.B.1 hP hD hS i t he (hE w) hany hin hd (fun H1 locs1 hP1 hD1 hS1 => k2 H1 locs1 (e2 ▸ hP1) (e2 ▸ hD1) hS1)

-- making cells
def exDf (ks : List Nat) : List Value := ks.map (fun kd => if kd = 0 then .int 0 else if kd = 1 then .long 0 else .null)
theorem exDf_eq (w : ExW) (ad : Nat → Nat) (ks : List Nat) : exFs w ad ks (fun _ => 0) (fun _ => 0) (fun _ => .null) = exDf ks := by
  apply List.ext_getElem?
  intro j
  rw [exFs, exDf, List.getElem?_mapIdx, List.getElem?_map]
  rfl
/-- the class ci of N fields can be made by entry ix of own's pool -/
def exNw (own : String) (ix ci N : Nat) : Prop := ∃ (C : String) (T : u_T) (ty0 : Nat → FieldType), exCl[ci]? = some (C, T, N) ∧ (∀ q ∈ u_ws C T N, q ∈ lw_all) ∧ (∀ k, k < N → parseFieldDescriptor (T k).2.2.1 = some (ty0 k)) ∧ Cond.classLink own ix C ∈ lw_all ∧ Cond.instantiable C N ∈ lw_all ∧ Cond.initialized C ∈ lw_all ∧ ∀ j, j < N → defaultValue (ty0 j) = vp_V (exDf (exKinds.getD ci [])) j
theorem exIn_push {w : ExW} {n0 : Nat} {ad0 ad : Nat → Nat} {A : Nat → Prop} {H H1 : Heap} {a : Nat} {q : Nat × Nat} {e : va_E} (S : exIn w n0 ad0 ad A sh I L R H) (he : e = exC w (va_up ad sh.length a) q (I' sh.length) (L' sh.length) (R' sh.length)) (hI : ∀ j, j ≠ sh.length → I' j = I j) (hL : ∀ j, j ≠ sh.length → L' j = L j) (hR : ∀ j, j ≠ sh.length → R' j = R j) (hR0 : ∀ j, exRk (sh.length + 1) (R' sh.length j))
    (hP : va_P w.1 exCl (exWs w ad sh I L R ++ [(a, e)]) H1) (hD : va_D A (exWs w ad sh I L R ++ [(a, e)])) : exIn w n0 ad0 (va_up ad sh.length a) A (sh ++ [q]) I' L' R' H1 := by
  obtain ⟨hn0, hag, hRk, -, -⟩ := S
  have e2 := exWs_push (w := w) (ad := ad) (sh := sh) (I := I) (I' := I') (L := L) (L' := L') (R := R) (R' := R') (a := a) (q := q) he (fun j hj => hI j (Nat.ne_of_lt hj)) (fun j hj => hL j (Nat.ne_of_lt hj)) (fun j hj => hR j (Nat.ne_of_lt hj)) hRk
  have hlen : (sh ++ [q]).length = sh.length + 1 := by simp
  refine ⟨by rw [hlen]; omega, fun i hi => ?_, fun i k => ?_, e2 ▸ hP, e2 ▸ hD⟩
  · rw [va_up_ne _ _ (by omega)]; exact hag i hi
  · rw [hlen]
    by_cases h : i = sh.length
    · subst h; exact hR0 k
    · rw [hR i h]; exact exRk_mono (Nat.le_succ _) (hRk i k)
theorem exLs_push {w : ExW} {ad : Nat → Nat} {a : Nat} {la : Array Slot} {nL : Nat} (hl : lv_has la nL (ls.map (fun q => (q.1, exV w ad q.2)))) (ho : ∀ q ∈ ls, exOk sh.length q.2) : lv_has la nL (ls.map (fun q => (q.1, exV w (va_up ad sh.length a) q.2))) := by
  rw [exLs_ag (n := sh.length) (fun i hi => va_up_ne _ _ (Nat.ne_of_lt hi)) ho]; exact hl
theorem e_new {ix ci N : Nat} (hd : decode M.2.1 pc = .ok (.new ix, 3)) (hw : exNw M.1 ix ci N) (hI : ∀ j, j ≠ sh.length → I' j = I j) (hI0 : I' sh.length = fun _ => 0) (hL : ∀ j, j ≠ sh.length → L' j = L j) (hL0 : L' sh.length = fun _ => 0) (hR : ∀ j, j ≠ sh.length → R' j = R j) (hR0 : R' sh.length = fun _ => .null)
    (kk : Ex l M d K (pc + 3) ls (.ref sh.length :: st) (sh ++ [(ci + 8, N)]) I' L' R' k n) : Ex l M d K pc ls st sh I L R (k + 1) (n + N) := by
  intro w p e s m args below meth c A mc ms n0 ad0 ad H locs cells slots la F S hS hk hn hl ho hs
  obtain ⟨C, T, ty0, hc, hin, hty, h1, h2, h3, h4⟩ := hw
  refine va_new F.x F.b F.ts hin ty0 hty F.own (F.ts _ h1) (F.ts _ h2) (F.ts _ h3) F.B.1 S.2.2.2.1 S.2.2.2.2 hS F.hA hc h4 (by show cells + 1 ≤ mc; omega) (by show slots + N ≤ ms; omega) hd (fun q H1 hP1 hD1 hS1 => ?_)
  have hlen : (sh ++ [(ci + 8, N)]).length = sh.length + 1 := by simp
  have k2 := kk w p e s m args below meth c A mc ms n0 ad0 (va_up ad sh.length q) H1 locs (cells + 1) (slots + N) la F (exIn_push (I' := I') (L' := L') (R' := R') S (by rw [exC_obj, hI0, hL0, hR0, exDf_eq]) hI hL hR (fun j => by rw [hR0]; trivial) hP1 hD1) hS1 (by omega) (by omega) (exLs_push hl ho) (fun x hx => by rw [hlen]; exact exOk_mono (Nat.le_succ _) (ho x hx)) (fun v hv => by
    rw [hlen]
    rcases List.mem_cons.mp hv with rfl | hv
    · exact Nat.lt_succ_self _
    · exact exOk_mono (Nat.le_succ _) (hs v hv))
  rw [List.map_cons, exMap_ag (n := sh.length) (ad := ad) (ad' := va_up ad sh.length q) (fun i hi => va_up_ne _ _ (Nat.ne_of_lt hi)) hs] at k2
  have e1 : exV w (va_up ad sh.length q) (.ref sh.length) = .ref q := by show Value.ref (va_up ad sh.length q sh.length) = _; rw [va_up_self]
  rw [e1] at k2
  exact k2
theorem e_newaI {t N : Nat} {x : Int32} {at0 : ArrayType} {ty : FieldType} (hd : decode M.2.1 pc = .ok (.newarray at0, 2)) (hq : Cond.arrayClass ty ∈ lw_all) (hty : newarray.typeOf at0 = ty) (ht : t < 3) (hT : ∀ w : ExW, (exTys w)[t]? = some (w.2.1 t, ty)) (hx : x = nI N) (hN : N ≤ 100000) (hI : ∀ j, j ≠ sh.length → I' j = I j) (hI0 : I' sh.length = fun _ => 0)
    (kk : Ex l M d K (pc + 2) ls (.ref sh.length :: st) (sh ++ [(t, N)]) I' L (va_up R sh.length (fun _ => .null)) k n) : Ex l M d K pc ls (.int x :: st) sh I L R (k + 1) (n + N) := by
  intro w p e s m args below meth c A mc ms n0 ad0 ad H locs cells slots la F S hS hk hn hl ho hs
  subst hx
  have hN2 : (nI N).toNatClampNeg = N := nI_clamp (by omega)
  have hdv : defaultValue ty = .int 0 := by
    rw [← hty]
    match t, ht with
    | 0, _ => have := hT (default, fun _ => default, fun _ => 0); cases this; rw [hty]; rfl
    | 1, _ => have := hT (default, fun _ => default, fun _ => 0); cases this; rw [hty]; rfl
    | 2, _ => have := hT (default, fun _ => default, fun _ => 0); cases this; rw [hty]; rfl
  have hcb : componentBytes ty ≤ 8 := by
    rw [← hty]
    cases at0 <;> decide
  have hfc : ∀ c1 c2, va_RA s c1 ty → va_RA s c2 ty → c1 = c2 := by
    intro c1 c2 h1 h2
    rw [← hty] at h1 h2
    cases at0 <;> exact Option.some.inj (h1.symm.trans h2)
  refine va_newa F.x F.b (atype := at0) (by rw [hty]; exact F.ts _ hq) hty F.B.1 S.2.2.2.1 S.2.2.2.2 hS F.hA (N' := N) (a0 := (N, .inl (fun _ => 0))) (fun cA => by rw [hdv]; rfl) (nI_pos (by omega)) hN2 (by have := Nat.mul_le_mul hN hcb; omega) (by show cells + 1 ≤ mc; omega) (by show slots + N ≤ ms; omega) hd (fun q cA H1 hK1 hP1 hD1 hS1 => ?_)
  have hcA : cA = w.2.1 t := hfc _ _ (hK1.2 8 (cA, ty) rfl).2 (F.B.1.2 t _ (hT w)).2
  subst hcA
  have hlen : (sh ++ [(t, N)]).length = sh.length + 1 := by simp
  have k2 := kk w p e s m args below meth c A mc ms n0 ad0 (va_up ad sh.length q) H1 locs (cells + 1) (slots + N) la F (exIn_push (I' := I') (L' := L) (R' := va_up R sh.length (fun _ => .null)) S (by rw [exC_int ht, hI0]) hI (fun _ _ => rfl) ex_rows (fun j => by rw [va_up_self]; trivial) hP1 hD1) hS1 (by omega) (by omega) (exLs_push hl ho) (fun x hx => by rw [hlen]; exact exOk_mono (Nat.le_succ _) (ho x hx)) (fun v hv => by
    rw [hlen]
    rcases List.mem_cons.mp hv with rfl | hv
    · exact Nat.lt_succ_self _
    · exact exOk_mono (Nat.le_succ _) (hs v (List.mem_cons_of_mem _ hv)))
  rw [List.map_cons, exMap_ag (n := sh.length) (ad := ad) (ad' := va_up ad sh.length q) (fun i hi => va_up_ne _ _ (Nat.ne_of_lt hi)) (fun v hv => hs v (List.mem_cons_of_mem _ hv))] at k2
  have e1 : exV w (va_up ad sh.length q) (.ref sh.length) = .ref q := by show Value.ref (va_up ad sh.length q sh.length) = _; rw [va_up_self]
  rw [e1] at k2
  exact k2
theorem e_newaL {N : Nat} {x : Int32} (hd : decode M.2.1 pc = .ok (.newarray .long, 2)) (hq : Cond.arrayClass .long ∈ lw_all) (hx : x = nI N) (hN : N ≤ 100000) (hL : ∀ j, j ≠ sh.length → L' j = L j) (hL0 : L' sh.length = fun _ => 0)
    (kk : Ex l M d K (pc + 2) ls (.ref sh.length :: st) (sh ++ [(3, N)]) I L' (va_up R sh.length (fun _ => .null)) k n) : Ex l M d K pc ls (.int x :: st) sh I L R (k + 1) (n + N) := by
  intro w p e s m args below meth c A mc ms n0 ad0 ad H locs cells slots la F S hS hk hn hl ho hs
  subst hx
  have hN2 : (nI N).toNatClampNeg = N := nI_clamp (by omega)
  refine va_newa F.x F.b (atype := .long) (F.ts _ hq) rfl F.B.1 S.2.2.2.1 S.2.2.2.2 hS F.hA (N' := N) (a0 := (N, .inr (.inl (fun _ => 0)))) (fun cA => rfl) (nI_pos (by omega)) hN2 (by show N * 8 ≤ _; omega) (by show cells + 1 ≤ mc; omega) (by show slots + N ≤ ms; omega) hd (fun q cA H1 hK1 hP1 hD1 hS1 => ?_)
  have hcA : cA = w.2.1 3 := Option.some.inj ((hK1.2 8 (cA, .long) rfl).2.symm.trans (F.B.1.2 3 _ rfl).2)
  subst hcA
  have hlen : (sh ++ [(3, N)]).length = sh.length + 1 := by simp
  have k2 := kk w p e s m args below meth c A mc ms n0 ad0 (va_up ad sh.length q) H1 locs (cells + 1) (slots + N) la F (exIn_push (I' := I) (L' := L') (R' := va_up R sh.length (fun _ => .null)) S (by rw [exC_long, hL0]) (fun _ _ => rfl) hL ex_rows (fun j => by rw [va_up_self]; trivial) hP1 hD1) hS1 (by omega) (by omega) (exLs_push hl ho) (fun x hx => by rw [hlen]; exact exOk_mono (Nat.le_succ _) (ho x hx)) (fun v hv => by
    rw [hlen]
    rcases List.mem_cons.mp hv with rfl | hv
    · exact Nat.lt_succ_self _
    · exact exOk_mono (Nat.le_succ _) (hs v (List.mem_cons_of_mem _ hv)))
  rw [List.map_cons, exMap_ag (n := sh.length) (ad := ad) (ad' := va_up ad sh.length q) (fun i hi => va_up_ne _ _ (Nat.ne_of_lt hi)) (fun v hv => hs v (List.mem_cons_of_mem _ hv))] at k2
  have e1 : exV w (va_up ad sh.length q) (.ref sh.length) = .ref q := by show Value.ref (va_up ad sh.length q sh.length) = _; rw [va_up_self]
  rw [e1] at k2
  exact k2
theorem e_newq {ix t N : Nat} {x : Int32} {C : String} (hd : decode M.2.1 pc = .ok (.anewarray ix, 3)) (hq : Cond.classLink M.1 ix C ∈ lw_all) (hov : C ∈ exOv) (h1 : 4 ≤ t) (h2 : t < 8) (hT : ∀ w : ExW, (exTys w)[t]? = some (w.2.1 t, .object C)) (hx : x = nI N) (hN : N ≤ 100000) (hR : ∀ j, j ≠ sh.length → R' j = R j) (hR0 : R' sh.length = fun _ => .null)
    (kk : Ex l M d K (pc + 3) ls (.ref sh.length :: st) (sh ++ [(t, N)]) I L R' k n) : Ex l M d K pc ls (.int x :: st) sh I L R (k + 1) (n + N) := by
  intro w p e s m args below meth c A mc ms n0 ad0 ad H locs cells slots la F S hS hk hn hl ho hs
  subst hx
  have hN2 : (nI N).toNatClampNeg = N := nI_clamp (by omega)
  refine va_newq F.x F.b F.own (F.ts _ hq) (F.B.2.2.2.2.2 _ hov) F.B.1 S.2.2.2.1 S.2.2.2.2 hS F.hA (N' := N) (nI_pos (by omega)) hN2 (by omega) (by show cells + 1 ≤ mc; omega) (by show slots + N ≤ ms; omega) hd (fun q cA H1 hK1 hP1 hD1 hS1 => ?_)
  have hcA : cA = w.2.1 t := by
    obtain ⟨-, -, -, -, -, h3⟩ := (hK1.2 8 (cA, .object C) rfl).2
    obtain ⟨-, -, -, -, -, h4⟩ := (F.B.1.2 t _ (hT w)).2
    exact Option.some.inj (h3.symm.trans h4)
  subst hcA
  have hlen : (sh ++ [(t, N)]).length = sh.length + 1 := by simp
  have k2 := kk w p e s m args below meth c A mc ms n0 ad0 (va_up ad sh.length q) H1 locs (cells + 1) (slots + N) la F (exIn_push (I' := I) (L' := L) (R' := R') S (by rw [exC_ref h1 h2, hR0]; rfl) (fun _ _ => rfl) (fun _ _ => rfl) hR (fun j => by rw [hR0]; trivial) hP1 hD1) hS1 (by omega) (by omega) (exLs_push hl ho) (fun x hx => by rw [hlen]; exact exOk_mono (Nat.le_succ _) (ho x hx)) (fun v hv => by
    rw [hlen]
    rcases List.mem_cons.mp hv with rfl | hv
    · exact Nat.lt_succ_self _
    · exact exOk_mono (Nat.le_succ _) (hs v (List.mem_cons_of_mem _ hv)))
  rw [List.map_cons, exMap_ag (n := sh.length) (ad := ad) (ad' := va_up ad sh.length q) (fun i hi => va_up_ne _ _ (Nat.ne_of_lt hi)) (fun v hv => hs v (List.mem_cons_of_mem _ hv))] at k2
  have e1 : exV w (va_up ad sh.length q) (.ref sh.length) = .ref q := by show Value.ref (va_up ad sh.length q sh.length) = _; rw [va_up_self]
  rw [e1] at k2
  exact k2
-- System.arraycopy between int arrays
theorem e_copy {i j N N' ix : Nat} {x y z : Int32} (hd : decode M.2.1 pc = .ok (.invokestatic ix, 3)) (hq : Cond.methodLink M.1 ix arraycopyName ∈ lw_all) (hs0 : sh[i]? = some (0, N)) (hs1 : sh[j]? = some (0, N')) (h1 : ¬ x < 0) (h2 : ¬ y < 0) (h3 : ¬ z < 0) (h4 : x.toNatClampNeg + z.toNatClampNeg ≤ N) (h5 : y.toNatClampNeg + z.toNatClampNeg ≤ N') (hd1 : 1 ≤ d) (hw8 : (st.map Value.category).sum ≤ 8)
    (kk : Ex l M d K (pc + 3) ls st sh (va_up I j (va_cpy (I i) (I j) x.toNatClampNeg y.toNatClampNeg z.toNatClampNeg)) L R k n) : Ex l M d K pc ls (.int z :: .int y :: .ref j :: .int x :: .ref i :: st) sh I L R k n := by
  intro w p e s m args below meth c A mc ms n0 ad0 ad H locs cells slots la F S hS hk hn hl ho hs
  obtain ⟨hn0, hag, hRk, hP, hD⟩ := id S
  have he0 := exWs_at (w := w) (ad := ad) (I := I) (L := L) (R := R) hs0
  have he1 := exWs_at (w := w) (ad := ad) (I := I) (L := L) (R := R) hs1
  have hcat : ((st.map (exV w ad)).map fun v => v.category).sum = (st.map Value.category).sum := by
    rw [List.map_map]; congr 1; exact List.map_congr_left (fun v _ => exV_cat w ad v)
  have hlo : ((st.map (exV w ad)).map fun v => v.category).sum + (nativeFrameWords "java/lang/System" "arraycopy" 5 + 11) ≤ 256 * d := by
    rw [hcat, show nativeFrameWords "java/lang/System" "arraycopy" 5 = 7 by decide]
    omega
  refine va_copyi F.x F.b (F.ml.trans hl.1.symm) F.own (F.ts _ hq) (F.ts _ q465) (F.ts _ q464) (F.ts _ q125) F.B.1 hP hD hS i j 0 0 he0 he1 rfl rfl rfl h1 h2 h3 h4 h5 (fun _ _ => rfl) hd1 hlo hd (fun H1 locs1 hP1 hD1 hS1 => ?_)
  have e2 := ex_setI (w := w) (ad := ad) (I := I) (L := L) (R := R) (f := va_cpy (I i) (I j) x.toNatClampNeg y.toNatClampNeg z.toNatClampNeg) hs1 (by decide)
  exact kk w p e s m args below meth c A mc ms n0 ad0 ad H1 locs1 cells slots la F ⟨hn0, hag, hRk, e2 ▸ hP1, e2 ▸ hD1⟩ hS1 hk hn hl ho (fun v hv => hs v (List.mem_cons_of_mem _ (List.mem_cons_of_mem _ (List.mem_cons_of_mem _ (List.mem_cons_of_mem _ (List.mem_cons_of_mem _ hv))))))
-- ends
theorem ex_end {w : ExW} {p : Program} {e : Env} {s : State} {m : MethodId} {args : Array Value} {below : List Frame} {meth : Method} {c : Code} {A : Nat → Prop} {mc ms n0 : Nat} {ad0 ad : Nat → Nat} {H : Heap} {locs : List Loc} (S : exIn w n0 ad0 ad A sh I L R H) (hS : va_S A s.heap H locs) {v : Option Value} (hK : K (some v) sh I L R) (hv : ∀ x, v = some x → exOk sh.length x) (t : State) (ht : t.heap = H) : exQ w n0 ad0 K A args s (.returned (v.map (exV w ad))) t :=
  ⟨⟨v, sh, I, L, R, ad, rfl, hK, hv, by rw [ht]; exact S⟩, hS.F ht⟩
theorem e_iret {x : Int32} (hd : decode M.2.1 pc = .ok (.ireturn, 1)) (hr : M.2.2.2.1 = some .int) (hK : K (some (some (.int x))) sh I L R) : Ex l M d K pc ls [.int x] sh I L R k n := by
  intro w p e s m args below meth c A mc ms n0 ad0 ad H locs cells slots la F S hS hk hn hl ho hs
  refine vx_ret (W.widen (k := mc) (n := ms) (by omega) (by omega) ?_)
  exact W.iret F.x F.b (F.r.trans hr) (fun t ht hW => ex_end (p := p) (e := e) (m := m) (below := below) (meth := meth) (c := c) (mc := mc) (ms := ms) S hS hK (fun x hx => by cases hx; trivial) t ht) hS.2.2 hd F.lk
theorem e_zret {x : Int32} {ty : FieldType} (hd : decode M.2.1 pc = .ok (.ireturn, 1)) (hr : M.2.2.2.1 = some ty) (hnr : narrow ty (.int x) = .int x) (hK : K (some (some (.int x))) sh I L R) : Ex l M d K pc ls [.int x] sh I L R k n := by
  intro w p e s m args below meth c A mc ms n0 ad0 ad H locs cells slots la F S hS hk hn hl ho hs
  refine vx_ret (W.widen (k := mc) (n := ms) (by omega) (by omega) ?_)
  exact W.zret F.x F.b (F.r.trans hr) hnr (fun t ht hW => ex_end (p := p) (e := e) (m := m) (below := below) (meth := meth) (c := c) (mc := mc) (ms := ms) S hS hK (fun x hx => by cases hx; trivial) t ht) hS.2.2 hd F.lk
theorem e_lret {x : Int64} (hd : decode M.2.1 pc = .ok (.lreturn, 1)) (hr : M.2.2.2.1 = some .long) (hK : K (some (some (.long x))) sh I L R) : Ex l M d K pc ls [.long x] sh I L R k n := by
  intro w p e s m args below meth c A mc ms n0 ad0 ad H locs cells slots la F S hS hk hn hl ho hs
  refine vx_ret (W.widen (k := mc) (n := ms) (by omega) (by omega) ?_)
  exact W.lret F.x F.b (F.r.trans hr) (fun t ht hW => ex_end (p := p) (e := e) (m := m) (below := below) (meth := meth) (c := c) (mc := mc) (ms := ms) S hS hK (fun x hx => by cases hx; trivial) t ht) hS.2.2 hd F.lk
theorem e_vret (hd : decode M.2.1 pc = .ok (.return_, 1)) (hr : M.2.2.2.1 = none) (hK : K (some none) sh I L R) : Ex l M d K pc ls [] sh I L R k n := by
  intro w p e s m args below meth c A mc ms n0 ad0 ad H locs cells slots la F S hS hk hn hl ho hs
  refine vx_ret (W.widen (k := mc) (n := ms) (by omega) (by omega) ?_)
  exact W.vret F.x F.b (F.r.trans hr) (fun t ht hW => ex_end (p := p) (e := e) (m := m) (below := below) (meth := meth) (c := c) (mc := mc) (ms := ms) S hS hK (fun x hx => by cases hx) t ht) hS.2.2 hd F.lk
theorem e_aret {v : Value} {ty : FieldType} (hd : decode M.2.1 pc = .ok (.areturn, 1)) (hr : M.2.2.2.1 = some ty) (hty : exRT ty = true) (hv : exRl v = true) (hK : K (some (some v)) sh I L R) : Ex l M d K pc ls [v] sh I L R k n := by
  intro w p e s m args below meth c A mc ms n0 ad0 ad H locs cells slots la F S hS hk hn hl ho hs
  refine vx_ret (W.widen (k := mc) (n := ms) (by omega) (by omega) ?_)
  exact W.aret F.x F.b (F.r.trans hr) (by cases ty <;> first | (exact Or.inl ⟨_, rfl⟩) | (exact Or.inr ⟨_, rfl⟩) | (exact absurd hty (by decide))) (by cases v <;> first | (exact Or.inl rfl) | (exact Or.inr ⟨_, rfl⟩) | (exact absurd hv (by simp [exRl]))) (fun t ht hW => ex_end (p := p) (e := e) (m := m) (below := below) (meth := meth) (c := c) (mc := mc) (ms := ms) S hS (v := some v) hK (fun x hx => by cases hx; exact hs _ List.mem_cons_self) t ht) hS.2.2 hd F.lk
theorem ex_thrown {w : ExW} {p : Program} {e : Env} {s : State} {m : MethodId} {args : Array Value} {below : List Frame} {meth : Method} {c : Code} {A : Nat → Prop} {mc ms n0 : Nat} {ad0 ad : Nat → Nat} {H : Heap} {locs : List Loc} {cells slots : Nat} {la : Array Slot} {rest : List Value} {q : Addr} {ce : Cell} (F : exFix l M w p s m args meth c A) (htb : M.2.2.2.2.2.1 = []) (S : exIn w n0 ad0 ad A sh I L R H) (hS : va_S A s.heap H locs) (hc : cells ≤ mc) (hn : slots ≤ ms) (hK : K none sh I L R) (h1 : H[q]? = some ce) (h2 : ce.vm = .none) (h3 : s.vm.findClass RX2 = some ce.cls) :
    vx_W p l e (exRm d mc ms) s m args below meth c H locs cells slots (vx_MQ below (exQ w n0 ad0 K A) (exX w n0 ad0 K A) args s mc ms A) (F0 m pc la rest) q :=
  vx_out (fun x hx => by rw [F.tb, htb] at hx; cases hx) F.lk h1 h2 h3 (fun t ht hW => ⟨⟨rfl, sh, I, L, R, ad, hK, by rw [ht]; exact S⟩, hS.F ht⟩) hS.2.2 hc hn
theorem e_athrow {i : Nat} (hd : decode M.2.1 pc = .ok (.athrow, 1)) (htb : M.2.2.2.2.2.1 = []) (hs0 : sh[i]? = some (2 + 8, 8)) (hK : K none sh I L R) : Ex l M d K pc ls (.ref i :: st) sh I L R k n := by
  intro w p e s m args below meth c A mc ms n0 ad0 ad H locs cells slots la F S hS hk hn hl ho hs
  have he := exWs_at (w := w) (ad := ad) (I := I) (L := L) (R := R) hs0
  rw [exC_obj] at he
  obtain ⟨r, g1, cell, g2, g3, g4, g5⟩ := S.2.2.2.1 i _ he
  cases g1
  obtain ⟨-, g6, -⟩ := F.B.1.1 2 _ rfl
  exact vx_athrow F.x F.b hd (ex_thrown F htb S hS (by omega) (by omega) hK g2 g4 (by rw [g3]; exact g6))

-- calls
/-- behind a call: what came back, whole -/
theorem ex_run {p : Program} {e : Env} {s : State} {m : MethodId} {args : Array Value} {below : List Frame} {meth : Method} {c : Code} {Rm : Room} {A A1 : Nat → Prop} {H : Heap} {locs : List Loc} {cells slots mc' ms' : Nat} {la : Array Slot} {st0 rest : List Value} {a : Array Value} {Q : State → Prop} {w : ExW} {ad : Nat → Nat} {Kc : ExK} {n1 : Nat}
    (hr : vx_Run p l e Rm s m args below meth c H locs cells slots mc' ms' (F0 m pc la st0) rest (exQ w n1 ad Kc A1 a) (exX w n1 ad Kc A1) A1) (hS : va_S A s.heap H locs) (hA : ∀ q, A1 q → A q)
    (kk : ∀ (v : Option Value) (sh' : ExSh) (I' : ExI) (L' : ExL) (R' : ExR) (ad' : Nat → Nat) (H1 : Heap) (locs1 : List Loc), Kc (some v) sh' I' L' R' → (∀ x, v = some x → exOk sh'.length x) → exIn w n1 ad ad' A1 sh' I' L' R' H1 → va_S A s.heap H1 locs1 → W p l e Rm s m args below meth c H1 locs1 (cells + mc') (slots + ms') Q (F0 m (pc + 3) la ((v.map (exV w ad')).toList ++ rest)))
    (kx : ∀ (sh' : ExSh) (I' : ExI) (L' : ExL) (R' : ExR) (ad' : Nat → Nat) (H1 : Heap) (locs1 : List Loc) (ce : Cell) (q9 : Addr), Kc none sh' I' L' R' → exIn w n1 ad ad' A1 sh' I' L' R' H1 → va_S A s.heap H1 locs1 → H1[q9]? = some ce → ce.vm = .none → s.vm.findClass RX2 = some ce.cls → vx_W p l e Rm s m args below meth c H1 locs1 (cells + mc') (slots + ms') Q (F0 m pc la rest) q9) :
    W p l e Rm s m args below meth c H locs cells slots Q (F0 m pc la st0) := by
  intro T hT X
  rcases hr T hT X with ⟨v, st₀, t, T', L9, h0, X', hL, e1, e2, ⟨⟨v2, sh', I', L', R', ad', hv, hk, hok, hin⟩, hF⟩, st⟩ | ⟨q, st₀, t, T', L9, E, ce, h0, X', hL, e1, e2, ⟨⟨hE, sh', I', L', R', ad', hk, hin⟩, hF⟩, hce, hcv, hcl, st⟩
  · cases hv
    obtain ⟨k1, k2, k3⟩ := vx_keep h0 e1 hS (fun q _ h => hA q h) hA hL hF
    obtain ⟨t2, a1, b1⟩ := kk v2 sh' I' L' R' ad' T'.heap (locs ++ L9) hk hok (by rw [e1]; exact hin) k3 T' rfl X'
    exact ⟨t2, st t2 a1, b1⟩
  · obtain ⟨k1, k2, k3⟩ := vx_keep h0 e1 hS (fun q _ h => hA q h) hA hL hF
    subst hE
    obtain ⟨t2, a1, b1⟩ := kx sh' I' L' R' ad' T'.heap (locs ++ L9) ce q hk (by rw [e1]; exact hin) k3 (by rw [e1]; exact hce) hcv hcl T' rfl X'
    exact ⟨t2, st.trans a1, b1⟩
/-- what a callee's start asks, had -/
theorem ex_pre {w : ExW} {p : Program} {s : State} {m : MethodId} {args : Array Value} {meth : Method} {c : Code} {A : Nat → Prop} {n0 : Nat} {ad0 ad : Nat → Nat} {H : Heap} {locs : List Loc} {av : List Value} (F : exFix l M w p s m args meth c A) (S : exIn w n0 ad0 ad A sh I L R H) (hS : va_S A s.heap H locs) :
    (∀ q, va_A (exWs w ad sh I L R) H.size q → A q) ∧ PreS s H (va_Pc (av.map (exV w ad)) (fun U => U.heap.size = H.size ∧ va_P w.1 exCl (exWs w ad sh I L R) U.heap ∧ va_D (fun _ => True) (exWs w ad sh I L R) ∧ exB w (va_A (exWs w ad sh I L R) H.size) U U.heap)) (av.map (exV w ad)) := by
  obtain ⟨-, -, -, hP, hD⟩ := S
  have hfr : ∀ q, va_A (exWs w ad sh I L R) H.size q → A q := by
    intro q h
    rcases h with ⟨k, e, h⟩ | h
    · exact hD.2 k (q, e) h
    · exact F.hA q (Nat.le_trans hS.1 h)
  refine ⟨hfr, fun a U g mk h => ?_, fun U hU hW => ?_⟩
  · obtain ⟨q0, q1, q2, q3, q4⟩ := h
    exact ⟨q0, q1, q2, q3, q4.same rfl rfl⟩
  · exact ⟨rfl, by rw [hU], by rw [hU]; exact hP, hD.weaken (fun _ _ _ _ => trivial), F.B.call hS hfr hU hW⟩
theorem exMap_rev {w : ExW} {ad : Nat → Nat} {As rest : List Value} {b : Value} : (As.reverse ++ b :: rest).map (exV w ad) = (As.map (exV w ad)).reverse ++ exV w ad b :: rest.map (exV w ad) := by
  rw [List.map_append, List.map_reverse, List.map_cons]
theorem exCat {w : ExW} {ad : Nat → Nat} {st : List Value} (h : (st.map Value.category).sum ≤ 8) : 2 * (0 : Nat) + ((st.map (exV w ad)).map fun v => v.category).sum ≤ 8 := by
  have : ((st.map (exV w ad)).map fun v => v.category) = st.map Value.category := by rw [List.map_map]; exact List.map_congr_left (fun v _ => exV_cat w ad v)
  rw [this]; omega
/-- what goes on behind a call, in words of Ex -/
theorem ex_go {w : ExW} {p : Program} {e : Env} {s : State} {m : MethodId} {args : Array Value} {below : List Frame} {meth : Method} {c : Code} {A : Nat → Prop} {mc ms n0 : Nat} {ad0 ad : Nat → Nat} {H : Heap} {locs : List Loc} {cells slots mc' ms' k2 n2 : Nat} {la : Array Slot} {st0 : List Value} {a : Array Value} {Kc : ExK}
    (F : exFix l M w p s m args meth c A) (S : exIn w n0 ad0 ad A sh I L R H) (hS : va_S A s.heap H locs) (hk : cells + (k2 + mc') ≤ mc) (hn : slots + (n2 + ms') ≤ ms)
    (hl : lv_has la M.2.2.1 (ls.map (fun q => (q.1, exV w ad q.2)))) (ho : ∀ q ∈ ls, exOk sh.length q.2) (hs : ∀ v ∈ st, exOk sh.length v)
    (hr : vx_Run p l e (exRm d mc ms) s m args below meth c H locs cells slots mc' ms' (F0 m pc la st0) (st.map (exV w ad)) (exQ w sh.length ad Kc (va_A (exWs w ad sh I L R) H.size) a) (exX w sh.length ad Kc (va_A (exWs w ad sh I L R) H.size)) (va_A (exWs w ad sh I L R) H.size))
    (kk : ∀ v sh' I' L' R', Kc (some v) sh' I' L' R' → Ex l M d K (pc + 3) ls (v.toList ++ st) sh' I' L' R' k2 n2)
    (kx : (M.2.2.2.2.2.1 = [] ∧ ∀ sh' I' L' R', Kc none sh' I' L' R' → K none sh' I' L' R') ∨ ∀ sh' I' L' R', ¬ Kc none sh' I' L' R') :
    W p l e (exRm d mc ms) s m args below meth c H locs cells slots (vx_MQ below (exQ w n0 ad0 K A) (exX w n0 ad0 K A) args s mc ms A) (F0 m pc la st0) := by
  obtain ⟨hfr, -⟩ := ex_pre (av := []) F S hS
  have up : ∀ {ad' : Nat → Nat} {sh' : ExSh} {I' : ExI} {L' : ExL} {R' : ExR} {H1 : Heap}, exIn w sh.length ad ad' (va_A (exWs w ad sh I L R) H.size) sh' I' L' R' H1 → exIn w n0 ad0 ad' A sh' I' L' R' H1 := by
    intro ad' sh' I' L' R' H1 h
    obtain ⟨g1, g2, g3, g4, g5⟩ := h
    exact ⟨Nat.le_trans S.1 g1, fun i hi => (g2 i (Nat.lt_of_lt_of_le hi S.1)).trans (S.2.1 i hi), g3, g4, g5.weaken (fun _ _ _ h => hfr _ h)⟩
  refine ex_run hr hS hfr (fun v sh' I' L' R' ad' H1 locs1 h1 h2 h3 h4 => ?_) (fun sh' I' L' R' ad' H1 locs1 ce q9 h1 h3 h4 h5 h6 h7 => ?_)
  · have k3 := kk v sh' I' L' R' h1 w p e s m args below meth c A mc ms n0 ad0 ad' H1 locs1 (cells + mc') (slots + ms') la F (up h3) h4 (by omega) (by omega) (by rw [exLs_ag h3.2.1 ho]; exact hl) (fun q hq => exOk_mono h3.1 (ho q hq)) (fun x hx => by
      rcases List.mem_append.mp hx with hx | hx
      · exact h2 x (Option.mem_toList.mp hx)
      · exact exOk_mono h3.1 (hs x hx))
    rw [List.map_append, exMap_ag h3.2.1 hs] at k3
    have e1 : v.toList.map (exV w ad') = (v.map (exV w ad')).toList := by cases v <;> rfl
    rw [e1] at k3
    exact k3
  · rcases kx with ⟨htb, kx⟩ | kx
    · exact ex_thrown F htb (up h3) h4 (by omega) (by omega) (kx sh' I' L' R' h1) h5 h6 h7
    · exact absurd h1 (kx sh' I' L' R')
/-- a call of an instance method by its own class' name -/
def exCV (own : String) (ix ci : Nat) (y : MethodName) (bytes : ByteArray) (mL : Nat) (ret : Option FieldType) (nA : Nat) : Prop := ∃ (C : String) (T : u_T) (N : Nat), exCl[ci]? = some (C, T, N) ∧ (GoodIn lw_all (wsV own ix C y (ws_ y bytes mL ret)) ∨ (∃ host, Cond.methodLinkNest own ix y host ∈ exNest ∧ Cond.instanceMethod y ∈ lw_all ∧ Cond.selects C y y ∈ lw_all ∧ Cond.initialized y.cls ∈ lw_all ∧ GoodIn lw_all (ws_ y bytes mL ret))) ∧ (y.cls = C ∧ y.cls ≠ "java/lang/invoke/MethodHandle" ∧ y.cls ≠ "java/lang/invoke/VarHandle" ∧ (parseMethodDescriptor y.desc).map (fun d => d.parameters.length) = some nA) ∧ mL ≤ 200
theorem e_callV {ix i ci N nA mL d' mc' ms' k2 n2 : Nat} {y : MethodName} {bytes : ByteArray} {ret : Option FieldType} {As stk : List Value} {Kc : ExK} (hd : decode M.2.1 pc = .ok (.invokevirtual ix, 3)) (hw : exCV M.1 ix ci y bytes mL ret nA) (hs0 : sh[i]? = some (ci + 8, N)) (hA : As.length = nA) (hst : As.reverse ++ .ref i :: st = stk) (hw8 : (st.map Value.category).sum ≤ 8) (hdd : d' + 1 ≤ d) (hC : Ct l (ws_ y bytes mL ret) y d' mc' ms' (.ref i :: As) sh I L R Kc)
    (kk : ∀ v sh' I' L' R', Kc (some v) sh' I' L' R' → Ex l M d K (pc + 3) ls (v.toList ++ st) sh' I' L' R' k2 n2) (kx : (M.2.2.2.2.2.1 = [] ∧ ∀ sh' I' L' R', Kc none sh' I' L' R' → K none sh' I' L' R') ∨ ∀ sh' I' L' R', ¬ Kc none sh' I' L' R') :
    Ex l M d K pc ls stk sh I L R (k2 + mc') (n2 + ms') := by
  intro w p e s m args below meth c A mc ms n0 ad0 ad H locs cells slots la F S hS hk hn hl ho hs
  subst hst
  obtain ⟨C, T, N', hc, hG, hy, hmL⟩ := hw
  have he := exWs_at (w := w) (ad := ad) (I := I) (L := L) (R := R) hs0
  rw [exC_obj] at he
  have hsi : exOk sh.length (.ref i) := (List.getElem?_eq_some_iff.mp hs0).1
  have hsA : ∀ v ∈ Value.ref i :: As, exOk sh.length v := fun v hv => by
    rcases List.mem_cons.mp hv with rfl | hv
    · exact hsi
    · exact hs v (List.mem_append_left _ (List.mem_reverse.mpr hv))
  have hM := hC w ad H.size hsA S.2.2.1
  obtain ⟨hfr, hbl, hpc⟩ := ex_pre (av := .ref i :: As) F S hS
  have hrm : (exRm d' mc' ms').frames + 1 ≤ (exRm d mc ms).frames ∧ 8 + (mL + 11) + (exRm d' mc' ms').locals ≤ (exRm d mc ms).locals := ⟨hdd, by show 8 + (mL + 11) + 256 * d' ≤ 256 * d; omega⟩
  have hsr : ∀ v ∈ st, exOk sh.length v := fun v hv => hs v (List.mem_append_right _ (List.mem_cons_of_mem _ hv))
  have hfit : cells + mc' ≤ (exRm d mc ms).cells ∧ slots + ms' ≤ (exRm d mc ms).slots := ⟨by show cells + mc' ≤ mc; omega, by show slots + ms' ≤ ms; omega⟩
  rcases hG with hG | ⟨host, g1, g2, g3, g4, g5⟩
  · exact ex_go F S hS hk hn hl ho hsr (vx_runV (As := As.map (exV w ad)) (rest := st.map (exV w ad)) ⟨F.x, F.b, F.ml, F.own, F.ts⟩ hM (cwV nA F.ts hG rfl rfl rfl hy hrm) ⟨hbl, va_recv F.B.1 S.2.2.2.1 hc he, hpc⟩ rfl (by rw [List.length_map]; exact hA) hl.1 exMap_rev (exCat hw8) hd hfit) kk kx
  · exact ex_go F S hS hk hn hl ho hsr (vx_runVN (As := As.map (exV w ad)) (rest := st.map (exV w ad)) ⟨F.x, F.b, F.ml, F.own, F.ts⟩ hM ⟨va_cnB nA F.ts g5 rfl rfl rfl (F.B.2.2.2.2.1 _ g1) (F.ts _ g4) hy.2 hrm, F.ts _ g2, F.ts _ g3⟩ ⟨hbl, va_recv F.B.1 S.2.2.2.1 hc he, hpc⟩ rfl (by rw [List.length_map]; exact hA) hl.1 exMap_rev (exCat hw8) hd hfit) kk kx
/-- a call of an abstract method, found by the receiver's class -/
def exCU (own : String) (ix ci : Nat) (y : MethodName) (bytes : ByteArray) (mL : Nat) (ret : Option FieldType) (nA : Nat) : Prop := ∃ (C owner : String) (T : u_T) (N : Nat) (x : MethodName), exCl[ci]? = some (C, T, N) ∧ GoodIn lw_all (va_wsU own ix C owner x y (ws_ y bytes mL ret)) ∧ Cond.declares ⟨owner, x.name, x.desc⟩ ∈ exNest ∧ (owner ≠ "java/lang/invoke/MethodHandle" ∧ owner ≠ "java/lang/invoke/VarHandle" ∧ (parseMethodDescriptor x.desc).map (fun d => d.parameters.length) = some nA) ∧ mL ≤ 200
theorem e_callU {ix i ci N nA mL d' mc' ms' k2 n2 : Nat} {y : MethodName} {bytes : ByteArray} {ret : Option FieldType} {As stk : List Value} {Kc : ExK} (hd : decode M.2.1 pc = .ok (.invokevirtual ix, 3)) (hw : exCU M.1 ix ci y bytes mL ret nA) (hs0 : sh[i]? = some (ci + 8, N)) (hA : As.length = nA) (hst : As.reverse ++ .ref i :: st = stk) (hw8 : (st.map Value.category).sum ≤ 8) (hdd : d' + 1 ≤ d) (hC : Ct l (ws_ y bytes mL ret) y d' mc' ms' (.ref i :: As) sh I L R Kc)
    (kk : ∀ v sh' I' L' R', Kc (some v) sh' I' L' R' → Ex l M d K (pc + 3) ls (v.toList ++ st) sh' I' L' R' k2 n2) (kx : (M.2.2.2.2.2.1 = [] ∧ ∀ sh' I' L' R', Kc none sh' I' L' R' → K none sh' I' L' R') ∨ ∀ sh' I' L' R', ¬ Kc none sh' I' L' R') :
    Ex l M d K pc ls stk sh I L R (k2 + mc') (n2 + ms') := by
  intro w p e s m args below meth c A mc ms n0 ad0 ad H locs cells slots la F S hS hk hn hl ho hs
  subst hst
  obtain ⟨C, owner, T, N', x, hc, hG, hdc, hy, hmL⟩ := hw
  have he := exWs_at (w := w) (ad := ad) (I := I) (L := L) (R := R) hs0
  rw [exC_obj] at he
  have hsi : exOk sh.length (.ref i) := (List.getElem?_eq_some_iff.mp hs0).1
  have hsA : ∀ v ∈ Value.ref i :: As, exOk sh.length v := fun v hv => by
    rcases List.mem_cons.mp hv with rfl | hv
    · exact hsi
    · exact hs v (List.mem_append_left _ (List.mem_reverse.mpr hv))
  have hM := hC w ad H.size hsA S.2.2.1
  obtain ⟨hfr, hbl, hpc⟩ := ex_pre (av := .ref i :: As) F S hS
  have hrm : (exRm d' mc' ms').frames + 1 ≤ (exRm d mc ms).frames ∧ 8 + (mL + 11) + (exRm d' mc' ms').locals ≤ (exRm d mc ms).locals := ⟨hdd, by show 8 + (mL + 11) + 256 * d' ≤ 256 * d; omega⟩
  have hsr : ∀ v ∈ st, exOk sh.length v := fun v hv => hs v (List.mem_append_right _ (List.mem_cons_of_mem _ hv))
  have hfit : cells + mc' ≤ (exRm d mc ms).cells ∧ slots + ms' ≤ (exRm d mc ms).slots := ⟨by show cells + mc' ≤ mc; omega, by show slots + ms' ≤ ms; omega⟩
  exact ex_go F S hS hk hn hl ho hsr (vx_runU (As := As.map (exV w ad)) (rest := st.map (exV w ad)) ⟨F.x, F.b, F.ml, F.own, F.ts⟩ hM (va_cwA nA F.ts hG rfl rfl rfl (F.B.2.2.2.2.1 _ hdc) hy hrm) ⟨hbl, va_recv F.B.1 S.2.2.2.1 hc he, hpc⟩ rfl (by rw [List.length_map]; exact hA) hl.1 exMap_rev (exCat hw8) hd hfit) kk kx
/-- a constructor's call -/
def exCI (own : String) (ix : Nat) (y : MethodName) (bytes : ByteArray) (mL : Nat) (nA : Nat) : Prop := y.name = "<init>" ∧ Cond.instanceMethod y ∈ lw_all ∧ Cond.initialized y.cls ∈ lw_all ∧ GoodIn lw_all (ws_ y bytes mL none) ∧ (Cond.methodLink own ix y ∈ lw_all ∨ ∃ host, Cond.methodLinkNest own ix y host ∈ exNest) ∧ (y.cls ≠ "java/lang/invoke/MethodHandle" ∧ y.cls ≠ "java/lang/invoke/VarHandle" ∧ (parseMethodDescriptor y.desc).map (fun d => d.parameters.length) = some nA) ∧ mL ≤ 200
theorem e_callI {ix i nA mL d' mc' ms' k2 n2 : Nat} {y : MethodName} {bytes : ByteArray} {As stk : List Value} {Kc : ExK} (hd : decode M.2.1 pc = .ok (.invokespecial ix, 3)) (hw : exCI M.1 ix y bytes mL nA) (hA : As.length = nA) (hst : As.reverse ++ .ref i :: st = stk) (hw8 : (st.map Value.category).sum ≤ 8) (hdd : d' + 1 ≤ d) (hC : Ct l (ws_ y bytes mL none) y d' mc' ms' (.ref i :: As) sh I L R Kc)
    (kk : ∀ v sh' I' L' R', Kc (some v) sh' I' L' R' → Ex l M d K (pc + 3) ls (v.toList ++ st) sh' I' L' R' k2 n2) (kx : (M.2.2.2.2.2.1 = [] ∧ ∀ sh' I' L' R', Kc none sh' I' L' R' → K none sh' I' L' R') ∨ ∀ sh' I' L' R', ¬ Kc none sh' I' L' R') :
    Ex l M d K pc ls stk sh I L R (k2 + mc') (n2 + ms') := by
  intro w p e s m args below meth c A mc ms n0 ad0 ad H locs cells slots la F S hS hk hn hl ho hs
  subst hst
  obtain ⟨hnm, hin, hini, hG, hlk, hy, hmL⟩ := hw
  have hsi : exOk sh.length (.ref i) := hs _ (List.mem_append_right _ List.mem_cons_self)
  have hsA : ∀ v ∈ Value.ref i :: As, exOk sh.length v := fun v hv => by
    rcases List.mem_cons.mp hv with rfl | hv
    · exact hsi
    · exact hs v (List.mem_append_left _ (List.mem_reverse.mpr hv))
  have hM := hC w ad H.size hsA S.2.2.1
  obtain ⟨hfr, hpre⟩ := ex_pre (av := .ref i :: As) F S hS
  have hrm : (exRm d' mc' ms').frames + 1 ≤ (exRm d mc ms).frames ∧ 8 + (mL + 11) + (exRm d' mc' ms').locals ≤ (exRm d mc ms).locals := ⟨hdd, by show 8 + (mL + 11) + 256 * d' ≤ 256 * d; omega⟩
  have hsr : ∀ v ∈ st, exOk sh.length v := fun v hv => hs v (List.mem_append_right _ (List.mem_cons_of_mem _ hv))
  have hfit : cells + mc' ≤ (exRm d mc ms).cells ∧ slots + ms' ≤ (exRm d mc ms).slots := ⟨by show cells + mc' ≤ mc; omega, by show slots + ms' ≤ ms; omega⟩
  rcases hlk with hlk | ⟨host, hlk⟩
  · exact ex_go F S hS hk hn hl ho hsr (vx_runI (As := As.map (exV w ad)) (rest := st.map (exV w ad)) ⟨F.x, F.b, F.ml, F.own, F.ts⟩ hM (cwI nA F.ts hG rfl rfl rfl (F.ts _ hini) (F.ts _ hlk) (F.ts _ hin) hnm hy hrm) hpre rfl (by rw [List.length_map]; exact hA) hl.1 exMap_rev (exCat hw8) hd hfit) kk kx
  · exact ex_go F S hS hk hn hl ho hsr (vx_runIN (As := As.map (exV w ad)) (rest := st.map (exV w ad)) ⟨F.x, F.b, F.ml, F.own, F.ts⟩ hM ⟨va_cnB nA F.ts hG rfl rfl rfl (F.B.2.2.2.2.1 _ hlk) (F.ts _ hini) hy hrm, hnm, F.ts _ hin⟩ hpre rfl (by rw [List.length_map]; exact hA) hl.1 exMap_rev (exCat hw8) hd hfit) kk kx
/-- a static call -/
def exCS (own : String) (ix : Nat) (y : MethodName) (bytes : ByteArray) (mL : Nat) (ret : Option FieldType) (nA : Nat) : Prop := (GoodIn lw_all (va_wsS own ix y (ws_ y bytes mL ret)) ∨ (∃ host, Cond.methodLinkNest own ix y host ∈ exNest ∧ Cond.static y ∈ lw_all ∧ Cond.initialized y.cls ∈ lw_all ∧ GoodIn lw_all (ws_ y bytes mL ret))) ∧ (y.cls ≠ "java/lang/invoke/MethodHandle" ∧ y.cls ≠ "java/lang/invoke/VarHandle" ∧ (parseMethodDescriptor y.desc).map (fun d => d.parameters.length) = some nA) ∧ mL ≤ 200
theorem e_callS {ix nA mL d' mc' ms' k2 n2 : Nat} {y : MethodName} {bytes : ByteArray} {ret : Option FieldType} {As stk : List Value} {Kc : ExK} (hd : decode M.2.1 pc = .ok (.invokestatic ix, 3)) (hw : exCS M.1 ix y bytes mL ret nA) (hA : As.length = nA) (hst : As.reverse ++ st = stk) (hw8 : (st.map Value.category).sum ≤ 8) (hdd : d' + 1 ≤ d) (hC : Ct l (ws_ y bytes mL ret) y d' mc' ms' As sh I L R Kc)
    (kk : ∀ v sh' I' L' R', Kc (some v) sh' I' L' R' → Ex l M d K (pc + 3) ls (v.toList ++ st) sh' I' L' R' k2 n2) (kx : (M.2.2.2.2.2.1 = [] ∧ ∀ sh' I' L' R', Kc none sh' I' L' R' → K none sh' I' L' R') ∨ ∀ sh' I' L' R', ¬ Kc none sh' I' L' R') :
    Ex l M d K pc ls stk sh I L R (k2 + mc') (n2 + ms') := by
  intro w p e s m args below meth c A mc ms n0 ad0 ad H locs cells slots la F S hS hk hn hl ho hs
  subst hst
  obtain ⟨hG, hy, hmL⟩ := hw
  have hsA : ∀ v ∈ As, exOk sh.length v := fun v hv => hs v (List.mem_append_left _ (List.mem_reverse.mpr hv))
  have hM := hC w ad H.size hsA S.2.2.1
  obtain ⟨hfr, hpre⟩ := ex_pre (av := As) F S hS
  have hrm : (exRm d' mc' ms').frames + 1 ≤ (exRm d mc ms).frames ∧ 8 + (mL + 11) + (exRm d' mc' ms').locals ≤ (exRm d mc ms).locals := ⟨hdd, by show 8 + (mL + 11) + 256 * d' ≤ 256 * d; omega⟩
  have hsr : ∀ v ∈ st, exOk sh.length v := fun v hv => hs v (List.mem_append_right _ hv)
  have hfit : cells + mc' ≤ (exRm d mc ms).cells ∧ slots + ms' ≤ (exRm d mc ms).slots := ⟨by show cells + mc' ≤ mc; omega, by show slots + ms' ≤ ms; omega⟩
  have hstk : (As.reverse ++ st).map (exV w ad) = (As.map (exV w ad)).reverse ++ st.map (exV w ad) := by rw [List.map_append, List.map_reverse]
  rcases hG with hG | ⟨host, g1, g2, g3, g4⟩
  · exact ex_go F S hS hk hn hl ho hsr (vx_runS (As := As.map (exV w ad)) (rest := st.map (exV w ad)) ⟨F.x, F.b, F.ml, F.own, F.ts⟩ hM (va_cwS nA F.ts hG rfl rfl rfl hy hrm) hpre rfl (by rw [List.length_map]; exact hA) hl.1 hstk (exCat hw8) hd hfit) kk kx
  · exact ex_go F S hS hk hn hl ho hsr (vx_runSN (As := As.map (exV w ad)) (rest := st.map (exV w ad)) ⟨F.x, F.b, F.ml, F.own, F.ts⟩ hM ⟨va_cnB nA F.ts g4 rfl rfl rfl (F.B.2.2.2.2.1 _ g1) (F.ts _ g3) hy hrm, F.ts _ g2, trivial⟩ hpre rfl (by rw [List.length_map]; exact hA) hl.1 hstk (exCat hw8) hd hfit) kk kx
/-- Object.<init> -/
theorem e_objInit {ix i : Nat} (hd : decode M.2.1 pc = .ok (.invokespecial ix, 3)) (hq : Cond.methodLink M.1 ix objectInit ∈ lw_all) (hi : Cond.instanceMethod objectInit ∈ lw_all) (hc : Cond.code objectInit ⟨#[0xb1]⟩ 1 none ∈ lw_all) (hd1 : 1 ≤ d) (hw8 : (st.map Value.category).sum ≤ 8) (kk : Ex l M d K (pc + 3) ls st sh I L R k n) : Ex l M d K pc ls (.ref i :: st) sh I L R k n := by
  intro w p e s m args below meth c A mc ms n0 ad0 ad H locs cells slots la F S hS hk hn hl ho hs
  refine W.objInit F.x F.b F.own (F.ts _ hq) (F.ts _ hi) (F.ts _ hc) rfl (hl.1.trans F.ml.symm) (a := ad i) (rest := st.map (exV w ad)) rfl hd hd1 ?_ ?_
  · have := exCat (w := w) (ad := ad) hw8
    show 2 * 0 + ((st.map (exV w ad)).map fun v => v.category).sum + 12 ≤ 256 * d
    omega
  · exact kk w p e s m args below meth c A mc ms n0 ad0 ad H locs cells slots la F S hS hk hn hl ho (fun v hv => hs v (List.mem_cons_of_mem _ hv))
-- a contract out of a walk
theorem lv_args_map (w : ExW) (ad : Nat → Nat) : ∀ (av : List Value) (i : Nat), lv_args i (av.map (exV w ad)) = (lv_args i av).map (fun q => (q.1, exV w ad q.2))
  | [], _ => rfl
  | v :: av, i => by
    show (i, exV w ad v) :: lv_args (if (exV w ad v).category = 2 then i + 2 else i + 1) (av.map (exV w ad)) = (i, exV w ad v) :: _
    rw [exV_cat, lv_args_map w ad av]
theorem lv_args_ok {n : Nat} : ∀ (av : List Value) (i : Nat), (∀ v ∈ av, exOk n v) → ∀ q ∈ lv_args i av, exOk n q.2
  | [], _, _, q, hq => by cases hq
  | v :: av, i, h, q, hq => by
    rcases List.mem_cons.mp hq with rfl | hq
    · exact h _ List.mem_cons_self
    · exact lv_args_ok av _ (fun x hx => h x (List.mem_cons_of_mem _ hx)) q hq
theorem lg_sl_map (w : ExW) (ad : Nat → Nat) (av : List Value) : (lg_sl (av.map (exV w ad))).length = (lg_sl av).length := by
  induction av with
  | nil => rfl
  | cons v av ih =>
    have e1 : ∀ (v : Value) (l : List Value), (lg_sl (v :: l)).length = (if v.category = 2 then 2 else 1) + (lg_sl l).length := by
      intro v l
      show ((v :: l).flatMap _).length = _
      rw [List.flatMap_cons, List.length_append]
      congr 1
      by_cases h : v.category = 2
      · rw [if_pos h, if_pos h]; rfl
      · rw [if_neg h, if_neg h]; rfl
    rw [List.map_cons, e1, e1, exV_cat, ih]
theorem ex_entry {w : ExW} {p : Program} {e : Env} {s : State} {m : MethodId} {args : Array Value} {below : List Frame} {meth : Method} {c : Code} {mc ms : Nat} {ad : Nat → Nat} {av : List Value} (hav : ∀ v ∈ av, exOk sh.length v) (hRk : ∀ i k, exRk sh.length (R i k)) (hlen : (lg_sl av).length ≤ M.2.2.1) (h : Ex l M d K 0 (lv_args 0 av) [] sh I L R mc ms)
    (F : exFix l M w p s m args meth c (va_A (exWs w ad sh I L R) s.heap.size)) (hP : va_P w.1 exCl (exWs w ad sh I L R) s.heap) (hD : va_D (fun _ => True) (exWs w ad sh I L R)) :
    W p l e (exRm d mc ms) s m args below meth c s.heap [] 0 0 (vx_MQ below (exQ w sh.length ad K (va_A (exWs w ad sh I L R) s.heap.size)) (exX w sh.length ad K (va_A (exWs w ad sh I L R) s.heap.size)) args s mc ms (va_A (exWs w ad sh I L R) s.heap.size)) (entryFrame m (av.map (exV w ad)).toArray M.2.2.1) := by
  have hl := lv_entry (av.map (exV w ad)) (n := M.2.2.1) (by rw [lg_sl_map]; exact hlen)
  rw [lg_entry_eq]
  rw [lv_args_map] at hl
  exact h w p e s m args below meth c _ mc ms sh.length ad ad s.heap [] 0 0 _ F ⟨Nat.le_refl _, fun _ _ => rfl, hRk, hP, hD.self⟩ va_S.rf (by omega) (by omega) hl (lv_args_ok av 0 hav) (fun v hv => by cases hv)
theorem Ct.of {y : MethodName} {bytes : ByteArray} {mL mc ms : Nat} {ret : Option FieldType} {nm : String} {av : List Value} {own : String} (hy : plainName y.cls = true) (hown : y.cls = own) (hnm : y.name = nm) (hlen : (lg_sl av).length ≤ mL) (h : Ex l (own, bytes, mL, ret, nm, [], none) d K 0 (lv_args 0 av) [] sh I L R mc ms) : Ct l (ws_ y bytes mL ret) y d mc ms av sh I L R K := by
  intro w ad sz hav hRk
  refine vx_ofW (cc := bytes) (maxL := mL) (ret := ret) hy rfl ?_
  intro p e s m args below meth c s₁ B hml htb hv
  obtain ⟨rfl, rfl, hP, hD, hB⟩ := hv
  have hts := atoms_spec (ws := ws_ y bytes mL ret) B.pre
  have hts : ∀ w ∈ lw_all, w.before _ s = true := fun w h => hts w (List.mem_cons_of_mem _ h)
  subst hown; subst hnm
  exact ex_entry (M := (y.cls, bytes, mL, ret, y.name, [], none)) hav hRk hlen h ⟨B.exec, B.bytes, B.returns, B.notSynchronized, hml, findClass_of_methodNamed B.named, hts, hB, fun q h => Or.inr h, (name_of_methodNamed B.named B.method).1, by
    cases hh : c.exceptionTable.toList with
    | nil => rfl
    | cons x xs => exact (htb x (by rw [hh]; exact List.mem_cons_self)).elim, fun _ _ h => by cases h⟩ hP hD
theorem Ct.mono {ws : List Cond} {y : MethodName} {mc ms : Nat} {av : List Value} {K' : ExK} (h : ∀ o a b c2 r, K' o a b c2 r → K o a b c2 r) (hC : Ct l ws y d mc ms av sh I L R K') : Ct l ws y d mc ms av sh I L R K := by
  intro w ad sz hav hRk
  have := hC w ad sz hav hRk
  intro p e ha hc hk s m args below hf hap hP hT
  obtain ⟨kk, o, h1, h2, h3, hQ⟩ := this p e ha hc hk s m args below hf hap hP hT
  refine ⟨kk, o, h1, h2, h3, ?_⟩
  rcases hQ with ⟨⟨⟨v, a2, b4, c4, r4, ad4, g1, g2, g3⟩, g4⟩, g5⟩ | ⟨q, g1, E, ce, L4, ⟨⟨g2, a2, b4, c4, r4, ad4, g3, g6⟩, g4⟩, g5⟩
  · exact Or.inl ⟨⟨⟨v, a2, b4, c4, r4, ad4, g1, h _ _ _ _ _ g2, g3⟩, g4⟩, g5⟩
  · exact Or.inr ⟨q, g1, E, ce, L4, ⟨⟨g2, a2, b4, c4, r4, ad4, h _ _ _ _ _ g3, g6⟩, g4⟩, g5⟩

end EXR
