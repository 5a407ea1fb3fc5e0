/-! ChairCane$Fault -/
set_option maxRecDepth 100000
def RX2 : String := "ChairCane$Fault"
def TX2 : u_T := fun k => match k with
  | 0 => ("java/lang/Throwable", "cause", "Ljava/lang/Throwable;", false)
  | 1 => ("java/lang/Throwable", "stackTrace", "[Ljava/lang/StackTraceElement;", false)
  | 2 => ("java/lang/Throwable", "suppressedExceptions", "Ljava/util/List;", false)
  | 3 => ("java/lang/Throwable", "detailMessage", "Ljava/lang/String;", false)
  | 4 => ("java/lang/Throwable", "backtrace", "Ljava/lang/Object;", false)
  | 5 => ("java/lang/Throwable", "depth", "I", false)
  | 6 => ("ChairCane$Fault", "kind", "I", false)
  | _ => ("ChairCane$Fault", "place", "I", false)
def tyX2 : Nat → FieldType := fun k => match k with
  | 0 => .object "java/lang/Throwable"
  | 1 => .array (.object "java/lang/StackTraceElement")
  | 2 => .object "java/util/List"
  | 3 => .object "java/lang/String"
  | 4 => .object "java/lang/Object"
  | 5 => .int
  | 6 => .int
  | _ => .int
abbrev wsX20 : List Cond := u_ws RX2 TX2 8
theorem nmX2 : ∀ a, a < 8 → ∀ b, b < 8 → a ≠ b → (TX2 a).2.1 ≠ (TX2 b).2.1 := by decide +kernel
theorem tyX2_ok : ∀ k, k < 8 → parseFieldDescriptor (TX2 k).2.2.1 = some (tyX2 k) := by decide +kernel
abbrev cX2_init : ByteArray := prog_6_method_1_code
def yX2_init : MethodName := ⟨RX2, "<init>", "()V"⟩
def dkwX2_init_0 : List UInt8 := [42, 18, 1, 1, 3, 3, 183, 0, 3, 177]
abbrev dktX2_init_0 : List UInt8 := dkwX2_init_0 ++ []
theorem dksX2_init_0 : cX2_init.data.toList.drop 0 = dktX2_init_0 := by decide +kernel
theorem dX2_init_0 : decode cX2_init 0 = .ok (.aload_n 0, 1) := dk_42 (dk_at dksX2_init_0 0 rfl rfl)
theorem dX2_init_1 : decode cX2_init 1 = .ok (.ldc 1, 2) := dk_18 1 (dk_at dksX2_init_0 1 rfl rfl)
theorem dX2_init_3 : decode cX2_init 3 = .ok (.aconst_null, 1) := dk_1 (dk_at dksX2_init_0 3 rfl rfl)
theorem dX2_init_4 : decode cX2_init 4 = .ok (.iconst 0, 1) := dk_3 (dk_at dksX2_init_0 4 rfl rfl)
theorem dX2_init_5 : decode cX2_init 5 = .ok (.iconst 0, 1) := dk_3 (dk_at dksX2_init_0 5 rfl rfl)
theorem dX2_init_6 : decode cX2_init 6 = .ok (.invokespecial 3, 3) := dk_183 0 3 (dk_at dksX2_init_0 6 rfl rfl)
theorem dX2_init_9 : decode cX2_init 9 = .ok (.return_, 1) := dk_177 (dk_at dksX2_init_0 9 rfl rfl)
theorem q122 : (Jvm.Cond.initialized "ChairCane$Fault") ∈ lw_all := lw_g (lw_at lw_m1 6 rfl) rfl
theorem q239 : (Jvm.Cond.instantiable "ChairCane$Fault" (8 : Nat)) ∈ lw_all := lw_g (lw_at lw_m1 123 rfl) rfl
theorem q240 : (Jvm.Cond.castable "ChairCane$Fault" "ChairCane$Fault") ∈ lw_tbl := lw_at lw_m1 124 rfl
theorem q247 : (Jvm.Cond.selects "ChairCane$Fault" ({ cls := "java/lang/Throwable", name := "fillInStackTrace", desc := "(I)Ljava/lang/Throwable;" } : Jvm.MethodName) ({ cls := "java/lang/Throwable", name := "fillInStackTrace", desc := "(I)Ljava/lang/Throwable;" } : Jvm.MethodName)) ∈ lw_all := lw_g (lw_at lw_m1 131 rfl) rfl
theorem q248 : (Jvm.Cond.selects "ChairCane$Fault" ({ cls := "java/lang/Throwable", name := "fillInStackTrace", desc := "()Ljava/lang/Throwable;" } : Jvm.MethodName) ({ cls := "java/lang/Throwable", name := "fillInStackTrace", desc := "()Ljava/lang/Throwable;" } : Jvm.MethodName)) ∈ lw_all := lw_g (lw_at lw_m1 132 rfl) rfl
theorem q249 : (Jvm.Cond.lays "ChairCane$Fault" "java/lang/Throwable" "cause" "Ljava/lang/Throwable;") ∈ lw_all := lw_g (lw_at lw_m1 133 rfl) rfl
theorem q251 : (Jvm.Cond.lays "ChairCane$Fault" "java/lang/Throwable" "stackTrace" "[Ljava/lang/StackTraceElement;") ∈ lw_all := lw_g (lw_at lw_m1 135 rfl) rfl
theorem q253 : (Jvm.Cond.lays "ChairCane$Fault" "java/lang/Throwable" "suppressedExceptions" "Ljava/util/List;") ∈ lw_all := lw_g (lw_at lw_m1 137 rfl) rfl
theorem q255 : (Jvm.Cond.lays "ChairCane$Fault" "java/lang/Throwable" "detailMessage" "Ljava/lang/String;") ∈ lw_all := lw_g (lw_at lw_m1 139 rfl) rfl
theorem q257 : (Jvm.Cond.lays "ChairCane$Fault" "java/lang/Throwable" "backtrace" "Ljava/lang/Object;") ∈ lw_all := lw_g (lw_at lw_m1 141 rfl) rfl
theorem q278 : (Jvm.Cond.instanceMethod ({ cls := "ChairCane$Fault", name := "<init>", desc := "()V" } : Jvm.MethodName)) ∈ lw_all := lw_g (lw_at lw_m1 162 rfl) rfl
theorem q279 : (Jvm.Cond.code ({ cls := "ChairCane$Fault", name := "<init>", desc := "()V" } : Jvm.MethodName) prog_6_method_1_code (1 : Nat) (Option.none : Option Jvm.ClassFile.FieldType)) ∈ lw_all := lw_g (lw_at lw_m1 163 rfl) rfl
theorem q280 : (Jvm.Cond.stringRef "ChairCane$Fault" (1 : Nat) "fault") ∈ lw_tbl := lw_at lw_m1 164 rfl
theorem q281 : (Jvm.Cond.methodLink "ChairCane$Fault" (3 : Nat) ({ cls := "java/lang/RuntimeException", name := "<init>", desc := "(Ljava/lang/String;Ljava/lang/Throwable;ZZ)V" } : Jvm.MethodName)) ∈ lw_all := lw_g (lw_at lw_m1 165 rfl) rfl
theorem q299 : (Jvm.Cond.lays "ChairCane$Fault" "ChairCane$Fault" "kind" "I") ∈ lw_all := lw_g (lw_at lw_m1 183 rfl) rfl
theorem q300 : (Jvm.Cond.soleField "ChairCane$Fault" "kind") ∈ lw_all := lw_g (lw_at lw_m1 184 rfl) rfl
theorem q301 : (Jvm.Cond.lays "ChairCane$Fault" "ChairCane$Fault" "place" "I") ∈ lw_all := lw_g (lw_at lw_m1 185 rfl) rfl
theorem q302 : (Jvm.Cond.soleField "ChairCane$Fault" "place") ∈ lw_all := lw_g (lw_at lw_m1 186 rfl) rfl
theorem q307 : (Jvm.Cond.lays "ChairCane$Fault" "java/lang/Throwable" "depth" "I") ∈ lw_all := lw_g (lw_at lw_m1 191 rfl) rfl
theorem q310 : (Jvm.Cond.superclass "ChairCane$Fault" "java/lang/RuntimeException") ∈ lw_all := lw_g (lw_at lw_m1 194 rfl) rfl
theorem in_X2 : ∀ w ∈ wsX20, w ∈ lw_all := lw_in wsX20 [249, 251, 253, 255, 257, 307, 299, 301] (by decide +kernel) (by decide +kernel)

/-! ChairCane$Rule -/
set_option maxRecDepth 100000
def RX5 : String := "ChairCane$Rule"
def TX5 : u_T := fun k => match k with
  | 0 => ("ChairCane$Rule", "clauses", "[LChairCane$Clause;", true)
  | _ => ("ChairCane$Rule", "many", "I", false)
def tyX5 : Nat → FieldType := fun k => match k with
  | 0 => .array (.object "ChairCane$Clause")
  | _ => .int
abbrev wsX50 : List Cond := u_ws RX5 TX5 2
theorem nmX5 : ∀ a, a < 2 → ∀ b, b < 2 → a ≠ b → (TX5 a).2.1 ≠ (TX5 b).2.1 := by decide +kernel
theorem tyX5_ok : ∀ k, k < 2 → parseFieldDescriptor (TX5 k).2.2.1 = some (tyX5 k) := by decide +kernel
abbrev cX5_init : ByteArray := prog_11_method_1_code
def yX5_init : MethodName := ⟨RX5, "<init>", "()V"⟩
def dkwX5_init_0 : List UInt8 := [42, 183, 0, 3, 42, 16, 12, 189, 0, 9, 181, 0, 11, 177]
abbrev dktX5_init_0 : List UInt8 := dkwX5_init_0 ++ []
theorem dksX5_init_0 : cX5_init.data.toList.drop 0 = dktX5_init_0 := by decide +kernel
theorem dX5_init_0 : decode cX5_init 0 = .ok (.aload_n 0, 1) := dk_42 (dk_at dksX5_init_0 0 rfl rfl)
theorem dX5_init_1 : decode cX5_init 1 = .ok (.invokespecial 3, 3) := dk_183 0 3 (dk_at dksX5_init_0 1 rfl rfl)
theorem dX5_init_4 : decode cX5_init 4 = .ok (.aload_n 0, 1) := dk_42 (dk_at dksX5_init_0 4 rfl rfl)
theorem dX5_init_5 : decode cX5_init 5 = .ok (.bipush 12, 2) := dk_16 12 (dk_at dksX5_init_0 5 rfl rfl)
theorem dX5_init_7 : decode cX5_init 7 = .ok (.anewarray 9, 3) := dk_189 0 9 (dk_at dksX5_init_0 7 rfl rfl)
theorem dX5_init_10 : decode cX5_init 10 = .ok (.putfield 11, 3) := dk_181 0 11 (dk_at dksX5_init_0 10 rfl rfl)
theorem dX5_init_13 : decode cX5_init 13 = .ok (.return_, 1) := dk_177 (dk_at dksX5_init_0 13 rfl rfl)
abbrev cX5_summed : ByteArray := prog_11_method_2_code
def yX5_summed : MethodName := ⟨RX5, "summed", "([J)J"⟩
def dkwX5_summed_1 : List UInt8 := [180, 0, 11, 28, 50, 180, 0, 25, 43, 182, 0, 29, 173, 132, 2, 1, 167, 255, 218, 9, 173]
abbrev dktX5_summed_1 : List UInt8 := dkwX5_summed_1 ++ []
def dkwX5_summed_0 : List UInt8 := [3, 61, 28, 42, 180, 0, 17, 162, 0, 36, 42, 180, 0, 11, 28, 50, 43, 182, 0, 21, 153, 0, 17, 42]
abbrev dktX5_summed_0 : List UInt8 := dkwX5_summed_0 ++ dktX5_summed_1
theorem dksX5_summed_0 : cX5_summed.data.toList.drop 0 = dktX5_summed_0 := by decide +kernel
theorem dksX5_summed_1 : cX5_summed.data.toList.drop 24 = dktX5_summed_1 := dk_seg dksX5_summed_0 24 rfl rfl
theorem dX5_summed_0 : decode cX5_summed 0 = .ok (.iconst 0, 1) := dk_3 (dk_at dksX5_summed_0 0 rfl rfl)
theorem dX5_summed_1 : decode cX5_summed 1 = .ok (.istore_n 2, 1) := dk_61 (dk_at dksX5_summed_0 1 rfl rfl)
theorem dX5_summed_2 : decode cX5_summed 2 = .ok (.iload_n 2, 1) := dk_28 (dk_at dksX5_summed_0 2 rfl rfl)
theorem dX5_summed_3 : decode cX5_summed 3 = .ok (.aload_n 0, 1) := dk_42 (dk_at dksX5_summed_0 3 rfl rfl)
theorem dX5_summed_4 : decode cX5_summed 4 = .ok (.getfield 17, 3) := dk_180 0 17 (dk_at dksX5_summed_0 4 rfl rfl)
theorem dX5_summed_7 : decode cX5_summed 7 = .ok (.if_icmp .ge 36, 3) := dk_162 0 36 (dk_at dksX5_summed_0 7 rfl rfl)
theorem dX5_summed_10 : decode cX5_summed 10 = .ok (.aload_n 0, 1) := dk_42 (dk_at dksX5_summed_0 10 rfl rfl)
theorem dX5_summed_11 : decode cX5_summed 11 = .ok (.getfield 11, 3) := dk_180 0 11 (dk_at dksX5_summed_0 11 rfl rfl)
theorem dX5_summed_14 : decode cX5_summed 14 = .ok (.iload_n 2, 1) := dk_28 (dk_at dksX5_summed_0 14 rfl rfl)
theorem dX5_summed_15 : decode cX5_summed 15 = .ok (.aaload, 1) := dk_50 (dk_at dksX5_summed_0 15 rfl rfl)
theorem dX5_summed_16 : decode cX5_summed 16 = .ok (.aload_n 1, 1) := dk_43 (dk_at dksX5_summed_0 16 rfl rfl)
theorem dX5_summed_17 : decode cX5_summed 17 = .ok (.invokevirtual 21, 3) := dk_182 0 21 (dk_at dksX5_summed_0 17 rfl rfl)
theorem dX5_summed_20 : decode cX5_summed 20 = .ok (.ifCond .eq 17, 3) := dk_153 0 17 (dk_at dksX5_summed_0 20 rfl rfl)
theorem dX5_summed_23 : decode cX5_summed 23 = .ok (.aload_n 0, 1) := dk_42 (dk_at dksX5_summed_0 23 rfl rfl)
theorem dX5_summed_24 : decode cX5_summed 24 = .ok (.getfield 11, 3) := dk_180 0 11 (dk_at dksX5_summed_1 0 rfl rfl)
theorem dX5_summed_27 : decode cX5_summed 27 = .ok (.iload_n 2, 1) := dk_28 (dk_at dksX5_summed_1 3 rfl rfl)
theorem dX5_summed_28 : decode cX5_summed 28 = .ok (.aaload, 1) := dk_50 (dk_at dksX5_summed_1 4 rfl rfl)
theorem dX5_summed_29 : decode cX5_summed 29 = .ok (.getfield 25, 3) := dk_180 0 25 (dk_at dksX5_summed_1 5 rfl rfl)
theorem dX5_summed_32 : decode cX5_summed 32 = .ok (.aload_n 1, 1) := dk_43 (dk_at dksX5_summed_1 8 rfl rfl)
theorem dX5_summed_33 : decode cX5_summed 33 = .ok (.invokevirtual 29, 3) := dk_182 0 29 (dk_at dksX5_summed_1 9 rfl rfl)
theorem dX5_summed_36 : decode cX5_summed 36 = .ok (.lreturn, 1) := dk_173 (dk_at dksX5_summed_1 12 rfl rfl)
theorem dX5_summed_37 : decode cX5_summed 37 = .ok (.iinc 2 1, 3) := dk_132 2 1 (dk_at dksX5_summed_1 13 rfl rfl)
theorem dX5_summed_40 : decode cX5_summed 40 = .ok (.goto (-38), 3) := dk_167 255 218 (dk_at dksX5_summed_1 16 rfl rfl)
theorem dX5_summed_43 : decode cX5_summed 43 = .ok (.lconst 0, 1) := dk_9 (dk_at dksX5_summed_1 19 rfl rfl)
theorem dX5_summed_44 : decode cX5_summed 44 = .ok (.lreturn, 1) := dk_173 (dk_at dksX5_summed_1 20 rfl rfl)
theorem q130 : (Jvm.Cond.initialized "ChairCane$Rule") ∈ lw_all := lw_g (lw_at lw_m1 14 rfl) rfl
theorem q599 : (Jvm.Cond.instantiable "ChairCane$Rule" (2 : Nat)) ∈ lw_all := lw_g (lw_at lw_m3 3 rfl) rfl
theorem q601 : (Jvm.Cond.instanceMethod ({ cls := "ChairCane$Rule", name := "<init>", desc := "()V" } : Jvm.MethodName)) ∈ lw_all := lw_g (lw_at lw_m3 5 rfl) rfl
theorem q602 : (Jvm.Cond.code ({ cls := "ChairCane$Rule", name := "<init>", desc := "()V" } : Jvm.MethodName) prog_11_method_1_code (1 : Nat) (Option.none : Option Jvm.ClassFile.FieldType)) ∈ lw_all := lw_g (lw_at lw_m3 6 rfl) rfl
theorem q603 : (Jvm.Cond.methodLink "ChairCane$Rule" (3 : Nat) ({ cls := "java/lang/Object", name := "<init>", desc := "()V" } : Jvm.MethodName)) ∈ lw_all := lw_g (lw_at lw_m3 7 rfl) rfl
theorem q604 : (Jvm.Cond.classLink "ChairCane$Rule" (9 : Nat) "ChairCane$Clause") ∈ lw_all := lw_g (lw_at lw_m3 8 rfl) rfl
theorem q606 : (Jvm.Cond.fieldLink "ChairCane$Rule" (11 : Nat) "ChairCane$Rule" "clauses" "[LChairCane$Clause;") ∈ lw_all := lw_g (lw_at lw_m3 10 rfl) rfl
theorem q608 : (Jvm.Cond.fieldLink "ChairCane$Rule" (17 : Nat) "ChairCane$Rule" "many" "I") ∈ lw_all := lw_g (lw_at lw_m3 12 rfl) rfl
theorem q610 : (Jvm.Cond.laysFinal "ChairCane$Rule" "ChairCane$Rule" "clauses" "[LChairCane$Clause;") ∈ lw_all := lw_g (lw_at lw_m3 14 rfl) rfl
theorem q611 : (Jvm.Cond.soleField "ChairCane$Rule" "clauses") ∈ lw_all := lw_g (lw_at lw_m3 15 rfl) rfl
theorem q612 : (Jvm.Cond.lays "ChairCane$Rule" "ChairCane$Rule" "many" "I") ∈ lw_all := lw_g (lw_at lw_m3 16 rfl) rfl
theorem q613 : (Jvm.Cond.soleField "ChairCane$Rule" "many") ∈ lw_all := lw_g (lw_at lw_m3 17 rfl) rfl
theorem q614 : (Jvm.Cond.superclass "ChairCane$Rule" "java/lang/Object") ∈ lw_all := lw_g (lw_at lw_m3 18 rfl) rfl
theorem q625 : (Jvm.Cond.fieldLinkNest "ChairCane$Rule" (25 : Nat) "ChairCane$Clause" "sum" "LChairCane$Value;" "ChairCane") ∈ lw_tbl := lw_at lw_m3 29 rfl
theorem q859 : (Jvm.Cond.instanceMethod ({ cls := "ChairCane$Rule", name := "summed", desc := "([J)J" } : Jvm.MethodName)) ∈ lw_all := lw_g (lw_at lw_m4 23 rfl) rfl
theorem q860 : (Jvm.Cond.selects "ChairCane$Rule" ({ cls := "ChairCane$Rule", name := "summed", desc := "([J)J" } : Jvm.MethodName) ({ cls := "ChairCane$Rule", name := "summed", desc := "([J)J" } : Jvm.MethodName)) ∈ lw_all := lw_g (lw_at lw_m4 24 rfl) rfl
theorem q861 : (Jvm.Cond.code ({ cls := "ChairCane$Rule", name := "summed", desc := "([J)J" } : Jvm.MethodName) prog_11_method_2_code (3 : Nat) (Option.some Jvm.ClassFile.FieldType.long)) ∈ lw_all := lw_g (lw_at lw_m4 25 rfl) rfl
theorem q862 : (Jvm.Cond.methodLink "ChairCane$Rule" (21 : Nat) ({ cls := "ChairCane$Clause", name := "fits", desc := "([J)Z" } : Jvm.MethodName)) ∈ lw_all := lw_g (lw_at lw_m4 26 rfl) rfl
theorem q893 : (Jvm.Cond.methodLink "ChairCane$Rule" (29 : Nat) ({ cls := "ChairCane$Value", name := "of", desc := "([J)J" } : Jvm.MethodName)) ∈ lw_all := lw_g (lw_at lw_m4 57 rfl) rfl
theorem in_X5 : ∀ w ∈ wsX50, w ∈ lw_all := lw_in wsX50 [610, 612] (by decide +kernel) (by decide +kernel)

/-! ChairCane$Clause -/
set_option maxRecDepth 100000
def RX6 : String := "ChairCane$Clause"
def TX6 : u_T := fun k => match k with
  | 0 => ("ChairCane$Clause", "sum", "LChairCane$Value;", false)
  | _ => ("ChairCane$Clause", "test", "LChairCane$Test;", false)
def tyX6 : Nat → FieldType := fun k => match k with
  | 0 => .object "ChairCane$Value"
  | _ => .object "ChairCane$Test"
abbrev wsX60 : List Cond := u_ws RX6 TX6 2
theorem nmX6 : ∀ a, a < 2 → ∀ b, b < 2 → a ≠ b → (TX6 a).2.1 ≠ (TX6 b).2.1 := by decide +kernel
theorem tyX6_ok : ∀ k, k < 2 → parseFieldDescriptor (TX6 k).2.2.1 = some (tyX6 k) := by decide +kernel
abbrev cX6_init : ByteArray := prog_3_method_1_code
def yX6_init : MethodName := ⟨RX6, "<init>", "()V"⟩
theorem dX6_init_0 : decode cX6_init 0 = .ok (.aload_n 0, 1) := by decide +kernel
theorem dX6_init_1 : decode cX6_init 1 = .ok (.invokespecial 1, 3) := by decide +kernel
theorem dX6_init_4 : decode cX6_init 4 = .ok (.return_, 1) := by decide +kernel
abbrev cX6_fits : ByteArray := prog_3_method_2_code
def yX6_fits : MethodName := ⟨RX6, "fits", "([J)Z"⟩
def dkwX6_fits_0 : List UInt8 := [42, 180, 0, 7, 198, 0, 14, 42, 180, 0, 7, 43, 182, 0, 13, 153, 0, 7, 4, 167, 0, 4, 3, 172]
abbrev dktX6_fits_0 : List UInt8 := dkwX6_fits_0 ++ []
theorem dksX6_fits_0 : cX6_fits.data.toList.drop 0 = dktX6_fits_0 := by decide +kernel
theorem dX6_fits_0 : decode cX6_fits 0 = .ok (.aload_n 0, 1) := dk_42 (dk_at dksX6_fits_0 0 rfl rfl)
theorem dX6_fits_1 : decode cX6_fits 1 = .ok (.getfield 7, 3) := dk_180 0 7 (dk_at dksX6_fits_0 1 rfl rfl)
theorem dX6_fits_4 : decode cX6_fits 4 = .ok (.ifnull 14, 3) := dk_198 0 14 (dk_at dksX6_fits_0 4 rfl rfl)
theorem dX6_fits_7 : decode cX6_fits 7 = .ok (.aload_n 0, 1) := dk_42 (dk_at dksX6_fits_0 7 rfl rfl)
theorem dX6_fits_8 : decode cX6_fits 8 = .ok (.getfield 7, 3) := dk_180 0 7 (dk_at dksX6_fits_0 8 rfl rfl)
theorem dX6_fits_11 : decode cX6_fits 11 = .ok (.aload_n 1, 1) := dk_43 (dk_at dksX6_fits_0 11 rfl rfl)
theorem dX6_fits_12 : decode cX6_fits 12 = .ok (.invokevirtual 13, 3) := dk_182 0 13 (dk_at dksX6_fits_0 12 rfl rfl)
theorem dX6_fits_15 : decode cX6_fits 15 = .ok (.ifCond .eq 7, 3) := dk_153 0 7 (dk_at dksX6_fits_0 15 rfl rfl)
theorem dX6_fits_18 : decode cX6_fits 18 = .ok (.iconst 1, 1) := dk_4 (dk_at dksX6_fits_0 18 rfl rfl)
theorem dX6_fits_19 : decode cX6_fits 19 = .ok (.goto 4, 3) := dk_167 0 4 (dk_at dksX6_fits_0 19 rfl rfl)
theorem dX6_fits_22 : decode cX6_fits 22 = .ok (.iconst 0, 1) := dk_3 (dk_at dksX6_fits_0 22 rfl rfl)
theorem dX6_fits_23 : decode cX6_fits 23 = .ok (.ireturn, 1) := dk_172 (dk_at dksX6_fits_0 23 rfl rfl)
theorem q131 : (Jvm.Cond.initialized "ChairCane$Clause") ∈ lw_all := lw_g (lw_at lw_m1 15 rfl) rfl
theorem q620 : (Jvm.Cond.instantiable "ChairCane$Clause" (2 : Nat)) ∈ lw_all := lw_g (lw_at lw_m3 24 rfl) rfl
theorem q622 : (Jvm.Cond.instanceMethod ({ cls := "ChairCane$Clause", name := "<init>", desc := "()V" } : Jvm.MethodName)) ∈ lw_all := lw_g (lw_at lw_m3 26 rfl) rfl
theorem q623 : (Jvm.Cond.code ({ cls := "ChairCane$Clause", name := "<init>", desc := "()V" } : Jvm.MethodName) prog_3_method_1_code (1 : Nat) (Option.none : Option Jvm.ClassFile.FieldType)) ∈ lw_all := lw_g (lw_at lw_m3 27 rfl) rfl
theorem q624 : (Jvm.Cond.methodLink "ChairCane$Clause" (1 : Nat) ({ cls := "java/lang/Object", name := "<init>", desc := "()V" } : Jvm.MethodName)) ∈ lw_all := lw_g (lw_at lw_m3 28 rfl) rfl
theorem q627 : (Jvm.Cond.fieldLink "ChairCane$Clause" (7 : Nat) "ChairCane$Clause" "test" "LChairCane$Test;") ∈ lw_all := lw_g (lw_at lw_m3 31 rfl) rfl
theorem q629 : (Jvm.Cond.lays "ChairCane$Clause" "ChairCane$Clause" "sum" "LChairCane$Value;") ∈ lw_all := lw_g (lw_at lw_m3 33 rfl) rfl
theorem q630 : (Jvm.Cond.soleField "ChairCane$Clause" "sum") ∈ lw_all := lw_g (lw_at lw_m3 34 rfl) rfl
theorem q631 : (Jvm.Cond.lays "ChairCane$Clause" "ChairCane$Clause" "test" "LChairCane$Test;") ∈ lw_all := lw_g (lw_at lw_m3 35 rfl) rfl
theorem q632 : (Jvm.Cond.soleField "ChairCane$Clause" "test") ∈ lw_all := lw_g (lw_at lw_m3 36 rfl) rfl
theorem q633 : (Jvm.Cond.superclass "ChairCane$Clause" "java/lang/Object") ∈ lw_all := lw_g (lw_at lw_m3 37 rfl) rfl
theorem q863 : (Jvm.Cond.instanceMethod ({ cls := "ChairCane$Clause", name := "fits", desc := "([J)Z" } : Jvm.MethodName)) ∈ lw_all := lw_g (lw_at lw_m4 27 rfl) rfl
theorem q864 : (Jvm.Cond.selects "ChairCane$Clause" ({ cls := "ChairCane$Clause", name := "fits", desc := "([J)Z" } : Jvm.MethodName) ({ cls := "ChairCane$Clause", name := "fits", desc := "([J)Z" } : Jvm.MethodName)) ∈ lw_all := lw_g (lw_at lw_m4 28 rfl) rfl
theorem q865 : (Jvm.Cond.code ({ cls := "ChairCane$Clause", name := "fits", desc := "([J)Z" } : Jvm.MethodName) prog_3_method_2_code (2 : Nat) (Option.some Jvm.ClassFile.FieldType.boolean)) ∈ lw_all := lw_g (lw_at lw_m4 29 rfl) rfl
theorem q866 : (Jvm.Cond.methodLink "ChairCane$Clause" (13 : Nat) ({ cls := "ChairCane$Test", name := "is", desc := "([J)Z" } : Jvm.MethodName)) ∈ lw_all := lw_g (lw_at lw_m4 30 rfl) rfl
theorem in_X6 : ∀ w ∈ wsX60, w ∈ lw_all := lw_in wsX60 [629, 631] (by decide +kernel) (by decide +kernel)

/-! ChairCane$Value -/
set_option maxRecDepth 100000
def RX7 : String := "ChairCane$Value"
abbrev cX7_init : ByteArray := prog_14_method_1_code
def yX7_init : MethodName := ⟨RX7, "<init>", "()V"⟩
theorem dX7_init_0 : decode cX7_init 0 = .ok (.aload_n 0, 1) := by decide +kernel
theorem dX7_init_1 : decode cX7_init 1 = .ok (.invokespecial 1, 3) := by decide +kernel
theorem dX7_init_4 : decode cX7_init 4 = .ok (.return_, 1) := by decide +kernel
theorem q132 : (Jvm.Cond.initialized "ChairCane$Value") ∈ lw_all := lw_g (lw_at lw_m1 16 rfl) rfl
theorem q657 : (Jvm.Cond.instanceMethod ({ cls := "ChairCane$Value", name := "<init>", desc := "()V" } : Jvm.MethodName)) ∈ lw_all := lw_g (lw_at lw_m3 61 rfl) rfl
theorem q658 : (Jvm.Cond.code ({ cls := "ChairCane$Value", name := "<init>", desc := "()V" } : Jvm.MethodName) prog_14_method_1_code (1 : Nat) (Option.none : Option Jvm.ClassFile.FieldType)) ∈ lw_all := lw_g (lw_at lw_m3 62 rfl) rfl
theorem q659 : (Jvm.Cond.methodLink "ChairCane$Value" (1 : Nat) ({ cls := "java/lang/Object", name := "<init>", desc := "()V" } : Jvm.MethodName)) ∈ lw_all := lw_g (lw_at lw_m3 63 rfl) rfl
theorem q876 : (Jvm.Cond.declares ({ cls := "ChairCane$Value", name := "of", desc := "([J)J" } : Jvm.MethodName)) ∈ lw_tbl := lw_at lw_m4 40 rfl
theorem q877 : (Jvm.Cond.sameMethod "ChairCane$Value" "ChairCane$Value" "of" "([J)J") ∈ lw_all := lw_g (lw_at lw_m4 41 rfl) rfl

/-! ChairCane$Number -/
set_option maxRecDepth 100000
def RX8 : String := "ChairCane$Number"
def TX8 : u_T := fun k => match k with
  | _ => ("ChairCane$Number", "number", "J", true)
def tyX8 : Nat → FieldType := fun k => match k with
  | _ => .long
abbrev wsX80 : List Cond := u_ws RX8 TX8 1
theorem nmX8 : ∀ a, a < 1 → ∀ b, b < 1 → a ≠ b → (TX8 a).2.1 ≠ (TX8 b).2.1 := by decide +kernel
theorem tyX8_ok : ∀ k, k < 1 → parseFieldDescriptor (TX8 k).2.2.1 = some (tyX8 k) := by decide +kernel
abbrev cX8_init : ByteArray := prog_9_method_1_code
def yX8_init : MethodName := ⟨RX8, "<init>", "(J)V"⟩
def dkwX8_init_0 : List UInt8 := [42, 183, 0, 1, 42, 31, 181, 0, 7, 177]
abbrev dktX8_init_0 : List UInt8 := dkwX8_init_0 ++ []
theorem dksX8_init_0 : cX8_init.data.toList.drop 0 = dktX8_init_0 := by decide +kernel
theorem dX8_init_0 : decode cX8_init 0 = .ok (.aload_n 0, 1) := dk_42 (dk_at dksX8_init_0 0 rfl rfl)
theorem dX8_init_1 : decode cX8_init 1 = .ok (.invokespecial 1, 3) := dk_183 0 1 (dk_at dksX8_init_0 1 rfl rfl)
theorem dX8_init_4 : decode cX8_init 4 = .ok (.aload_n 0, 1) := dk_42 (dk_at dksX8_init_0 4 rfl rfl)
theorem dX8_init_5 : decode cX8_init 5 = .ok (.lload_n 1, 1) := dk_31 (dk_at dksX8_init_0 5 rfl rfl)
theorem dX8_init_6 : decode cX8_init 6 = .ok (.putfield 7, 3) := dk_181 0 7 (dk_at dksX8_init_0 6 rfl rfl)
theorem dX8_init_9 : decode cX8_init 9 = .ok (.return_, 1) := dk_177 (dk_at dksX8_init_0 9 rfl rfl)
abbrev cX8_of : ByteArray := prog_9_method_2_code
def yX8_of : MethodName := ⟨RX8, "of", "([J)J"⟩
theorem dX8_of_0 : decode cX8_of 0 = .ok (.aload_n 0, 1) := by decide +kernel
theorem dX8_of_1 : decode cX8_of 1 = .ok (.getfield 7, 3) := by decide +kernel
theorem dX8_of_4 : decode cX8_of 4 = .ok (.lreturn, 1) := by decide +kernel
theorem q133 : (Jvm.Cond.initialized "ChairCane$Number") ∈ lw_all := lw_g (lw_at lw_m1 17 rfl) rfl
theorem q652 : (Jvm.Cond.instantiable "ChairCane$Number" (1 : Nat)) ∈ lw_all := lw_g (lw_at lw_m3 56 rfl) rfl
theorem q654 : (Jvm.Cond.instanceMethod ({ cls := "ChairCane$Number", name := "<init>", desc := "(J)V" } : Jvm.MethodName)) ∈ lw_all := lw_g (lw_at lw_m3 58 rfl) rfl
theorem q655 : (Jvm.Cond.code ({ cls := "ChairCane$Number", name := "<init>", desc := "(J)V" } : Jvm.MethodName) prog_9_method_1_code (3 : Nat) (Option.none : Option Jvm.ClassFile.FieldType)) ∈ lw_all := lw_g (lw_at lw_m3 59 rfl) rfl
theorem q656 : (Jvm.Cond.methodLinkNest "ChairCane$Number" (1 : Nat) ({ cls := "ChairCane$Value", name := "<init>", desc := "()V" } : Jvm.MethodName) "ChairCane") ∈ lw_tbl := lw_at lw_m3 60 rfl
theorem q660 : (Jvm.Cond.fieldLink "ChairCane$Number" (7 : Nat) "ChairCane$Number" "number" "J") ∈ lw_all := lw_g (lw_at lw_m3 64 rfl) rfl
theorem q661 : (Jvm.Cond.laysFinal "ChairCane$Number" "ChairCane$Number" "number" "J") ∈ lw_all := lw_g (lw_at lw_m3 65 rfl) rfl
theorem q662 : (Jvm.Cond.soleField "ChairCane$Number" "number") ∈ lw_all := lw_g (lw_at lw_m3 66 rfl) rfl
theorem q663 : (Jvm.Cond.superclass "ChairCane$Number" "ChairCane$Value") ∈ lw_all := lw_g (lw_at lw_m3 67 rfl) rfl
theorem q878 : (Jvm.Cond.selects "ChairCane$Number" ({ cls := "ChairCane$Value", name := "of", desc := "([J)J" } : Jvm.MethodName) ({ cls := "ChairCane$Number", name := "of", desc := "([J)J" } : Jvm.MethodName)) ∈ lw_all := lw_g (lw_at lw_m4 42 rfl) rfl
theorem q879 : (Jvm.Cond.instanceMethod ({ cls := "ChairCane$Number", name := "of", desc := "([J)J" } : Jvm.MethodName)) ∈ lw_all := lw_g (lw_at lw_m4 43 rfl) rfl
theorem q880 : (Jvm.Cond.code ({ cls := "ChairCane$Number", name := "of", desc := "([J)J" } : Jvm.MethodName) prog_9_method_2_code (2 : Nat) (Option.some Jvm.ClassFile.FieldType.long)) ∈ lw_all := lw_g (lw_at lw_m4 44 rfl) rfl
theorem in_X8 : ∀ w ∈ wsX80, w ∈ lw_all := lw_in wsX80 [661] (by decide +kernel) (by decide +kernel)

/-! ChairCane$Word -/
set_option maxRecDepth 100000
def RX9 : String := "ChairCane$Word"
def TX9 : u_T := fun k => match k with
  | _ => ("ChairCane$Word", "word", "I", true)
def tyX9 : Nat → FieldType := fun k => match k with
  | _ => .int
abbrev wsX90 : List Cond := u_ws RX9 TX9 1
theorem nmX9 : ∀ a, a < 1 → ∀ b, b < 1 → a ≠ b → (TX9 a).2.1 ≠ (TX9 b).2.1 := by decide +kernel
theorem tyX9_ok : ∀ k, k < 1 → parseFieldDescriptor (TX9 k).2.2.1 = some (tyX9 k) := by decide +kernel
abbrev cX9_init : ByteArray := prog_15_method_1_code
def yX9_init : MethodName := ⟨RX9, "<init>", "(I)V"⟩
def dkwX9_init_0 : List UInt8 := [42, 183, 0, 1, 42, 27, 181, 0, 7, 177]
abbrev dktX9_init_0 : List UInt8 := dkwX9_init_0 ++ []
theorem dksX9_init_0 : cX9_init.data.toList.drop 0 = dktX9_init_0 := by decide +kernel
theorem dX9_init_0 : decode cX9_init 0 = .ok (.aload_n 0, 1) := dk_42 (dk_at dksX9_init_0 0 rfl rfl)
theorem dX9_init_1 : decode cX9_init 1 = .ok (.invokespecial 1, 3) := dk_183 0 1 (dk_at dksX9_init_0 1 rfl rfl)
theorem dX9_init_4 : decode cX9_init 4 = .ok (.aload_n 0, 1) := dk_42 (dk_at dksX9_init_0 4 rfl rfl)
theorem dX9_init_5 : decode cX9_init 5 = .ok (.iload_n 1, 1) := dk_27 (dk_at dksX9_init_0 5 rfl rfl)
theorem dX9_init_6 : decode cX9_init 6 = .ok (.putfield 7, 3) := dk_181 0 7 (dk_at dksX9_init_0 6 rfl rfl)
theorem dX9_init_9 : decode cX9_init 9 = .ok (.return_, 1) := dk_177 (dk_at dksX9_init_0 9 rfl rfl)
abbrev cX9_of : ByteArray := prog_15_method_2_code
def yX9_of : MethodName := ⟨RX9, "of", "([J)J"⟩
def dkwX9_of_0 : List UInt8 := [43, 42, 180, 0, 7, 47, 173]
abbrev dktX9_of_0 : List UInt8 := dkwX9_of_0 ++ []
theorem dksX9_of_0 : cX9_of.data.toList.drop 0 = dktX9_of_0 := by decide +kernel
theorem dX9_of_0 : decode cX9_of 0 = .ok (.aload_n 1, 1) := dk_43 (dk_at dksX9_of_0 0 rfl rfl)
theorem dX9_of_1 : decode cX9_of 1 = .ok (.aload_n 0, 1) := dk_42 (dk_at dksX9_of_0 1 rfl rfl)
theorem dX9_of_2 : decode cX9_of 2 = .ok (.getfield 7, 3) := dk_180 0 7 (dk_at dksX9_of_0 2 rfl rfl)
theorem dX9_of_5 : decode cX9_of 5 = .ok (.laload, 1) := dk_47 (dk_at dksX9_of_0 5 rfl rfl)
theorem dX9_of_6 : decode cX9_of 6 = .ok (.lreturn, 1) := dk_173 (dk_at dksX9_of_0 6 rfl rfl)
theorem q134 : (Jvm.Cond.initialized "ChairCane$Word") ∈ lw_all := lw_g (lw_at lw_m1 18 rfl) rfl
theorem q665 : (Jvm.Cond.instantiable "ChairCane$Word" (1 : Nat)) ∈ lw_all := lw_g (lw_at lw_m3 69 rfl) rfl
theorem q667 : (Jvm.Cond.instanceMethod ({ cls := "ChairCane$Word", name := "<init>", desc := "(I)V" } : Jvm.MethodName)) ∈ lw_all := lw_g (lw_at lw_m3 71 rfl) rfl
theorem q668 : (Jvm.Cond.code ({ cls := "ChairCane$Word", name := "<init>", desc := "(I)V" } : Jvm.MethodName) prog_15_method_1_code (2 : Nat) (Option.none : Option Jvm.ClassFile.FieldType)) ∈ lw_all := lw_g (lw_at lw_m3 72 rfl) rfl
theorem q669 : (Jvm.Cond.methodLinkNest "ChairCane$Word" (1 : Nat) ({ cls := "ChairCane$Value", name := "<init>", desc := "()V" } : Jvm.MethodName) "ChairCane") ∈ lw_tbl := lw_at lw_m3 73 rfl
theorem q670 : (Jvm.Cond.fieldLink "ChairCane$Word" (7 : Nat) "ChairCane$Word" "word" "I") ∈ lw_all := lw_g (lw_at lw_m3 74 rfl) rfl
theorem q671 : (Jvm.Cond.laysFinal "ChairCane$Word" "ChairCane$Word" "word" "I") ∈ lw_all := lw_g (lw_at lw_m3 75 rfl) rfl
theorem q672 : (Jvm.Cond.soleField "ChairCane$Word" "word") ∈ lw_all := lw_g (lw_at lw_m3 76 rfl) rfl
theorem q673 : (Jvm.Cond.superclass "ChairCane$Word" "ChairCane$Value") ∈ lw_all := lw_g (lw_at lw_m3 77 rfl) rfl
theorem q885 : (Jvm.Cond.instanceMethod ({ cls := "ChairCane$Word", name := "of", desc := "([J)J" } : Jvm.MethodName)) ∈ lw_all := lw_g (lw_at lw_m4 49 rfl) rfl
theorem q886 : (Jvm.Cond.code ({ cls := "ChairCane$Word", name := "of", desc := "([J)J" } : Jvm.MethodName) prog_15_method_2_code (2 : Nat) (Option.some Jvm.ClassFile.FieldType.long)) ∈ lw_all := lw_g (lw_at lw_m4 50 rfl) rfl
theorem q887 : (Jvm.Cond.selects "ChairCane$Word" ({ cls := "ChairCane$Value", name := "of", desc := "([J)J" } : Jvm.MethodName) ({ cls := "ChairCane$Word", name := "of", desc := "([J)J" } : Jvm.MethodName)) ∈ lw_all := lw_g (lw_at lw_m4 51 rfl) rfl
theorem in_X9 : ∀ w ∈ wsX90, w ∈ lw_all := lw_in wsX90 [671] (by decide +kernel) (by decide +kernel)

/-! ChairCane$Pair -/
set_option maxRecDepth 100000
def RX10 : String := "ChairCane$Pair"
def TX10 : u_T := fun k => match k with
  | 0 => ("ChairCane$Pair", "first", "LChairCane$Value;", true)
  | 1 => ("ChairCane$Pair", "second", "LChairCane$Value;", true)
  | _ => ("ChairCane$Pair", "sign", "I", true)
def tyX10 : Nat → FieldType := fun k => match k with
  | 0 => .object "ChairCane$Value"
  | 1 => .object "ChairCane$Value"
  | _ => .int
abbrev wsX100 : List Cond := u_ws RX10 TX10 3
theorem nmX10 : ∀ a, a < 3 → ∀ b, b < 3 → a ≠ b → (TX10 a).2.1 ≠ (TX10 b).2.1 := by decide +kernel
theorem tyX10_ok : ∀ k, k < 3 → parseFieldDescriptor (TX10 k).2.2.1 = some (tyX10 k) := by decide +kernel
abbrev cX10_init : ByteArray := prog_10_method_1_code
def yX10_init : MethodName := ⟨RX10, "<init>", "(LChairCane$Value;ILChairCane$Value;)V"⟩
def dkwX10_init_0 : List UInt8 := [42, 183, 0, 1, 42, 43, 181, 0, 7, 42, 28, 181, 0, 13, 42, 45, 181, 0, 17, 177]
abbrev dktX10_init_0 : List UInt8 := dkwX10_init_0 ++ []
theorem dksX10_init_0 : cX10_init.data.toList.drop 0 = dktX10_init_0 := by decide +kernel
theorem dX10_init_0 : decode cX10_init 0 = .ok (.aload_n 0, 1) := dk_42 (dk_at dksX10_init_0 0 rfl rfl)
theorem dX10_init_1 : decode cX10_init 1 = .ok (.invokespecial 1, 3) := dk_183 0 1 (dk_at dksX10_init_0 1 rfl rfl)
theorem dX10_init_4 : decode cX10_init 4 = .ok (.aload_n 0, 1) := dk_42 (dk_at dksX10_init_0 4 rfl rfl)
theorem dX10_init_5 : decode cX10_init 5 = .ok (.aload_n 1, 1) := dk_43 (dk_at dksX10_init_0 5 rfl rfl)
theorem dX10_init_6 : decode cX10_init 6 = .ok (.putfield 7, 3) := dk_181 0 7 (dk_at dksX10_init_0 6 rfl rfl)
theorem dX10_init_9 : decode cX10_init 9 = .ok (.aload_n 0, 1) := dk_42 (dk_at dksX10_init_0 9 rfl rfl)
theorem dX10_init_10 : decode cX10_init 10 = .ok (.iload_n 2, 1) := dk_28 (dk_at dksX10_init_0 10 rfl rfl)
theorem dX10_init_11 : decode cX10_init 11 = .ok (.putfield 13, 3) := dk_181 0 13 (dk_at dksX10_init_0 11 rfl rfl)
theorem dX10_init_14 : decode cX10_init 14 = .ok (.aload_n 0, 1) := dk_42 (dk_at dksX10_init_0 14 rfl rfl)
theorem dX10_init_15 : decode cX10_init 15 = .ok (.aload_n 3, 1) := dk_45 (dk_at dksX10_init_0 15 rfl rfl)
theorem dX10_init_16 : decode cX10_init 16 = .ok (.putfield 17, 3) := dk_181 0 17 (dk_at dksX10_init_0 16 rfl rfl)
theorem dX10_init_19 : decode cX10_init 19 = .ok (.return_, 1) := dk_177 (dk_at dksX10_init_0 19 rfl rfl)
abbrev cX10_of : ByteArray := prog_10_method_2_code
def yX10_of : MethodName := ⟨RX10, "of", "([J)J"⟩
def dkwX10_of_3 : List UInt8 := [167, 0, 7, 32, 22, 4, 113, 173, 22, 4, 9, 148, 154, 0, 7, 9, 167, 0, 7, 32, 22, 4, 109, 173]
abbrev dktX10_of_3 : List UInt8 := dkwX10_of_3 ++ []
def dkwX10_of_2 : List UInt8 := [32, 22, 4, 97, 173, 32, 22, 4, 101, 173, 32, 22, 4, 105, 173, 22, 4, 9, 148, 154, 0, 7, 9]
abbrev dktX10_of_2 : List UInt8 := dkwX10_of_2 ++ dktX10_of_3
def dkwX10_of_1 : List UInt8 := [170, 0, 0, 0, 80, 0, 0, 0, 37, 0, 0, 0, 45, 0, 0, 0, 64, 0, 0, 0, 80, 0, 0, 0, 80, 0, 0, 0, 80, 0, 0, 0, 80, 0, 0, 0, 59, 0, 0, 0, 49, 0, 0, 0, 80, 0, 0, 0, 54]
abbrev dktX10_of_1 : List UInt8 := dkwX10_of_1 ++ dktX10_of_2
def dkwX10_of_0 : List UInt8 := [42, 180, 0, 7, 43, 182, 0, 20, 65, 42, 180, 0, 17, 43, 182, 0, 20, 55, 4, 42, 180, 0, 13]
abbrev dktX10_of_0 : List UInt8 := dkwX10_of_0 ++ dktX10_of_1
theorem dksX10_of_0 : cX10_of.data.toList.drop 0 = dktX10_of_0 := by decide +kernel
theorem dksX10_of_1 : cX10_of.data.toList.drop 23 = dktX10_of_1 := dk_seg dksX10_of_0 23 rfl rfl
theorem dksX10_of_2 : cX10_of.data.toList.drop 72 = dktX10_of_2 := dk_seg dksX10_of_1 49 rfl rfl
theorem dksX10_of_3 : cX10_of.data.toList.drop 95 = dktX10_of_3 := dk_seg dksX10_of_2 23 rfl rfl
theorem dX10_of_0 : decode cX10_of 0 = .ok (.aload_n 0, 1) := dk_42 (dk_at dksX10_of_0 0 rfl rfl)
theorem dX10_of_1 : decode cX10_of 1 = .ok (.getfield 7, 3) := dk_180 0 7 (dk_at dksX10_of_0 1 rfl rfl)
theorem dX10_of_4 : decode cX10_of 4 = .ok (.aload_n 1, 1) := dk_43 (dk_at dksX10_of_0 4 rfl rfl)
theorem dX10_of_5 : decode cX10_of 5 = .ok (.invokevirtual 20, 3) := dk_182 0 20 (dk_at dksX10_of_0 5 rfl rfl)
theorem dX10_of_8 : decode cX10_of 8 = .ok (.lstore_n 2, 1) := dk_65 (dk_at dksX10_of_0 8 rfl rfl)
theorem dX10_of_9 : decode cX10_of 9 = .ok (.aload_n 0, 1) := dk_42 (dk_at dksX10_of_0 9 rfl rfl)
theorem dX10_of_10 : decode cX10_of 10 = .ok (.getfield 17, 3) := dk_180 0 17 (dk_at dksX10_of_0 10 rfl rfl)
theorem dX10_of_13 : decode cX10_of 13 = .ok (.aload_n 1, 1) := dk_43 (dk_at dksX10_of_0 13 rfl rfl)
theorem dX10_of_14 : decode cX10_of 14 = .ok (.invokevirtual 20, 3) := dk_182 0 20 (dk_at dksX10_of_0 14 rfl rfl)
theorem dX10_of_17 : decode cX10_of 17 = .ok (.lstore 4, 2) := dk_55 4 (dk_at dksX10_of_0 17 rfl rfl)
theorem dX10_of_19 : decode cX10_of 19 = .ok (.aload_n 0, 1) := dk_42 (dk_at dksX10_of_0 19 rfl rfl)
theorem dX10_of_20 : decode cX10_of 20 = .ok (.getfield 13, 3) := dk_180 0 13 (dk_at dksX10_of_0 20 rfl rfl)
theorem dX10_of_23 : decode cX10_of 23 = .ok (.tableswitch 80 37 45 #[64, 80, 80, 80, 80, 59, 49, 80, 54], 49) := by decide +kernel
theorem dX10_of_72 : decode cX10_of 72 = .ok (.lload_n 2, 1) := dk_32 (dk_at dksX10_of_2 0 rfl rfl)
theorem dX10_of_73 : decode cX10_of 73 = .ok (.lload 4, 2) := dk_22 4 (dk_at dksX10_of_2 1 rfl rfl)
theorem dX10_of_75 : decode cX10_of 75 = .ok (.ladd, 1) := dk_97 (dk_at dksX10_of_2 3 rfl rfl)
theorem dX10_of_76 : decode cX10_of 76 = .ok (.lreturn, 1) := dk_173 (dk_at dksX10_of_2 4 rfl rfl)
theorem dX10_of_77 : decode cX10_of 77 = .ok (.lload_n 2, 1) := dk_32 (dk_at dksX10_of_2 5 rfl rfl)
theorem dX10_of_78 : decode cX10_of 78 = .ok (.lload 4, 2) := dk_22 4 (dk_at dksX10_of_2 6 rfl rfl)
theorem dX10_of_80 : decode cX10_of 80 = .ok (.lsub, 1) := dk_101 (dk_at dksX10_of_2 8 rfl rfl)
theorem dX10_of_81 : decode cX10_of 81 = .ok (.lreturn, 1) := dk_173 (dk_at dksX10_of_2 9 rfl rfl)
theorem dX10_of_82 : decode cX10_of 82 = .ok (.lload_n 2, 1) := dk_32 (dk_at dksX10_of_2 10 rfl rfl)
theorem dX10_of_83 : decode cX10_of 83 = .ok (.lload 4, 2) := dk_22 4 (dk_at dksX10_of_2 11 rfl rfl)
theorem dX10_of_85 : decode cX10_of 85 = .ok (.lmul, 1) := dk_105 (dk_at dksX10_of_2 13 rfl rfl)
theorem dX10_of_86 : decode cX10_of 86 = .ok (.lreturn, 1) := dk_173 (dk_at dksX10_of_2 14 rfl rfl)
theorem dX10_of_87 : decode cX10_of 87 = .ok (.lload 4, 2) := dk_22 4 (dk_at dksX10_of_2 15 rfl rfl)
theorem dX10_of_89 : decode cX10_of 89 = .ok (.lconst 0, 1) := dk_9 (dk_at dksX10_of_2 17 rfl rfl)
theorem dX10_of_90 : decode cX10_of 90 = .ok (.lcmp, 1) := dk_148 (dk_at dksX10_of_2 18 rfl rfl)
theorem dX10_of_91 : decode cX10_of 91 = .ok (.ifCond .ne 7, 3) := dk_154 0 7 (dk_at dksX10_of_2 19 rfl rfl)
theorem dX10_of_94 : decode cX10_of 94 = .ok (.lconst 0, 1) := dk_9 (dk_at dksX10_of_2 22 rfl rfl)
theorem dX10_of_95 : decode cX10_of 95 = .ok (.goto 7, 3) := dk_167 0 7 (dk_at dksX10_of_3 0 rfl rfl)
theorem dX10_of_98 : decode cX10_of 98 = .ok (.lload_n 2, 1) := dk_32 (dk_at dksX10_of_3 3 rfl rfl)
theorem dX10_of_99 : decode cX10_of 99 = .ok (.lload 4, 2) := dk_22 4 (dk_at dksX10_of_3 4 rfl rfl)
theorem dX10_of_101 : decode cX10_of 101 = .ok (.lrem, 1) := dk_113 (dk_at dksX10_of_3 6 rfl rfl)
theorem dX10_of_102 : decode cX10_of 102 = .ok (.lreturn, 1) := dk_173 (dk_at dksX10_of_3 7 rfl rfl)
theorem dX10_of_103 : decode cX10_of 103 = .ok (.lload 4, 2) := dk_22 4 (dk_at dksX10_of_3 8 rfl rfl)
theorem dX10_of_105 : decode cX10_of 105 = .ok (.lconst 0, 1) := dk_9 (dk_at dksX10_of_3 10 rfl rfl)
theorem dX10_of_106 : decode cX10_of 106 = .ok (.lcmp, 1) := dk_148 (dk_at dksX10_of_3 11 rfl rfl)
theorem dX10_of_107 : decode cX10_of 107 = .ok (.ifCond .ne 7, 3) := dk_154 0 7 (dk_at dksX10_of_3 12 rfl rfl)
theorem dX10_of_110 : decode cX10_of 110 = .ok (.lconst 0, 1) := dk_9 (dk_at dksX10_of_3 15 rfl rfl)
theorem dX10_of_111 : decode cX10_of 111 = .ok (.goto 7, 3) := dk_167 0 7 (dk_at dksX10_of_3 16 rfl rfl)
theorem dX10_of_114 : decode cX10_of 114 = .ok (.lload_n 2, 1) := dk_32 (dk_at dksX10_of_3 19 rfl rfl)
theorem dX10_of_115 : decode cX10_of 115 = .ok (.lload 4, 2) := dk_22 4 (dk_at dksX10_of_3 20 rfl rfl)
theorem dX10_of_117 : decode cX10_of 117 = .ok (.ldiv, 1) := dk_109 (dk_at dksX10_of_3 22 rfl rfl)
theorem dX10_of_118 : decode cX10_of 118 = .ok (.lreturn, 1) := dk_173 (dk_at dksX10_of_3 23 rfl rfl)
theorem q135 : (Jvm.Cond.initialized "ChairCane$Pair") ∈ lw_all := lw_g (lw_at lw_m1 19 rfl) rfl
theorem q675 : (Jvm.Cond.instantiable "ChairCane$Pair" (3 : Nat)) ∈ lw_all := lw_g (lw_at lw_m3 79 rfl) rfl
theorem q677 : (Jvm.Cond.instanceMethod ({ cls := "ChairCane$Pair", name := "<init>", desc := "(LChairCane$Value;ILChairCane$Value;)V" } : Jvm.MethodName)) ∈ lw_all := lw_g (lw_at lw_m3 81 rfl) rfl
theorem q678 : (Jvm.Cond.code ({ cls := "ChairCane$Pair", name := "<init>", desc := "(LChairCane$Value;ILChairCane$Value;)V" } : Jvm.MethodName) prog_10_method_1_code (4 : Nat) (Option.none : Option Jvm.ClassFile.FieldType)) ∈ lw_all := lw_g (lw_at lw_m3 82 rfl) rfl
theorem q679 : (Jvm.Cond.methodLinkNest "ChairCane$Pair" (1 : Nat) ({ cls := "ChairCane$Value", name := "<init>", desc := "()V" } : Jvm.MethodName) "ChairCane") ∈ lw_tbl := lw_at lw_m3 83 rfl
theorem q680 : (Jvm.Cond.fieldLink "ChairCane$Pair" (7 : Nat) "ChairCane$Pair" "first" "LChairCane$Value;") ∈ lw_all := lw_g (lw_at lw_m3 84 rfl) rfl
theorem q681 : (Jvm.Cond.fieldLink "ChairCane$Pair" (17 : Nat) "ChairCane$Pair" "second" "LChairCane$Value;") ∈ lw_all := lw_g (lw_at lw_m3 85 rfl) rfl
theorem q682 : (Jvm.Cond.fieldLink "ChairCane$Pair" (13 : Nat) "ChairCane$Pair" "sign" "I") ∈ lw_all := lw_g (lw_at lw_m3 86 rfl) rfl
theorem q683 : (Jvm.Cond.laysFinal "ChairCane$Pair" "ChairCane$Pair" "first" "LChairCane$Value;") ∈ lw_all := lw_g (lw_at lw_m3 87 rfl) rfl
theorem q684 : (Jvm.Cond.soleField "ChairCane$Pair" "first") ∈ lw_all := lw_g (lw_at lw_m3 88 rfl) rfl
theorem q685 : (Jvm.Cond.laysFinal "ChairCane$Pair" "ChairCane$Pair" "second" "LChairCane$Value;") ∈ lw_all := lw_g (lw_at lw_m3 89 rfl) rfl
theorem q686 : (Jvm.Cond.soleField "ChairCane$Pair" "second") ∈ lw_all := lw_g (lw_at lw_m3 90 rfl) rfl
theorem q687 : (Jvm.Cond.laysFinal "ChairCane$Pair" "ChairCane$Pair" "sign" "I") ∈ lw_all := lw_g (lw_at lw_m3 91 rfl) rfl
theorem q688 : (Jvm.Cond.soleField "ChairCane$Pair" "sign") ∈ lw_all := lw_g (lw_at lw_m3 92 rfl) rfl
theorem q689 : (Jvm.Cond.superclass "ChairCane$Pair" "ChairCane$Value") ∈ lw_all := lw_g (lw_at lw_m3 93 rfl) rfl
theorem q881 : (Jvm.Cond.selects "ChairCane$Pair" ({ cls := "ChairCane$Value", name := "of", desc := "([J)J" } : Jvm.MethodName) ({ cls := "ChairCane$Pair", name := "of", desc := "([J)J" } : Jvm.MethodName)) ∈ lw_all := lw_g (lw_at lw_m4 45 rfl) rfl
theorem q882 : (Jvm.Cond.instanceMethod ({ cls := "ChairCane$Pair", name := "of", desc := "([J)J" } : Jvm.MethodName)) ∈ lw_all := lw_g (lw_at lw_m4 46 rfl) rfl
theorem q883 : (Jvm.Cond.code ({ cls := "ChairCane$Pair", name := "of", desc := "([J)J" } : Jvm.MethodName) prog_10_method_2_code (6 : Nat) (Option.some Jvm.ClassFile.FieldType.long)) ∈ lw_all := lw_g (lw_at lw_m4 47 rfl) rfl
theorem q884 : (Jvm.Cond.methodLink "ChairCane$Pair" (20 : Nat) ({ cls := "ChairCane$Value", name := "of", desc := "([J)J" } : Jvm.MethodName)) ∈ lw_all := lw_g (lw_at lw_m4 48 rfl) rfl
theorem in_X10 : ∀ w ∈ wsX100, w ∈ lw_all := lw_in wsX100 [683, 685, 687] (by decide +kernel) (by decide +kernel)

/-! ChairCane$Test -/
set_option maxRecDepth 100000
def RX11 : String := "ChairCane$Test"
abbrev cX11_init : ByteArray := prog_12_method_1_code
def yX11_init : MethodName := ⟨RX11, "<init>", "()V"⟩
theorem dX11_init_0 : decode cX11_init 0 = .ok (.aload_n 0, 1) := by decide +kernel
theorem dX11_init_1 : decode cX11_init 1 = .ok (.invokespecial 1, 3) := by decide +kernel
theorem dX11_init_4 : decode cX11_init 4 = .ok (.return_, 1) := by decide +kernel
theorem q136 : (Jvm.Cond.initialized "ChairCane$Test") ∈ lw_all := lw_g (lw_at lw_m1 20 rfl) rfl
theorem q718 : (Jvm.Cond.instanceMethod ({ cls := "ChairCane$Test", name := "<init>", desc := "()V" } : Jvm.MethodName)) ∈ lw_all := lw_g (lw_at lw_m3 122 rfl) rfl
theorem q719 : (Jvm.Cond.code ({ cls := "ChairCane$Test", name := "<init>", desc := "()V" } : Jvm.MethodName) prog_12_method_1_code (1 : Nat) (Option.none : Option Jvm.ClassFile.FieldType)) ∈ lw_all := lw_g (lw_at lw_m3 123 rfl) rfl
theorem q720 : (Jvm.Cond.methodLink "ChairCane$Test" (1 : Nat) ({ cls := "java/lang/Object", name := "<init>", desc := "()V" } : Jvm.MethodName)) ∈ lw_all := lw_g (lw_at lw_m3 124 rfl) rfl
theorem q867 : (Jvm.Cond.declares ({ cls := "ChairCane$Test", name := "is", desc := "([J)Z" } : Jvm.MethodName)) ∈ lw_tbl := lw_at lw_m4 31 rfl
theorem q868 : (Jvm.Cond.sameMethod "ChairCane$Test" "ChairCane$Test" "is" "([J)Z") ∈ lw_all := lw_g (lw_at lw_m4 32 rfl) rfl

/-! ChairCane$Not -/
set_option maxRecDepth 100000
def RX12 : String := "ChairCane$Not"
def TX12 : u_T := fun k => match k with
  | _ => ("ChairCane$Not", "test", "LChairCane$Test;", true)
def tyX12 : Nat → FieldType := fun k => match k with
  | _ => .object "ChairCane$Test"
abbrev wsX120 : List Cond := u_ws RX12 TX12 1
theorem nmX12 : ∀ a, a < 1 → ∀ b, b < 1 → a ≠ b → (TX12 a).2.1 ≠ (TX12 b).2.1 := by decide +kernel
theorem tyX12_ok : ∀ k, k < 1 → parseFieldDescriptor (TX12 k).2.2.1 = some (tyX12 k) := by decide +kernel
abbrev cX12_init : ByteArray := prog_8_method_1_code
def yX12_init : MethodName := ⟨RX12, "<init>", "(LChairCane$Test;)V"⟩
def dkwX12_init_0 : List UInt8 := [42, 183, 0, 1, 42, 43, 181, 0, 7, 177]
abbrev dktX12_init_0 : List UInt8 := dkwX12_init_0 ++ []
theorem dksX12_init_0 : cX12_init.data.toList.drop 0 = dktX12_init_0 := by decide +kernel
theorem dX12_init_0 : decode cX12_init 0 = .ok (.aload_n 0, 1) := dk_42 (dk_at dksX12_init_0 0 rfl rfl)
theorem dX12_init_1 : decode cX12_init 1 = .ok (.invokespecial 1, 3) := dk_183 0 1 (dk_at dksX12_init_0 1 rfl rfl)
theorem dX12_init_4 : decode cX12_init 4 = .ok (.aload_n 0, 1) := dk_42 (dk_at dksX12_init_0 4 rfl rfl)
theorem dX12_init_5 : decode cX12_init 5 = .ok (.aload_n 1, 1) := dk_43 (dk_at dksX12_init_0 5 rfl rfl)
theorem dX12_init_6 : decode cX12_init 6 = .ok (.putfield 7, 3) := dk_181 0 7 (dk_at dksX12_init_0 6 rfl rfl)
theorem dX12_init_9 : decode cX12_init 9 = .ok (.return_, 1) := dk_177 (dk_at dksX12_init_0 9 rfl rfl)
abbrev cX12_is : ByteArray := prog_8_method_2_code
def yX12_is : MethodName := ⟨RX12, "is", "([J)Z"⟩
def dkwX12_is_0 : List UInt8 := [42, 180, 0, 7, 43, 182, 0, 13, 154, 0, 7, 4, 167, 0, 4, 3, 172]
abbrev dktX12_is_0 : List UInt8 := dkwX12_is_0 ++ []
theorem dksX12_is_0 : cX12_is.data.toList.drop 0 = dktX12_is_0 := by decide +kernel
theorem dX12_is_0 : decode cX12_is 0 = .ok (.aload_n 0, 1) := dk_42 (dk_at dksX12_is_0 0 rfl rfl)
theorem dX12_is_1 : decode cX12_is 1 = .ok (.getfield 7, 3) := dk_180 0 7 (dk_at dksX12_is_0 1 rfl rfl)
theorem dX12_is_4 : decode cX12_is 4 = .ok (.aload_n 1, 1) := dk_43 (dk_at dksX12_is_0 4 rfl rfl)
theorem dX12_is_5 : decode cX12_is 5 = .ok (.invokevirtual 13, 3) := dk_182 0 13 (dk_at dksX12_is_0 5 rfl rfl)
theorem dX12_is_8 : decode cX12_is 8 = .ok (.ifCond .ne 7, 3) := dk_154 0 7 (dk_at dksX12_is_0 8 rfl rfl)
theorem dX12_is_11 : decode cX12_is 11 = .ok (.iconst 1, 1) := dk_4 (dk_at dksX12_is_0 11 rfl rfl)
theorem dX12_is_12 : decode cX12_is 12 = .ok (.goto 4, 3) := dk_167 0 4 (dk_at dksX12_is_0 12 rfl rfl)
theorem dX12_is_15 : decode cX12_is 15 = .ok (.iconst 0, 1) := dk_3 (dk_at dksX12_is_0 15 rfl rfl)
theorem dX12_is_16 : decode cX12_is 16 = .ok (.ireturn, 1) := dk_172 (dk_at dksX12_is_0 16 rfl rfl)
theorem q137 : (Jvm.Cond.initialized "ChairCane$Not") ∈ lw_all := lw_g (lw_at lw_m1 21 rfl) rfl
theorem q713 : (Jvm.Cond.instantiable "ChairCane$Not" (1 : Nat)) ∈ lw_all := lw_g (lw_at lw_m3 117 rfl) rfl
theorem q715 : (Jvm.Cond.instanceMethod ({ cls := "ChairCane$Not", name := "<init>", desc := "(LChairCane$Test;)V" } : Jvm.MethodName)) ∈ lw_all := lw_g (lw_at lw_m3 119 rfl) rfl
theorem q716 : (Jvm.Cond.code ({ cls := "ChairCane$Not", name := "<init>", desc := "(LChairCane$Test;)V" } : Jvm.MethodName) prog_8_method_1_code (2 : Nat) (Option.none : Option Jvm.ClassFile.FieldType)) ∈ lw_all := lw_g (lw_at lw_m3 120 rfl) rfl
theorem q717 : (Jvm.Cond.methodLinkNest "ChairCane$Not" (1 : Nat) ({ cls := "ChairCane$Test", name := "<init>", desc := "()V" } : Jvm.MethodName) "ChairCane") ∈ lw_tbl := lw_at lw_m3 121 rfl
theorem q721 : (Jvm.Cond.fieldLink "ChairCane$Not" (7 : Nat) "ChairCane$Not" "test" "LChairCane$Test;") ∈ lw_all := lw_g (lw_at lw_m3 125 rfl) rfl
theorem q722 : (Jvm.Cond.laysFinal "ChairCane$Not" "ChairCane$Not" "test" "LChairCane$Test;") ∈ lw_all := lw_g (lw_at lw_m3 126 rfl) rfl
theorem q723 : (Jvm.Cond.soleField "ChairCane$Not" "test") ∈ lw_all := lw_g (lw_at lw_m3 127 rfl) rfl
theorem q724 : (Jvm.Cond.superclass "ChairCane$Not" "ChairCane$Test") ∈ lw_all := lw_g (lw_at lw_m3 128 rfl) rfl
theorem q888 : (Jvm.Cond.instanceMethod ({ cls := "ChairCane$Not", name := "is", desc := "([J)Z" } : Jvm.MethodName)) ∈ lw_all := lw_g (lw_at lw_m4 52 rfl) rfl
theorem q889 : (Jvm.Cond.code ({ cls := "ChairCane$Not", name := "is", desc := "([J)Z" } : Jvm.MethodName) prog_8_method_2_code (2 : Nat) (Option.some Jvm.ClassFile.FieldType.boolean)) ∈ lw_all := lw_g (lw_at lw_m4 53 rfl) rfl
theorem q890 : (Jvm.Cond.methodLink "ChairCane$Not" (13 : Nat) ({ cls := "ChairCane$Test", name := "is", desc := "([J)Z" } : Jvm.MethodName)) ∈ lw_all := lw_g (lw_at lw_m4 54 rfl) rfl
theorem q892 : (Jvm.Cond.selects "ChairCane$Not" ({ cls := "ChairCane$Test", name := "is", desc := "([J)Z" } : Jvm.MethodName) ({ cls := "ChairCane$Not", name := "is", desc := "([J)Z" } : Jvm.MethodName)) ∈ lw_all := lw_g (lw_at lw_m4 56 rfl) rfl
theorem in_X12 : ∀ w ∈ wsX120, w ∈ lw_all := lw_in wsX120 [722] (by decide +kernel) (by decide +kernel)

/-! ChairCane$Compare -/
set_option maxRecDepth 100000
def RX13 : String := "ChairCane$Compare"
def TX13 : u_T := fun k => match k with
  | 0 => ("ChairCane$Compare", "first", "LChairCane$Value;", true)
  | 1 => ("ChairCane$Compare", "second", "LChairCane$Value;", true)
  | _ => ("ChairCane$Compare", "sign", "I", true)
def tyX13 : Nat → FieldType := fun k => match k with
  | 0 => .object "ChairCane$Value"
  | 1 => .object "ChairCane$Value"
  | _ => .int
abbrev wsX130 : List Cond := u_ws RX13 TX13 3
theorem nmX13 : ∀ a, a < 3 → ∀ b, b < 3 → a ≠ b → (TX13 a).2.1 ≠ (TX13 b).2.1 := by decide +kernel
theorem tyX13_ok : ∀ k, k < 3 → parseFieldDescriptor (TX13 k).2.2.1 = some (tyX13 k) := by decide +kernel
abbrev cX13_init : ByteArray := prog_4_method_1_code
def yX13_init : MethodName := ⟨RX13, "<init>", "(LChairCane$Value;ILChairCane$Value;)V"⟩
def dkwX13_init_0 : List UInt8 := [42, 183, 0, 1, 42, 43, 181, 0, 7, 42, 28, 181, 0, 13, 42, 45, 181, 0, 17, 177]
abbrev dktX13_init_0 : List UInt8 := dkwX13_init_0 ++ []
theorem dksX13_init_0 : cX13_init.data.toList.drop 0 = dktX13_init_0 := by decide +kernel
theorem dX13_init_0 : decode cX13_init 0 = .ok (.aload_n 0, 1) := dk_42 (dk_at dksX13_init_0 0 rfl rfl)
theorem dX13_init_1 : decode cX13_init 1 = .ok (.invokespecial 1, 3) := dk_183 0 1 (dk_at dksX13_init_0 1 rfl rfl)
theorem dX13_init_4 : decode cX13_init 4 = .ok (.aload_n 0, 1) := dk_42 (dk_at dksX13_init_0 4 rfl rfl)
theorem dX13_init_5 : decode cX13_init 5 = .ok (.aload_n 1, 1) := dk_43 (dk_at dksX13_init_0 5 rfl rfl)
theorem dX13_init_6 : decode cX13_init 6 = .ok (.putfield 7, 3) := dk_181 0 7 (dk_at dksX13_init_0 6 rfl rfl)
theorem dX13_init_9 : decode cX13_init 9 = .ok (.aload_n 0, 1) := dk_42 (dk_at dksX13_init_0 9 rfl rfl)
theorem dX13_init_10 : decode cX13_init 10 = .ok (.iload_n 2, 1) := dk_28 (dk_at dksX13_init_0 10 rfl rfl)
theorem dX13_init_11 : decode cX13_init 11 = .ok (.putfield 13, 3) := dk_181 0 13 (dk_at dksX13_init_0 11 rfl rfl)
theorem dX13_init_14 : decode cX13_init 14 = .ok (.aload_n 0, 1) := dk_42 (dk_at dksX13_init_0 14 rfl rfl)
theorem dX13_init_15 : decode cX13_init 15 = .ok (.aload_n 3, 1) := dk_45 (dk_at dksX13_init_0 15 rfl rfl)
theorem dX13_init_16 : decode cX13_init 16 = .ok (.putfield 17, 3) := dk_181 0 17 (dk_at dksX13_init_0 16 rfl rfl)
theorem dX13_init_19 : decode cX13_init 19 = .ok (.return_, 1) := dk_177 (dk_at dksX13_init_0 19 rfl rfl)
abbrev cX13_is : ByteArray := prog_4_method_2_code
def yX13_is : MethodName := ⟨RX13, "is", "([J)Z"⟩
def dkwX13_is_4 : List UInt8 := [167, 0, 4, 3, 172, 32, 22, 4, 148, 158, 0, 7, 4, 167, 0, 4, 3, 172]
abbrev dktX13_is_4 : List UInt8 := dkwX13_is_4 ++ []
def dkwX13_is_3 : List UInt8 := [3, 172, 32, 22, 4, 148, 154, 0, 7, 4, 167, 0, 4, 3, 172, 32, 22, 4, 148, 155, 0, 7, 4]
abbrev dktX13_is_3 : List UInt8 := dkwX13_is_3 ++ dktX13_is_4
def dkwX13_is_2 : List UInt8 := [32, 22, 4, 148, 156, 0, 7, 4, 167, 0, 4, 3, 172, 32, 22, 4, 148, 157, 0, 7, 4, 167, 0, 4]
abbrev dktX13_is_2 : List UInt8 := dkwX13_is_2 ++ dktX13_is_3
def dkwX13_is_1 : List UInt8 := [170, 0, 0, 0, 81, 0, 0, 0, 0, 0, 0, 0, 3, 0, 0, 0, 29, 0, 0, 0, 42, 0, 0, 0, 55, 0, 0, 0, 68]
abbrev dktX13_is_1 : List UInt8 := dkwX13_is_1 ++ dktX13_is_2
def dkwX13_is_0 : List UInt8 := [42, 180, 0, 7, 43, 182, 0, 20, 65, 42, 180, 0, 17, 43, 182, 0, 20, 55, 4, 42, 180, 0, 13]
abbrev dktX13_is_0 : List UInt8 := dkwX13_is_0 ++ dktX13_is_1
theorem dksX13_is_0 : cX13_is.data.toList.drop 0 = dktX13_is_0 := by decide +kernel
theorem dksX13_is_1 : cX13_is.data.toList.drop 23 = dktX13_is_1 := dk_seg dksX13_is_0 23 rfl rfl
theorem dksX13_is_2 : cX13_is.data.toList.drop 52 = dktX13_is_2 := dk_seg dksX13_is_1 29 rfl rfl
theorem dksX13_is_3 : cX13_is.data.toList.drop 76 = dktX13_is_3 := dk_seg dksX13_is_2 24 rfl rfl
theorem dksX13_is_4 : cX13_is.data.toList.drop 99 = dktX13_is_4 := dk_seg dksX13_is_3 23 rfl rfl
theorem dX13_is_0 : decode cX13_is 0 = .ok (.aload_n 0, 1) := dk_42 (dk_at dksX13_is_0 0 rfl rfl)
theorem dX13_is_1 : decode cX13_is 1 = .ok (.getfield 7, 3) := dk_180 0 7 (dk_at dksX13_is_0 1 rfl rfl)
theorem dX13_is_4 : decode cX13_is 4 = .ok (.aload_n 1, 1) := dk_43 (dk_at dksX13_is_0 4 rfl rfl)
theorem dX13_is_5 : decode cX13_is 5 = .ok (.invokevirtual 20, 3) := dk_182 0 20 (dk_at dksX13_is_0 5 rfl rfl)
theorem dX13_is_8 : decode cX13_is 8 = .ok (.lstore_n 2, 1) := dk_65 (dk_at dksX13_is_0 8 rfl rfl)
theorem dX13_is_9 : decode cX13_is 9 = .ok (.aload_n 0, 1) := dk_42 (dk_at dksX13_is_0 9 rfl rfl)
theorem dX13_is_10 : decode cX13_is 10 = .ok (.getfield 17, 3) := dk_180 0 17 (dk_at dksX13_is_0 10 rfl rfl)
theorem dX13_is_13 : decode cX13_is 13 = .ok (.aload_n 1, 1) := dk_43 (dk_at dksX13_is_0 13 rfl rfl)
theorem dX13_is_14 : decode cX13_is 14 = .ok (.invokevirtual 20, 3) := dk_182 0 20 (dk_at dksX13_is_0 14 rfl rfl)
theorem dX13_is_17 : decode cX13_is 17 = .ok (.lstore 4, 2) := dk_55 4 (dk_at dksX13_is_0 17 rfl rfl)
theorem dX13_is_19 : decode cX13_is 19 = .ok (.aload_n 0, 1) := dk_42 (dk_at dksX13_is_0 19 rfl rfl)
theorem dX13_is_20 : decode cX13_is 20 = .ok (.getfield 13, 3) := dk_180 0 13 (dk_at dksX13_is_0 20 rfl rfl)
theorem dX13_is_23 : decode cX13_is 23 = .ok (.tableswitch 81 0 3 #[29, 42, 55, 68], 29) := by decide +kernel
theorem dX13_is_52 : decode cX13_is 52 = .ok (.lload_n 2, 1) := dk_32 (dk_at dksX13_is_2 0 rfl rfl)
theorem dX13_is_53 : decode cX13_is 53 = .ok (.lload 4, 2) := dk_22 4 (dk_at dksX13_is_2 1 rfl rfl)
theorem dX13_is_55 : decode cX13_is 55 = .ok (.lcmp, 1) := dk_148 (dk_at dksX13_is_2 3 rfl rfl)
theorem dX13_is_56 : decode cX13_is 56 = .ok (.ifCond .ge 7, 3) := dk_156 0 7 (dk_at dksX13_is_2 4 rfl rfl)
theorem dX13_is_59 : decode cX13_is 59 = .ok (.iconst 1, 1) := dk_4 (dk_at dksX13_is_2 7 rfl rfl)
theorem dX13_is_60 : decode cX13_is 60 = .ok (.goto 4, 3) := dk_167 0 4 (dk_at dksX13_is_2 8 rfl rfl)
theorem dX13_is_63 : decode cX13_is 63 = .ok (.iconst 0, 1) := dk_3 (dk_at dksX13_is_2 11 rfl rfl)
theorem dX13_is_64 : decode cX13_is 64 = .ok (.ireturn, 1) := dk_172 (dk_at dksX13_is_2 12 rfl rfl)
theorem dX13_is_65 : decode cX13_is 65 = .ok (.lload_n 2, 1) := dk_32 (dk_at dksX13_is_2 13 rfl rfl)
theorem dX13_is_66 : decode cX13_is 66 = .ok (.lload 4, 2) := dk_22 4 (dk_at dksX13_is_2 14 rfl rfl)
theorem dX13_is_68 : decode cX13_is 68 = .ok (.lcmp, 1) := dk_148 (dk_at dksX13_is_2 16 rfl rfl)
theorem dX13_is_69 : decode cX13_is 69 = .ok (.ifCond .gt 7, 3) := dk_157 0 7 (dk_at dksX13_is_2 17 rfl rfl)
theorem dX13_is_72 : decode cX13_is 72 = .ok (.iconst 1, 1) := dk_4 (dk_at dksX13_is_2 20 rfl rfl)
theorem dX13_is_73 : decode cX13_is 73 = .ok (.goto 4, 3) := dk_167 0 4 (dk_at dksX13_is_2 21 rfl rfl)
theorem dX13_is_76 : decode cX13_is 76 = .ok (.iconst 0, 1) := dk_3 (dk_at dksX13_is_3 0 rfl rfl)
theorem dX13_is_77 : decode cX13_is 77 = .ok (.ireturn, 1) := dk_172 (dk_at dksX13_is_3 1 rfl rfl)
theorem dX13_is_78 : decode cX13_is 78 = .ok (.lload_n 2, 1) := dk_32 (dk_at dksX13_is_3 2 rfl rfl)
theorem dX13_is_79 : decode cX13_is 79 = .ok (.lload 4, 2) := dk_22 4 (dk_at dksX13_is_3 3 rfl rfl)
theorem dX13_is_81 : decode cX13_is 81 = .ok (.lcmp, 1) := dk_148 (dk_at dksX13_is_3 5 rfl rfl)
theorem dX13_is_82 : decode cX13_is 82 = .ok (.ifCond .ne 7, 3) := dk_154 0 7 (dk_at dksX13_is_3 6 rfl rfl)
theorem dX13_is_85 : decode cX13_is 85 = .ok (.iconst 1, 1) := dk_4 (dk_at dksX13_is_3 9 rfl rfl)
theorem dX13_is_86 : decode cX13_is 86 = .ok (.goto 4, 3) := dk_167 0 4 (dk_at dksX13_is_3 10 rfl rfl)
theorem dX13_is_89 : decode cX13_is 89 = .ok (.iconst 0, 1) := dk_3 (dk_at dksX13_is_3 13 rfl rfl)
theorem dX13_is_90 : decode cX13_is 90 = .ok (.ireturn, 1) := dk_172 (dk_at dksX13_is_3 14 rfl rfl)
theorem dX13_is_91 : decode cX13_is 91 = .ok (.lload_n 2, 1) := dk_32 (dk_at dksX13_is_3 15 rfl rfl)
theorem dX13_is_92 : decode cX13_is 92 = .ok (.lload 4, 2) := dk_22 4 (dk_at dksX13_is_3 16 rfl rfl)
theorem dX13_is_94 : decode cX13_is 94 = .ok (.lcmp, 1) := dk_148 (dk_at dksX13_is_3 18 rfl rfl)
theorem dX13_is_95 : decode cX13_is 95 = .ok (.ifCond .lt 7, 3) := dk_155 0 7 (dk_at dksX13_is_3 19 rfl rfl)
theorem dX13_is_98 : decode cX13_is 98 = .ok (.iconst 1, 1) := dk_4 (dk_at dksX13_is_3 22 rfl rfl)
theorem dX13_is_99 : decode cX13_is 99 = .ok (.goto 4, 3) := dk_167 0 4 (dk_at dksX13_is_4 0 rfl rfl)
theorem dX13_is_102 : decode cX13_is 102 = .ok (.iconst 0, 1) := dk_3 (dk_at dksX13_is_4 3 rfl rfl)
theorem dX13_is_103 : decode cX13_is 103 = .ok (.ireturn, 1) := dk_172 (dk_at dksX13_is_4 4 rfl rfl)
theorem dX13_is_104 : decode cX13_is 104 = .ok (.lload_n 2, 1) := dk_32 (dk_at dksX13_is_4 5 rfl rfl)
theorem dX13_is_105 : decode cX13_is 105 = .ok (.lload 4, 2) := dk_22 4 (dk_at dksX13_is_4 6 rfl rfl)
theorem dX13_is_107 : decode cX13_is 107 = .ok (.lcmp, 1) := dk_148 (dk_at dksX13_is_4 8 rfl rfl)
theorem dX13_is_108 : decode cX13_is 108 = .ok (.ifCond .le 7, 3) := dk_158 0 7 (dk_at dksX13_is_4 9 rfl rfl)
theorem dX13_is_111 : decode cX13_is 111 = .ok (.iconst 1, 1) := dk_4 (dk_at dksX13_is_4 12 rfl rfl)
theorem dX13_is_112 : decode cX13_is 112 = .ok (.goto 4, 3) := dk_167 0 4 (dk_at dksX13_is_4 13 rfl rfl)
theorem dX13_is_115 : decode cX13_is 115 = .ok (.iconst 0, 1) := dk_3 (dk_at dksX13_is_4 16 rfl rfl)
theorem dX13_is_116 : decode cX13_is 116 = .ok (.ireturn, 1) := dk_172 (dk_at dksX13_is_4 17 rfl rfl)
theorem q138 : (Jvm.Cond.initialized "ChairCane$Compare") ∈ lw_all := lw_g (lw_at lw_m1 22 rfl) rfl
theorem q730 : (Jvm.Cond.instantiable "ChairCane$Compare" (3 : Nat)) ∈ lw_all := lw_g (lw_at lw_m3 134 rfl) rfl
theorem q732 : (Jvm.Cond.instanceMethod ({ cls := "ChairCane$Compare", name := "<init>", desc := "(LChairCane$Value;ILChairCane$Value;)V" } : Jvm.MethodName)) ∈ lw_all := lw_g (lw_at lw_m3 136 rfl) rfl
theorem q733 : (Jvm.Cond.code ({ cls := "ChairCane$Compare", name := "<init>", desc := "(LChairCane$Value;ILChairCane$Value;)V" } : Jvm.MethodName) prog_4_method_1_code (4 : Nat) (Option.none : Option Jvm.ClassFile.FieldType)) ∈ lw_all := lw_g (lw_at lw_m3 137 rfl) rfl
theorem q734 : (Jvm.Cond.methodLinkNest "ChairCane$Compare" (1 : Nat) ({ cls := "ChairCane$Test", name := "<init>", desc := "()V" } : Jvm.MethodName) "ChairCane") ∈ lw_tbl := lw_at lw_m3 138 rfl
theorem q735 : (Jvm.Cond.fieldLink "ChairCane$Compare" (7 : Nat) "ChairCane$Compare" "first" "LChairCane$Value;") ∈ lw_all := lw_g (lw_at lw_m3 139 rfl) rfl
theorem q736 : (Jvm.Cond.fieldLink "ChairCane$Compare" (17 : Nat) "ChairCane$Compare" "second" "LChairCane$Value;") ∈ lw_all := lw_g (lw_at lw_m3 140 rfl) rfl
theorem q737 : (Jvm.Cond.fieldLink "ChairCane$Compare" (13 : Nat) "ChairCane$Compare" "sign" "I") ∈ lw_all := lw_g (lw_at lw_m3 141 rfl) rfl
theorem q738 : (Jvm.Cond.laysFinal "ChairCane$Compare" "ChairCane$Compare" "first" "LChairCane$Value;") ∈ lw_all := lw_g (lw_at lw_m3 142 rfl) rfl
theorem q739 : (Jvm.Cond.soleField "ChairCane$Compare" "first") ∈ lw_all := lw_g (lw_at lw_m3 143 rfl) rfl
theorem q740 : (Jvm.Cond.laysFinal "ChairCane$Compare" "ChairCane$Compare" "second" "LChairCane$Value;") ∈ lw_all := lw_g (lw_at lw_m3 144 rfl) rfl
theorem q741 : (Jvm.Cond.soleField "ChairCane$Compare" "second") ∈ lw_all := lw_g (lw_at lw_m3 145 rfl) rfl
theorem q742 : (Jvm.Cond.laysFinal "ChairCane$Compare" "ChairCane$Compare" "sign" "I") ∈ lw_all := lw_g (lw_at lw_m3 146 rfl) rfl
theorem q743 : (Jvm.Cond.soleField "ChairCane$Compare" "sign") ∈ lw_all := lw_g (lw_at lw_m3 147 rfl) rfl
theorem q744 : (Jvm.Cond.superclass "ChairCane$Compare" "ChairCane$Test") ∈ lw_all := lw_g (lw_at lw_m3 148 rfl) rfl
theorem q873 : (Jvm.Cond.instanceMethod ({ cls := "ChairCane$Compare", name := "is", desc := "([J)Z" } : Jvm.MethodName)) ∈ lw_all := lw_g (lw_at lw_m4 37 rfl) rfl
theorem q874 : (Jvm.Cond.code ({ cls := "ChairCane$Compare", name := "is", desc := "([J)Z" } : Jvm.MethodName) prog_4_method_2_code (6 : Nat) (Option.some Jvm.ClassFile.FieldType.boolean)) ∈ lw_all := lw_g (lw_at lw_m4 38 rfl) rfl
theorem q875 : (Jvm.Cond.methodLink "ChairCane$Compare" (20 : Nat) ({ cls := "ChairCane$Value", name := "of", desc := "([J)J" } : Jvm.MethodName)) ∈ lw_all := lw_g (lw_at lw_m4 39 rfl) rfl
theorem q891 : (Jvm.Cond.selects "ChairCane$Compare" ({ cls := "ChairCane$Test", name := "is", desc := "([J)Z" } : Jvm.MethodName) ({ cls := "ChairCane$Compare", name := "is", desc := "([J)Z" } : Jvm.MethodName)) ∈ lw_all := lw_g (lw_at lw_m4 55 rfl) rfl
theorem in_X13 : ∀ w ∈ wsX130, w ∈ lw_all := lw_in wsX130 [738, 740, 742] (by decide +kernel) (by decide +kernel)

/-! ChairCane$Both -/
set_option maxRecDepth 100000
def RX14 : String := "ChairCane$Both"
def TX14 : u_T := fun k => match k with
  | 0 => ("ChairCane$Both", "first", "LChairCane$Test;", true)
  | 1 => ("ChairCane$Both", "second", "LChairCane$Test;", true)
  | _ => ("ChairCane$Both", "isAnd", "Z", true)
def tyX14 : Nat → FieldType := fun k => match k with
  | 0 => .object "ChairCane$Test"
  | 1 => .object "ChairCane$Test"
  | _ => .boolean
abbrev wsX140 : List Cond := u_ws RX14 TX14 3
theorem nmX14 : ∀ a, a < 3 → ∀ b, b < 3 → a ≠ b → (TX14 a).2.1 ≠ (TX14 b).2.1 := by decide +kernel
theorem tyX14_ok : ∀ k, k < 3 → parseFieldDescriptor (TX14 k).2.2.1 = some (tyX14 k) := by decide +kernel
abbrev cX14_init : ByteArray := prog_2_method_1_code
def yX14_init : MethodName := ⟨RX14, "<init>", "(LChairCane$Test;ZLChairCane$Test;)V"⟩
def dkwX14_init_0 : List UInt8 := [42, 183, 0, 1, 42, 43, 181, 0, 7, 42, 28, 181, 0, 13, 42, 45, 181, 0, 17, 177]
abbrev dktX14_init_0 : List UInt8 := dkwX14_init_0 ++ []
theorem dksX14_init_0 : cX14_init.data.toList.drop 0 = dktX14_init_0 := by decide +kernel
theorem dX14_init_0 : decode cX14_init 0 = .ok (.aload_n 0, 1) := dk_42 (dk_at dksX14_init_0 0 rfl rfl)
theorem dX14_init_1 : decode cX14_init 1 = .ok (.invokespecial 1, 3) := dk_183 0 1 (dk_at dksX14_init_0 1 rfl rfl)
theorem dX14_init_4 : decode cX14_init 4 = .ok (.aload_n 0, 1) := dk_42 (dk_at dksX14_init_0 4 rfl rfl)
theorem dX14_init_5 : decode cX14_init 5 = .ok (.aload_n 1, 1) := dk_43 (dk_at dksX14_init_0 5 rfl rfl)
theorem dX14_init_6 : decode cX14_init 6 = .ok (.putfield 7, 3) := dk_181 0 7 (dk_at dksX14_init_0 6 rfl rfl)
theorem dX14_init_9 : decode cX14_init 9 = .ok (.aload_n 0, 1) := dk_42 (dk_at dksX14_init_0 9 rfl rfl)
theorem dX14_init_10 : decode cX14_init 10 = .ok (.iload_n 2, 1) := dk_28 (dk_at dksX14_init_0 10 rfl rfl)
theorem dX14_init_11 : decode cX14_init 11 = .ok (.putfield 13, 3) := dk_181 0 13 (dk_at dksX14_init_0 11 rfl rfl)
theorem dX14_init_14 : decode cX14_init 14 = .ok (.aload_n 0, 1) := dk_42 (dk_at dksX14_init_0 14 rfl rfl)
theorem dX14_init_15 : decode cX14_init 15 = .ok (.aload_n 3, 1) := dk_45 (dk_at dksX14_init_0 15 rfl rfl)
theorem dX14_init_16 : decode cX14_init 16 = .ok (.putfield 17, 3) := dk_181 0 17 (dk_at dksX14_init_0 16 rfl rfl)
theorem dX14_init_19 : decode cX14_init 19 = .ok (.return_, 1) := dk_177 (dk_at dksX14_init_0 19 rfl rfl)
abbrev cX14_is : ByteArray := prog_2_method_2_code
def yX14_is : MethodName := ⟨RX14, "is", "([J)Z"⟩
def dkwX14_is_2 : List UInt8 := [154, 0, 14, 42, 180, 0, 17, 43, 182, 0, 20, 153, 0, 7, 4, 167, 0, 4, 3, 172]
abbrev dktX14_is_2 : List UInt8 := dkwX14_is_2 ++ []
def dkwX14_is_1 : List UInt8 := [182, 0, 20, 153, 0, 7, 4, 167, 0, 34, 3, 167, 0, 30, 42, 180, 0, 7, 43, 182, 0, 20]
abbrev dktX14_is_1 : List UInt8 := dkwX14_is_1 ++ dktX14_is_2
def dkwX14_is_0 : List UInt8 := [42, 180, 0, 13, 153, 0, 33, 42, 180, 0, 7, 43, 182, 0, 20, 153, 0, 18, 42, 180, 0, 17, 43]
abbrev dktX14_is_0 : List UInt8 := dkwX14_is_0 ++ dktX14_is_1
theorem dksX14_is_0 : cX14_is.data.toList.drop 0 = dktX14_is_0 := by decide +kernel
theorem dksX14_is_1 : cX14_is.data.toList.drop 23 = dktX14_is_1 := dk_seg dksX14_is_0 23 rfl rfl
theorem dksX14_is_2 : cX14_is.data.toList.drop 45 = dktX14_is_2 := dk_seg dksX14_is_1 22 rfl rfl
theorem dX14_is_0 : decode cX14_is 0 = .ok (.aload_n 0, 1) := dk_42 (dk_at dksX14_is_0 0 rfl rfl)
theorem dX14_is_1 : decode cX14_is 1 = .ok (.getfield 13, 3) := dk_180 0 13 (dk_at dksX14_is_0 1 rfl rfl)
theorem dX14_is_4 : decode cX14_is 4 = .ok (.ifCond .eq 33, 3) := dk_153 0 33 (dk_at dksX14_is_0 4 rfl rfl)
theorem dX14_is_7 : decode cX14_is 7 = .ok (.aload_n 0, 1) := dk_42 (dk_at dksX14_is_0 7 rfl rfl)
theorem dX14_is_8 : decode cX14_is 8 = .ok (.getfield 7, 3) := dk_180 0 7 (dk_at dksX14_is_0 8 rfl rfl)
theorem dX14_is_11 : decode cX14_is 11 = .ok (.aload_n 1, 1) := dk_43 (dk_at dksX14_is_0 11 rfl rfl)
theorem dX14_is_12 : decode cX14_is 12 = .ok (.invokevirtual 20, 3) := dk_182 0 20 (dk_at dksX14_is_0 12 rfl rfl)
theorem dX14_is_15 : decode cX14_is 15 = .ok (.ifCond .eq 18, 3) := dk_153 0 18 (dk_at dksX14_is_0 15 rfl rfl)
theorem dX14_is_18 : decode cX14_is 18 = .ok (.aload_n 0, 1) := dk_42 (dk_at dksX14_is_0 18 rfl rfl)
theorem dX14_is_19 : decode cX14_is 19 = .ok (.getfield 17, 3) := dk_180 0 17 (dk_at dksX14_is_0 19 rfl rfl)
theorem dX14_is_22 : decode cX14_is 22 = .ok (.aload_n 1, 1) := dk_43 (dk_at dksX14_is_0 22 rfl rfl)
theorem dX14_is_23 : decode cX14_is 23 = .ok (.invokevirtual 20, 3) := dk_182 0 20 (dk_at dksX14_is_1 0 rfl rfl)
theorem dX14_is_26 : decode cX14_is 26 = .ok (.ifCond .eq 7, 3) := dk_153 0 7 (dk_at dksX14_is_1 3 rfl rfl)
theorem dX14_is_29 : decode cX14_is 29 = .ok (.iconst 1, 1) := dk_4 (dk_at dksX14_is_1 6 rfl rfl)
theorem dX14_is_30 : decode cX14_is 30 = .ok (.goto 34, 3) := dk_167 0 34 (dk_at dksX14_is_1 7 rfl rfl)
theorem dX14_is_33 : decode cX14_is 33 = .ok (.iconst 0, 1) := dk_3 (dk_at dksX14_is_1 10 rfl rfl)
theorem dX14_is_34 : decode cX14_is 34 = .ok (.goto 30, 3) := dk_167 0 30 (dk_at dksX14_is_1 11 rfl rfl)
theorem dX14_is_37 : decode cX14_is 37 = .ok (.aload_n 0, 1) := dk_42 (dk_at dksX14_is_1 14 rfl rfl)
theorem dX14_is_38 : decode cX14_is 38 = .ok (.getfield 7, 3) := dk_180 0 7 (dk_at dksX14_is_1 15 rfl rfl)
theorem dX14_is_41 : decode cX14_is 41 = .ok (.aload_n 1, 1) := dk_43 (dk_at dksX14_is_1 18 rfl rfl)
theorem dX14_is_42 : decode cX14_is 42 = .ok (.invokevirtual 20, 3) := dk_182 0 20 (dk_at dksX14_is_1 19 rfl rfl)
theorem dX14_is_45 : decode cX14_is 45 = .ok (.ifCond .ne 14, 3) := dk_154 0 14 (dk_at dksX14_is_2 0 rfl rfl)
theorem dX14_is_48 : decode cX14_is 48 = .ok (.aload_n 0, 1) := dk_42 (dk_at dksX14_is_2 3 rfl rfl)
theorem dX14_is_49 : decode cX14_is 49 = .ok (.getfield 17, 3) := dk_180 0 17 (dk_at dksX14_is_2 4 rfl rfl)
theorem dX14_is_52 : decode cX14_is 52 = .ok (.aload_n 1, 1) := dk_43 (dk_at dksX14_is_2 7 rfl rfl)
theorem dX14_is_53 : decode cX14_is 53 = .ok (.invokevirtual 20, 3) := dk_182 0 20 (dk_at dksX14_is_2 8 rfl rfl)
theorem dX14_is_56 : decode cX14_is 56 = .ok (.ifCond .eq 7, 3) := dk_153 0 7 (dk_at dksX14_is_2 11 rfl rfl)
theorem dX14_is_59 : decode cX14_is 59 = .ok (.iconst 1, 1) := dk_4 (dk_at dksX14_is_2 14 rfl rfl)
theorem dX14_is_60 : decode cX14_is 60 = .ok (.goto 4, 3) := dk_167 0 4 (dk_at dksX14_is_2 15 rfl rfl)
theorem dX14_is_63 : decode cX14_is 63 = .ok (.iconst 0, 1) := dk_3 (dk_at dksX14_is_2 18 rfl rfl)
theorem dX14_is_64 : decode cX14_is 64 = .ok (.ireturn, 1) := dk_172 (dk_at dksX14_is_2 19 rfl rfl)
theorem q139 : (Jvm.Cond.initialized "ChairCane$Both") ∈ lw_all := lw_g (lw_at lw_m1 23 rfl) rfl
theorem q747 : (Jvm.Cond.instantiable "ChairCane$Both" (3 : Nat)) ∈ lw_all := lw_g (lw_at lw_m3 151 rfl) rfl
theorem q749 : (Jvm.Cond.instanceMethod ({ cls := "ChairCane$Both", name := "<init>", desc := "(LChairCane$Test;ZLChairCane$Test;)V" } : Jvm.MethodName)) ∈ lw_all := lw_g (lw_at lw_m3 153 rfl) rfl
theorem q750 : (Jvm.Cond.code ({ cls := "ChairCane$Both", name := "<init>", desc := "(LChairCane$Test;ZLChairCane$Test;)V" } : Jvm.MethodName) prog_2_method_1_code (4 : Nat) (Option.none : Option Jvm.ClassFile.FieldType)) ∈ lw_all := lw_g (lw_at lw_m3 154 rfl) rfl
theorem q751 : (Jvm.Cond.methodLinkNest "ChairCane$Both" (1 : Nat) ({ cls := "ChairCane$Test", name := "<init>", desc := "()V" } : Jvm.MethodName) "ChairCane") ∈ lw_tbl := lw_at lw_m3 155 rfl
theorem q752 : (Jvm.Cond.fieldLink "ChairCane$Both" (7 : Nat) "ChairCane$Both" "first" "LChairCane$Test;") ∈ lw_all := lw_g (lw_at lw_m3 156 rfl) rfl
theorem q753 : (Jvm.Cond.fieldLink "ChairCane$Both" (17 : Nat) "ChairCane$Both" "second" "LChairCane$Test;") ∈ lw_all := lw_g (lw_at lw_m3 157 rfl) rfl
theorem q754 : (Jvm.Cond.fieldLink "ChairCane$Both" (13 : Nat) "ChairCane$Both" "isAnd" "Z") ∈ lw_all := lw_g (lw_at lw_m3 158 rfl) rfl
theorem q755 : (Jvm.Cond.laysFinal "ChairCane$Both" "ChairCane$Both" "first" "LChairCane$Test;") ∈ lw_all := lw_g (lw_at lw_m3 159 rfl) rfl
theorem q756 : (Jvm.Cond.soleField "ChairCane$Both" "first") ∈ lw_all := lw_g (lw_at lw_m3 160 rfl) rfl
theorem q757 : (Jvm.Cond.laysFinal "ChairCane$Both" "ChairCane$Both" "second" "LChairCane$Test;") ∈ lw_all := lw_g (lw_at lw_m3 161 rfl) rfl
theorem q758 : (Jvm.Cond.soleField "ChairCane$Both" "second") ∈ lw_all := lw_g (lw_at lw_m3 162 rfl) rfl
theorem q759 : (Jvm.Cond.laysFinal "ChairCane$Both" "ChairCane$Both" "isAnd" "Z") ∈ lw_all := lw_g (lw_at lw_m3 163 rfl) rfl
theorem q760 : (Jvm.Cond.soleField "ChairCane$Both" "isAnd") ∈ lw_all := lw_g (lw_at lw_m3 164 rfl) rfl
theorem q761 : (Jvm.Cond.superclass "ChairCane$Both" "ChairCane$Test") ∈ lw_all := lw_g (lw_at lw_m3 165 rfl) rfl
theorem q869 : (Jvm.Cond.selects "ChairCane$Both" ({ cls := "ChairCane$Test", name := "is", desc := "([J)Z" } : Jvm.MethodName) ({ cls := "ChairCane$Both", name := "is", desc := "([J)Z" } : Jvm.MethodName)) ∈ lw_all := lw_g (lw_at lw_m4 33 rfl) rfl
theorem q870 : (Jvm.Cond.instanceMethod ({ cls := "ChairCane$Both", name := "is", desc := "([J)Z" } : Jvm.MethodName)) ∈ lw_all := lw_g (lw_at lw_m4 34 rfl) rfl
theorem q871 : (Jvm.Cond.code ({ cls := "ChairCane$Both", name := "is", desc := "([J)Z" } : Jvm.MethodName) prog_2_method_2_code (2 : Nat) (Option.some Jvm.ClassFile.FieldType.boolean)) ∈ lw_all := lw_g (lw_at lw_m4 35 rfl) rfl
theorem q872 : (Jvm.Cond.methodLink "ChairCane$Both" (20 : Nat) ({ cls := "ChairCane$Test", name := "is", desc := "([J)Z" } : Jvm.MethodName)) ∈ lw_all := lw_g (lw_at lw_m4 36 rfl) rfl
theorem in_X14 : ∀ w ∈ wsX140, w ∈ lw_all := lw_in wsX140 [755, 757, 759] (by decide +kernel) (by decide +kernel)

/-! ChairCane$Image -/
set_option maxRecDepth 100000
def RX15 : String := "ChairCane$Image"
def TX15 : u_T := fun k => match k with
  | 0 => ("ChairCane$Image", "dinner", "LChairCane$Dinner;", true)
  | 1 => ("ChairCane$Image", "isTold", "Z", false)
  | 2 => ("ChairCane$Image", "x", "I", false)
  | _ => ("ChairCane$Image", "inForce", "I", false)
def tyX15 : Nat → FieldType := fun k => match k with
  | 0 => .object "ChairCane$Dinner"
  | 1 => .boolean
  | 2 => .int
  | _ => .int
abbrev wsX150 : List Cond := u_ws RX15 TX15 4
theorem nmX15 : ∀ a, a < 4 → ∀ b, b < 4 → a ≠ b → (TX15 a).2.1 ≠ (TX15 b).2.1 := by decide +kernel
theorem tyX15_ok : ∀ k, k < 4 → parseFieldDescriptor (TX15 k).2.2.1 = some (tyX15 k) := by decide +kernel
abbrev cX15_init : ByteArray := prog_7_method_1_code
def yX15_init : MethodName := ⟨RX15, "<init>", "()V"⟩
def dkwX15_init_0 : List UInt8 := [42, 183, 0, 1, 42, 187, 0, 7, 89, 183, 0, 9, 181, 0, 10, 177]
abbrev dktX15_init_0 : List UInt8 := dkwX15_init_0 ++ []
theorem dksX15_init_0 : cX15_init.data.toList.drop 0 = dktX15_init_0 := by decide +kernel
theorem dX15_init_0 : decode cX15_init 0 = .ok (.aload_n 0, 1) := dk_42 (dk_at dksX15_init_0 0 rfl rfl)
theorem dX15_init_1 : decode cX15_init 1 = .ok (.invokespecial 1, 3) := dk_183 0 1 (dk_at dksX15_init_0 1 rfl rfl)
theorem dX15_init_4 : decode cX15_init 4 = .ok (.aload_n 0, 1) := dk_42 (dk_at dksX15_init_0 4 rfl rfl)
theorem dX15_init_5 : decode cX15_init 5 = .ok (.new 7, 3) := dk_187 0 7 (dk_at dksX15_init_0 5 rfl rfl)
theorem dX15_init_8 : decode cX15_init 8 = .ok (.dup, 1) := dk_89 (dk_at dksX15_init_0 8 rfl rfl)
theorem dX15_init_9 : decode cX15_init 9 = .ok (.invokespecial 9, 3) := dk_183 0 9 (dk_at dksX15_init_0 9 rfl rfl)
theorem dX15_init_12 : decode cX15_init 12 = .ok (.putfield 10, 3) := dk_181 0 10 (dk_at dksX15_init_0 12 rfl rfl)
theorem dX15_init_15 : decode cX15_init 15 = .ok (.return_, 1) := dk_177 (dk_at dksX15_init_0 15 rfl rfl)
theorem q142 : (Jvm.Cond.initialized "ChairCane$Image") ∈ lw_all := lw_g (lw_at lw_m1 26 rfl) rfl
theorem q1085 : (Jvm.Cond.instantiable "ChairCane$Image" (4 : Nat)) ∈ lw_all := lw_g (lw_at lw_m5 9 rfl) rfl
theorem q1087 : (Jvm.Cond.instanceMethod ({ cls := "ChairCane$Image", name := "<init>", desc := "()V" } : Jvm.MethodName)) ∈ lw_all := lw_g (lw_at lw_m5 11 rfl) rfl
theorem q1088 : (Jvm.Cond.code ({ cls := "ChairCane$Image", name := "<init>", desc := "()V" } : Jvm.MethodName) prog_7_method_1_code (1 : Nat) (Option.none : Option Jvm.ClassFile.FieldType)) ∈ lw_all := lw_g (lw_at lw_m5 12 rfl) rfl
theorem q1089 : (Jvm.Cond.methodLink "ChairCane$Image" (1 : Nat) ({ cls := "java/lang/Object", name := "<init>", desc := "()V" } : Jvm.MethodName)) ∈ lw_all := lw_g (lw_at lw_m5 13 rfl) rfl
theorem q1090 : (Jvm.Cond.classLink "ChairCane$Image" (7 : Nat) "ChairCane$Dinner") ∈ lw_all := lw_g (lw_at lw_m5 14 rfl) rfl
theorem q1091 : (Jvm.Cond.methodLinkNest "ChairCane$Image" (9 : Nat) ({ cls := "ChairCane$Dinner", name := "<init>", desc := "()V" } : Jvm.MethodName) "ChairCane") ∈ lw_tbl := lw_at lw_m5 15 rfl
theorem q1092 : (Jvm.Cond.fieldLink "ChairCane$Image" (10 : Nat) "ChairCane$Image" "dinner" "LChairCane$Dinner;") ∈ lw_all := lw_g (lw_at lw_m5 16 rfl) rfl
theorem q1097 : (Jvm.Cond.laysFinal "ChairCane$Image" "ChairCane$Image" "dinner" "LChairCane$Dinner;") ∈ lw_all := lw_g (lw_at lw_m5 21 rfl) rfl
theorem q1098 : (Jvm.Cond.soleField "ChairCane$Image" "dinner") ∈ lw_all := lw_g (lw_at lw_m5 22 rfl) rfl
theorem q1099 : (Jvm.Cond.lays "ChairCane$Image" "ChairCane$Image" "isTold" "Z") ∈ lw_all := lw_g (lw_at lw_m5 23 rfl) rfl
theorem q1100 : (Jvm.Cond.soleField "ChairCane$Image" "isTold") ∈ lw_all := lw_g (lw_at lw_m5 24 rfl) rfl
theorem q1101 : (Jvm.Cond.lays "ChairCane$Image" "ChairCane$Image" "x" "I") ∈ lw_all := lw_g (lw_at lw_m5 25 rfl) rfl
theorem q1102 : (Jvm.Cond.soleField "ChairCane$Image" "x") ∈ lw_all := lw_g (lw_at lw_m5 26 rfl) rfl
theorem q1103 : (Jvm.Cond.lays "ChairCane$Image" "ChairCane$Image" "inForce" "I") ∈ lw_all := lw_g (lw_at lw_m5 27 rfl) rfl
theorem q1104 : (Jvm.Cond.soleField "ChairCane$Image" "inForce") ∈ lw_all := lw_g (lw_at lw_m5 28 rfl) rfl
theorem q1105 : (Jvm.Cond.superclass "ChairCane$Image" "java/lang/Object") ∈ lw_all := lw_g (lw_at lw_m5 29 rfl) rfl
theorem in_X15 : ∀ w ∈ wsX150, w ∈ lw_all := lw_in wsX150 [1097, 1099, 1101, 1103] (by decide +kernel) (by decide +kernel)
