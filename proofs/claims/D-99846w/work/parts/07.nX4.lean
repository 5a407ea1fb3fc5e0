/-! ChairCane$Text -/
set_option maxRecDepth 100000
def RX4 : String := "ChairCane$Text"
def TX4 : u_T := fun k => match k with
  | 0 => ("ChairCane$Text", "words", "[Ljava/lang/String;", true)
  | 1 => ("ChairCane$Text", "read", "LChairCane$Dinner;", true)
  | 2 => ("ChairCane$Text", "next", "I", false)
  | 3 => ("ChairCane$Text", "deep", "I", false)
  | 4 => ("ChairCane$Text", "made", "I", false)
  | 5 => ("ChairCane$Text", "many", "I", false)
  | _ => ("ChairCane$Text", "this$0", "LChairCane;", true)
def tyX4 : Nat → FieldType := fun k => match k with
  | 0 => .array (.object "java/lang/String")
  | 1 => .object "ChairCane$Dinner"
  | 2 => .int
  | 3 => .int
  | 4 => .int
  | 5 => .int
  | _ => .object "ChairCane"
abbrev wsX40 : List Cond := u_ws RX4 TX4 7
theorem nmX4 : ∀ a, a < 7 → ∀ b, b < 7 → a ≠ b → (TX4 a).2.1 ≠ (TX4 b).2.1 := by decide +kernel
theorem tyX4_ok : ∀ k, k < 7 → parseFieldDescriptor (TX4 k).2.2.1 = some (tyX4 k) := by decide +kernel
abbrev cX4_init : ByteArray := prog_13_method_1_code
def yX4_init : MethodName := ⟨RX4, "<init>", "(LChairCane;)V"⟩
def dkwX4_init_1 : List UInt8 := [180, 0, 3, 180, 0, 22, 181, 0, 26, 177]
abbrev dktX4_init_1 : List UInt8 := dkwX4_init_1 ++ []
def dkwX4_init_0 : List UInt8 := [42, 43, 181, 0, 3, 42, 183, 0, 9, 42, 42, 180, 0, 3, 180, 0, 15, 181, 0, 19, 42, 42]
abbrev dktX4_init_0 : List UInt8 := dkwX4_init_0 ++ dktX4_init_1
theorem dksX4_init_0 : cX4_init.data.toList.drop 0 = dktX4_init_0 := by decide +kernel
theorem dksX4_init_1 : cX4_init.data.toList.drop 22 = dktX4_init_1 := dk_seg dksX4_init_0 22 rfl rfl
theorem dX4_init_0 : decode cX4_init 0 = .ok (.aload_n 0, 1) := dk_42 (dk_at dksX4_init_0 0 rfl rfl)
theorem dX4_init_1 : decode cX4_init 1 = .ok (.aload_n 1, 1) := dk_43 (dk_at dksX4_init_0 1 rfl rfl)
theorem dX4_init_2 : decode cX4_init 2 = .ok (.putfield 3, 3) := dk_181 0 3 (dk_at dksX4_init_0 2 rfl rfl)
theorem dX4_init_5 : decode cX4_init 5 = .ok (.aload_n 0, 1) := dk_42 (dk_at dksX4_init_0 5 rfl rfl)
theorem dX4_init_6 : decode cX4_init 6 = .ok (.invokespecial 9, 3) := dk_183 0 9 (dk_at dksX4_init_0 6 rfl rfl)
theorem dX4_init_9 : decode cX4_init 9 = .ok (.aload_n 0, 1) := dk_42 (dk_at dksX4_init_0 9 rfl rfl)
theorem dX4_init_10 : decode cX4_init 10 = .ok (.aload_n 0, 1) := dk_42 (dk_at dksX4_init_0 10 rfl rfl)
theorem dX4_init_11 : decode cX4_init 11 = .ok (.getfield 3, 3) := dk_180 0 3 (dk_at dksX4_init_0 11 rfl rfl)
theorem dX4_init_14 : decode cX4_init 14 = .ok (.getfield 15, 3) := dk_180 0 15 (dk_at dksX4_init_0 14 rfl rfl)
theorem dX4_init_17 : decode cX4_init 17 = .ok (.putfield 19, 3) := dk_181 0 19 (dk_at dksX4_init_0 17 rfl rfl)
theorem dX4_init_20 : decode cX4_init 20 = .ok (.aload_n 0, 1) := dk_42 (dk_at dksX4_init_0 20 rfl rfl)
theorem dX4_init_21 : decode cX4_init 21 = .ok (.aload_n 0, 1) := dk_42 (dk_at dksX4_init_0 21 rfl rfl)
theorem dX4_init_22 : decode cX4_init 22 = .ok (.getfield 3, 3) := dk_180 0 3 (dk_at dksX4_init_1 0 rfl rfl)
theorem dX4_init_25 : decode cX4_init 25 = .ok (.getfield 22, 3) := dk_180 0 22 (dk_at dksX4_init_1 3 rfl rfl)
theorem dX4_init_28 : decode cX4_init 28 = .ok (.putfield 26, 3) := dk_181 0 26 (dk_at dksX4_init_1 6 rfl rfl)
theorem dX4_init_31 : decode cX4_init 31 = .ok (.return_, 1) := dk_177 (dk_at dksX4_init_1 9 rfl rfl)
abbrev cX4_hallTold : ByteArray := prog_13_method_19_code
def yX4_hallTold : MethodName := ⟨RX4, "hallTold", "()LChairCane$Dinner;"⟩
def dkwX4_hallTold_5 : List UInt8 := [182, 0, 167, 42, 180, 0, 26, 176]
abbrev dktX4_hallTold_5 : List UInt8 := dkwX4_hallTold_5 ++ []
def dkwX4_hallTold_4 : List UInt8 := [42, 28, 182, 0, 157, 42, 16, 59, 182, 0, 161, 154, 255, 165, 42, 182, 0, 164, 42, 180, 0, 26]
abbrev dktX4_hallTold_4 : List UInt8 := dkwX4_hallTold_4 ++ dktX4_hallTold_5
def dkwX4_hallTold_3 : List UInt8 := [181, 0, 90, 42, 89, 180, 0, 42, 42, 180, 0, 3, 180, 0, 147, 28, 50, 182, 0, 59, 96, 181, 0, 42]
abbrev dktX4_hallTold_3 : List UInt8 := dkwX4_hallTold_3 ++ dktX4_hallTold_4
def dkwX4_hallTold_2 : List UInt8 := [3, 27, 182, 0, 76, 42, 42, 28, 182, 0, 154, 7, 27, 182, 0, 76, 42, 89, 180, 0, 90, 4, 96]
abbrev dktX4_hallTold_2 : List UInt8 := dkwX4_hallTold_2 ++ dktX4_hallTold_3
def dkwX4_hallTold_1 : List UInt8 := [60, 42, 42, 180, 0, 3, 180, 0, 147, 182, 0, 150, 61, 42, 28, 2, 159, 0, 7, 4, 167, 0, 4, 3]
abbrev dktX4_hallTold_1 : List UInt8 := dkwX4_hallTold_1 ++ dktX4_hallTold_2
def dkwX4_hallTold_0 : List UInt8 := [42, 180, 0, 26, 42, 180, 0, 3, 180, 0, 140, 182, 0, 143, 87, 42, 182, 0, 52, 87, 42, 180, 0, 42]
abbrev dktX4_hallTold_0 : List UInt8 := dkwX4_hallTold_0 ++ dktX4_hallTold_1
theorem dksX4_hallTold_0 : cX4_hallTold.data.toList.drop 0 = dktX4_hallTold_0 := by decide +kernel
theorem dksX4_hallTold_1 : cX4_hallTold.data.toList.drop 24 = dktX4_hallTold_1 := dk_seg dksX4_hallTold_0 24 rfl rfl
theorem dksX4_hallTold_2 : cX4_hallTold.data.toList.drop 48 = dktX4_hallTold_2 := dk_seg dksX4_hallTold_1 24 rfl rfl
theorem dksX4_hallTold_3 : cX4_hallTold.data.toList.drop 71 = dktX4_hallTold_3 := dk_seg dksX4_hallTold_2 23 rfl rfl
theorem dksX4_hallTold_4 : cX4_hallTold.data.toList.drop 95 = dktX4_hallTold_4 := dk_seg dksX4_hallTold_3 24 rfl rfl
theorem dksX4_hallTold_5 : cX4_hallTold.data.toList.drop 117 = dktX4_hallTold_5 := dk_seg dksX4_hallTold_4 22 rfl rfl
theorem dX4_hallTold_0 : decode cX4_hallTold 0 = .ok (.aload_n 0, 1) := dk_42 (dk_at dksX4_hallTold_0 0 rfl rfl)
theorem dX4_hallTold_1 : decode cX4_hallTold 1 = .ok (.getfield 26, 3) := dk_180 0 26 (dk_at dksX4_hallTold_0 1 rfl rfl)
theorem dX4_hallTold_4 : decode cX4_hallTold 4 = .ok (.aload_n 0, 1) := dk_42 (dk_at dksX4_hallTold_0 4 rfl rfl)
theorem dX4_hallTold_5 : decode cX4_hallTold 5 = .ok (.getfield 3, 3) := dk_180 0 3 (dk_at dksX4_hallTold_0 5 rfl rfl)
theorem dX4_hallTold_8 : decode cX4_hallTold 8 = .ok (.getfield 140, 3) := dk_180 0 140 (dk_at dksX4_hallTold_0 8 rfl rfl)
theorem dX4_hallTold_11 : decode cX4_hallTold 11 = .ok (.invokevirtual 143, 3) := dk_182 0 143 (dk_at dksX4_hallTold_0 11 rfl rfl)
theorem dX4_hallTold_14 : decode cX4_hallTold 14 = .ok (.pop, 1) := dk_87 (dk_at dksX4_hallTold_0 14 rfl rfl)
theorem dX4_hallTold_15 : decode cX4_hallTold 15 = .ok (.aload_n 0, 1) := dk_42 (dk_at dksX4_hallTold_0 15 rfl rfl)
theorem dX4_hallTold_16 : decode cX4_hallTold 16 = .ok (.invokevirtual 52, 3) := dk_182 0 52 (dk_at dksX4_hallTold_0 16 rfl rfl)
theorem dX4_hallTold_19 : decode cX4_hallTold 19 = .ok (.pop, 1) := dk_87 (dk_at dksX4_hallTold_0 19 rfl rfl)
theorem dX4_hallTold_20 : decode cX4_hallTold 20 = .ok (.aload_n 0, 1) := dk_42 (dk_at dksX4_hallTold_0 20 rfl rfl)
theorem dX4_hallTold_21 : decode cX4_hallTold 21 = .ok (.getfield 42, 3) := dk_180 0 42 (dk_at dksX4_hallTold_0 21 rfl rfl)
theorem dX4_hallTold_24 : decode cX4_hallTold 24 = .ok (.istore_n 1, 1) := dk_60 (dk_at dksX4_hallTold_1 0 rfl rfl)
theorem dX4_hallTold_25 : decode cX4_hallTold 25 = .ok (.aload_n 0, 1) := dk_42 (dk_at dksX4_hallTold_1 1 rfl rfl)
theorem dX4_hallTold_26 : decode cX4_hallTold 26 = .ok (.aload_n 0, 1) := dk_42 (dk_at dksX4_hallTold_1 2 rfl rfl)
theorem dX4_hallTold_27 : decode cX4_hallTold 27 = .ok (.getfield 3, 3) := dk_180 0 3 (dk_at dksX4_hallTold_1 3 rfl rfl)
theorem dX4_hallTold_30 : decode cX4_hallTold 30 = .ok (.getfield 147, 3) := dk_180 0 147 (dk_at dksX4_hallTold_1 6 rfl rfl)
theorem dX4_hallTold_33 : decode cX4_hallTold 33 = .ok (.invokevirtual 150, 3) := dk_182 0 150 (dk_at dksX4_hallTold_1 9 rfl rfl)
theorem dX4_hallTold_36 : decode cX4_hallTold 36 = .ok (.istore_n 2, 1) := dk_61 (dk_at dksX4_hallTold_1 12 rfl rfl)
theorem dX4_hallTold_37 : decode cX4_hallTold 37 = .ok (.aload_n 0, 1) := dk_42 (dk_at dksX4_hallTold_1 13 rfl rfl)
theorem dX4_hallTold_38 : decode cX4_hallTold 38 = .ok (.iload_n 2, 1) := dk_28 (dk_at dksX4_hallTold_1 14 rfl rfl)
theorem dX4_hallTold_39 : decode cX4_hallTold 39 = .ok (.iconst (-1), 1) := dk_2 (dk_at dksX4_hallTold_1 15 rfl rfl)
theorem dX4_hallTold_40 : decode cX4_hallTold 40 = .ok (.if_icmp .eq 7, 3) := dk_159 0 7 (dk_at dksX4_hallTold_1 16 rfl rfl)
theorem dX4_hallTold_43 : decode cX4_hallTold 43 = .ok (.iconst 1, 1) := dk_4 (dk_at dksX4_hallTold_1 19 rfl rfl)
theorem dX4_hallTold_44 : decode cX4_hallTold 44 = .ok (.goto 4, 3) := dk_167 0 4 (dk_at dksX4_hallTold_1 20 rfl rfl)
theorem dX4_hallTold_47 : decode cX4_hallTold 47 = .ok (.iconst 0, 1) := dk_3 (dk_at dksX4_hallTold_1 23 rfl rfl)
theorem dX4_hallTold_48 : decode cX4_hallTold 48 = .ok (.iconst 0, 1) := dk_3 (dk_at dksX4_hallTold_2 0 rfl rfl)
theorem dX4_hallTold_49 : decode cX4_hallTold 49 = .ok (.iload_n 1, 1) := dk_27 (dk_at dksX4_hallTold_2 1 rfl rfl)
theorem dX4_hallTold_50 : decode cX4_hallTold 50 = .ok (.invokevirtual 76, 3) := dk_182 0 76 (dk_at dksX4_hallTold_2 2 rfl rfl)
theorem dX4_hallTold_53 : decode cX4_hallTold 53 = .ok (.aload_n 0, 1) := dk_42 (dk_at dksX4_hallTold_2 5 rfl rfl)
theorem dX4_hallTold_54 : decode cX4_hallTold 54 = .ok (.aload_n 0, 1) := dk_42 (dk_at dksX4_hallTold_2 6 rfl rfl)
theorem dX4_hallTold_55 : decode cX4_hallTold 55 = .ok (.iload_n 2, 1) := dk_28 (dk_at dksX4_hallTold_2 7 rfl rfl)
theorem dX4_hallTold_56 : decode cX4_hallTold 56 = .ok (.invokevirtual 154, 3) := dk_182 0 154 (dk_at dksX4_hallTold_2 8 rfl rfl)
theorem dX4_hallTold_59 : decode cX4_hallTold 59 = .ok (.iconst 4, 1) := dk_7 (dk_at dksX4_hallTold_2 11 rfl rfl)
theorem dX4_hallTold_60 : decode cX4_hallTold 60 = .ok (.iload_n 1, 1) := dk_27 (dk_at dksX4_hallTold_2 12 rfl rfl)
theorem dX4_hallTold_61 : decode cX4_hallTold 61 = .ok (.invokevirtual 76, 3) := dk_182 0 76 (dk_at dksX4_hallTold_2 13 rfl rfl)
theorem dX4_hallTold_64 : decode cX4_hallTold 64 = .ok (.aload_n 0, 1) := dk_42 (dk_at dksX4_hallTold_2 16 rfl rfl)
theorem dX4_hallTold_65 : decode cX4_hallTold 65 = .ok (.dup, 1) := dk_89 (dk_at dksX4_hallTold_2 17 rfl rfl)
theorem dX4_hallTold_66 : decode cX4_hallTold 66 = .ok (.getfield 90, 3) := dk_180 0 90 (dk_at dksX4_hallTold_2 18 rfl rfl)
theorem dX4_hallTold_69 : decode cX4_hallTold 69 = .ok (.iconst 1, 1) := dk_4 (dk_at dksX4_hallTold_2 21 rfl rfl)
theorem dX4_hallTold_70 : decode cX4_hallTold 70 = .ok (.iadd, 1) := dk_96 (dk_at dksX4_hallTold_2 22 rfl rfl)
theorem dX4_hallTold_71 : decode cX4_hallTold 71 = .ok (.putfield 90, 3) := dk_181 0 90 (dk_at dksX4_hallTold_3 0 rfl rfl)
theorem dX4_hallTold_74 : decode cX4_hallTold 74 = .ok (.aload_n 0, 1) := dk_42 (dk_at dksX4_hallTold_3 3 rfl rfl)
theorem dX4_hallTold_75 : decode cX4_hallTold 75 = .ok (.dup, 1) := dk_89 (dk_at dksX4_hallTold_3 4 rfl rfl)
theorem dX4_hallTold_76 : decode cX4_hallTold 76 = .ok (.getfield 42, 3) := dk_180 0 42 (dk_at dksX4_hallTold_3 5 rfl rfl)
theorem dX4_hallTold_79 : decode cX4_hallTold 79 = .ok (.aload_n 0, 1) := dk_42 (dk_at dksX4_hallTold_3 8 rfl rfl)
theorem dX4_hallTold_80 : decode cX4_hallTold 80 = .ok (.getfield 3, 3) := dk_180 0 3 (dk_at dksX4_hallTold_3 9 rfl rfl)
theorem dX4_hallTold_83 : decode cX4_hallTold 83 = .ok (.getfield 147, 3) := dk_180 0 147 (dk_at dksX4_hallTold_3 12 rfl rfl)
theorem dX4_hallTold_86 : decode cX4_hallTold 86 = .ok (.iload_n 2, 1) := dk_28 (dk_at dksX4_hallTold_3 15 rfl rfl)
theorem dX4_hallTold_87 : decode cX4_hallTold 87 = .ok (.aaload, 1) := dk_50 (dk_at dksX4_hallTold_3 16 rfl rfl)
theorem dX4_hallTold_88 : decode cX4_hallTold 88 = .ok (.invokevirtual 59, 3) := dk_182 0 59 (dk_at dksX4_hallTold_3 17 rfl rfl)
theorem dX4_hallTold_91 : decode cX4_hallTold 91 = .ok (.iadd, 1) := dk_96 (dk_at dksX4_hallTold_3 20 rfl rfl)
theorem dX4_hallTold_92 : decode cX4_hallTold 92 = .ok (.putfield 42, 3) := dk_181 0 42 (dk_at dksX4_hallTold_3 21 rfl rfl)
theorem dX4_hallTold_95 : decode cX4_hallTold 95 = .ok (.aload_n 0, 1) := dk_42 (dk_at dksX4_hallTold_4 0 rfl rfl)
theorem dX4_hallTold_96 : decode cX4_hallTold 96 = .ok (.iload_n 2, 1) := dk_28 (dk_at dksX4_hallTold_4 1 rfl rfl)
theorem dX4_hallTold_97 : decode cX4_hallTold 97 = .ok (.invokevirtual 157, 3) := dk_182 0 157 (dk_at dksX4_hallTold_4 2 rfl rfl)
theorem dX4_hallTold_100 : decode cX4_hallTold 100 = .ok (.aload_n 0, 1) := dk_42 (dk_at dksX4_hallTold_4 5 rfl rfl)
theorem dX4_hallTold_101 : decode cX4_hallTold 101 = .ok (.bipush 59, 2) := dk_16 59 (dk_at dksX4_hallTold_4 6 rfl rfl)
theorem dX4_hallTold_103 : decode cX4_hallTold 103 = .ok (.invokevirtual 161, 3) := dk_182 0 161 (dk_at dksX4_hallTold_4 8 rfl rfl)
theorem dX4_hallTold_106 : decode cX4_hallTold 106 = .ok (.ifCond .ne (-91), 3) := dk_154 255 165 (dk_at dksX4_hallTold_4 11 rfl rfl)
theorem dX4_hallTold_109 : decode cX4_hallTold 109 = .ok (.aload_n 0, 1) := dk_42 (dk_at dksX4_hallTold_4 14 rfl rfl)
theorem dX4_hallTold_110 : decode cX4_hallTold 110 = .ok (.invokevirtual 164, 3) := dk_182 0 164 (dk_at dksX4_hallTold_4 15 rfl rfl)
theorem dX4_hallTold_113 : decode cX4_hallTold 113 = .ok (.aload_n 0, 1) := dk_42 (dk_at dksX4_hallTold_4 18 rfl rfl)
theorem dX4_hallTold_114 : decode cX4_hallTold 114 = .ok (.getfield 26, 3) := dk_180 0 26 (dk_at dksX4_hallTold_4 19 rfl rfl)
theorem dX4_hallTold_117 : decode cX4_hallTold 117 = .ok (.invokevirtual 167, 3) := dk_182 0 167 (dk_at dksX4_hallTold_5 0 rfl rfl)
theorem dX4_hallTold_120 : decode cX4_hallTold 120 = .ok (.aload_n 0, 1) := dk_42 (dk_at dksX4_hallTold_5 3 rfl rfl)
theorem dX4_hallTold_121 : decode cX4_hallTold 121 = .ok (.getfield 26, 3) := dk_180 0 26 (dk_at dksX4_hallTold_5 4 rfl rfl)
theorem dX4_hallTold_124 : decode cX4_hallTold 124 = .ok (.areturn, 1) := dk_176 (dk_at dksX4_hallTold_5 7 rfl rfl)
abbrev cX4_see : ByteArray := prog_13_method_3_code
def yX4_see : MethodName := ⟨RX4, "see", "()I"⟩
def dkwX4_see_3 : List UInt8 := [51, 17, 0, 255, 126, 167, 0, 4, 2, 172]
abbrev dktX4_see_3 : List UInt8 := dkwX4_see_3 ++ []
def dkwX4_see_2 : List UInt8 := [180, 0, 42, 42, 180, 0, 3, 180, 0, 45, 162, 0, 22, 42, 180, 0, 3, 180, 0, 48, 42, 180, 0, 42]
abbrev dktX4_see_2 : List UInt8 := dkwX4_see_2 ++ dktX4_see_3
def dkwX4_see_1 : List UInt8 := [180, 0, 42, 51, 16, 32, 160, 0, 16, 42, 89, 180, 0, 42, 4, 96, 181, 0, 42, 167, 255, 215, 42]
abbrev dktX4_see_1 : List UInt8 := dkwX4_see_1 ++ dktX4_see_2
def dkwX4_see_0 : List UInt8 := [42, 180, 0, 42, 42, 180, 0, 3, 180, 0, 45, 162, 0, 33, 42, 180, 0, 3, 180, 0, 48, 42]
abbrev dktX4_see_0 : List UInt8 := dkwX4_see_0 ++ dktX4_see_1
theorem dksX4_see_0 : cX4_see.data.toList.drop 0 = dktX4_see_0 := by decide +kernel
theorem dksX4_see_1 : cX4_see.data.toList.drop 22 = dktX4_see_1 := dk_seg dksX4_see_0 22 rfl rfl
theorem dksX4_see_2 : cX4_see.data.toList.drop 45 = dktX4_see_2 := dk_seg dksX4_see_1 23 rfl rfl
theorem dksX4_see_3 : cX4_see.data.toList.drop 69 = dktX4_see_3 := dk_seg dksX4_see_2 24 rfl rfl
theorem dX4_see_0 : decode cX4_see 0 = .ok (.aload_n 0, 1) := dk_42 (dk_at dksX4_see_0 0 rfl rfl)
theorem dX4_see_1 : decode cX4_see 1 = .ok (.getfield 42, 3) := dk_180 0 42 (dk_at dksX4_see_0 1 rfl rfl)
theorem dX4_see_4 : decode cX4_see 4 = .ok (.aload_n 0, 1) := dk_42 (dk_at dksX4_see_0 4 rfl rfl)
theorem dX4_see_5 : decode cX4_see 5 = .ok (.getfield 3, 3) := dk_180 0 3 (dk_at dksX4_see_0 5 rfl rfl)
theorem dX4_see_8 : decode cX4_see 8 = .ok (.getfield 45, 3) := dk_180 0 45 (dk_at dksX4_see_0 8 rfl rfl)
theorem dX4_see_11 : decode cX4_see 11 = .ok (.if_icmp .ge 33, 3) := dk_162 0 33 (dk_at dksX4_see_0 11 rfl rfl)
theorem dX4_see_14 : decode cX4_see 14 = .ok (.aload_n 0, 1) := dk_42 (dk_at dksX4_see_0 14 rfl rfl)
theorem dX4_see_15 : decode cX4_see 15 = .ok (.getfield 3, 3) := dk_180 0 3 (dk_at dksX4_see_0 15 rfl rfl)
theorem dX4_see_18 : decode cX4_see 18 = .ok (.getfield 48, 3) := dk_180 0 48 (dk_at dksX4_see_0 18 rfl rfl)
theorem dX4_see_21 : decode cX4_see 21 = .ok (.aload_n 0, 1) := dk_42 (dk_at dksX4_see_0 21 rfl rfl)
theorem dX4_see_22 : decode cX4_see 22 = .ok (.getfield 42, 3) := dk_180 0 42 (dk_at dksX4_see_1 0 rfl rfl)
theorem dX4_see_25 : decode cX4_see 25 = .ok (.baload, 1) := dk_51 (dk_at dksX4_see_1 3 rfl rfl)
theorem dX4_see_26 : decode cX4_see 26 = .ok (.bipush 32, 2) := dk_16 32 (dk_at dksX4_see_1 4 rfl rfl)
theorem dX4_see_28 : decode cX4_see 28 = .ok (.if_icmp .ne 16, 3) := dk_160 0 16 (dk_at dksX4_see_1 6 rfl rfl)
theorem dX4_see_31 : decode cX4_see 31 = .ok (.aload_n 0, 1) := dk_42 (dk_at dksX4_see_1 9 rfl rfl)
theorem dX4_see_32 : decode cX4_see 32 = .ok (.dup, 1) := dk_89 (dk_at dksX4_see_1 10 rfl rfl)
theorem dX4_see_33 : decode cX4_see 33 = .ok (.getfield 42, 3) := dk_180 0 42 (dk_at dksX4_see_1 11 rfl rfl)
theorem dX4_see_36 : decode cX4_see 36 = .ok (.iconst 1, 1) := dk_4 (dk_at dksX4_see_1 14 rfl rfl)
theorem dX4_see_37 : decode cX4_see 37 = .ok (.iadd, 1) := dk_96 (dk_at dksX4_see_1 15 rfl rfl)
theorem dX4_see_38 : decode cX4_see 38 = .ok (.putfield 42, 3) := dk_181 0 42 (dk_at dksX4_see_1 16 rfl rfl)
theorem dX4_see_41 : decode cX4_see 41 = .ok (.goto (-41), 3) := dk_167 255 215 (dk_at dksX4_see_1 19 rfl rfl)
theorem dX4_see_44 : decode cX4_see 44 = .ok (.aload_n 0, 1) := dk_42 (dk_at dksX4_see_1 22 rfl rfl)
theorem dX4_see_45 : decode cX4_see 45 = .ok (.getfield 42, 3) := dk_180 0 42 (dk_at dksX4_see_2 0 rfl rfl)
theorem dX4_see_48 : decode cX4_see 48 = .ok (.aload_n 0, 1) := dk_42 (dk_at dksX4_see_2 3 rfl rfl)
theorem dX4_see_49 : decode cX4_see 49 = .ok (.getfield 3, 3) := dk_180 0 3 (dk_at dksX4_see_2 4 rfl rfl)
theorem dX4_see_52 : decode cX4_see 52 = .ok (.getfield 45, 3) := dk_180 0 45 (dk_at dksX4_see_2 7 rfl rfl)
theorem dX4_see_55 : decode cX4_see 55 = .ok (.if_icmp .ge 22, 3) := dk_162 0 22 (dk_at dksX4_see_2 10 rfl rfl)
theorem dX4_see_58 : decode cX4_see 58 = .ok (.aload_n 0, 1) := dk_42 (dk_at dksX4_see_2 13 rfl rfl)
theorem dX4_see_59 : decode cX4_see 59 = .ok (.getfield 3, 3) := dk_180 0 3 (dk_at dksX4_see_2 14 rfl rfl)
theorem dX4_see_62 : decode cX4_see 62 = .ok (.getfield 48, 3) := dk_180 0 48 (dk_at dksX4_see_2 17 rfl rfl)
theorem dX4_see_65 : decode cX4_see 65 = .ok (.aload_n 0, 1) := dk_42 (dk_at dksX4_see_2 20 rfl rfl)
theorem dX4_see_66 : decode cX4_see 66 = .ok (.getfield 42, 3) := dk_180 0 42 (dk_at dksX4_see_2 21 rfl rfl)
theorem dX4_see_69 : decode cX4_see 69 = .ok (.baload, 1) := dk_51 (dk_at dksX4_see_3 0 rfl rfl)
theorem dX4_see_70 : decode cX4_see 70 = .ok (.sipush 255, 3) := dk_17 0 255 (dk_at dksX4_see_3 1 rfl rfl)
theorem dX4_see_73 : decode cX4_see 73 = .ok (.iand, 1) := dk_126 (dk_at dksX4_see_3 4 rfl rfl)
theorem dX4_see_74 : decode cX4_see 74 = .ok (.goto 4, 3) := dk_167 0 4 (dk_at dksX4_see_3 5 rfl rfl)
theorem dX4_see_77 : decode cX4_see 77 = .ok (.iconst (-1), 1) := dk_2 (dk_at dksX4_see_3 8 rfl rfl)
theorem dX4_see_78 : decode cX4_see 78 = .ok (.ireturn, 1) := dk_172 (dk_at dksX4_see_3 9 rfl rfl)
abbrev cX4_oneOf : ByteArray := prog_13_method_8_code
def yX4_oneOf : MethodName := ⟨RX4, "oneOf", "([Ljava/lang/String;)I"⟩
def dkwX4_oneOf_1 : List UInt8 := [167, 255, 235, 2, 172]
abbrev dktX4_oneOf_1 : List UInt8 := dkwX4_oneOf_1 ++ []
def dkwX4_oneOf_0 : List UInt8 := [3, 61, 28, 43, 190, 162, 0, 21, 42, 43, 28, 50, 182, 0, 68, 153, 0, 5, 28, 172, 132, 2, 1]
abbrev dktX4_oneOf_0 : List UInt8 := dkwX4_oneOf_0 ++ dktX4_oneOf_1
theorem dksX4_oneOf_0 : cX4_oneOf.data.toList.drop 0 = dktX4_oneOf_0 := by decide +kernel
theorem dksX4_oneOf_1 : cX4_oneOf.data.toList.drop 23 = dktX4_oneOf_1 := dk_seg dksX4_oneOf_0 23 rfl rfl
theorem dX4_oneOf_0 : decode cX4_oneOf 0 = .ok (.iconst 0, 1) := dk_3 (dk_at dksX4_oneOf_0 0 rfl rfl)
theorem dX4_oneOf_1 : decode cX4_oneOf 1 = .ok (.istore_n 2, 1) := dk_61 (dk_at dksX4_oneOf_0 1 rfl rfl)
theorem dX4_oneOf_2 : decode cX4_oneOf 2 = .ok (.iload_n 2, 1) := dk_28 (dk_at dksX4_oneOf_0 2 rfl rfl)
theorem dX4_oneOf_3 : decode cX4_oneOf 3 = .ok (.aload_n 1, 1) := dk_43 (dk_at dksX4_oneOf_0 3 rfl rfl)
theorem dX4_oneOf_4 : decode cX4_oneOf 4 = .ok (.arraylength, 1) := dk_190 (dk_at dksX4_oneOf_0 4 rfl rfl)
theorem dX4_oneOf_5 : decode cX4_oneOf 5 = .ok (.if_icmp .ge 21, 3) := dk_162 0 21 (dk_at dksX4_oneOf_0 5 rfl rfl)
theorem dX4_oneOf_8 : decode cX4_oneOf 8 = .ok (.aload_n 0, 1) := dk_42 (dk_at dksX4_oneOf_0 8 rfl rfl)
theorem dX4_oneOf_9 : decode cX4_oneOf 9 = .ok (.aload_n 1, 1) := dk_43 (dk_at dksX4_oneOf_0 9 rfl rfl)
theorem dX4_oneOf_10 : decode cX4_oneOf 10 = .ok (.iload_n 2, 1) := dk_28 (dk_at dksX4_oneOf_0 10 rfl rfl)
theorem dX4_oneOf_11 : decode cX4_oneOf 11 = .ok (.aaload, 1) := dk_50 (dk_at dksX4_oneOf_0 11 rfl rfl)
theorem dX4_oneOf_12 : decode cX4_oneOf 12 = .ok (.invokevirtual 68, 3) := dk_182 0 68 (dk_at dksX4_oneOf_0 12 rfl rfl)
theorem dX4_oneOf_15 : decode cX4_oneOf 15 = .ok (.ifCond .eq 5, 3) := dk_153 0 5 (dk_at dksX4_oneOf_0 15 rfl rfl)
theorem dX4_oneOf_18 : decode cX4_oneOf 18 = .ok (.iload_n 2, 1) := dk_28 (dk_at dksX4_oneOf_0 18 rfl rfl)
theorem dX4_oneOf_19 : decode cX4_oneOf 19 = .ok (.ireturn, 1) := dk_172 (dk_at dksX4_oneOf_0 19 rfl rfl)
theorem dX4_oneOf_20 : decode cX4_oneOf 20 = .ok (.iinc 2 1, 3) := dk_132 2 1 (dk_at dksX4_oneOf_0 20 rfl rfl)
theorem dX4_oneOf_23 : decode cX4_oneOf 23 = .ok (.goto (-21), 3) := dk_167 255 235 (dk_at dksX4_oneOf_1 0 rfl rfl)
theorem dX4_oneOf_26 : decode cX4_oneOf 26 = .ok (.iconst (-1), 1) := dk_2 (dk_at dksX4_oneOf_1 3 rfl rfl)
theorem dX4_oneOf_27 : decode cX4_oneOf 27 = .ok (.ireturn, 1) := dk_172 (dk_at dksX4_oneOf_1 4 rfl rfl)
abbrev cX4_isWord : ByteArray := prog_13_method_6_code
def yX4_isWord : MethodName := ⟨RX4, "isWord", "(Ljava/lang/String;)Z"⟩
def dkwX4_isWord_2 : List UInt8 := [180, 0, 42, 21, 4, 96, 51, 160, 0, 7, 4, 167, 0, 4, 3, 62, 132, 4, 1, 167, 255, 213, 29, 172]
abbrev dktX4_isWord_2 : List UInt8 := dkwX4_isWord_2 ++ []
def dkwX4_isWord_1 : List UInt8 := [153, 0, 45, 21, 4, 28, 162, 0, 39, 43, 21, 4, 182, 0, 64, 42, 180, 0, 3, 180, 0, 48, 42]
abbrev dktX4_isWord_1 : List UInt8 := dkwX4_isWord_1 ++ dktX4_isWord_2
def dkwX4_isWord_0 : List UInt8 := [42, 182, 0, 56, 61, 28, 43, 182, 0, 59, 160, 0, 7, 4, 167, 0, 4, 3, 62, 3, 54, 4, 29]
abbrev dktX4_isWord_0 : List UInt8 := dkwX4_isWord_0 ++ dktX4_isWord_1
theorem dksX4_isWord_0 : cX4_isWord.data.toList.drop 0 = dktX4_isWord_0 := by decide +kernel
theorem dksX4_isWord_1 : cX4_isWord.data.toList.drop 23 = dktX4_isWord_1 := dk_seg dksX4_isWord_0 23 rfl rfl
theorem dksX4_isWord_2 : cX4_isWord.data.toList.drop 46 = dktX4_isWord_2 := dk_seg dksX4_isWord_1 23 rfl rfl
theorem dX4_isWord_0 : decode cX4_isWord 0 = .ok (.aload_n 0, 1) := dk_42 (dk_at dksX4_isWord_0 0 rfl rfl)
theorem dX4_isWord_1 : decode cX4_isWord 1 = .ok (.invokevirtual 56, 3) := dk_182 0 56 (dk_at dksX4_isWord_0 1 rfl rfl)
theorem dX4_isWord_4 : decode cX4_isWord 4 = .ok (.istore_n 2, 1) := dk_61 (dk_at dksX4_isWord_0 4 rfl rfl)
theorem dX4_isWord_5 : decode cX4_isWord 5 = .ok (.iload_n 2, 1) := dk_28 (dk_at dksX4_isWord_0 5 rfl rfl)
theorem dX4_isWord_6 : decode cX4_isWord 6 = .ok (.aload_n 1, 1) := dk_43 (dk_at dksX4_isWord_0 6 rfl rfl)
theorem dX4_isWord_7 : decode cX4_isWord 7 = .ok (.invokevirtual 59, 3) := dk_182 0 59 (dk_at dksX4_isWord_0 7 rfl rfl)
theorem dX4_isWord_10 : decode cX4_isWord 10 = .ok (.if_icmp .ne 7, 3) := dk_160 0 7 (dk_at dksX4_isWord_0 10 rfl rfl)
theorem dX4_isWord_13 : decode cX4_isWord 13 = .ok (.iconst 1, 1) := dk_4 (dk_at dksX4_isWord_0 13 rfl rfl)
theorem dX4_isWord_14 : decode cX4_isWord 14 = .ok (.goto 4, 3) := dk_167 0 4 (dk_at dksX4_isWord_0 14 rfl rfl)
theorem dX4_isWord_17 : decode cX4_isWord 17 = .ok (.iconst 0, 1) := dk_3 (dk_at dksX4_isWord_0 17 rfl rfl)
theorem dX4_isWord_18 : decode cX4_isWord 18 = .ok (.istore_n 3, 1) := dk_62 (dk_at dksX4_isWord_0 18 rfl rfl)
theorem dX4_isWord_19 : decode cX4_isWord 19 = .ok (.iconst 0, 1) := dk_3 (dk_at dksX4_isWord_0 19 rfl rfl)
theorem dX4_isWord_20 : decode cX4_isWord 20 = .ok (.istore 4, 2) := dk_54 4 (dk_at dksX4_isWord_0 20 rfl rfl)
theorem dX4_isWord_22 : decode cX4_isWord 22 = .ok (.iload_n 3, 1) := dk_29 (dk_at dksX4_isWord_0 22 rfl rfl)
theorem dX4_isWord_23 : decode cX4_isWord 23 = .ok (.ifCond .eq 45, 3) := dk_153 0 45 (dk_at dksX4_isWord_1 0 rfl rfl)
theorem dX4_isWord_26 : decode cX4_isWord 26 = .ok (.iload 4, 2) := dk_21 4 (dk_at dksX4_isWord_1 3 rfl rfl)
theorem dX4_isWord_28 : decode cX4_isWord 28 = .ok (.iload_n 2, 1) := dk_28 (dk_at dksX4_isWord_1 5 rfl rfl)
theorem dX4_isWord_29 : decode cX4_isWord 29 = .ok (.if_icmp .ge 39, 3) := dk_162 0 39 (dk_at dksX4_isWord_1 6 rfl rfl)
theorem dX4_isWord_32 : decode cX4_isWord 32 = .ok (.aload_n 1, 1) := dk_43 (dk_at dksX4_isWord_1 9 rfl rfl)
theorem dX4_isWord_33 : decode cX4_isWord 33 = .ok (.iload 4, 2) := dk_21 4 (dk_at dksX4_isWord_1 10 rfl rfl)
theorem dX4_isWord_35 : decode cX4_isWord 35 = .ok (.invokevirtual 64, 3) := dk_182 0 64 (dk_at dksX4_isWord_1 12 rfl rfl)
theorem dX4_isWord_38 : decode cX4_isWord 38 = .ok (.aload_n 0, 1) := dk_42 (dk_at dksX4_isWord_1 15 rfl rfl)
theorem dX4_isWord_39 : decode cX4_isWord 39 = .ok (.getfield 3, 3) := dk_180 0 3 (dk_at dksX4_isWord_1 16 rfl rfl)
theorem dX4_isWord_42 : decode cX4_isWord 42 = .ok (.getfield 48, 3) := dk_180 0 48 (dk_at dksX4_isWord_1 19 rfl rfl)
theorem dX4_isWord_45 : decode cX4_isWord 45 = .ok (.aload_n 0, 1) := dk_42 (dk_at dksX4_isWord_1 22 rfl rfl)
theorem dX4_isWord_46 : decode cX4_isWord 46 = .ok (.getfield 42, 3) := dk_180 0 42 (dk_at dksX4_isWord_2 0 rfl rfl)
theorem dX4_isWord_49 : decode cX4_isWord 49 = .ok (.iload 4, 2) := dk_21 4 (dk_at dksX4_isWord_2 3 rfl rfl)
theorem dX4_isWord_51 : decode cX4_isWord 51 = .ok (.iadd, 1) := dk_96 (dk_at dksX4_isWord_2 5 rfl rfl)
theorem dX4_isWord_52 : decode cX4_isWord 52 = .ok (.baload, 1) := dk_51 (dk_at dksX4_isWord_2 6 rfl rfl)
theorem dX4_isWord_53 : decode cX4_isWord 53 = .ok (.if_icmp .ne 7, 3) := dk_160 0 7 (dk_at dksX4_isWord_2 7 rfl rfl)
theorem dX4_isWord_56 : decode cX4_isWord 56 = .ok (.iconst 1, 1) := dk_4 (dk_at dksX4_isWord_2 10 rfl rfl)
theorem dX4_isWord_57 : decode cX4_isWord 57 = .ok (.goto 4, 3) := dk_167 0 4 (dk_at dksX4_isWord_2 11 rfl rfl)
theorem dX4_isWord_60 : decode cX4_isWord 60 = .ok (.iconst 0, 1) := dk_3 (dk_at dksX4_isWord_2 14 rfl rfl)
theorem dX4_isWord_61 : decode cX4_isWord 61 = .ok (.istore_n 3, 1) := dk_62 (dk_at dksX4_isWord_2 15 rfl rfl)
theorem dX4_isWord_62 : decode cX4_isWord 62 = .ok (.iinc 4 1, 3) := dk_132 4 1 (dk_at dksX4_isWord_2 16 rfl rfl)
theorem dX4_isWord_65 : decode cX4_isWord 65 = .ok (.goto (-43), 3) := dk_167 255 213 (dk_at dksX4_isWord_2 19 rfl rfl)
theorem dX4_isWord_68 : decode cX4_isWord 68 = .ok (.iload_n 3, 1) := dk_29 (dk_at dksX4_isWord_2 22 rfl rfl)
theorem dX4_isWord_69 : decode cX4_isWord 69 = .ok (.ireturn, 1) := dk_172 (dk_at dksX4_isWord_2 23 rfl rfl)
abbrev cX4_letters : ByteArray := prog_13_method_5_code
def yX4_letters : MethodName := ⟨RX4, "letters", "()I"⟩
def dkwX4_letters_2 : List UInt8 := [180, 0, 48, 42, 180, 0, 42, 27, 96, 51, 16, 122, 163, 0, 9, 132, 1, 1, 167, 255, 199, 27, 172]
abbrev dktX4_letters_2 : List UInt8 := dkwX4_letters_2 ++ []
def dkwX4_letters_1 : List UInt8 := [180, 0, 3, 180, 0, 48, 42, 180, 0, 42, 27, 96, 51, 16, 97, 161, 0, 28, 42, 180, 0, 3]
abbrev dktX4_letters_1 : List UInt8 := dkwX4_letters_1 ++ dktX4_letters_2
def dkwX4_letters_0 : List UInt8 := [42, 182, 0, 52, 87, 3, 60, 42, 180, 0, 42, 27, 96, 42, 180, 0, 3, 180, 0, 45, 162, 0, 47, 42]
abbrev dktX4_letters_0 : List UInt8 := dkwX4_letters_0 ++ dktX4_letters_1
theorem dksX4_letters_0 : cX4_letters.data.toList.drop 0 = dktX4_letters_0 := by decide +kernel
theorem dksX4_letters_1 : cX4_letters.data.toList.drop 24 = dktX4_letters_1 := dk_seg dksX4_letters_0 24 rfl rfl
theorem dksX4_letters_2 : cX4_letters.data.toList.drop 46 = dktX4_letters_2 := dk_seg dksX4_letters_1 22 rfl rfl
theorem dX4_letters_0 : decode cX4_letters 0 = .ok (.aload_n 0, 1) := dk_42 (dk_at dksX4_letters_0 0 rfl rfl)
theorem dX4_letters_1 : decode cX4_letters 1 = .ok (.invokevirtual 52, 3) := dk_182 0 52 (dk_at dksX4_letters_0 1 rfl rfl)
theorem dX4_letters_4 : decode cX4_letters 4 = .ok (.pop, 1) := dk_87 (dk_at dksX4_letters_0 4 rfl rfl)
theorem dX4_letters_5 : decode cX4_letters 5 = .ok (.iconst 0, 1) := dk_3 (dk_at dksX4_letters_0 5 rfl rfl)
theorem dX4_letters_6 : decode cX4_letters 6 = .ok (.istore_n 1, 1) := dk_60 (dk_at dksX4_letters_0 6 rfl rfl)
theorem dX4_letters_7 : decode cX4_letters 7 = .ok (.aload_n 0, 1) := dk_42 (dk_at dksX4_letters_0 7 rfl rfl)
theorem dX4_letters_8 : decode cX4_letters 8 = .ok (.getfield 42, 3) := dk_180 0 42 (dk_at dksX4_letters_0 8 rfl rfl)
theorem dX4_letters_11 : decode cX4_letters 11 = .ok (.iload_n 1, 1) := dk_27 (dk_at dksX4_letters_0 11 rfl rfl)
theorem dX4_letters_12 : decode cX4_letters 12 = .ok (.iadd, 1) := dk_96 (dk_at dksX4_letters_0 12 rfl rfl)
theorem dX4_letters_13 : decode cX4_letters 13 = .ok (.aload_n 0, 1) := dk_42 (dk_at dksX4_letters_0 13 rfl rfl)
theorem dX4_letters_14 : decode cX4_letters 14 = .ok (.getfield 3, 3) := dk_180 0 3 (dk_at dksX4_letters_0 14 rfl rfl)
theorem dX4_letters_17 : decode cX4_letters 17 = .ok (.getfield 45, 3) := dk_180 0 45 (dk_at dksX4_letters_0 17 rfl rfl)
theorem dX4_letters_20 : decode cX4_letters 20 = .ok (.if_icmp .ge 47, 3) := dk_162 0 47 (dk_at dksX4_letters_0 20 rfl rfl)
theorem dX4_letters_23 : decode cX4_letters 23 = .ok (.aload_n 0, 1) := dk_42 (dk_at dksX4_letters_0 23 rfl rfl)
theorem dX4_letters_24 : decode cX4_letters 24 = .ok (.getfield 3, 3) := dk_180 0 3 (dk_at dksX4_letters_1 0 rfl rfl)
theorem dX4_letters_27 : decode cX4_letters 27 = .ok (.getfield 48, 3) := dk_180 0 48 (dk_at dksX4_letters_1 3 rfl rfl)
theorem dX4_letters_30 : decode cX4_letters 30 = .ok (.aload_n 0, 1) := dk_42 (dk_at dksX4_letters_1 6 rfl rfl)
theorem dX4_letters_31 : decode cX4_letters 31 = .ok (.getfield 42, 3) := dk_180 0 42 (dk_at dksX4_letters_1 7 rfl rfl)
theorem dX4_letters_34 : decode cX4_letters 34 = .ok (.iload_n 1, 1) := dk_27 (dk_at dksX4_letters_1 10 rfl rfl)
theorem dX4_letters_35 : decode cX4_letters 35 = .ok (.iadd, 1) := dk_96 (dk_at dksX4_letters_1 11 rfl rfl)
theorem dX4_letters_36 : decode cX4_letters 36 = .ok (.baload, 1) := dk_51 (dk_at dksX4_letters_1 12 rfl rfl)
theorem dX4_letters_37 : decode cX4_letters 37 = .ok (.bipush 97, 2) := dk_16 97 (dk_at dksX4_letters_1 13 rfl rfl)
theorem dX4_letters_39 : decode cX4_letters 39 = .ok (.if_icmp .lt 28, 3) := dk_161 0 28 (dk_at dksX4_letters_1 15 rfl rfl)
theorem dX4_letters_42 : decode cX4_letters 42 = .ok (.aload_n 0, 1) := dk_42 (dk_at dksX4_letters_1 18 rfl rfl)
theorem dX4_letters_43 : decode cX4_letters 43 = .ok (.getfield 3, 3) := dk_180 0 3 (dk_at dksX4_letters_1 19 rfl rfl)
theorem dX4_letters_46 : decode cX4_letters 46 = .ok (.getfield 48, 3) := dk_180 0 48 (dk_at dksX4_letters_2 0 rfl rfl)
theorem dX4_letters_49 : decode cX4_letters 49 = .ok (.aload_n 0, 1) := dk_42 (dk_at dksX4_letters_2 3 rfl rfl)
theorem dX4_letters_50 : decode cX4_letters 50 = .ok (.getfield 42, 3) := dk_180 0 42 (dk_at dksX4_letters_2 4 rfl rfl)
theorem dX4_letters_53 : decode cX4_letters 53 = .ok (.iload_n 1, 1) := dk_27 (dk_at dksX4_letters_2 7 rfl rfl)
theorem dX4_letters_54 : decode cX4_letters 54 = .ok (.iadd, 1) := dk_96 (dk_at dksX4_letters_2 8 rfl rfl)
theorem dX4_letters_55 : decode cX4_letters 55 = .ok (.baload, 1) := dk_51 (dk_at dksX4_letters_2 9 rfl rfl)
theorem dX4_letters_56 : decode cX4_letters 56 = .ok (.bipush 122, 2) := dk_16 122 (dk_at dksX4_letters_2 10 rfl rfl)
theorem dX4_letters_58 : decode cX4_letters 58 = .ok (.if_icmp .gt 9, 3) := dk_163 0 9 (dk_at dksX4_letters_2 12 rfl rfl)
theorem dX4_letters_61 : decode cX4_letters 61 = .ok (.iinc 1 1, 3) := dk_132 1 1 (dk_at dksX4_letters_2 15 rfl rfl)
theorem dX4_letters_64 : decode cX4_letters 64 = .ok (.goto (-57), 3) := dk_167 255 199 (dk_at dksX4_letters_2 18 rfl rfl)
theorem dX4_letters_67 : decode cX4_letters 67 = .ok (.iload_n 1, 1) := dk_27 (dk_at dksX4_letters_2 21 rfl rfl)
theorem dX4_letters_68 : decode cX4_letters 68 = .ok (.ireturn, 1) := dk_172 (dk_at dksX4_letters_2 22 rfl rfl)
abbrev cX4_demand : ByteArray := prog_13_method_2_code
def yX4_demand : MethodName := ⟨RX4, "demand", "(ZII)V"⟩
def dkwX4_demand_1 : List UInt8 := [181, 0, 39, 42, 180, 0, 3, 180, 0, 29, 191]
abbrev dktX4_demand_1 : List UInt8 := dkwX4_demand_1 ++ []
def dkwX4_demand_0 : List UInt8 := [27, 153, 0, 4, 177, 42, 180, 0, 3, 180, 0, 29, 28, 181, 0, 33, 42, 180, 0, 3, 180, 0, 29, 29]
abbrev dktX4_demand_0 : List UInt8 := dkwX4_demand_0 ++ dktX4_demand_1
theorem dksX4_demand_0 : cX4_demand.data.toList.drop 0 = dktX4_demand_0 := by decide +kernel
theorem dksX4_demand_1 : cX4_demand.data.toList.drop 24 = dktX4_demand_1 := dk_seg dksX4_demand_0 24 rfl rfl
theorem dX4_demand_0 : decode cX4_demand 0 = .ok (.iload_n 1, 1) := dk_27 (dk_at dksX4_demand_0 0 rfl rfl)
theorem dX4_demand_1 : decode cX4_demand 1 = .ok (.ifCond .eq 4, 3) := dk_153 0 4 (dk_at dksX4_demand_0 1 rfl rfl)
theorem dX4_demand_4 : decode cX4_demand 4 = .ok (.return_, 1) := dk_177 (dk_at dksX4_demand_0 4 rfl rfl)
theorem dX4_demand_5 : decode cX4_demand 5 = .ok (.aload_n 0, 1) := dk_42 (dk_at dksX4_demand_0 5 rfl rfl)
theorem dX4_demand_6 : decode cX4_demand 6 = .ok (.getfield 3, 3) := dk_180 0 3 (dk_at dksX4_demand_0 6 rfl rfl)
theorem dX4_demand_9 : decode cX4_demand 9 = .ok (.getfield 29, 3) := dk_180 0 29 (dk_at dksX4_demand_0 9 rfl rfl)
theorem dX4_demand_12 : decode cX4_demand 12 = .ok (.iload_n 2, 1) := dk_28 (dk_at dksX4_demand_0 12 rfl rfl)
theorem dX4_demand_13 : decode cX4_demand 13 = .ok (.putfield 33, 3) := dk_181 0 33 (dk_at dksX4_demand_0 13 rfl rfl)
theorem dX4_demand_16 : decode cX4_demand 16 = .ok (.aload_n 0, 1) := dk_42 (dk_at dksX4_demand_0 16 rfl rfl)
theorem dX4_demand_17 : decode cX4_demand 17 = .ok (.getfield 3, 3) := dk_180 0 3 (dk_at dksX4_demand_0 17 rfl rfl)
theorem dX4_demand_20 : decode cX4_demand 20 = .ok (.getfield 29, 3) := dk_180 0 29 (dk_at dksX4_demand_0 20 rfl rfl)
theorem dX4_demand_23 : decode cX4_demand 23 = .ok (.iload_n 3, 1) := dk_29 (dk_at dksX4_demand_0 23 rfl rfl)
theorem dX4_demand_24 : decode cX4_demand 24 = .ok (.putfield 39, 3) := dk_181 0 39 (dk_at dksX4_demand_1 0 rfl rfl)
theorem dX4_demand_27 : decode cX4_demand 27 = .ok (.aload_n 0, 1) := dk_42 (dk_at dksX4_demand_1 3 rfl rfl)
theorem dX4_demand_28 : decode cX4_demand 28 = .ok (.getfield 3, 3) := dk_180 0 3 (dk_at dksX4_demand_1 4 rfl rfl)
theorem dX4_demand_31 : decode cX4_demand 31 = .ok (.getfield 29, 3) := dk_180 0 29 (dk_at dksX4_demand_1 7 rfl rfl)
theorem dX4_demand_34 : decode cX4_demand 34 = .ok (.athrow, 1) := dk_191 (dk_at dksX4_demand_1 10 rfl rfl)
abbrev cX4_canBe : ByteArray := prog_13_method_14_code
def yX4_canBe : MethodName := ⟨RX4, "canBe", "(I)Z"⟩
def dkwX4_canBe_4 : List UInt8 := [16, 8, 162, 0, 7, 4, 167, 0, 4, 3, 172, 4, 172]
abbrev dktX4_canBe_4 : List UInt8 := dkwX4_canBe_4 ++ []
def dkwX4_canBe_3 : List UInt8 := [42, 180, 0, 26, 180, 0, 98, 7, 162, 0, 7, 4, 167, 0, 4, 3, 172, 42, 180, 0, 26, 180, 0, 101]
abbrev dktX4_canBe_3 : List UInt8 := dkwX4_canBe_3 ++ dktX4_canBe_4
def dkwX4_canBe_2 : List UInt8 := [171, 0, 0, 0, 60, 0, 0, 0, 2, 0, 0, 0, 1, 0, 0, 0, 25, 0, 0, 0, 2, 0, 0, 0, 42]
abbrev dktX4_canBe_2 : List UInt8 := dkwX4_canBe_2 ++ dktX4_canBe_3
def dkwX4_canBe_1 : List UInt8 := [180, 0, 93, 154, 0, 7, 4, 167, 0, 4, 3, 159, 0, 5, 3, 172, 27]
abbrev dktX4_canBe_1 : List UInt8 := dkwX4_canBe_1 ++ dktX4_canBe_2
def dkwX4_canBe_0 : List UInt8 := [42, 180, 0, 90, 16, 40, 162, 0, 30, 27, 154, 0, 7, 4, 167, 0, 4, 3, 42, 180, 0, 26]
abbrev dktX4_canBe_0 : List UInt8 := dkwX4_canBe_0 ++ dktX4_canBe_1
theorem dksX4_canBe_0 : cX4_canBe.data.toList.drop 0 = dktX4_canBe_0 := by decide +kernel
theorem dksX4_canBe_1 : cX4_canBe.data.toList.drop 22 = dktX4_canBe_1 := dk_seg dksX4_canBe_0 22 rfl rfl
theorem dksX4_canBe_2 : cX4_canBe.data.toList.drop 39 = dktX4_canBe_2 := dk_seg dksX4_canBe_1 17 rfl rfl
theorem dksX4_canBe_3 : cX4_canBe.data.toList.drop 64 = dktX4_canBe_3 := dk_seg dksX4_canBe_2 25 rfl rfl
theorem dksX4_canBe_4 : cX4_canBe.data.toList.drop 88 = dktX4_canBe_4 := dk_seg dksX4_canBe_3 24 rfl rfl
theorem dX4_canBe_0 : decode cX4_canBe 0 = .ok (.aload_n 0, 1) := dk_42 (dk_at dksX4_canBe_0 0 rfl rfl)
theorem dX4_canBe_1 : decode cX4_canBe 1 = .ok (.getfield 90, 3) := dk_180 0 90 (dk_at dksX4_canBe_0 1 rfl rfl)
theorem dX4_canBe_4 : decode cX4_canBe 4 = .ok (.bipush 40, 2) := dk_16 40 (dk_at dksX4_canBe_0 4 rfl rfl)
theorem dX4_canBe_6 : decode cX4_canBe 6 = .ok (.if_icmp .ge 30, 3) := dk_162 0 30 (dk_at dksX4_canBe_0 6 rfl rfl)
theorem dX4_canBe_9 : decode cX4_canBe 9 = .ok (.iload_n 1, 1) := dk_27 (dk_at dksX4_canBe_0 9 rfl rfl)
theorem dX4_canBe_10 : decode cX4_canBe 10 = .ok (.ifCond .ne 7, 3) := dk_154 0 7 (dk_at dksX4_canBe_0 10 rfl rfl)
theorem dX4_canBe_13 : decode cX4_canBe 13 = .ok (.iconst 1, 1) := dk_4 (dk_at dksX4_canBe_0 13 rfl rfl)
theorem dX4_canBe_14 : decode cX4_canBe 14 = .ok (.goto 4, 3) := dk_167 0 4 (dk_at dksX4_canBe_0 14 rfl rfl)
theorem dX4_canBe_17 : decode cX4_canBe 17 = .ok (.iconst 0, 1) := dk_3 (dk_at dksX4_canBe_0 17 rfl rfl)
theorem dX4_canBe_18 : decode cX4_canBe 18 = .ok (.aload_n 0, 1) := dk_42 (dk_at dksX4_canBe_0 18 rfl rfl)
theorem dX4_canBe_19 : decode cX4_canBe 19 = .ok (.getfield 26, 3) := dk_180 0 26 (dk_at dksX4_canBe_0 19 rfl rfl)
theorem dX4_canBe_22 : decode cX4_canBe 22 = .ok (.getfield 93, 3) := dk_180 0 93 (dk_at dksX4_canBe_1 0 rfl rfl)
theorem dX4_canBe_25 : decode cX4_canBe 25 = .ok (.ifCond .ne 7, 3) := dk_154 0 7 (dk_at dksX4_canBe_1 3 rfl rfl)
theorem dX4_canBe_28 : decode cX4_canBe 28 = .ok (.iconst 1, 1) := dk_4 (dk_at dksX4_canBe_1 6 rfl rfl)
theorem dX4_canBe_29 : decode cX4_canBe 29 = .ok (.goto 4, 3) := dk_167 0 4 (dk_at dksX4_canBe_1 7 rfl rfl)
theorem dX4_canBe_32 : decode cX4_canBe 32 = .ok (.iconst 0, 1) := dk_3 (dk_at dksX4_canBe_1 10 rfl rfl)
theorem dX4_canBe_33 : decode cX4_canBe 33 = .ok (.if_icmp .eq 5, 3) := dk_159 0 5 (dk_at dksX4_canBe_1 11 rfl rfl)
theorem dX4_canBe_36 : decode cX4_canBe 36 = .ok (.iconst 0, 1) := dk_3 (dk_at dksX4_canBe_1 14 rfl rfl)
theorem dX4_canBe_37 : decode cX4_canBe 37 = .ok (.ireturn, 1) := dk_172 (dk_at dksX4_canBe_1 15 rfl rfl)
theorem dX4_canBe_38 : decode cX4_canBe 38 = .ok (.iload_n 1, 1) := dk_27 (dk_at dksX4_canBe_1 16 rfl rfl)
theorem dX4_canBe_39 : decode cX4_canBe 39 = .ok (.lookupswitch 60 #[(1, 25), (2, 42)], 25) := by decide +kernel
theorem dX4_canBe_64 : decode cX4_canBe 64 = .ok (.aload_n 0, 1) := dk_42 (dk_at dksX4_canBe_3 0 rfl rfl)
theorem dX4_canBe_65 : decode cX4_canBe 65 = .ok (.getfield 26, 3) := dk_180 0 26 (dk_at dksX4_canBe_3 1 rfl rfl)
theorem dX4_canBe_68 : decode cX4_canBe 68 = .ok (.getfield 98, 3) := dk_180 0 98 (dk_at dksX4_canBe_3 4 rfl rfl)
theorem dX4_canBe_71 : decode cX4_canBe 71 = .ok (.iconst 4, 1) := dk_7 (dk_at dksX4_canBe_3 7 rfl rfl)
theorem dX4_canBe_72 : decode cX4_canBe 72 = .ok (.if_icmp .ge 7, 3) := dk_162 0 7 (dk_at dksX4_canBe_3 8 rfl rfl)
theorem dX4_canBe_75 : decode cX4_canBe 75 = .ok (.iconst 1, 1) := dk_4 (dk_at dksX4_canBe_3 11 rfl rfl)
theorem dX4_canBe_76 : decode cX4_canBe 76 = .ok (.goto 4, 3) := dk_167 0 4 (dk_at dksX4_canBe_3 12 rfl rfl)
theorem dX4_canBe_79 : decode cX4_canBe 79 = .ok (.iconst 0, 1) := dk_3 (dk_at dksX4_canBe_3 15 rfl rfl)
theorem dX4_canBe_80 : decode cX4_canBe 80 = .ok (.ireturn, 1) := dk_172 (dk_at dksX4_canBe_3 16 rfl rfl)
theorem dX4_canBe_81 : decode cX4_canBe 81 = .ok (.aload_n 0, 1) := dk_42 (dk_at dksX4_canBe_3 17 rfl rfl)
theorem dX4_canBe_82 : decode cX4_canBe 82 = .ok (.getfield 26, 3) := dk_180 0 26 (dk_at dksX4_canBe_3 18 rfl rfl)
theorem dX4_canBe_85 : decode cX4_canBe 85 = .ok (.getfield 101, 3) := dk_180 0 101 (dk_at dksX4_canBe_3 21 rfl rfl)
theorem dX4_canBe_88 : decode cX4_canBe 88 = .ok (.bipush 8, 2) := dk_16 8 (dk_at dksX4_canBe_4 0 rfl rfl)
theorem dX4_canBe_90 : decode cX4_canBe 90 = .ok (.if_icmp .ge 7, 3) := dk_162 0 7 (dk_at dksX4_canBe_4 2 rfl rfl)
theorem dX4_canBe_93 : decode cX4_canBe 93 = .ok (.iconst 1, 1) := dk_4 (dk_at dksX4_canBe_4 5 rfl rfl)
theorem dX4_canBe_94 : decode cX4_canBe 94 = .ok (.goto 4, 3) := dk_167 0 4 (dk_at dksX4_canBe_4 6 rfl rfl)
theorem dX4_canBe_97 : decode cX4_canBe 97 = .ok (.iconst 0, 1) := dk_3 (dk_at dksX4_canBe_4 9 rfl rfl)
theorem dX4_canBe_98 : decode cX4_canBe 98 = .ok (.ireturn, 1) := dk_172 (dk_at dksX4_canBe_4 10 rfl rfl)
theorem dX4_canBe_99 : decode cX4_canBe 99 = .ok (.iconst 1, 1) := dk_4 (dk_at dksX4_canBe_4 11 rfl rfl)
theorem dX4_canBe_100 : decode cX4_canBe 100 = .ok (.ireturn, 1) := dk_172 (dk_at dksX4_canBe_4 12 rfl rfl)
abbrev cX4_line : ByteArray := prog_13_method_18_code
def yX4_line : MethodName := ⟨RX4, "line", "(I)V"⟩
def dkwX4_line_2 : List UInt8 := [42, 180, 0, 26, 4, 181, 0, 93, 177, 42, 182, 0, 131, 177, 42, 182, 0, 134, 177, 42, 182, 0, 137, 177]
abbrev dktX4_line_2 : List UInt8 := dkwX4_line_2 ++ []
def dkwX4_line_1 : List UInt8 := [170, 0, 0, 0, 0, 0, 46, 0, 0, 0, 0, 0, 0, 0, 2, 0, 0, 0, 27, 0, 0, 0, 36, 0, 0, 0, 41]
abbrev dktX4_line_1 : List UInt8 := dkwX4_line_1 ++ dktX4_line_2
def dkwX4_line_0 : List UInt8 := [27]
abbrev dktX4_line_0 : List UInt8 := dkwX4_line_0 ++ dktX4_line_1
theorem dksX4_line_0 : cX4_line.data.toList.drop 0 = dktX4_line_0 := by decide +kernel
theorem dksX4_line_1 : cX4_line.data.toList.drop 1 = dktX4_line_1 := dk_seg dksX4_line_0 1 rfl rfl
theorem dksX4_line_2 : cX4_line.data.toList.drop 28 = dktX4_line_2 := dk_seg dksX4_line_1 27 rfl rfl
theorem dX4_line_0 : decode cX4_line 0 = .ok (.iload_n 1, 1) := dk_27 (dk_at dksX4_line_0 0 rfl rfl)
theorem dX4_line_1 : decode cX4_line 1 = .ok (.tableswitch 46 0 2 #[27, 36, 41], 27) := by decide +kernel
theorem dX4_line_28 : decode cX4_line 28 = .ok (.aload_n 0, 1) := dk_42 (dk_at dksX4_line_2 0 rfl rfl)
theorem dX4_line_29 : decode cX4_line 29 = .ok (.getfield 26, 3) := dk_180 0 26 (dk_at dksX4_line_2 1 rfl rfl)
theorem dX4_line_32 : decode cX4_line 32 = .ok (.iconst 1, 1) := dk_4 (dk_at dksX4_line_2 4 rfl rfl)
theorem dX4_line_33 : decode cX4_line 33 = .ok (.putfield 93, 3) := dk_181 0 93 (dk_at dksX4_line_2 5 rfl rfl)
theorem dX4_line_36 : decode cX4_line 36 = .ok (.return_, 1) := dk_177 (dk_at dksX4_line_2 8 rfl rfl)
theorem dX4_line_37 : decode cX4_line 37 = .ok (.aload_n 0, 1) := dk_42 (dk_at dksX4_line_2 9 rfl rfl)
theorem dX4_line_38 : decode cX4_line 38 = .ok (.invokevirtual 131, 3) := dk_182 0 131 (dk_at dksX4_line_2 10 rfl rfl)
theorem dX4_line_41 : decode cX4_line 41 = .ok (.return_, 1) := dk_177 (dk_at dksX4_line_2 13 rfl rfl)
theorem dX4_line_42 : decode cX4_line 42 = .ok (.aload_n 0, 1) := dk_42 (dk_at dksX4_line_2 14 rfl rfl)
theorem dX4_line_43 : decode cX4_line 43 = .ok (.invokevirtual 134, 3) := dk_182 0 134 (dk_at dksX4_line_2 15 rfl rfl)
theorem dX4_line_46 : decode cX4_line 46 = .ok (.return_, 1) := dk_177 (dk_at dksX4_line_2 18 rfl rfl)
theorem dX4_line_47 : decode cX4_line 47 = .ok (.aload_n 0, 1) := dk_42 (dk_at dksX4_line_2 19 rfl rfl)
theorem dX4_line_48 : decode cX4_line 48 = .ok (.invokevirtual 137, 3) := dk_182 0 137 (dk_at dksX4_line_2 20 rfl rfl)
theorem dX4_line_51 : decode cX4_line 51 = .ok (.return_, 1) := dk_177 (dk_at dksX4_line_2 23 rfl rfl)
abbrev cX4_strandHere : ByteArray := prog_13_method_15_code
def yX4_strandHere : MethodName := ⟨RX4, "strandHere", "()V"⟩
def dkwX4_strandHere_1 : List UInt8 := [180, 0, 26, 89, 180, 0, 98, 4, 96, 181, 0, 98, 177]
abbrev dktX4_strandHere_1 : List UInt8 := dkwX4_strandHere_1 ++ []
def dkwX4_strandHere_0 : List UInt8 := [42, 180, 0, 26, 180, 0, 104, 42, 180, 0, 26, 180, 0, 98, 42, 3, 16, 99, 182, 0, 108, 79, 42]
abbrev dktX4_strandHere_0 : List UInt8 := dkwX4_strandHere_0 ++ dktX4_strandHere_1
theorem dksX4_strandHere_0 : cX4_strandHere.data.toList.drop 0 = dktX4_strandHere_0 := by decide +kernel
theorem dksX4_strandHere_1 : cX4_strandHere.data.toList.drop 23 = dktX4_strandHere_1 := dk_seg dksX4_strandHere_0 23 rfl rfl
theorem dX4_strandHere_0 : decode cX4_strandHere 0 = .ok (.aload_n 0, 1) := dk_42 (dk_at dksX4_strandHere_0 0 rfl rfl)
theorem dX4_strandHere_1 : decode cX4_strandHere 1 = .ok (.getfield 26, 3) := dk_180 0 26 (dk_at dksX4_strandHere_0 1 rfl rfl)
theorem dX4_strandHere_4 : decode cX4_strandHere 4 = .ok (.getfield 104, 3) := dk_180 0 104 (dk_at dksX4_strandHere_0 4 rfl rfl)
theorem dX4_strandHere_7 : decode cX4_strandHere 7 = .ok (.aload_n 0, 1) := dk_42 (dk_at dksX4_strandHere_0 7 rfl rfl)
theorem dX4_strandHere_8 : decode cX4_strandHere 8 = .ok (.getfield 26, 3) := dk_180 0 26 (dk_at dksX4_strandHere_0 8 rfl rfl)
theorem dX4_strandHere_11 : decode cX4_strandHere 11 = .ok (.getfield 98, 3) := dk_180 0 98 (dk_at dksX4_strandHere_0 11 rfl rfl)
theorem dX4_strandHere_14 : decode cX4_strandHere 14 = .ok (.aload_n 0, 1) := dk_42 (dk_at dksX4_strandHere_0 14 rfl rfl)
theorem dX4_strandHere_15 : decode cX4_strandHere 15 = .ok (.iconst 0, 1) := dk_3 (dk_at dksX4_strandHere_0 15 rfl rfl)
theorem dX4_strandHere_16 : decode cX4_strandHere 16 = .ok (.bipush 99, 2) := dk_16 99 (dk_at dksX4_strandHere_0 16 rfl rfl)
theorem dX4_strandHere_18 : decode cX4_strandHere 18 = .ok (.invokevirtual 108, 3) := dk_182 0 108 (dk_at dksX4_strandHere_0 18 rfl rfl)
theorem dX4_strandHere_21 : decode cX4_strandHere 21 = .ok (.iastore, 1) := dk_79 (dk_at dksX4_strandHere_0 21 rfl rfl)
theorem dX4_strandHere_22 : decode cX4_strandHere 22 = .ok (.aload_n 0, 1) := dk_42 (dk_at dksX4_strandHere_0 22 rfl rfl)
theorem dX4_strandHere_23 : decode cX4_strandHere 23 = .ok (.getfield 26, 3) := dk_180 0 26 (dk_at dksX4_strandHere_1 0 rfl rfl)
theorem dX4_strandHere_26 : decode cX4_strandHere 26 = .ok (.dup, 1) := dk_89 (dk_at dksX4_strandHere_1 3 rfl rfl)
theorem dX4_strandHere_27 : decode cX4_strandHere 27 = .ok (.getfield 98, 3) := dk_180 0 98 (dk_at dksX4_strandHere_1 4 rfl rfl)
theorem dX4_strandHere_30 : decode cX4_strandHere 30 = .ok (.iconst 1, 1) := dk_4 (dk_at dksX4_strandHere_1 7 rfl rfl)
theorem dX4_strandHere_31 : decode cX4_strandHere 31 = .ok (.iadd, 1) := dk_96 (dk_at dksX4_strandHere_1 8 rfl rfl)
theorem dX4_strandHere_32 : decode cX4_strandHere 32 = .ok (.putfield 98, 3) := dk_181 0 98 (dk_at dksX4_strandHere_1 9 rfl rfl)
theorem dX4_strandHere_35 : decode cX4_strandHere 35 = .ok (.return_, 1) := dk_177 (dk_at dksX4_strandHere_1 12 rfl rfl)
abbrev cX4_number : ByteArray := prog_13_method_10_code
def yX4_number : MethodName := ⟨RX4, "number", "(II)I"⟩
def dkwX4_number_4 : List UInt8 := [133, 27, 133, 28, 133, 184, 0, 80, 153, 0, 7, 4, 167, 0, 4, 3, 4, 29, 182, 0, 76, 21, 4, 172]
abbrev dktX4_number_4 : List UInt8 := dkwX4_number_4 ++ []
def dkwX4_number_3 : List UInt8 := [180, 0, 42, 4, 96, 181, 0, 42, 167, 255, 202, 42, 42, 180, 0, 42, 29, 100, 8, 163, 0, 20, 21, 4]
abbrev dktX4_number_3 : List UInt8 := dkwX4_number_3 ++ dktX4_number_4
def dkwX4_number_2 : List UInt8 := [21, 4, 104, 42, 180, 0, 3, 180, 0, 48, 42, 180, 0, 42, 51, 96, 16, 48, 100, 54, 4, 42, 89]
abbrev dktX4_number_2 : List UInt8 := dkwX4_number_2 ++ dktX4_number_3
def dkwX4_number_1 : List UInt8 := [42, 42, 180, 0, 42, 182, 0, 72, 153, 0, 49, 42, 180, 0, 42, 29, 100, 8, 162, 0, 26, 16, 10]
abbrev dktX4_number_1 : List UInt8 := dkwX4_number_1 ++ dktX4_number_2
def dkwX4_number_0 : List UInt8 := [42, 182, 0, 52, 87, 42, 180, 0, 42, 62, 42, 42, 29, 182, 0, 72, 3, 29, 182, 0, 76, 3, 54, 4]
abbrev dktX4_number_0 : List UInt8 := dkwX4_number_0 ++ dktX4_number_1
theorem dksX4_number_0 : cX4_number.data.toList.drop 0 = dktX4_number_0 := by decide +kernel
theorem dksX4_number_1 : cX4_number.data.toList.drop 24 = dktX4_number_1 := dk_seg dksX4_number_0 24 rfl rfl
theorem dksX4_number_2 : cX4_number.data.toList.drop 47 = dktX4_number_2 := dk_seg dksX4_number_1 23 rfl rfl
theorem dksX4_number_3 : cX4_number.data.toList.drop 70 = dktX4_number_3 := dk_seg dksX4_number_2 23 rfl rfl
theorem dksX4_number_4 : cX4_number.data.toList.drop 94 = dktX4_number_4 := dk_seg dksX4_number_3 24 rfl rfl
theorem dX4_number_0 : decode cX4_number 0 = .ok (.aload_n 0, 1) := dk_42 (dk_at dksX4_number_0 0 rfl rfl)
theorem dX4_number_1 : decode cX4_number 1 = .ok (.invokevirtual 52, 3) := dk_182 0 52 (dk_at dksX4_number_0 1 rfl rfl)
theorem dX4_number_4 : decode cX4_number 4 = .ok (.pop, 1) := dk_87 (dk_at dksX4_number_0 4 rfl rfl)
theorem dX4_number_5 : decode cX4_number 5 = .ok (.aload_n 0, 1) := dk_42 (dk_at dksX4_number_0 5 rfl rfl)
theorem dX4_number_6 : decode cX4_number 6 = .ok (.getfield 42, 3) := dk_180 0 42 (dk_at dksX4_number_0 6 rfl rfl)
theorem dX4_number_9 : decode cX4_number 9 = .ok (.istore_n 3, 1) := dk_62 (dk_at dksX4_number_0 9 rfl rfl)
theorem dX4_number_10 : decode cX4_number 10 = .ok (.aload_n 0, 1) := dk_42 (dk_at dksX4_number_0 10 rfl rfl)
theorem dX4_number_11 : decode cX4_number 11 = .ok (.aload_n 0, 1) := dk_42 (dk_at dksX4_number_0 11 rfl rfl)
theorem dX4_number_12 : decode cX4_number 12 = .ok (.iload_n 3, 1) := dk_29 (dk_at dksX4_number_0 12 rfl rfl)
theorem dX4_number_13 : decode cX4_number 13 = .ok (.invokevirtual 72, 3) := dk_182 0 72 (dk_at dksX4_number_0 13 rfl rfl)
theorem dX4_number_16 : decode cX4_number 16 = .ok (.iconst 0, 1) := dk_3 (dk_at dksX4_number_0 16 rfl rfl)
theorem dX4_number_17 : decode cX4_number 17 = .ok (.iload_n 3, 1) := dk_29 (dk_at dksX4_number_0 17 rfl rfl)
theorem dX4_number_18 : decode cX4_number 18 = .ok (.invokevirtual 76, 3) := dk_182 0 76 (dk_at dksX4_number_0 18 rfl rfl)
theorem dX4_number_21 : decode cX4_number 21 = .ok (.iconst 0, 1) := dk_3 (dk_at dksX4_number_0 21 rfl rfl)
theorem dX4_number_22 : decode cX4_number 22 = .ok (.istore 4, 2) := dk_54 4 (dk_at dksX4_number_0 22 rfl rfl)
theorem dX4_number_24 : decode cX4_number 24 = .ok (.aload_n 0, 1) := dk_42 (dk_at dksX4_number_1 0 rfl rfl)
theorem dX4_number_25 : decode cX4_number 25 = .ok (.aload_n 0, 1) := dk_42 (dk_at dksX4_number_1 1 rfl rfl)
theorem dX4_number_26 : decode cX4_number 26 = .ok (.getfield 42, 3) := dk_180 0 42 (dk_at dksX4_number_1 2 rfl rfl)
theorem dX4_number_29 : decode cX4_number 29 = .ok (.invokevirtual 72, 3) := dk_182 0 72 (dk_at dksX4_number_1 5 rfl rfl)
theorem dX4_number_32 : decode cX4_number 32 = .ok (.ifCond .eq 49, 3) := dk_153 0 49 (dk_at dksX4_number_1 8 rfl rfl)
theorem dX4_number_35 : decode cX4_number 35 = .ok (.aload_n 0, 1) := dk_42 (dk_at dksX4_number_1 11 rfl rfl)
theorem dX4_number_36 : decode cX4_number 36 = .ok (.getfield 42, 3) := dk_180 0 42 (dk_at dksX4_number_1 12 rfl rfl)
theorem dX4_number_39 : decode cX4_number 39 = .ok (.iload_n 3, 1) := dk_29 (dk_at dksX4_number_1 15 rfl rfl)
theorem dX4_number_40 : decode cX4_number 40 = .ok (.isub, 1) := dk_100 (dk_at dksX4_number_1 16 rfl rfl)
theorem dX4_number_41 : decode cX4_number 41 = .ok (.iconst 5, 1) := dk_8 (dk_at dksX4_number_1 17 rfl rfl)
theorem dX4_number_42 : decode cX4_number 42 = .ok (.if_icmp .ge 26, 3) := dk_162 0 26 (dk_at dksX4_number_1 18 rfl rfl)
theorem dX4_number_45 : decode cX4_number 45 = .ok (.bipush 10, 2) := dk_16 10 (dk_at dksX4_number_1 21 rfl rfl)
theorem dX4_number_47 : decode cX4_number 47 = .ok (.iload 4, 2) := dk_21 4 (dk_at dksX4_number_2 0 rfl rfl)
theorem dX4_number_49 : decode cX4_number 49 = .ok (.imul, 1) := dk_104 (dk_at dksX4_number_2 2 rfl rfl)
theorem dX4_number_50 : decode cX4_number 50 = .ok (.aload_n 0, 1) := dk_42 (dk_at dksX4_number_2 3 rfl rfl)
theorem dX4_number_51 : decode cX4_number 51 = .ok (.getfield 3, 3) := dk_180 0 3 (dk_at dksX4_number_2 4 rfl rfl)
theorem dX4_number_54 : decode cX4_number 54 = .ok (.getfield 48, 3) := dk_180 0 48 (dk_at dksX4_number_2 7 rfl rfl)
theorem dX4_number_57 : decode cX4_number 57 = .ok (.aload_n 0, 1) := dk_42 (dk_at dksX4_number_2 10 rfl rfl)
theorem dX4_number_58 : decode cX4_number 58 = .ok (.getfield 42, 3) := dk_180 0 42 (dk_at dksX4_number_2 11 rfl rfl)
theorem dX4_number_61 : decode cX4_number 61 = .ok (.baload, 1) := dk_51 (dk_at dksX4_number_2 14 rfl rfl)
theorem dX4_number_62 : decode cX4_number 62 = .ok (.iadd, 1) := dk_96 (dk_at dksX4_number_2 15 rfl rfl)
theorem dX4_number_63 : decode cX4_number 63 = .ok (.bipush 48, 2) := dk_16 48 (dk_at dksX4_number_2 16 rfl rfl)
theorem dX4_number_65 : decode cX4_number 65 = .ok (.isub, 1) := dk_100 (dk_at dksX4_number_2 18 rfl rfl)
theorem dX4_number_66 : decode cX4_number 66 = .ok (.istore 4, 2) := dk_54 4 (dk_at dksX4_number_2 19 rfl rfl)
theorem dX4_number_68 : decode cX4_number 68 = .ok (.aload_n 0, 1) := dk_42 (dk_at dksX4_number_2 21 rfl rfl)
theorem dX4_number_69 : decode cX4_number 69 = .ok (.dup, 1) := dk_89 (dk_at dksX4_number_2 22 rfl rfl)
theorem dX4_number_70 : decode cX4_number 70 = .ok (.getfield 42, 3) := dk_180 0 42 (dk_at dksX4_number_3 0 rfl rfl)
theorem dX4_number_73 : decode cX4_number 73 = .ok (.iconst 1, 1) := dk_4 (dk_at dksX4_number_3 3 rfl rfl)
theorem dX4_number_74 : decode cX4_number 74 = .ok (.iadd, 1) := dk_96 (dk_at dksX4_number_3 4 rfl rfl)
theorem dX4_number_75 : decode cX4_number 75 = .ok (.putfield 42, 3) := dk_181 0 42 (dk_at dksX4_number_3 5 rfl rfl)
theorem dX4_number_78 : decode cX4_number 78 = .ok (.goto (-54), 3) := dk_167 255 202 (dk_at dksX4_number_3 8 rfl rfl)
theorem dX4_number_81 : decode cX4_number 81 = .ok (.aload_n 0, 1) := dk_42 (dk_at dksX4_number_3 11 rfl rfl)
theorem dX4_number_82 : decode cX4_number 82 = .ok (.aload_n 0, 1) := dk_42 (dk_at dksX4_number_3 12 rfl rfl)
theorem dX4_number_83 : decode cX4_number 83 = .ok (.getfield 42, 3) := dk_180 0 42 (dk_at dksX4_number_3 13 rfl rfl)
theorem dX4_number_86 : decode cX4_number 86 = .ok (.iload_n 3, 1) := dk_29 (dk_at dksX4_number_3 16 rfl rfl)
theorem dX4_number_87 : decode cX4_number 87 = .ok (.isub, 1) := dk_100 (dk_at dksX4_number_3 17 rfl rfl)
theorem dX4_number_88 : decode cX4_number 88 = .ok (.iconst 5, 1) := dk_8 (dk_at dksX4_number_3 18 rfl rfl)
theorem dX4_number_89 : decode cX4_number 89 = .ok (.if_icmp .gt 20, 3) := dk_163 0 20 (dk_at dksX4_number_3 19 rfl rfl)
theorem dX4_number_92 : decode cX4_number 92 = .ok (.iload 4, 2) := dk_21 4 (dk_at dksX4_number_3 22 rfl rfl)
theorem dX4_number_94 : decode cX4_number 94 = .ok (.i2l, 1) := dk_133 (dk_at dksX4_number_4 0 rfl rfl)
theorem dX4_number_95 : decode cX4_number 95 = .ok (.iload_n 1, 1) := dk_27 (dk_at dksX4_number_4 1 rfl rfl)
theorem dX4_number_96 : decode cX4_number 96 = .ok (.i2l, 1) := dk_133 (dk_at dksX4_number_4 2 rfl rfl)
theorem dX4_number_97 : decode cX4_number 97 = .ok (.iload_n 2, 1) := dk_28 (dk_at dksX4_number_4 3 rfl rfl)
theorem dX4_number_98 : decode cX4_number 98 = .ok (.i2l, 1) := dk_133 (dk_at dksX4_number_4 4 rfl rfl)
theorem dX4_number_99 : decode cX4_number 99 = .ok (.invokestatic 80, 3) := dk_184 0 80 (dk_at dksX4_number_4 5 rfl rfl)
theorem dX4_number_102 : decode cX4_number 102 = .ok (.ifCond .eq 7, 3) := dk_153 0 7 (dk_at dksX4_number_4 8 rfl rfl)
theorem dX4_number_105 : decode cX4_number 105 = .ok (.iconst 1, 1) := dk_4 (dk_at dksX4_number_4 11 rfl rfl)
theorem dX4_number_106 : decode cX4_number 106 = .ok (.goto 4, 3) := dk_167 0 4 (dk_at dksX4_number_4 12 rfl rfl)
theorem dX4_number_109 : decode cX4_number 109 = .ok (.iconst 0, 1) := dk_3 (dk_at dksX4_number_4 15 rfl rfl)
theorem dX4_number_110 : decode cX4_number 110 = .ok (.iconst 1, 1) := dk_4 (dk_at dksX4_number_4 16 rfl rfl)
theorem dX4_number_111 : decode cX4_number 111 = .ok (.iload_n 3, 1) := dk_29 (dk_at dksX4_number_4 17 rfl rfl)
theorem dX4_number_112 : decode cX4_number 112 = .ok (.invokevirtual 76, 3) := dk_182 0 76 (dk_at dksX4_number_4 18 rfl rfl)
theorem dX4_number_115 : decode cX4_number 115 = .ok (.iload 4, 2) := dk_21 4 (dk_at dksX4_number_4 21 rfl rfl)
theorem dX4_number_117 : decode cX4_number 117 = .ok (.ireturn, 1) := dk_172 (dk_at dksX4_number_4 23 rfl rfl)
abbrev cX4_isDigit : ByteArray := prog_13_method_9_code
def yX4_isDigit : MethodName := ⟨RX4, "isDigit", "(I)Z"⟩
def dkwX4_isDigit_1 : List UInt8 := [161, 0, 21, 42, 180, 0, 3, 180, 0, 48, 27, 51, 16, 57, 163, 0, 7, 4, 167, 0, 4, 3, 172]
abbrev dktX4_isDigit_1 : List UInt8 := dkwX4_isDigit_1 ++ []
def dkwX4_isDigit_0 : List UInt8 := [27, 42, 180, 0, 3, 180, 0, 45, 162, 0, 35, 42, 180, 0, 3, 180, 0, 48, 27, 51, 16, 48]
abbrev dktX4_isDigit_0 : List UInt8 := dkwX4_isDigit_0 ++ dktX4_isDigit_1
theorem dksX4_isDigit_0 : cX4_isDigit.data.toList.drop 0 = dktX4_isDigit_0 := by decide +kernel
theorem dksX4_isDigit_1 : cX4_isDigit.data.toList.drop 22 = dktX4_isDigit_1 := dk_seg dksX4_isDigit_0 22 rfl rfl
theorem dX4_isDigit_0 : decode cX4_isDigit 0 = .ok (.iload_n 1, 1) := dk_27 (dk_at dksX4_isDigit_0 0 rfl rfl)
theorem dX4_isDigit_1 : decode cX4_isDigit 1 = .ok (.aload_n 0, 1) := dk_42 (dk_at dksX4_isDigit_0 1 rfl rfl)
theorem dX4_isDigit_2 : decode cX4_isDigit 2 = .ok (.getfield 3, 3) := dk_180 0 3 (dk_at dksX4_isDigit_0 2 rfl rfl)
theorem dX4_isDigit_5 : decode cX4_isDigit 5 = .ok (.getfield 45, 3) := dk_180 0 45 (dk_at dksX4_isDigit_0 5 rfl rfl)
theorem dX4_isDigit_8 : decode cX4_isDigit 8 = .ok (.if_icmp .ge 35, 3) := dk_162 0 35 (dk_at dksX4_isDigit_0 8 rfl rfl)
theorem dX4_isDigit_11 : decode cX4_isDigit 11 = .ok (.aload_n 0, 1) := dk_42 (dk_at dksX4_isDigit_0 11 rfl rfl)
theorem dX4_isDigit_12 : decode cX4_isDigit 12 = .ok (.getfield 3, 3) := dk_180 0 3 (dk_at dksX4_isDigit_0 12 rfl rfl)
theorem dX4_isDigit_15 : decode cX4_isDigit 15 = .ok (.getfield 48, 3) := dk_180 0 48 (dk_at dksX4_isDigit_0 15 rfl rfl)
theorem dX4_isDigit_18 : decode cX4_isDigit 18 = .ok (.iload_n 1, 1) := dk_27 (dk_at dksX4_isDigit_0 18 rfl rfl)
theorem dX4_isDigit_19 : decode cX4_isDigit 19 = .ok (.baload, 1) := dk_51 (dk_at dksX4_isDigit_0 19 rfl rfl)
theorem dX4_isDigit_20 : decode cX4_isDigit 20 = .ok (.bipush 48, 2) := dk_16 48 (dk_at dksX4_isDigit_0 20 rfl rfl)
theorem dX4_isDigit_22 : decode cX4_isDigit 22 = .ok (.if_icmp .lt 21, 3) := dk_161 0 21 (dk_at dksX4_isDigit_1 0 rfl rfl)
theorem dX4_isDigit_25 : decode cX4_isDigit 25 = .ok (.aload_n 0, 1) := dk_42 (dk_at dksX4_isDigit_1 3 rfl rfl)
theorem dX4_isDigit_26 : decode cX4_isDigit 26 = .ok (.getfield 3, 3) := dk_180 0 3 (dk_at dksX4_isDigit_1 4 rfl rfl)
theorem dX4_isDigit_29 : decode cX4_isDigit 29 = .ok (.getfield 48, 3) := dk_180 0 48 (dk_at dksX4_isDigit_1 7 rfl rfl)
theorem dX4_isDigit_32 : decode cX4_isDigit 32 = .ok (.iload_n 1, 1) := dk_27 (dk_at dksX4_isDigit_1 10 rfl rfl)
theorem dX4_isDigit_33 : decode cX4_isDigit 33 = .ok (.baload, 1) := dk_51 (dk_at dksX4_isDigit_1 11 rfl rfl)
theorem dX4_isDigit_34 : decode cX4_isDigit 34 = .ok (.bipush 57, 2) := dk_16 57 (dk_at dksX4_isDigit_1 12 rfl rfl)
theorem dX4_isDigit_36 : decode cX4_isDigit 36 = .ok (.if_icmp .gt 7, 3) := dk_163 0 7 (dk_at dksX4_isDigit_1 14 rfl rfl)
theorem dX4_isDigit_39 : decode cX4_isDigit 39 = .ok (.iconst 1, 1) := dk_4 (dk_at dksX4_isDigit_1 17 rfl rfl)
theorem dX4_isDigit_40 : decode cX4_isDigit 40 = .ok (.goto 4, 3) := dk_167 0 4 (dk_at dksX4_isDigit_1 18 rfl rfl)
theorem dX4_isDigit_43 : decode cX4_isDigit 43 = .ok (.iconst 0, 1) := dk_3 (dk_at dksX4_isDigit_1 21 rfl rfl)
theorem dX4_isDigit_44 : decode cX4_isDigit 44 = .ok (.ireturn, 1) := dk_172 (dk_at dksX4_isDigit_1 22 rfl rfl)
abbrev cX4_chairHere : ByteArray := prog_13_method_16_code
def yX4_chairHere : MethodName := ⟨RX4, "chairHere", "()V"⟩
def dkwX4_chairHere_2 : List UInt8 := [180, 0, 26, 89, 180, 0, 101, 4, 96, 181, 0, 101, 177]
abbrev dktX4_chairHere_2 : List UInt8 := dkwX4_chairHere_2 ++ []
def dkwX4_chairHere_1 : List UInt8 := [42, 180, 0, 26, 180, 0, 115, 27, 42, 3, 42, 180, 0, 26, 180, 0, 98, 4, 100, 182, 0, 108, 79, 42]
abbrev dktX4_chairHere_1 : List UInt8 := dkwX4_chairHere_1 ++ dktX4_chairHere_2
def dkwX4_chairHere_0 : List UInt8 := [42, 180, 0, 26, 180, 0, 101, 60, 42, 180, 0, 26, 180, 0, 112, 27, 42, 4, 16, 60, 182, 0, 108, 79]
abbrev dktX4_chairHere_0 : List UInt8 := dkwX4_chairHere_0 ++ dktX4_chairHere_1
theorem dksX4_chairHere_0 : cX4_chairHere.data.toList.drop 0 = dktX4_chairHere_0 := by decide +kernel
theorem dksX4_chairHere_1 : cX4_chairHere.data.toList.drop 24 = dktX4_chairHere_1 := dk_seg dksX4_chairHere_0 24 rfl rfl
theorem dksX4_chairHere_2 : cX4_chairHere.data.toList.drop 48 = dktX4_chairHere_2 := dk_seg dksX4_chairHere_1 24 rfl rfl
theorem dX4_chairHere_0 : decode cX4_chairHere 0 = .ok (.aload_n 0, 1) := dk_42 (dk_at dksX4_chairHere_0 0 rfl rfl)
theorem dX4_chairHere_1 : decode cX4_chairHere 1 = .ok (.getfield 26, 3) := dk_180 0 26 (dk_at dksX4_chairHere_0 1 rfl rfl)
theorem dX4_chairHere_4 : decode cX4_chairHere 4 = .ok (.getfield 101, 3) := dk_180 0 101 (dk_at dksX4_chairHere_0 4 rfl rfl)
theorem dX4_chairHere_7 : decode cX4_chairHere 7 = .ok (.istore_n 1, 1) := dk_60 (dk_at dksX4_chairHere_0 7 rfl rfl)
theorem dX4_chairHere_8 : decode cX4_chairHere 8 = .ok (.aload_n 0, 1) := dk_42 (dk_at dksX4_chairHere_0 8 rfl rfl)
theorem dX4_chairHere_9 : decode cX4_chairHere 9 = .ok (.getfield 26, 3) := dk_180 0 26 (dk_at dksX4_chairHere_0 9 rfl rfl)
theorem dX4_chairHere_12 : decode cX4_chairHere 12 = .ok (.getfield 112, 3) := dk_180 0 112 (dk_at dksX4_chairHere_0 12 rfl rfl)
theorem dX4_chairHere_15 : decode cX4_chairHere 15 = .ok (.iload_n 1, 1) := dk_27 (dk_at dksX4_chairHere_0 15 rfl rfl)
theorem dX4_chairHere_16 : decode cX4_chairHere 16 = .ok (.aload_n 0, 1) := dk_42 (dk_at dksX4_chairHere_0 16 rfl rfl)
theorem dX4_chairHere_17 : decode cX4_chairHere 17 = .ok (.iconst 1, 1) := dk_4 (dk_at dksX4_chairHere_0 17 rfl rfl)
theorem dX4_chairHere_18 : decode cX4_chairHere 18 = .ok (.bipush 60, 2) := dk_16 60 (dk_at dksX4_chairHere_0 18 rfl rfl)
theorem dX4_chairHere_20 : decode cX4_chairHere 20 = .ok (.invokevirtual 108, 3) := dk_182 0 108 (dk_at dksX4_chairHere_0 20 rfl rfl)
theorem dX4_chairHere_23 : decode cX4_chairHere 23 = .ok (.iastore, 1) := dk_79 (dk_at dksX4_chairHere_0 23 rfl rfl)
theorem dX4_chairHere_24 : decode cX4_chairHere 24 = .ok (.aload_n 0, 1) := dk_42 (dk_at dksX4_chairHere_1 0 rfl rfl)
theorem dX4_chairHere_25 : decode cX4_chairHere 25 = .ok (.getfield 26, 3) := dk_180 0 26 (dk_at dksX4_chairHere_1 1 rfl rfl)
theorem dX4_chairHere_28 : decode cX4_chairHere 28 = .ok (.getfield 115, 3) := dk_180 0 115 (dk_at dksX4_chairHere_1 4 rfl rfl)
theorem dX4_chairHere_31 : decode cX4_chairHere 31 = .ok (.iload_n 1, 1) := dk_27 (dk_at dksX4_chairHere_1 7 rfl rfl)
theorem dX4_chairHere_32 : decode cX4_chairHere 32 = .ok (.aload_n 0, 1) := dk_42 (dk_at dksX4_chairHere_1 8 rfl rfl)
theorem dX4_chairHere_33 : decode cX4_chairHere 33 = .ok (.iconst 0, 1) := dk_3 (dk_at dksX4_chairHere_1 9 rfl rfl)
theorem dX4_chairHere_34 : decode cX4_chairHere 34 = .ok (.aload_n 0, 1) := dk_42 (dk_at dksX4_chairHere_1 10 rfl rfl)
theorem dX4_chairHere_35 : decode cX4_chairHere 35 = .ok (.getfield 26, 3) := dk_180 0 26 (dk_at dksX4_chairHere_1 11 rfl rfl)
theorem dX4_chairHere_38 : decode cX4_chairHere 38 = .ok (.getfield 98, 3) := dk_180 0 98 (dk_at dksX4_chairHere_1 14 rfl rfl)
theorem dX4_chairHere_41 : decode cX4_chairHere 41 = .ok (.iconst 1, 1) := dk_4 (dk_at dksX4_chairHere_1 17 rfl rfl)
theorem dX4_chairHere_42 : decode cX4_chairHere 42 = .ok (.isub, 1) := dk_100 (dk_at dksX4_chairHere_1 18 rfl rfl)
theorem dX4_chairHere_43 : decode cX4_chairHere 43 = .ok (.invokevirtual 108, 3) := dk_182 0 108 (dk_at dksX4_chairHere_1 19 rfl rfl)
theorem dX4_chairHere_46 : decode cX4_chairHere 46 = .ok (.iastore, 1) := dk_79 (dk_at dksX4_chairHere_1 22 rfl rfl)
theorem dX4_chairHere_47 : decode cX4_chairHere 47 = .ok (.aload_n 0, 1) := dk_42 (dk_at dksX4_chairHere_1 23 rfl rfl)
theorem dX4_chairHere_48 : decode cX4_chairHere 48 = .ok (.getfield 26, 3) := dk_180 0 26 (dk_at dksX4_chairHere_2 0 rfl rfl)
theorem dX4_chairHere_51 : decode cX4_chairHere 51 = .ok (.dup, 1) := dk_89 (dk_at dksX4_chairHere_2 3 rfl rfl)
theorem dX4_chairHere_52 : decode cX4_chairHere 52 = .ok (.getfield 101, 3) := dk_180 0 101 (dk_at dksX4_chairHere_2 4 rfl rfl)
theorem dX4_chairHere_55 : decode cX4_chairHere 55 = .ok (.iconst 1, 1) := dk_4 (dk_at dksX4_chairHere_2 7 rfl rfl)
theorem dX4_chairHere_56 : decode cX4_chairHere 56 = .ok (.iadd, 1) := dk_96 (dk_at dksX4_chairHere_2 8 rfl rfl)
theorem dX4_chairHere_57 : decode cX4_chairHere 57 = .ok (.putfield 101, 3) := dk_181 0 101 (dk_at dksX4_chairHere_2 9 rfl rfl)
theorem dX4_chairHere_60 : decode cX4_chairHere 60 = .ok (.return_, 1) := dk_177 (dk_at dksX4_chairHere_2 12 rfl rfl)
abbrev cX4_sitterHere : ByteArray := prog_13_method_17_code
def yX4_sitterHere : MethodName := ⟨RX4, "sitterHere", "()V"⟩
def dkwX4_sitterHere_4 : List UInt8 := [181, 0, 122, 177]
abbrev dktX4_sitterHere_4 : List UInt8 := dkwX4_sitterHere_4 ++ []
def dkwX4_sitterHere_3 : List UInt8 := [180, 0, 128, 29, 42, 4, 16, 20, 182, 0, 108, 79, 42, 180, 0, 26, 89, 180, 0, 122, 4, 96]
abbrev dktX4_sitterHere_3 : List UInt8 := dkwX4_sitterHere_3 ++ dktX4_sitterHere_4
def dkwX4_sitterHere_2 : List UInt8 := [42, 180, 0, 26, 180, 0, 122, 62, 42, 180, 0, 26, 180, 0, 125, 29, 28, 79, 42, 180, 0, 26]
abbrev dktX4_sitterHere_2 : List UInt8 := dkwX4_sitterHere_2 ++ dktX4_sitterHere_3
def dkwX4_sitterHere_1 : List UInt8 := [61, 42, 42, 180, 0, 26, 28, 182, 0, 118, 2, 160, 0, 7, 4, 167, 0, 4, 3, 4, 27, 182, 0, 76]
abbrev dktX4_sitterHere_1 : List UInt8 := dkwX4_sitterHere_1 ++ dktX4_sitterHere_2
def dkwX4_sitterHere_0 : List UInt8 := [42, 182, 0, 52, 87, 42, 180, 0, 42, 60, 42, 3, 42, 180, 0, 26, 180, 0, 101, 4, 100, 182, 0, 108]
abbrev dktX4_sitterHere_0 : List UInt8 := dkwX4_sitterHere_0 ++ dktX4_sitterHere_1
theorem dksX4_sitterHere_0 : cX4_sitterHere.data.toList.drop 0 = dktX4_sitterHere_0 := by decide +kernel
theorem dksX4_sitterHere_1 : cX4_sitterHere.data.toList.drop 24 = dktX4_sitterHere_1 := dk_seg dksX4_sitterHere_0 24 rfl rfl
theorem dksX4_sitterHere_2 : cX4_sitterHere.data.toList.drop 48 = dktX4_sitterHere_2 := dk_seg dksX4_sitterHere_1 24 rfl rfl
theorem dksX4_sitterHere_3 : cX4_sitterHere.data.toList.drop 70 = dktX4_sitterHere_3 := dk_seg dksX4_sitterHere_2 22 rfl rfl
theorem dksX4_sitterHere_4 : cX4_sitterHere.data.toList.drop 92 = dktX4_sitterHere_4 := dk_seg dksX4_sitterHere_3 22 rfl rfl
theorem dX4_sitterHere_0 : decode cX4_sitterHere 0 = .ok (.aload_n 0, 1) := dk_42 (dk_at dksX4_sitterHere_0 0 rfl rfl)
theorem dX4_sitterHere_1 : decode cX4_sitterHere 1 = .ok (.invokevirtual 52, 3) := dk_182 0 52 (dk_at dksX4_sitterHere_0 1 rfl rfl)
theorem dX4_sitterHere_4 : decode cX4_sitterHere 4 = .ok (.pop, 1) := dk_87 (dk_at dksX4_sitterHere_0 4 rfl rfl)
theorem dX4_sitterHere_5 : decode cX4_sitterHere 5 = .ok (.aload_n 0, 1) := dk_42 (dk_at dksX4_sitterHere_0 5 rfl rfl)
theorem dX4_sitterHere_6 : decode cX4_sitterHere 6 = .ok (.getfield 42, 3) := dk_180 0 42 (dk_at dksX4_sitterHere_0 6 rfl rfl)
theorem dX4_sitterHere_9 : decode cX4_sitterHere 9 = .ok (.istore_n 1, 1) := dk_60 (dk_at dksX4_sitterHere_0 9 rfl rfl)
theorem dX4_sitterHere_10 : decode cX4_sitterHere 10 = .ok (.aload_n 0, 1) := dk_42 (dk_at dksX4_sitterHere_0 10 rfl rfl)
theorem dX4_sitterHere_11 : decode cX4_sitterHere 11 = .ok (.iconst 0, 1) := dk_3 (dk_at dksX4_sitterHere_0 11 rfl rfl)
theorem dX4_sitterHere_12 : decode cX4_sitterHere 12 = .ok (.aload_n 0, 1) := dk_42 (dk_at dksX4_sitterHere_0 12 rfl rfl)
theorem dX4_sitterHere_13 : decode cX4_sitterHere 13 = .ok (.getfield 26, 3) := dk_180 0 26 (dk_at dksX4_sitterHere_0 13 rfl rfl)
theorem dX4_sitterHere_16 : decode cX4_sitterHere 16 = .ok (.getfield 101, 3) := dk_180 0 101 (dk_at dksX4_sitterHere_0 16 rfl rfl)
theorem dX4_sitterHere_19 : decode cX4_sitterHere 19 = .ok (.iconst 1, 1) := dk_4 (dk_at dksX4_sitterHere_0 19 rfl rfl)
theorem dX4_sitterHere_20 : decode cX4_sitterHere 20 = .ok (.isub, 1) := dk_100 (dk_at dksX4_sitterHere_0 20 rfl rfl)
theorem dX4_sitterHere_21 : decode cX4_sitterHere 21 = .ok (.invokevirtual 108, 3) := dk_182 0 108 (dk_at dksX4_sitterHere_0 21 rfl rfl)
theorem dX4_sitterHere_24 : decode cX4_sitterHere 24 = .ok (.istore_n 2, 1) := dk_61 (dk_at dksX4_sitterHere_1 0 rfl rfl)
theorem dX4_sitterHere_25 : decode cX4_sitterHere 25 = .ok (.aload_n 0, 1) := dk_42 (dk_at dksX4_sitterHere_1 1 rfl rfl)
theorem dX4_sitterHere_26 : decode cX4_sitterHere 26 = .ok (.aload_n 0, 1) := dk_42 (dk_at dksX4_sitterHere_1 2 rfl rfl)
theorem dX4_sitterHere_27 : decode cX4_sitterHere 27 = .ok (.getfield 26, 3) := dk_180 0 26 (dk_at dksX4_sitterHere_1 3 rfl rfl)
theorem dX4_sitterHere_30 : decode cX4_sitterHere 30 = .ok (.iload_n 2, 1) := dk_28 (dk_at dksX4_sitterHere_1 6 rfl rfl)
theorem dX4_sitterHere_31 : decode cX4_sitterHere 31 = .ok (.invokevirtual 118, 3) := dk_182 0 118 (dk_at dksX4_sitterHere_1 7 rfl rfl)
theorem dX4_sitterHere_34 : decode cX4_sitterHere 34 = .ok (.iconst (-1), 1) := dk_2 (dk_at dksX4_sitterHere_1 10 rfl rfl)
theorem dX4_sitterHere_35 : decode cX4_sitterHere 35 = .ok (.if_icmp .ne 7, 3) := dk_160 0 7 (dk_at dksX4_sitterHere_1 11 rfl rfl)
theorem dX4_sitterHere_38 : decode cX4_sitterHere 38 = .ok (.iconst 1, 1) := dk_4 (dk_at dksX4_sitterHere_1 14 rfl rfl)
theorem dX4_sitterHere_39 : decode cX4_sitterHere 39 = .ok (.goto 4, 3) := dk_167 0 4 (dk_at dksX4_sitterHere_1 15 rfl rfl)
theorem dX4_sitterHere_42 : decode cX4_sitterHere 42 = .ok (.iconst 0, 1) := dk_3 (dk_at dksX4_sitterHere_1 18 rfl rfl)
theorem dX4_sitterHere_43 : decode cX4_sitterHere 43 = .ok (.iconst 1, 1) := dk_4 (dk_at dksX4_sitterHere_1 19 rfl rfl)
theorem dX4_sitterHere_44 : decode cX4_sitterHere 44 = .ok (.iload_n 1, 1) := dk_27 (dk_at dksX4_sitterHere_1 20 rfl rfl)
theorem dX4_sitterHere_45 : decode cX4_sitterHere 45 = .ok (.invokevirtual 76, 3) := dk_182 0 76 (dk_at dksX4_sitterHere_1 21 rfl rfl)
theorem dX4_sitterHere_48 : decode cX4_sitterHere 48 = .ok (.aload_n 0, 1) := dk_42 (dk_at dksX4_sitterHere_2 0 rfl rfl)
theorem dX4_sitterHere_49 : decode cX4_sitterHere 49 = .ok (.getfield 26, 3) := dk_180 0 26 (dk_at dksX4_sitterHere_2 1 rfl rfl)
theorem dX4_sitterHere_52 : decode cX4_sitterHere 52 = .ok (.getfield 122, 3) := dk_180 0 122 (dk_at dksX4_sitterHere_2 4 rfl rfl)
theorem dX4_sitterHere_55 : decode cX4_sitterHere 55 = .ok (.istore_n 3, 1) := dk_62 (dk_at dksX4_sitterHere_2 7 rfl rfl)
theorem dX4_sitterHere_56 : decode cX4_sitterHere 56 = .ok (.aload_n 0, 1) := dk_42 (dk_at dksX4_sitterHere_2 8 rfl rfl)
theorem dX4_sitterHere_57 : decode cX4_sitterHere 57 = .ok (.getfield 26, 3) := dk_180 0 26 (dk_at dksX4_sitterHere_2 9 rfl rfl)
theorem dX4_sitterHere_60 : decode cX4_sitterHere 60 = .ok (.getfield 125, 3) := dk_180 0 125 (dk_at dksX4_sitterHere_2 12 rfl rfl)
theorem dX4_sitterHere_63 : decode cX4_sitterHere 63 = .ok (.iload_n 3, 1) := dk_29 (dk_at dksX4_sitterHere_2 15 rfl rfl)
theorem dX4_sitterHere_64 : decode cX4_sitterHere 64 = .ok (.iload_n 2, 1) := dk_28 (dk_at dksX4_sitterHere_2 16 rfl rfl)
theorem dX4_sitterHere_65 : decode cX4_sitterHere 65 = .ok (.iastore, 1) := dk_79 (dk_at dksX4_sitterHere_2 17 rfl rfl)
theorem dX4_sitterHere_66 : decode cX4_sitterHere 66 = .ok (.aload_n 0, 1) := dk_42 (dk_at dksX4_sitterHere_2 18 rfl rfl)
theorem dX4_sitterHere_67 : decode cX4_sitterHere 67 = .ok (.getfield 26, 3) := dk_180 0 26 (dk_at dksX4_sitterHere_2 19 rfl rfl)
theorem dX4_sitterHere_70 : decode cX4_sitterHere 70 = .ok (.getfield 128, 3) := dk_180 0 128 (dk_at dksX4_sitterHere_3 0 rfl rfl)
theorem dX4_sitterHere_73 : decode cX4_sitterHere 73 = .ok (.iload_n 3, 1) := dk_29 (dk_at dksX4_sitterHere_3 3 rfl rfl)
theorem dX4_sitterHere_74 : decode cX4_sitterHere 74 = .ok (.aload_n 0, 1) := dk_42 (dk_at dksX4_sitterHere_3 4 rfl rfl)
theorem dX4_sitterHere_75 : decode cX4_sitterHere 75 = .ok (.iconst 1, 1) := dk_4 (dk_at dksX4_sitterHere_3 5 rfl rfl)
theorem dX4_sitterHere_76 : decode cX4_sitterHere 76 = .ok (.bipush 20, 2) := dk_16 20 (dk_at dksX4_sitterHere_3 6 rfl rfl)
theorem dX4_sitterHere_78 : decode cX4_sitterHere 78 = .ok (.invokevirtual 108, 3) := dk_182 0 108 (dk_at dksX4_sitterHere_3 8 rfl rfl)
theorem dX4_sitterHere_81 : decode cX4_sitterHere 81 = .ok (.iastore, 1) := dk_79 (dk_at dksX4_sitterHere_3 11 rfl rfl)
theorem dX4_sitterHere_82 : decode cX4_sitterHere 82 = .ok (.aload_n 0, 1) := dk_42 (dk_at dksX4_sitterHere_3 12 rfl rfl)
theorem dX4_sitterHere_83 : decode cX4_sitterHere 83 = .ok (.getfield 26, 3) := dk_180 0 26 (dk_at dksX4_sitterHere_3 13 rfl rfl)
theorem dX4_sitterHere_86 : decode cX4_sitterHere 86 = .ok (.dup, 1) := dk_89 (dk_at dksX4_sitterHere_3 16 rfl rfl)
theorem dX4_sitterHere_87 : decode cX4_sitterHere 87 = .ok (.getfield 122, 3) := dk_180 0 122 (dk_at dksX4_sitterHere_3 17 rfl rfl)
theorem dX4_sitterHere_90 : decode cX4_sitterHere 90 = .ok (.iconst 1, 1) := dk_4 (dk_at dksX4_sitterHere_3 20 rfl rfl)
theorem dX4_sitterHere_91 : decode cX4_sitterHere 91 = .ok (.iadd, 1) := dk_96 (dk_at dksX4_sitterHere_3 21 rfl rfl)
theorem dX4_sitterHere_92 : decode cX4_sitterHere 92 = .ok (.putfield 122, 3) := dk_181 0 122 (dk_at dksX4_sitterHere_4 0 rfl rfl)
theorem dX4_sitterHere_95 : decode cX4_sitterHere 95 = .ok (.return_, 1) := dk_177 (dk_at dksX4_sitterHere_4 3 rfl rfl)
abbrev cX4_takesSign : ByteArray := prog_13_method_4_code
def yX4_takesSign : MethodName := ⟨RX4, "takesSign", "(I)Z"⟩
def dkwX4_takesSign_0 : List UInt8 := [42, 182, 0, 52, 27, 159, 0, 5, 3, 172, 42, 89, 180, 0, 42, 4, 96, 181, 0, 42, 4, 172]
abbrev dktX4_takesSign_0 : List UInt8 := dkwX4_takesSign_0 ++ []
theorem dksX4_takesSign_0 : cX4_takesSign.data.toList.drop 0 = dktX4_takesSign_0 := by decide +kernel
theorem dX4_takesSign_0 : decode cX4_takesSign 0 = .ok (.aload_n 0, 1) := dk_42 (dk_at dksX4_takesSign_0 0 rfl rfl)
theorem dX4_takesSign_1 : decode cX4_takesSign 1 = .ok (.invokevirtual 52, 3) := dk_182 0 52 (dk_at dksX4_takesSign_0 1 rfl rfl)
theorem dX4_takesSign_4 : decode cX4_takesSign 4 = .ok (.iload_n 1, 1) := dk_27 (dk_at dksX4_takesSign_0 4 rfl rfl)
theorem dX4_takesSign_5 : decode cX4_takesSign 5 = .ok (.if_icmp .eq 5, 3) := dk_159 0 5 (dk_at dksX4_takesSign_0 5 rfl rfl)
theorem dX4_takesSign_8 : decode cX4_takesSign 8 = .ok (.iconst 0, 1) := dk_3 (dk_at dksX4_takesSign_0 8 rfl rfl)
theorem dX4_takesSign_9 : decode cX4_takesSign 9 = .ok (.ireturn, 1) := dk_172 (dk_at dksX4_takesSign_0 9 rfl rfl)
theorem dX4_takesSign_10 : decode cX4_takesSign 10 = .ok (.aload_n 0, 1) := dk_42 (dk_at dksX4_takesSign_0 10 rfl rfl)
theorem dX4_takesSign_11 : decode cX4_takesSign 11 = .ok (.dup, 1) := dk_89 (dk_at dksX4_takesSign_0 11 rfl rfl)
theorem dX4_takesSign_12 : decode cX4_takesSign 12 = .ok (.getfield 42, 3) := dk_180 0 42 (dk_at dksX4_takesSign_0 12 rfl rfl)
theorem dX4_takesSign_15 : decode cX4_takesSign 15 = .ok (.iconst 1, 1) := dk_4 (dk_at dksX4_takesSign_0 15 rfl rfl)
theorem dX4_takesSign_16 : decode cX4_takesSign 16 = .ok (.iadd, 1) := dk_96 (dk_at dksX4_takesSign_0 16 rfl rfl)
theorem dX4_takesSign_17 : decode cX4_takesSign 17 = .ok (.putfield 42, 3) := dk_181 0 42 (dk_at dksX4_takesSign_0 17 rfl rfl)
theorem dX4_takesSign_20 : decode cX4_takesSign 20 = .ok (.iconst 1, 1) := dk_4 (dk_at dksX4_takesSign_0 20 rfl rfl)
theorem dX4_takesSign_21 : decode cX4_takesSign 21 = .ok (.ireturn, 1) := dk_172 (dk_at dksX4_takesSign_0 21 rfl rfl)
abbrev cX4_closes : ByteArray := prog_13_method_13_code
def yX4_closes : MethodName := ⟨RX4, "closes", "()V"⟩
def dkwX4_closes_0 : List UInt8 := [42, 42, 182, 0, 52, 2, 160, 0, 7, 4, 167, 0, 4, 3, 3, 42, 180, 0, 42, 182, 0, 76, 177]
abbrev dktX4_closes_0 : List UInt8 := dkwX4_closes_0 ++ []
theorem dksX4_closes_0 : cX4_closes.data.toList.drop 0 = dktX4_closes_0 := by decide +kernel
theorem dX4_closes_0 : decode cX4_closes 0 = .ok (.aload_n 0, 1) := dk_42 (dk_at dksX4_closes_0 0 rfl rfl)
theorem dX4_closes_1 : decode cX4_closes 1 = .ok (.aload_n 0, 1) := dk_42 (dk_at dksX4_closes_0 1 rfl rfl)
theorem dX4_closes_2 : decode cX4_closes 2 = .ok (.invokevirtual 52, 3) := dk_182 0 52 (dk_at dksX4_closes_0 2 rfl rfl)
theorem dX4_closes_5 : decode cX4_closes 5 = .ok (.iconst (-1), 1) := dk_2 (dk_at dksX4_closes_0 5 rfl rfl)
theorem dX4_closes_6 : decode cX4_closes 6 = .ok (.if_icmp .ne 7, 3) := dk_160 0 7 (dk_at dksX4_closes_0 6 rfl rfl)
theorem dX4_closes_9 : decode cX4_closes 9 = .ok (.iconst 1, 1) := dk_4 (dk_at dksX4_closes_0 9 rfl rfl)
theorem dX4_closes_10 : decode cX4_closes 10 = .ok (.goto 4, 3) := dk_167 0 4 (dk_at dksX4_closes_0 10 rfl rfl)
theorem dX4_closes_13 : decode cX4_closes 13 = .ok (.iconst 0, 1) := dk_3 (dk_at dksX4_closes_0 13 rfl rfl)
theorem dX4_closes_14 : decode cX4_closes 14 = .ok (.iconst 0, 1) := dk_3 (dk_at dksX4_closes_0 14 rfl rfl)
theorem dX4_closes_15 : decode cX4_closes 15 = .ok (.aload_n 0, 1) := dk_42 (dk_at dksX4_closes_0 15 rfl rfl)
theorem dX4_closes_16 : decode cX4_closes 16 = .ok (.getfield 42, 3) := dk_180 0 42 (dk_at dksX4_closes_0 16 rfl rfl)
theorem dX4_closes_19 : decode cX4_closes 19 = .ok (.invokevirtual 76, 3) := dk_182 0 76 (dk_at dksX4_closes_0 19 rfl rfl)
theorem dX4_closes_22 : decode cX4_closes 22 = .ok (.return_, 1) := dk_177 (dk_at dksX4_closes_0 22 rfl rfl)
abbrev cX4_ruleTold : ByteArray := prog_13_method_21_code
def yX4_ruleTold : MethodName := ⟨RX4, "ruleTold", "()LChairCane$Rule;"⟩
def dkwX4_ruleTold_5 : List UInt8 := [182, 0, 164, 43, 176]
abbrev dktX4_ruleTold_5 : List UInt8 := dkwX4_ruleTold_5 ++ []
def dkwX4_ruleTold_4 : List UInt8 := [182, 0, 204, 83, 43, 89, 180, 0, 203, 4, 96, 181, 0, 203, 42, 16, 59, 182, 0, 161, 154, 255, 152, 42]
abbrev dktX4_ruleTold_4 : List UInt8 := dkwX4_ruleTold_4 ++ dktX4_ruleTold_5
def dkwX4_ruleTold_3 : List UInt8 := [181, 0, 90, 42, 89, 180, 0, 42, 6, 96, 181, 0, 42, 43, 180, 0, 199, 43, 180, 0, 203, 42]
abbrev dktX4_ruleTold_3 : List UInt8 := dkwX4_ruleTold_3 ++ dktX4_ruleTold_4
def dkwX4_ruleTold_2 : List UInt8 := [16, 12, 162, 0, 7, 4, 167, 0, 4, 3, 7, 28, 182, 0, 76, 42, 89, 180, 0, 90, 4, 96]
abbrev dktX4_ruleTold_2 : List UInt8 := dkwX4_ruleTold_2 ++ dktX4_ruleTold_3
def dkwX4_ruleTold_1 : List UInt8 := [180, 0, 196, 182, 0, 150, 154, 0, 7, 4, 167, 0, 4, 3, 3, 28, 182, 0, 76, 42, 42, 180, 0, 90]
abbrev dktX4_ruleTold_1 : List UInt8 := dkwX4_ruleTold_1 ++ dktX4_ruleTold_2
def dkwX4_ruleTold_0 : List UInt8 := [187, 0, 193, 89, 183, 0, 195, 76, 42, 182, 0, 52, 87, 42, 180, 0, 42, 61, 42, 42, 42, 180, 0, 3]
abbrev dktX4_ruleTold_0 : List UInt8 := dkwX4_ruleTold_0 ++ dktX4_ruleTold_1
theorem dksX4_ruleTold_0 : cX4_ruleTold.data.toList.drop 0 = dktX4_ruleTold_0 := by decide +kernel
theorem dksX4_ruleTold_1 : cX4_ruleTold.data.toList.drop 24 = dktX4_ruleTold_1 := dk_seg dksX4_ruleTold_0 24 rfl rfl
theorem dksX4_ruleTold_2 : cX4_ruleTold.data.toList.drop 48 = dktX4_ruleTold_2 := dk_seg dksX4_ruleTold_1 24 rfl rfl
theorem dksX4_ruleTold_3 : cX4_ruleTold.data.toList.drop 70 = dktX4_ruleTold_3 := dk_seg dksX4_ruleTold_2 22 rfl rfl
theorem dksX4_ruleTold_4 : cX4_ruleTold.data.toList.drop 92 = dktX4_ruleTold_4 := dk_seg dksX4_ruleTold_3 22 rfl rfl
theorem dksX4_ruleTold_5 : cX4_ruleTold.data.toList.drop 116 = dktX4_ruleTold_5 := dk_seg dksX4_ruleTold_4 24 rfl rfl
theorem dX4_ruleTold_0 : decode cX4_ruleTold 0 = .ok (.new 193, 3) := dk_187 0 193 (dk_at dksX4_ruleTold_0 0 rfl rfl)
theorem dX4_ruleTold_3 : decode cX4_ruleTold 3 = .ok (.dup, 1) := dk_89 (dk_at dksX4_ruleTold_0 3 rfl rfl)
theorem dX4_ruleTold_4 : decode cX4_ruleTold 4 = .ok (.invokespecial 195, 3) := dk_183 0 195 (dk_at dksX4_ruleTold_0 4 rfl rfl)
theorem dX4_ruleTold_7 : decode cX4_ruleTold 7 = .ok (.astore_n 1, 1) := dk_76 (dk_at dksX4_ruleTold_0 7 rfl rfl)
theorem dX4_ruleTold_8 : decode cX4_ruleTold 8 = .ok (.aload_n 0, 1) := dk_42 (dk_at dksX4_ruleTold_0 8 rfl rfl)
theorem dX4_ruleTold_9 : decode cX4_ruleTold 9 = .ok (.invokevirtual 52, 3) := dk_182 0 52 (dk_at dksX4_ruleTold_0 9 rfl rfl)
theorem dX4_ruleTold_12 : decode cX4_ruleTold 12 = .ok (.pop, 1) := dk_87 (dk_at dksX4_ruleTold_0 12 rfl rfl)
theorem dX4_ruleTold_13 : decode cX4_ruleTold 13 = .ok (.aload_n 0, 1) := dk_42 (dk_at dksX4_ruleTold_0 13 rfl rfl)
theorem dX4_ruleTold_14 : decode cX4_ruleTold 14 = .ok (.getfield 42, 3) := dk_180 0 42 (dk_at dksX4_ruleTold_0 14 rfl rfl)
theorem dX4_ruleTold_17 : decode cX4_ruleTold 17 = .ok (.istore_n 2, 1) := dk_61 (dk_at dksX4_ruleTold_0 17 rfl rfl)
theorem dX4_ruleTold_18 : decode cX4_ruleTold 18 = .ok (.aload_n 0, 1) := dk_42 (dk_at dksX4_ruleTold_0 18 rfl rfl)
theorem dX4_ruleTold_19 : decode cX4_ruleTold 19 = .ok (.aload_n 0, 1) := dk_42 (dk_at dksX4_ruleTold_0 19 rfl rfl)
theorem dX4_ruleTold_20 : decode cX4_ruleTold 20 = .ok (.aload_n 0, 1) := dk_42 (dk_at dksX4_ruleTold_0 20 rfl rfl)
theorem dX4_ruleTold_21 : decode cX4_ruleTold 21 = .ok (.getfield 3, 3) := dk_180 0 3 (dk_at dksX4_ruleTold_0 21 rfl rfl)
theorem dX4_ruleTold_24 : decode cX4_ruleTold 24 = .ok (.getfield 196, 3) := dk_180 0 196 (dk_at dksX4_ruleTold_1 0 rfl rfl)
theorem dX4_ruleTold_27 : decode cX4_ruleTold 27 = .ok (.invokevirtual 150, 3) := dk_182 0 150 (dk_at dksX4_ruleTold_1 3 rfl rfl)
theorem dX4_ruleTold_30 : decode cX4_ruleTold 30 = .ok (.ifCond .ne 7, 3) := dk_154 0 7 (dk_at dksX4_ruleTold_1 6 rfl rfl)
theorem dX4_ruleTold_33 : decode cX4_ruleTold 33 = .ok (.iconst 1, 1) := dk_4 (dk_at dksX4_ruleTold_1 9 rfl rfl)
theorem dX4_ruleTold_34 : decode cX4_ruleTold 34 = .ok (.goto 4, 3) := dk_167 0 4 (dk_at dksX4_ruleTold_1 10 rfl rfl)
theorem dX4_ruleTold_37 : decode cX4_ruleTold 37 = .ok (.iconst 0, 1) := dk_3 (dk_at dksX4_ruleTold_1 13 rfl rfl)
theorem dX4_ruleTold_38 : decode cX4_ruleTold 38 = .ok (.iconst 0, 1) := dk_3 (dk_at dksX4_ruleTold_1 14 rfl rfl)
theorem dX4_ruleTold_39 : decode cX4_ruleTold 39 = .ok (.iload_n 2, 1) := dk_28 (dk_at dksX4_ruleTold_1 15 rfl rfl)
theorem dX4_ruleTold_40 : decode cX4_ruleTold 40 = .ok (.invokevirtual 76, 3) := dk_182 0 76 (dk_at dksX4_ruleTold_1 16 rfl rfl)
theorem dX4_ruleTold_43 : decode cX4_ruleTold 43 = .ok (.aload_n 0, 1) := dk_42 (dk_at dksX4_ruleTold_1 19 rfl rfl)
theorem dX4_ruleTold_44 : decode cX4_ruleTold 44 = .ok (.aload_n 0, 1) := dk_42 (dk_at dksX4_ruleTold_1 20 rfl rfl)
theorem dX4_ruleTold_45 : decode cX4_ruleTold 45 = .ok (.getfield 90, 3) := dk_180 0 90 (dk_at dksX4_ruleTold_1 21 rfl rfl)
theorem dX4_ruleTold_48 : decode cX4_ruleTold 48 = .ok (.bipush 12, 2) := dk_16 12 (dk_at dksX4_ruleTold_2 0 rfl rfl)
theorem dX4_ruleTold_50 : decode cX4_ruleTold 50 = .ok (.if_icmp .ge 7, 3) := dk_162 0 7 (dk_at dksX4_ruleTold_2 2 rfl rfl)
theorem dX4_ruleTold_53 : decode cX4_ruleTold 53 = .ok (.iconst 1, 1) := dk_4 (dk_at dksX4_ruleTold_2 5 rfl rfl)
theorem dX4_ruleTold_54 : decode cX4_ruleTold 54 = .ok (.goto 4, 3) := dk_167 0 4 (dk_at dksX4_ruleTold_2 6 rfl rfl)
theorem dX4_ruleTold_57 : decode cX4_ruleTold 57 = .ok (.iconst 0, 1) := dk_3 (dk_at dksX4_ruleTold_2 9 rfl rfl)
theorem dX4_ruleTold_58 : decode cX4_ruleTold 58 = .ok (.iconst 4, 1) := dk_7 (dk_at dksX4_ruleTold_2 10 rfl rfl)
theorem dX4_ruleTold_59 : decode cX4_ruleTold 59 = .ok (.iload_n 2, 1) := dk_28 (dk_at dksX4_ruleTold_2 11 rfl rfl)
theorem dX4_ruleTold_60 : decode cX4_ruleTold 60 = .ok (.invokevirtual 76, 3) := dk_182 0 76 (dk_at dksX4_ruleTold_2 12 rfl rfl)
theorem dX4_ruleTold_63 : decode cX4_ruleTold 63 = .ok (.aload_n 0, 1) := dk_42 (dk_at dksX4_ruleTold_2 15 rfl rfl)
theorem dX4_ruleTold_64 : decode cX4_ruleTold 64 = .ok (.dup, 1) := dk_89 (dk_at dksX4_ruleTold_2 16 rfl rfl)
theorem dX4_ruleTold_65 : decode cX4_ruleTold 65 = .ok (.getfield 90, 3) := dk_180 0 90 (dk_at dksX4_ruleTold_2 17 rfl rfl)
theorem dX4_ruleTold_68 : decode cX4_ruleTold 68 = .ok (.iconst 1, 1) := dk_4 (dk_at dksX4_ruleTold_2 20 rfl rfl)
theorem dX4_ruleTold_69 : decode cX4_ruleTold 69 = .ok (.iadd, 1) := dk_96 (dk_at dksX4_ruleTold_2 21 rfl rfl)
theorem dX4_ruleTold_70 : decode cX4_ruleTold 70 = .ok (.putfield 90, 3) := dk_181 0 90 (dk_at dksX4_ruleTold_3 0 rfl rfl)
theorem dX4_ruleTold_73 : decode cX4_ruleTold 73 = .ok (.aload_n 0, 1) := dk_42 (dk_at dksX4_ruleTold_3 3 rfl rfl)
theorem dX4_ruleTold_74 : decode cX4_ruleTold 74 = .ok (.dup, 1) := dk_89 (dk_at dksX4_ruleTold_3 4 rfl rfl)
theorem dX4_ruleTold_75 : decode cX4_ruleTold 75 = .ok (.getfield 42, 3) := dk_180 0 42 (dk_at dksX4_ruleTold_3 5 rfl rfl)
theorem dX4_ruleTold_78 : decode cX4_ruleTold 78 = .ok (.iconst 3, 1) := dk_6 (dk_at dksX4_ruleTold_3 8 rfl rfl)
theorem dX4_ruleTold_79 : decode cX4_ruleTold 79 = .ok (.iadd, 1) := dk_96 (dk_at dksX4_ruleTold_3 9 rfl rfl)
theorem dX4_ruleTold_80 : decode cX4_ruleTold 80 = .ok (.putfield 42, 3) := dk_181 0 42 (dk_at dksX4_ruleTold_3 10 rfl rfl)
theorem dX4_ruleTold_83 : decode cX4_ruleTold 83 = .ok (.aload_n 1, 1) := dk_43 (dk_at dksX4_ruleTold_3 13 rfl rfl)
theorem dX4_ruleTold_84 : decode cX4_ruleTold 84 = .ok (.getfield 199, 3) := dk_180 0 199 (dk_at dksX4_ruleTold_3 14 rfl rfl)
theorem dX4_ruleTold_87 : decode cX4_ruleTold 87 = .ok (.aload_n 1, 1) := dk_43 (dk_at dksX4_ruleTold_3 17 rfl rfl)
theorem dX4_ruleTold_88 : decode cX4_ruleTold 88 = .ok (.getfield 203, 3) := dk_180 0 203 (dk_at dksX4_ruleTold_3 18 rfl rfl)
theorem dX4_ruleTold_91 : decode cX4_ruleTold 91 = .ok (.aload_n 0, 1) := dk_42 (dk_at dksX4_ruleTold_3 21 rfl rfl)
theorem dX4_ruleTold_92 : decode cX4_ruleTold 92 = .ok (.invokevirtual 204, 3) := dk_182 0 204 (dk_at dksX4_ruleTold_4 0 rfl rfl)
theorem dX4_ruleTold_95 : decode cX4_ruleTold 95 = .ok (.aastore, 1) := dk_83 (dk_at dksX4_ruleTold_4 3 rfl rfl)
theorem dX4_ruleTold_96 : decode cX4_ruleTold 96 = .ok (.aload_n 1, 1) := dk_43 (dk_at dksX4_ruleTold_4 4 rfl rfl)
theorem dX4_ruleTold_97 : decode cX4_ruleTold 97 = .ok (.dup, 1) := dk_89 (dk_at dksX4_ruleTold_4 5 rfl rfl)
theorem dX4_ruleTold_98 : decode cX4_ruleTold 98 = .ok (.getfield 203, 3) := dk_180 0 203 (dk_at dksX4_ruleTold_4 6 rfl rfl)
theorem dX4_ruleTold_101 : decode cX4_ruleTold 101 = .ok (.iconst 1, 1) := dk_4 (dk_at dksX4_ruleTold_4 9 rfl rfl)
theorem dX4_ruleTold_102 : decode cX4_ruleTold 102 = .ok (.iadd, 1) := dk_96 (dk_at dksX4_ruleTold_4 10 rfl rfl)
theorem dX4_ruleTold_103 : decode cX4_ruleTold 103 = .ok (.putfield 203, 3) := dk_181 0 203 (dk_at dksX4_ruleTold_4 11 rfl rfl)
theorem dX4_ruleTold_106 : decode cX4_ruleTold 106 = .ok (.aload_n 0, 1) := dk_42 (dk_at dksX4_ruleTold_4 14 rfl rfl)
theorem dX4_ruleTold_107 : decode cX4_ruleTold 107 = .ok (.bipush 59, 2) := dk_16 59 (dk_at dksX4_ruleTold_4 15 rfl rfl)
theorem dX4_ruleTold_109 : decode cX4_ruleTold 109 = .ok (.invokevirtual 161, 3) := dk_182 0 161 (dk_at dksX4_ruleTold_4 17 rfl rfl)
theorem dX4_ruleTold_112 : decode cX4_ruleTold 112 = .ok (.ifCond .ne (-104), 3) := dk_154 255 152 (dk_at dksX4_ruleTold_4 20 rfl rfl)
theorem dX4_ruleTold_115 : decode cX4_ruleTold 115 = .ok (.aload_n 0, 1) := dk_42 (dk_at dksX4_ruleTold_4 23 rfl rfl)
theorem dX4_ruleTold_116 : decode cX4_ruleTold 116 = .ok (.invokevirtual 164, 3) := dk_182 0 164 (dk_at dksX4_ruleTold_5 0 rfl rfl)
theorem dX4_ruleTold_119 : decode cX4_ruleTold 119 = .ok (.aload_n 1, 1) := dk_43 (dk_at dksX4_ruleTold_5 3 rfl rfl)
theorem dX4_ruleTold_120 : decode cX4_ruleTold 120 = .ok (.areturn, 1) := dk_176 (dk_at dksX4_ruleTold_5 4 rfl rfl)
abbrev cX4_clauseHere : ByteArray := prog_13_method_20_code
def yX4_clauseHere : MethodName := ⟨RX4, "clauseHere", "()LChairCane$Clause;"⟩
def dkwX4_clauseHere_1 : List UInt8 := [153, 0, 10, 42, 182, 0, 185, 167, 0, 4, 1, 181, 0, 189, 43, 176]
abbrev dktX4_clauseHere_1 : List UInt8 := dkwX4_clauseHere_1 ++ []
def dkwX4_clauseHere_0 : List UInt8 := [187, 0, 170, 89, 183, 0, 172, 76, 43, 42, 182, 0, 173, 181, 0, 177, 43, 42, 18, 180, 182, 0, 182]
abbrev dktX4_clauseHere_0 : List UInt8 := dkwX4_clauseHere_0 ++ dktX4_clauseHere_1
theorem dksX4_clauseHere_0 : cX4_clauseHere.data.toList.drop 0 = dktX4_clauseHere_0 := by decide +kernel
theorem dksX4_clauseHere_1 : cX4_clauseHere.data.toList.drop 23 = dktX4_clauseHere_1 := dk_seg dksX4_clauseHere_0 23 rfl rfl
theorem dX4_clauseHere_0 : decode cX4_clauseHere 0 = .ok (.new 170, 3) := dk_187 0 170 (dk_at dksX4_clauseHere_0 0 rfl rfl)
theorem dX4_clauseHere_3 : decode cX4_clauseHere 3 = .ok (.dup, 1) := dk_89 (dk_at dksX4_clauseHere_0 3 rfl rfl)
theorem dX4_clauseHere_4 : decode cX4_clauseHere 4 = .ok (.invokespecial 172, 3) := dk_183 0 172 (dk_at dksX4_clauseHere_0 4 rfl rfl)
theorem dX4_clauseHere_7 : decode cX4_clauseHere 7 = .ok (.astore_n 1, 1) := dk_76 (dk_at dksX4_clauseHere_0 7 rfl rfl)
theorem dX4_clauseHere_8 : decode cX4_clauseHere 8 = .ok (.aload_n 1, 1) := dk_43 (dk_at dksX4_clauseHere_0 8 rfl rfl)
theorem dX4_clauseHere_9 : decode cX4_clauseHere 9 = .ok (.aload_n 0, 1) := dk_42 (dk_at dksX4_clauseHere_0 9 rfl rfl)
theorem dX4_clauseHere_10 : decode cX4_clauseHere 10 = .ok (.invokevirtual 173, 3) := dk_182 0 173 (dk_at dksX4_clauseHere_0 10 rfl rfl)
theorem dX4_clauseHere_13 : decode cX4_clauseHere 13 = .ok (.putfield 177, 3) := dk_181 0 177 (dk_at dksX4_clauseHere_0 13 rfl rfl)
theorem dX4_clauseHere_16 : decode cX4_clauseHere 16 = .ok (.aload_n 1, 1) := dk_43 (dk_at dksX4_clauseHere_0 16 rfl rfl)
theorem dX4_clauseHere_17 : decode cX4_clauseHere 17 = .ok (.aload_n 0, 1) := dk_42 (dk_at dksX4_clauseHere_0 17 rfl rfl)
theorem dX4_clauseHere_18 : decode cX4_clauseHere 18 = .ok (.ldc 180, 2) := dk_18 180 (dk_at dksX4_clauseHere_0 18 rfl rfl)
theorem dX4_clauseHere_20 : decode cX4_clauseHere 20 = .ok (.invokevirtual 182, 3) := dk_182 0 182 (dk_at dksX4_clauseHere_0 20 rfl rfl)
theorem dX4_clauseHere_23 : decode cX4_clauseHere 23 = .ok (.ifCond .eq 10, 3) := dk_153 0 10 (dk_at dksX4_clauseHere_1 0 rfl rfl)
theorem dX4_clauseHere_26 : decode cX4_clauseHere 26 = .ok (.aload_n 0, 1) := dk_42 (dk_at dksX4_clauseHere_1 3 rfl rfl)
theorem dX4_clauseHere_27 : decode cX4_clauseHere 27 = .ok (.invokevirtual 185, 3) := dk_182 0 185 (dk_at dksX4_clauseHere_1 4 rfl rfl)
theorem dX4_clauseHere_30 : decode cX4_clauseHere 30 = .ok (.goto 4, 3) := dk_167 0 4 (dk_at dksX4_clauseHere_1 7 rfl rfl)
theorem dX4_clauseHere_33 : decode cX4_clauseHere 33 = .ok (.aconst_null, 1) := dk_1 (dk_at dksX4_clauseHere_1 10 rfl rfl)
theorem dX4_clauseHere_34 : decode cX4_clauseHere 34 = .ok (.putfield 189, 3) := dk_181 0 189 (dk_at dksX4_clauseHere_1 11 rfl rfl)
theorem dX4_clauseHere_37 : decode cX4_clauseHere 37 = .ok (.aload_n 1, 1) := dk_43 (dk_at dksX4_clauseHere_1 14 rfl rfl)
theorem dX4_clauseHere_38 : decode cX4_clauseHere 38 = .ok (.areturn, 1) := dk_176 (dk_at dksX4_clauseHere_1 15 rfl rfl)
abbrev cX4_sum : ByteArray := prog_13_method_26_code
def yX4_sum : MethodName := ⟨RX4, "sum", "()LChairCane$Value;"⟩
def dkwX4_sum_2 : List UInt8 := [187, 0, 247, 89, 43, 28, 42, 182, 0, 244, 183, 0, 249, 76, 167, 255, 201, 43, 176]
abbrev dktX4_sum_2 : List UInt8 := dkwX4_sum_2 ++ []
def dkwX4_sum_1 : List UInt8 := [180, 0, 3, 180, 0, 48, 42, 180, 0, 42, 51, 61, 42, 89, 180, 0, 42, 4, 96, 181, 0, 42]
abbrev dktX4_sum_1 : List UInt8 := dkwX4_sum_1 ++ dktX4_sum_2
def dkwX4_sum_0 : List UInt8 := [42, 182, 0, 244, 76, 42, 182, 0, 52, 16, 43, 159, 0, 12, 42, 182, 0, 52, 16, 45, 160, 0, 43, 42]
abbrev dktX4_sum_0 : List UInt8 := dkwX4_sum_0 ++ dktX4_sum_1
theorem dksX4_sum_0 : cX4_sum.data.toList.drop 0 = dktX4_sum_0 := by decide +kernel
theorem dksX4_sum_1 : cX4_sum.data.toList.drop 24 = dktX4_sum_1 := dk_seg dksX4_sum_0 24 rfl rfl
theorem dksX4_sum_2 : cX4_sum.data.toList.drop 46 = dktX4_sum_2 := dk_seg dksX4_sum_1 22 rfl rfl
theorem dX4_sum_0 : decode cX4_sum 0 = .ok (.aload_n 0, 1) := dk_42 (dk_at dksX4_sum_0 0 rfl rfl)
theorem dX4_sum_1 : decode cX4_sum 1 = .ok (.invokevirtual 244, 3) := dk_182 0 244 (dk_at dksX4_sum_0 1 rfl rfl)
theorem dX4_sum_4 : decode cX4_sum 4 = .ok (.astore_n 1, 1) := dk_76 (dk_at dksX4_sum_0 4 rfl rfl)
theorem dX4_sum_5 : decode cX4_sum 5 = .ok (.aload_n 0, 1) := dk_42 (dk_at dksX4_sum_0 5 rfl rfl)
theorem dX4_sum_6 : decode cX4_sum 6 = .ok (.invokevirtual 52, 3) := dk_182 0 52 (dk_at dksX4_sum_0 6 rfl rfl)
theorem dX4_sum_9 : decode cX4_sum 9 = .ok (.bipush 43, 2) := dk_16 43 (dk_at dksX4_sum_0 9 rfl rfl)
theorem dX4_sum_11 : decode cX4_sum 11 = .ok (.if_icmp .eq 12, 3) := dk_159 0 12 (dk_at dksX4_sum_0 11 rfl rfl)
theorem dX4_sum_14 : decode cX4_sum 14 = .ok (.aload_n 0, 1) := dk_42 (dk_at dksX4_sum_0 14 rfl rfl)
theorem dX4_sum_15 : decode cX4_sum 15 = .ok (.invokevirtual 52, 3) := dk_182 0 52 (dk_at dksX4_sum_0 15 rfl rfl)
theorem dX4_sum_18 : decode cX4_sum 18 = .ok (.bipush 45, 2) := dk_16 45 (dk_at dksX4_sum_0 18 rfl rfl)
theorem dX4_sum_20 : decode cX4_sum 20 = .ok (.if_icmp .ne 43, 3) := dk_160 0 43 (dk_at dksX4_sum_0 20 rfl rfl)
theorem dX4_sum_23 : decode cX4_sum 23 = .ok (.aload_n 0, 1) := dk_42 (dk_at dksX4_sum_0 23 rfl rfl)
theorem dX4_sum_24 : decode cX4_sum 24 = .ok (.getfield 3, 3) := dk_180 0 3 (dk_at dksX4_sum_1 0 rfl rfl)
theorem dX4_sum_27 : decode cX4_sum 27 = .ok (.getfield 48, 3) := dk_180 0 48 (dk_at dksX4_sum_1 3 rfl rfl)
theorem dX4_sum_30 : decode cX4_sum 30 = .ok (.aload_n 0, 1) := dk_42 (dk_at dksX4_sum_1 6 rfl rfl)
theorem dX4_sum_31 : decode cX4_sum 31 = .ok (.getfield 42, 3) := dk_180 0 42 (dk_at dksX4_sum_1 7 rfl rfl)
theorem dX4_sum_34 : decode cX4_sum 34 = .ok (.baload, 1) := dk_51 (dk_at dksX4_sum_1 10 rfl rfl)
theorem dX4_sum_35 : decode cX4_sum 35 = .ok (.istore_n 2, 1) := dk_61 (dk_at dksX4_sum_1 11 rfl rfl)
theorem dX4_sum_36 : decode cX4_sum 36 = .ok (.aload_n 0, 1) := dk_42 (dk_at dksX4_sum_1 12 rfl rfl)
theorem dX4_sum_37 : decode cX4_sum 37 = .ok (.dup, 1) := dk_89 (dk_at dksX4_sum_1 13 rfl rfl)
theorem dX4_sum_38 : decode cX4_sum 38 = .ok (.getfield 42, 3) := dk_180 0 42 (dk_at dksX4_sum_1 14 rfl rfl)
theorem dX4_sum_41 : decode cX4_sum 41 = .ok (.iconst 1, 1) := dk_4 (dk_at dksX4_sum_1 17 rfl rfl)
theorem dX4_sum_42 : decode cX4_sum 42 = .ok (.iadd, 1) := dk_96 (dk_at dksX4_sum_1 18 rfl rfl)
theorem dX4_sum_43 : decode cX4_sum 43 = .ok (.putfield 42, 3) := dk_181 0 42 (dk_at dksX4_sum_1 19 rfl rfl)
theorem dX4_sum_46 : decode cX4_sum 46 = .ok (.new 247, 3) := dk_187 0 247 (dk_at dksX4_sum_2 0 rfl rfl)
theorem dX4_sum_49 : decode cX4_sum 49 = .ok (.dup, 1) := dk_89 (dk_at dksX4_sum_2 3 rfl rfl)
theorem dX4_sum_50 : decode cX4_sum 50 = .ok (.aload_n 1, 1) := dk_43 (dk_at dksX4_sum_2 4 rfl rfl)
theorem dX4_sum_51 : decode cX4_sum 51 = .ok (.iload_n 2, 1) := dk_28 (dk_at dksX4_sum_2 5 rfl rfl)
theorem dX4_sum_52 : decode cX4_sum 52 = .ok (.aload_n 0, 1) := dk_42 (dk_at dksX4_sum_2 6 rfl rfl)
theorem dX4_sum_53 : decode cX4_sum 53 = .ok (.invokevirtual 244, 3) := dk_182 0 244 (dk_at dksX4_sum_2 7 rfl rfl)
theorem dX4_sum_56 : decode cX4_sum 56 = .ok (.invokespecial 249, 3) := dk_183 0 249 (dk_at dksX4_sum_2 10 rfl rfl)
theorem dX4_sum_59 : decode cX4_sum 59 = .ok (.astore_n 1, 1) := dk_76 (dk_at dksX4_sum_2 13 rfl rfl)
theorem dX4_sum_60 : decode cX4_sum 60 = .ok (.goto (-55), 3) := dk_167 255 201 (dk_at dksX4_sum_2 14 rfl rfl)
theorem dX4_sum_63 : decode cX4_sum 63 = .ok (.aload_n 1, 1) := dk_43 (dk_at dksX4_sum_2 17 rfl rfl)
theorem dX4_sum_64 : decode cX4_sum 64 = .ok (.areturn, 1) := dk_176 (dk_at dksX4_sum_2 18 rfl rfl)
abbrev cX4_term : ByteArray := prog_13_method_27_code
def yX4_term : MethodName := ⟨RX4, "term", "()LChairCane$Value;"⟩
def dkwX4_term_3 : List UInt8 := [167, 255, 192, 43, 176]
abbrev dktX4_term_3 : List UInt8 := dkwX4_term_3 ++ []
def dkwX4_term_2 : List UInt8 := [180, 0, 42, 4, 96, 181, 0, 42, 187, 0, 247, 89, 43, 28, 42, 182, 0, 250, 183, 0, 249, 76]
abbrev dktX4_term_2 : List UInt8 := dkwX4_term_2 ++ dktX4_term_3
def dkwX4_term_1 : List UInt8 := [182, 0, 52, 16, 37, 160, 0, 43, 42, 180, 0, 3, 180, 0, 48, 42, 180, 0, 42, 51, 61, 42, 89]
abbrev dktX4_term_1 : List UInt8 := dkwX4_term_1 ++ dktX4_term_2
def dkwX4_term_0 : List UInt8 := [42, 182, 0, 250, 76, 42, 182, 0, 52, 16, 42, 159, 0, 21, 42, 182, 0, 52, 16, 47, 159, 0, 12, 42]
abbrev dktX4_term_0 : List UInt8 := dkwX4_term_0 ++ dktX4_term_1
theorem dksX4_term_0 : cX4_term.data.toList.drop 0 = dktX4_term_0 := by decide +kernel
theorem dksX4_term_1 : cX4_term.data.toList.drop 24 = dktX4_term_1 := dk_seg dksX4_term_0 24 rfl rfl
theorem dksX4_term_2 : cX4_term.data.toList.drop 47 = dktX4_term_2 := dk_seg dksX4_term_1 23 rfl rfl
theorem dksX4_term_3 : cX4_term.data.toList.drop 69 = dktX4_term_3 := dk_seg dksX4_term_2 22 rfl rfl
theorem dX4_term_0 : decode cX4_term 0 = .ok (.aload_n 0, 1) := dk_42 (dk_at dksX4_term_0 0 rfl rfl)
theorem dX4_term_1 : decode cX4_term 1 = .ok (.invokevirtual 250, 3) := dk_182 0 250 (dk_at dksX4_term_0 1 rfl rfl)
theorem dX4_term_4 : decode cX4_term 4 = .ok (.astore_n 1, 1) := dk_76 (dk_at dksX4_term_0 4 rfl rfl)
theorem dX4_term_5 : decode cX4_term 5 = .ok (.aload_n 0, 1) := dk_42 (dk_at dksX4_term_0 5 rfl rfl)
theorem dX4_term_6 : decode cX4_term 6 = .ok (.invokevirtual 52, 3) := dk_182 0 52 (dk_at dksX4_term_0 6 rfl rfl)
theorem dX4_term_9 : decode cX4_term 9 = .ok (.bipush 42, 2) := dk_16 42 (dk_at dksX4_term_0 9 rfl rfl)
theorem dX4_term_11 : decode cX4_term 11 = .ok (.if_icmp .eq 21, 3) := dk_159 0 21 (dk_at dksX4_term_0 11 rfl rfl)
theorem dX4_term_14 : decode cX4_term 14 = .ok (.aload_n 0, 1) := dk_42 (dk_at dksX4_term_0 14 rfl rfl)
theorem dX4_term_15 : decode cX4_term 15 = .ok (.invokevirtual 52, 3) := dk_182 0 52 (dk_at dksX4_term_0 15 rfl rfl)
theorem dX4_term_18 : decode cX4_term 18 = .ok (.bipush 47, 2) := dk_16 47 (dk_at dksX4_term_0 18 rfl rfl)
theorem dX4_term_20 : decode cX4_term 20 = .ok (.if_icmp .eq 12, 3) := dk_159 0 12 (dk_at dksX4_term_0 20 rfl rfl)
theorem dX4_term_23 : decode cX4_term 23 = .ok (.aload_n 0, 1) := dk_42 (dk_at dksX4_term_0 23 rfl rfl)
theorem dX4_term_24 : decode cX4_term 24 = .ok (.invokevirtual 52, 3) := dk_182 0 52 (dk_at dksX4_term_1 0 rfl rfl)
theorem dX4_term_27 : decode cX4_term 27 = .ok (.bipush 37, 2) := dk_16 37 (dk_at dksX4_term_1 3 rfl rfl)
theorem dX4_term_29 : decode cX4_term 29 = .ok (.if_icmp .ne 43, 3) := dk_160 0 43 (dk_at dksX4_term_1 5 rfl rfl)
theorem dX4_term_32 : decode cX4_term 32 = .ok (.aload_n 0, 1) := dk_42 (dk_at dksX4_term_1 8 rfl rfl)
theorem dX4_term_33 : decode cX4_term 33 = .ok (.getfield 3, 3) := dk_180 0 3 (dk_at dksX4_term_1 9 rfl rfl)
theorem dX4_term_36 : decode cX4_term 36 = .ok (.getfield 48, 3) := dk_180 0 48 (dk_at dksX4_term_1 12 rfl rfl)
theorem dX4_term_39 : decode cX4_term 39 = .ok (.aload_n 0, 1) := dk_42 (dk_at dksX4_term_1 15 rfl rfl)
theorem dX4_term_40 : decode cX4_term 40 = .ok (.getfield 42, 3) := dk_180 0 42 (dk_at dksX4_term_1 16 rfl rfl)
theorem dX4_term_43 : decode cX4_term 43 = .ok (.baload, 1) := dk_51 (dk_at dksX4_term_1 19 rfl rfl)
theorem dX4_term_44 : decode cX4_term 44 = .ok (.istore_n 2, 1) := dk_61 (dk_at dksX4_term_1 20 rfl rfl)
theorem dX4_term_45 : decode cX4_term 45 = .ok (.aload_n 0, 1) := dk_42 (dk_at dksX4_term_1 21 rfl rfl)
theorem dX4_term_46 : decode cX4_term 46 = .ok (.dup, 1) := dk_89 (dk_at dksX4_term_1 22 rfl rfl)
theorem dX4_term_47 : decode cX4_term 47 = .ok (.getfield 42, 3) := dk_180 0 42 (dk_at dksX4_term_2 0 rfl rfl)
theorem dX4_term_50 : decode cX4_term 50 = .ok (.iconst 1, 1) := dk_4 (dk_at dksX4_term_2 3 rfl rfl)
theorem dX4_term_51 : decode cX4_term 51 = .ok (.iadd, 1) := dk_96 (dk_at dksX4_term_2 4 rfl rfl)
theorem dX4_term_52 : decode cX4_term 52 = .ok (.putfield 42, 3) := dk_181 0 42 (dk_at dksX4_term_2 5 rfl rfl)
theorem dX4_term_55 : decode cX4_term 55 = .ok (.new 247, 3) := dk_187 0 247 (dk_at dksX4_term_2 8 rfl rfl)
theorem dX4_term_58 : decode cX4_term 58 = .ok (.dup, 1) := dk_89 (dk_at dksX4_term_2 11 rfl rfl)
theorem dX4_term_59 : decode cX4_term 59 = .ok (.aload_n 1, 1) := dk_43 (dk_at dksX4_term_2 12 rfl rfl)
theorem dX4_term_60 : decode cX4_term 60 = .ok (.iload_n 2, 1) := dk_28 (dk_at dksX4_term_2 13 rfl rfl)
theorem dX4_term_61 : decode cX4_term 61 = .ok (.aload_n 0, 1) := dk_42 (dk_at dksX4_term_2 14 rfl rfl)
theorem dX4_term_62 : decode cX4_term 62 = .ok (.invokevirtual 250, 3) := dk_182 0 250 (dk_at dksX4_term_2 15 rfl rfl)
theorem dX4_term_65 : decode cX4_term 65 = .ok (.invokespecial 249, 3) := dk_183 0 249 (dk_at dksX4_term_2 18 rfl rfl)
theorem dX4_term_68 : decode cX4_term 68 = .ok (.astore_n 1, 1) := dk_76 (dk_at dksX4_term_2 21 rfl rfl)
theorem dX4_term_69 : decode cX4_term 69 = .ok (.goto (-64), 3) := dk_167 255 192 (dk_at dksX4_term_3 0 rfl rfl)
theorem dX4_term_72 : decode cX4_term 72 = .ok (.aload_n 1, 1) := dk_43 (dk_at dksX4_term_3 3 rfl rfl)
theorem dX4_term_73 : decode cX4_term 73 = .ok (.areturn, 1) := dk_176 (dk_at dksX4_term_3 4 rfl rfl)
abbrev cX4_value : ByteArray := prog_13_method_28_code
def yX4_value : MethodName := ⟨RX4, "value", "()LChairCane$Value;"⟩
def dkwX4_value_4 : List UInt8 := [89, 28, 183, 1, 5, 176]
abbrev dktX4_value_4 : List UInt8 := dkwX4_value_4 ++ []
def dkwX4_value_3 : List UInt8 := [182, 0, 236, 42, 89, 180, 0, 42, 42, 180, 0, 19, 28, 50, 182, 0, 59, 96, 181, 0, 42, 187, 1, 3]
abbrev dktX4_value_3 : List UInt8 := dkwX4_value_3 ++ dktX4_value_4
def dkwX4_value_2 : List UInt8 := [182, 0, 150, 61, 42, 28, 2, 159, 0, 7, 4, 167, 0, 4, 3, 3, 27, 182, 0, 76, 42, 27]
abbrev dktX4_value_2 : List UInt8 := dkwX4_value_2 ++ dktX4_value_3
def dkwX4_value_1 : List UInt8 := [182, 0, 108, 61, 42, 27, 182, 0, 236, 187, 0, 254, 89, 28, 133, 183, 1, 0, 176, 42, 42, 180, 0, 19]
abbrev dktX4_value_1 : List UInt8 := dkwX4_value_1 ++ dktX4_value_2
def dkwX4_value_0 : List UInt8 := [42, 182, 0, 52, 87, 42, 180, 0, 42, 60, 42, 27, 182, 0, 72, 153, 0, 26, 42, 3, 18, 253]
abbrev dktX4_value_0 : List UInt8 := dkwX4_value_0 ++ dktX4_value_1
theorem dksX4_value_0 : cX4_value.data.toList.drop 0 = dktX4_value_0 := by decide +kernel
theorem dksX4_value_1 : cX4_value.data.toList.drop 22 = dktX4_value_1 := dk_seg dksX4_value_0 22 rfl rfl
theorem dksX4_value_2 : cX4_value.data.toList.drop 46 = dktX4_value_2 := dk_seg dksX4_value_1 24 rfl rfl
theorem dksX4_value_3 : cX4_value.data.toList.drop 68 = dktX4_value_3 := dk_seg dksX4_value_2 22 rfl rfl
theorem dksX4_value_4 : cX4_value.data.toList.drop 92 = dktX4_value_4 := dk_seg dksX4_value_3 24 rfl rfl
theorem dX4_value_0 : decode cX4_value 0 = .ok (.aload_n 0, 1) := dk_42 (dk_at dksX4_value_0 0 rfl rfl)
theorem dX4_value_1 : decode cX4_value 1 = .ok (.invokevirtual 52, 3) := dk_182 0 52 (dk_at dksX4_value_0 1 rfl rfl)
theorem dX4_value_4 : decode cX4_value 4 = .ok (.pop, 1) := dk_87 (dk_at dksX4_value_0 4 rfl rfl)
theorem dX4_value_5 : decode cX4_value 5 = .ok (.aload_n 0, 1) := dk_42 (dk_at dksX4_value_0 5 rfl rfl)
theorem dX4_value_6 : decode cX4_value 6 = .ok (.getfield 42, 3) := dk_180 0 42 (dk_at dksX4_value_0 6 rfl rfl)
theorem dX4_value_9 : decode cX4_value 9 = .ok (.istore_n 1, 1) := dk_60 (dk_at dksX4_value_0 9 rfl rfl)
theorem dX4_value_10 : decode cX4_value 10 = .ok (.aload_n 0, 1) := dk_42 (dk_at dksX4_value_0 10 rfl rfl)
theorem dX4_value_11 : decode cX4_value 11 = .ok (.iload_n 1, 1) := dk_27 (dk_at dksX4_value_0 11 rfl rfl)
theorem dX4_value_12 : decode cX4_value 12 = .ok (.invokevirtual 72, 3) := dk_182 0 72 (dk_at dksX4_value_0 12 rfl rfl)
theorem dX4_value_15 : decode cX4_value 15 = .ok (.ifCond .eq 26, 3) := dk_153 0 26 (dk_at dksX4_value_0 15 rfl rfl)
theorem dX4_value_18 : decode cX4_value 18 = .ok (.aload_n 0, 1) := dk_42 (dk_at dksX4_value_0 18 rfl rfl)
theorem dX4_value_19 : decode cX4_value 19 = .ok (.iconst 0, 1) := dk_3 (dk_at dksX4_value_0 19 rfl rfl)
theorem dX4_value_20 : decode cX4_value 20 = .ok (.ldc 253, 2) := dk_18 253 (dk_at dksX4_value_0 20 rfl rfl)
theorem dX4_value_22 : decode cX4_value 22 = .ok (.invokevirtual 108, 3) := dk_182 0 108 (dk_at dksX4_value_1 0 rfl rfl)
theorem dX4_value_25 : decode cX4_value 25 = .ok (.istore_n 2, 1) := dk_61 (dk_at dksX4_value_1 3 rfl rfl)
theorem dX4_value_26 : decode cX4_value 26 = .ok (.aload_n 0, 1) := dk_42 (dk_at dksX4_value_1 4 rfl rfl)
theorem dX4_value_27 : decode cX4_value 27 = .ok (.iload_n 1, 1) := dk_27 (dk_at dksX4_value_1 5 rfl rfl)
theorem dX4_value_28 : decode cX4_value 28 = .ok (.invokevirtual 236, 3) := dk_182 0 236 (dk_at dksX4_value_1 6 rfl rfl)
theorem dX4_value_31 : decode cX4_value 31 = .ok (.new 254, 3) := dk_187 0 254 (dk_at dksX4_value_1 9 rfl rfl)
theorem dX4_value_34 : decode cX4_value 34 = .ok (.dup, 1) := dk_89 (dk_at dksX4_value_1 12 rfl rfl)
theorem dX4_value_35 : decode cX4_value 35 = .ok (.iload_n 2, 1) := dk_28 (dk_at dksX4_value_1 13 rfl rfl)
theorem dX4_value_36 : decode cX4_value 36 = .ok (.i2l, 1) := dk_133 (dk_at dksX4_value_1 14 rfl rfl)
theorem dX4_value_37 : decode cX4_value 37 = .ok (.invokespecial 256, 3) := dk_183 1 0 (dk_at dksX4_value_1 15 rfl rfl)
theorem dX4_value_40 : decode cX4_value 40 = .ok (.areturn, 1) := dk_176 (dk_at dksX4_value_1 18 rfl rfl)
theorem dX4_value_41 : decode cX4_value 41 = .ok (.aload_n 0, 1) := dk_42 (dk_at dksX4_value_1 19 rfl rfl)
theorem dX4_value_42 : decode cX4_value 42 = .ok (.aload_n 0, 1) := dk_42 (dk_at dksX4_value_1 20 rfl rfl)
theorem dX4_value_43 : decode cX4_value 43 = .ok (.getfield 19, 3) := dk_180 0 19 (dk_at dksX4_value_1 21 rfl rfl)
theorem dX4_value_46 : decode cX4_value 46 = .ok (.invokevirtual 150, 3) := dk_182 0 150 (dk_at dksX4_value_2 0 rfl rfl)
theorem dX4_value_49 : decode cX4_value 49 = .ok (.istore_n 2, 1) := dk_61 (dk_at dksX4_value_2 3 rfl rfl)
theorem dX4_value_50 : decode cX4_value 50 = .ok (.aload_n 0, 1) := dk_42 (dk_at dksX4_value_2 4 rfl rfl)
theorem dX4_value_51 : decode cX4_value 51 = .ok (.iload_n 2, 1) := dk_28 (dk_at dksX4_value_2 5 rfl rfl)
theorem dX4_value_52 : decode cX4_value 52 = .ok (.iconst (-1), 1) := dk_2 (dk_at dksX4_value_2 6 rfl rfl)
theorem dX4_value_53 : decode cX4_value 53 = .ok (.if_icmp .eq 7, 3) := dk_159 0 7 (dk_at dksX4_value_2 7 rfl rfl)
theorem dX4_value_56 : decode cX4_value 56 = .ok (.iconst 1, 1) := dk_4 (dk_at dksX4_value_2 10 rfl rfl)
theorem dX4_value_57 : decode cX4_value 57 = .ok (.goto 4, 3) := dk_167 0 4 (dk_at dksX4_value_2 11 rfl rfl)
theorem dX4_value_60 : decode cX4_value 60 = .ok (.iconst 0, 1) := dk_3 (dk_at dksX4_value_2 14 rfl rfl)
theorem dX4_value_61 : decode cX4_value 61 = .ok (.iconst 0, 1) := dk_3 (dk_at dksX4_value_2 15 rfl rfl)
theorem dX4_value_62 : decode cX4_value 62 = .ok (.iload_n 1, 1) := dk_27 (dk_at dksX4_value_2 16 rfl rfl)
theorem dX4_value_63 : decode cX4_value 63 = .ok (.invokevirtual 76, 3) := dk_182 0 76 (dk_at dksX4_value_2 17 rfl rfl)
theorem dX4_value_66 : decode cX4_value 66 = .ok (.aload_n 0, 1) := dk_42 (dk_at dksX4_value_2 20 rfl rfl)
theorem dX4_value_67 : decode cX4_value 67 = .ok (.iload_n 1, 1) := dk_27 (dk_at dksX4_value_2 21 rfl rfl)
theorem dX4_value_68 : decode cX4_value 68 = .ok (.invokevirtual 236, 3) := dk_182 0 236 (dk_at dksX4_value_3 0 rfl rfl)
theorem dX4_value_71 : decode cX4_value 71 = .ok (.aload_n 0, 1) := dk_42 (dk_at dksX4_value_3 3 rfl rfl)
theorem dX4_value_72 : decode cX4_value 72 = .ok (.dup, 1) := dk_89 (dk_at dksX4_value_3 4 rfl rfl)
theorem dX4_value_73 : decode cX4_value 73 = .ok (.getfield 42, 3) := dk_180 0 42 (dk_at dksX4_value_3 5 rfl rfl)
theorem dX4_value_76 : decode cX4_value 76 = .ok (.aload_n 0, 1) := dk_42 (dk_at dksX4_value_3 8 rfl rfl)
theorem dX4_value_77 : decode cX4_value 77 = .ok (.getfield 19, 3) := dk_180 0 19 (dk_at dksX4_value_3 9 rfl rfl)
theorem dX4_value_80 : decode cX4_value 80 = .ok (.iload_n 2, 1) := dk_28 (dk_at dksX4_value_3 12 rfl rfl)
theorem dX4_value_81 : decode cX4_value 81 = .ok (.aaload, 1) := dk_50 (dk_at dksX4_value_3 13 rfl rfl)
theorem dX4_value_82 : decode cX4_value 82 = .ok (.invokevirtual 59, 3) := dk_182 0 59 (dk_at dksX4_value_3 14 rfl rfl)
theorem dX4_value_85 : decode cX4_value 85 = .ok (.iadd, 1) := dk_96 (dk_at dksX4_value_3 17 rfl rfl)
theorem dX4_value_86 : decode cX4_value 86 = .ok (.putfield 42, 3) := dk_181 0 42 (dk_at dksX4_value_3 18 rfl rfl)
theorem dX4_value_89 : decode cX4_value 89 = .ok (.new 259, 3) := dk_187 1 3 (dk_at dksX4_value_3 21 rfl rfl)
theorem dX4_value_92 : decode cX4_value 92 = .ok (.dup, 1) := dk_89 (dk_at dksX4_value_4 0 rfl rfl)
theorem dX4_value_93 : decode cX4_value 93 = .ok (.iload_n 2, 1) := dk_28 (dk_at dksX4_value_4 1 rfl rfl)
theorem dX4_value_94 : decode cX4_value 94 = .ok (.invokespecial 261, 3) := dk_183 1 5 (dk_at dksX4_value_4 2 rfl rfl)
theorem dX4_value_97 : decode cX4_value 97 = .ok (.areturn, 1) := dk_176 (dk_at dksX4_value_4 5 rfl rfl)
abbrev cX4_makes : ByteArray := prog_13_method_11_code
def yX4_makes : MethodName := ⟨RX4, "makes", "(I)V"⟩
def dkwX4_makes_1 : List UInt8 := [180, 0, 84, 4, 96, 181, 0, 84, 177]
abbrev dktX4_makes_1 : List UInt8 := dkwX4_makes_1 ++ []
def dkwX4_makes_0 : List UInt8 := [42, 42, 180, 0, 84, 16, 60, 162, 0, 7, 4, 167, 0, 4, 3, 6, 27, 182, 0, 76, 42, 89]
abbrev dktX4_makes_0 : List UInt8 := dkwX4_makes_0 ++ dktX4_makes_1
theorem dksX4_makes_0 : cX4_makes.data.toList.drop 0 = dktX4_makes_0 := by decide +kernel
theorem dksX4_makes_1 : cX4_makes.data.toList.drop 22 = dktX4_makes_1 := dk_seg dksX4_makes_0 22 rfl rfl
theorem dX4_makes_0 : decode cX4_makes 0 = .ok (.aload_n 0, 1) := dk_42 (dk_at dksX4_makes_0 0 rfl rfl)
theorem dX4_makes_1 : decode cX4_makes 1 = .ok (.aload_n 0, 1) := dk_42 (dk_at dksX4_makes_0 1 rfl rfl)
theorem dX4_makes_2 : decode cX4_makes 2 = .ok (.getfield 84, 3) := dk_180 0 84 (dk_at dksX4_makes_0 2 rfl rfl)
theorem dX4_makes_5 : decode cX4_makes 5 = .ok (.bipush 60, 2) := dk_16 60 (dk_at dksX4_makes_0 5 rfl rfl)
theorem dX4_makes_7 : decode cX4_makes 7 = .ok (.if_icmp .ge 7, 3) := dk_162 0 7 (dk_at dksX4_makes_0 7 rfl rfl)
theorem dX4_makes_10 : decode cX4_makes 10 = .ok (.iconst 1, 1) := dk_4 (dk_at dksX4_makes_0 10 rfl rfl)
theorem dX4_makes_11 : decode cX4_makes 11 = .ok (.goto 4, 3) := dk_167 0 4 (dk_at dksX4_makes_0 11 rfl rfl)
theorem dX4_makes_14 : decode cX4_makes 14 = .ok (.iconst 0, 1) := dk_3 (dk_at dksX4_makes_0 14 rfl rfl)
theorem dX4_makes_15 : decode cX4_makes 15 = .ok (.iconst 3, 1) := dk_6 (dk_at dksX4_makes_0 15 rfl rfl)
theorem dX4_makes_16 : decode cX4_makes 16 = .ok (.iload_n 1, 1) := dk_27 (dk_at dksX4_makes_0 16 rfl rfl)
theorem dX4_makes_17 : decode cX4_makes 17 = .ok (.invokevirtual 76, 3) := dk_182 0 76 (dk_at dksX4_makes_0 17 rfl rfl)
theorem dX4_makes_20 : decode cX4_makes 20 = .ok (.aload_n 0, 1) := dk_42 (dk_at dksX4_makes_0 20 rfl rfl)
theorem dX4_makes_21 : decode cX4_makes 21 = .ok (.dup, 1) := dk_89 (dk_at dksX4_makes_0 21 rfl rfl)
theorem dX4_makes_22 : decode cX4_makes 22 = .ok (.getfield 84, 3) := dk_180 0 84 (dk_at dksX4_makes_1 0 rfl rfl)
theorem dX4_makes_25 : decode cX4_makes 25 = .ok (.iconst 1, 1) := dk_4 (dk_at dksX4_makes_1 3 rfl rfl)
theorem dX4_makes_26 : decode cX4_makes 26 = .ok (.iadd, 1) := dk_96 (dk_at dksX4_makes_1 4 rfl rfl)
theorem dX4_makes_27 : decode cX4_makes 27 = .ok (.putfield 84, 3) := dk_181 0 84 (dk_at dksX4_makes_1 5 rfl rfl)
theorem dX4_makes_30 : decode cX4_makes 30 = .ok (.return_, 1) := dk_177 (dk_at dksX4_makes_1 8 rfl rfl)
abbrev cX4_takesWord : ByteArray := prog_13_method_7_code
def yX4_takesWord : MethodName := ⟨RX4, "takesWord", "(Ljava/lang/String;)Z"⟩
def dkwX4_takesWord_1 : List UInt8 := [172]
abbrev dktX4_takesWord_1 : List UInt8 := dkwX4_takesWord_1 ++ []
def dkwX4_takesWord_0 : List UInt8 := [42, 43, 182, 0, 68, 154, 0, 5, 3, 172, 42, 89, 180, 0, 42, 43, 182, 0, 59, 96, 181, 0, 42, 4]
abbrev dktX4_takesWord_0 : List UInt8 := dkwX4_takesWord_0 ++ dktX4_takesWord_1
theorem dksX4_takesWord_0 : cX4_takesWord.data.toList.drop 0 = dktX4_takesWord_0 := by decide +kernel
theorem dksX4_takesWord_1 : cX4_takesWord.data.toList.drop 24 = dktX4_takesWord_1 := dk_seg dksX4_takesWord_0 24 rfl rfl
theorem dX4_takesWord_0 : decode cX4_takesWord 0 = .ok (.aload_n 0, 1) := dk_42 (dk_at dksX4_takesWord_0 0 rfl rfl)
theorem dX4_takesWord_1 : decode cX4_takesWord 1 = .ok (.aload_n 1, 1) := dk_43 (dk_at dksX4_takesWord_0 1 rfl rfl)
theorem dX4_takesWord_2 : decode cX4_takesWord 2 = .ok (.invokevirtual 68, 3) := dk_182 0 68 (dk_at dksX4_takesWord_0 2 rfl rfl)
theorem dX4_takesWord_5 : decode cX4_takesWord 5 = .ok (.ifCond .ne 5, 3) := dk_154 0 5 (dk_at dksX4_takesWord_0 5 rfl rfl)
theorem dX4_takesWord_8 : decode cX4_takesWord 8 = .ok (.iconst 0, 1) := dk_3 (dk_at dksX4_takesWord_0 8 rfl rfl)
theorem dX4_takesWord_9 : decode cX4_takesWord 9 = .ok (.ireturn, 1) := dk_172 (dk_at dksX4_takesWord_0 9 rfl rfl)
theorem dX4_takesWord_10 : decode cX4_takesWord 10 = .ok (.aload_n 0, 1) := dk_42 (dk_at dksX4_takesWord_0 10 rfl rfl)
theorem dX4_takesWord_11 : decode cX4_takesWord 11 = .ok (.dup, 1) := dk_89 (dk_at dksX4_takesWord_0 11 rfl rfl)
theorem dX4_takesWord_12 : decode cX4_takesWord 12 = .ok (.getfield 42, 3) := dk_180 0 42 (dk_at dksX4_takesWord_0 12 rfl rfl)
theorem dX4_takesWord_15 : decode cX4_takesWord 15 = .ok (.aload_n 1, 1) := dk_43 (dk_at dksX4_takesWord_0 15 rfl rfl)
theorem dX4_takesWord_16 : decode cX4_takesWord 16 = .ok (.invokevirtual 59, 3) := dk_182 0 59 (dk_at dksX4_takesWord_0 16 rfl rfl)
theorem dX4_takesWord_19 : decode cX4_takesWord 19 = .ok (.iadd, 1) := dk_96 (dk_at dksX4_takesWord_0 19 rfl rfl)
theorem dX4_takesWord_20 : decode cX4_takesWord 20 = .ok (.putfield 42, 3) := dk_181 0 42 (dk_at dksX4_takesWord_0 20 rfl rfl)
theorem dX4_takesWord_23 : decode cX4_takesWord 23 = .ok (.iconst 1, 1) := dk_4 (dk_at dksX4_takesWord_0 23 rfl rfl)
theorem dX4_takesWord_24 : decode cX4_takesWord 24 = .ok (.ireturn, 1) := dk_172 (dk_at dksX4_takesWord_1 0 rfl rfl)
abbrev cX4_tested : ByteArray := prog_13_method_22_code
def yX4_tested : MethodName := ⟨RX4, "tested", "()LChairCane$Test;"⟩
def dkwX4_tested_1 : List UInt8 := [183, 0, 215, 76, 167, 255, 233, 43, 176]
abbrev dktX4_tested_1 : List UInt8 := dkwX4_tested_1 ++ []
def dkwX4_tested_0 : List UInt8 := [42, 182, 0, 208, 76, 42, 18, 211, 182, 0, 182, 153, 0, 20, 187, 0, 213, 89, 43, 3, 42, 182, 0, 208]
abbrev dktX4_tested_0 : List UInt8 := dkwX4_tested_0 ++ dktX4_tested_1
theorem dksX4_tested_0 : cX4_tested.data.toList.drop 0 = dktX4_tested_0 := by decide +kernel
theorem dksX4_tested_1 : cX4_tested.data.toList.drop 24 = dktX4_tested_1 := dk_seg dksX4_tested_0 24 rfl rfl
theorem dX4_tested_0 : decode cX4_tested 0 = .ok (.aload_n 0, 1) := dk_42 (dk_at dksX4_tested_0 0 rfl rfl)
theorem dX4_tested_1 : decode cX4_tested 1 = .ok (.invokevirtual 208, 3) := dk_182 0 208 (dk_at dksX4_tested_0 1 rfl rfl)
theorem dX4_tested_4 : decode cX4_tested 4 = .ok (.astore_n 1, 1) := dk_76 (dk_at dksX4_tested_0 4 rfl rfl)
theorem dX4_tested_5 : decode cX4_tested 5 = .ok (.aload_n 0, 1) := dk_42 (dk_at dksX4_tested_0 5 rfl rfl)
theorem dX4_tested_6 : decode cX4_tested 6 = .ok (.ldc 211, 2) := dk_18 211 (dk_at dksX4_tested_0 6 rfl rfl)
theorem dX4_tested_8 : decode cX4_tested 8 = .ok (.invokevirtual 182, 3) := dk_182 0 182 (dk_at dksX4_tested_0 8 rfl rfl)
theorem dX4_tested_11 : decode cX4_tested 11 = .ok (.ifCond .eq 20, 3) := dk_153 0 20 (dk_at dksX4_tested_0 11 rfl rfl)
theorem dX4_tested_14 : decode cX4_tested 14 = .ok (.new 213, 3) := dk_187 0 213 (dk_at dksX4_tested_0 14 rfl rfl)
theorem dX4_tested_17 : decode cX4_tested 17 = .ok (.dup, 1) := dk_89 (dk_at dksX4_tested_0 17 rfl rfl)
theorem dX4_tested_18 : decode cX4_tested 18 = .ok (.aload_n 1, 1) := dk_43 (dk_at dksX4_tested_0 18 rfl rfl)
theorem dX4_tested_19 : decode cX4_tested 19 = .ok (.iconst 0, 1) := dk_3 (dk_at dksX4_tested_0 19 rfl rfl)
theorem dX4_tested_20 : decode cX4_tested 20 = .ok (.aload_n 0, 1) := dk_42 (dk_at dksX4_tested_0 20 rfl rfl)
theorem dX4_tested_21 : decode cX4_tested 21 = .ok (.invokevirtual 208, 3) := dk_182 0 208 (dk_at dksX4_tested_0 21 rfl rfl)
theorem dX4_tested_24 : decode cX4_tested 24 = .ok (.invokespecial 215, 3) := dk_183 0 215 (dk_at dksX4_tested_1 0 rfl rfl)
theorem dX4_tested_27 : decode cX4_tested 27 = .ok (.astore_n 1, 1) := dk_76 (dk_at dksX4_tested_1 3 rfl rfl)
theorem dX4_tested_28 : decode cX4_tested 28 = .ok (.goto (-23), 3) := dk_167 255 233 (dk_at dksX4_tested_1 4 rfl rfl)
theorem dX4_tested_31 : decode cX4_tested 31 = .ok (.aload_n 1, 1) := dk_43 (dk_at dksX4_tested_1 7 rfl rfl)
theorem dX4_tested_32 : decode cX4_tested 32 = .ok (.areturn, 1) := dk_176 (dk_at dksX4_tested_1 8 rfl rfl)
abbrev cX4_parted : ByteArray := prog_13_method_23_code
def yX4_parted : MethodName := ⟨RX4, "parted", "()LChairCane$Test;"⟩
def dkwX4_parted_1 : List UInt8 := [183, 0, 215, 76, 167, 255, 233, 43, 176]
abbrev dktX4_parted_1 : List UInt8 := dkwX4_parted_1 ++ []
def dkwX4_parted_0 : List UInt8 := [42, 182, 0, 218, 76, 42, 18, 221, 182, 0, 182, 153, 0, 20, 187, 0, 213, 89, 43, 4, 42, 182, 0, 218]
abbrev dktX4_parted_0 : List UInt8 := dkwX4_parted_0 ++ dktX4_parted_1
theorem dksX4_parted_0 : cX4_parted.data.toList.drop 0 = dktX4_parted_0 := by decide +kernel
theorem dksX4_parted_1 : cX4_parted.data.toList.drop 24 = dktX4_parted_1 := dk_seg dksX4_parted_0 24 rfl rfl
theorem dX4_parted_0 : decode cX4_parted 0 = .ok (.aload_n 0, 1) := dk_42 (dk_at dksX4_parted_0 0 rfl rfl)
theorem dX4_parted_1 : decode cX4_parted 1 = .ok (.invokevirtual 218, 3) := dk_182 0 218 (dk_at dksX4_parted_0 1 rfl rfl)
theorem dX4_parted_4 : decode cX4_parted 4 = .ok (.astore_n 1, 1) := dk_76 (dk_at dksX4_parted_0 4 rfl rfl)
theorem dX4_parted_5 : decode cX4_parted 5 = .ok (.aload_n 0, 1) := dk_42 (dk_at dksX4_parted_0 5 rfl rfl)
theorem dX4_parted_6 : decode cX4_parted 6 = .ok (.ldc 221, 2) := dk_18 221 (dk_at dksX4_parted_0 6 rfl rfl)
theorem dX4_parted_8 : decode cX4_parted 8 = .ok (.invokevirtual 182, 3) := dk_182 0 182 (dk_at dksX4_parted_0 8 rfl rfl)
theorem dX4_parted_11 : decode cX4_parted 11 = .ok (.ifCond .eq 20, 3) := dk_153 0 20 (dk_at dksX4_parted_0 11 rfl rfl)
theorem dX4_parted_14 : decode cX4_parted 14 = .ok (.new 213, 3) := dk_187 0 213 (dk_at dksX4_parted_0 14 rfl rfl)
theorem dX4_parted_17 : decode cX4_parted 17 = .ok (.dup, 1) := dk_89 (dk_at dksX4_parted_0 17 rfl rfl)
theorem dX4_parted_18 : decode cX4_parted 18 = .ok (.aload_n 1, 1) := dk_43 (dk_at dksX4_parted_0 18 rfl rfl)
theorem dX4_parted_19 : decode cX4_parted 19 = .ok (.iconst 1, 1) := dk_4 (dk_at dksX4_parted_0 19 rfl rfl)
theorem dX4_parted_20 : decode cX4_parted 20 = .ok (.aload_n 0, 1) := dk_42 (dk_at dksX4_parted_0 20 rfl rfl)
theorem dX4_parted_21 : decode cX4_parted 21 = .ok (.invokevirtual 218, 3) := dk_182 0 218 (dk_at dksX4_parted_0 21 rfl rfl)
theorem dX4_parted_24 : decode cX4_parted 24 = .ok (.invokespecial 215, 3) := dk_183 0 215 (dk_at dksX4_parted_1 0 rfl rfl)
theorem dX4_parted_27 : decode cX4_parted 27 = .ok (.astore_n 1, 1) := dk_76 (dk_at dksX4_parted_1 3 rfl rfl)
theorem dX4_parted_28 : decode cX4_parted 28 = .ok (.goto (-23), 3) := dk_167 255 233 (dk_at dksX4_parted_1 4 rfl rfl)
theorem dX4_parted_31 : decode cX4_parted 31 = .ok (.aload_n 1, 1) := dk_43 (dk_at dksX4_parted_1 7 rfl rfl)
theorem dX4_parted_32 : decode cX4_parted 32 = .ok (.areturn, 1) := dk_176 (dk_at dksX4_parted_1 8 rfl rfl)
abbrev cX4_fact : ByteArray := prog_13_method_24_code
def yX4_fact : MethodName := ⟨RX4, "fact", "()LChairCane$Test;"⟩
def dkwX4_fact_6 : List UInt8 := [187, 0, 239, 89, 45, 21, 5, 42, 182, 0, 173, 183, 0, 241, 176]
abbrev dktX4_fact_6 : List UInt8 := dkwX4_fact_6 ++ []
def dkwX4_fact_5 : List UInt8 := [182, 0, 52, 87, 42, 180, 0, 42, 54, 4, 42, 182, 0, 233, 54, 5, 42, 21, 4, 182, 0, 236]
abbrev dktX4_fact_5 : List UInt8 := dkwX4_fact_5 ++ dktX4_fact_6
def dkwX4_fact_4 : List UInt8 := [180, 0, 42, 182, 0, 76, 42, 89, 180, 0, 87, 4, 100, 181, 0, 87, 45, 176, 42, 182, 0, 173, 78, 42]
abbrev dktX4_fact_4 : List UInt8 := dkwX4_fact_4 ++ dktX4_fact_5
def dkwX4_fact_3 : List UInt8 := [180, 0, 42, 4, 96, 181, 0, 42, 42, 182, 0, 185, 78, 42, 42, 16, 93, 182, 0, 161, 3, 42]
abbrev dktX4_fact_3 : List UInt8 := dkwX4_fact_3 ++ dktX4_fact_4
def dkwX4_fact_2 : List UInt8 := [180, 0, 87, 4, 100, 181, 0, 87, 45, 176, 27, 16, 91, 160, 0, 50, 42, 28, 182, 0, 225, 42, 89]
abbrev dktX4_fact_2 : List UInt8 := dkwX4_fact_2 ++ dktX4_fact_3
def dkwX4_fact_1 : List UInt8 := [42, 89, 180, 0, 42, 6, 96, 181, 0, 42, 187, 0, 228, 89, 42, 182, 0, 218, 183, 0, 230, 78, 42, 89]
abbrev dktX4_fact_1 : List UInt8 := dkwX4_fact_1 ++ dktX4_fact_2
def dkwX4_fact_0 : List UInt8 := [42, 182, 0, 52, 60, 42, 180, 0, 42, 61, 42, 18, 223, 182, 0, 68, 153, 0, 42, 42, 28, 182, 0, 225]
abbrev dktX4_fact_0 : List UInt8 := dkwX4_fact_0 ++ dktX4_fact_1
theorem dksX4_fact_0 : cX4_fact.data.toList.drop 0 = dktX4_fact_0 := by decide +kernel
theorem dksX4_fact_1 : cX4_fact.data.toList.drop 24 = dktX4_fact_1 := dk_seg dksX4_fact_0 24 rfl rfl
theorem dksX4_fact_2 : cX4_fact.data.toList.drop 48 = dktX4_fact_2 := dk_seg dksX4_fact_1 24 rfl rfl
theorem dksX4_fact_3 : cX4_fact.data.toList.drop 71 = dktX4_fact_3 := dk_seg dksX4_fact_2 23 rfl rfl
theorem dksX4_fact_4 : cX4_fact.data.toList.drop 93 = dktX4_fact_4 := dk_seg dksX4_fact_3 22 rfl rfl
theorem dksX4_fact_5 : cX4_fact.data.toList.drop 117 = dktX4_fact_5 := dk_seg dksX4_fact_4 24 rfl rfl
theorem dksX4_fact_6 : cX4_fact.data.toList.drop 139 = dktX4_fact_6 := dk_seg dksX4_fact_5 22 rfl rfl
theorem dX4_fact_0 : decode cX4_fact 0 = .ok (.aload_n 0, 1) := dk_42 (dk_at dksX4_fact_0 0 rfl rfl)
theorem dX4_fact_1 : decode cX4_fact 1 = .ok (.invokevirtual 52, 3) := dk_182 0 52 (dk_at dksX4_fact_0 1 rfl rfl)
theorem dX4_fact_4 : decode cX4_fact 4 = .ok (.istore_n 1, 1) := dk_60 (dk_at dksX4_fact_0 4 rfl rfl)
theorem dX4_fact_5 : decode cX4_fact 5 = .ok (.aload_n 0, 1) := dk_42 (dk_at dksX4_fact_0 5 rfl rfl)
theorem dX4_fact_6 : decode cX4_fact 6 = .ok (.getfield 42, 3) := dk_180 0 42 (dk_at dksX4_fact_0 6 rfl rfl)
theorem dX4_fact_9 : decode cX4_fact 9 = .ok (.istore_n 2, 1) := dk_61 (dk_at dksX4_fact_0 9 rfl rfl)
theorem dX4_fact_10 : decode cX4_fact 10 = .ok (.aload_n 0, 1) := dk_42 (dk_at dksX4_fact_0 10 rfl rfl)
theorem dX4_fact_11 : decode cX4_fact 11 = .ok (.ldc 223, 2) := dk_18 223 (dk_at dksX4_fact_0 11 rfl rfl)
theorem dX4_fact_13 : decode cX4_fact 13 = .ok (.invokevirtual 68, 3) := dk_182 0 68 (dk_at dksX4_fact_0 13 rfl rfl)
theorem dX4_fact_16 : decode cX4_fact 16 = .ok (.ifCond .eq 42, 3) := dk_153 0 42 (dk_at dksX4_fact_0 16 rfl rfl)
theorem dX4_fact_19 : decode cX4_fact 19 = .ok (.aload_n 0, 1) := dk_42 (dk_at dksX4_fact_0 19 rfl rfl)
theorem dX4_fact_20 : decode cX4_fact 20 = .ok (.iload_n 2, 1) := dk_28 (dk_at dksX4_fact_0 20 rfl rfl)
theorem dX4_fact_21 : decode cX4_fact 21 = .ok (.invokevirtual 225, 3) := dk_182 0 225 (dk_at dksX4_fact_0 21 rfl rfl)
theorem dX4_fact_24 : decode cX4_fact 24 = .ok (.aload_n 0, 1) := dk_42 (dk_at dksX4_fact_1 0 rfl rfl)
theorem dX4_fact_25 : decode cX4_fact 25 = .ok (.dup, 1) := dk_89 (dk_at dksX4_fact_1 1 rfl rfl)
theorem dX4_fact_26 : decode cX4_fact 26 = .ok (.getfield 42, 3) := dk_180 0 42 (dk_at dksX4_fact_1 2 rfl rfl)
theorem dX4_fact_29 : decode cX4_fact 29 = .ok (.iconst 3, 1) := dk_6 (dk_at dksX4_fact_1 5 rfl rfl)
theorem dX4_fact_30 : decode cX4_fact 30 = .ok (.iadd, 1) := dk_96 (dk_at dksX4_fact_1 6 rfl rfl)
theorem dX4_fact_31 : decode cX4_fact 31 = .ok (.putfield 42, 3) := dk_181 0 42 (dk_at dksX4_fact_1 7 rfl rfl)
theorem dX4_fact_34 : decode cX4_fact 34 = .ok (.new 228, 3) := dk_187 0 228 (dk_at dksX4_fact_1 10 rfl rfl)
theorem dX4_fact_37 : decode cX4_fact 37 = .ok (.dup, 1) := dk_89 (dk_at dksX4_fact_1 13 rfl rfl)
theorem dX4_fact_38 : decode cX4_fact 38 = .ok (.aload_n 0, 1) := dk_42 (dk_at dksX4_fact_1 14 rfl rfl)
theorem dX4_fact_39 : decode cX4_fact 39 = .ok (.invokevirtual 218, 3) := dk_182 0 218 (dk_at dksX4_fact_1 15 rfl rfl)
theorem dX4_fact_42 : decode cX4_fact 42 = .ok (.invokespecial 230, 3) := dk_183 0 230 (dk_at dksX4_fact_1 18 rfl rfl)
theorem dX4_fact_45 : decode cX4_fact 45 = .ok (.astore_n 3, 1) := dk_78 (dk_at dksX4_fact_1 21 rfl rfl)
theorem dX4_fact_46 : decode cX4_fact 46 = .ok (.aload_n 0, 1) := dk_42 (dk_at dksX4_fact_1 22 rfl rfl)
theorem dX4_fact_47 : decode cX4_fact 47 = .ok (.dup, 1) := dk_89 (dk_at dksX4_fact_1 23 rfl rfl)
theorem dX4_fact_48 : decode cX4_fact 48 = .ok (.getfield 87, 3) := dk_180 0 87 (dk_at dksX4_fact_2 0 rfl rfl)
theorem dX4_fact_51 : decode cX4_fact 51 = .ok (.iconst 1, 1) := dk_4 (dk_at dksX4_fact_2 3 rfl rfl)
theorem dX4_fact_52 : decode cX4_fact 52 = .ok (.isub, 1) := dk_100 (dk_at dksX4_fact_2 4 rfl rfl)
theorem dX4_fact_53 : decode cX4_fact 53 = .ok (.putfield 87, 3) := dk_181 0 87 (dk_at dksX4_fact_2 5 rfl rfl)
theorem dX4_fact_56 : decode cX4_fact 56 = .ok (.aload_n 3, 1) := dk_45 (dk_at dksX4_fact_2 8 rfl rfl)
theorem dX4_fact_57 : decode cX4_fact 57 = .ok (.areturn, 1) := dk_176 (dk_at dksX4_fact_2 9 rfl rfl)
theorem dX4_fact_58 : decode cX4_fact 58 = .ok (.iload_n 1, 1) := dk_27 (dk_at dksX4_fact_2 10 rfl rfl)
theorem dX4_fact_59 : decode cX4_fact 59 = .ok (.bipush 91, 2) := dk_16 91 (dk_at dksX4_fact_2 11 rfl rfl)
theorem dX4_fact_61 : decode cX4_fact 61 = .ok (.if_icmp .ne 50, 3) := dk_160 0 50 (dk_at dksX4_fact_2 13 rfl rfl)
theorem dX4_fact_64 : decode cX4_fact 64 = .ok (.aload_n 0, 1) := dk_42 (dk_at dksX4_fact_2 16 rfl rfl)
theorem dX4_fact_65 : decode cX4_fact 65 = .ok (.iload_n 2, 1) := dk_28 (dk_at dksX4_fact_2 17 rfl rfl)
theorem dX4_fact_66 : decode cX4_fact 66 = .ok (.invokevirtual 225, 3) := dk_182 0 225 (dk_at dksX4_fact_2 18 rfl rfl)
theorem dX4_fact_69 : decode cX4_fact 69 = .ok (.aload_n 0, 1) := dk_42 (dk_at dksX4_fact_2 21 rfl rfl)
theorem dX4_fact_70 : decode cX4_fact 70 = .ok (.dup, 1) := dk_89 (dk_at dksX4_fact_2 22 rfl rfl)
theorem dX4_fact_71 : decode cX4_fact 71 = .ok (.getfield 42, 3) := dk_180 0 42 (dk_at dksX4_fact_3 0 rfl rfl)
theorem dX4_fact_74 : decode cX4_fact 74 = .ok (.iconst 1, 1) := dk_4 (dk_at dksX4_fact_3 3 rfl rfl)
theorem dX4_fact_75 : decode cX4_fact 75 = .ok (.iadd, 1) := dk_96 (dk_at dksX4_fact_3 4 rfl rfl)
theorem dX4_fact_76 : decode cX4_fact 76 = .ok (.putfield 42, 3) := dk_181 0 42 (dk_at dksX4_fact_3 5 rfl rfl)
theorem dX4_fact_79 : decode cX4_fact 79 = .ok (.aload_n 0, 1) := dk_42 (dk_at dksX4_fact_3 8 rfl rfl)
theorem dX4_fact_80 : decode cX4_fact 80 = .ok (.invokevirtual 185, 3) := dk_182 0 185 (dk_at dksX4_fact_3 9 rfl rfl)
theorem dX4_fact_83 : decode cX4_fact 83 = .ok (.astore_n 3, 1) := dk_78 (dk_at dksX4_fact_3 12 rfl rfl)
theorem dX4_fact_84 : decode cX4_fact 84 = .ok (.aload_n 0, 1) := dk_42 (dk_at dksX4_fact_3 13 rfl rfl)
theorem dX4_fact_85 : decode cX4_fact 85 = .ok (.aload_n 0, 1) := dk_42 (dk_at dksX4_fact_3 14 rfl rfl)
theorem dX4_fact_86 : decode cX4_fact 86 = .ok (.bipush 93, 2) := dk_16 93 (dk_at dksX4_fact_3 15 rfl rfl)
theorem dX4_fact_88 : decode cX4_fact 88 = .ok (.invokevirtual 161, 3) := dk_182 0 161 (dk_at dksX4_fact_3 17 rfl rfl)
theorem dX4_fact_91 : decode cX4_fact 91 = .ok (.iconst 0, 1) := dk_3 (dk_at dksX4_fact_3 20 rfl rfl)
theorem dX4_fact_92 : decode cX4_fact 92 = .ok (.aload_n 0, 1) := dk_42 (dk_at dksX4_fact_3 21 rfl rfl)
theorem dX4_fact_93 : decode cX4_fact 93 = .ok (.getfield 42, 3) := dk_180 0 42 (dk_at dksX4_fact_4 0 rfl rfl)
theorem dX4_fact_96 : decode cX4_fact 96 = .ok (.invokevirtual 76, 3) := dk_182 0 76 (dk_at dksX4_fact_4 3 rfl rfl)
theorem dX4_fact_99 : decode cX4_fact 99 = .ok (.aload_n 0, 1) := dk_42 (dk_at dksX4_fact_4 6 rfl rfl)
theorem dX4_fact_100 : decode cX4_fact 100 = .ok (.dup, 1) := dk_89 (dk_at dksX4_fact_4 7 rfl rfl)
theorem dX4_fact_101 : decode cX4_fact 101 = .ok (.getfield 87, 3) := dk_180 0 87 (dk_at dksX4_fact_4 8 rfl rfl)
theorem dX4_fact_104 : decode cX4_fact 104 = .ok (.iconst 1, 1) := dk_4 (dk_at dksX4_fact_4 11 rfl rfl)
theorem dX4_fact_105 : decode cX4_fact 105 = .ok (.isub, 1) := dk_100 (dk_at dksX4_fact_4 12 rfl rfl)
theorem dX4_fact_106 : decode cX4_fact 106 = .ok (.putfield 87, 3) := dk_181 0 87 (dk_at dksX4_fact_4 13 rfl rfl)
theorem dX4_fact_109 : decode cX4_fact 109 = .ok (.aload_n 3, 1) := dk_45 (dk_at dksX4_fact_4 16 rfl rfl)
theorem dX4_fact_110 : decode cX4_fact 110 = .ok (.areturn, 1) := dk_176 (dk_at dksX4_fact_4 17 rfl rfl)
theorem dX4_fact_111 : decode cX4_fact 111 = .ok (.aload_n 0, 1) := dk_42 (dk_at dksX4_fact_4 18 rfl rfl)
theorem dX4_fact_112 : decode cX4_fact 112 = .ok (.invokevirtual 173, 3) := dk_182 0 173 (dk_at dksX4_fact_4 19 rfl rfl)
theorem dX4_fact_115 : decode cX4_fact 115 = .ok (.astore_n 3, 1) := dk_78 (dk_at dksX4_fact_4 22 rfl rfl)
theorem dX4_fact_116 : decode cX4_fact 116 = .ok (.aload_n 0, 1) := dk_42 (dk_at dksX4_fact_4 23 rfl rfl)
theorem dX4_fact_117 : decode cX4_fact 117 = .ok (.invokevirtual 52, 3) := dk_182 0 52 (dk_at dksX4_fact_5 0 rfl rfl)
theorem dX4_fact_120 : decode cX4_fact 120 = .ok (.pop, 1) := dk_87 (dk_at dksX4_fact_5 3 rfl rfl)
theorem dX4_fact_121 : decode cX4_fact 121 = .ok (.aload_n 0, 1) := dk_42 (dk_at dksX4_fact_5 4 rfl rfl)
theorem dX4_fact_122 : decode cX4_fact 122 = .ok (.getfield 42, 3) := dk_180 0 42 (dk_at dksX4_fact_5 5 rfl rfl)
theorem dX4_fact_125 : decode cX4_fact 125 = .ok (.istore 4, 2) := dk_54 4 (dk_at dksX4_fact_5 8 rfl rfl)
theorem dX4_fact_127 : decode cX4_fact 127 = .ok (.aload_n 0, 1) := dk_42 (dk_at dksX4_fact_5 10 rfl rfl)
theorem dX4_fact_128 : decode cX4_fact 128 = .ok (.invokevirtual 233, 3) := dk_182 0 233 (dk_at dksX4_fact_5 11 rfl rfl)
theorem dX4_fact_131 : decode cX4_fact 131 = .ok (.istore 5, 2) := dk_54 5 (dk_at dksX4_fact_5 14 rfl rfl)
theorem dX4_fact_133 : decode cX4_fact 133 = .ok (.aload_n 0, 1) := dk_42 (dk_at dksX4_fact_5 16 rfl rfl)
theorem dX4_fact_134 : decode cX4_fact 134 = .ok (.iload 4, 2) := dk_21 4 (dk_at dksX4_fact_5 17 rfl rfl)
theorem dX4_fact_136 : decode cX4_fact 136 = .ok (.invokevirtual 236, 3) := dk_182 0 236 (dk_at dksX4_fact_5 19 rfl rfl)
theorem dX4_fact_139 : decode cX4_fact 139 = .ok (.new 239, 3) := dk_187 0 239 (dk_at dksX4_fact_6 0 rfl rfl)
theorem dX4_fact_142 : decode cX4_fact 142 = .ok (.dup, 1) := dk_89 (dk_at dksX4_fact_6 3 rfl rfl)
theorem dX4_fact_143 : decode cX4_fact 143 = .ok (.aload_n 3, 1) := dk_45 (dk_at dksX4_fact_6 4 rfl rfl)
theorem dX4_fact_144 : decode cX4_fact 144 = .ok (.iload 5, 2) := dk_21 5 (dk_at dksX4_fact_6 5 rfl rfl)
theorem dX4_fact_146 : decode cX4_fact 146 = .ok (.aload_n 0, 1) := dk_42 (dk_at dksX4_fact_6 7 rfl rfl)
theorem dX4_fact_147 : decode cX4_fact 147 = .ok (.invokevirtual 173, 3) := dk_182 0 173 (dk_at dksX4_fact_6 8 rfl rfl)
theorem dX4_fact_150 : decode cX4_fact 150 = .ok (.invokespecial 241, 3) := dk_183 0 241 (dk_at dksX4_fact_6 11 rfl rfl)
theorem dX4_fact_153 : decode cX4_fact 153 = .ok (.areturn, 1) := dk_176 (dk_at dksX4_fact_6 14 rfl rfl)
abbrev cX4_opens : ByteArray := prog_13_method_12_code
def yX4_opens : MethodName := ⟨RX4, "opens", "(I)V"⟩
def dkwX4_opens_1 : List UInt8 := [180, 0, 87, 4, 96, 181, 0, 87, 177]
abbrev dktX4_opens_1 : List UInt8 := dkwX4_opens_1 ++ []
def dkwX4_opens_0 : List UInt8 := [42, 42, 180, 0, 87, 16, 10, 162, 0, 7, 4, 167, 0, 4, 3, 5, 27, 182, 0, 76, 42, 89]
abbrev dktX4_opens_0 : List UInt8 := dkwX4_opens_0 ++ dktX4_opens_1
theorem dksX4_opens_0 : cX4_opens.data.toList.drop 0 = dktX4_opens_0 := by decide +kernel
theorem dksX4_opens_1 : cX4_opens.data.toList.drop 22 = dktX4_opens_1 := dk_seg dksX4_opens_0 22 rfl rfl
theorem dX4_opens_0 : decode cX4_opens 0 = .ok (.aload_n 0, 1) := dk_42 (dk_at dksX4_opens_0 0 rfl rfl)
theorem dX4_opens_1 : decode cX4_opens 1 = .ok (.aload_n 0, 1) := dk_42 (dk_at dksX4_opens_0 1 rfl rfl)
theorem dX4_opens_2 : decode cX4_opens 2 = .ok (.getfield 87, 3) := dk_180 0 87 (dk_at dksX4_opens_0 2 rfl rfl)
theorem dX4_opens_5 : decode cX4_opens 5 = .ok (.bipush 10, 2) := dk_16 10 (dk_at dksX4_opens_0 5 rfl rfl)
theorem dX4_opens_7 : decode cX4_opens 7 = .ok (.if_icmp .ge 7, 3) := dk_162 0 7 (dk_at dksX4_opens_0 7 rfl rfl)
theorem dX4_opens_10 : decode cX4_opens 10 = .ok (.iconst 1, 1) := dk_4 (dk_at dksX4_opens_0 10 rfl rfl)
theorem dX4_opens_11 : decode cX4_opens 11 = .ok (.goto 4, 3) := dk_167 0 4 (dk_at dksX4_opens_0 11 rfl rfl)
theorem dX4_opens_14 : decode cX4_opens 14 = .ok (.iconst 0, 1) := dk_3 (dk_at dksX4_opens_0 14 rfl rfl)
theorem dX4_opens_15 : decode cX4_opens 15 = .ok (.iconst 2, 1) := dk_5 (dk_at dksX4_opens_0 15 rfl rfl)
theorem dX4_opens_16 : decode cX4_opens 16 = .ok (.iload_n 1, 1) := dk_27 (dk_at dksX4_opens_0 16 rfl rfl)
theorem dX4_opens_17 : decode cX4_opens 17 = .ok (.invokevirtual 76, 3) := dk_182 0 76 (dk_at dksX4_opens_0 17 rfl rfl)
theorem dX4_opens_20 : decode cX4_opens 20 = .ok (.aload_n 0, 1) := dk_42 (dk_at dksX4_opens_0 20 rfl rfl)
theorem dX4_opens_21 : decode cX4_opens 21 = .ok (.dup, 1) := dk_89 (dk_at dksX4_opens_0 21 rfl rfl)
theorem dX4_opens_22 : decode cX4_opens 22 = .ok (.getfield 87, 3) := dk_180 0 87 (dk_at dksX4_opens_1 0 rfl rfl)
theorem dX4_opens_25 : decode cX4_opens 25 = .ok (.iconst 1, 1) := dk_4 (dk_at dksX4_opens_1 3 rfl rfl)
theorem dX4_opens_26 : decode cX4_opens 26 = .ok (.iadd, 1) := dk_96 (dk_at dksX4_opens_1 4 rfl rfl)
theorem dX4_opens_27 : decode cX4_opens 27 = .ok (.putfield 87, 3) := dk_181 0 87 (dk_at dksX4_opens_1 5 rfl rfl)
theorem dX4_opens_30 : decode cX4_opens 30 = .ok (.return_, 1) := dk_177 (dk_at dksX4_opens_1 8 rfl rfl)
abbrev cX4_sign : ByteArray := prog_13_method_25_code
def yX4_sign : MethodName := ⟨RX4, "sign", "()I"⟩
def dkwX4_sign_5 : List UInt8 := [167, 0, 16, 3, 167, 0, 12, 28, 153, 0, 7, 6, 167, 0, 4, 7, 172]
abbrev dktX4_sign_5 : List UInt8 := dkwX4_sign_5 ++ []
def dkwX4_sign_4 : List UInt8 := [153, 0, 13, 42, 89, 180, 0, 42, 4, 96, 181, 0, 42, 27, 16, 60, 160, 0, 15, 28, 153, 0, 7, 4]
abbrev dktX4_sign_4 : List UInt8 := dkwX4_sign_4 ++ dktX4_sign_5
def dkwX4_sign_3 : List UInt8 := [180, 0, 3, 180, 0, 48, 42, 180, 0, 42, 51, 16, 61, 160, 0, 7, 4, 167, 0, 4, 3, 61, 28]
abbrev dktX4_sign_3 : List UInt8 := dkwX4_sign_3 ++ dktX4_sign_4
def dkwX4_sign_2 : List UInt8 := [16, 61, 160, 0, 5, 5, 172, 42, 180, 0, 42, 42, 180, 0, 3, 180, 0, 45, 162, 0, 24, 42]
abbrev dktX4_sign_2 : List UInt8 := dkwX4_sign_2 ++ dktX4_sign_3
def dkwX4_sign_1 : List UInt8 := [4, 167, 0, 4, 3, 3, 42, 180, 0, 42, 182, 0, 76, 42, 89, 180, 0, 42, 4, 96, 181, 0, 42, 27]
abbrev dktX4_sign_1 : List UInt8 := dkwX4_sign_1 ++ dktX4_sign_2
def dkwX4_sign_0 : List UInt8 := [42, 182, 0, 52, 60, 42, 27, 16, 60, 159, 0, 15, 27, 16, 61, 159, 0, 9, 27, 16, 62, 160, 0, 7]
abbrev dktX4_sign_0 : List UInt8 := dkwX4_sign_0 ++ dktX4_sign_1
theorem dksX4_sign_0 : cX4_sign.data.toList.drop 0 = dktX4_sign_0 := by decide +kernel
theorem dksX4_sign_1 : cX4_sign.data.toList.drop 24 = dktX4_sign_1 := dk_seg dksX4_sign_0 24 rfl rfl
theorem dksX4_sign_2 : cX4_sign.data.toList.drop 48 = dktX4_sign_2 := dk_seg dksX4_sign_1 24 rfl rfl
theorem dksX4_sign_3 : cX4_sign.data.toList.drop 70 = dktX4_sign_3 := dk_seg dksX4_sign_2 22 rfl rfl
theorem dksX4_sign_4 : cX4_sign.data.toList.drop 93 = dktX4_sign_4 := dk_seg dksX4_sign_3 23 rfl rfl
theorem dksX4_sign_5 : cX4_sign.data.toList.drop 117 = dktX4_sign_5 := dk_seg dksX4_sign_4 24 rfl rfl
theorem dX4_sign_0 : decode cX4_sign 0 = .ok (.aload_n 0, 1) := dk_42 (dk_at dksX4_sign_0 0 rfl rfl)
theorem dX4_sign_1 : decode cX4_sign 1 = .ok (.invokevirtual 52, 3) := dk_182 0 52 (dk_at dksX4_sign_0 1 rfl rfl)
theorem dX4_sign_4 : decode cX4_sign 4 = .ok (.istore_n 1, 1) := dk_60 (dk_at dksX4_sign_0 4 rfl rfl)
theorem dX4_sign_5 : decode cX4_sign 5 = .ok (.aload_n 0, 1) := dk_42 (dk_at dksX4_sign_0 5 rfl rfl)
theorem dX4_sign_6 : decode cX4_sign 6 = .ok (.iload_n 1, 1) := dk_27 (dk_at dksX4_sign_0 6 rfl rfl)
theorem dX4_sign_7 : decode cX4_sign 7 = .ok (.bipush 60, 2) := dk_16 60 (dk_at dksX4_sign_0 7 rfl rfl)
theorem dX4_sign_9 : decode cX4_sign 9 = .ok (.if_icmp .eq 15, 3) := dk_159 0 15 (dk_at dksX4_sign_0 9 rfl rfl)
theorem dX4_sign_12 : decode cX4_sign 12 = .ok (.iload_n 1, 1) := dk_27 (dk_at dksX4_sign_0 12 rfl rfl)
theorem dX4_sign_13 : decode cX4_sign 13 = .ok (.bipush 61, 2) := dk_16 61 (dk_at dksX4_sign_0 13 rfl rfl)
theorem dX4_sign_15 : decode cX4_sign 15 = .ok (.if_icmp .eq 9, 3) := dk_159 0 9 (dk_at dksX4_sign_0 15 rfl rfl)
theorem dX4_sign_18 : decode cX4_sign 18 = .ok (.iload_n 1, 1) := dk_27 (dk_at dksX4_sign_0 18 rfl rfl)
theorem dX4_sign_19 : decode cX4_sign 19 = .ok (.bipush 62, 2) := dk_16 62 (dk_at dksX4_sign_0 19 rfl rfl)
theorem dX4_sign_21 : decode cX4_sign 21 = .ok (.if_icmp .ne 7, 3) := dk_160 0 7 (dk_at dksX4_sign_0 21 rfl rfl)
theorem dX4_sign_24 : decode cX4_sign 24 = .ok (.iconst 1, 1) := dk_4 (dk_at dksX4_sign_1 0 rfl rfl)
theorem dX4_sign_25 : decode cX4_sign 25 = .ok (.goto 4, 3) := dk_167 0 4 (dk_at dksX4_sign_1 1 rfl rfl)
theorem dX4_sign_28 : decode cX4_sign 28 = .ok (.iconst 0, 1) := dk_3 (dk_at dksX4_sign_1 4 rfl rfl)
theorem dX4_sign_29 : decode cX4_sign 29 = .ok (.iconst 0, 1) := dk_3 (dk_at dksX4_sign_1 5 rfl rfl)
theorem dX4_sign_30 : decode cX4_sign 30 = .ok (.aload_n 0, 1) := dk_42 (dk_at dksX4_sign_1 6 rfl rfl)
theorem dX4_sign_31 : decode cX4_sign 31 = .ok (.getfield 42, 3) := dk_180 0 42 (dk_at dksX4_sign_1 7 rfl rfl)
theorem dX4_sign_34 : decode cX4_sign 34 = .ok (.invokevirtual 76, 3) := dk_182 0 76 (dk_at dksX4_sign_1 10 rfl rfl)
theorem dX4_sign_37 : decode cX4_sign 37 = .ok (.aload_n 0, 1) := dk_42 (dk_at dksX4_sign_1 13 rfl rfl)
theorem dX4_sign_38 : decode cX4_sign 38 = .ok (.dup, 1) := dk_89 (dk_at dksX4_sign_1 14 rfl rfl)
theorem dX4_sign_39 : decode cX4_sign 39 = .ok (.getfield 42, 3) := dk_180 0 42 (dk_at dksX4_sign_1 15 rfl rfl)
theorem dX4_sign_42 : decode cX4_sign 42 = .ok (.iconst 1, 1) := dk_4 (dk_at dksX4_sign_1 18 rfl rfl)
theorem dX4_sign_43 : decode cX4_sign 43 = .ok (.iadd, 1) := dk_96 (dk_at dksX4_sign_1 19 rfl rfl)
theorem dX4_sign_44 : decode cX4_sign 44 = .ok (.putfield 42, 3) := dk_181 0 42 (dk_at dksX4_sign_1 20 rfl rfl)
theorem dX4_sign_47 : decode cX4_sign 47 = .ok (.iload_n 1, 1) := dk_27 (dk_at dksX4_sign_1 23 rfl rfl)
theorem dX4_sign_48 : decode cX4_sign 48 = .ok (.bipush 61, 2) := dk_16 61 (dk_at dksX4_sign_2 0 rfl rfl)
theorem dX4_sign_50 : decode cX4_sign 50 = .ok (.if_icmp .ne 5, 3) := dk_160 0 5 (dk_at dksX4_sign_2 2 rfl rfl)
theorem dX4_sign_53 : decode cX4_sign 53 = .ok (.iconst 2, 1) := dk_5 (dk_at dksX4_sign_2 5 rfl rfl)
theorem dX4_sign_54 : decode cX4_sign 54 = .ok (.ireturn, 1) := dk_172 (dk_at dksX4_sign_2 6 rfl rfl)
theorem dX4_sign_55 : decode cX4_sign 55 = .ok (.aload_n 0, 1) := dk_42 (dk_at dksX4_sign_2 7 rfl rfl)
theorem dX4_sign_56 : decode cX4_sign 56 = .ok (.getfield 42, 3) := dk_180 0 42 (dk_at dksX4_sign_2 8 rfl rfl)
theorem dX4_sign_59 : decode cX4_sign 59 = .ok (.aload_n 0, 1) := dk_42 (dk_at dksX4_sign_2 11 rfl rfl)
theorem dX4_sign_60 : decode cX4_sign 60 = .ok (.getfield 3, 3) := dk_180 0 3 (dk_at dksX4_sign_2 12 rfl rfl)
theorem dX4_sign_63 : decode cX4_sign 63 = .ok (.getfield 45, 3) := dk_180 0 45 (dk_at dksX4_sign_2 15 rfl rfl)
theorem dX4_sign_66 : decode cX4_sign 66 = .ok (.if_icmp .ge 24, 3) := dk_162 0 24 (dk_at dksX4_sign_2 18 rfl rfl)
theorem dX4_sign_69 : decode cX4_sign 69 = .ok (.aload_n 0, 1) := dk_42 (dk_at dksX4_sign_2 21 rfl rfl)
theorem dX4_sign_70 : decode cX4_sign 70 = .ok (.getfield 3, 3) := dk_180 0 3 (dk_at dksX4_sign_3 0 rfl rfl)
theorem dX4_sign_73 : decode cX4_sign 73 = .ok (.getfield 48, 3) := dk_180 0 48 (dk_at dksX4_sign_3 3 rfl rfl)
theorem dX4_sign_76 : decode cX4_sign 76 = .ok (.aload_n 0, 1) := dk_42 (dk_at dksX4_sign_3 6 rfl rfl)
theorem dX4_sign_77 : decode cX4_sign 77 = .ok (.getfield 42, 3) := dk_180 0 42 (dk_at dksX4_sign_3 7 rfl rfl)
theorem dX4_sign_80 : decode cX4_sign 80 = .ok (.baload, 1) := dk_51 (dk_at dksX4_sign_3 10 rfl rfl)
theorem dX4_sign_81 : decode cX4_sign 81 = .ok (.bipush 61, 2) := dk_16 61 (dk_at dksX4_sign_3 11 rfl rfl)
theorem dX4_sign_83 : decode cX4_sign 83 = .ok (.if_icmp .ne 7, 3) := dk_160 0 7 (dk_at dksX4_sign_3 13 rfl rfl)
theorem dX4_sign_86 : decode cX4_sign 86 = .ok (.iconst 1, 1) := dk_4 (dk_at dksX4_sign_3 16 rfl rfl)
theorem dX4_sign_87 : decode cX4_sign 87 = .ok (.goto 4, 3) := dk_167 0 4 (dk_at dksX4_sign_3 17 rfl rfl)
theorem dX4_sign_90 : decode cX4_sign 90 = .ok (.iconst 0, 1) := dk_3 (dk_at dksX4_sign_3 20 rfl rfl)
theorem dX4_sign_91 : decode cX4_sign 91 = .ok (.istore_n 2, 1) := dk_61 (dk_at dksX4_sign_3 21 rfl rfl)
theorem dX4_sign_92 : decode cX4_sign 92 = .ok (.iload_n 2, 1) := dk_28 (dk_at dksX4_sign_3 22 rfl rfl)
theorem dX4_sign_93 : decode cX4_sign 93 = .ok (.ifCond .eq 13, 3) := dk_153 0 13 (dk_at dksX4_sign_4 0 rfl rfl)
theorem dX4_sign_96 : decode cX4_sign 96 = .ok (.aload_n 0, 1) := dk_42 (dk_at dksX4_sign_4 3 rfl rfl)
theorem dX4_sign_97 : decode cX4_sign 97 = .ok (.dup, 1) := dk_89 (dk_at dksX4_sign_4 4 rfl rfl)
theorem dX4_sign_98 : decode cX4_sign 98 = .ok (.getfield 42, 3) := dk_180 0 42 (dk_at dksX4_sign_4 5 rfl rfl)
theorem dX4_sign_101 : decode cX4_sign 101 = .ok (.iconst 1, 1) := dk_4 (dk_at dksX4_sign_4 8 rfl rfl)
theorem dX4_sign_102 : decode cX4_sign 102 = .ok (.iadd, 1) := dk_96 (dk_at dksX4_sign_4 9 rfl rfl)
theorem dX4_sign_103 : decode cX4_sign 103 = .ok (.putfield 42, 3) := dk_181 0 42 (dk_at dksX4_sign_4 10 rfl rfl)
theorem dX4_sign_106 : decode cX4_sign 106 = .ok (.iload_n 1, 1) := dk_27 (dk_at dksX4_sign_4 13 rfl rfl)
theorem dX4_sign_107 : decode cX4_sign 107 = .ok (.bipush 60, 2) := dk_16 60 (dk_at dksX4_sign_4 14 rfl rfl)
theorem dX4_sign_109 : decode cX4_sign 109 = .ok (.if_icmp .ne 15, 3) := dk_160 0 15 (dk_at dksX4_sign_4 16 rfl rfl)
theorem dX4_sign_112 : decode cX4_sign 112 = .ok (.iload_n 2, 1) := dk_28 (dk_at dksX4_sign_4 19 rfl rfl)
theorem dX4_sign_113 : decode cX4_sign 113 = .ok (.ifCond .eq 7, 3) := dk_153 0 7 (dk_at dksX4_sign_4 20 rfl rfl)
theorem dX4_sign_116 : decode cX4_sign 116 = .ok (.iconst 1, 1) := dk_4 (dk_at dksX4_sign_4 23 rfl rfl)
theorem dX4_sign_117 : decode cX4_sign 117 = .ok (.goto 16, 3) := dk_167 0 16 (dk_at dksX4_sign_5 0 rfl rfl)
theorem dX4_sign_120 : decode cX4_sign 120 = .ok (.iconst 0, 1) := dk_3 (dk_at dksX4_sign_5 3 rfl rfl)
theorem dX4_sign_121 : decode cX4_sign 121 = .ok (.goto 12, 3) := dk_167 0 12 (dk_at dksX4_sign_5 4 rfl rfl)
theorem dX4_sign_124 : decode cX4_sign 124 = .ok (.iload_n 2, 1) := dk_28 (dk_at dksX4_sign_5 7 rfl rfl)
theorem dX4_sign_125 : decode cX4_sign 125 = .ok (.ifCond .eq 7, 3) := dk_153 0 7 (dk_at dksX4_sign_5 8 rfl rfl)
theorem dX4_sign_128 : decode cX4_sign 128 = .ok (.iconst 3, 1) := dk_6 (dk_at dksX4_sign_5 11 rfl rfl)
theorem dX4_sign_129 : decode cX4_sign 129 = .ok (.goto 4, 3) := dk_167 0 4 (dk_at dksX4_sign_5 12 rfl rfl)
theorem dX4_sign_132 : decode cX4_sign 132 = .ok (.iconst 4, 1) := dk_7 (dk_at dksX4_sign_5 15 rfl rfl)
theorem dX4_sign_133 : decode cX4_sign 133 = .ok (.ireturn, 1) := dk_172 (dk_at dksX4_sign_5 16 rfl rfl)
theorem q124 : (Jvm.Cond.initialized "ChairCane$Text") ∈ lw_all := lw_g (lw_at lw_m1 8 rfl) rfl
theorem q159 : (Jvm.Cond.fieldLinkNest "ChairCane$Text" (98 : Nat) "ChairCane$Dinner" "strandMany" "I" "ChairCane") ∈ lw_tbl := lw_at lw_m1 43 rfl
theorem q162 : (Jvm.Cond.fieldLinkNest "ChairCane$Text" (101 : Nat) "ChairCane$Dinner" "chairMany" "I" "ChairCane") ∈ lw_tbl := lw_at lw_m1 46 rfl
theorem q165 : (Jvm.Cond.fieldLinkNest "ChairCane$Text" (122 : Nat) "ChairCane$Dinner" "sitterMany" "I" "ChairCane") ∈ lw_tbl := lw_at lw_m1 49 rfl
theorem q171 : (Jvm.Cond.fieldLinkNest "ChairCane$Text" (93 : Nat) "ChairCane$Dinner" "isTold" "I" "ChairCane") ∈ lw_tbl := lw_at lw_m1 55 rfl
theorem q175 : (Jvm.Cond.fieldLinkNest "ChairCane$Text" (104 : Nat) "ChairCane$Dinner" "toldCane" "[I" "ChairCane") ∈ lw_tbl := lw_at lw_m1 59 rfl
theorem q177 : (Jvm.Cond.fieldLinkNest "ChairCane$Text" (112 : Nat) "ChairCane$Dinner" "height" "[I" "ChairCane") ∈ lw_tbl := lw_at lw_m1 61 rfl
theorem q180 : (Jvm.Cond.fieldLinkNest "ChairCane$Text" (115 : Nat) "ChairCane$Dinner" "strand" "[I" "ChairCane") ∈ lw_tbl := lw_at lw_m1 64 rfl
theorem q183 : (Jvm.Cond.fieldLinkNest "ChairCane$Text" (125 : Nat) "ChairCane$Dinner" "chair" "[I" "ChairCane") ∈ lw_tbl := lw_at lw_m1 67 rfl
theorem q186 : (Jvm.Cond.fieldLinkNest "ChairCane$Text" (128 : Nat) "ChairCane$Dinner" "weight" "[I" "ChairCane") ∈ lw_tbl := lw_at lw_m1 70 rfl
theorem q290 : (Jvm.Cond.fieldLinkNest "ChairCane$Text" (33 : Nat) "ChairCane$Fault" "kind" "I" "ChairCane") ∈ lw_tbl := lw_at lw_m1 174 rfl
theorem q292 : (Jvm.Cond.fieldLinkNest "ChairCane$Text" (39 : Nat) "ChairCane$Fault" "place" "I" "ChairCane") ∈ lw_tbl := lw_at lw_m1 176 rfl
theorem q335 : (Jvm.Cond.fieldLinkNest "ChairCane$Text" (22 : Nat) "ChairCane" "reading" "LChairCane$Dinner;" "ChairCane") ∈ lw_tbl := lw_at lw_m1 219 rfl
theorem q338 : (Jvm.Cond.fieldLinkNest "ChairCane$Text" (140 : Nat) "ChairCane" "blank" "LChairCane$Dinner;" "ChairCane") ∈ lw_tbl := lw_at lw_m1 222 rfl
theorem q341 : (Jvm.Cond.fieldLinkNest "ChairCane$Text" (29 : Nat) "ChairCane" "fault" "LChairCane$Fault;" "ChairCane") ∈ lw_tbl := lw_at lw_m1 225 rfl
theorem q343 : (Jvm.Cond.fieldLinkNest "ChairCane$Text" (48 : Nat) "ChairCane" "tape" "[B" "ChairCane") ∈ lw_tbl := lw_at lw_m1 227 rfl
theorem q345 : (Jvm.Cond.fieldLinkNest "ChairCane$Text" (45 : Nat) "ChairCane" "taped" "I" "ChairCane") ∈ lw_tbl := lw_at lw_m1 229 rfl
theorem q348 : (Jvm.Cond.fieldLinkNest "ChairCane$Text" (147 : Nat) "ChairCane" "lineWords" "[Ljava/lang/String;" "ChairCane") ∈ lw_tbl := lw_at lw_m1 232 rfl
theorem q350 : (Jvm.Cond.fieldLinkNest "ChairCane$Text" (196 : Nat) "ChairCane" "clauseWords" "[Ljava/lang/String;" "ChairCane") ∈ lw_tbl := lw_at lw_m1 234 rfl
theorem q351 : (Jvm.Cond.fieldLinkNest "ChairCane$Text" (15 : Nat) "ChairCane" "wordNames" "[Ljava/lang/String;" "ChairCane") ∈ lw_tbl := lw_at lw_m1 235 rfl
theorem q428 : (Jvm.Cond.instantiable "ChairCane$Text" (7 : Nat)) ∈ lw_all := lw_g (lw_at lw_m2 72 rfl) rfl
theorem q430 : (Jvm.Cond.instanceMethod ({ cls := "ChairCane$Text", name := "<init>", desc := "(LChairCane;)V" } : Jvm.MethodName)) ∈ lw_all := lw_g (lw_at lw_m2 74 rfl) rfl
theorem q431 : (Jvm.Cond.code ({ cls := "ChairCane$Text", name := "<init>", desc := "(LChairCane;)V" } : Jvm.MethodName) prog_13_method_1_code (2 : Nat) (Option.none : Option Jvm.ClassFile.FieldType)) ∈ lw_all := lw_g (lw_at lw_m2 75 rfl) rfl
theorem q432 : (Jvm.Cond.methodLink "ChairCane$Text" (9 : Nat) ({ cls := "java/lang/Object", name := "<init>", desc := "()V" } : Jvm.MethodName)) ∈ lw_all := lw_g (lw_at lw_m2 76 rfl) rfl
theorem q433 : (Jvm.Cond.fieldLink "ChairCane$Text" (19 : Nat) "ChairCane$Text" "words" "[Ljava/lang/String;") ∈ lw_all := lw_g (lw_at lw_m2 77 rfl) rfl
theorem q434 : (Jvm.Cond.fieldLink "ChairCane$Text" (26 : Nat) "ChairCane$Text" "read" "LChairCane$Dinner;") ∈ lw_all := lw_g (lw_at lw_m2 78 rfl) rfl
theorem q435 : (Jvm.Cond.fieldLink "ChairCane$Text" (42 : Nat) "ChairCane$Text" "next" "I") ∈ lw_all := lw_g (lw_at lw_m2 79 rfl) rfl
theorem q436 : (Jvm.Cond.fieldLink "ChairCane$Text" (87 : Nat) "ChairCane$Text" "deep" "I") ∈ lw_all := lw_g (lw_at lw_m2 80 rfl) rfl
theorem q437 : (Jvm.Cond.fieldLink "ChairCane$Text" (84 : Nat) "ChairCane$Text" "made" "I") ∈ lw_all := lw_g (lw_at lw_m2 81 rfl) rfl
theorem q438 : (Jvm.Cond.fieldLink "ChairCane$Text" (90 : Nat) "ChairCane$Text" "many" "I") ∈ lw_all := lw_g (lw_at lw_m2 82 rfl) rfl
theorem q439 : (Jvm.Cond.fieldLink "ChairCane$Text" (3 : Nat) "ChairCane$Text" "this$0" "LChairCane;") ∈ lw_all := lw_g (lw_at lw_m2 83 rfl) rfl
theorem q440 : (Jvm.Cond.laysFinal "ChairCane$Text" "ChairCane$Text" "words" "[Ljava/lang/String;") ∈ lw_all := lw_g (lw_at lw_m2 84 rfl) rfl
theorem q441 : (Jvm.Cond.soleField "ChairCane$Text" "words") ∈ lw_all := lw_g (lw_at lw_m2 85 rfl) rfl
theorem q442 : (Jvm.Cond.laysFinal "ChairCane$Text" "ChairCane$Text" "read" "LChairCane$Dinner;") ∈ lw_all := lw_g (lw_at lw_m2 86 rfl) rfl
theorem q443 : (Jvm.Cond.soleField "ChairCane$Text" "read") ∈ lw_all := lw_g (lw_at lw_m2 87 rfl) rfl
theorem q444 : (Jvm.Cond.lays "ChairCane$Text" "ChairCane$Text" "next" "I") ∈ lw_all := lw_g (lw_at lw_m2 88 rfl) rfl
theorem q445 : (Jvm.Cond.soleField "ChairCane$Text" "next") ∈ lw_all := lw_g (lw_at lw_m2 89 rfl) rfl
theorem q446 : (Jvm.Cond.lays "ChairCane$Text" "ChairCane$Text" "deep" "I") ∈ lw_all := lw_g (lw_at lw_m2 90 rfl) rfl
theorem q447 : (Jvm.Cond.soleField "ChairCane$Text" "deep") ∈ lw_all := lw_g (lw_at lw_m2 91 rfl) rfl
theorem q448 : (Jvm.Cond.lays "ChairCane$Text" "ChairCane$Text" "made" "I") ∈ lw_all := lw_g (lw_at lw_m2 92 rfl) rfl
theorem q449 : (Jvm.Cond.soleField "ChairCane$Text" "made") ∈ lw_all := lw_g (lw_at lw_m2 93 rfl) rfl
theorem q450 : (Jvm.Cond.lays "ChairCane$Text" "ChairCane$Text" "many" "I") ∈ lw_all := lw_g (lw_at lw_m2 94 rfl) rfl
theorem q451 : (Jvm.Cond.soleField "ChairCane$Text" "many") ∈ lw_all := lw_g (lw_at lw_m2 95 rfl) rfl
theorem q452 : (Jvm.Cond.laysFinal "ChairCane$Text" "ChairCane$Text" "this$0" "LChairCane;") ∈ lw_all := lw_g (lw_at lw_m2 96 rfl) rfl
theorem q453 : (Jvm.Cond.soleField "ChairCane$Text" "this$0") ∈ lw_all := lw_g (lw_at lw_m2 97 rfl) rfl
theorem q454 : (Jvm.Cond.superclass "ChairCane$Text" "java/lang/Object") ∈ lw_all := lw_g (lw_at lw_m2 98 rfl) rfl
theorem q456 : (Jvm.Cond.instanceMethod ({ cls := "ChairCane$Text", name := "hallTold", desc := "()LChairCane$Dinner;" } : Jvm.MethodName)) ∈ lw_all := lw_g (lw_at lw_m2 100 rfl) rfl
theorem q457 : (Jvm.Cond.selects "ChairCane$Text" ({ cls := "ChairCane$Text", name := "hallTold", desc := "()LChairCane$Dinner;" } : Jvm.MethodName) ({ cls := "ChairCane$Text", name := "hallTold", desc := "()LChairCane$Dinner;" } : Jvm.MethodName)) ∈ lw_all := lw_g (lw_at lw_m2 101 rfl) rfl
theorem q458 : (Jvm.Cond.code ({ cls := "ChairCane$Text", name := "hallTold", desc := "()LChairCane$Dinner;" } : Jvm.MethodName) prog_13_method_19_code (3 : Nat) (Option.some (Jvm.ClassFile.FieldType.object "ChairCane$Dinner"))) ∈ lw_all := lw_g (lw_at lw_m2 102 rfl) rfl
theorem q459 : (Jvm.Cond.methodLink "ChairCane$Text" (143 : Nat) ({ cls := "ChairCane$Dinner", name := "copies", desc := "(LChairCane$Dinner;)LChairCane$Dinner;" } : Jvm.MethodName)) ∈ lw_all := lw_g (lw_at lw_m2 103 rfl) rfl
theorem q470 : (Jvm.Cond.methodLink "ChairCane$Text" (52 : Nat) ({ cls := "ChairCane$Text", name := "see", desc := "()I" } : Jvm.MethodName)) ∈ lw_all := lw_g (lw_at lw_m2 114 rfl) rfl
theorem q471 : (Jvm.Cond.privateMethod ({ cls := "ChairCane$Text", name := "see", desc := "()I" } : Jvm.MethodName)) ∈ lw_tbl := lw_at lw_m2 115 rfl
theorem q472 : (Jvm.Cond.instanceMethod ({ cls := "ChairCane$Text", name := "see", desc := "()I" } : Jvm.MethodName)) ∈ lw_all := lw_g (lw_at lw_m2 116 rfl) rfl
theorem q473 : (Jvm.Cond.code ({ cls := "ChairCane$Text", name := "see", desc := "()I" } : Jvm.MethodName) prog_13_method_3_code (1 : Nat) (Option.some Jvm.ClassFile.FieldType.int)) ∈ lw_all := lw_g (lw_at lw_m2 117 rfl) rfl
theorem q474 : (Jvm.Cond.methodLink "ChairCane$Text" (150 : Nat) ({ cls := "ChairCane$Text", name := "oneOf", desc := "([Ljava/lang/String;)I" } : Jvm.MethodName)) ∈ lw_all := lw_g (lw_at lw_m2 118 rfl) rfl
theorem q475 : (Jvm.Cond.privateMethod ({ cls := "ChairCane$Text", name := "oneOf", desc := "([Ljava/lang/String;)I" } : Jvm.MethodName)) ∈ lw_tbl := lw_at lw_m2 119 rfl
theorem q476 : (Jvm.Cond.instanceMethod ({ cls := "ChairCane$Text", name := "oneOf", desc := "([Ljava/lang/String;)I" } : Jvm.MethodName)) ∈ lw_all := lw_g (lw_at lw_m2 120 rfl) rfl
theorem q477 : (Jvm.Cond.code ({ cls := "ChairCane$Text", name := "oneOf", desc := "([Ljava/lang/String;)I" } : Jvm.MethodName) prog_13_method_8_code (3 : Nat) (Option.some Jvm.ClassFile.FieldType.int)) ∈ lw_all := lw_g (lw_at lw_m2 121 rfl) rfl
theorem q478 : (Jvm.Cond.methodLink "ChairCane$Text" (68 : Nat) ({ cls := "ChairCane$Text", name := "isWord", desc := "(Ljava/lang/String;)Z" } : Jvm.MethodName)) ∈ lw_all := lw_g (lw_at lw_m2 122 rfl) rfl
theorem q479 : (Jvm.Cond.privateMethod ({ cls := "ChairCane$Text", name := "isWord", desc := "(Ljava/lang/String;)Z" } : Jvm.MethodName)) ∈ lw_tbl := lw_at lw_m2 123 rfl
theorem q480 : (Jvm.Cond.instanceMethod ({ cls := "ChairCane$Text", name := "isWord", desc := "(Ljava/lang/String;)Z" } : Jvm.MethodName)) ∈ lw_all := lw_g (lw_at lw_m2 124 rfl) rfl
theorem q481 : (Jvm.Cond.code ({ cls := "ChairCane$Text", name := "isWord", desc := "(Ljava/lang/String;)Z" } : Jvm.MethodName) prog_13_method_6_code (5 : Nat) (Option.some Jvm.ClassFile.FieldType.boolean)) ∈ lw_all := lw_g (lw_at lw_m2 125 rfl) rfl
theorem q482 : (Jvm.Cond.methodLink "ChairCane$Text" (56 : Nat) ({ cls := "ChairCane$Text", name := "letters", desc := "()I" } : Jvm.MethodName)) ∈ lw_all := lw_g (lw_at lw_m2 126 rfl) rfl
theorem q483 : (Jvm.Cond.privateMethod ({ cls := "ChairCane$Text", name := "letters", desc := "()I" } : Jvm.MethodName)) ∈ lw_tbl := lw_at lw_m2 127 rfl
theorem q484 : (Jvm.Cond.instanceMethod ({ cls := "ChairCane$Text", name := "letters", desc := "()I" } : Jvm.MethodName)) ∈ lw_all := lw_g (lw_at lw_m2 128 rfl) rfl
theorem q485 : (Jvm.Cond.code ({ cls := "ChairCane$Text", name := "letters", desc := "()I" } : Jvm.MethodName) prog_13_method_5_code (2 : Nat) (Option.some Jvm.ClassFile.FieldType.int)) ∈ lw_all := lw_g (lw_at lw_m2 129 rfl) rfl
theorem q486 : (Jvm.Cond.methodLink "ChairCane$Text" (59 : Nat) ({ cls := "java/lang/String", name := "length", desc := "()I" } : Jvm.MethodName)) ∈ lw_all := lw_g (lw_at lw_m2 130 rfl) rfl
theorem q496 : (Jvm.Cond.methodLink "ChairCane$Text" (64 : Nat) ({ cls := "java/lang/String", name := "charAt", desc := "(I)C" } : Jvm.MethodName)) ∈ lw_all := lw_g (lw_at lw_m2 140 rfl) rfl
theorem q534 : (Jvm.Cond.methodLink "ChairCane$Text" (76 : Nat) ({ cls := "ChairCane$Text", name := "demand", desc := "(ZII)V" } : Jvm.MethodName)) ∈ lw_all := lw_g (lw_at lw_m2 178 rfl) rfl
theorem q535 : (Jvm.Cond.privateMethod ({ cls := "ChairCane$Text", name := "demand", desc := "(ZII)V" } : Jvm.MethodName)) ∈ lw_tbl := lw_at lw_m2 179 rfl
theorem q536 : (Jvm.Cond.instanceMethod ({ cls := "ChairCane$Text", name := "demand", desc := "(ZII)V" } : Jvm.MethodName)) ∈ lw_all := lw_g (lw_at lw_m2 180 rfl) rfl
theorem q537 : (Jvm.Cond.code ({ cls := "ChairCane$Text", name := "demand", desc := "(ZII)V" } : Jvm.MethodName) prog_13_method_2_code (4 : Nat) (Option.none : Option Jvm.ClassFile.FieldType)) ∈ lw_all := lw_g (lw_at lw_m2 181 rfl) rfl
theorem q538 : (Jvm.Cond.methodLink "ChairCane$Text" (154 : Nat) ({ cls := "ChairCane$Text", name := "canBe", desc := "(I)Z" } : Jvm.MethodName)) ∈ lw_all := lw_g (lw_at lw_m2 182 rfl) rfl
theorem q539 : (Jvm.Cond.privateMethod ({ cls := "ChairCane$Text", name := "canBe", desc := "(I)Z" } : Jvm.MethodName)) ∈ lw_tbl := lw_at lw_m2 183 rfl
theorem q540 : (Jvm.Cond.instanceMethod ({ cls := "ChairCane$Text", name := "canBe", desc := "(I)Z" } : Jvm.MethodName)) ∈ lw_all := lw_g (lw_at lw_m2 184 rfl) rfl
theorem q541 : (Jvm.Cond.code ({ cls := "ChairCane$Text", name := "canBe", desc := "(I)Z" } : Jvm.MethodName) prog_13_method_14_code (2 : Nat) (Option.some Jvm.ClassFile.FieldType.boolean)) ∈ lw_all := lw_g (lw_at lw_m2 185 rfl) rfl
theorem q542 : (Jvm.Cond.methodLink "ChairCane$Text" (157 : Nat) ({ cls := "ChairCane$Text", name := "line", desc := "(I)V" } : Jvm.MethodName)) ∈ lw_all := lw_g (lw_at lw_m2 186 rfl) rfl
theorem q543 : (Jvm.Cond.privateMethod ({ cls := "ChairCane$Text", name := "line", desc := "(I)V" } : Jvm.MethodName)) ∈ lw_tbl := lw_at lw_m2 187 rfl
theorem q544 : (Jvm.Cond.instanceMethod ({ cls := "ChairCane$Text", name := "line", desc := "(I)V" } : Jvm.MethodName)) ∈ lw_all := lw_g (lw_at lw_m2 188 rfl) rfl
theorem q545 : (Jvm.Cond.code ({ cls := "ChairCane$Text", name := "line", desc := "(I)V" } : Jvm.MethodName) prog_13_method_18_code (2 : Nat) (Option.none : Option Jvm.ClassFile.FieldType)) ∈ lw_all := lw_g (lw_at lw_m2 189 rfl) rfl
theorem q546 : (Jvm.Cond.methodLink "ChairCane$Text" (131 : Nat) ({ cls := "ChairCane$Text", name := "strandHere", desc := "()V" } : Jvm.MethodName)) ∈ lw_all := lw_g (lw_at lw_m2 190 rfl) rfl
theorem q547 : (Jvm.Cond.privateMethod ({ cls := "ChairCane$Text", name := "strandHere", desc := "()V" } : Jvm.MethodName)) ∈ lw_tbl := lw_at lw_m2 191 rfl
theorem q548 : (Jvm.Cond.instanceMethod ({ cls := "ChairCane$Text", name := "strandHere", desc := "()V" } : Jvm.MethodName)) ∈ lw_all := lw_g (lw_at lw_m2 192 rfl) rfl
theorem q549 : (Jvm.Cond.code ({ cls := "ChairCane$Text", name := "strandHere", desc := "()V" } : Jvm.MethodName) prog_13_method_15_code (1 : Nat) (Option.none : Option Jvm.ClassFile.FieldType)) ∈ lw_all := lw_g (lw_at lw_m2 193 rfl) rfl
theorem q550 : (Jvm.Cond.methodLink "ChairCane$Text" (108 : Nat) ({ cls := "ChairCane$Text", name := "number", desc := "(II)I" } : Jvm.MethodName)) ∈ lw_all := lw_g (lw_at lw_m2 194 rfl) rfl
theorem q551 : (Jvm.Cond.privateMethod ({ cls := "ChairCane$Text", name := "number", desc := "(II)I" } : Jvm.MethodName)) ∈ lw_tbl := lw_at lw_m2 195 rfl
theorem q552 : (Jvm.Cond.instanceMethod ({ cls := "ChairCane$Text", name := "number", desc := "(II)I" } : Jvm.MethodName)) ∈ lw_all := lw_g (lw_at lw_m2 196 rfl) rfl
theorem q553 : (Jvm.Cond.code ({ cls := "ChairCane$Text", name := "number", desc := "(II)I" } : Jvm.MethodName) prog_13_method_10_code (5 : Nat) (Option.some Jvm.ClassFile.FieldType.int)) ∈ lw_all := lw_g (lw_at lw_m2 197 rfl) rfl
theorem q554 : (Jvm.Cond.methodLink "ChairCane$Text" (72 : Nat) ({ cls := "ChairCane$Text", name := "isDigit", desc := "(I)Z" } : Jvm.MethodName)) ∈ lw_all := lw_g (lw_at lw_m2 198 rfl) rfl
theorem q555 : (Jvm.Cond.privateMethod ({ cls := "ChairCane$Text", name := "isDigit", desc := "(I)Z" } : Jvm.MethodName)) ∈ lw_tbl := lw_at lw_m2 199 rfl
theorem q556 : (Jvm.Cond.instanceMethod ({ cls := "ChairCane$Text", name := "isDigit", desc := "(I)Z" } : Jvm.MethodName)) ∈ lw_all := lw_g (lw_at lw_m2 200 rfl) rfl
theorem q557 : (Jvm.Cond.code ({ cls := "ChairCane$Text", name := "isDigit", desc := "(I)Z" } : Jvm.MethodName) prog_13_method_9_code (2 : Nat) (Option.some Jvm.ClassFile.FieldType.boolean)) ∈ lw_all := lw_g (lw_at lw_m2 201 rfl) rfl
theorem q558 : (Jvm.Cond.methodLinkNest "ChairCane$Text" (80 : Nat) ({ cls := "ChairCane", name := "in", desc := "(JJJ)Z" } : Jvm.MethodName) "ChairCane") ∈ lw_tbl := lw_at lw_m2 202 rfl
theorem q561 : (Jvm.Cond.methodLink "ChairCane$Text" (134 : Nat) ({ cls := "ChairCane$Text", name := "chairHere", desc := "()V" } : Jvm.MethodName)) ∈ lw_all := lw_g (lw_at lw_m2 205 rfl) rfl
theorem q562 : (Jvm.Cond.privateMethod ({ cls := "ChairCane$Text", name := "chairHere", desc := "()V" } : Jvm.MethodName)) ∈ lw_tbl := lw_at lw_m2 206 rfl
theorem q563 : (Jvm.Cond.instanceMethod ({ cls := "ChairCane$Text", name := "chairHere", desc := "()V" } : Jvm.MethodName)) ∈ lw_all := lw_g (lw_at lw_m2 207 rfl) rfl
theorem q564 : (Jvm.Cond.code ({ cls := "ChairCane$Text", name := "chairHere", desc := "()V" } : Jvm.MethodName) prog_13_method_16_code (2 : Nat) (Option.none : Option Jvm.ClassFile.FieldType)) ∈ lw_all := lw_g (lw_at lw_m2 208 rfl) rfl
theorem q565 : (Jvm.Cond.methodLink "ChairCane$Text" (137 : Nat) ({ cls := "ChairCane$Text", name := "sitterHere", desc := "()V" } : Jvm.MethodName)) ∈ lw_all := lw_g (lw_at lw_m2 209 rfl) rfl
theorem q566 : (Jvm.Cond.privateMethod ({ cls := "ChairCane$Text", name := "sitterHere", desc := "()V" } : Jvm.MethodName)) ∈ lw_tbl := lw_at lw_m2 210 rfl
theorem q567 : (Jvm.Cond.instanceMethod ({ cls := "ChairCane$Text", name := "sitterHere", desc := "()V" } : Jvm.MethodName)) ∈ lw_all := lw_g (lw_at lw_m2 211 rfl) rfl
theorem q568 : (Jvm.Cond.code ({ cls := "ChairCane$Text", name := "sitterHere", desc := "()V" } : Jvm.MethodName) prog_13_method_17_code (4 : Nat) (Option.none : Option Jvm.ClassFile.FieldType)) ∈ lw_all := lw_g (lw_at lw_m2 212 rfl) rfl
theorem q569 : (Jvm.Cond.methodLink "ChairCane$Text" (118 : Nat) ({ cls := "ChairCane$Dinner", name := "sitterOf", desc := "(I)I" } : Jvm.MethodName)) ∈ lw_all := lw_g (lw_at lw_m2 213 rfl) rfl
theorem q573 : (Jvm.Cond.methodLink "ChairCane$Text" (161 : Nat) ({ cls := "ChairCane$Text", name := "takesSign", desc := "(I)Z" } : Jvm.MethodName)) ∈ lw_all := lw_g (lw_at lw_m2 217 rfl) rfl
theorem q574 : (Jvm.Cond.privateMethod ({ cls := "ChairCane$Text", name := "takesSign", desc := "(I)Z" } : Jvm.MethodName)) ∈ lw_tbl := lw_at lw_m2 218 rfl
theorem q575 : (Jvm.Cond.instanceMethod ({ cls := "ChairCane$Text", name := "takesSign", desc := "(I)Z" } : Jvm.MethodName)) ∈ lw_all := lw_g (lw_at lw_m2 219 rfl) rfl
theorem q576 : (Jvm.Cond.code ({ cls := "ChairCane$Text", name := "takesSign", desc := "(I)Z" } : Jvm.MethodName) prog_13_method_4_code (2 : Nat) (Option.some Jvm.ClassFile.FieldType.boolean)) ∈ lw_all := lw_g (lw_at lw_m2 220 rfl) rfl
theorem q577 : (Jvm.Cond.methodLink "ChairCane$Text" (164 : Nat) ({ cls := "ChairCane$Text", name := "closes", desc := "()V" } : Jvm.MethodName)) ∈ lw_all := lw_g (lw_at lw_m2 221 rfl) rfl
theorem q578 : (Jvm.Cond.privateMethod ({ cls := "ChairCane$Text", name := "closes", desc := "()V" } : Jvm.MethodName)) ∈ lw_tbl := lw_at lw_m2 222 rfl
theorem q579 : (Jvm.Cond.instanceMethod ({ cls := "ChairCane$Text", name := "closes", desc := "()V" } : Jvm.MethodName)) ∈ lw_all := lw_g (lw_at lw_m2 223 rfl) rfl
theorem q580 : (Jvm.Cond.code ({ cls := "ChairCane$Text", name := "closes", desc := "()V" } : Jvm.MethodName) prog_13_method_13_code (1 : Nat) (Option.none : Option Jvm.ClassFile.FieldType)) ∈ lw_all := lw_g (lw_at lw_m2 224 rfl) rfl
theorem q581 : (Jvm.Cond.methodLink "ChairCane$Text" (167 : Nat) ({ cls := "ChairCane$Dinner", name := "begins", desc := "()V" } : Jvm.MethodName)) ∈ lw_all := lw_g (lw_at lw_m2 225 rfl) rfl
theorem q595 : (Jvm.Cond.instanceMethod ({ cls := "ChairCane$Text", name := "ruleTold", desc := "()LChairCane$Rule;" } : Jvm.MethodName)) ∈ lw_all := lw_g (lw_at lw_m2 239 rfl) rfl
theorem q596 : (Jvm.Cond.selects "ChairCane$Text" ({ cls := "ChairCane$Text", name := "ruleTold", desc := "()LChairCane$Rule;" } : Jvm.MethodName) ({ cls := "ChairCane$Text", name := "ruleTold", desc := "()LChairCane$Rule;" } : Jvm.MethodName)) ∈ lw_all := lw_g (lw_at lw_m3 0 rfl) rfl
theorem q597 : (Jvm.Cond.code ({ cls := "ChairCane$Text", name := "ruleTold", desc := "()LChairCane$Rule;" } : Jvm.MethodName) prog_13_method_21_code (3 : Nat) (Option.some (Jvm.ClassFile.FieldType.object "ChairCane$Rule"))) ∈ lw_all := lw_g (lw_at lw_m3 1 rfl) rfl
theorem q598 : (Jvm.Cond.classLink "ChairCane$Text" (193 : Nat) "ChairCane$Rule") ∈ lw_all := lw_g (lw_at lw_m3 2 rfl) rfl
theorem q600 : (Jvm.Cond.methodLinkNest "ChairCane$Text" (195 : Nat) ({ cls := "ChairCane$Rule", name := "<init>", desc := "()V" } : Jvm.MethodName) "ChairCane") ∈ lw_tbl := lw_at lw_m3 4 rfl
theorem q607 : (Jvm.Cond.fieldLinkNest "ChairCane$Text" (199 : Nat) "ChairCane$Rule" "clauses" "[LChairCane$Clause;" "ChairCane") ∈ lw_tbl := lw_at lw_m3 11 rfl
theorem q609 : (Jvm.Cond.fieldLinkNest "ChairCane$Text" (203 : Nat) "ChairCane$Rule" "many" "I" "ChairCane") ∈ lw_tbl := lw_at lw_m3 13 rfl
theorem q615 : (Jvm.Cond.methodLink "ChairCane$Text" (204 : Nat) ({ cls := "ChairCane$Text", name := "clauseHere", desc := "()LChairCane$Clause;" } : Jvm.MethodName)) ∈ lw_all := lw_g (lw_at lw_m3 19 rfl) rfl
theorem q616 : (Jvm.Cond.privateMethod ({ cls := "ChairCane$Text", name := "clauseHere", desc := "()LChairCane$Clause;" } : Jvm.MethodName)) ∈ lw_tbl := lw_at lw_m3 20 rfl
theorem q617 : (Jvm.Cond.instanceMethod ({ cls := "ChairCane$Text", name := "clauseHere", desc := "()LChairCane$Clause;" } : Jvm.MethodName)) ∈ lw_all := lw_g (lw_at lw_m3 21 rfl) rfl
theorem q618 : (Jvm.Cond.code ({ cls := "ChairCane$Text", name := "clauseHere", desc := "()LChairCane$Clause;" } : Jvm.MethodName) prog_13_method_20_code (2 : Nat) (Option.some (Jvm.ClassFile.FieldType.object "ChairCane$Clause"))) ∈ lw_all := lw_g (lw_at lw_m3 22 rfl) rfl
theorem q619 : (Jvm.Cond.classLink "ChairCane$Text" (170 : Nat) "ChairCane$Clause") ∈ lw_all := lw_g (lw_at lw_m3 23 rfl) rfl
theorem q621 : (Jvm.Cond.methodLinkNest "ChairCane$Text" (172 : Nat) ({ cls := "ChairCane$Clause", name := "<init>", desc := "()V" } : Jvm.MethodName) "ChairCane") ∈ lw_tbl := lw_at lw_m3 25 rfl
theorem q626 : (Jvm.Cond.fieldLinkNest "ChairCane$Text" (177 : Nat) "ChairCane$Clause" "sum" "LChairCane$Value;" "ChairCane") ∈ lw_tbl := lw_at lw_m3 30 rfl
theorem q628 : (Jvm.Cond.fieldLinkNest "ChairCane$Text" (189 : Nat) "ChairCane$Clause" "test" "LChairCane$Test;" "ChairCane") ∈ lw_tbl := lw_at lw_m3 32 rfl
theorem q634 : (Jvm.Cond.methodLink "ChairCane$Text" (173 : Nat) ({ cls := "ChairCane$Text", name := "sum", desc := "()LChairCane$Value;" } : Jvm.MethodName)) ∈ lw_all := lw_g (lw_at lw_m3 38 rfl) rfl
theorem q635 : (Jvm.Cond.privateMethod ({ cls := "ChairCane$Text", name := "sum", desc := "()LChairCane$Value;" } : Jvm.MethodName)) ∈ lw_tbl := lw_at lw_m3 39 rfl
theorem q636 : (Jvm.Cond.instanceMethod ({ cls := "ChairCane$Text", name := "sum", desc := "()LChairCane$Value;" } : Jvm.MethodName)) ∈ lw_all := lw_g (lw_at lw_m3 40 rfl) rfl
theorem q637 : (Jvm.Cond.code ({ cls := "ChairCane$Text", name := "sum", desc := "()LChairCane$Value;" } : Jvm.MethodName) prog_13_method_26_code (3 : Nat) (Option.some (Jvm.ClassFile.FieldType.object "ChairCane$Value"))) ∈ lw_all := lw_g (lw_at lw_m3 41 rfl) rfl
theorem q638 : (Jvm.Cond.methodLink "ChairCane$Text" (244 : Nat) ({ cls := "ChairCane$Text", name := "term", desc := "()LChairCane$Value;" } : Jvm.MethodName)) ∈ lw_all := lw_g (lw_at lw_m3 42 rfl) rfl
theorem q639 : (Jvm.Cond.privateMethod ({ cls := "ChairCane$Text", name := "term", desc := "()LChairCane$Value;" } : Jvm.MethodName)) ∈ lw_tbl := lw_at lw_m3 43 rfl
theorem q640 : (Jvm.Cond.instanceMethod ({ cls := "ChairCane$Text", name := "term", desc := "()LChairCane$Value;" } : Jvm.MethodName)) ∈ lw_all := lw_g (lw_at lw_m3 44 rfl) rfl
theorem q641 : (Jvm.Cond.code ({ cls := "ChairCane$Text", name := "term", desc := "()LChairCane$Value;" } : Jvm.MethodName) prog_13_method_27_code (3 : Nat) (Option.some (Jvm.ClassFile.FieldType.object "ChairCane$Value"))) ∈ lw_all := lw_g (lw_at lw_m3 45 rfl) rfl
theorem q642 : (Jvm.Cond.methodLink "ChairCane$Text" (250 : Nat) ({ cls := "ChairCane$Text", name := "value", desc := "()LChairCane$Value;" } : Jvm.MethodName)) ∈ lw_all := lw_g (lw_at lw_m3 46 rfl) rfl
theorem q643 : (Jvm.Cond.privateMethod ({ cls := "ChairCane$Text", name := "value", desc := "()LChairCane$Value;" } : Jvm.MethodName)) ∈ lw_tbl := lw_at lw_m3 47 rfl
theorem q644 : (Jvm.Cond.instanceMethod ({ cls := "ChairCane$Text", name := "value", desc := "()LChairCane$Value;" } : Jvm.MethodName)) ∈ lw_all := lw_g (lw_at lw_m3 48 rfl) rfl
theorem q645 : (Jvm.Cond.code ({ cls := "ChairCane$Text", name := "value", desc := "()LChairCane$Value;" } : Jvm.MethodName) prog_13_method_28_code (3 : Nat) (Option.some (Jvm.ClassFile.FieldType.object "ChairCane$Value"))) ∈ lw_all := lw_g (lw_at lw_m3 49 rfl) rfl
theorem q646 : (Jvm.Cond.constant "ChairCane$Text" (253 : Nat) (99999 : Int32)) ∈ lw_all := lw_g (lw_at lw_m3 50 rfl) rfl
theorem q647 : (Jvm.Cond.methodLink "ChairCane$Text" (236 : Nat) ({ cls := "ChairCane$Text", name := "makes", desc := "(I)V" } : Jvm.MethodName)) ∈ lw_all := lw_g (lw_at lw_m3 51 rfl) rfl
theorem q648 : (Jvm.Cond.privateMethod ({ cls := "ChairCane$Text", name := "makes", desc := "(I)V" } : Jvm.MethodName)) ∈ lw_tbl := lw_at lw_m3 52 rfl
theorem q649 : (Jvm.Cond.instanceMethod ({ cls := "ChairCane$Text", name := "makes", desc := "(I)V" } : Jvm.MethodName)) ∈ lw_all := lw_g (lw_at lw_m3 53 rfl) rfl
theorem q650 : (Jvm.Cond.code ({ cls := "ChairCane$Text", name := "makes", desc := "(I)V" } : Jvm.MethodName) prog_13_method_11_code (2 : Nat) (Option.none : Option Jvm.ClassFile.FieldType)) ∈ lw_all := lw_g (lw_at lw_m3 54 rfl) rfl
theorem q651 : (Jvm.Cond.classLink "ChairCane$Text" (254 : Nat) "ChairCane$Number") ∈ lw_all := lw_g (lw_at lw_m3 55 rfl) rfl
theorem q653 : (Jvm.Cond.methodLink "ChairCane$Text" (256 : Nat) ({ cls := "ChairCane$Number", name := "<init>", desc := "(J)V" } : Jvm.MethodName)) ∈ lw_all := lw_g (lw_at lw_m3 57 rfl) rfl
theorem q664 : (Jvm.Cond.classLink "ChairCane$Text" (259 : Nat) "ChairCane$Word") ∈ lw_all := lw_g (lw_at lw_m3 68 rfl) rfl
theorem q666 : (Jvm.Cond.methodLink "ChairCane$Text" (261 : Nat) ({ cls := "ChairCane$Word", name := "<init>", desc := "(I)V" } : Jvm.MethodName)) ∈ lw_all := lw_g (lw_at lw_m3 70 rfl) rfl
theorem q674 : (Jvm.Cond.classLink "ChairCane$Text" (247 : Nat) "ChairCane$Pair") ∈ lw_all := lw_g (lw_at lw_m3 78 rfl) rfl
theorem q676 : (Jvm.Cond.methodLink "ChairCane$Text" (249 : Nat) ({ cls := "ChairCane$Pair", name := "<init>", desc := "(LChairCane$Value;ILChairCane$Value;)V" } : Jvm.MethodName)) ∈ lw_all := lw_g (lw_at lw_m3 80 rfl) rfl
theorem q690 : (Jvm.Cond.stringRef "ChairCane$Text" (180 : Nat) "if") ∈ lw_tbl := lw_at lw_m3 94 rfl
theorem q691 : (Jvm.Cond.methodLink "ChairCane$Text" (182 : Nat) ({ cls := "ChairCane$Text", name := "takesWord", desc := "(Ljava/lang/String;)Z" } : Jvm.MethodName)) ∈ lw_all := lw_g (lw_at lw_m3 95 rfl) rfl
theorem q692 : (Jvm.Cond.privateMethod ({ cls := "ChairCane$Text", name := "takesWord", desc := "(Ljava/lang/String;)Z" } : Jvm.MethodName)) ∈ lw_tbl := lw_at lw_m3 96 rfl
theorem q693 : (Jvm.Cond.instanceMethod ({ cls := "ChairCane$Text", name := "takesWord", desc := "(Ljava/lang/String;)Z" } : Jvm.MethodName)) ∈ lw_all := lw_g (lw_at lw_m3 97 rfl) rfl
theorem q694 : (Jvm.Cond.code ({ cls := "ChairCane$Text", name := "takesWord", desc := "(Ljava/lang/String;)Z" } : Jvm.MethodName) prog_13_method_7_code (2 : Nat) (Option.some Jvm.ClassFile.FieldType.boolean)) ∈ lw_all := lw_g (lw_at lw_m3 98 rfl) rfl
theorem q695 : (Jvm.Cond.methodLink "ChairCane$Text" (185 : Nat) ({ cls := "ChairCane$Text", name := "tested", desc := "()LChairCane$Test;" } : Jvm.MethodName)) ∈ lw_all := lw_g (lw_at lw_m3 99 rfl) rfl
theorem q696 : (Jvm.Cond.privateMethod ({ cls := "ChairCane$Text", name := "tested", desc := "()LChairCane$Test;" } : Jvm.MethodName)) ∈ lw_tbl := lw_at lw_m3 100 rfl
theorem q697 : (Jvm.Cond.instanceMethod ({ cls := "ChairCane$Text", name := "tested", desc := "()LChairCane$Test;" } : Jvm.MethodName)) ∈ lw_all := lw_g (lw_at lw_m3 101 rfl) rfl
theorem q698 : (Jvm.Cond.code ({ cls := "ChairCane$Text", name := "tested", desc := "()LChairCane$Test;" } : Jvm.MethodName) prog_13_method_22_code (2 : Nat) (Option.some (Jvm.ClassFile.FieldType.object "ChairCane$Test"))) ∈ lw_all := lw_g (lw_at lw_m3 102 rfl) rfl
theorem q699 : (Jvm.Cond.methodLink "ChairCane$Text" (208 : Nat) ({ cls := "ChairCane$Text", name := "parted", desc := "()LChairCane$Test;" } : Jvm.MethodName)) ∈ lw_all := lw_g (lw_at lw_m3 103 rfl) rfl
theorem q700 : (Jvm.Cond.privateMethod ({ cls := "ChairCane$Text", name := "parted", desc := "()LChairCane$Test;" } : Jvm.MethodName)) ∈ lw_tbl := lw_at lw_m3 104 rfl
theorem q701 : (Jvm.Cond.instanceMethod ({ cls := "ChairCane$Text", name := "parted", desc := "()LChairCane$Test;" } : Jvm.MethodName)) ∈ lw_all := lw_g (lw_at lw_m3 105 rfl) rfl
theorem q702 : (Jvm.Cond.code ({ cls := "ChairCane$Text", name := "parted", desc := "()LChairCane$Test;" } : Jvm.MethodName) prog_13_method_23_code (2 : Nat) (Option.some (Jvm.ClassFile.FieldType.object "ChairCane$Test"))) ∈ lw_all := lw_g (lw_at lw_m3 106 rfl) rfl
theorem q703 : (Jvm.Cond.methodLink "ChairCane$Text" (218 : Nat) ({ cls := "ChairCane$Text", name := "fact", desc := "()LChairCane$Test;" } : Jvm.MethodName)) ∈ lw_all := lw_g (lw_at lw_m3 107 rfl) rfl
theorem q704 : (Jvm.Cond.privateMethod ({ cls := "ChairCane$Text", name := "fact", desc := "()LChairCane$Test;" } : Jvm.MethodName)) ∈ lw_tbl := lw_at lw_m3 108 rfl
theorem q705 : (Jvm.Cond.instanceMethod ({ cls := "ChairCane$Text", name := "fact", desc := "()LChairCane$Test;" } : Jvm.MethodName)) ∈ lw_all := lw_g (lw_at lw_m3 109 rfl) rfl
theorem q706 : (Jvm.Cond.code ({ cls := "ChairCane$Text", name := "fact", desc := "()LChairCane$Test;" } : Jvm.MethodName) prog_13_method_24_code (6 : Nat) (Option.some (Jvm.ClassFile.FieldType.object "ChairCane$Test"))) ∈ lw_all := lw_g (lw_at lw_m3 110 rfl) rfl
theorem q707 : (Jvm.Cond.stringRef "ChairCane$Text" (223 : Nat) "not") ∈ lw_tbl := lw_at lw_m3 111 rfl
theorem q708 : (Jvm.Cond.methodLink "ChairCane$Text" (225 : Nat) ({ cls := "ChairCane$Text", name := "opens", desc := "(I)V" } : Jvm.MethodName)) ∈ lw_all := lw_g (lw_at lw_m3 112 rfl) rfl
theorem q709 : (Jvm.Cond.privateMethod ({ cls := "ChairCane$Text", name := "opens", desc := "(I)V" } : Jvm.MethodName)) ∈ lw_tbl := lw_at lw_m3 113 rfl
theorem q710 : (Jvm.Cond.instanceMethod ({ cls := "ChairCane$Text", name := "opens", desc := "(I)V" } : Jvm.MethodName)) ∈ lw_all := lw_g (lw_at lw_m3 114 rfl) rfl
theorem q711 : (Jvm.Cond.code ({ cls := "ChairCane$Text", name := "opens", desc := "(I)V" } : Jvm.MethodName) prog_13_method_12_code (2 : Nat) (Option.none : Option Jvm.ClassFile.FieldType)) ∈ lw_all := lw_g (lw_at lw_m3 115 rfl) rfl
theorem q712 : (Jvm.Cond.classLink "ChairCane$Text" (228 : Nat) "ChairCane$Not") ∈ lw_all := lw_g (lw_at lw_m3 116 rfl) rfl
theorem q714 : (Jvm.Cond.methodLink "ChairCane$Text" (230 : Nat) ({ cls := "ChairCane$Not", name := "<init>", desc := "(LChairCane$Test;)V" } : Jvm.MethodName)) ∈ lw_all := lw_g (lw_at lw_m3 118 rfl) rfl
theorem q725 : (Jvm.Cond.methodLink "ChairCane$Text" (233 : Nat) ({ cls := "ChairCane$Text", name := "sign", desc := "()I" } : Jvm.MethodName)) ∈ lw_all := lw_g (lw_at lw_m3 129 rfl) rfl
theorem q726 : (Jvm.Cond.privateMethod ({ cls := "ChairCane$Text", name := "sign", desc := "()I" } : Jvm.MethodName)) ∈ lw_tbl := lw_at lw_m3 130 rfl
theorem q727 : (Jvm.Cond.instanceMethod ({ cls := "ChairCane$Text", name := "sign", desc := "()I" } : Jvm.MethodName)) ∈ lw_all := lw_g (lw_at lw_m3 131 rfl) rfl
theorem q728 : (Jvm.Cond.code ({ cls := "ChairCane$Text", name := "sign", desc := "()I" } : Jvm.MethodName) prog_13_method_25_code (3 : Nat) (Option.some Jvm.ClassFile.FieldType.int)) ∈ lw_all := lw_g (lw_at lw_m3 132 rfl) rfl
theorem q729 : (Jvm.Cond.classLink "ChairCane$Text" (239 : Nat) "ChairCane$Compare") ∈ lw_all := lw_g (lw_at lw_m3 133 rfl) rfl
theorem q731 : (Jvm.Cond.methodLink "ChairCane$Text" (241 : Nat) ({ cls := "ChairCane$Compare", name := "<init>", desc := "(LChairCane$Value;ILChairCane$Value;)V" } : Jvm.MethodName)) ∈ lw_all := lw_g (lw_at lw_m3 135 rfl) rfl
theorem q745 : (Jvm.Cond.stringRef "ChairCane$Text" (221 : Nat) "and") ∈ lw_tbl := lw_at lw_m3 149 rfl
theorem q746 : (Jvm.Cond.classLink "ChairCane$Text" (213 : Nat) "ChairCane$Both") ∈ lw_all := lw_g (lw_at lw_m3 150 rfl) rfl
theorem q748 : (Jvm.Cond.methodLink "ChairCane$Text" (215 : Nat) ({ cls := "ChairCane$Both", name := "<init>", desc := "(LChairCane$Test;ZLChairCane$Test;)V" } : Jvm.MethodName)) ∈ lw_all := lw_g (lw_at lw_m3 152 rfl) rfl
theorem q762 : (Jvm.Cond.stringRef "ChairCane$Text" (211 : Nat) "or") ∈ lw_tbl := lw_at lw_m3 166 rfl
theorem in_X4 : ∀ w ∈ wsX40, w ∈ lw_all := lw_in wsX40 [440, 442, 444, 446, 448, 450, 452] (by decide +kernel) (by decide +kernel)
