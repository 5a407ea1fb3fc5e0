/-! ChairCane -/
set_option maxRecDepth 100000
def RX0 : String := "ChairCane"
def TX0 : u_T := fun k => match k with
  | 0 => ("ChairCane", "dinner", "LChairCane$Dinner;", false)
  | 1 => ("ChairCane", "own", "LChairCane$Dinner;", true)
  | 2 => ("ChairCane", "spare", "LChairCane$Dinner;", true)
  | 3 => ("ChairCane", "reading", "LChairCane$Dinner;", true)
  | 4 => ("ChairCane", "blank", "LChairCane$Dinner;", true)
  | 5 => ("ChairCane", "x", "I", false)
  | 6 => ("ChairCane", "inForce", "I", false)
  | 7 => ("ChairCane", "fault", "LChairCane$Fault;", true)
  | 8 => ("ChairCane", "tape", "[B", true)
  | 9 => ("ChairCane", "taped", "I", false)
  | 10 => ("ChairCane", "lineWords", "[Ljava/lang/String;", true)
  | 11 => ("ChairCane", "clauseWords", "[Ljava/lang/String;", true)
  | 12 => ("ChairCane", "wordNames", "[Ljava/lang/String;", true)
  | 13 => ("ChairCane", "rules", "[LChairCane$Rule;", true)
  | 14 => ("ChairCane", "ruleMany", "I", false)
  | 15 => ("ChairCane", "firstUp", "[I", true)
  | 16 => ("ChairCane", "hasOne", "[I", true)
  | 17 => ("ChairCane", "hasOther", "[I", true)
  | 18 => ("ChairCane", "standsThen", "[I", true)
  | 19 => ("ChairCane", "isFit", "[Z", true)
  | 20 => ("ChairCane", "statusThen", "[I", true)
  | 21 => ("ChairCane", "drawX", "I", false)
  | _ => ("ChairCane", "images", "[LChairCane$Image;", true)
def tyX0 : Nat → FieldType := fun k => match k with
  | 0 => .object "ChairCane$Dinner"
  | 1 => .object "ChairCane$Dinner"
  | 2 => .object "ChairCane$Dinner"
  | 3 => .object "ChairCane$Dinner"
  | 4 => .object "ChairCane$Dinner"
  | 5 => .int
  | 6 => .int
  | 7 => .object "ChairCane$Fault"
  | 8 => .array .byte
  | 9 => .int
  | 10 => .array (.object "java/lang/String")
  | 11 => .array (.object "java/lang/String")
  | 12 => .array (.object "java/lang/String")
  | 13 => .array (.object "ChairCane$Rule")
  | 14 => .int
  | 15 => .array .int
  | 16 => .array .int
  | 17 => .array .int
  | 18 => .array .int
  | 19 => .array .boolean
  | 20 => .array .int
  | 21 => .int
  | _ => .array (.object "ChairCane$Image")
abbrev wsX00 : List Cond := u_ws RX0 TX0 23
set_option maxRecDepth 100000 in
theorem nmX0 : ∀ a, a < 23 → ∀ b, b < 23 → a ≠ b → (TX0 a).2.1 ≠ (TX0 b).2.1 := by decide +kernel
set_option maxRecDepth 100000 in
theorem tyX0_ok : ∀ k, k < 23 → parseFieldDescriptor (TX0 k).2.2.1 = some (tyX0 k) := by decide +kernel
abbrev cX0_init : ByteArray := prog_1_method_3_code
def yX0_init : MethodName := ⟨RX0, "<init>", "()V"⟩
def dkwX0_init_10 : List UInt8 := [16, 56, 188, 10, 181, 0, 103, 42, 7, 189, 0, 106, 181, 0, 108, 177]
abbrev dktX0_init_10 : List UInt8 := dkwX0_init_10 ++ []
def dkwX0_init_9 : List UInt8 := [188, 10, 181, 0, 93, 42, 17, 1, 232, 188, 10, 181, 0, 96, 42, 16, 7, 188, 4, 181, 0, 99, 42]
abbrev dktX0_init_9 : List UInt8 := dkwX0_init_9 ++ dktX0_init_10
def dkwX0_init_8 : List UInt8 := [189, 0, 80, 181, 0, 82, 42, 17, 1, 0, 188, 10, 181, 0, 86, 42, 7, 188, 10, 181, 0, 90, 42, 7]
abbrev dktX0_init_8 : List UInt8 := dkwX0_init_8 ++ dktX0_init_9
def dkwX0_init_7 : List UInt8 := [16, 8, 18, 71, 83, 89, 16, 9, 18, 73, 83, 89, 16, 10, 18, 75, 83, 181, 0, 77, 42, 16, 6]
abbrev dktX0_init_7 : List UInt8 := dkwX0_init_7 ++ dktX0_init_8
def dkwX0_init_6 : List UInt8 := [83, 89, 7, 18, 63, 83, 89, 8, 18, 65, 83, 89, 16, 6, 18, 67, 83, 89, 16, 7, 18, 69, 83, 89]
abbrev dktX0_init_6 : List UInt8 := dkwX0_init_6 ++ dktX0_init_7
def dkwX0_init_5 : List UInt8 := [16, 11, 189, 0, 40, 89, 3, 18, 48, 83, 89, 4, 18, 46, 83, 89, 5, 18, 59, 83, 89, 6, 18, 61]
abbrev dktX0_init_5 : List UInt8 := dkwX0_init_5 ++ dktX0_init_6
def dkwX0_init_4 : List UInt8 := [83, 89, 6, 18, 48, 83, 181, 0, 50, 42, 4, 189, 0, 40, 89, 3, 18, 54, 83, 181, 0, 56, 42]
abbrev dktX0_init_4 : List UInt8 := dkwX0_init_4 ++ dktX0_init_5
def dkwX0_init_3 : List UInt8 := [188, 8, 181, 0, 36, 42, 7, 189, 0, 40, 89, 3, 18, 42, 83, 89, 4, 18, 44, 83, 89, 5, 18, 46]
abbrev dktX0_init_3 : List UInt8 := dkwX0_init_3 ++ dktX0_init_4
def dkwX0_init_2 : List UInt8 := [181, 0, 22, 42, 2, 181, 0, 25, 42, 187, 0, 29, 89, 183, 0, 31, 181, 0, 32, 42, 17, 1, 144]
abbrev dktX0_init_2 : List UInt8 := dkwX0_init_2 ++ dktX0_init_3
def dkwX0_init_1 : List UInt8 := [181, 0, 16, 42, 187, 0, 7, 89, 183, 0, 9, 181, 0, 19, 42, 187, 0, 7, 89, 183, 0, 9]
abbrev dktX0_init_1 : List UInt8 := dkwX0_init_1 ++ dktX0_init_2
def dkwX0_init_0 : List UInt8 := [42, 183, 0, 1, 42, 187, 0, 7, 89, 183, 0, 9, 181, 0, 10, 42, 187, 0, 7, 89, 183, 0, 9]
abbrev dktX0_init_0 : List UInt8 := dkwX0_init_0 ++ dktX0_init_1
theorem dksX0_init_0 : cX0_init.data.toList.drop 0 = dktX0_init_0 := by decide +kernel
theorem dksX0_init_1 : cX0_init.data.toList.drop 23 = dktX0_init_1 := dk_seg dksX0_init_0 23 rfl rfl
theorem dksX0_init_2 : cX0_init.data.toList.drop 45 = dktX0_init_2 := dk_seg dksX0_init_1 22 rfl rfl
theorem dksX0_init_3 : cX0_init.data.toList.drop 68 = dktX0_init_3 := dk_seg dksX0_init_2 23 rfl rfl
theorem dksX0_init_4 : cX0_init.data.toList.drop 92 = dktX0_init_4 := dk_seg dksX0_init_3 24 rfl rfl
theorem dksX0_init_5 : cX0_init.data.toList.drop 115 = dktX0_init_5 := dk_seg dksX0_init_4 23 rfl rfl
theorem dksX0_init_6 : cX0_init.data.toList.drop 139 = dktX0_init_6 := dk_seg dksX0_init_5 24 rfl rfl
theorem dksX0_init_7 : cX0_init.data.toList.drop 163 = dktX0_init_7 := dk_seg dksX0_init_6 24 rfl rfl
theorem dksX0_init_8 : cX0_init.data.toList.drop 186 = dktX0_init_8 := dk_seg dksX0_init_7 23 rfl rfl
theorem dksX0_init_9 : cX0_init.data.toList.drop 210 = dktX0_init_9 := dk_seg dksX0_init_8 24 rfl rfl
theorem dksX0_init_10 : cX0_init.data.toList.drop 233 = dktX0_init_10 := dk_seg dksX0_init_9 23 rfl rfl
theorem dX0_init_0 : decode cX0_init 0 = .ok (.aload_n 0, 1) := dk_42 (dk_at dksX0_init_0 0 rfl rfl)
theorem dX0_init_1 : decode cX0_init 1 = .ok (.invokespecial 1, 3) := dk_183 0 1 (dk_at dksX0_init_0 1 rfl rfl)
theorem dX0_init_4 : decode cX0_init 4 = .ok (.aload_n 0, 1) := dk_42 (dk_at dksX0_init_0 4 rfl rfl)
theorem dX0_init_5 : decode cX0_init 5 = .ok (.new 7, 3) := dk_187 0 7 (dk_at dksX0_init_0 5 rfl rfl)
theorem dX0_init_8 : decode cX0_init 8 = .ok (.dup, 1) := dk_89 (dk_at dksX0_init_0 8 rfl rfl)
theorem dX0_init_9 : decode cX0_init 9 = .ok (.invokespecial 9, 3) := dk_183 0 9 (dk_at dksX0_init_0 9 rfl rfl)
theorem dX0_init_12 : decode cX0_init 12 = .ok (.putfield 10, 3) := dk_181 0 10 (dk_at dksX0_init_0 12 rfl rfl)
theorem dX0_init_15 : decode cX0_init 15 = .ok (.aload_n 0, 1) := dk_42 (dk_at dksX0_init_0 15 rfl rfl)
theorem dX0_init_16 : decode cX0_init 16 = .ok (.new 7, 3) := dk_187 0 7 (dk_at dksX0_init_0 16 rfl rfl)
theorem dX0_init_19 : decode cX0_init 19 = .ok (.dup, 1) := dk_89 (dk_at dksX0_init_0 19 rfl rfl)
theorem dX0_init_20 : decode cX0_init 20 = .ok (.invokespecial 9, 3) := dk_183 0 9 (dk_at dksX0_init_0 20 rfl rfl)
theorem dX0_init_23 : decode cX0_init 23 = .ok (.putfield 16, 3) := dk_181 0 16 (dk_at dksX0_init_1 0 rfl rfl)
theorem dX0_init_26 : decode cX0_init 26 = .ok (.aload_n 0, 1) := dk_42 (dk_at dksX0_init_1 3 rfl rfl)
theorem dX0_init_27 : decode cX0_init 27 = .ok (.new 7, 3) := dk_187 0 7 (dk_at dksX0_init_1 4 rfl rfl)
theorem dX0_init_30 : decode cX0_init 30 = .ok (.dup, 1) := dk_89 (dk_at dksX0_init_1 7 rfl rfl)
theorem dX0_init_31 : decode cX0_init 31 = .ok (.invokespecial 9, 3) := dk_183 0 9 (dk_at dksX0_init_1 8 rfl rfl)
theorem dX0_init_34 : decode cX0_init 34 = .ok (.putfield 19, 3) := dk_181 0 19 (dk_at dksX0_init_1 11 rfl rfl)
theorem dX0_init_37 : decode cX0_init 37 = .ok (.aload_n 0, 1) := dk_42 (dk_at dksX0_init_1 14 rfl rfl)
theorem dX0_init_38 : decode cX0_init 38 = .ok (.new 7, 3) := dk_187 0 7 (dk_at dksX0_init_1 15 rfl rfl)
theorem dX0_init_41 : decode cX0_init 41 = .ok (.dup, 1) := dk_89 (dk_at dksX0_init_1 18 rfl rfl)
theorem dX0_init_42 : decode cX0_init 42 = .ok (.invokespecial 9, 3) := dk_183 0 9 (dk_at dksX0_init_1 19 rfl rfl)
theorem dX0_init_45 : decode cX0_init 45 = .ok (.putfield 22, 3) := dk_181 0 22 (dk_at dksX0_init_2 0 rfl rfl)
theorem dX0_init_48 : decode cX0_init 48 = .ok (.aload_n 0, 1) := dk_42 (dk_at dksX0_init_2 3 rfl rfl)
theorem dX0_init_49 : decode cX0_init 49 = .ok (.iconst (-1), 1) := dk_2 (dk_at dksX0_init_2 4 rfl rfl)
theorem dX0_init_50 : decode cX0_init 50 = .ok (.putfield 25, 3) := dk_181 0 25 (dk_at dksX0_init_2 5 rfl rfl)
theorem dX0_init_53 : decode cX0_init 53 = .ok (.aload_n 0, 1) := dk_42 (dk_at dksX0_init_2 8 rfl rfl)
theorem dX0_init_54 : decode cX0_init 54 = .ok (.new 29, 3) := dk_187 0 29 (dk_at dksX0_init_2 9 rfl rfl)
theorem dX0_init_57 : decode cX0_init 57 = .ok (.dup, 1) := dk_89 (dk_at dksX0_init_2 12 rfl rfl)
theorem dX0_init_58 : decode cX0_init 58 = .ok (.invokespecial 31, 3) := dk_183 0 31 (dk_at dksX0_init_2 13 rfl rfl)
theorem dX0_init_61 : decode cX0_init 61 = .ok (.putfield 32, 3) := dk_181 0 32 (dk_at dksX0_init_2 16 rfl rfl)
theorem dX0_init_64 : decode cX0_init 64 = .ok (.aload_n 0, 1) := dk_42 (dk_at dksX0_init_2 19 rfl rfl)
theorem dX0_init_65 : decode cX0_init 65 = .ok (.sipush 400, 3) := dk_17 1 144 (dk_at dksX0_init_2 20 rfl rfl)
theorem dX0_init_68 : decode cX0_init 68 = .ok (.newarray .byte, 2) := dk_188_8 (dk_at dksX0_init_3 0 rfl rfl)
theorem dX0_init_70 : decode cX0_init 70 = .ok (.putfield 36, 3) := dk_181 0 36 (dk_at dksX0_init_3 2 rfl rfl)
theorem dX0_init_73 : decode cX0_init 73 = .ok (.aload_n 0, 1) := dk_42 (dk_at dksX0_init_3 5 rfl rfl)
theorem dX0_init_74 : decode cX0_init 74 = .ok (.iconst 4, 1) := dk_7 (dk_at dksX0_init_3 6 rfl rfl)
theorem dX0_init_75 : decode cX0_init 75 = .ok (.anewarray 40, 3) := dk_189 0 40 (dk_at dksX0_init_3 7 rfl rfl)
theorem dX0_init_78 : decode cX0_init 78 = .ok (.dup, 1) := dk_89 (dk_at dksX0_init_3 10 rfl rfl)
theorem dX0_init_79 : decode cX0_init 79 = .ok (.iconst 0, 1) := dk_3 (dk_at dksX0_init_3 11 rfl rfl)
theorem dX0_init_80 : decode cX0_init 80 = .ok (.ldc 42, 2) := dk_18 42 (dk_at dksX0_init_3 12 rfl rfl)
theorem dX0_init_82 : decode cX0_init 82 = .ok (.aastore, 1) := dk_83 (dk_at dksX0_init_3 14 rfl rfl)
theorem dX0_init_83 : decode cX0_init 83 = .ok (.dup, 1) := dk_89 (dk_at dksX0_init_3 15 rfl rfl)
theorem dX0_init_84 : decode cX0_init 84 = .ok (.iconst 1, 1) := dk_4 (dk_at dksX0_init_3 16 rfl rfl)
theorem dX0_init_85 : decode cX0_init 85 = .ok (.ldc 44, 2) := dk_18 44 (dk_at dksX0_init_3 17 rfl rfl)
theorem dX0_init_87 : decode cX0_init 87 = .ok (.aastore, 1) := dk_83 (dk_at dksX0_init_3 19 rfl rfl)
theorem dX0_init_88 : decode cX0_init 88 = .ok (.dup, 1) := dk_89 (dk_at dksX0_init_3 20 rfl rfl)
theorem dX0_init_89 : decode cX0_init 89 = .ok (.iconst 2, 1) := dk_5 (dk_at dksX0_init_3 21 rfl rfl)
theorem dX0_init_90 : decode cX0_init 90 = .ok (.ldc 46, 2) := dk_18 46 (dk_at dksX0_init_3 22 rfl rfl)
theorem dX0_init_92 : decode cX0_init 92 = .ok (.aastore, 1) := dk_83 (dk_at dksX0_init_4 0 rfl rfl)
theorem dX0_init_93 : decode cX0_init 93 = .ok (.dup, 1) := dk_89 (dk_at dksX0_init_4 1 rfl rfl)
theorem dX0_init_94 : decode cX0_init 94 = .ok (.iconst 3, 1) := dk_6 (dk_at dksX0_init_4 2 rfl rfl)
theorem dX0_init_95 : decode cX0_init 95 = .ok (.ldc 48, 2) := dk_18 48 (dk_at dksX0_init_4 3 rfl rfl)
theorem dX0_init_97 : decode cX0_init 97 = .ok (.aastore, 1) := dk_83 (dk_at dksX0_init_4 5 rfl rfl)
theorem dX0_init_98 : decode cX0_init 98 = .ok (.putfield 50, 3) := dk_181 0 50 (dk_at dksX0_init_4 6 rfl rfl)
theorem dX0_init_101 : decode cX0_init 101 = .ok (.aload_n 0, 1) := dk_42 (dk_at dksX0_init_4 9 rfl rfl)
theorem dX0_init_102 : decode cX0_init 102 = .ok (.iconst 1, 1) := dk_4 (dk_at dksX0_init_4 10 rfl rfl)
theorem dX0_init_103 : decode cX0_init 103 = .ok (.anewarray 40, 3) := dk_189 0 40 (dk_at dksX0_init_4 11 rfl rfl)
theorem dX0_init_106 : decode cX0_init 106 = .ok (.dup, 1) := dk_89 (dk_at dksX0_init_4 14 rfl rfl)
theorem dX0_init_107 : decode cX0_init 107 = .ok (.iconst 0, 1) := dk_3 (dk_at dksX0_init_4 15 rfl rfl)
theorem dX0_init_108 : decode cX0_init 108 = .ok (.ldc 54, 2) := dk_18 54 (dk_at dksX0_init_4 16 rfl rfl)
theorem dX0_init_110 : decode cX0_init 110 = .ok (.aastore, 1) := dk_83 (dk_at dksX0_init_4 18 rfl rfl)
theorem dX0_init_111 : decode cX0_init 111 = .ok (.putfield 56, 3) := dk_181 0 56 (dk_at dksX0_init_4 19 rfl rfl)
theorem dX0_init_114 : decode cX0_init 114 = .ok (.aload_n 0, 1) := dk_42 (dk_at dksX0_init_4 22 rfl rfl)
theorem dX0_init_115 : decode cX0_init 115 = .ok (.bipush 11, 2) := dk_16 11 (dk_at dksX0_init_5 0 rfl rfl)
theorem dX0_init_117 : decode cX0_init 117 = .ok (.anewarray 40, 3) := dk_189 0 40 (dk_at dksX0_init_5 2 rfl rfl)
theorem dX0_init_120 : decode cX0_init 120 = .ok (.dup, 1) := dk_89 (dk_at dksX0_init_5 5 rfl rfl)
theorem dX0_init_121 : decode cX0_init 121 = .ok (.iconst 0, 1) := dk_3 (dk_at dksX0_init_5 6 rfl rfl)
theorem dX0_init_122 : decode cX0_init 122 = .ok (.ldc 48, 2) := dk_18 48 (dk_at dksX0_init_5 7 rfl rfl)
theorem dX0_init_124 : decode cX0_init 124 = .ok (.aastore, 1) := dk_83 (dk_at dksX0_init_5 9 rfl rfl)
theorem dX0_init_125 : decode cX0_init 125 = .ok (.dup, 1) := dk_89 (dk_at dksX0_init_5 10 rfl rfl)
theorem dX0_init_126 : decode cX0_init 126 = .ok (.iconst 1, 1) := dk_4 (dk_at dksX0_init_5 11 rfl rfl)
theorem dX0_init_127 : decode cX0_init 127 = .ok (.ldc 46, 2) := dk_18 46 (dk_at dksX0_init_5 12 rfl rfl)
theorem dX0_init_129 : decode cX0_init 129 = .ok (.aastore, 1) := dk_83 (dk_at dksX0_init_5 14 rfl rfl)
theorem dX0_init_130 : decode cX0_init 130 = .ok (.dup, 1) := dk_89 (dk_at dksX0_init_5 15 rfl rfl)
theorem dX0_init_131 : decode cX0_init 131 = .ok (.iconst 2, 1) := dk_5 (dk_at dksX0_init_5 16 rfl rfl)
theorem dX0_init_132 : decode cX0_init 132 = .ok (.ldc 59, 2) := dk_18 59 (dk_at dksX0_init_5 17 rfl rfl)
theorem dX0_init_134 : decode cX0_init 134 = .ok (.aastore, 1) := dk_83 (dk_at dksX0_init_5 19 rfl rfl)
theorem dX0_init_135 : decode cX0_init 135 = .ok (.dup, 1) := dk_89 (dk_at dksX0_init_5 20 rfl rfl)
theorem dX0_init_136 : decode cX0_init 136 = .ok (.iconst 3, 1) := dk_6 (dk_at dksX0_init_5 21 rfl rfl)
theorem dX0_init_137 : decode cX0_init 137 = .ok (.ldc 61, 2) := dk_18 61 (dk_at dksX0_init_5 22 rfl rfl)
theorem dX0_init_139 : decode cX0_init 139 = .ok (.aastore, 1) := dk_83 (dk_at dksX0_init_6 0 rfl rfl)
theorem dX0_init_140 : decode cX0_init 140 = .ok (.dup, 1) := dk_89 (dk_at dksX0_init_6 1 rfl rfl)
theorem dX0_init_141 : decode cX0_init 141 = .ok (.iconst 4, 1) := dk_7 (dk_at dksX0_init_6 2 rfl rfl)
theorem dX0_init_142 : decode cX0_init 142 = .ok (.ldc 63, 2) := dk_18 63 (dk_at dksX0_init_6 3 rfl rfl)
theorem dX0_init_144 : decode cX0_init 144 = .ok (.aastore, 1) := dk_83 (dk_at dksX0_init_6 5 rfl rfl)
theorem dX0_init_145 : decode cX0_init 145 = .ok (.dup, 1) := dk_89 (dk_at dksX0_init_6 6 rfl rfl)
theorem dX0_init_146 : decode cX0_init 146 = .ok (.iconst 5, 1) := dk_8 (dk_at dksX0_init_6 7 rfl rfl)
theorem dX0_init_147 : decode cX0_init 147 = .ok (.ldc 65, 2) := dk_18 65 (dk_at dksX0_init_6 8 rfl rfl)
theorem dX0_init_149 : decode cX0_init 149 = .ok (.aastore, 1) := dk_83 (dk_at dksX0_init_6 10 rfl rfl)
theorem dX0_init_150 : decode cX0_init 150 = .ok (.dup, 1) := dk_89 (dk_at dksX0_init_6 11 rfl rfl)
theorem dX0_init_151 : decode cX0_init 151 = .ok (.bipush 6, 2) := dk_16 6 (dk_at dksX0_init_6 12 rfl rfl)
theorem dX0_init_153 : decode cX0_init 153 = .ok (.ldc 67, 2) := dk_18 67 (dk_at dksX0_init_6 14 rfl rfl)
theorem dX0_init_155 : decode cX0_init 155 = .ok (.aastore, 1) := dk_83 (dk_at dksX0_init_6 16 rfl rfl)
theorem dX0_init_156 : decode cX0_init 156 = .ok (.dup, 1) := dk_89 (dk_at dksX0_init_6 17 rfl rfl)
theorem dX0_init_157 : decode cX0_init 157 = .ok (.bipush 7, 2) := dk_16 7 (dk_at dksX0_init_6 18 rfl rfl)
theorem dX0_init_159 : decode cX0_init 159 = .ok (.ldc 69, 2) := dk_18 69 (dk_at dksX0_init_6 20 rfl rfl)
theorem dX0_init_161 : decode cX0_init 161 = .ok (.aastore, 1) := dk_83 (dk_at dksX0_init_6 22 rfl rfl)
theorem dX0_init_162 : decode cX0_init 162 = .ok (.dup, 1) := dk_89 (dk_at dksX0_init_6 23 rfl rfl)
theorem dX0_init_163 : decode cX0_init 163 = .ok (.bipush 8, 2) := dk_16 8 (dk_at dksX0_init_7 0 rfl rfl)
theorem dX0_init_165 : decode cX0_init 165 = .ok (.ldc 71, 2) := dk_18 71 (dk_at dksX0_init_7 2 rfl rfl)
theorem dX0_init_167 : decode cX0_init 167 = .ok (.aastore, 1) := dk_83 (dk_at dksX0_init_7 4 rfl rfl)
theorem dX0_init_168 : decode cX0_init 168 = .ok (.dup, 1) := dk_89 (dk_at dksX0_init_7 5 rfl rfl)
theorem dX0_init_169 : decode cX0_init 169 = .ok (.bipush 9, 2) := dk_16 9 (dk_at dksX0_init_7 6 rfl rfl)
theorem dX0_init_171 : decode cX0_init 171 = .ok (.ldc 73, 2) := dk_18 73 (dk_at dksX0_init_7 8 rfl rfl)
theorem dX0_init_173 : decode cX0_init 173 = .ok (.aastore, 1) := dk_83 (dk_at dksX0_init_7 10 rfl rfl)
theorem dX0_init_174 : decode cX0_init 174 = .ok (.dup, 1) := dk_89 (dk_at dksX0_init_7 11 rfl rfl)
theorem dX0_init_175 : decode cX0_init 175 = .ok (.bipush 10, 2) := dk_16 10 (dk_at dksX0_init_7 12 rfl rfl)
theorem dX0_init_177 : decode cX0_init 177 = .ok (.ldc 75, 2) := dk_18 75 (dk_at dksX0_init_7 14 rfl rfl)
theorem dX0_init_179 : decode cX0_init 179 = .ok (.aastore, 1) := dk_83 (dk_at dksX0_init_7 16 rfl rfl)
theorem dX0_init_180 : decode cX0_init 180 = .ok (.putfield 77, 3) := dk_181 0 77 (dk_at dksX0_init_7 17 rfl rfl)
theorem dX0_init_183 : decode cX0_init 183 = .ok (.aload_n 0, 1) := dk_42 (dk_at dksX0_init_7 20 rfl rfl)
theorem dX0_init_184 : decode cX0_init 184 = .ok (.bipush 6, 2) := dk_16 6 (dk_at dksX0_init_7 21 rfl rfl)
theorem dX0_init_186 : decode cX0_init 186 = .ok (.anewarray 80, 3) := dk_189 0 80 (dk_at dksX0_init_8 0 rfl rfl)
theorem dX0_init_189 : decode cX0_init 189 = .ok (.putfield 82, 3) := dk_181 0 82 (dk_at dksX0_init_8 3 rfl rfl)
theorem dX0_init_192 : decode cX0_init 192 = .ok (.aload_n 0, 1) := dk_42 (dk_at dksX0_init_8 6 rfl rfl)
theorem dX0_init_193 : decode cX0_init 193 = .ok (.sipush 256, 3) := dk_17 1 0 (dk_at dksX0_init_8 7 rfl rfl)
theorem dX0_init_196 : decode cX0_init 196 = .ok (.newarray .int, 2) := dk_188_10 (dk_at dksX0_init_8 10 rfl rfl)
theorem dX0_init_198 : decode cX0_init 198 = .ok (.putfield 86, 3) := dk_181 0 86 (dk_at dksX0_init_8 12 rfl rfl)
theorem dX0_init_201 : decode cX0_init 201 = .ok (.aload_n 0, 1) := dk_42 (dk_at dksX0_init_8 15 rfl rfl)
theorem dX0_init_202 : decode cX0_init 202 = .ok (.iconst 4, 1) := dk_7 (dk_at dksX0_init_8 16 rfl rfl)
theorem dX0_init_203 : decode cX0_init 203 = .ok (.newarray .int, 2) := dk_188_10 (dk_at dksX0_init_8 17 rfl rfl)
theorem dX0_init_205 : decode cX0_init 205 = .ok (.putfield 90, 3) := dk_181 0 90 (dk_at dksX0_init_8 19 rfl rfl)
theorem dX0_init_208 : decode cX0_init 208 = .ok (.aload_n 0, 1) := dk_42 (dk_at dksX0_init_8 22 rfl rfl)
theorem dX0_init_209 : decode cX0_init 209 = .ok (.iconst 4, 1) := dk_7 (dk_at dksX0_init_8 23 rfl rfl)
theorem dX0_init_210 : decode cX0_init 210 = .ok (.newarray .int, 2) := dk_188_10 (dk_at dksX0_init_9 0 rfl rfl)
theorem dX0_init_212 : decode cX0_init 212 = .ok (.putfield 93, 3) := dk_181 0 93 (dk_at dksX0_init_9 2 rfl rfl)
theorem dX0_init_215 : decode cX0_init 215 = .ok (.aload_n 0, 1) := dk_42 (dk_at dksX0_init_9 5 rfl rfl)
theorem dX0_init_216 : decode cX0_init 216 = .ok (.sipush 488, 3) := dk_17 1 232 (dk_at dksX0_init_9 6 rfl rfl)
theorem dX0_init_219 : decode cX0_init 219 = .ok (.newarray .int, 2) := dk_188_10 (dk_at dksX0_init_9 9 rfl rfl)
theorem dX0_init_221 : decode cX0_init 221 = .ok (.putfield 96, 3) := dk_181 0 96 (dk_at dksX0_init_9 11 rfl rfl)
theorem dX0_init_224 : decode cX0_init 224 = .ok (.aload_n 0, 1) := dk_42 (dk_at dksX0_init_9 14 rfl rfl)
theorem dX0_init_225 : decode cX0_init 225 = .ok (.bipush 7, 2) := dk_16 7 (dk_at dksX0_init_9 15 rfl rfl)
theorem dX0_init_227 : decode cX0_init 227 = .ok (.newarray .boolean, 2) := dk_188_4 (dk_at dksX0_init_9 17 rfl rfl)
theorem dX0_init_229 : decode cX0_init 229 = .ok (.putfield 99, 3) := dk_181 0 99 (dk_at dksX0_init_9 19 rfl rfl)
theorem dX0_init_232 : decode cX0_init 232 = .ok (.aload_n 0, 1) := dk_42 (dk_at dksX0_init_9 22 rfl rfl)
theorem dX0_init_233 : decode cX0_init 233 = .ok (.bipush 56, 2) := dk_16 56 (dk_at dksX0_init_10 0 rfl rfl)
theorem dX0_init_235 : decode cX0_init 235 = .ok (.newarray .int, 2) := dk_188_10 (dk_at dksX0_init_10 2 rfl rfl)
theorem dX0_init_237 : decode cX0_init 237 = .ok (.putfield 103, 3) := dk_181 0 103 (dk_at dksX0_init_10 4 rfl rfl)
theorem dX0_init_240 : decode cX0_init 240 = .ok (.aload_n 0, 1) := dk_42 (dk_at dksX0_init_10 7 rfl rfl)
theorem dX0_init_241 : decode cX0_init 241 = .ok (.iconst 4, 1) := dk_7 (dk_at dksX0_init_10 8 rfl rfl)
theorem dX0_init_242 : decode cX0_init 242 = .ok (.anewarray 106, 3) := dk_189 0 106 (dk_at dksX0_init_10 9 rfl rfl)
theorem dX0_init_245 : decode cX0_init 245 = .ok (.putfield 108, 3) := dk_181 0 108 (dk_at dksX0_init_10 12 rfl rfl)
theorem dX0_init_248 : decode cX0_init 248 = .ok (.return_, 1) := dk_177 (dk_at dksX0_init_10 15 rfl rfl)
abbrev cX0_feed : ByteArray := prog_1_method_4_code
def yX0_feed : MethodName := ⟨RX0, "feed", "(IIIII)I"⟩
def dkwX0_feed_2 : List UInt8 := [172]
abbrev dktX0_feed_2 : List UInt8 := dkwX0_feed_2 ++ []
def dkwX0_feed_1 : List UInt8 := [182, 0, 115, 42, 29, 182, 0, 115, 42, 21, 4, 182, 0, 115, 42, 21, 5, 182, 0, 115, 42, 180, 0, 112]
abbrev dktX0_feed_1 : List UInt8 := dkwX0_feed_1 ++ dktX0_feed_2
def dkwX0_feed_0 : List UInt8 := [42, 180, 0, 112, 16, 20, 96, 17, 1, 144, 164, 0, 5, 2, 172, 42, 27, 182, 0, 115, 42, 28]
abbrev dktX0_feed_0 : List UInt8 := dkwX0_feed_0 ++ dktX0_feed_1
theorem dksX0_feed_0 : cX0_feed.data.toList.drop 0 = dktX0_feed_0 := by decide +kernel
theorem dksX0_feed_1 : cX0_feed.data.toList.drop 22 = dktX0_feed_1 := dk_seg dksX0_feed_0 22 rfl rfl
theorem dksX0_feed_2 : cX0_feed.data.toList.drop 46 = dktX0_feed_2 := dk_seg dksX0_feed_1 24 rfl rfl
theorem dX0_feed_0 : decode cX0_feed 0 = .ok (.aload_n 0, 1) := dk_42 (dk_at dksX0_feed_0 0 rfl rfl)
theorem dX0_feed_1 : decode cX0_feed 1 = .ok (.getfield 112, 3) := dk_180 0 112 (dk_at dksX0_feed_0 1 rfl rfl)
theorem dX0_feed_4 : decode cX0_feed 4 = .ok (.bipush 20, 2) := dk_16 20 (dk_at dksX0_feed_0 4 rfl rfl)
theorem dX0_feed_6 : decode cX0_feed 6 = .ok (.iadd, 1) := dk_96 (dk_at dksX0_feed_0 6 rfl rfl)
theorem dX0_feed_7 : decode cX0_feed 7 = .ok (.sipush 400, 3) := dk_17 1 144 (dk_at dksX0_feed_0 7 rfl rfl)
theorem dX0_feed_10 : decode cX0_feed 10 = .ok (.if_icmp .le 5, 3) := dk_164 0 5 (dk_at dksX0_feed_0 10 rfl rfl)
theorem dX0_feed_13 : decode cX0_feed 13 = .ok (.iconst (-1), 1) := dk_2 (dk_at dksX0_feed_0 13 rfl rfl)
theorem dX0_feed_14 : decode cX0_feed 14 = .ok (.ireturn, 1) := dk_172 (dk_at dksX0_feed_0 14 rfl rfl)
theorem dX0_feed_15 : decode cX0_feed 15 = .ok (.aload_n 0, 1) := dk_42 (dk_at dksX0_feed_0 15 rfl rfl)
theorem dX0_feed_16 : decode cX0_feed 16 = .ok (.iload_n 1, 1) := dk_27 (dk_at dksX0_feed_0 16 rfl rfl)
theorem dX0_feed_17 : decode cX0_feed 17 = .ok (.invokevirtual 115, 3) := dk_182 0 115 (dk_at dksX0_feed_0 17 rfl rfl)
theorem dX0_feed_20 : decode cX0_feed 20 = .ok (.aload_n 0, 1) := dk_42 (dk_at dksX0_feed_0 20 rfl rfl)
theorem dX0_feed_21 : decode cX0_feed 21 = .ok (.iload_n 2, 1) := dk_28 (dk_at dksX0_feed_0 21 rfl rfl)
theorem dX0_feed_22 : decode cX0_feed 22 = .ok (.invokevirtual 115, 3) := dk_182 0 115 (dk_at dksX0_feed_1 0 rfl rfl)
theorem dX0_feed_25 : decode cX0_feed 25 = .ok (.aload_n 0, 1) := dk_42 (dk_at dksX0_feed_1 3 rfl rfl)
theorem dX0_feed_26 : decode cX0_feed 26 = .ok (.iload_n 3, 1) := dk_29 (dk_at dksX0_feed_1 4 rfl rfl)
theorem dX0_feed_27 : decode cX0_feed 27 = .ok (.invokevirtual 115, 3) := dk_182 0 115 (dk_at dksX0_feed_1 5 rfl rfl)
theorem dX0_feed_30 : decode cX0_feed 30 = .ok (.aload_n 0, 1) := dk_42 (dk_at dksX0_feed_1 8 rfl rfl)
theorem dX0_feed_31 : decode cX0_feed 31 = .ok (.iload 4, 2) := dk_21 4 (dk_at dksX0_feed_1 9 rfl rfl)
theorem dX0_feed_33 : decode cX0_feed 33 = .ok (.invokevirtual 115, 3) := dk_182 0 115 (dk_at dksX0_feed_1 11 rfl rfl)
theorem dX0_feed_36 : decode cX0_feed 36 = .ok (.aload_n 0, 1) := dk_42 (dk_at dksX0_feed_1 14 rfl rfl)
theorem dX0_feed_37 : decode cX0_feed 37 = .ok (.iload 5, 2) := dk_21 5 (dk_at dksX0_feed_1 15 rfl rfl)
theorem dX0_feed_39 : decode cX0_feed 39 = .ok (.invokevirtual 115, 3) := dk_182 0 115 (dk_at dksX0_feed_1 17 rfl rfl)
theorem dX0_feed_42 : decode cX0_feed 42 = .ok (.aload_n 0, 1) := dk_42 (dk_at dksX0_feed_1 20 rfl rfl)
theorem dX0_feed_43 : decode cX0_feed 43 = .ok (.getfield 112, 3) := dk_180 0 112 (dk_at dksX0_feed_1 21 rfl rfl)
theorem dX0_feed_46 : decode cX0_feed 46 = .ok (.ireturn, 1) := dk_172 (dk_at dksX0_feed_2 0 rfl rfl)
abbrev cX0_four : ByteArray := prog_1_method_5_code
def yX0_four : MethodName := ⟨RX0, "four", "(I)V"⟩
def dkwX0_four_1 : List UInt8 := [180, 0, 112, 4, 96, 181, 0, 112, 132, 2, 248, 167, 255, 226, 177]
abbrev dktX0_four_1 : List UInt8 := dkwX0_four_1 ++ []
def dkwX0_four_0 : List UInt8 := [16, 24, 61, 28, 155, 0, 32, 42, 180, 0, 36, 42, 180, 0, 112, 27, 28, 122, 145, 84, 42, 89]
abbrev dktX0_four_0 : List UInt8 := dkwX0_four_0 ++ dktX0_four_1
theorem dksX0_four_0 : cX0_four.data.toList.drop 0 = dktX0_four_0 := by decide +kernel
theorem dksX0_four_1 : cX0_four.data.toList.drop 22 = dktX0_four_1 := dk_seg dksX0_four_0 22 rfl rfl
theorem dX0_four_0 : decode cX0_four 0 = .ok (.bipush 24, 2) := dk_16 24 (dk_at dksX0_four_0 0 rfl rfl)
theorem dX0_four_2 : decode cX0_four 2 = .ok (.istore_n 2, 1) := dk_61 (dk_at dksX0_four_0 2 rfl rfl)
theorem dX0_four_3 : decode cX0_four 3 = .ok (.iload_n 2, 1) := dk_28 (dk_at dksX0_four_0 3 rfl rfl)
theorem dX0_four_4 : decode cX0_four 4 = .ok (.ifCond .lt 32, 3) := dk_155 0 32 (dk_at dksX0_four_0 4 rfl rfl)
theorem dX0_four_7 : decode cX0_four 7 = .ok (.aload_n 0, 1) := dk_42 (dk_at dksX0_four_0 7 rfl rfl)
theorem dX0_four_8 : decode cX0_four 8 = .ok (.getfield 36, 3) := dk_180 0 36 (dk_at dksX0_four_0 8 rfl rfl)
theorem dX0_four_11 : decode cX0_four 11 = .ok (.aload_n 0, 1) := dk_42 (dk_at dksX0_four_0 11 rfl rfl)
theorem dX0_four_12 : decode cX0_four 12 = .ok (.getfield 112, 3) := dk_180 0 112 (dk_at dksX0_four_0 12 rfl rfl)
theorem dX0_four_15 : decode cX0_four 15 = .ok (.iload_n 1, 1) := dk_27 (dk_at dksX0_four_0 15 rfl rfl)
theorem dX0_four_16 : decode cX0_four 16 = .ok (.iload_n 2, 1) := dk_28 (dk_at dksX0_four_0 16 rfl rfl)
theorem dX0_four_17 : decode cX0_four 17 = .ok (.ishr, 1) := dk_122 (dk_at dksX0_four_0 17 rfl rfl)
theorem dX0_four_18 : decode cX0_four 18 = .ok (.i2b, 1) := dk_145 (dk_at dksX0_four_0 18 rfl rfl)
theorem dX0_four_19 : decode cX0_four 19 = .ok (.bastore, 1) := dk_84 (dk_at dksX0_four_0 19 rfl rfl)
theorem dX0_four_20 : decode cX0_four 20 = .ok (.aload_n 0, 1) := dk_42 (dk_at dksX0_four_0 20 rfl rfl)
theorem dX0_four_21 : decode cX0_four 21 = .ok (.dup, 1) := dk_89 (dk_at dksX0_four_0 21 rfl rfl)
theorem dX0_four_22 : decode cX0_four 22 = .ok (.getfield 112, 3) := dk_180 0 112 (dk_at dksX0_four_1 0 rfl rfl)
theorem dX0_four_25 : decode cX0_four 25 = .ok (.iconst 1, 1) := dk_4 (dk_at dksX0_four_1 3 rfl rfl)
theorem dX0_four_26 : decode cX0_four 26 = .ok (.iadd, 1) := dk_96 (dk_at dksX0_four_1 4 rfl rfl)
theorem dX0_four_27 : decode cX0_four 27 = .ok (.putfield 112, 3) := dk_181 0 112 (dk_at dksX0_four_1 5 rfl rfl)
theorem dX0_four_30 : decode cX0_four 30 = .ok (.iinc 2 (-8), 3) := dk_132 2 248 (dk_at dksX0_four_1 8 rfl rfl)
theorem dX0_four_33 : decode cX0_four 33 = .ok (.goto (-30), 3) := dk_167 255 226 (dk_at dksX0_four_1 11 rfl rfl)
theorem dX0_four_36 : decode cX0_four 36 = .ok (.return_, 1) := dk_177 (dk_at dksX0_four_1 14 rfl rfl)
abbrev cX0_end : ByteArray := prog_1_method_6_code
def yX0_end : MethodName := ⟨RX0, "end", "(I)I"⟩
def dkwX0_end_0 : List UInt8 := [27, 155, 0, 11, 27, 42, 180, 0, 112, 164, 0, 5, 2, 172, 42, 27, 181, 0, 112, 27, 172]
abbrev dktX0_end_0 : List UInt8 := dkwX0_end_0 ++ []
theorem dksX0_end_0 : cX0_end.data.toList.drop 0 = dktX0_end_0 := by decide +kernel
theorem dX0_end_0 : decode cX0_end 0 = .ok (.iload_n 1, 1) := dk_27 (dk_at dksX0_end_0 0 rfl rfl)
theorem dX0_end_1 : decode cX0_end 1 = .ok (.ifCond .lt 11, 3) := dk_155 0 11 (dk_at dksX0_end_0 1 rfl rfl)
theorem dX0_end_4 : decode cX0_end 4 = .ok (.iload_n 1, 1) := dk_27 (dk_at dksX0_end_0 4 rfl rfl)
theorem dX0_end_5 : decode cX0_end 5 = .ok (.aload_n 0, 1) := dk_42 (dk_at dksX0_end_0 5 rfl rfl)
theorem dX0_end_6 : decode cX0_end 6 = .ok (.getfield 112, 3) := dk_180 0 112 (dk_at dksX0_end_0 6 rfl rfl)
theorem dX0_end_9 : decode cX0_end 9 = .ok (.if_icmp .le 5, 3) := dk_164 0 5 (dk_at dksX0_end_0 9 rfl rfl)
theorem dX0_end_12 : decode cX0_end 12 = .ok (.iconst (-1), 1) := dk_2 (dk_at dksX0_end_0 12 rfl rfl)
theorem dX0_end_13 : decode cX0_end 13 = .ok (.ireturn, 1) := dk_172 (dk_at dksX0_end_0 13 rfl rfl)
theorem dX0_end_14 : decode cX0_end 14 = .ok (.aload_n 0, 1) := dk_42 (dk_at dksX0_end_0 14 rfl rfl)
theorem dX0_end_15 : decode cX0_end 15 = .ok (.iload_n 1, 1) := dk_27 (dk_at dksX0_end_0 15 rfl rfl)
theorem dX0_end_16 : decode cX0_end 16 = .ok (.putfield 112, 3) := dk_181 0 112 (dk_at dksX0_end_0 16 rfl rfl)
theorem dX0_end_19 : decode cX0_end 19 = .ok (.iload_n 1, 1) := dk_27 (dk_at dksX0_end_0 19 rfl rfl)
theorem dX0_end_20 : decode cX0_end 20 = .ok (.ireturn, 1) := dk_172 (dk_at dksX0_end_0 20 rfl rfl)
abbrev cX0_hall : ByteArray := prog_1_method_8_code
def yX0_hall : MethodName := ⟨RX0, "hall", "()I"⟩
def dkwX0_hall_1 : List UInt8 := [180, 0, 138, 180, 0, 141, 60, 167, 0, 9, 77, 42, 182, 0, 144, 60, 42, 3, 181, 0, 112, 27, 172]
abbrev dktX0_hall_1 : List UInt8 := dkwX0_hall_1 ++ []
def dkwX0_hall_0 : List UInt8 := [42, 42, 180, 0, 10, 187, 0, 125, 89, 42, 183, 0, 127, 182, 0, 130, 182, 0, 134, 181, 0, 138, 42]
abbrev dktX0_hall_0 : List UInt8 := dkwX0_hall_0 ++ dktX0_hall_1
theorem dksX0_hall_0 : cX0_hall.data.toList.drop 0 = dktX0_hall_0 := by decide +kernel
theorem dksX0_hall_1 : cX0_hall.data.toList.drop 23 = dktX0_hall_1 := dk_seg dksX0_hall_0 23 rfl rfl
theorem dX0_hall_0 : decode cX0_hall 0 = .ok (.aload_n 0, 1) := dk_42 (dk_at dksX0_hall_0 0 rfl rfl)
theorem dX0_hall_1 : decode cX0_hall 1 = .ok (.aload_n 0, 1) := dk_42 (dk_at dksX0_hall_0 1 rfl rfl)
theorem dX0_hall_2 : decode cX0_hall 2 = .ok (.getfield 10, 3) := dk_180 0 10 (dk_at dksX0_hall_0 2 rfl rfl)
theorem dX0_hall_5 : decode cX0_hall 5 = .ok (.new 125, 3) := dk_187 0 125 (dk_at dksX0_hall_0 5 rfl rfl)
theorem dX0_hall_8 : decode cX0_hall 8 = .ok (.dup, 1) := dk_89 (dk_at dksX0_hall_0 8 rfl rfl)
theorem dX0_hall_9 : decode cX0_hall 9 = .ok (.aload_n 0, 1) := dk_42 (dk_at dksX0_hall_0 9 rfl rfl)
theorem dX0_hall_10 : decode cX0_hall 10 = .ok (.invokespecial 127, 3) := dk_183 0 127 (dk_at dksX0_hall_0 10 rfl rfl)
theorem dX0_hall_13 : decode cX0_hall 13 = .ok (.invokevirtual 130, 3) := dk_182 0 130 (dk_at dksX0_hall_0 13 rfl rfl)
theorem dX0_hall_16 : decode cX0_hall 16 = .ok (.invokevirtual 134, 3) := dk_182 0 134 (dk_at dksX0_hall_0 16 rfl rfl)
theorem dX0_hall_19 : decode cX0_hall 19 = .ok (.putfield 138, 3) := dk_181 0 138 (dk_at dksX0_hall_0 19 rfl rfl)
theorem dX0_hall_22 : decode cX0_hall 22 = .ok (.aload_n 0, 1) := dk_42 (dk_at dksX0_hall_0 22 rfl rfl)
theorem dX0_hall_23 : decode cX0_hall 23 = .ok (.getfield 138, 3) := dk_180 0 138 (dk_at dksX0_hall_1 0 rfl rfl)
theorem dX0_hall_26 : decode cX0_hall 26 = .ok (.getfield 141, 3) := dk_180 0 141 (dk_at dksX0_hall_1 3 rfl rfl)
theorem dX0_hall_29 : decode cX0_hall 29 = .ok (.istore_n 1, 1) := dk_60 (dk_at dksX0_hall_1 6 rfl rfl)
theorem dX0_hall_30 : decode cX0_hall 30 = .ok (.goto 9, 3) := dk_167 0 9 (dk_at dksX0_hall_1 7 rfl rfl)
theorem dX0_hall_33 : decode cX0_hall 33 = .ok (.astore_n 2, 1) := dk_77 (dk_at dksX0_hall_1 10 rfl rfl)
theorem dX0_hall_34 : decode cX0_hall 34 = .ok (.aload_n 0, 1) := dk_42 (dk_at dksX0_hall_1 11 rfl rfl)
theorem dX0_hall_35 : decode cX0_hall 35 = .ok (.invokevirtual 144, 3) := dk_182 0 144 (dk_at dksX0_hall_1 12 rfl rfl)
theorem dX0_hall_38 : decode cX0_hall 38 = .ok (.istore_n 1, 1) := dk_60 (dk_at dksX0_hall_1 15 rfl rfl)
theorem dX0_hall_39 : decode cX0_hall 39 = .ok (.aload_n 0, 1) := dk_42 (dk_at dksX0_hall_1 16 rfl rfl)
theorem dX0_hall_40 : decode cX0_hall 40 = .ok (.iconst 0, 1) := dk_3 (dk_at dksX0_hall_1 17 rfl rfl)
theorem dX0_hall_41 : decode cX0_hall 41 = .ok (.putfield 112, 3) := dk_181 0 112 (dk_at dksX0_hall_1 18 rfl rfl)
theorem dX0_hall_44 : decode cX0_hall 44 = .ok (.iload_n 1, 1) := dk_27 (dk_at dksX0_hall_1 21 rfl rfl)
theorem dX0_hall_45 : decode cX0_hall 45 = .ok (.ireturn, 1) := dk_172 (dk_at dksX0_hall_1 22 rfl rfl)
abbrev cX0_in : ByteArray := prog_1_method_1_code
def yX0_in : MethodName := ⟨RX0, "in", "(JJJ)Z"⟩
def dkwX0_in_0 : List UInt8 := [30, 32, 148, 155, 0, 14, 30, 22, 4, 148, 157, 0, 7, 4, 167, 0, 4, 3, 172]
abbrev dktX0_in_0 : List UInt8 := dkwX0_in_0 ++ []
theorem dksX0_in_0 : cX0_in.data.toList.drop 0 = dktX0_in_0 := by decide +kernel
theorem dX0_in_0 : decode cX0_in 0 = .ok (.lload_n 0, 1) := dk_30 (dk_at dksX0_in_0 0 rfl rfl)
theorem dX0_in_1 : decode cX0_in 1 = .ok (.lload_n 2, 1) := dk_32 (dk_at dksX0_in_0 1 rfl rfl)
theorem dX0_in_2 : decode cX0_in 2 = .ok (.lcmp, 1) := dk_148 (dk_at dksX0_in_0 2 rfl rfl)
theorem dX0_in_3 : decode cX0_in 3 = .ok (.ifCond .lt 14, 3) := dk_155 0 14 (dk_at dksX0_in_0 3 rfl rfl)
theorem dX0_in_6 : decode cX0_in 6 = .ok (.lload_n 0, 1) := dk_30 (dk_at dksX0_in_0 6 rfl rfl)
theorem dX0_in_7 : decode cX0_in 7 = .ok (.lload 4, 2) := dk_22 4 (dk_at dksX0_in_0 7 rfl rfl)
theorem dX0_in_9 : decode cX0_in 9 = .ok (.lcmp, 1) := dk_148 (dk_at dksX0_in_0 9 rfl rfl)
theorem dX0_in_10 : decode cX0_in 10 = .ok (.ifCond .gt 7, 3) := dk_157 0 7 (dk_at dksX0_in_0 10 rfl rfl)
theorem dX0_in_13 : decode cX0_in 13 = .ok (.iconst 1, 1) := dk_4 (dk_at dksX0_in_0 13 rfl rfl)
theorem dX0_in_14 : decode cX0_in 14 = .ok (.goto 4, 3) := dk_167 0 4 (dk_at dksX0_in_0 14 rfl rfl)
theorem dX0_in_17 : decode cX0_in 17 = .ok (.iconst 0, 1) := dk_3 (dk_at dksX0_in_0 17 rfl rfl)
theorem dX0_in_18 : decode cX0_in 18 = .ok (.ireturn, 1) := dk_172 (dk_at dksX0_in_0 18 rfl rfl)
abbrev cX0_faulted : ByteArray := prog_1_method_7_code
def yX0_faulted : MethodName := ⟨RX0, "faulted", "()I"⟩
def dkwX0_faulted_0 : List UInt8 := [16, 254, 4, 16, 8, 42, 180, 0, 32, 180, 0, 119, 104, 96, 42, 180, 0, 32, 180, 0, 122, 96, 100, 172]
abbrev dktX0_faulted_0 : List UInt8 := dkwX0_faulted_0 ++ []
theorem dksX0_faulted_0 : cX0_faulted.data.toList.drop 0 = dktX0_faulted_0 := by decide +kernel
theorem dX0_faulted_0 : decode cX0_faulted 0 = .ok (.bipush (-2), 2) := dk_16 254 (dk_at dksX0_faulted_0 0 rfl rfl)
theorem dX0_faulted_2 : decode cX0_faulted 2 = .ok (.iconst 1, 1) := dk_4 (dk_at dksX0_faulted_0 2 rfl rfl)
theorem dX0_faulted_3 : decode cX0_faulted 3 = .ok (.bipush 8, 2) := dk_16 8 (dk_at dksX0_faulted_0 3 rfl rfl)
theorem dX0_faulted_5 : decode cX0_faulted 5 = .ok (.aload_n 0, 1) := dk_42 (dk_at dksX0_faulted_0 5 rfl rfl)
theorem dX0_faulted_6 : decode cX0_faulted 6 = .ok (.getfield 32, 3) := dk_180 0 32 (dk_at dksX0_faulted_0 6 rfl rfl)
theorem dX0_faulted_9 : decode cX0_faulted 9 = .ok (.getfield 119, 3) := dk_180 0 119 (dk_at dksX0_faulted_0 9 rfl rfl)
theorem dX0_faulted_12 : decode cX0_faulted 12 = .ok (.imul, 1) := dk_104 (dk_at dksX0_faulted_0 12 rfl rfl)
theorem dX0_faulted_13 : decode cX0_faulted 13 = .ok (.iadd, 1) := dk_96 (dk_at dksX0_faulted_0 13 rfl rfl)
theorem dX0_faulted_14 : decode cX0_faulted 14 = .ok (.aload_n 0, 1) := dk_42 (dk_at dksX0_faulted_0 14 rfl rfl)
theorem dX0_faulted_15 : decode cX0_faulted 15 = .ok (.getfield 32, 3) := dk_180 0 32 (dk_at dksX0_faulted_0 15 rfl rfl)
theorem dX0_faulted_18 : decode cX0_faulted 18 = .ok (.getfield 122, 3) := dk_180 0 122 (dk_at dksX0_faulted_0 18 rfl rfl)
theorem dX0_faulted_21 : decode cX0_faulted 21 = .ok (.iadd, 1) := dk_96 (dk_at dksX0_faulted_0 21 rfl rfl)
theorem dX0_faulted_22 : decode cX0_faulted 22 = .ok (.isub, 1) := dk_100 (dk_at dksX0_faulted_0 22 rfl rfl)
theorem dX0_faulted_23 : decode cX0_faulted 23 = .ok (.ireturn, 1) := dk_172 (dk_at dksX0_faulted_0 23 rfl rfl)
abbrev cX0_rule : ByteArray := prog_1_method_9_code
def yX0_rule : MethodName := ⟨RX0, "rule", "()I"⟩
def dkwX0_rule_2 : List UInt8 := [167, 0, 9, 77, 42, 182, 0, 144, 60, 42, 3, 181, 0, 112, 27, 172]
abbrev dktX0_rule_2 : List UInt8 := dkwX0_rule_2 ++ []
def dkwX0_rule_1 : List UInt8 := [187, 0, 125, 89, 42, 183, 0, 127, 182, 0, 151, 83, 42, 89, 180, 0, 148, 4, 96, 181, 0, 148]
abbrev dktX0_rule_1 : List UInt8 := dkwX0_rule_1 ++ dktX0_rule_2
def dkwX0_rule_0 : List UInt8 := [42, 180, 0, 148, 16, 6, 160, 0, 5, 2, 172, 42, 180, 0, 148, 60, 42, 180, 0, 82, 42, 180, 0, 148]
abbrev dktX0_rule_0 : List UInt8 := dkwX0_rule_0 ++ dktX0_rule_1
theorem dksX0_rule_0 : cX0_rule.data.toList.drop 0 = dktX0_rule_0 := by decide +kernel
theorem dksX0_rule_1 : cX0_rule.data.toList.drop 24 = dktX0_rule_1 := dk_seg dksX0_rule_0 24 rfl rfl
theorem dksX0_rule_2 : cX0_rule.data.toList.drop 46 = dktX0_rule_2 := dk_seg dksX0_rule_1 22 rfl rfl
theorem dX0_rule_0 : decode cX0_rule 0 = .ok (.aload_n 0, 1) := dk_42 (dk_at dksX0_rule_0 0 rfl rfl)
theorem dX0_rule_1 : decode cX0_rule 1 = .ok (.getfield 148, 3) := dk_180 0 148 (dk_at dksX0_rule_0 1 rfl rfl)
theorem dX0_rule_4 : decode cX0_rule 4 = .ok (.bipush 6, 2) := dk_16 6 (dk_at dksX0_rule_0 4 rfl rfl)
theorem dX0_rule_6 : decode cX0_rule 6 = .ok (.if_icmp .ne 5, 3) := dk_160 0 5 (dk_at dksX0_rule_0 6 rfl rfl)
theorem dX0_rule_9 : decode cX0_rule 9 = .ok (.iconst (-1), 1) := dk_2 (dk_at dksX0_rule_0 9 rfl rfl)
theorem dX0_rule_10 : decode cX0_rule 10 = .ok (.ireturn, 1) := dk_172 (dk_at dksX0_rule_0 10 rfl rfl)
theorem dX0_rule_11 : decode cX0_rule 11 = .ok (.aload_n 0, 1) := dk_42 (dk_at dksX0_rule_0 11 rfl rfl)
theorem dX0_rule_12 : decode cX0_rule 12 = .ok (.getfield 148, 3) := dk_180 0 148 (dk_at dksX0_rule_0 12 rfl rfl)
theorem dX0_rule_15 : decode cX0_rule 15 = .ok (.istore_n 1, 1) := dk_60 (dk_at dksX0_rule_0 15 rfl rfl)
theorem dX0_rule_16 : decode cX0_rule 16 = .ok (.aload_n 0, 1) := dk_42 (dk_at dksX0_rule_0 16 rfl rfl)
theorem dX0_rule_17 : decode cX0_rule 17 = .ok (.getfield 82, 3) := dk_180 0 82 (dk_at dksX0_rule_0 17 rfl rfl)
theorem dX0_rule_20 : decode cX0_rule 20 = .ok (.aload_n 0, 1) := dk_42 (dk_at dksX0_rule_0 20 rfl rfl)
theorem dX0_rule_21 : decode cX0_rule 21 = .ok (.getfield 148, 3) := dk_180 0 148 (dk_at dksX0_rule_0 21 rfl rfl)
theorem dX0_rule_24 : decode cX0_rule 24 = .ok (.new 125, 3) := dk_187 0 125 (dk_at dksX0_rule_1 0 rfl rfl)
theorem dX0_rule_27 : decode cX0_rule 27 = .ok (.dup, 1) := dk_89 (dk_at dksX0_rule_1 3 rfl rfl)
theorem dX0_rule_28 : decode cX0_rule 28 = .ok (.aload_n 0, 1) := dk_42 (dk_at dksX0_rule_1 4 rfl rfl)
theorem dX0_rule_29 : decode cX0_rule 29 = .ok (.invokespecial 127, 3) := dk_183 0 127 (dk_at dksX0_rule_1 5 rfl rfl)
theorem dX0_rule_32 : decode cX0_rule 32 = .ok (.invokevirtual 151, 3) := dk_182 0 151 (dk_at dksX0_rule_1 8 rfl rfl)
theorem dX0_rule_35 : decode cX0_rule 35 = .ok (.aastore, 1) := dk_83 (dk_at dksX0_rule_1 11 rfl rfl)
theorem dX0_rule_36 : decode cX0_rule 36 = .ok (.aload_n 0, 1) := dk_42 (dk_at dksX0_rule_1 12 rfl rfl)
theorem dX0_rule_37 : decode cX0_rule 37 = .ok (.dup, 1) := dk_89 (dk_at dksX0_rule_1 13 rfl rfl)
theorem dX0_rule_38 : decode cX0_rule 38 = .ok (.getfield 148, 3) := dk_180 0 148 (dk_at dksX0_rule_1 14 rfl rfl)
theorem dX0_rule_41 : decode cX0_rule 41 = .ok (.iconst 1, 1) := dk_4 (dk_at dksX0_rule_1 17 rfl rfl)
theorem dX0_rule_42 : decode cX0_rule 42 = .ok (.iadd, 1) := dk_96 (dk_at dksX0_rule_1 18 rfl rfl)
theorem dX0_rule_43 : decode cX0_rule 43 = .ok (.putfield 148, 3) := dk_181 0 148 (dk_at dksX0_rule_1 19 rfl rfl)
theorem dX0_rule_46 : decode cX0_rule 46 = .ok (.goto 9, 3) := dk_167 0 9 (dk_at dksX0_rule_2 0 rfl rfl)
theorem dX0_rule_49 : decode cX0_rule 49 = .ok (.astore_n 2, 1) := dk_77 (dk_at dksX0_rule_2 3 rfl rfl)
theorem dX0_rule_50 : decode cX0_rule 50 = .ok (.aload_n 0, 1) := dk_42 (dk_at dksX0_rule_2 4 rfl rfl)
theorem dX0_rule_51 : decode cX0_rule 51 = .ok (.invokevirtual 144, 3) := dk_182 0 144 (dk_at dksX0_rule_2 5 rfl rfl)
theorem dX0_rule_54 : decode cX0_rule 54 = .ok (.istore_n 1, 1) := dk_60 (dk_at dksX0_rule_2 8 rfl rfl)
theorem dX0_rule_55 : decode cX0_rule 55 = .ok (.aload_n 0, 1) := dk_42 (dk_at dksX0_rule_2 9 rfl rfl)
theorem dX0_rule_56 : decode cX0_rule 56 = .ok (.iconst 0, 1) := dk_3 (dk_at dksX0_rule_2 10 rfl rfl)
theorem dX0_rule_57 : decode cX0_rule 57 = .ok (.putfield 112, 3) := dk_181 0 112 (dk_at dksX0_rule_2 11 rfl rfl)
theorem dX0_rule_60 : decode cX0_rule 60 = .ok (.iload_n 1, 1) := dk_27 (dk_at dksX0_rule_2 14 rfl rfl)
theorem dX0_rule_61 : decode cX0_rule 61 = .ok (.ireturn, 1) := dk_172 (dk_at dksX0_rule_2 15 rfl rfl)
abbrev cX0_force : ByteArray := prog_1_method_10_code
def yX0_force : MethodName := ⟨RX0, "force", "(I)I"⟩
def dkwX0_force_1 : List UInt8 := [61, 42, 27, 181, 0, 25, 28, 172]
abbrev dktX0_force_1 : List UInt8 := dkwX0_force_1 ++ []
def dkwX0_force_0 : List UInt8 := [27, 2, 159, 0, 18, 27, 155, 0, 11, 27, 42, 180, 0, 148, 161, 0, 6, 16, 254, 172, 42, 180, 0, 25]
abbrev dktX0_force_0 : List UInt8 := dkwX0_force_0 ++ dktX0_force_1
theorem dksX0_force_0 : cX0_force.data.toList.drop 0 = dktX0_force_0 := by decide +kernel
theorem dksX0_force_1 : cX0_force.data.toList.drop 24 = dktX0_force_1 := dk_seg dksX0_force_0 24 rfl rfl
theorem dX0_force_0 : decode cX0_force 0 = .ok (.iload_n 1, 1) := dk_27 (dk_at dksX0_force_0 0 rfl rfl)
theorem dX0_force_1 : decode cX0_force 1 = .ok (.iconst (-1), 1) := dk_2 (dk_at dksX0_force_0 1 rfl rfl)
theorem dX0_force_2 : decode cX0_force 2 = .ok (.if_icmp .eq 18, 3) := dk_159 0 18 (dk_at dksX0_force_0 2 rfl rfl)
theorem dX0_force_5 : decode cX0_force 5 = .ok (.iload_n 1, 1) := dk_27 (dk_at dksX0_force_0 5 rfl rfl)
theorem dX0_force_6 : decode cX0_force 6 = .ok (.ifCond .lt 11, 3) := dk_155 0 11 (dk_at dksX0_force_0 6 rfl rfl)
theorem dX0_force_9 : decode cX0_force 9 = .ok (.iload_n 1, 1) := dk_27 (dk_at dksX0_force_0 9 rfl rfl)
theorem dX0_force_10 : decode cX0_force 10 = .ok (.aload_n 0, 1) := dk_42 (dk_at dksX0_force_0 10 rfl rfl)
theorem dX0_force_11 : decode cX0_force 11 = .ok (.getfield 148, 3) := dk_180 0 148 (dk_at dksX0_force_0 11 rfl rfl)
theorem dX0_force_14 : decode cX0_force 14 = .ok (.if_icmp .lt 6, 3) := dk_161 0 6 (dk_at dksX0_force_0 14 rfl rfl)
theorem dX0_force_17 : decode cX0_force 17 = .ok (.bipush (-2), 2) := dk_16 254 (dk_at dksX0_force_0 17 rfl rfl)
theorem dX0_force_19 : decode cX0_force 19 = .ok (.ireturn, 1) := dk_172 (dk_at dksX0_force_0 19 rfl rfl)
theorem dX0_force_20 : decode cX0_force 20 = .ok (.aload_n 0, 1) := dk_42 (dk_at dksX0_force_0 20 rfl rfl)
theorem dX0_force_21 : decode cX0_force 21 = .ok (.getfield 25, 3) := dk_180 0 25 (dk_at dksX0_force_0 21 rfl rfl)
theorem dX0_force_24 : decode cX0_force 24 = .ok (.istore_n 2, 1) := dk_61 (dk_at dksX0_force_1 0 rfl rfl)
theorem dX0_force_25 : decode cX0_force 25 = .ok (.aload_n 0, 1) := dk_42 (dk_at dksX0_force_1 1 rfl rfl)
theorem dX0_force_26 : decode cX0_force 26 = .ok (.iload_n 1, 1) := dk_27 (dk_at dksX0_force_1 2 rfl rfl)
theorem dX0_force_27 : decode cX0_force 27 = .ok (.putfield 25, 3) := dk_181 0 25 (dk_at dksX0_force_1 3 rfl rfl)
theorem dX0_force_30 : decode cX0_force 30 = .ok (.iload_n 2, 1) := dk_28 (dk_at dksX0_force_1 6 rfl rfl)
theorem dX0_force_31 : decode cX0_force 31 = .ok (.ireturn, 1) := dk_172 (dk_at dksX0_force_1 7 rfl rfl)
abbrev cX0_strand : ByteArray := prog_1_method_16_code
def yX0_strand : MethodName := ⟨RX0, "strand", "(I)I"⟩
def dkwX0_strand_0 : List UInt8 := [42, 27, 182, 0, 168, 153, 0, 15, 42, 180, 0, 138, 180, 0, 171, 27, 46, 167, 0, 4, 2, 172]
abbrev dktX0_strand_0 : List UInt8 := dkwX0_strand_0 ++ []
theorem dksX0_strand_0 : cX0_strand.data.toList.drop 0 = dktX0_strand_0 := by decide +kernel
theorem dX0_strand_0 : decode cX0_strand 0 = .ok (.aload_n 0, 1) := dk_42 (dk_at dksX0_strand_0 0 rfl rfl)
theorem dX0_strand_1 : decode cX0_strand 1 = .ok (.iload_n 1, 1) := dk_27 (dk_at dksX0_strand_0 1 rfl rfl)
theorem dX0_strand_2 : decode cX0_strand 2 = .ok (.invokevirtual 168, 3) := dk_182 0 168 (dk_at dksX0_strand_0 2 rfl rfl)
theorem dX0_strand_5 : decode cX0_strand 5 = .ok (.ifCond .eq 15, 3) := dk_153 0 15 (dk_at dksX0_strand_0 5 rfl rfl)
theorem dX0_strand_8 : decode cX0_strand 8 = .ok (.aload_n 0, 1) := dk_42 (dk_at dksX0_strand_0 8 rfl rfl)
theorem dX0_strand_9 : decode cX0_strand 9 = .ok (.getfield 138, 3) := dk_180 0 138 (dk_at dksX0_strand_0 9 rfl rfl)
theorem dX0_strand_12 : decode cX0_strand 12 = .ok (.getfield 171, 3) := dk_180 0 171 (dk_at dksX0_strand_0 12 rfl rfl)
theorem dX0_strand_15 : decode cX0_strand 15 = .ok (.iload_n 1, 1) := dk_27 (dk_at dksX0_strand_0 15 rfl rfl)
theorem dX0_strand_16 : decode cX0_strand 16 = .ok (.iaload, 1) := dk_46 (dk_at dksX0_strand_0 16 rfl rfl)
theorem dX0_strand_17 : decode cX0_strand 17 = .ok (.goto 4, 3) := dk_167 0 4 (dk_at dksX0_strand_0 17 rfl rfl)
theorem dX0_strand_20 : decode cX0_strand 20 = .ok (.iconst (-1), 1) := dk_2 (dk_at dksX0_strand_0 20 rfl rfl)
theorem dX0_strand_21 : decode cX0_strand 21 = .ok (.ireturn, 1) := dk_172 (dk_at dksX0_strand_0 21 rfl rfl)
abbrev cX0_isStrand : ByteArray := prog_1_method_12_code
def yX0_isStrand : MethodName := ⟨RX0, "isStrand", "(I)Z"⟩
def dkwX0_isStrand_1 : List UInt8 := [167, 0, 4, 3, 172]
abbrev dktX0_isStrand_1 : List UInt8 := dkwX0_isStrand_1 ++ []
def dkwX0_isStrand_0 : List UInt8 := [42, 180, 0, 138, 198, 0, 22, 27, 155, 0, 18, 27, 42, 180, 0, 138, 180, 0, 155, 162, 0, 7, 4]
abbrev dktX0_isStrand_0 : List UInt8 := dkwX0_isStrand_0 ++ dktX0_isStrand_1
theorem dksX0_isStrand_0 : cX0_isStrand.data.toList.drop 0 = dktX0_isStrand_0 := by decide +kernel
theorem dksX0_isStrand_1 : cX0_isStrand.data.toList.drop 23 = dktX0_isStrand_1 := dk_seg dksX0_isStrand_0 23 rfl rfl
theorem dX0_isStrand_0 : decode cX0_isStrand 0 = .ok (.aload_n 0, 1) := dk_42 (dk_at dksX0_isStrand_0 0 rfl rfl)
theorem dX0_isStrand_1 : decode cX0_isStrand 1 = .ok (.getfield 138, 3) := dk_180 0 138 (dk_at dksX0_isStrand_0 1 rfl rfl)
theorem dX0_isStrand_4 : decode cX0_isStrand 4 = .ok (.ifnull 22, 3) := dk_198 0 22 (dk_at dksX0_isStrand_0 4 rfl rfl)
theorem dX0_isStrand_7 : decode cX0_isStrand 7 = .ok (.iload_n 1, 1) := dk_27 (dk_at dksX0_isStrand_0 7 rfl rfl)
theorem dX0_isStrand_8 : decode cX0_isStrand 8 = .ok (.ifCond .lt 18, 3) := dk_155 0 18 (dk_at dksX0_isStrand_0 8 rfl rfl)
theorem dX0_isStrand_11 : decode cX0_isStrand 11 = .ok (.iload_n 1, 1) := dk_27 (dk_at dksX0_isStrand_0 11 rfl rfl)
theorem dX0_isStrand_12 : decode cX0_isStrand 12 = .ok (.aload_n 0, 1) := dk_42 (dk_at dksX0_isStrand_0 12 rfl rfl)
theorem dX0_isStrand_13 : decode cX0_isStrand 13 = .ok (.getfield 138, 3) := dk_180 0 138 (dk_at dksX0_isStrand_0 13 rfl rfl)
theorem dX0_isStrand_16 : decode cX0_isStrand 16 = .ok (.getfield 155, 3) := dk_180 0 155 (dk_at dksX0_isStrand_0 16 rfl rfl)
theorem dX0_isStrand_19 : decode cX0_isStrand 19 = .ok (.if_icmp .ge 7, 3) := dk_162 0 7 (dk_at dksX0_isStrand_0 19 rfl rfl)
theorem dX0_isStrand_22 : decode cX0_isStrand 22 = .ok (.iconst 1, 1) := dk_4 (dk_at dksX0_isStrand_0 22 rfl rfl)
theorem dX0_isStrand_23 : decode cX0_isStrand 23 = .ok (.goto 4, 3) := dk_167 0 4 (dk_at dksX0_isStrand_1 0 rfl rfl)
theorem dX0_isStrand_26 : decode cX0_isStrand 26 = .ok (.iconst 0, 1) := dk_3 (dk_at dksX0_isStrand_1 3 rfl rfl)
theorem dX0_isStrand_27 : decode cX0_isStrand 27 = .ok (.ireturn, 1) := dk_172 (dk_at dksX0_isStrand_1 4 rfl rfl)
abbrev cX0_chair : ByteArray := prog_1_method_17_code
def yX0_chair : MethodName := ⟨RX0, "chair", "(II)I"⟩
def dkwX0_chair_4 : List UInt8 := [160, 0, 7, 3, 167, 0, 11, 42, 180, 0, 138, 29, 182, 0, 190, 172]
abbrev dktX0_chair_4 : List UInt8 := dkwX0_chair_4 ++ []
def dkwX0_chair_3 : List UInt8 := [42, 180, 0, 138, 180, 0, 186, 27, 46, 172, 42, 180, 0, 138, 180, 0, 188, 27, 46, 172, 29, 172, 29, 2]
abbrev dktX0_chair_3 : List UInt8 := dkwX0_chair_3 ++ dktX0_chair_4
def dkwX0_chair_2 : List UInt8 := [170, 0, 0, 0, 0, 0, 49, 0, 0, 0, 0, 0, 0, 0, 2, 0, 0, 0, 27, 0, 0, 0, 37, 0, 0, 0, 47]
abbrev dktX0_chair_2 : List UInt8 := dkwX0_chair_2 ++ dktX0_chair_3
def dkwX0_chair_1 : List UInt8 := [180, 0, 138, 27, 182, 0, 182, 62, 28]
abbrev dktX0_chair_1 : List UInt8 := dkwX0_chair_1 ++ dktX0_chair_2
def dkwX0_chair_0 : List UInt8 := [42, 27, 182, 0, 173, 153, 0, 15, 28, 133, 9, 20, 0, 176, 184, 0, 178, 154, 0, 6, 16, 254, 172, 42]
abbrev dktX0_chair_0 : List UInt8 := dkwX0_chair_0 ++ dktX0_chair_1
theorem dksX0_chair_0 : cX0_chair.data.toList.drop 0 = dktX0_chair_0 := by decide +kernel
theorem dksX0_chair_1 : cX0_chair.data.toList.drop 24 = dktX0_chair_1 := dk_seg dksX0_chair_0 24 rfl rfl
theorem dksX0_chair_2 : cX0_chair.data.toList.drop 33 = dktX0_chair_2 := dk_seg dksX0_chair_1 9 rfl rfl
theorem dksX0_chair_3 : cX0_chair.data.toList.drop 60 = dktX0_chair_3 := dk_seg dksX0_chair_2 27 rfl rfl
theorem dksX0_chair_4 : cX0_chair.data.toList.drop 84 = dktX0_chair_4 := dk_seg dksX0_chair_3 24 rfl rfl
theorem dX0_chair_0 : decode cX0_chair 0 = .ok (.aload_n 0, 1) := dk_42 (dk_at dksX0_chair_0 0 rfl rfl)
theorem dX0_chair_1 : decode cX0_chair 1 = .ok (.iload_n 1, 1) := dk_27 (dk_at dksX0_chair_0 1 rfl rfl)
theorem dX0_chair_2 : decode cX0_chair 2 = .ok (.invokevirtual 173, 3) := dk_182 0 173 (dk_at dksX0_chair_0 2 rfl rfl)
theorem dX0_chair_5 : decode cX0_chair 5 = .ok (.ifCond .eq 15, 3) := dk_153 0 15 (dk_at dksX0_chair_0 5 rfl rfl)
theorem dX0_chair_8 : decode cX0_chair 8 = .ok (.iload_n 2, 1) := dk_28 (dk_at dksX0_chair_0 8 rfl rfl)
theorem dX0_chair_9 : decode cX0_chair 9 = .ok (.i2l, 1) := dk_133 (dk_at dksX0_chair_0 9 rfl rfl)
theorem dX0_chair_10 : decode cX0_chair 10 = .ok (.lconst 0, 1) := dk_9 (dk_at dksX0_chair_0 10 rfl rfl)
theorem dX0_chair_11 : decode cX0_chair 11 = .ok (.ldc2_w 176, 3) := dk_20 0 176 (dk_at dksX0_chair_0 11 rfl rfl)
theorem dX0_chair_14 : decode cX0_chair 14 = .ok (.invokestatic 178, 3) := dk_184 0 178 (dk_at dksX0_chair_0 14 rfl rfl)
theorem dX0_chair_17 : decode cX0_chair 17 = .ok (.ifCond .ne 6, 3) := dk_154 0 6 (dk_at dksX0_chair_0 17 rfl rfl)
theorem dX0_chair_20 : decode cX0_chair 20 = .ok (.bipush (-2), 2) := dk_16 254 (dk_at dksX0_chair_0 20 rfl rfl)
theorem dX0_chair_22 : decode cX0_chair 22 = .ok (.ireturn, 1) := dk_172 (dk_at dksX0_chair_0 22 rfl rfl)
theorem dX0_chair_23 : decode cX0_chair 23 = .ok (.aload_n 0, 1) := dk_42 (dk_at dksX0_chair_0 23 rfl rfl)
theorem dX0_chair_24 : decode cX0_chair 24 = .ok (.getfield 138, 3) := dk_180 0 138 (dk_at dksX0_chair_1 0 rfl rfl)
theorem dX0_chair_27 : decode cX0_chair 27 = .ok (.iload_n 1, 1) := dk_27 (dk_at dksX0_chair_1 3 rfl rfl)
theorem dX0_chair_28 : decode cX0_chair 28 = .ok (.invokevirtual 182, 3) := dk_182 0 182 (dk_at dksX0_chair_1 4 rfl rfl)
theorem dX0_chair_31 : decode cX0_chair 31 = .ok (.istore_n 3, 1) := dk_62 (dk_at dksX0_chair_1 7 rfl rfl)
theorem dX0_chair_32 : decode cX0_chair 32 = .ok (.iload_n 2, 1) := dk_28 (dk_at dksX0_chair_1 8 rfl rfl)
theorem dX0_chair_33 : decode cX0_chair 33 = .ok (.tableswitch 49 0 2 #[27, 37, 47], 27) := by decide +kernel
theorem dX0_chair_60 : decode cX0_chair 60 = .ok (.aload_n 0, 1) := dk_42 (dk_at dksX0_chair_3 0 rfl rfl)
theorem dX0_chair_61 : decode cX0_chair 61 = .ok (.getfield 138, 3) := dk_180 0 138 (dk_at dksX0_chair_3 1 rfl rfl)
theorem dX0_chair_64 : decode cX0_chair 64 = .ok (.getfield 186, 3) := dk_180 0 186 (dk_at dksX0_chair_3 4 rfl rfl)
theorem dX0_chair_67 : decode cX0_chair 67 = .ok (.iload_n 1, 1) := dk_27 (dk_at dksX0_chair_3 7 rfl rfl)
theorem dX0_chair_68 : decode cX0_chair 68 = .ok (.iaload, 1) := dk_46 (dk_at dksX0_chair_3 8 rfl rfl)
theorem dX0_chair_69 : decode cX0_chair 69 = .ok (.ireturn, 1) := dk_172 (dk_at dksX0_chair_3 9 rfl rfl)
theorem dX0_chair_70 : decode cX0_chair 70 = .ok (.aload_n 0, 1) := dk_42 (dk_at dksX0_chair_3 10 rfl rfl)
theorem dX0_chair_71 : decode cX0_chair 71 = .ok (.getfield 138, 3) := dk_180 0 138 (dk_at dksX0_chair_3 11 rfl rfl)
theorem dX0_chair_74 : decode cX0_chair 74 = .ok (.getfield 188, 3) := dk_180 0 188 (dk_at dksX0_chair_3 14 rfl rfl)
theorem dX0_chair_77 : decode cX0_chair 77 = .ok (.iload_n 1, 1) := dk_27 (dk_at dksX0_chair_3 17 rfl rfl)
theorem dX0_chair_78 : decode cX0_chair 78 = .ok (.iaload, 1) := dk_46 (dk_at dksX0_chair_3 18 rfl rfl)
theorem dX0_chair_79 : decode cX0_chair 79 = .ok (.ireturn, 1) := dk_172 (dk_at dksX0_chair_3 19 rfl rfl)
theorem dX0_chair_80 : decode cX0_chair 80 = .ok (.iload_n 3, 1) := dk_29 (dk_at dksX0_chair_3 20 rfl rfl)
theorem dX0_chair_81 : decode cX0_chair 81 = .ok (.ireturn, 1) := dk_172 (dk_at dksX0_chair_3 21 rfl rfl)
theorem dX0_chair_82 : decode cX0_chair 82 = .ok (.iload_n 3, 1) := dk_29 (dk_at dksX0_chair_3 22 rfl rfl)
theorem dX0_chair_83 : decode cX0_chair 83 = .ok (.iconst (-1), 1) := dk_2 (dk_at dksX0_chair_3 23 rfl rfl)
theorem dX0_chair_84 : decode cX0_chair 84 = .ok (.if_icmp .ne 7, 3) := dk_160 0 7 (dk_at dksX0_chair_4 0 rfl rfl)
theorem dX0_chair_87 : decode cX0_chair 87 = .ok (.iconst 0, 1) := dk_3 (dk_at dksX0_chair_4 3 rfl rfl)
theorem dX0_chair_88 : decode cX0_chair 88 = .ok (.goto 11, 3) := dk_167 0 11 (dk_at dksX0_chair_4 4 rfl rfl)
theorem dX0_chair_91 : decode cX0_chair 91 = .ok (.aload_n 0, 1) := dk_42 (dk_at dksX0_chair_4 7 rfl rfl)
theorem dX0_chair_92 : decode cX0_chair 92 = .ok (.getfield 138, 3) := dk_180 0 138 (dk_at dksX0_chair_4 8 rfl rfl)
theorem dX0_chair_95 : decode cX0_chair 95 = .ok (.iload_n 3, 1) := dk_29 (dk_at dksX0_chair_4 11 rfl rfl)
theorem dX0_chair_96 : decode cX0_chair 96 = .ok (.invokevirtual 190, 3) := dk_182 0 190 (dk_at dksX0_chair_4 12 rfl rfl)
theorem dX0_chair_99 : decode cX0_chair 99 = .ok (.ireturn, 1) := dk_172 (dk_at dksX0_chair_4 15 rfl rfl)
abbrev cX0_isChair : ByteArray := prog_1_method_13_code
def yX0_isChair : MethodName := ⟨RX0, "isChair", "(I)Z"⟩
def dkwX0_isChair_1 : List UInt8 := [167, 0, 4, 3, 172]
abbrev dktX0_isChair_1 : List UInt8 := dkwX0_isChair_1 ++ []
def dkwX0_isChair_0 : List UInt8 := [42, 180, 0, 138, 198, 0, 22, 27, 155, 0, 18, 27, 42, 180, 0, 138, 180, 0, 158, 162, 0, 7, 4]
abbrev dktX0_isChair_0 : List UInt8 := dkwX0_isChair_0 ++ dktX0_isChair_1
theorem dksX0_isChair_0 : cX0_isChair.data.toList.drop 0 = dktX0_isChair_0 := by decide +kernel
theorem dksX0_isChair_1 : cX0_isChair.data.toList.drop 23 = dktX0_isChair_1 := dk_seg dksX0_isChair_0 23 rfl rfl
theorem dX0_isChair_0 : decode cX0_isChair 0 = .ok (.aload_n 0, 1) := dk_42 (dk_at dksX0_isChair_0 0 rfl rfl)
theorem dX0_isChair_1 : decode cX0_isChair 1 = .ok (.getfield 138, 3) := dk_180 0 138 (dk_at dksX0_isChair_0 1 rfl rfl)
theorem dX0_isChair_4 : decode cX0_isChair 4 = .ok (.ifnull 22, 3) := dk_198 0 22 (dk_at dksX0_isChair_0 4 rfl rfl)
theorem dX0_isChair_7 : decode cX0_isChair 7 = .ok (.iload_n 1, 1) := dk_27 (dk_at dksX0_isChair_0 7 rfl rfl)
theorem dX0_isChair_8 : decode cX0_isChair 8 = .ok (.ifCond .lt 18, 3) := dk_155 0 18 (dk_at dksX0_isChair_0 8 rfl rfl)
theorem dX0_isChair_11 : decode cX0_isChair 11 = .ok (.iload_n 1, 1) := dk_27 (dk_at dksX0_isChair_0 11 rfl rfl)
theorem dX0_isChair_12 : decode cX0_isChair 12 = .ok (.aload_n 0, 1) := dk_42 (dk_at dksX0_isChair_0 12 rfl rfl)
theorem dX0_isChair_13 : decode cX0_isChair 13 = .ok (.getfield 138, 3) := dk_180 0 138 (dk_at dksX0_isChair_0 13 rfl rfl)
theorem dX0_isChair_16 : decode cX0_isChair 16 = .ok (.getfield 158, 3) := dk_180 0 158 (dk_at dksX0_isChair_0 16 rfl rfl)
theorem dX0_isChair_19 : decode cX0_isChair 19 = .ok (.if_icmp .ge 7, 3) := dk_162 0 7 (dk_at dksX0_isChair_0 19 rfl rfl)
theorem dX0_isChair_22 : decode cX0_isChair 22 = .ok (.iconst 1, 1) := dk_4 (dk_at dksX0_isChair_0 22 rfl rfl)
theorem dX0_isChair_23 : decode cX0_isChair 23 = .ok (.goto 4, 3) := dk_167 0 4 (dk_at dksX0_isChair_1 0 rfl rfl)
theorem dX0_isChair_26 : decode cX0_isChair 26 = .ok (.iconst 0, 1) := dk_3 (dk_at dksX0_isChair_1 3 rfl rfl)
theorem dX0_isChair_27 : decode cX0_isChair 27 = .ok (.ireturn, 1) := dk_172 (dk_at dksX0_isChair_1 4 rfl rfl)
abbrev cX0_has : ByteArray := prog_1_method_2_code
def yX0_has : MethodName := ⟨RX0, "has", "(II)Z"⟩
def dkwX0_has_0 : List UInt8 := [26, 27, 122, 4, 126, 4, 160, 0, 7, 4, 167, 0, 4, 3, 172]
abbrev dktX0_has_0 : List UInt8 := dkwX0_has_0 ++ []
theorem dksX0_has_0 : cX0_has.data.toList.drop 0 = dktX0_has_0 := by decide +kernel
theorem dX0_has_0 : decode cX0_has 0 = .ok (.iload_n 0, 1) := dk_26 (dk_at dksX0_has_0 0 rfl rfl)
theorem dX0_has_1 : decode cX0_has 1 = .ok (.iload_n 1, 1) := dk_27 (dk_at dksX0_has_0 1 rfl rfl)
theorem dX0_has_2 : decode cX0_has 2 = .ok (.ishr, 1) := dk_122 (dk_at dksX0_has_0 2 rfl rfl)
theorem dX0_has_3 : decode cX0_has 3 = .ok (.iconst 1, 1) := dk_4 (dk_at dksX0_has_0 3 rfl rfl)
theorem dX0_has_4 : decode cX0_has 4 = .ok (.iand, 1) := dk_126 (dk_at dksX0_has_0 4 rfl rfl)
theorem dX0_has_5 : decode cX0_has 5 = .ok (.iconst 1, 1) := dk_4 (dk_at dksX0_has_0 5 rfl rfl)
theorem dX0_has_6 : decode cX0_has 6 = .ok (.if_icmp .ne 7, 3) := dk_160 0 7 (dk_at dksX0_has_0 6 rfl rfl)
theorem dX0_has_9 : decode cX0_has 9 = .ok (.iconst 1, 1) := dk_4 (dk_at dksX0_has_0 9 rfl rfl)
theorem dX0_has_10 : decode cX0_has 10 = .ok (.goto 4, 3) := dk_167 0 4 (dk_at dksX0_has_0 10 rfl rfl)
theorem dX0_has_13 : decode cX0_has 13 = .ok (.iconst 0, 1) := dk_3 (dk_at dksX0_has_0 13 rfl rfl)
theorem dX0_has_14 : decode cX0_has 14 = .ok (.ireturn, 1) := dk_172 (dk_at dksX0_has_0 14 rfl rfl)
abbrev cX0_sitter : ByteArray := prog_1_method_18_code
def yX0_sitter : MethodName := ⟨RX0, "sitter", "(II)I"⟩
def dkwX0_sitter_2 : List UInt8 := [180, 0, 197, 27, 46, 167, 0, 12, 42, 180, 0, 138, 180, 0, 165, 27, 46, 172]
abbrev dktX0_sitter_2 : List UInt8 := dkwX0_sitter_2 ++ []
def dkwX0_sitter_1 : List UInt8 := [154, 0, 15, 42, 180, 0, 138, 180, 0, 195, 27, 46, 167, 0, 29, 28, 4, 160, 0, 15, 42, 180, 0, 138]
abbrev dktX0_sitter_1 : List UInt8 := dkwX0_sitter_1 ++ dktX0_sitter_2
def dkwX0_sitter_0 : List UInt8 := [42, 27, 182, 0, 161, 153, 0, 15, 28, 133, 9, 20, 0, 193, 184, 0, 178, 154, 0, 5, 2, 172, 28]
abbrev dktX0_sitter_0 : List UInt8 := dkwX0_sitter_0 ++ dktX0_sitter_1
theorem dksX0_sitter_0 : cX0_sitter.data.toList.drop 0 = dktX0_sitter_0 := by decide +kernel
theorem dksX0_sitter_1 : cX0_sitter.data.toList.drop 23 = dktX0_sitter_1 := dk_seg dksX0_sitter_0 23 rfl rfl
theorem dksX0_sitter_2 : cX0_sitter.data.toList.drop 47 = dktX0_sitter_2 := dk_seg dksX0_sitter_1 24 rfl rfl
theorem dX0_sitter_0 : decode cX0_sitter 0 = .ok (.aload_n 0, 1) := dk_42 (dk_at dksX0_sitter_0 0 rfl rfl)
theorem dX0_sitter_1 : decode cX0_sitter 1 = .ok (.iload_n 1, 1) := dk_27 (dk_at dksX0_sitter_0 1 rfl rfl)
theorem dX0_sitter_2 : decode cX0_sitter 2 = .ok (.invokevirtual 161, 3) := dk_182 0 161 (dk_at dksX0_sitter_0 2 rfl rfl)
theorem dX0_sitter_5 : decode cX0_sitter 5 = .ok (.ifCond .eq 15, 3) := dk_153 0 15 (dk_at dksX0_sitter_0 5 rfl rfl)
theorem dX0_sitter_8 : decode cX0_sitter 8 = .ok (.iload_n 2, 1) := dk_28 (dk_at dksX0_sitter_0 8 rfl rfl)
theorem dX0_sitter_9 : decode cX0_sitter 9 = .ok (.i2l, 1) := dk_133 (dk_at dksX0_sitter_0 9 rfl rfl)
theorem dX0_sitter_10 : decode cX0_sitter 10 = .ok (.lconst 0, 1) := dk_9 (dk_at dksX0_sitter_0 10 rfl rfl)
theorem dX0_sitter_11 : decode cX0_sitter 11 = .ok (.ldc2_w 193, 3) := dk_20 0 193 (dk_at dksX0_sitter_0 11 rfl rfl)
theorem dX0_sitter_14 : decode cX0_sitter 14 = .ok (.invokestatic 178, 3) := dk_184 0 178 (dk_at dksX0_sitter_0 14 rfl rfl)
theorem dX0_sitter_17 : decode cX0_sitter 17 = .ok (.ifCond .ne 5, 3) := dk_154 0 5 (dk_at dksX0_sitter_0 17 rfl rfl)
theorem dX0_sitter_20 : decode cX0_sitter 20 = .ok (.iconst (-1), 1) := dk_2 (dk_at dksX0_sitter_0 20 rfl rfl)
theorem dX0_sitter_21 : decode cX0_sitter 21 = .ok (.ireturn, 1) := dk_172 (dk_at dksX0_sitter_0 21 rfl rfl)
theorem dX0_sitter_22 : decode cX0_sitter 22 = .ok (.iload_n 2, 1) := dk_28 (dk_at dksX0_sitter_0 22 rfl rfl)
theorem dX0_sitter_23 : decode cX0_sitter 23 = .ok (.ifCond .ne 15, 3) := dk_154 0 15 (dk_at dksX0_sitter_1 0 rfl rfl)
theorem dX0_sitter_26 : decode cX0_sitter 26 = .ok (.aload_n 0, 1) := dk_42 (dk_at dksX0_sitter_1 3 rfl rfl)
theorem dX0_sitter_27 : decode cX0_sitter 27 = .ok (.getfield 138, 3) := dk_180 0 138 (dk_at dksX0_sitter_1 4 rfl rfl)
theorem dX0_sitter_30 : decode cX0_sitter 30 = .ok (.getfield 195, 3) := dk_180 0 195 (dk_at dksX0_sitter_1 7 rfl rfl)
theorem dX0_sitter_33 : decode cX0_sitter 33 = .ok (.iload_n 1, 1) := dk_27 (dk_at dksX0_sitter_1 10 rfl rfl)
theorem dX0_sitter_34 : decode cX0_sitter 34 = .ok (.iaload, 1) := dk_46 (dk_at dksX0_sitter_1 11 rfl rfl)
theorem dX0_sitter_35 : decode cX0_sitter 35 = .ok (.goto 29, 3) := dk_167 0 29 (dk_at dksX0_sitter_1 12 rfl rfl)
theorem dX0_sitter_38 : decode cX0_sitter 38 = .ok (.iload_n 2, 1) := dk_28 (dk_at dksX0_sitter_1 15 rfl rfl)
theorem dX0_sitter_39 : decode cX0_sitter 39 = .ok (.iconst 1, 1) := dk_4 (dk_at dksX0_sitter_1 16 rfl rfl)
theorem dX0_sitter_40 : decode cX0_sitter 40 = .ok (.if_icmp .ne 15, 3) := dk_160 0 15 (dk_at dksX0_sitter_1 17 rfl rfl)
theorem dX0_sitter_43 : decode cX0_sitter 43 = .ok (.aload_n 0, 1) := dk_42 (dk_at dksX0_sitter_1 20 rfl rfl)
theorem dX0_sitter_44 : decode cX0_sitter 44 = .ok (.getfield 138, 3) := dk_180 0 138 (dk_at dksX0_sitter_1 21 rfl rfl)
theorem dX0_sitter_47 : decode cX0_sitter 47 = .ok (.getfield 197, 3) := dk_180 0 197 (dk_at dksX0_sitter_2 0 rfl rfl)
theorem dX0_sitter_50 : decode cX0_sitter 50 = .ok (.iload_n 1, 1) := dk_27 (dk_at dksX0_sitter_2 3 rfl rfl)
theorem dX0_sitter_51 : decode cX0_sitter 51 = .ok (.iaload, 1) := dk_46 (dk_at dksX0_sitter_2 4 rfl rfl)
theorem dX0_sitter_52 : decode cX0_sitter 52 = .ok (.goto 12, 3) := dk_167 0 12 (dk_at dksX0_sitter_2 5 rfl rfl)
theorem dX0_sitter_55 : decode cX0_sitter 55 = .ok (.aload_n 0, 1) := dk_42 (dk_at dksX0_sitter_2 8 rfl rfl)
theorem dX0_sitter_56 : decode cX0_sitter 56 = .ok (.getfield 138, 3) := dk_180 0 138 (dk_at dksX0_sitter_2 9 rfl rfl)
theorem dX0_sitter_59 : decode cX0_sitter 59 = .ok (.getfield 165, 3) := dk_180 0 165 (dk_at dksX0_sitter_2 12 rfl rfl)
theorem dX0_sitter_62 : decode cX0_sitter 62 = .ok (.iload_n 1, 1) := dk_27 (dk_at dksX0_sitter_2 15 rfl rfl)
theorem dX0_sitter_63 : decode cX0_sitter 63 = .ok (.iaload, 1) := dk_46 (dk_at dksX0_sitter_2 16 rfl rfl)
theorem dX0_sitter_64 : decode cX0_sitter 64 = .ok (.ireturn, 1) := dk_172 (dk_at dksX0_sitter_2 17 rfl rfl)
abbrev cX0_isSitter : ByteArray := prog_1_method_14_code
def yX0_isSitter : MethodName := ⟨RX0, "isSitter", "(I)Z"⟩
def dkwX0_isSitter_1 : List UInt8 := [167, 0, 4, 3, 172]
abbrev dktX0_isSitter_1 : List UInt8 := dkwX0_isSitter_1 ++ []
def dkwX0_isSitter_0 : List UInt8 := [42, 180, 0, 138, 198, 0, 22, 27, 155, 0, 18, 27, 42, 180, 0, 138, 180, 0, 141, 162, 0, 7, 4]
abbrev dktX0_isSitter_0 : List UInt8 := dkwX0_isSitter_0 ++ dktX0_isSitter_1
theorem dksX0_isSitter_0 : cX0_isSitter.data.toList.drop 0 = dktX0_isSitter_0 := by decide +kernel
theorem dksX0_isSitter_1 : cX0_isSitter.data.toList.drop 23 = dktX0_isSitter_1 := dk_seg dksX0_isSitter_0 23 rfl rfl
theorem dX0_isSitter_0 : decode cX0_isSitter 0 = .ok (.aload_n 0, 1) := dk_42 (dk_at dksX0_isSitter_0 0 rfl rfl)
theorem dX0_isSitter_1 : decode cX0_isSitter 1 = .ok (.getfield 138, 3) := dk_180 0 138 (dk_at dksX0_isSitter_0 1 rfl rfl)
theorem dX0_isSitter_4 : decode cX0_isSitter 4 = .ok (.ifnull 22, 3) := dk_198 0 22 (dk_at dksX0_isSitter_0 4 rfl rfl)
theorem dX0_isSitter_7 : decode cX0_isSitter 7 = .ok (.iload_n 1, 1) := dk_27 (dk_at dksX0_isSitter_0 7 rfl rfl)
theorem dX0_isSitter_8 : decode cX0_isSitter 8 = .ok (.ifCond .lt 18, 3) := dk_155 0 18 (dk_at dksX0_isSitter_0 8 rfl rfl)
theorem dX0_isSitter_11 : decode cX0_isSitter 11 = .ok (.iload_n 1, 1) := dk_27 (dk_at dksX0_isSitter_0 11 rfl rfl)
theorem dX0_isSitter_12 : decode cX0_isSitter 12 = .ok (.aload_n 0, 1) := dk_42 (dk_at dksX0_isSitter_0 12 rfl rfl)
theorem dX0_isSitter_13 : decode cX0_isSitter 13 = .ok (.getfield 138, 3) := dk_180 0 138 (dk_at dksX0_isSitter_0 13 rfl rfl)
theorem dX0_isSitter_16 : decode cX0_isSitter 16 = .ok (.getfield 141, 3) := dk_180 0 141 (dk_at dksX0_isSitter_0 16 rfl rfl)
theorem dX0_isSitter_19 : decode cX0_isSitter 19 = .ok (.if_icmp .ge 7, 3) := dk_162 0 7 (dk_at dksX0_isSitter_0 19 rfl rfl)
theorem dX0_isSitter_22 : decode cX0_isSitter 22 = .ok (.iconst 1, 1) := dk_4 (dk_at dksX0_isSitter_0 22 rfl rfl)
theorem dX0_isSitter_23 : decode cX0_isSitter 23 = .ok (.goto 4, 3) := dk_167 0 4 (dk_at dksX0_isSitter_1 0 rfl rfl)
theorem dX0_isSitter_26 : decode cX0_isSitter 26 = .ok (.iconst 0, 1) := dk_3 (dk_at dksX0_isSitter_1 3 rfl rfl)
theorem dX0_isSitter_27 : decode cX0_isSitter 27 = .ok (.ireturn, 1) := dk_172 (dk_at dksX0_isSitter_1 4 rfl rfl)
abbrev cX0_undo : ByteArray := prog_1_method_20_code
def yX0_undo : MethodName := ⟨RX0, "undo", "()I"⟩
def dkwX0_undo_2 : List UInt8 := [180, 0, 138, 180, 0, 199, 172]
abbrev dktX0_undo_2 : List UInt8 := dkwX0_undo_2 ++ []
def dkwX0_undo_1 : List UInt8 := [89, 180, 0, 199, 4, 100, 181, 0, 199, 42, 180, 0, 138, 42, 180, 0, 138, 180, 0, 199, 182, 0, 214, 42]
abbrev dktX0_undo_1 : List UInt8 := dkwX0_undo_1 ++ dktX0_undo_2
def dkwX0_undo_0 : List UInt8 := [42, 180, 0, 138, 198, 0, 13, 42, 180, 0, 138, 180, 0, 199, 154, 0, 6, 16, 254, 172, 42, 180, 0, 138]
abbrev dktX0_undo_0 : List UInt8 := dkwX0_undo_0 ++ dktX0_undo_1
theorem dksX0_undo_0 : cX0_undo.data.toList.drop 0 = dktX0_undo_0 := by decide +kernel
theorem dksX0_undo_1 : cX0_undo.data.toList.drop 24 = dktX0_undo_1 := dk_seg dksX0_undo_0 24 rfl rfl
theorem dksX0_undo_2 : cX0_undo.data.toList.drop 48 = dktX0_undo_2 := dk_seg dksX0_undo_1 24 rfl rfl
theorem dX0_undo_0 : decode cX0_undo 0 = .ok (.aload_n 0, 1) := dk_42 (dk_at dksX0_undo_0 0 rfl rfl)
theorem dX0_undo_1 : decode cX0_undo 1 = .ok (.getfield 138, 3) := dk_180 0 138 (dk_at dksX0_undo_0 1 rfl rfl)
theorem dX0_undo_4 : decode cX0_undo 4 = .ok (.ifnull 13, 3) := dk_198 0 13 (dk_at dksX0_undo_0 4 rfl rfl)
theorem dX0_undo_7 : decode cX0_undo 7 = .ok (.aload_n 0, 1) := dk_42 (dk_at dksX0_undo_0 7 rfl rfl)
theorem dX0_undo_8 : decode cX0_undo 8 = .ok (.getfield 138, 3) := dk_180 0 138 (dk_at dksX0_undo_0 8 rfl rfl)
theorem dX0_undo_11 : decode cX0_undo 11 = .ok (.getfield 199, 3) := dk_180 0 199 (dk_at dksX0_undo_0 11 rfl rfl)
theorem dX0_undo_14 : decode cX0_undo 14 = .ok (.ifCond .ne 6, 3) := dk_154 0 6 (dk_at dksX0_undo_0 14 rfl rfl)
theorem dX0_undo_17 : decode cX0_undo 17 = .ok (.bipush (-2), 2) := dk_16 254 (dk_at dksX0_undo_0 17 rfl rfl)
theorem dX0_undo_19 : decode cX0_undo 19 = .ok (.ireturn, 1) := dk_172 (dk_at dksX0_undo_0 19 rfl rfl)
theorem dX0_undo_20 : decode cX0_undo 20 = .ok (.aload_n 0, 1) := dk_42 (dk_at dksX0_undo_0 20 rfl rfl)
theorem dX0_undo_21 : decode cX0_undo 21 = .ok (.getfield 138, 3) := dk_180 0 138 (dk_at dksX0_undo_0 21 rfl rfl)
theorem dX0_undo_24 : decode cX0_undo 24 = .ok (.dup, 1) := dk_89 (dk_at dksX0_undo_1 0 rfl rfl)
theorem dX0_undo_25 : decode cX0_undo 25 = .ok (.getfield 199, 3) := dk_180 0 199 (dk_at dksX0_undo_1 1 rfl rfl)
theorem dX0_undo_28 : decode cX0_undo 28 = .ok (.iconst 1, 1) := dk_4 (dk_at dksX0_undo_1 4 rfl rfl)
theorem dX0_undo_29 : decode cX0_undo 29 = .ok (.isub, 1) := dk_100 (dk_at dksX0_undo_1 5 rfl rfl)
theorem dX0_undo_30 : decode cX0_undo 30 = .ok (.putfield 199, 3) := dk_181 0 199 (dk_at dksX0_undo_1 6 rfl rfl)
theorem dX0_undo_33 : decode cX0_undo 33 = .ok (.aload_n 0, 1) := dk_42 (dk_at dksX0_undo_1 9 rfl rfl)
theorem dX0_undo_34 : decode cX0_undo 34 = .ok (.getfield 138, 3) := dk_180 0 138 (dk_at dksX0_undo_1 10 rfl rfl)
theorem dX0_undo_37 : decode cX0_undo 37 = .ok (.aload_n 0, 1) := dk_42 (dk_at dksX0_undo_1 13 rfl rfl)
theorem dX0_undo_38 : decode cX0_undo 38 = .ok (.getfield 138, 3) := dk_180 0 138 (dk_at dksX0_undo_1 14 rfl rfl)
theorem dX0_undo_41 : decode cX0_undo 41 = .ok (.getfield 199, 3) := dk_180 0 199 (dk_at dksX0_undo_1 17 rfl rfl)
theorem dX0_undo_44 : decode cX0_undo 44 = .ok (.invokevirtual 214, 3) := dk_182 0 214 (dk_at dksX0_undo_1 20 rfl rfl)
theorem dX0_undo_47 : decode cX0_undo 47 = .ok (.aload_n 0, 1) := dk_42 (dk_at dksX0_undo_1 23 rfl rfl)
theorem dX0_undo_48 : decode cX0_undo 48 = .ok (.getfield 138, 3) := dk_180 0 138 (dk_at dksX0_undo_2 0 rfl rfl)
theorem dX0_undo_51 : decode cX0_undo 51 = .ok (.getfield 199, 3) := dk_180 0 199 (dk_at dksX0_undo_2 3 rfl rfl)
theorem dX0_undo_54 : decode cX0_undo 54 = .ok (.ireturn, 1) := dk_172 (dk_at dksX0_undo_2 6 rfl rfl)
abbrev cX0_minute : ByteArray := prog_1_method_21_code
def yX0_minute : MethodName := ⟨RX0, "minute", "()I"⟩
def dkwX0_minute_1 : List UInt8 := [182, 0, 220, 42, 180, 0, 138, 42, 182, 0, 223, 182, 0, 226, 172]
abbrev dktX0_minute_1 : List UInt8 := dkwX0_minute_1 ++ []
def dkwX0_minute_0 : List UInt8 := [42, 180, 0, 138, 198, 0, 16, 42, 180, 0, 138, 180, 0, 217, 17, 3, 231, 160, 0, 5, 2, 172, 42]
abbrev dktX0_minute_0 : List UInt8 := dkwX0_minute_0 ++ dktX0_minute_1
theorem dksX0_minute_0 : cX0_minute.data.toList.drop 0 = dktX0_minute_0 := by decide +kernel
theorem dksX0_minute_1 : cX0_minute.data.toList.drop 23 = dktX0_minute_1 := dk_seg dksX0_minute_0 23 rfl rfl
theorem dX0_minute_0 : decode cX0_minute 0 = .ok (.aload_n 0, 1) := dk_42 (dk_at dksX0_minute_0 0 rfl rfl)
theorem dX0_minute_1 : decode cX0_minute 1 = .ok (.getfield 138, 3) := dk_180 0 138 (dk_at dksX0_minute_0 1 rfl rfl)
theorem dX0_minute_4 : decode cX0_minute 4 = .ok (.ifnull 16, 3) := dk_198 0 16 (dk_at dksX0_minute_0 4 rfl rfl)
theorem dX0_minute_7 : decode cX0_minute 7 = .ok (.aload_n 0, 1) := dk_42 (dk_at dksX0_minute_0 7 rfl rfl)
theorem dX0_minute_8 : decode cX0_minute 8 = .ok (.getfield 138, 3) := dk_180 0 138 (dk_at dksX0_minute_0 8 rfl rfl)
theorem dX0_minute_11 : decode cX0_minute 11 = .ok (.getfield 217, 3) := dk_180 0 217 (dk_at dksX0_minute_0 11 rfl rfl)
theorem dX0_minute_14 : decode cX0_minute 14 = .ok (.sipush 999, 3) := dk_17 3 231 (dk_at dksX0_minute_0 14 rfl rfl)
theorem dX0_minute_17 : decode cX0_minute 17 = .ok (.if_icmp .ne 5, 3) := dk_160 0 5 (dk_at dksX0_minute_0 17 rfl rfl)
theorem dX0_minute_20 : decode cX0_minute 20 = .ok (.iconst (-1), 1) := dk_2 (dk_at dksX0_minute_0 20 rfl rfl)
theorem dX0_minute_21 : decode cX0_minute 21 = .ok (.ireturn, 1) := dk_172 (dk_at dksX0_minute_0 21 rfl rfl)
theorem dX0_minute_22 : decode cX0_minute 22 = .ok (.aload_n 0, 1) := dk_42 (dk_at dksX0_minute_0 22 rfl rfl)
theorem dX0_minute_23 : decode cX0_minute 23 = .ok (.invokevirtual 220, 3) := dk_182 0 220 (dk_at dksX0_minute_1 0 rfl rfl)
theorem dX0_minute_26 : decode cX0_minute 26 = .ok (.aload_n 0, 1) := dk_42 (dk_at dksX0_minute_1 3 rfl rfl)
theorem dX0_minute_27 : decode cX0_minute 27 = .ok (.getfield 138, 3) := dk_180 0 138 (dk_at dksX0_minute_1 4 rfl rfl)
theorem dX0_minute_30 : decode cX0_minute 30 = .ok (.aload_n 0, 1) := dk_42 (dk_at dksX0_minute_1 7 rfl rfl)
theorem dX0_minute_31 : decode cX0_minute 31 = .ok (.invokevirtual 223, 3) := dk_182 0 223 (dk_at dksX0_minute_1 8 rfl rfl)
theorem dX0_minute_34 : decode cX0_minute 34 = .ok (.invokevirtual 226, 3) := dk_182 0 226 (dk_at dksX0_minute_1 11 rfl rfl)
theorem dX0_minute_37 : decode cX0_minute 37 = .ok (.ireturn, 1) := dk_172 (dk_at dksX0_minute_1 14 rfl rfl)
abbrev cX0_keepsAct : ByteArray := prog_1_method_19_code
def yX0_keepsAct : MethodName := ⟨RX0, "keepsAct", "()V"⟩
def dkwX0_keepsAct_3 : List UInt8 := [180, 0, 199, 4, 96, 181, 0, 199, 177]
abbrev dktX0_keepsAct_3 : List UInt8 := dkwX0_keepsAct_3 ++ []
def dkwX0_keepsAct_2 : List UInt8 := [181, 0, 199, 42, 180, 0, 138, 42, 180, 0, 138, 180, 0, 199, 182, 0, 211, 42, 180, 0, 138, 89]
abbrev dktX0_keepsAct_2 : List UInt8 := dkwX0_keepsAct_2 ++ dktX0_keepsAct_3
def dkwX0_keepsAct_1 : List UInt8 := [180, 0, 138, 180, 0, 202, 3, 17, 0, 247, 184, 0, 205, 42, 180, 0, 138, 89, 180, 0, 199, 4, 100]
abbrev dktX0_keepsAct_1 : List UInt8 := dkwX0_keepsAct_1 ++ dktX0_keepsAct_2
def dkwX0_keepsAct_0 : List UInt8 := [42, 180, 0, 138, 180, 0, 199, 16, 20, 160, 0, 39, 42, 180, 0, 138, 180, 0, 202, 16, 13, 42]
abbrev dktX0_keepsAct_0 : List UInt8 := dkwX0_keepsAct_0 ++ dktX0_keepsAct_1
theorem dksX0_keepsAct_0 : cX0_keepsAct.data.toList.drop 0 = dktX0_keepsAct_0 := by decide +kernel
theorem dksX0_keepsAct_1 : cX0_keepsAct.data.toList.drop 22 = dktX0_keepsAct_1 := dk_seg dksX0_keepsAct_0 22 rfl rfl
theorem dksX0_keepsAct_2 : cX0_keepsAct.data.toList.drop 45 = dktX0_keepsAct_2 := dk_seg dksX0_keepsAct_1 23 rfl rfl
theorem dksX0_keepsAct_3 : cX0_keepsAct.data.toList.drop 67 = dktX0_keepsAct_3 := dk_seg dksX0_keepsAct_2 22 rfl rfl
theorem dX0_keepsAct_0 : decode cX0_keepsAct 0 = .ok (.aload_n 0, 1) := dk_42 (dk_at dksX0_keepsAct_0 0 rfl rfl)
theorem dX0_keepsAct_1 : decode cX0_keepsAct 1 = .ok (.getfield 138, 3) := dk_180 0 138 (dk_at dksX0_keepsAct_0 1 rfl rfl)
theorem dX0_keepsAct_4 : decode cX0_keepsAct 4 = .ok (.getfield 199, 3) := dk_180 0 199 (dk_at dksX0_keepsAct_0 4 rfl rfl)
theorem dX0_keepsAct_7 : decode cX0_keepsAct 7 = .ok (.bipush 20, 2) := dk_16 20 (dk_at dksX0_keepsAct_0 7 rfl rfl)
theorem dX0_keepsAct_9 : decode cX0_keepsAct 9 = .ok (.if_icmp .ne 39, 3) := dk_160 0 39 (dk_at dksX0_keepsAct_0 9 rfl rfl)
theorem dX0_keepsAct_12 : decode cX0_keepsAct 12 = .ok (.aload_n 0, 1) := dk_42 (dk_at dksX0_keepsAct_0 12 rfl rfl)
theorem dX0_keepsAct_13 : decode cX0_keepsAct 13 = .ok (.getfield 138, 3) := dk_180 0 138 (dk_at dksX0_keepsAct_0 13 rfl rfl)
theorem dX0_keepsAct_16 : decode cX0_keepsAct 16 = .ok (.getfield 202, 3) := dk_180 0 202 (dk_at dksX0_keepsAct_0 16 rfl rfl)
theorem dX0_keepsAct_19 : decode cX0_keepsAct 19 = .ok (.bipush 13, 2) := dk_16 13 (dk_at dksX0_keepsAct_0 19 rfl rfl)
theorem dX0_keepsAct_21 : decode cX0_keepsAct 21 = .ok (.aload_n 0, 1) := dk_42 (dk_at dksX0_keepsAct_0 21 rfl rfl)
theorem dX0_keepsAct_22 : decode cX0_keepsAct 22 = .ok (.getfield 138, 3) := dk_180 0 138 (dk_at dksX0_keepsAct_1 0 rfl rfl)
theorem dX0_keepsAct_25 : decode cX0_keepsAct 25 = .ok (.getfield 202, 3) := dk_180 0 202 (dk_at dksX0_keepsAct_1 3 rfl rfl)
theorem dX0_keepsAct_28 : decode cX0_keepsAct 28 = .ok (.iconst 0, 1) := dk_3 (dk_at dksX0_keepsAct_1 6 rfl rfl)
theorem dX0_keepsAct_29 : decode cX0_keepsAct 29 = .ok (.sipush 247, 3) := dk_17 0 247 (dk_at dksX0_keepsAct_1 7 rfl rfl)
theorem dX0_keepsAct_32 : decode cX0_keepsAct 32 = .ok (.invokestatic 205, 3) := dk_184 0 205 (dk_at dksX0_keepsAct_1 10 rfl rfl)
theorem dX0_keepsAct_35 : decode cX0_keepsAct 35 = .ok (.aload_n 0, 1) := dk_42 (dk_at dksX0_keepsAct_1 13 rfl rfl)
theorem dX0_keepsAct_36 : decode cX0_keepsAct 36 = .ok (.getfield 138, 3) := dk_180 0 138 (dk_at dksX0_keepsAct_1 14 rfl rfl)
theorem dX0_keepsAct_39 : decode cX0_keepsAct 39 = .ok (.dup, 1) := dk_89 (dk_at dksX0_keepsAct_1 17 rfl rfl)
theorem dX0_keepsAct_40 : decode cX0_keepsAct 40 = .ok (.getfield 199, 3) := dk_180 0 199 (dk_at dksX0_keepsAct_1 18 rfl rfl)
theorem dX0_keepsAct_43 : decode cX0_keepsAct 43 = .ok (.iconst 1, 1) := dk_4 (dk_at dksX0_keepsAct_1 21 rfl rfl)
theorem dX0_keepsAct_44 : decode cX0_keepsAct 44 = .ok (.isub, 1) := dk_100 (dk_at dksX0_keepsAct_1 22 rfl rfl)
theorem dX0_keepsAct_45 : decode cX0_keepsAct 45 = .ok (.putfield 199, 3) := dk_181 0 199 (dk_at dksX0_keepsAct_2 0 rfl rfl)
theorem dX0_keepsAct_48 : decode cX0_keepsAct 48 = .ok (.aload_n 0, 1) := dk_42 (dk_at dksX0_keepsAct_2 3 rfl rfl)
theorem dX0_keepsAct_49 : decode cX0_keepsAct 49 = .ok (.getfield 138, 3) := dk_180 0 138 (dk_at dksX0_keepsAct_2 4 rfl rfl)
theorem dX0_keepsAct_52 : decode cX0_keepsAct 52 = .ok (.aload_n 0, 1) := dk_42 (dk_at dksX0_keepsAct_2 7 rfl rfl)
theorem dX0_keepsAct_53 : decode cX0_keepsAct 53 = .ok (.getfield 138, 3) := dk_180 0 138 (dk_at dksX0_keepsAct_2 8 rfl rfl)
theorem dX0_keepsAct_56 : decode cX0_keepsAct 56 = .ok (.getfield 199, 3) := dk_180 0 199 (dk_at dksX0_keepsAct_2 11 rfl rfl)
theorem dX0_keepsAct_59 : decode cX0_keepsAct 59 = .ok (.invokevirtual 211, 3) := dk_182 0 211 (dk_at dksX0_keepsAct_2 14 rfl rfl)
theorem dX0_keepsAct_62 : decode cX0_keepsAct 62 = .ok (.aload_n 0, 1) := dk_42 (dk_at dksX0_keepsAct_2 17 rfl rfl)
theorem dX0_keepsAct_63 : decode cX0_keepsAct 63 = .ok (.getfield 138, 3) := dk_180 0 138 (dk_at dksX0_keepsAct_2 18 rfl rfl)
theorem dX0_keepsAct_66 : decode cX0_keepsAct 66 = .ok (.dup, 1) := dk_89 (dk_at dksX0_keepsAct_2 21 rfl rfl)
theorem dX0_keepsAct_67 : decode cX0_keepsAct 67 = .ok (.getfield 199, 3) := dk_180 0 199 (dk_at dksX0_keepsAct_3 0 rfl rfl)
theorem dX0_keepsAct_70 : decode cX0_keepsAct 70 = .ok (.iconst 1, 1) := dk_4 (dk_at dksX0_keepsAct_3 3 rfl rfl)
theorem dX0_keepsAct_71 : decode cX0_keepsAct 71 = .ok (.iadd, 1) := dk_96 (dk_at dksX0_keepsAct_3 4 rfl rfl)
theorem dX0_keepsAct_72 : decode cX0_keepsAct 72 = .ok (.putfield 199, 3) := dk_181 0 199 (dk_at dksX0_keepsAct_3 5 rfl rfl)
theorem dX0_keepsAct_75 : decode cX0_keepsAct 75 = .ok (.return_, 1) := dk_177 (dk_at dksX0_keepsAct_3 8 rfl rfl)
abbrev cX0_law : ByteArray := prog_1_method_11_code
def yX0_law : MethodName := ⟨RX0, "law", "()LChairCane$Rule;"⟩
def dkwX0_law_0 : List UInt8 := [42, 180, 0, 25, 2, 160, 0, 7, 1, 167, 0, 12, 42, 180, 0, 82, 42, 180, 0, 25, 50, 176]
abbrev dktX0_law_0 : List UInt8 := dkwX0_law_0 ++ []
theorem dksX0_law_0 : cX0_law.data.toList.drop 0 = dktX0_law_0 := by decide +kernel
theorem dX0_law_0 : decode cX0_law 0 = .ok (.aload_n 0, 1) := dk_42 (dk_at dksX0_law_0 0 rfl rfl)
theorem dX0_law_1 : decode cX0_law 1 = .ok (.getfield 25, 3) := dk_180 0 25 (dk_at dksX0_law_0 1 rfl rfl)
theorem dX0_law_4 : decode cX0_law 4 = .ok (.iconst (-1), 1) := dk_2 (dk_at dksX0_law_0 4 rfl rfl)
theorem dX0_law_5 : decode cX0_law 5 = .ok (.if_icmp .ne 7, 3) := dk_160 0 7 (dk_at dksX0_law_0 5 rfl rfl)
theorem dX0_law_8 : decode cX0_law 8 = .ok (.aconst_null, 1) := dk_1 (dk_at dksX0_law_0 8 rfl rfl)
theorem dX0_law_9 : decode cX0_law 9 = .ok (.goto 12, 3) := dk_167 0 12 (dk_at dksX0_law_0 9 rfl rfl)
theorem dX0_law_12 : decode cX0_law 12 = .ok (.aload_n 0, 1) := dk_42 (dk_at dksX0_law_0 12 rfl rfl)
theorem dX0_law_13 : decode cX0_law 13 = .ok (.getfield 82, 3) := dk_180 0 82 (dk_at dksX0_law_0 13 rfl rfl)
theorem dX0_law_16 : decode cX0_law 16 = .ok (.aload_n 0, 1) := dk_42 (dk_at dksX0_law_0 16 rfl rfl)
theorem dX0_law_17 : decode cX0_law 17 = .ok (.getfield 25, 3) := dk_180 0 25 (dk_at dksX0_law_0 17 rfl rfl)
theorem dX0_law_20 : decode cX0_law 20 = .ok (.aaload, 1) := dk_50 (dk_at dksX0_law_0 20 rfl rfl)
theorem dX0_law_21 : decode cX0_law 21 = .ok (.areturn, 1) := dk_176 (dk_at dksX0_law_0 21 rfl rfl)
abbrev cX0_sit : ByteArray := prog_1_method_23_code
def yX0_sit : MethodName := ⟨RX0, "sit", "(I)I"⟩
def dkwX0_sit_0 : List UInt8 := [42, 27, 3, 182, 0, 233, 153, 0, 12, 42, 27, 4, 182, 0, 237, 167, 0, 4, 2, 172]
abbrev dktX0_sit_0 : List UInt8 := dkwX0_sit_0 ++ []
theorem dksX0_sit_0 : cX0_sit.data.toList.drop 0 = dktX0_sit_0 := by decide +kernel
theorem dX0_sit_0 : decode cX0_sit 0 = .ok (.aload_n 0, 1) := dk_42 (dk_at dksX0_sit_0 0 rfl rfl)
theorem dX0_sit_1 : decode cX0_sit 1 = .ok (.iload_n 1, 1) := dk_27 (dk_at dksX0_sit_0 1 rfl rfl)
theorem dX0_sit_2 : decode cX0_sit 2 = .ok (.iconst 0, 1) := dk_3 (dk_at dksX0_sit_0 2 rfl rfl)
theorem dX0_sit_3 : decode cX0_sit 3 = .ok (.invokevirtual 233, 3) := dk_182 0 233 (dk_at dksX0_sit_0 3 rfl rfl)
theorem dX0_sit_6 : decode cX0_sit 6 = .ok (.ifCond .eq 12, 3) := dk_153 0 12 (dk_at dksX0_sit_0 6 rfl rfl)
theorem dX0_sit_9 : decode cX0_sit 9 = .ok (.aload_n 0, 1) := dk_42 (dk_at dksX0_sit_0 9 rfl rfl)
theorem dX0_sit_10 : decode cX0_sit 10 = .ok (.iload_n 1, 1) := dk_27 (dk_at dksX0_sit_0 10 rfl rfl)
theorem dX0_sit_11 : decode cX0_sit 11 = .ok (.iconst 1, 1) := dk_4 (dk_at dksX0_sit_0 11 rfl rfl)
theorem dX0_sit_12 : decode cX0_sit 12 = .ok (.invokevirtual 237, 3) := dk_182 0 237 (dk_at dksX0_sit_0 12 rfl rfl)
theorem dX0_sit_15 : decode cX0_sit 15 = .ok (.goto 4, 3) := dk_167 0 4 (dk_at dksX0_sit_0 15 rfl rfl)
theorem dX0_sit_18 : decode cX0_sit 18 = .ok (.iconst (-1), 1) := dk_2 (dk_at dksX0_sit_0 18 rfl rfl)
theorem dX0_sit_19 : decode cX0_sit 19 = .ok (.ireturn, 1) := dk_172 (dk_at dksX0_sit_0 19 rfl rfl)
abbrev cX0_isSitterThat : ByteArray := prog_1_method_15_code
def yX0_isSitterThat : MethodName := ⟨RX0, "isSitterThat", "(II)Z"⟩
def dkwX0_isSitterThat_1 : List UInt8 := [167, 0, 4, 3, 172]
abbrev dktX0_isSitterThat_1 : List UInt8 := dkwX0_isSitterThat_1 ++ []
def dkwX0_isSitterThat_0 : List UInt8 := [42, 27, 182, 0, 161, 153, 0, 20, 42, 180, 0, 138, 180, 0, 165, 27, 46, 28, 160, 0, 7, 4]
abbrev dktX0_isSitterThat_0 : List UInt8 := dkwX0_isSitterThat_0 ++ dktX0_isSitterThat_1
theorem dksX0_isSitterThat_0 : cX0_isSitterThat.data.toList.drop 0 = dktX0_isSitterThat_0 := by decide +kernel
theorem dksX0_isSitterThat_1 : cX0_isSitterThat.data.toList.drop 22 = dktX0_isSitterThat_1 := dk_seg dksX0_isSitterThat_0 22 rfl rfl
theorem dX0_isSitterThat_0 : decode cX0_isSitterThat 0 = .ok (.aload_n 0, 1) := dk_42 (dk_at dksX0_isSitterThat_0 0 rfl rfl)
theorem dX0_isSitterThat_1 : decode cX0_isSitterThat 1 = .ok (.iload_n 1, 1) := dk_27 (dk_at dksX0_isSitterThat_0 1 rfl rfl)
theorem dX0_isSitterThat_2 : decode cX0_isSitterThat 2 = .ok (.invokevirtual 161, 3) := dk_182 0 161 (dk_at dksX0_isSitterThat_0 2 rfl rfl)
theorem dX0_isSitterThat_5 : decode cX0_isSitterThat 5 = .ok (.ifCond .eq 20, 3) := dk_153 0 20 (dk_at dksX0_isSitterThat_0 5 rfl rfl)
theorem dX0_isSitterThat_8 : decode cX0_isSitterThat 8 = .ok (.aload_n 0, 1) := dk_42 (dk_at dksX0_isSitterThat_0 8 rfl rfl)
theorem dX0_isSitterThat_9 : decode cX0_isSitterThat 9 = .ok (.getfield 138, 3) := dk_180 0 138 (dk_at dksX0_isSitterThat_0 9 rfl rfl)
theorem dX0_isSitterThat_12 : decode cX0_isSitterThat 12 = .ok (.getfield 165, 3) := dk_180 0 165 (dk_at dksX0_isSitterThat_0 12 rfl rfl)
theorem dX0_isSitterThat_15 : decode cX0_isSitterThat 15 = .ok (.iload_n 1, 1) := dk_27 (dk_at dksX0_isSitterThat_0 15 rfl rfl)
theorem dX0_isSitterThat_16 : decode cX0_isSitterThat 16 = .ok (.iaload, 1) := dk_46 (dk_at dksX0_isSitterThat_0 16 rfl rfl)
theorem dX0_isSitterThat_17 : decode cX0_isSitterThat 17 = .ok (.iload_n 2, 1) := dk_28 (dk_at dksX0_isSitterThat_0 17 rfl rfl)
theorem dX0_isSitterThat_18 : decode cX0_isSitterThat 18 = .ok (.if_icmp .ne 7, 3) := dk_160 0 7 (dk_at dksX0_isSitterThat_0 18 rfl rfl)
theorem dX0_isSitterThat_21 : decode cX0_isSitterThat 21 = .ok (.iconst 1, 1) := dk_4 (dk_at dksX0_isSitterThat_0 21 rfl rfl)
theorem dX0_isSitterThat_22 : decode cX0_isSitterThat 22 = .ok (.goto 4, 3) := dk_167 0 4 (dk_at dksX0_isSitterThat_1 0 rfl rfl)
theorem dX0_isSitterThat_25 : decode cX0_isSitterThat 25 = .ok (.iconst 0, 1) := dk_3 (dk_at dksX0_isSitterThat_1 3 rfl rfl)
theorem dX0_isSitterThat_26 : decode cX0_isSitterThat 26 = .ok (.ireturn, 1) := dk_172 (dk_at dksX0_isSitterThat_1 4 rfl rfl)
abbrev cX0_becomes : ByteArray := prog_1_method_22_code
def yX0_becomes : MethodName := ⟨RX0, "becomes", "(II)I"⟩
def dkwX0_becomes_0 : List UInt8 := [42, 182, 0, 220, 42, 180, 0, 138, 180, 0, 165, 27, 28, 79, 42, 180, 0, 138, 182, 0, 230, 172]
abbrev dktX0_becomes_0 : List UInt8 := dkwX0_becomes_0 ++ []
theorem dksX0_becomes_0 : cX0_becomes.data.toList.drop 0 = dktX0_becomes_0 := by decide +kernel
theorem dX0_becomes_0 : decode cX0_becomes 0 = .ok (.aload_n 0, 1) := dk_42 (dk_at dksX0_becomes_0 0 rfl rfl)
theorem dX0_becomes_1 : decode cX0_becomes 1 = .ok (.invokevirtual 220, 3) := dk_182 0 220 (dk_at dksX0_becomes_0 1 rfl rfl)
theorem dX0_becomes_4 : decode cX0_becomes 4 = .ok (.aload_n 0, 1) := dk_42 (dk_at dksX0_becomes_0 4 rfl rfl)
theorem dX0_becomes_5 : decode cX0_becomes 5 = .ok (.getfield 138, 3) := dk_180 0 138 (dk_at dksX0_becomes_0 5 rfl rfl)
theorem dX0_becomes_8 : decode cX0_becomes 8 = .ok (.getfield 165, 3) := dk_180 0 165 (dk_at dksX0_becomes_0 8 rfl rfl)
theorem dX0_becomes_11 : decode cX0_becomes 11 = .ok (.iload_n 1, 1) := dk_27 (dk_at dksX0_becomes_0 11 rfl rfl)
theorem dX0_becomes_12 : decode cX0_becomes 12 = .ok (.iload_n 2, 1) := dk_28 (dk_at dksX0_becomes_0 12 rfl rfl)
theorem dX0_becomes_13 : decode cX0_becomes 13 = .ok (.iastore, 1) := dk_79 (dk_at dksX0_becomes_0 13 rfl rfl)
theorem dX0_becomes_14 : decode cX0_becomes 14 = .ok (.aload_n 0, 1) := dk_42 (dk_at dksX0_becomes_0 14 rfl rfl)
theorem dX0_becomes_15 : decode cX0_becomes 15 = .ok (.getfield 138, 3) := dk_180 0 138 (dk_at dksX0_becomes_0 15 rfl rfl)
theorem dX0_becomes_18 : decode cX0_becomes 18 = .ok (.invokevirtual 230, 3) := dk_182 0 230 (dk_at dksX0_becomes_0 18 rfl rfl)
theorem dX0_becomes_21 : decode cX0_becomes 21 = .ok (.ireturn, 1) := dk_172 (dk_at dksX0_becomes_0 21 rfl rfl)
abbrev cX0_rise : ByteArray := prog_1_method_24_code
def yX0_rise : MethodName := ⟨RX0, "rise", "(I)I"⟩
def dkwX0_rise_0 : List UInt8 := [42, 27, 4, 182, 0, 233, 153, 0, 12, 42, 27, 3, 182, 0, 237, 167, 0, 4, 2, 172]
abbrev dktX0_rise_0 : List UInt8 := dkwX0_rise_0 ++ []
theorem dksX0_rise_0 : cX0_rise.data.toList.drop 0 = dktX0_rise_0 := by decide +kernel
theorem dX0_rise_0 : decode cX0_rise 0 = .ok (.aload_n 0, 1) := dk_42 (dk_at dksX0_rise_0 0 rfl rfl)
theorem dX0_rise_1 : decode cX0_rise 1 = .ok (.iload_n 1, 1) := dk_27 (dk_at dksX0_rise_0 1 rfl rfl)
theorem dX0_rise_2 : decode cX0_rise 2 = .ok (.iconst 1, 1) := dk_4 (dk_at dksX0_rise_0 2 rfl rfl)
theorem dX0_rise_3 : decode cX0_rise 3 = .ok (.invokevirtual 233, 3) := dk_182 0 233 (dk_at dksX0_rise_0 3 rfl rfl)
theorem dX0_rise_6 : decode cX0_rise 6 = .ok (.ifCond .eq 12, 3) := dk_153 0 12 (dk_at dksX0_rise_0 6 rfl rfl)
theorem dX0_rise_9 : decode cX0_rise 9 = .ok (.aload_n 0, 1) := dk_42 (dk_at dksX0_rise_0 9 rfl rfl)
theorem dX0_rise_10 : decode cX0_rise 10 = .ok (.iload_n 1, 1) := dk_27 (dk_at dksX0_rise_0 10 rfl rfl)
theorem dX0_rise_11 : decode cX0_rise 11 = .ok (.iconst 0, 1) := dk_3 (dk_at dksX0_rise_0 11 rfl rfl)
theorem dX0_rise_12 : decode cX0_rise 12 = .ok (.invokevirtual 237, 3) := dk_182 0 237 (dk_at dksX0_rise_0 12 rfl rfl)
theorem dX0_rise_15 : decode cX0_rise 15 = .ok (.goto 4, 3) := dk_167 0 4 (dk_at dksX0_rise_0 15 rfl rfl)
theorem dX0_rise_18 : decode cX0_rise 18 = .ok (.iconst (-1), 1) := dk_2 (dk_at dksX0_rise_0 18 rfl rfl)
theorem dX0_rise_19 : decode cX0_rise 19 = .ok (.ireturn, 1) := dk_172 (dk_at dksX0_rise_0 19 rfl rfl)
abbrev cX0_help : ByteArray := prog_1_method_25_code
def yX0_help : MethodName := ⟨RX0, "help", "(I)I"⟩
def dkwX0_help_1 : List UInt8 := [182, 0, 241, 184, 0, 244, 172]
abbrev dktX0_help_1 : List UInt8 := dkwX0_help_1 ++ []
def dkwX0_help_0 : List UInt8 := [42, 27, 5, 182, 0, 233, 154, 0, 5, 2, 172, 42, 27, 3, 182, 0, 237, 87, 42, 180, 0, 138, 5]
abbrev dktX0_help_0 : List UInt8 := dkwX0_help_0 ++ dktX0_help_1
theorem dksX0_help_0 : cX0_help.data.toList.drop 0 = dktX0_help_0 := by decide +kernel
theorem dksX0_help_1 : cX0_help.data.toList.drop 23 = dktX0_help_1 := dk_seg dksX0_help_0 23 rfl rfl
theorem dX0_help_0 : decode cX0_help 0 = .ok (.aload_n 0, 1) := dk_42 (dk_at dksX0_help_0 0 rfl rfl)
theorem dX0_help_1 : decode cX0_help 1 = .ok (.iload_n 1, 1) := dk_27 (dk_at dksX0_help_0 1 rfl rfl)
theorem dX0_help_2 : decode cX0_help 2 = .ok (.iconst 2, 1) := dk_5 (dk_at dksX0_help_0 2 rfl rfl)
theorem dX0_help_3 : decode cX0_help 3 = .ok (.invokevirtual 233, 3) := dk_182 0 233 (dk_at dksX0_help_0 3 rfl rfl)
theorem dX0_help_6 : decode cX0_help 6 = .ok (.ifCond .ne 5, 3) := dk_154 0 5 (dk_at dksX0_help_0 6 rfl rfl)
theorem dX0_help_9 : decode cX0_help 9 = .ok (.iconst (-1), 1) := dk_2 (dk_at dksX0_help_0 9 rfl rfl)
theorem dX0_help_10 : decode cX0_help 10 = .ok (.ireturn, 1) := dk_172 (dk_at dksX0_help_0 10 rfl rfl)
theorem dX0_help_11 : decode cX0_help 11 = .ok (.aload_n 0, 1) := dk_42 (dk_at dksX0_help_0 11 rfl rfl)
theorem dX0_help_12 : decode cX0_help 12 = .ok (.iload_n 1, 1) := dk_27 (dk_at dksX0_help_0 12 rfl rfl)
theorem dX0_help_13 : decode cX0_help 13 = .ok (.iconst 0, 1) := dk_3 (dk_at dksX0_help_0 13 rfl rfl)
theorem dX0_help_14 : decode cX0_help 14 = .ok (.invokevirtual 237, 3) := dk_182 0 237 (dk_at dksX0_help_0 14 rfl rfl)
theorem dX0_help_17 : decode cX0_help 17 = .ok (.pop, 1) := dk_87 (dk_at dksX0_help_0 17 rfl rfl)
theorem dX0_help_18 : decode cX0_help 18 = .ok (.aload_n 0, 1) := dk_42 (dk_at dksX0_help_0 18 rfl rfl)
theorem dX0_help_19 : decode cX0_help 19 = .ok (.getfield 138, 3) := dk_180 0 138 (dk_at dksX0_help_0 19 rfl rfl)
theorem dX0_help_22 : decode cX0_help 22 = .ok (.iconst 2, 1) := dk_5 (dk_at dksX0_help_0 22 rfl rfl)
theorem dX0_help_23 : decode cX0_help 23 = .ok (.invokevirtual 241, 3) := dk_182 0 241 (dk_at dksX0_help_1 0 rfl rfl)
theorem dX0_help_26 : decode cX0_help 26 = .ok (.invokestatic 244, 3) := dk_184 0 244 (dk_at dksX0_help_1 3 rfl rfl)
theorem dX0_help_29 : decode cX0_help 29 = .ok (.ireturn, 1) := dk_172 (dk_at dksX0_help_1 6 rfl rfl)
abbrev cX0_let : ByteArray := prog_1_method_26_code
def yX0_let : MethodName := ⟨RX0, "let", "(II)I"⟩
def dkwX0_let_2 : List UInt8 := [79, 42, 180, 0, 138, 182, 0, 230, 172]
abbrev dktX0_let_2 : List UInt8 := dkwX0_let_2 ++ []
def dkwX0_let_1 : List UInt8 := [180, 0, 171, 27, 46, 28, 160, 0, 5, 2, 172, 42, 182, 0, 220, 42, 180, 0, 138, 180, 0, 171, 27, 28]
abbrev dktX0_let_1 : List UInt8 := dkwX0_let_1 ++ dktX0_let_2
def dkwX0_let_0 : List UInt8 := [42, 27, 182, 0, 168, 153, 0, 28, 28, 133, 9, 20, 0, 249, 184, 0, 178, 153, 0, 16, 42, 180, 0, 138]
abbrev dktX0_let_0 : List UInt8 := dkwX0_let_0 ++ dktX0_let_1
theorem dksX0_let_0 : cX0_let.data.toList.drop 0 = dktX0_let_0 := by decide +kernel
theorem dksX0_let_1 : cX0_let.data.toList.drop 24 = dktX0_let_1 := dk_seg dksX0_let_0 24 rfl rfl
theorem dksX0_let_2 : cX0_let.data.toList.drop 48 = dktX0_let_2 := dk_seg dksX0_let_1 24 rfl rfl
theorem dX0_let_0 : decode cX0_let 0 = .ok (.aload_n 0, 1) := dk_42 (dk_at dksX0_let_0 0 rfl rfl)
theorem dX0_let_1 : decode cX0_let 1 = .ok (.iload_n 1, 1) := dk_27 (dk_at dksX0_let_0 1 rfl rfl)
theorem dX0_let_2 : decode cX0_let 2 = .ok (.invokevirtual 168, 3) := dk_182 0 168 (dk_at dksX0_let_0 2 rfl rfl)
theorem dX0_let_5 : decode cX0_let 5 = .ok (.ifCond .eq 28, 3) := dk_153 0 28 (dk_at dksX0_let_0 5 rfl rfl)
theorem dX0_let_8 : decode cX0_let 8 = .ok (.iload_n 2, 1) := dk_28 (dk_at dksX0_let_0 8 rfl rfl)
theorem dX0_let_9 : decode cX0_let 9 = .ok (.i2l, 1) := dk_133 (dk_at dksX0_let_0 9 rfl rfl)
theorem dX0_let_10 : decode cX0_let 10 = .ok (.lconst 0, 1) := dk_9 (dk_at dksX0_let_0 10 rfl rfl)
theorem dX0_let_11 : decode cX0_let 11 = .ok (.ldc2_w 249, 3) := dk_20 0 249 (dk_at dksX0_let_0 11 rfl rfl)
theorem dX0_let_14 : decode cX0_let 14 = .ok (.invokestatic 178, 3) := dk_184 0 178 (dk_at dksX0_let_0 14 rfl rfl)
theorem dX0_let_17 : decode cX0_let 17 = .ok (.ifCond .eq 16, 3) := dk_153 0 16 (dk_at dksX0_let_0 17 rfl rfl)
theorem dX0_let_20 : decode cX0_let 20 = .ok (.aload_n 0, 1) := dk_42 (dk_at dksX0_let_0 20 rfl rfl)
theorem dX0_let_21 : decode cX0_let 21 = .ok (.getfield 138, 3) := dk_180 0 138 (dk_at dksX0_let_0 21 rfl rfl)
theorem dX0_let_24 : decode cX0_let 24 = .ok (.getfield 171, 3) := dk_180 0 171 (dk_at dksX0_let_1 0 rfl rfl)
theorem dX0_let_27 : decode cX0_let 27 = .ok (.iload_n 1, 1) := dk_27 (dk_at dksX0_let_1 3 rfl rfl)
theorem dX0_let_28 : decode cX0_let 28 = .ok (.iaload, 1) := dk_46 (dk_at dksX0_let_1 4 rfl rfl)
theorem dX0_let_29 : decode cX0_let 29 = .ok (.iload_n 2, 1) := dk_28 (dk_at dksX0_let_1 5 rfl rfl)
theorem dX0_let_30 : decode cX0_let 30 = .ok (.if_icmp .ne 5, 3) := dk_160 0 5 (dk_at dksX0_let_1 6 rfl rfl)
theorem dX0_let_33 : decode cX0_let 33 = .ok (.iconst (-1), 1) := dk_2 (dk_at dksX0_let_1 9 rfl rfl)
theorem dX0_let_34 : decode cX0_let 34 = .ok (.ireturn, 1) := dk_172 (dk_at dksX0_let_1 10 rfl rfl)
theorem dX0_let_35 : decode cX0_let 35 = .ok (.aload_n 0, 1) := dk_42 (dk_at dksX0_let_1 11 rfl rfl)
theorem dX0_let_36 : decode cX0_let 36 = .ok (.invokevirtual 220, 3) := dk_182 0 220 (dk_at dksX0_let_1 12 rfl rfl)
theorem dX0_let_39 : decode cX0_let 39 = .ok (.aload_n 0, 1) := dk_42 (dk_at dksX0_let_1 15 rfl rfl)
theorem dX0_let_40 : decode cX0_let 40 = .ok (.getfield 138, 3) := dk_180 0 138 (dk_at dksX0_let_1 16 rfl rfl)
theorem dX0_let_43 : decode cX0_let 43 = .ok (.getfield 171, 3) := dk_180 0 171 (dk_at dksX0_let_1 19 rfl rfl)
theorem dX0_let_46 : decode cX0_let 46 = .ok (.iload_n 1, 1) := dk_27 (dk_at dksX0_let_1 22 rfl rfl)
theorem dX0_let_47 : decode cX0_let 47 = .ok (.iload_n 2, 1) := dk_28 (dk_at dksX0_let_1 23 rfl rfl)
theorem dX0_let_48 : decode cX0_let 48 = .ok (.iastore, 1) := dk_79 (dk_at dksX0_let_2 0 rfl rfl)
theorem dX0_let_49 : decode cX0_let 49 = .ok (.aload_n 0, 1) := dk_42 (dk_at dksX0_let_2 1 rfl rfl)
theorem dX0_let_50 : decode cX0_let 50 = .ok (.getfield 138, 3) := dk_180 0 138 (dk_at dksX0_let_2 2 rfl rfl)
theorem dX0_let_53 : decode cX0_let 53 = .ok (.invokevirtual 230, 3) := dk_182 0 230 (dk_at dksX0_let_2 5 rfl rfl)
theorem dX0_let_56 : decode cX0_let 56 = .ok (.ireturn, 1) := dk_172 (dk_at dksX0_let_2 8 rfl rfl)
abbrev cX0_ahead : ByteArray := prog_1_method_27_code
def yX0_ahead : MethodName := ⟨RX0, "ahead", "(III)I"⟩
def dkwX0_ahead_4 : List UInt8 := [182, 0, 190, 167, 0, 14, 42, 180, 0, 16, 5, 182, 0, 241, 184, 0, 244, 172]
abbrev dktX0_ahead_4 : List UInt8 := dkwX0_ahead_4 ++ []
def dkwX0_ahead_3 : List UInt8 := [42, 180, 0, 16, 180, 0, 165, 27, 46, 167, 0, 30, 29, 4, 160, 0, 14, 42, 180, 0, 16, 27]
abbrev dktX0_ahead_3 : List UInt8 := dkwX0_ahead_3 ++ dktX0_ahead_4
def dkwX0_ahead_2 : List UInt8 := [42, 180, 0, 16, 42, 180, 0, 138, 182, 0, 134, 28, 42, 182, 0, 223, 182, 0, 253, 87, 29, 154, 0, 15]
abbrev dktX0_ahead_2 : List UInt8 := dkwX0_ahead_2 ++ dktX0_ahead_3
def dkwX0_ahead_1 : List UInt8 := [20, 0, 193, 184, 0, 178, 153, 0, 16, 29, 5, 162, 0, 13, 42, 27, 182, 0, 161, 154, 0, 5, 2, 172]
abbrev dktX0_ahead_1 : List UInt8 := dkwX0_ahead_1 ++ dktX0_ahead_2
def dkwX0_ahead_0 : List UInt8 := [42, 180, 0, 138, 198, 0, 40, 28, 133, 9, 20, 0, 251, 184, 0, 178, 153, 0, 28, 29, 133, 9]
abbrev dktX0_ahead_0 : List UInt8 := dkwX0_ahead_0 ++ dktX0_ahead_1
theorem dksX0_ahead_0 : cX0_ahead.data.toList.drop 0 = dktX0_ahead_0 := by decide +kernel
theorem dksX0_ahead_1 : cX0_ahead.data.toList.drop 22 = dktX0_ahead_1 := dk_seg dksX0_ahead_0 22 rfl rfl
theorem dksX0_ahead_2 : cX0_ahead.data.toList.drop 46 = dktX0_ahead_2 := dk_seg dksX0_ahead_1 24 rfl rfl
theorem dksX0_ahead_3 : cX0_ahead.data.toList.drop 70 = dktX0_ahead_3 := dk_seg dksX0_ahead_2 24 rfl rfl
theorem dksX0_ahead_4 : cX0_ahead.data.toList.drop 92 = dktX0_ahead_4 := dk_seg dksX0_ahead_3 22 rfl rfl
theorem dX0_ahead_0 : decode cX0_ahead 0 = .ok (.aload_n 0, 1) := dk_42 (dk_at dksX0_ahead_0 0 rfl rfl)
theorem dX0_ahead_1 : decode cX0_ahead 1 = .ok (.getfield 138, 3) := dk_180 0 138 (dk_at dksX0_ahead_0 1 rfl rfl)
theorem dX0_ahead_4 : decode cX0_ahead 4 = .ok (.ifnull 40, 3) := dk_198 0 40 (dk_at dksX0_ahead_0 4 rfl rfl)
theorem dX0_ahead_7 : decode cX0_ahead 7 = .ok (.iload_n 2, 1) := dk_28 (dk_at dksX0_ahead_0 7 rfl rfl)
theorem dX0_ahead_8 : decode cX0_ahead 8 = .ok (.i2l, 1) := dk_133 (dk_at dksX0_ahead_0 8 rfl rfl)
theorem dX0_ahead_9 : decode cX0_ahead 9 = .ok (.lconst 0, 1) := dk_9 (dk_at dksX0_ahead_0 9 rfl rfl)
theorem dX0_ahead_10 : decode cX0_ahead 10 = .ok (.ldc2_w 251, 3) := dk_20 0 251 (dk_at dksX0_ahead_0 10 rfl rfl)
theorem dX0_ahead_13 : decode cX0_ahead 13 = .ok (.invokestatic 178, 3) := dk_184 0 178 (dk_at dksX0_ahead_0 13 rfl rfl)
theorem dX0_ahead_16 : decode cX0_ahead 16 = .ok (.ifCond .eq 28, 3) := dk_153 0 28 (dk_at dksX0_ahead_0 16 rfl rfl)
theorem dX0_ahead_19 : decode cX0_ahead 19 = .ok (.iload_n 3, 1) := dk_29 (dk_at dksX0_ahead_0 19 rfl rfl)
theorem dX0_ahead_20 : decode cX0_ahead 20 = .ok (.i2l, 1) := dk_133 (dk_at dksX0_ahead_0 20 rfl rfl)
theorem dX0_ahead_21 : decode cX0_ahead 21 = .ok (.lconst 0, 1) := dk_9 (dk_at dksX0_ahead_0 21 rfl rfl)
theorem dX0_ahead_22 : decode cX0_ahead 22 = .ok (.ldc2_w 193, 3) := dk_20 0 193 (dk_at dksX0_ahead_1 0 rfl rfl)
theorem dX0_ahead_25 : decode cX0_ahead 25 = .ok (.invokestatic 178, 3) := dk_184 0 178 (dk_at dksX0_ahead_1 3 rfl rfl)
theorem dX0_ahead_28 : decode cX0_ahead 28 = .ok (.ifCond .eq 16, 3) := dk_153 0 16 (dk_at dksX0_ahead_1 6 rfl rfl)
theorem dX0_ahead_31 : decode cX0_ahead 31 = .ok (.iload_n 3, 1) := dk_29 (dk_at dksX0_ahead_1 9 rfl rfl)
theorem dX0_ahead_32 : decode cX0_ahead 32 = .ok (.iconst 2, 1) := dk_5 (dk_at dksX0_ahead_1 10 rfl rfl)
theorem dX0_ahead_33 : decode cX0_ahead 33 = .ok (.if_icmp .ge 13, 3) := dk_162 0 13 (dk_at dksX0_ahead_1 11 rfl rfl)
theorem dX0_ahead_36 : decode cX0_ahead 36 = .ok (.aload_n 0, 1) := dk_42 (dk_at dksX0_ahead_1 14 rfl rfl)
theorem dX0_ahead_37 : decode cX0_ahead 37 = .ok (.iload_n 1, 1) := dk_27 (dk_at dksX0_ahead_1 15 rfl rfl)
theorem dX0_ahead_38 : decode cX0_ahead 38 = .ok (.invokevirtual 161, 3) := dk_182 0 161 (dk_at dksX0_ahead_1 16 rfl rfl)
theorem dX0_ahead_41 : decode cX0_ahead 41 = .ok (.ifCond .ne 5, 3) := dk_154 0 5 (dk_at dksX0_ahead_1 19 rfl rfl)
theorem dX0_ahead_44 : decode cX0_ahead 44 = .ok (.iconst (-1), 1) := dk_2 (dk_at dksX0_ahead_1 22 rfl rfl)
theorem dX0_ahead_45 : decode cX0_ahead 45 = .ok (.ireturn, 1) := dk_172 (dk_at dksX0_ahead_1 23 rfl rfl)
theorem dX0_ahead_46 : decode cX0_ahead 46 = .ok (.aload_n 0, 1) := dk_42 (dk_at dksX0_ahead_2 0 rfl rfl)
theorem dX0_ahead_47 : decode cX0_ahead 47 = .ok (.getfield 16, 3) := dk_180 0 16 (dk_at dksX0_ahead_2 1 rfl rfl)
theorem dX0_ahead_50 : decode cX0_ahead 50 = .ok (.aload_n 0, 1) := dk_42 (dk_at dksX0_ahead_2 4 rfl rfl)
theorem dX0_ahead_51 : decode cX0_ahead 51 = .ok (.getfield 138, 3) := dk_180 0 138 (dk_at dksX0_ahead_2 5 rfl rfl)
theorem dX0_ahead_54 : decode cX0_ahead 54 = .ok (.invokevirtual 134, 3) := dk_182 0 134 (dk_at dksX0_ahead_2 8 rfl rfl)
theorem dX0_ahead_57 : decode cX0_ahead 57 = .ok (.iload_n 2, 1) := dk_28 (dk_at dksX0_ahead_2 11 rfl rfl)
theorem dX0_ahead_58 : decode cX0_ahead 58 = .ok (.aload_n 0, 1) := dk_42 (dk_at dksX0_ahead_2 12 rfl rfl)
theorem dX0_ahead_59 : decode cX0_ahead 59 = .ok (.invokevirtual 223, 3) := dk_182 0 223 (dk_at dksX0_ahead_2 13 rfl rfl)
theorem dX0_ahead_62 : decode cX0_ahead 62 = .ok (.invokevirtual 253, 3) := dk_182 0 253 (dk_at dksX0_ahead_2 16 rfl rfl)
theorem dX0_ahead_65 : decode cX0_ahead 65 = .ok (.pop, 1) := dk_87 (dk_at dksX0_ahead_2 19 rfl rfl)
theorem dX0_ahead_66 : decode cX0_ahead 66 = .ok (.iload_n 3, 1) := dk_29 (dk_at dksX0_ahead_2 20 rfl rfl)
theorem dX0_ahead_67 : decode cX0_ahead 67 = .ok (.ifCond .ne 15, 3) := dk_154 0 15 (dk_at dksX0_ahead_2 21 rfl rfl)
theorem dX0_ahead_70 : decode cX0_ahead 70 = .ok (.aload_n 0, 1) := dk_42 (dk_at dksX0_ahead_3 0 rfl rfl)
theorem dX0_ahead_71 : decode cX0_ahead 71 = .ok (.getfield 16, 3) := dk_180 0 16 (dk_at dksX0_ahead_3 1 rfl rfl)
theorem dX0_ahead_74 : decode cX0_ahead 74 = .ok (.getfield 165, 3) := dk_180 0 165 (dk_at dksX0_ahead_3 4 rfl rfl)
theorem dX0_ahead_77 : decode cX0_ahead 77 = .ok (.iload_n 1, 1) := dk_27 (dk_at dksX0_ahead_3 7 rfl rfl)
theorem dX0_ahead_78 : decode cX0_ahead 78 = .ok (.iaload, 1) := dk_46 (dk_at dksX0_ahead_3 8 rfl rfl)
theorem dX0_ahead_79 : decode cX0_ahead 79 = .ok (.goto 30, 3) := dk_167 0 30 (dk_at dksX0_ahead_3 9 rfl rfl)
theorem dX0_ahead_82 : decode cX0_ahead 82 = .ok (.iload_n 3, 1) := dk_29 (dk_at dksX0_ahead_3 12 rfl rfl)
theorem dX0_ahead_83 : decode cX0_ahead 83 = .ok (.iconst 1, 1) := dk_4 (dk_at dksX0_ahead_3 13 rfl rfl)
theorem dX0_ahead_84 : decode cX0_ahead 84 = .ok (.if_icmp .ne 14, 3) := dk_160 0 14 (dk_at dksX0_ahead_3 14 rfl rfl)
theorem dX0_ahead_87 : decode cX0_ahead 87 = .ok (.aload_n 0, 1) := dk_42 (dk_at dksX0_ahead_3 17 rfl rfl)
theorem dX0_ahead_88 : decode cX0_ahead 88 = .ok (.getfield 16, 3) := dk_180 0 16 (dk_at dksX0_ahead_3 18 rfl rfl)
theorem dX0_ahead_91 : decode cX0_ahead 91 = .ok (.iload_n 1, 1) := dk_27 (dk_at dksX0_ahead_3 21 rfl rfl)
theorem dX0_ahead_92 : decode cX0_ahead 92 = .ok (.invokevirtual 190, 3) := dk_182 0 190 (dk_at dksX0_ahead_4 0 rfl rfl)
theorem dX0_ahead_95 : decode cX0_ahead 95 = .ok (.goto 14, 3) := dk_167 0 14 (dk_at dksX0_ahead_4 3 rfl rfl)
theorem dX0_ahead_98 : decode cX0_ahead 98 = .ok (.aload_n 0, 1) := dk_42 (dk_at dksX0_ahead_4 6 rfl rfl)
theorem dX0_ahead_99 : decode cX0_ahead 99 = .ok (.getfield 16, 3) := dk_180 0 16 (dk_at dksX0_ahead_4 7 rfl rfl)
theorem dX0_ahead_102 : decode cX0_ahead 102 = .ok (.iconst 2, 1) := dk_5 (dk_at dksX0_ahead_4 10 rfl rfl)
theorem dX0_ahead_103 : decode cX0_ahead 103 = .ok (.invokevirtual 241, 3) := dk_182 0 241 (dk_at dksX0_ahead_4 11 rfl rfl)
theorem dX0_ahead_106 : decode cX0_ahead 106 = .ok (.invokestatic 244, 3) := dk_184 0 244 (dk_at dksX0_ahead_4 14 rfl rfl)
theorem dX0_ahead_109 : decode cX0_ahead 109 = .ok (.ireturn, 1) := dk_172 (dk_at dksX0_ahead_4 17 rfl rfl)
abbrev cX0_falls : ByteArray := prog_1_method_28_code
def yX0_falls : MethodName := ⟨RX0, "falls", "(I)I"⟩
def dkwX0_falls_3 : List UInt8 := [29, 172, 132, 2, 1, 167, 255, 212, 16, 254, 172]
abbrev dktX0_falls_3 : List UInt8 := dkwX0_falls_3 ++ []
def dkwX0_falls_2 : List UInt8 := [182, 0, 226, 62, 29, 153, 0, 21, 27, 154, 0, 15, 42, 180, 0, 16, 180, 0, 217, 4, 100, 167, 0, 4]
abbrev dktX0_falls_2 : List UInt8 := dkwX0_falls_2 ++ dktX0_falls_3
def dkwX0_falls_1 : List UInt8 := [180, 0, 138, 182, 0, 134, 87, 3, 61, 28, 17, 0, 200, 162, 0, 43, 42, 180, 0, 16, 42, 182, 0, 223]
abbrev dktX0_falls_1 : List UInt8 := dkwX0_falls_1 ++ dktX0_falls_2
def dkwX0_falls_0 : List UInt8 := [42, 180, 0, 138, 198, 0, 13, 27, 133, 9, 10, 184, 0, 178, 154, 0, 5, 2, 172, 42, 180, 0, 16, 42]
abbrev dktX0_falls_0 : List UInt8 := dkwX0_falls_0 ++ dktX0_falls_1
theorem dksX0_falls_0 : cX0_falls.data.toList.drop 0 = dktX0_falls_0 := by decide +kernel
theorem dksX0_falls_1 : cX0_falls.data.toList.drop 24 = dktX0_falls_1 := dk_seg dksX0_falls_0 24 rfl rfl
theorem dksX0_falls_2 : cX0_falls.data.toList.drop 48 = dktX0_falls_2 := dk_seg dksX0_falls_1 24 rfl rfl
theorem dksX0_falls_3 : cX0_falls.data.toList.drop 72 = dktX0_falls_3 := dk_seg dksX0_falls_2 24 rfl rfl
theorem dX0_falls_0 : decode cX0_falls 0 = .ok (.aload_n 0, 1) := dk_42 (dk_at dksX0_falls_0 0 rfl rfl)
theorem dX0_falls_1 : decode cX0_falls 1 = .ok (.getfield 138, 3) := dk_180 0 138 (dk_at dksX0_falls_0 1 rfl rfl)
theorem dX0_falls_4 : decode cX0_falls 4 = .ok (.ifnull 13, 3) := dk_198 0 13 (dk_at dksX0_falls_0 4 rfl rfl)
theorem dX0_falls_7 : decode cX0_falls 7 = .ok (.iload_n 1, 1) := dk_27 (dk_at dksX0_falls_0 7 rfl rfl)
theorem dX0_falls_8 : decode cX0_falls 8 = .ok (.i2l, 1) := dk_133 (dk_at dksX0_falls_0 8 rfl rfl)
theorem dX0_falls_9 : decode cX0_falls 9 = .ok (.lconst 0, 1) := dk_9 (dk_at dksX0_falls_0 9 rfl rfl)
theorem dX0_falls_10 : decode cX0_falls 10 = .ok (.lconst 1, 1) := dk_10 (dk_at dksX0_falls_0 10 rfl rfl)
theorem dX0_falls_11 : decode cX0_falls 11 = .ok (.invokestatic 178, 3) := dk_184 0 178 (dk_at dksX0_falls_0 11 rfl rfl)
theorem dX0_falls_14 : decode cX0_falls 14 = .ok (.ifCond .ne 5, 3) := dk_154 0 5 (dk_at dksX0_falls_0 14 rfl rfl)
theorem dX0_falls_17 : decode cX0_falls 17 = .ok (.iconst (-1), 1) := dk_2 (dk_at dksX0_falls_0 17 rfl rfl)
theorem dX0_falls_18 : decode cX0_falls 18 = .ok (.ireturn, 1) := dk_172 (dk_at dksX0_falls_0 18 rfl rfl)
theorem dX0_falls_19 : decode cX0_falls 19 = .ok (.aload_n 0, 1) := dk_42 (dk_at dksX0_falls_0 19 rfl rfl)
theorem dX0_falls_20 : decode cX0_falls 20 = .ok (.getfield 16, 3) := dk_180 0 16 (dk_at dksX0_falls_0 20 rfl rfl)
theorem dX0_falls_23 : decode cX0_falls 23 = .ok (.aload_n 0, 1) := dk_42 (dk_at dksX0_falls_0 23 rfl rfl)
theorem dX0_falls_24 : decode cX0_falls 24 = .ok (.getfield 138, 3) := dk_180 0 138 (dk_at dksX0_falls_1 0 rfl rfl)
theorem dX0_falls_27 : decode cX0_falls 27 = .ok (.invokevirtual 134, 3) := dk_182 0 134 (dk_at dksX0_falls_1 3 rfl rfl)
theorem dX0_falls_30 : decode cX0_falls 30 = .ok (.pop, 1) := dk_87 (dk_at dksX0_falls_1 6 rfl rfl)
theorem dX0_falls_31 : decode cX0_falls 31 = .ok (.iconst 0, 1) := dk_3 (dk_at dksX0_falls_1 7 rfl rfl)
theorem dX0_falls_32 : decode cX0_falls 32 = .ok (.istore_n 2, 1) := dk_61 (dk_at dksX0_falls_1 8 rfl rfl)
theorem dX0_falls_33 : decode cX0_falls 33 = .ok (.iload_n 2, 1) := dk_28 (dk_at dksX0_falls_1 9 rfl rfl)
theorem dX0_falls_34 : decode cX0_falls 34 = .ok (.sipush 200, 3) := dk_17 0 200 (dk_at dksX0_falls_1 10 rfl rfl)
theorem dX0_falls_37 : decode cX0_falls 37 = .ok (.if_icmp .ge 43, 3) := dk_162 0 43 (dk_at dksX0_falls_1 13 rfl rfl)
theorem dX0_falls_40 : decode cX0_falls 40 = .ok (.aload_n 0, 1) := dk_42 (dk_at dksX0_falls_1 16 rfl rfl)
theorem dX0_falls_41 : decode cX0_falls 41 = .ok (.getfield 16, 3) := dk_180 0 16 (dk_at dksX0_falls_1 17 rfl rfl)
theorem dX0_falls_44 : decode cX0_falls 44 = .ok (.aload_n 0, 1) := dk_42 (dk_at dksX0_falls_1 20 rfl rfl)
theorem dX0_falls_45 : decode cX0_falls 45 = .ok (.invokevirtual 223, 3) := dk_182 0 223 (dk_at dksX0_falls_1 21 rfl rfl)
theorem dX0_falls_48 : decode cX0_falls 48 = .ok (.invokevirtual 226, 3) := dk_182 0 226 (dk_at dksX0_falls_2 0 rfl rfl)
theorem dX0_falls_51 : decode cX0_falls 51 = .ok (.istore_n 3, 1) := dk_62 (dk_at dksX0_falls_2 3 rfl rfl)
theorem dX0_falls_52 : decode cX0_falls 52 = .ok (.iload_n 3, 1) := dk_29 (dk_at dksX0_falls_2 4 rfl rfl)
theorem dX0_falls_53 : decode cX0_falls 53 = .ok (.ifCond .eq 21, 3) := dk_153 0 21 (dk_at dksX0_falls_2 5 rfl rfl)
theorem dX0_falls_56 : decode cX0_falls 56 = .ok (.iload_n 1, 1) := dk_27 (dk_at dksX0_falls_2 8 rfl rfl)
theorem dX0_falls_57 : decode cX0_falls 57 = .ok (.ifCond .ne 15, 3) := dk_154 0 15 (dk_at dksX0_falls_2 9 rfl rfl)
theorem dX0_falls_60 : decode cX0_falls 60 = .ok (.aload_n 0, 1) := dk_42 (dk_at dksX0_falls_2 12 rfl rfl)
theorem dX0_falls_61 : decode cX0_falls 61 = .ok (.getfield 16, 3) := dk_180 0 16 (dk_at dksX0_falls_2 13 rfl rfl)
theorem dX0_falls_64 : decode cX0_falls 64 = .ok (.getfield 217, 3) := dk_180 0 217 (dk_at dksX0_falls_2 16 rfl rfl)
theorem dX0_falls_67 : decode cX0_falls 67 = .ok (.iconst 1, 1) := dk_4 (dk_at dksX0_falls_2 19 rfl rfl)
theorem dX0_falls_68 : decode cX0_falls 68 = .ok (.isub, 1) := dk_100 (dk_at dksX0_falls_2 20 rfl rfl)
theorem dX0_falls_69 : decode cX0_falls 69 = .ok (.goto 4, 3) := dk_167 0 4 (dk_at dksX0_falls_2 21 rfl rfl)
theorem dX0_falls_72 : decode cX0_falls 72 = .ok (.iload_n 3, 1) := dk_29 (dk_at dksX0_falls_3 0 rfl rfl)
theorem dX0_falls_73 : decode cX0_falls 73 = .ok (.ireturn, 1) := dk_172 (dk_at dksX0_falls_3 1 rfl rfl)
theorem dX0_falls_74 : decode cX0_falls 74 = .ok (.iinc 2 1, 3) := dk_132 2 1 (dk_at dksX0_falls_3 2 rfl rfl)
theorem dX0_falls_77 : decode cX0_falls 77 = .ok (.goto (-44), 3) := dk_167 255 212 (dk_at dksX0_falls_3 5 rfl rfl)
theorem dX0_falls_80 : decode cX0_falls 80 = .ok (.bipush (-2), 2) := dk_16 254 (dk_at dksX0_falls_3 8 rfl rfl)
theorem dX0_falls_82 : decode cX0_falls 82 = .ok (.ireturn, 1) := dk_172 (dk_at dksX0_falls_3 10 rfl rfl)
abbrev cX0_felled : ByteArray := prog_1_method_30_code
def yX0_felled : MethodName := ⟨RX0, "felled", "(I)I"⟩
def dkwX0_felled_0 : List UInt8 := [42, 27, 4, 182, 0, 233, 153, 0, 11, 42, 27, 182, 1, 1, 167, 0, 4, 2, 172]
abbrev dktX0_felled_0 : List UInt8 := dkwX0_felled_0 ++ []
theorem dksX0_felled_0 : cX0_felled.data.toList.drop 0 = dktX0_felled_0 := by decide +kernel
theorem dX0_felled_0 : decode cX0_felled 0 = .ok (.aload_n 0, 1) := dk_42 (dk_at dksX0_felled_0 0 rfl rfl)
theorem dX0_felled_1 : decode cX0_felled 1 = .ok (.iload_n 1, 1) := dk_27 (dk_at dksX0_felled_0 1 rfl rfl)
theorem dX0_felled_2 : decode cX0_felled 2 = .ok (.iconst 1, 1) := dk_4 (dk_at dksX0_felled_0 2 rfl rfl)
theorem dX0_felled_3 : decode cX0_felled 3 = .ok (.invokevirtual 233, 3) := dk_182 0 233 (dk_at dksX0_felled_0 3 rfl rfl)
theorem dX0_felled_6 : decode cX0_felled 6 = .ok (.ifCond .eq 11, 3) := dk_153 0 11 (dk_at dksX0_felled_0 6 rfl rfl)
theorem dX0_felled_9 : decode cX0_felled 9 = .ok (.aload_n 0, 1) := dk_42 (dk_at dksX0_felled_0 9 rfl rfl)
theorem dX0_felled_10 : decode cX0_felled 10 = .ok (.iload_n 1, 1) := dk_27 (dk_at dksX0_felled_0 10 rfl rfl)
theorem dX0_felled_11 : decode cX0_felled 11 = .ok (.invokevirtual 257, 3) := dk_182 1 1 (dk_at dksX0_felled_0 11 rfl rfl)
theorem dX0_felled_14 : decode cX0_felled 14 = .ok (.goto 4, 3) := dk_167 0 4 (dk_at dksX0_felled_0 14 rfl rfl)
theorem dX0_felled_17 : decode cX0_felled 17 = .ok (.iconst (-1), 1) := dk_2 (dk_at dksX0_felled_0 17 rfl rfl)
theorem dX0_felled_18 : decode cX0_felled 18 = .ok (.ireturn, 1) := dk_172 (dk_at dksX0_felled_0 18 rfl rfl)
abbrev cX0_fells : ByteArray := prog_1_method_29_code
def yX0_fells : MethodName := ⟨RX0, "fells", "(I)I"⟩
def dkwX0_fells_1 : List UInt8 := [172]
abbrev dktX0_fells_1 : List UInt8 := dkwX0_fells_1 ++ []
def dkwX0_fells_0 : List UInt8 := [42, 180, 0, 16, 42, 180, 0, 138, 182, 0, 134, 180, 0, 165, 27, 3, 79, 42, 180, 0, 16, 182, 0, 230]
abbrev dktX0_fells_0 : List UInt8 := dkwX0_fells_0 ++ dktX0_fells_1
theorem dksX0_fells_0 : cX0_fells.data.toList.drop 0 = dktX0_fells_0 := by decide +kernel
theorem dksX0_fells_1 : cX0_fells.data.toList.drop 24 = dktX0_fells_1 := dk_seg dksX0_fells_0 24 rfl rfl
theorem dX0_fells_0 : decode cX0_fells 0 = .ok (.aload_n 0, 1) := dk_42 (dk_at dksX0_fells_0 0 rfl rfl)
theorem dX0_fells_1 : decode cX0_fells 1 = .ok (.getfield 16, 3) := dk_180 0 16 (dk_at dksX0_fells_0 1 rfl rfl)
theorem dX0_fells_4 : decode cX0_fells 4 = .ok (.aload_n 0, 1) := dk_42 (dk_at dksX0_fells_0 4 rfl rfl)
theorem dX0_fells_5 : decode cX0_fells 5 = .ok (.getfield 138, 3) := dk_180 0 138 (dk_at dksX0_fells_0 5 rfl rfl)
theorem dX0_fells_8 : decode cX0_fells 8 = .ok (.invokevirtual 134, 3) := dk_182 0 134 (dk_at dksX0_fells_0 8 rfl rfl)
theorem dX0_fells_11 : decode cX0_fells 11 = .ok (.getfield 165, 3) := dk_180 0 165 (dk_at dksX0_fells_0 11 rfl rfl)
theorem dX0_fells_14 : decode cX0_fells 14 = .ok (.iload_n 1, 1) := dk_27 (dk_at dksX0_fells_0 14 rfl rfl)
theorem dX0_fells_15 : decode cX0_fells 15 = .ok (.iconst 0, 1) := dk_3 (dk_at dksX0_fells_0 15 rfl rfl)
theorem dX0_fells_16 : decode cX0_fells 16 = .ok (.iastore, 1) := dk_79 (dk_at dksX0_fells_0 16 rfl rfl)
theorem dX0_fells_17 : decode cX0_fells 17 = .ok (.aload_n 0, 1) := dk_42 (dk_at dksX0_fells_0 17 rfl rfl)
theorem dX0_fells_18 : decode cX0_fells 18 = .ok (.getfield 16, 3) := dk_180 0 16 (dk_at dksX0_fells_0 18 rfl rfl)
theorem dX0_fells_21 : decode cX0_fells 21 = .ok (.invokevirtual 230, 3) := dk_182 0 230 (dk_at dksX0_fells_0 21 rfl rfl)
theorem dX0_fells_24 : decode cX0_fells 24 = .ok (.ireturn, 1) := dk_172 (dk_at dksX0_fells_1 0 rfl rfl)
abbrev cX0_tall : ByteArray := prog_1_method_31_code
def yX0_tall : MethodName := ⟨RX0, "tall", "(I)I"⟩
def dkwX0_tall_4 : List UInt8 := [172]
abbrev dktX0_tall_4 : List UInt8 := dkwX0_tall_4 ++ []
def dkwX0_tall_3 : List UInt8 := [167, 0, 9, 21, 4, 61, 21, 5, 62, 132, 4, 1, 167, 255, 202, 27, 154, 0, 7, 28, 167, 0, 4, 29]
abbrev dktX0_tall_3 : List UInt8 := dkwX0_tall_3 ++ dktX0_tall_4
def dkwX0_tall_2 : List UInt8 := [154, 0, 6, 167, 0, 29, 42, 21, 4, 182, 1, 1, 184, 0, 244, 54, 5, 21, 5, 29, 163, 0, 6]
abbrev dktX0_tall_2 : List UInt8 := dkwX0_tall_2 ++ dktX0_tall_3
def dkwX0_tall_1 : List UInt8 := [62, 3, 54, 4, 21, 4, 42, 180, 0, 138, 180, 0, 141, 162, 0, 48, 42, 21, 4, 4, 182, 0, 233]
abbrev dktX0_tall_1 : List UInt8 := dkwX0_tall_1 ++ dktX0_tall_2
def dkwX0_tall_0 : List UInt8 := [42, 180, 0, 138, 198, 0, 13, 27, 133, 9, 10, 184, 0, 178, 154, 0, 5, 2, 172, 16, 254, 61, 16, 254]
abbrev dktX0_tall_0 : List UInt8 := dkwX0_tall_0 ++ dktX0_tall_1
theorem dksX0_tall_0 : cX0_tall.data.toList.drop 0 = dktX0_tall_0 := by decide +kernel
theorem dksX0_tall_1 : cX0_tall.data.toList.drop 24 = dktX0_tall_1 := dk_seg dksX0_tall_0 24 rfl rfl
theorem dksX0_tall_2 : cX0_tall.data.toList.drop 47 = dktX0_tall_2 := dk_seg dksX0_tall_1 23 rfl rfl
theorem dksX0_tall_3 : cX0_tall.data.toList.drop 70 = dktX0_tall_3 := dk_seg dksX0_tall_2 23 rfl rfl
theorem dksX0_tall_4 : cX0_tall.data.toList.drop 94 = dktX0_tall_4 := dk_seg dksX0_tall_3 24 rfl rfl
theorem dX0_tall_0 : decode cX0_tall 0 = .ok (.aload_n 0, 1) := dk_42 (dk_at dksX0_tall_0 0 rfl rfl)
theorem dX0_tall_1 : decode cX0_tall 1 = .ok (.getfield 138, 3) := dk_180 0 138 (dk_at dksX0_tall_0 1 rfl rfl)
theorem dX0_tall_4 : decode cX0_tall 4 = .ok (.ifnull 13, 3) := dk_198 0 13 (dk_at dksX0_tall_0 4 rfl rfl)
theorem dX0_tall_7 : decode cX0_tall 7 = .ok (.iload_n 1, 1) := dk_27 (dk_at dksX0_tall_0 7 rfl rfl)
theorem dX0_tall_8 : decode cX0_tall 8 = .ok (.i2l, 1) := dk_133 (dk_at dksX0_tall_0 8 rfl rfl)
theorem dX0_tall_9 : decode cX0_tall 9 = .ok (.lconst 0, 1) := dk_9 (dk_at dksX0_tall_0 9 rfl rfl)
theorem dX0_tall_10 : decode cX0_tall 10 = .ok (.lconst 1, 1) := dk_10 (dk_at dksX0_tall_0 10 rfl rfl)
theorem dX0_tall_11 : decode cX0_tall 11 = .ok (.invokestatic 178, 3) := dk_184 0 178 (dk_at dksX0_tall_0 11 rfl rfl)
theorem dX0_tall_14 : decode cX0_tall 14 = .ok (.ifCond .ne 5, 3) := dk_154 0 5 (dk_at dksX0_tall_0 14 rfl rfl)
theorem dX0_tall_17 : decode cX0_tall 17 = .ok (.iconst (-1), 1) := dk_2 (dk_at dksX0_tall_0 17 rfl rfl)
theorem dX0_tall_18 : decode cX0_tall 18 = .ok (.ireturn, 1) := dk_172 (dk_at dksX0_tall_0 18 rfl rfl)
theorem dX0_tall_19 : decode cX0_tall 19 = .ok (.bipush (-2), 2) := dk_16 254 (dk_at dksX0_tall_0 19 rfl rfl)
theorem dX0_tall_21 : decode cX0_tall 21 = .ok (.istore_n 2, 1) := dk_61 (dk_at dksX0_tall_0 21 rfl rfl)
theorem dX0_tall_22 : decode cX0_tall 22 = .ok (.bipush (-2), 2) := dk_16 254 (dk_at dksX0_tall_0 22 rfl rfl)
theorem dX0_tall_24 : decode cX0_tall 24 = .ok (.istore_n 3, 1) := dk_62 (dk_at dksX0_tall_1 0 rfl rfl)
theorem dX0_tall_25 : decode cX0_tall 25 = .ok (.iconst 0, 1) := dk_3 (dk_at dksX0_tall_1 1 rfl rfl)
theorem dX0_tall_26 : decode cX0_tall 26 = .ok (.istore 4, 2) := dk_54 4 (dk_at dksX0_tall_1 2 rfl rfl)
theorem dX0_tall_28 : decode cX0_tall 28 = .ok (.iload 4, 2) := dk_21 4 (dk_at dksX0_tall_1 4 rfl rfl)
theorem dX0_tall_30 : decode cX0_tall 30 = .ok (.aload_n 0, 1) := dk_42 (dk_at dksX0_tall_1 6 rfl rfl)
theorem dX0_tall_31 : decode cX0_tall 31 = .ok (.getfield 138, 3) := dk_180 0 138 (dk_at dksX0_tall_1 7 rfl rfl)
theorem dX0_tall_34 : decode cX0_tall 34 = .ok (.getfield 141, 3) := dk_180 0 141 (dk_at dksX0_tall_1 10 rfl rfl)
theorem dX0_tall_37 : decode cX0_tall 37 = .ok (.if_icmp .ge 48, 3) := dk_162 0 48 (dk_at dksX0_tall_1 13 rfl rfl)
theorem dX0_tall_40 : decode cX0_tall 40 = .ok (.aload_n 0, 1) := dk_42 (dk_at dksX0_tall_1 16 rfl rfl)
theorem dX0_tall_41 : decode cX0_tall 41 = .ok (.iload 4, 2) := dk_21 4 (dk_at dksX0_tall_1 17 rfl rfl)
theorem dX0_tall_43 : decode cX0_tall 43 = .ok (.iconst 1, 1) := dk_4 (dk_at dksX0_tall_1 19 rfl rfl)
theorem dX0_tall_44 : decode cX0_tall 44 = .ok (.invokevirtual 233, 3) := dk_182 0 233 (dk_at dksX0_tall_1 20 rfl rfl)
theorem dX0_tall_47 : decode cX0_tall 47 = .ok (.ifCond .ne 6, 3) := dk_154 0 6 (dk_at dksX0_tall_2 0 rfl rfl)
theorem dX0_tall_50 : decode cX0_tall 50 = .ok (.goto 29, 3) := dk_167 0 29 (dk_at dksX0_tall_2 3 rfl rfl)
theorem dX0_tall_53 : decode cX0_tall 53 = .ok (.aload_n 0, 1) := dk_42 (dk_at dksX0_tall_2 6 rfl rfl)
theorem dX0_tall_54 : decode cX0_tall 54 = .ok (.iload 4, 2) := dk_21 4 (dk_at dksX0_tall_2 7 rfl rfl)
theorem dX0_tall_56 : decode cX0_tall 56 = .ok (.invokevirtual 257, 3) := dk_182 1 1 (dk_at dksX0_tall_2 9 rfl rfl)
theorem dX0_tall_59 : decode cX0_tall 59 = .ok (.invokestatic 244, 3) := dk_184 0 244 (dk_at dksX0_tall_2 12 rfl rfl)
theorem dX0_tall_62 : decode cX0_tall 62 = .ok (.istore 5, 2) := dk_54 5 (dk_at dksX0_tall_2 15 rfl rfl)
theorem dX0_tall_64 : decode cX0_tall 64 = .ok (.iload 5, 2) := dk_21 5 (dk_at dksX0_tall_2 17 rfl rfl)
theorem dX0_tall_66 : decode cX0_tall 66 = .ok (.iload_n 3, 1) := dk_29 (dk_at dksX0_tall_2 19 rfl rfl)
theorem dX0_tall_67 : decode cX0_tall 67 = .ok (.if_icmp .gt 6, 3) := dk_163 0 6 (dk_at dksX0_tall_2 20 rfl rfl)
theorem dX0_tall_70 : decode cX0_tall 70 = .ok (.goto 9, 3) := dk_167 0 9 (dk_at dksX0_tall_3 0 rfl rfl)
theorem dX0_tall_73 : decode cX0_tall 73 = .ok (.iload 4, 2) := dk_21 4 (dk_at dksX0_tall_3 3 rfl rfl)
theorem dX0_tall_75 : decode cX0_tall 75 = .ok (.istore_n 2, 1) := dk_61 (dk_at dksX0_tall_3 5 rfl rfl)
theorem dX0_tall_76 : decode cX0_tall 76 = .ok (.iload 5, 2) := dk_21 5 (dk_at dksX0_tall_3 6 rfl rfl)
theorem dX0_tall_78 : decode cX0_tall 78 = .ok (.istore_n 3, 1) := dk_62 (dk_at dksX0_tall_3 8 rfl rfl)
theorem dX0_tall_79 : decode cX0_tall 79 = .ok (.iinc 4 1, 3) := dk_132 4 1 (dk_at dksX0_tall_3 9 rfl rfl)
theorem dX0_tall_82 : decode cX0_tall 82 = .ok (.goto (-54), 3) := dk_167 255 202 (dk_at dksX0_tall_3 12 rfl rfl)
theorem dX0_tall_85 : decode cX0_tall 85 = .ok (.iload_n 1, 1) := dk_27 (dk_at dksX0_tall_3 15 rfl rfl)
theorem dX0_tall_86 : decode cX0_tall 86 = .ok (.ifCond .ne 7, 3) := dk_154 0 7 (dk_at dksX0_tall_3 16 rfl rfl)
theorem dX0_tall_89 : decode cX0_tall 89 = .ok (.iload_n 2, 1) := dk_28 (dk_at dksX0_tall_3 19 rfl rfl)
theorem dX0_tall_90 : decode cX0_tall 90 = .ok (.goto 4, 3) := dk_167 0 4 (dk_at dksX0_tall_3 20 rfl rfl)
theorem dX0_tall_93 : decode cX0_tall 93 = .ok (.iload_n 3, 1) := dk_29 (dk_at dksX0_tall_3 23 rfl rfl)
theorem dX0_tall_94 : decode cX0_tall 94 = .ok (.ireturn, 1) := dk_172 (dk_at dksX0_tall_4 0 rfl rfl)
abbrev cX0_ease : ByteArray := prog_1_method_32_code
def yX0_ease : MethodName := ⟨RX0, "ease", "(I)I"⟩
def dkwX0_ease_5 : List UInt8 := [167, 0, 5, 21, 4, 172]
abbrev dktX0_ease_5 : List UInt8 := dkwX0_ease_5 ++ []
def dkwX0_ease_4 : List UInt8 := [154, 0, 7, 21, 5, 54, 4, 132, 5, 1, 167, 255, 196, 27, 154, 0, 11, 21, 4, 184, 0, 244]
abbrev dktX0_ease_4 : List UInt8 := dkwX0_ease_4 ++ dktX0_ease_5
def dkwX0_ease_3 : List UInt8 := [21, 4, 184, 0, 244, 163, 0, 6, 167, 0, 21, 42, 180, 0, 138, 28, 21, 5, 128, 182, 1, 4]
abbrev dktX0_ease_3 : List UInt8 := dkwX0_ease_3 ++ dktX0_ease_4
def dkwX0_ease_2 : List UInt8 := [180, 0, 138, 180, 0, 141, 120, 162, 0, 52, 21, 5, 29, 2, 130, 126, 154, 0, 37, 21, 5, 184, 0, 244]
abbrev dktX0_ease_2 : List UInt8 := dkwX0_ease_2 ++ dktX0_ease_3
def dkwX0_ease_1 : List UInt8 := [182, 0, 241, 61, 42, 180, 0, 138, 3, 182, 0, 241, 62, 3, 54, 4, 3, 54, 5, 21, 5, 4, 42]
abbrev dktX0_ease_1 : List UInt8 := dkwX0_ease_1 ++ dktX0_ease_2
def dkwX0_ease_0 : List UInt8 := [42, 180, 0, 138, 198, 0, 13, 27, 133, 9, 10, 184, 0, 178, 154, 0, 5, 2, 172, 42, 180, 0, 138, 4]
abbrev dktX0_ease_0 : List UInt8 := dkwX0_ease_0 ++ dktX0_ease_1
theorem dksX0_ease_0 : cX0_ease.data.toList.drop 0 = dktX0_ease_0 := by decide +kernel
theorem dksX0_ease_1 : cX0_ease.data.toList.drop 24 = dktX0_ease_1 := dk_seg dksX0_ease_0 24 rfl rfl
theorem dksX0_ease_2 : cX0_ease.data.toList.drop 47 = dktX0_ease_2 := dk_seg dksX0_ease_1 23 rfl rfl
theorem dksX0_ease_3 : cX0_ease.data.toList.drop 71 = dktX0_ease_3 := dk_seg dksX0_ease_2 24 rfl rfl
theorem dksX0_ease_4 : cX0_ease.data.toList.drop 93 = dktX0_ease_4 := dk_seg dksX0_ease_3 22 rfl rfl
theorem dksX0_ease_5 : cX0_ease.data.toList.drop 115 = dktX0_ease_5 := dk_seg dksX0_ease_4 22 rfl rfl
theorem dX0_ease_0 : decode cX0_ease 0 = .ok (.aload_n 0, 1) := dk_42 (dk_at dksX0_ease_0 0 rfl rfl)
theorem dX0_ease_1 : decode cX0_ease 1 = .ok (.getfield 138, 3) := dk_180 0 138 (dk_at dksX0_ease_0 1 rfl rfl)
theorem dX0_ease_4 : decode cX0_ease 4 = .ok (.ifnull 13, 3) := dk_198 0 13 (dk_at dksX0_ease_0 4 rfl rfl)
theorem dX0_ease_7 : decode cX0_ease 7 = .ok (.iload_n 1, 1) := dk_27 (dk_at dksX0_ease_0 7 rfl rfl)
theorem dX0_ease_8 : decode cX0_ease 8 = .ok (.i2l, 1) := dk_133 (dk_at dksX0_ease_0 8 rfl rfl)
theorem dX0_ease_9 : decode cX0_ease 9 = .ok (.lconst 0, 1) := dk_9 (dk_at dksX0_ease_0 9 rfl rfl)
theorem dX0_ease_10 : decode cX0_ease 10 = .ok (.lconst 1, 1) := dk_10 (dk_at dksX0_ease_0 10 rfl rfl)
theorem dX0_ease_11 : decode cX0_ease 11 = .ok (.invokestatic 178, 3) := dk_184 0 178 (dk_at dksX0_ease_0 11 rfl rfl)
theorem dX0_ease_14 : decode cX0_ease 14 = .ok (.ifCond .ne 5, 3) := dk_154 0 5 (dk_at dksX0_ease_0 14 rfl rfl)
theorem dX0_ease_17 : decode cX0_ease 17 = .ok (.iconst (-1), 1) := dk_2 (dk_at dksX0_ease_0 17 rfl rfl)
theorem dX0_ease_18 : decode cX0_ease 18 = .ok (.ireturn, 1) := dk_172 (dk_at dksX0_ease_0 18 rfl rfl)
theorem dX0_ease_19 : decode cX0_ease 19 = .ok (.aload_n 0, 1) := dk_42 (dk_at dksX0_ease_0 19 rfl rfl)
theorem dX0_ease_20 : decode cX0_ease 20 = .ok (.getfield 138, 3) := dk_180 0 138 (dk_at dksX0_ease_0 20 rfl rfl)
theorem dX0_ease_23 : decode cX0_ease 23 = .ok (.iconst 1, 1) := dk_4 (dk_at dksX0_ease_0 23 rfl rfl)
theorem dX0_ease_24 : decode cX0_ease 24 = .ok (.invokevirtual 241, 3) := dk_182 0 241 (dk_at dksX0_ease_1 0 rfl rfl)
theorem dX0_ease_27 : decode cX0_ease 27 = .ok (.istore_n 2, 1) := dk_61 (dk_at dksX0_ease_1 3 rfl rfl)
theorem dX0_ease_28 : decode cX0_ease 28 = .ok (.aload_n 0, 1) := dk_42 (dk_at dksX0_ease_1 4 rfl rfl)
theorem dX0_ease_29 : decode cX0_ease 29 = .ok (.getfield 138, 3) := dk_180 0 138 (dk_at dksX0_ease_1 5 rfl rfl)
theorem dX0_ease_32 : decode cX0_ease 32 = .ok (.iconst 0, 1) := dk_3 (dk_at dksX0_ease_1 8 rfl rfl)
theorem dX0_ease_33 : decode cX0_ease 33 = .ok (.invokevirtual 241, 3) := dk_182 0 241 (dk_at dksX0_ease_1 9 rfl rfl)
theorem dX0_ease_36 : decode cX0_ease 36 = .ok (.istore_n 3, 1) := dk_62 (dk_at dksX0_ease_1 12 rfl rfl)
theorem dX0_ease_37 : decode cX0_ease 37 = .ok (.iconst 0, 1) := dk_3 (dk_at dksX0_ease_1 13 rfl rfl)
theorem dX0_ease_38 : decode cX0_ease 38 = .ok (.istore 4, 2) := dk_54 4 (dk_at dksX0_ease_1 14 rfl rfl)
theorem dX0_ease_40 : decode cX0_ease 40 = .ok (.iconst 0, 1) := dk_3 (dk_at dksX0_ease_1 16 rfl rfl)
theorem dX0_ease_41 : decode cX0_ease 41 = .ok (.istore 5, 2) := dk_54 5 (dk_at dksX0_ease_1 17 rfl rfl)
theorem dX0_ease_43 : decode cX0_ease 43 = .ok (.iload 5, 2) := dk_21 5 (dk_at dksX0_ease_1 19 rfl rfl)
theorem dX0_ease_45 : decode cX0_ease 45 = .ok (.iconst 1, 1) := dk_4 (dk_at dksX0_ease_1 21 rfl rfl)
theorem dX0_ease_46 : decode cX0_ease 46 = .ok (.aload_n 0, 1) := dk_42 (dk_at dksX0_ease_1 22 rfl rfl)
theorem dX0_ease_47 : decode cX0_ease 47 = .ok (.getfield 138, 3) := dk_180 0 138 (dk_at dksX0_ease_2 0 rfl rfl)
theorem dX0_ease_50 : decode cX0_ease 50 = .ok (.getfield 141, 3) := dk_180 0 141 (dk_at dksX0_ease_2 3 rfl rfl)
theorem dX0_ease_53 : decode cX0_ease 53 = .ok (.ishl, 1) := dk_120 (dk_at dksX0_ease_2 6 rfl rfl)
theorem dX0_ease_54 : decode cX0_ease 54 = .ok (.if_icmp .ge 52, 3) := dk_162 0 52 (dk_at dksX0_ease_2 7 rfl rfl)
theorem dX0_ease_57 : decode cX0_ease 57 = .ok (.iload 5, 2) := dk_21 5 (dk_at dksX0_ease_2 10 rfl rfl)
theorem dX0_ease_59 : decode cX0_ease 59 = .ok (.iload_n 3, 1) := dk_29 (dk_at dksX0_ease_2 12 rfl rfl)
theorem dX0_ease_60 : decode cX0_ease 60 = .ok (.iconst (-1), 1) := dk_2 (dk_at dksX0_ease_2 13 rfl rfl)
theorem dX0_ease_61 : decode cX0_ease 61 = .ok (.ixor, 1) := dk_130 (dk_at dksX0_ease_2 14 rfl rfl)
theorem dX0_ease_62 : decode cX0_ease 62 = .ok (.iand, 1) := dk_126 (dk_at dksX0_ease_2 15 rfl rfl)
theorem dX0_ease_63 : decode cX0_ease 63 = .ok (.ifCond .ne 37, 3) := dk_154 0 37 (dk_at dksX0_ease_2 16 rfl rfl)
theorem dX0_ease_66 : decode cX0_ease 66 = .ok (.iload 5, 2) := dk_21 5 (dk_at dksX0_ease_2 19 rfl rfl)
theorem dX0_ease_68 : decode cX0_ease 68 = .ok (.invokestatic 244, 3) := dk_184 0 244 (dk_at dksX0_ease_2 21 rfl rfl)
theorem dX0_ease_71 : decode cX0_ease 71 = .ok (.iload 4, 2) := dk_21 4 (dk_at dksX0_ease_3 0 rfl rfl)
theorem dX0_ease_73 : decode cX0_ease 73 = .ok (.invokestatic 244, 3) := dk_184 0 244 (dk_at dksX0_ease_3 2 rfl rfl)
theorem dX0_ease_76 : decode cX0_ease 76 = .ok (.if_icmp .gt 6, 3) := dk_163 0 6 (dk_at dksX0_ease_3 5 rfl rfl)
theorem dX0_ease_79 : decode cX0_ease 79 = .ok (.goto 21, 3) := dk_167 0 21 (dk_at dksX0_ease_3 8 rfl rfl)
theorem dX0_ease_82 : decode cX0_ease 82 = .ok (.aload_n 0, 1) := dk_42 (dk_at dksX0_ease_3 11 rfl rfl)
theorem dX0_ease_83 : decode cX0_ease 83 = .ok (.getfield 138, 3) := dk_180 0 138 (dk_at dksX0_ease_3 12 rfl rfl)
theorem dX0_ease_86 : decode cX0_ease 86 = .ok (.iload_n 2, 1) := dk_28 (dk_at dksX0_ease_3 15 rfl rfl)
theorem dX0_ease_87 : decode cX0_ease 87 = .ok (.iload 5, 2) := dk_21 5 (dk_at dksX0_ease_3 16 rfl rfl)
theorem dX0_ease_89 : decode cX0_ease 89 = .ok (.ior, 1) := dk_128 (dk_at dksX0_ease_3 18 rfl rfl)
theorem dX0_ease_90 : decode cX0_ease 90 = .ok (.invokevirtual 260, 3) := dk_182 1 4 (dk_at dksX0_ease_3 19 rfl rfl)
theorem dX0_ease_93 : decode cX0_ease 93 = .ok (.ifCond .ne 7, 3) := dk_154 0 7 (dk_at dksX0_ease_4 0 rfl rfl)
theorem dX0_ease_96 : decode cX0_ease 96 = .ok (.iload 5, 2) := dk_21 5 (dk_at dksX0_ease_4 3 rfl rfl)
theorem dX0_ease_98 : decode cX0_ease 98 = .ok (.istore 4, 2) := dk_54 4 (dk_at dksX0_ease_4 5 rfl rfl)
theorem dX0_ease_100 : decode cX0_ease 100 = .ok (.iinc 5 1, 3) := dk_132 5 1 (dk_at dksX0_ease_4 7 rfl rfl)
theorem dX0_ease_103 : decode cX0_ease 103 = .ok (.goto (-60), 3) := dk_167 255 196 (dk_at dksX0_ease_4 10 rfl rfl)
theorem dX0_ease_106 : decode cX0_ease 106 = .ok (.iload_n 1, 1) := dk_27 (dk_at dksX0_ease_4 13 rfl rfl)
theorem dX0_ease_107 : decode cX0_ease 107 = .ok (.ifCond .ne 11, 3) := dk_154 0 11 (dk_at dksX0_ease_4 14 rfl rfl)
theorem dX0_ease_110 : decode cX0_ease 110 = .ok (.iload 4, 2) := dk_21 4 (dk_at dksX0_ease_4 17 rfl rfl)
theorem dX0_ease_112 : decode cX0_ease 112 = .ok (.invokestatic 244, 3) := dk_184 0 244 (dk_at dksX0_ease_4 19 rfl rfl)
theorem dX0_ease_115 : decode cX0_ease 115 = .ok (.goto 5, 3) := dk_167 0 5 (dk_at dksX0_ease_5 0 rfl rfl)
theorem dX0_ease_118 : decode cX0_ease 118 = .ok (.iload 4, 2) := dk_21 4 (dk_at dksX0_ease_5 3 rfl rfl)
theorem dX0_ease_120 : decode cX0_ease 120 = .ok (.ireturn, 1) := dk_172 (dk_at dksX0_ease_5 5 rfl rfl)
abbrev cX0_way : ByteArray := prog_1_method_34_code
def yX0_way : MethodName := ⟨RX0, "way", "(I)I"⟩
def dkwX0_way_5 : List UInt8 := [167, 0, 9, 42, 180, 0, 86, 29, 46, 172]
abbrev dktX0_way_5 : List UInt8 := dkwX0_way_5 ++ []
def dkwX0_way_4 : List UInt8 := [29, 4, 42, 180, 0, 86, 29, 46, 120, 2, 130, 126, 62, 132, 4, 1, 167, 255, 230, 29, 154, 0, 7, 2]
abbrev dktX0_way_4 : List UInt8 := dkwX0_way_4 ++ dktX0_way_5
def dkwX0_way_3 : List UInt8 := [28, 46, 2, 160, 0, 6, 16, 254, 172, 28, 62, 3, 54, 4, 21, 4, 27, 162, 0, 26, 29, 153, 0, 22]
abbrev dktX0_way_3 : List UInt8 := dkwX0_way_3 ++ dktX0_way_4
def dkwX0_way_2 : List UInt8 := [180, 0, 86, 29, 42, 29, 182, 1, 12, 79, 132, 3, 1, 167, 255, 229, 28, 153, 0, 16, 42, 180, 0, 86]
abbrev dktX0_way_2 : List UInt8 := dkwX0_way_2 ++ dktX0_way_3
def dkwX0_way_1 : List UInt8 := [180, 0, 138, 4, 182, 0, 241, 61, 4, 62, 29, 28, 163, 0, 28, 29, 28, 2, 130, 126, 154, 0, 14, 42]
abbrev dktX0_way_1 : List UInt8 := dkwX0_way_1 ++ dktX0_way_2
def dkwX0_way_0 : List UInt8 := [42, 180, 0, 138, 198, 0, 15, 27, 133, 9, 20, 1, 10, 184, 0, 178, 154, 0, 6, 16, 253, 172, 42]
abbrev dktX0_way_0 : List UInt8 := dkwX0_way_0 ++ dktX0_way_1
theorem dksX0_way_0 : cX0_way.data.toList.drop 0 = dktX0_way_0 := by decide +kernel
theorem dksX0_way_1 : cX0_way.data.toList.drop 23 = dktX0_way_1 := dk_seg dksX0_way_0 23 rfl rfl
theorem dksX0_way_2 : cX0_way.data.toList.drop 47 = dktX0_way_2 := dk_seg dksX0_way_1 24 rfl rfl
theorem dksX0_way_3 : cX0_way.data.toList.drop 71 = dktX0_way_3 := dk_seg dksX0_way_2 24 rfl rfl
theorem dksX0_way_4 : cX0_way.data.toList.drop 95 = dktX0_way_4 := dk_seg dksX0_way_3 24 rfl rfl
theorem dksX0_way_5 : cX0_way.data.toList.drop 119 = dktX0_way_5 := dk_seg dksX0_way_4 24 rfl rfl
theorem dX0_way_0 : decode cX0_way 0 = .ok (.aload_n 0, 1) := dk_42 (dk_at dksX0_way_0 0 rfl rfl)
theorem dX0_way_1 : decode cX0_way 1 = .ok (.getfield 138, 3) := dk_180 0 138 (dk_at dksX0_way_0 1 rfl rfl)
theorem dX0_way_4 : decode cX0_way 4 = .ok (.ifnull 15, 3) := dk_198 0 15 (dk_at dksX0_way_0 4 rfl rfl)
theorem dX0_way_7 : decode cX0_way 7 = .ok (.iload_n 1, 1) := dk_27 (dk_at dksX0_way_0 7 rfl rfl)
theorem dX0_way_8 : decode cX0_way 8 = .ok (.i2l, 1) := dk_133 (dk_at dksX0_way_0 8 rfl rfl)
theorem dX0_way_9 : decode cX0_way 9 = .ok (.lconst 0, 1) := dk_9 (dk_at dksX0_way_0 9 rfl rfl)
theorem dX0_way_10 : decode cX0_way 10 = .ok (.ldc2_w 266, 3) := dk_20 1 10 (dk_at dksX0_way_0 10 rfl rfl)
theorem dX0_way_13 : decode cX0_way 13 = .ok (.invokestatic 178, 3) := dk_184 0 178 (dk_at dksX0_way_0 13 rfl rfl)
theorem dX0_way_16 : decode cX0_way 16 = .ok (.ifCond .ne 6, 3) := dk_154 0 6 (dk_at dksX0_way_0 16 rfl rfl)
theorem dX0_way_19 : decode cX0_way 19 = .ok (.bipush (-3), 2) := dk_16 253 (dk_at dksX0_way_0 19 rfl rfl)
theorem dX0_way_21 : decode cX0_way 21 = .ok (.ireturn, 1) := dk_172 (dk_at dksX0_way_0 21 rfl rfl)
theorem dX0_way_22 : decode cX0_way 22 = .ok (.aload_n 0, 1) := dk_42 (dk_at dksX0_way_0 22 rfl rfl)
theorem dX0_way_23 : decode cX0_way 23 = .ok (.getfield 138, 3) := dk_180 0 138 (dk_at dksX0_way_1 0 rfl rfl)
theorem dX0_way_26 : decode cX0_way 26 = .ok (.iconst 1, 1) := dk_4 (dk_at dksX0_way_1 3 rfl rfl)
theorem dX0_way_27 : decode cX0_way 27 = .ok (.invokevirtual 241, 3) := dk_182 0 241 (dk_at dksX0_way_1 4 rfl rfl)
theorem dX0_way_30 : decode cX0_way 30 = .ok (.istore_n 2, 1) := dk_61 (dk_at dksX0_way_1 7 rfl rfl)
theorem dX0_way_31 : decode cX0_way 31 = .ok (.iconst 1, 1) := dk_4 (dk_at dksX0_way_1 8 rfl rfl)
theorem dX0_way_32 : decode cX0_way 32 = .ok (.istore_n 3, 1) := dk_62 (dk_at dksX0_way_1 9 rfl rfl)
theorem dX0_way_33 : decode cX0_way 33 = .ok (.iload_n 3, 1) := dk_29 (dk_at dksX0_way_1 10 rfl rfl)
theorem dX0_way_34 : decode cX0_way 34 = .ok (.iload_n 2, 1) := dk_28 (dk_at dksX0_way_1 11 rfl rfl)
theorem dX0_way_35 : decode cX0_way 35 = .ok (.if_icmp .gt 28, 3) := dk_163 0 28 (dk_at dksX0_way_1 12 rfl rfl)
theorem dX0_way_38 : decode cX0_way 38 = .ok (.iload_n 3, 1) := dk_29 (dk_at dksX0_way_1 15 rfl rfl)
theorem dX0_way_39 : decode cX0_way 39 = .ok (.iload_n 2, 1) := dk_28 (dk_at dksX0_way_1 16 rfl rfl)
theorem dX0_way_40 : decode cX0_way 40 = .ok (.iconst (-1), 1) := dk_2 (dk_at dksX0_way_1 17 rfl rfl)
theorem dX0_way_41 : decode cX0_way 41 = .ok (.ixor, 1) := dk_130 (dk_at dksX0_way_1 18 rfl rfl)
theorem dX0_way_42 : decode cX0_way 42 = .ok (.iand, 1) := dk_126 (dk_at dksX0_way_1 19 rfl rfl)
theorem dX0_way_43 : decode cX0_way 43 = .ok (.ifCond .ne 14, 3) := dk_154 0 14 (dk_at dksX0_way_1 20 rfl rfl)
theorem dX0_way_46 : decode cX0_way 46 = .ok (.aload_n 0, 1) := dk_42 (dk_at dksX0_way_1 23 rfl rfl)
theorem dX0_way_47 : decode cX0_way 47 = .ok (.getfield 86, 3) := dk_180 0 86 (dk_at dksX0_way_2 0 rfl rfl)
theorem dX0_way_50 : decode cX0_way 50 = .ok (.iload_n 3, 1) := dk_29 (dk_at dksX0_way_2 3 rfl rfl)
theorem dX0_way_51 : decode cX0_way 51 = .ok (.aload_n 0, 1) := dk_42 (dk_at dksX0_way_2 4 rfl rfl)
theorem dX0_way_52 : decode cX0_way 52 = .ok (.iload_n 3, 1) := dk_29 (dk_at dksX0_way_2 5 rfl rfl)
theorem dX0_way_53 : decode cX0_way 53 = .ok (.invokevirtual 268, 3) := dk_182 1 12 (dk_at dksX0_way_2 6 rfl rfl)
theorem dX0_way_56 : decode cX0_way 56 = .ok (.iastore, 1) := dk_79 (dk_at dksX0_way_2 9 rfl rfl)
theorem dX0_way_57 : decode cX0_way 57 = .ok (.iinc 3 1, 3) := dk_132 3 1 (dk_at dksX0_way_2 10 rfl rfl)
theorem dX0_way_60 : decode cX0_way 60 = .ok (.goto (-27), 3) := dk_167 255 229 (dk_at dksX0_way_2 13 rfl rfl)
theorem dX0_way_63 : decode cX0_way 63 = .ok (.iload_n 2, 1) := dk_28 (dk_at dksX0_way_2 16 rfl rfl)
theorem dX0_way_64 : decode cX0_way 64 = .ok (.ifCond .eq 16, 3) := dk_153 0 16 (dk_at dksX0_way_2 17 rfl rfl)
theorem dX0_way_67 : decode cX0_way 67 = .ok (.aload_n 0, 1) := dk_42 (dk_at dksX0_way_2 20 rfl rfl)
theorem dX0_way_68 : decode cX0_way 68 = .ok (.getfield 86, 3) := dk_180 0 86 (dk_at dksX0_way_2 21 rfl rfl)
theorem dX0_way_71 : decode cX0_way 71 = .ok (.iload_n 2, 1) := dk_28 (dk_at dksX0_way_3 0 rfl rfl)
theorem dX0_way_72 : decode cX0_way 72 = .ok (.iaload, 1) := dk_46 (dk_at dksX0_way_3 1 rfl rfl)
theorem dX0_way_73 : decode cX0_way 73 = .ok (.iconst (-1), 1) := dk_2 (dk_at dksX0_way_3 2 rfl rfl)
theorem dX0_way_74 : decode cX0_way 74 = .ok (.if_icmp .ne 6, 3) := dk_160 0 6 (dk_at dksX0_way_3 3 rfl rfl)
theorem dX0_way_77 : decode cX0_way 77 = .ok (.bipush (-2), 2) := dk_16 254 (dk_at dksX0_way_3 6 rfl rfl)
theorem dX0_way_79 : decode cX0_way 79 = .ok (.ireturn, 1) := dk_172 (dk_at dksX0_way_3 8 rfl rfl)
theorem dX0_way_80 : decode cX0_way 80 = .ok (.iload_n 2, 1) := dk_28 (dk_at dksX0_way_3 9 rfl rfl)
theorem dX0_way_81 : decode cX0_way 81 = .ok (.istore_n 3, 1) := dk_62 (dk_at dksX0_way_3 10 rfl rfl)
theorem dX0_way_82 : decode cX0_way 82 = .ok (.iconst 0, 1) := dk_3 (dk_at dksX0_way_3 11 rfl rfl)
theorem dX0_way_83 : decode cX0_way 83 = .ok (.istore 4, 2) := dk_54 4 (dk_at dksX0_way_3 12 rfl rfl)
theorem dX0_way_85 : decode cX0_way 85 = .ok (.iload 4, 2) := dk_21 4 (dk_at dksX0_way_3 14 rfl rfl)
theorem dX0_way_87 : decode cX0_way 87 = .ok (.iload_n 1, 1) := dk_27 (dk_at dksX0_way_3 16 rfl rfl)
theorem dX0_way_88 : decode cX0_way 88 = .ok (.if_icmp .ge 26, 3) := dk_162 0 26 (dk_at dksX0_way_3 17 rfl rfl)
theorem dX0_way_91 : decode cX0_way 91 = .ok (.iload_n 3, 1) := dk_29 (dk_at dksX0_way_3 20 rfl rfl)
theorem dX0_way_92 : decode cX0_way 92 = .ok (.ifCond .eq 22, 3) := dk_153 0 22 (dk_at dksX0_way_3 21 rfl rfl)
theorem dX0_way_95 : decode cX0_way 95 = .ok (.iload_n 3, 1) := dk_29 (dk_at dksX0_way_4 0 rfl rfl)
theorem dX0_way_96 : decode cX0_way 96 = .ok (.iconst 1, 1) := dk_4 (dk_at dksX0_way_4 1 rfl rfl)
theorem dX0_way_97 : decode cX0_way 97 = .ok (.aload_n 0, 1) := dk_42 (dk_at dksX0_way_4 2 rfl rfl)
theorem dX0_way_98 : decode cX0_way 98 = .ok (.getfield 86, 3) := dk_180 0 86 (dk_at dksX0_way_4 3 rfl rfl)
theorem dX0_way_101 : decode cX0_way 101 = .ok (.iload_n 3, 1) := dk_29 (dk_at dksX0_way_4 6 rfl rfl)
theorem dX0_way_102 : decode cX0_way 102 = .ok (.iaload, 1) := dk_46 (dk_at dksX0_way_4 7 rfl rfl)
theorem dX0_way_103 : decode cX0_way 103 = .ok (.ishl, 1) := dk_120 (dk_at dksX0_way_4 8 rfl rfl)
theorem dX0_way_104 : decode cX0_way 104 = .ok (.iconst (-1), 1) := dk_2 (dk_at dksX0_way_4 9 rfl rfl)
theorem dX0_way_105 : decode cX0_way 105 = .ok (.ixor, 1) := dk_130 (dk_at dksX0_way_4 10 rfl rfl)
theorem dX0_way_106 : decode cX0_way 106 = .ok (.iand, 1) := dk_126 (dk_at dksX0_way_4 11 rfl rfl)
theorem dX0_way_107 : decode cX0_way 107 = .ok (.istore_n 3, 1) := dk_62 (dk_at dksX0_way_4 12 rfl rfl)
theorem dX0_way_108 : decode cX0_way 108 = .ok (.iinc 4 1, 3) := dk_132 4 1 (dk_at dksX0_way_4 13 rfl rfl)
theorem dX0_way_111 : decode cX0_way 111 = .ok (.goto (-26), 3) := dk_167 255 230 (dk_at dksX0_way_4 16 rfl rfl)
theorem dX0_way_114 : decode cX0_way 114 = .ok (.iload_n 3, 1) := dk_29 (dk_at dksX0_way_4 19 rfl rfl)
theorem dX0_way_115 : decode cX0_way 115 = .ok (.ifCond .ne 7, 3) := dk_154 0 7 (dk_at dksX0_way_4 20 rfl rfl)
theorem dX0_way_118 : decode cX0_way 118 = .ok (.iconst (-1), 1) := dk_2 (dk_at dksX0_way_4 23 rfl rfl)
theorem dX0_way_119 : decode cX0_way 119 = .ok (.goto 9, 3) := dk_167 0 9 (dk_at dksX0_way_5 0 rfl rfl)
theorem dX0_way_122 : decode cX0_way 122 = .ok (.aload_n 0, 1) := dk_42 (dk_at dksX0_way_5 3 rfl rfl)
theorem dX0_way_123 : decode cX0_way 123 = .ok (.getfield 86, 3) := dk_180 0 86 (dk_at dksX0_way_5 4 rfl rfl)
theorem dX0_way_126 : decode cX0_way 126 = .ok (.iload_n 3, 1) := dk_29 (dk_at dksX0_way_5 7 rfl rfl)
theorem dX0_way_127 : decode cX0_way 127 = .ok (.iaload, 1) := dk_46 (dk_at dksX0_way_5 8 rfl rfl)
theorem dX0_way_128 : decode cX0_way 128 = .ok (.ireturn, 1) := dk_172 (dk_at dksX0_way_5 9 rfl rfl)
abbrev cX0_upFrom : ByteArray := prog_1_method_33_code
def yX0_upFrom : MethodName := ⟨RX0, "upFrom", "(I)I"⟩
def dkwX0_upFrom_2 : List UInt8 := [180, 0, 86, 29, 46, 2, 159, 0, 5, 28, 172, 132, 2, 1, 167, 255, 196, 2, 172]
abbrev dktX0_upFrom_2 : List UInt8 := dkwX0_upFrom_2 ++ []
def dkwX0_upFrom_1 : List UInt8 := [27, 4, 28, 120, 2, 130, 126, 62, 42, 180, 0, 138, 29, 182, 1, 4, 154, 0, 19, 29, 153, 0, 13, 42]
abbrev dktX0_upFrom_1 : List UInt8 := dkwX0_upFrom_1 ++ dktX0_upFrom_2
def dkwX0_upFrom_0 : List UInt8 := [3, 61, 28, 42, 180, 0, 138, 180, 0, 141, 162, 0, 55, 27, 28, 184, 1, 7, 154, 0, 6, 167, 0, 38]
abbrev dktX0_upFrom_0 : List UInt8 := dkwX0_upFrom_0 ++ dktX0_upFrom_1
theorem dksX0_upFrom_0 : cX0_upFrom.data.toList.drop 0 = dktX0_upFrom_0 := by decide +kernel
theorem dksX0_upFrom_1 : cX0_upFrom.data.toList.drop 24 = dktX0_upFrom_1 := dk_seg dksX0_upFrom_0 24 rfl rfl
theorem dksX0_upFrom_2 : cX0_upFrom.data.toList.drop 48 = dktX0_upFrom_2 := dk_seg dksX0_upFrom_1 24 rfl rfl
theorem dX0_upFrom_0 : decode cX0_upFrom 0 = .ok (.iconst 0, 1) := dk_3 (dk_at dksX0_upFrom_0 0 rfl rfl)
theorem dX0_upFrom_1 : decode cX0_upFrom 1 = .ok (.istore_n 2, 1) := dk_61 (dk_at dksX0_upFrom_0 1 rfl rfl)
theorem dX0_upFrom_2 : decode cX0_upFrom 2 = .ok (.iload_n 2, 1) := dk_28 (dk_at dksX0_upFrom_0 2 rfl rfl)
theorem dX0_upFrom_3 : decode cX0_upFrom 3 = .ok (.aload_n 0, 1) := dk_42 (dk_at dksX0_upFrom_0 3 rfl rfl)
theorem dX0_upFrom_4 : decode cX0_upFrom 4 = .ok (.getfield 138, 3) := dk_180 0 138 (dk_at dksX0_upFrom_0 4 rfl rfl)
theorem dX0_upFrom_7 : decode cX0_upFrom 7 = .ok (.getfield 141, 3) := dk_180 0 141 (dk_at dksX0_upFrom_0 7 rfl rfl)
theorem dX0_upFrom_10 : decode cX0_upFrom 10 = .ok (.if_icmp .ge 55, 3) := dk_162 0 55 (dk_at dksX0_upFrom_0 10 rfl rfl)
theorem dX0_upFrom_13 : decode cX0_upFrom 13 = .ok (.iload_n 1, 1) := dk_27 (dk_at dksX0_upFrom_0 13 rfl rfl)
theorem dX0_upFrom_14 : decode cX0_upFrom 14 = .ok (.iload_n 2, 1) := dk_28 (dk_at dksX0_upFrom_0 14 rfl rfl)
theorem dX0_upFrom_15 : decode cX0_upFrom 15 = .ok (.invokestatic 263, 3) := dk_184 1 7 (dk_at dksX0_upFrom_0 15 rfl rfl)
theorem dX0_upFrom_18 : decode cX0_upFrom 18 = .ok (.ifCond .ne 6, 3) := dk_154 0 6 (dk_at dksX0_upFrom_0 18 rfl rfl)
theorem dX0_upFrom_21 : decode cX0_upFrom 21 = .ok (.goto 38, 3) := dk_167 0 38 (dk_at dksX0_upFrom_0 21 rfl rfl)
theorem dX0_upFrom_24 : decode cX0_upFrom 24 = .ok (.iload_n 1, 1) := dk_27 (dk_at dksX0_upFrom_1 0 rfl rfl)
theorem dX0_upFrom_25 : decode cX0_upFrom 25 = .ok (.iconst 1, 1) := dk_4 (dk_at dksX0_upFrom_1 1 rfl rfl)
theorem dX0_upFrom_26 : decode cX0_upFrom 26 = .ok (.iload_n 2, 1) := dk_28 (dk_at dksX0_upFrom_1 2 rfl rfl)
theorem dX0_upFrom_27 : decode cX0_upFrom 27 = .ok (.ishl, 1) := dk_120 (dk_at dksX0_upFrom_1 3 rfl rfl)
theorem dX0_upFrom_28 : decode cX0_upFrom 28 = .ok (.iconst (-1), 1) := dk_2 (dk_at dksX0_upFrom_1 4 rfl rfl)
theorem dX0_upFrom_29 : decode cX0_upFrom 29 = .ok (.ixor, 1) := dk_130 (dk_at dksX0_upFrom_1 5 rfl rfl)
theorem dX0_upFrom_30 : decode cX0_upFrom 30 = .ok (.iand, 1) := dk_126 (dk_at dksX0_upFrom_1 6 rfl rfl)
theorem dX0_upFrom_31 : decode cX0_upFrom 31 = .ok (.istore_n 3, 1) := dk_62 (dk_at dksX0_upFrom_1 7 rfl rfl)
theorem dX0_upFrom_32 : decode cX0_upFrom 32 = .ok (.aload_n 0, 1) := dk_42 (dk_at dksX0_upFrom_1 8 rfl rfl)
theorem dX0_upFrom_33 : decode cX0_upFrom 33 = .ok (.getfield 138, 3) := dk_180 0 138 (dk_at dksX0_upFrom_1 9 rfl rfl)
theorem dX0_upFrom_36 : decode cX0_upFrom 36 = .ok (.iload_n 3, 1) := dk_29 (dk_at dksX0_upFrom_1 12 rfl rfl)
theorem dX0_upFrom_37 : decode cX0_upFrom 37 = .ok (.invokevirtual 260, 3) := dk_182 1 4 (dk_at dksX0_upFrom_1 13 rfl rfl)
theorem dX0_upFrom_40 : decode cX0_upFrom 40 = .ok (.ifCond .ne 19, 3) := dk_154 0 19 (dk_at dksX0_upFrom_1 16 rfl rfl)
theorem dX0_upFrom_43 : decode cX0_upFrom 43 = .ok (.iload_n 3, 1) := dk_29 (dk_at dksX0_upFrom_1 19 rfl rfl)
theorem dX0_upFrom_44 : decode cX0_upFrom 44 = .ok (.ifCond .eq 13, 3) := dk_153 0 13 (dk_at dksX0_upFrom_1 20 rfl rfl)
theorem dX0_upFrom_47 : decode cX0_upFrom 47 = .ok (.aload_n 0, 1) := dk_42 (dk_at dksX0_upFrom_1 23 rfl rfl)
theorem dX0_upFrom_48 : decode cX0_upFrom 48 = .ok (.getfield 86, 3) := dk_180 0 86 (dk_at dksX0_upFrom_2 0 rfl rfl)
theorem dX0_upFrom_51 : decode cX0_upFrom 51 = .ok (.iload_n 3, 1) := dk_29 (dk_at dksX0_upFrom_2 3 rfl rfl)
theorem dX0_upFrom_52 : decode cX0_upFrom 52 = .ok (.iaload, 1) := dk_46 (dk_at dksX0_upFrom_2 4 rfl rfl)
theorem dX0_upFrom_53 : decode cX0_upFrom 53 = .ok (.iconst (-1), 1) := dk_2 (dk_at dksX0_upFrom_2 5 rfl rfl)
theorem dX0_upFrom_54 : decode cX0_upFrom 54 = .ok (.if_icmp .eq 5, 3) := dk_159 0 5 (dk_at dksX0_upFrom_2 6 rfl rfl)
theorem dX0_upFrom_57 : decode cX0_upFrom 57 = .ok (.iload_n 2, 1) := dk_28 (dk_at dksX0_upFrom_2 9 rfl rfl)
theorem dX0_upFrom_58 : decode cX0_upFrom 58 = .ok (.ireturn, 1) := dk_172 (dk_at dksX0_upFrom_2 10 rfl rfl)
theorem dX0_upFrom_59 : decode cX0_upFrom 59 = .ok (.iinc 2 1, 3) := dk_132 2 1 (dk_at dksX0_upFrom_2 11 rfl rfl)
theorem dX0_upFrom_62 : decode cX0_upFrom 62 = .ok (.goto (-60), 3) := dk_167 255 196 (dk_at dksX0_upFrom_2 14 rfl rfl)
theorem dX0_upFrom_65 : decode cX0_upFrom 65 = .ok (.iconst (-1), 1) := dk_2 (dk_at dksX0_upFrom_2 17 rfl rfl)
theorem dX0_upFrom_66 : decode cX0_upFrom 66 = .ok (.ireturn, 1) := dk_172 (dk_at dksX0_upFrom_2 18 rfl rfl)
abbrev cX0_most : ByteArray := prog_1_method_35_code
def yX0_most : MethodName := ⟨RX0, "most", "(I)I"⟩
def dkwX0_most_2 : List UInt8 := [79, 42, 180, 0, 16, 28, 182, 1, 4, 154, 0, 5, 29, 172, 132, 3, 255, 167, 255, 226, 16, 254, 172]
abbrev dktX0_most_2 : List UInt8 := dkwX0_most_2 ++ []
def dkwX0_most_1 : List UInt8 := [180, 0, 138, 4, 182, 0, 241, 61, 16, 99, 62, 29, 155, 0, 32, 42, 180, 0, 16, 180, 0, 171, 27, 29]
abbrev dktX0_most_1 : List UInt8 := dkwX0_most_1 ++ dktX0_most_2
def dkwX0_most_0 : List UInt8 := [42, 27, 182, 0, 168, 154, 0, 5, 2, 172, 42, 180, 0, 16, 42, 180, 0, 138, 182, 0, 134, 87, 42]
abbrev dktX0_most_0 : List UInt8 := dkwX0_most_0 ++ dktX0_most_1
theorem dksX0_most_0 : cX0_most.data.toList.drop 0 = dktX0_most_0 := by decide +kernel
theorem dksX0_most_1 : cX0_most.data.toList.drop 23 = dktX0_most_1 := dk_seg dksX0_most_0 23 rfl rfl
theorem dksX0_most_2 : cX0_most.data.toList.drop 47 = dktX0_most_2 := dk_seg dksX0_most_1 24 rfl rfl
theorem dX0_most_0 : decode cX0_most 0 = .ok (.aload_n 0, 1) := dk_42 (dk_at dksX0_most_0 0 rfl rfl)
theorem dX0_most_1 : decode cX0_most 1 = .ok (.iload_n 1, 1) := dk_27 (dk_at dksX0_most_0 1 rfl rfl)
theorem dX0_most_2 : decode cX0_most 2 = .ok (.invokevirtual 168, 3) := dk_182 0 168 (dk_at dksX0_most_0 2 rfl rfl)
theorem dX0_most_5 : decode cX0_most 5 = .ok (.ifCond .ne 5, 3) := dk_154 0 5 (dk_at dksX0_most_0 5 rfl rfl)
theorem dX0_most_8 : decode cX0_most 8 = .ok (.iconst (-1), 1) := dk_2 (dk_at dksX0_most_0 8 rfl rfl)
theorem dX0_most_9 : decode cX0_most 9 = .ok (.ireturn, 1) := dk_172 (dk_at dksX0_most_0 9 rfl rfl)
theorem dX0_most_10 : decode cX0_most 10 = .ok (.aload_n 0, 1) := dk_42 (dk_at dksX0_most_0 10 rfl rfl)
theorem dX0_most_11 : decode cX0_most 11 = .ok (.getfield 16, 3) := dk_180 0 16 (dk_at dksX0_most_0 11 rfl rfl)
theorem dX0_most_14 : decode cX0_most 14 = .ok (.aload_n 0, 1) := dk_42 (dk_at dksX0_most_0 14 rfl rfl)
theorem dX0_most_15 : decode cX0_most 15 = .ok (.getfield 138, 3) := dk_180 0 138 (dk_at dksX0_most_0 15 rfl rfl)
theorem dX0_most_18 : decode cX0_most 18 = .ok (.invokevirtual 134, 3) := dk_182 0 134 (dk_at dksX0_most_0 18 rfl rfl)
theorem dX0_most_21 : decode cX0_most 21 = .ok (.pop, 1) := dk_87 (dk_at dksX0_most_0 21 rfl rfl)
theorem dX0_most_22 : decode cX0_most 22 = .ok (.aload_n 0, 1) := dk_42 (dk_at dksX0_most_0 22 rfl rfl)
theorem dX0_most_23 : decode cX0_most 23 = .ok (.getfield 138, 3) := dk_180 0 138 (dk_at dksX0_most_1 0 rfl rfl)
theorem dX0_most_26 : decode cX0_most 26 = .ok (.iconst 1, 1) := dk_4 (dk_at dksX0_most_1 3 rfl rfl)
theorem dX0_most_27 : decode cX0_most 27 = .ok (.invokevirtual 241, 3) := dk_182 0 241 (dk_at dksX0_most_1 4 rfl rfl)
theorem dX0_most_30 : decode cX0_most 30 = .ok (.istore_n 2, 1) := dk_61 (dk_at dksX0_most_1 7 rfl rfl)
theorem dX0_most_31 : decode cX0_most 31 = .ok (.bipush 99, 2) := dk_16 99 (dk_at dksX0_most_1 8 rfl rfl)
theorem dX0_most_33 : decode cX0_most 33 = .ok (.istore_n 3, 1) := dk_62 (dk_at dksX0_most_1 10 rfl rfl)
theorem dX0_most_34 : decode cX0_most 34 = .ok (.iload_n 3, 1) := dk_29 (dk_at dksX0_most_1 11 rfl rfl)
theorem dX0_most_35 : decode cX0_most 35 = .ok (.ifCond .lt 32, 3) := dk_155 0 32 (dk_at dksX0_most_1 12 rfl rfl)
theorem dX0_most_38 : decode cX0_most 38 = .ok (.aload_n 0, 1) := dk_42 (dk_at dksX0_most_1 15 rfl rfl)
theorem dX0_most_39 : decode cX0_most 39 = .ok (.getfield 16, 3) := dk_180 0 16 (dk_at dksX0_most_1 16 rfl rfl)
theorem dX0_most_42 : decode cX0_most 42 = .ok (.getfield 171, 3) := dk_180 0 171 (dk_at dksX0_most_1 19 rfl rfl)
theorem dX0_most_45 : decode cX0_most 45 = .ok (.iload_n 1, 1) := dk_27 (dk_at dksX0_most_1 22 rfl rfl)
theorem dX0_most_46 : decode cX0_most 46 = .ok (.iload_n 3, 1) := dk_29 (dk_at dksX0_most_1 23 rfl rfl)
theorem dX0_most_47 : decode cX0_most 47 = .ok (.iastore, 1) := dk_79 (dk_at dksX0_most_2 0 rfl rfl)
theorem dX0_most_48 : decode cX0_most 48 = .ok (.aload_n 0, 1) := dk_42 (dk_at dksX0_most_2 1 rfl rfl)
theorem dX0_most_49 : decode cX0_most 49 = .ok (.getfield 16, 3) := dk_180 0 16 (dk_at dksX0_most_2 2 rfl rfl)
theorem dX0_most_52 : decode cX0_most 52 = .ok (.iload_n 2, 1) := dk_28 (dk_at dksX0_most_2 5 rfl rfl)
theorem dX0_most_53 : decode cX0_most 53 = .ok (.invokevirtual 260, 3) := dk_182 1 4 (dk_at dksX0_most_2 6 rfl rfl)
theorem dX0_most_56 : decode cX0_most 56 = .ok (.ifCond .ne 5, 3) := dk_154 0 5 (dk_at dksX0_most_2 9 rfl rfl)
theorem dX0_most_59 : decode cX0_most 59 = .ok (.iload_n 3, 1) := dk_29 (dk_at dksX0_most_2 12 rfl rfl)
theorem dX0_most_60 : decode cX0_most 60 = .ok (.ireturn, 1) := dk_172 (dk_at dksX0_most_2 13 rfl rfl)
theorem dX0_most_61 : decode cX0_most 61 = .ok (.iinc 3 (-1), 3) := dk_132 3 255 (dk_at dksX0_most_2 14 rfl rfl)
theorem dX0_most_64 : decode cX0_most 64 = .ok (.goto (-30), 3) := dk_167 255 226 (dk_at dksX0_most_2 17 rfl rfl)
theorem dX0_most_67 : decode cX0_most 67 = .ok (.bipush (-2), 2) := dk_16 254 (dk_at dksX0_most_2 20 rfl rfl)
theorem dX0_most_69 : decode cX0_most 69 = .ok (.ireturn, 1) := dk_172 (dk_at dksX0_most_2 22 rfl rfl)
abbrev cX0_heavy : ByteArray := prog_1_method_36_code
def yX0_heavy : MethodName := ⟨RX0, "heavy", "(II)I"⟩
def dkwX0_heavy_5 : List UInt8 := [21, 4, 167, 0, 5, 21, 5, 172]
abbrev dktX0_heavy_5 : List UInt8 := dkwX0_heavy_5 ++ []
def dkwX0_heavy_4 : List UInt8 := [153, 0, 6, 167, 0, 10, 132, 4, 1, 21, 6, 54, 5, 132, 6, 255, 167, 255, 216, 28, 154, 0, 8]
abbrev dktX0_heavy_4 : List UInt8 := dkwX0_heavy_4 ++ dktX0_heavy_5
def dkwX0_heavy_3 : List UInt8 := [21, 6, 158, 0, 41, 42, 180, 0, 16, 180, 0, 197, 27, 21, 6, 79, 42, 180, 0, 16, 29, 182, 1, 4]
abbrev dktX0_heavy_3 : List UInt8 := dkwX0_heavy_3 ++ dktX0_heavy_4
def dkwX0_heavy_2 : List UInt8 := [180, 0, 138, 4, 182, 0, 241, 4, 27, 120, 128, 62, 3, 54, 4, 16, 254, 54, 5, 16, 20, 54, 6]
abbrev dktX0_heavy_2 : List UInt8 := dkwX0_heavy_2 ++ dktX0_heavy_3
def dkwX0_heavy_1 : List UInt8 := [10, 184, 0, 178, 154, 0, 5, 2, 172, 42, 180, 0, 16, 42, 180, 0, 138, 182, 0, 134, 87, 42]
abbrev dktX0_heavy_1 : List UInt8 := dkwX0_heavy_1 ++ dktX0_heavy_2
def dkwX0_heavy_0 : List UInt8 := [42, 27, 182, 0, 161, 153, 0, 26, 42, 180, 0, 138, 180, 0, 165, 27, 46, 5, 159, 0, 13, 28, 133, 9]
abbrev dktX0_heavy_0 : List UInt8 := dkwX0_heavy_0 ++ dktX0_heavy_1
theorem dksX0_heavy_0 : cX0_heavy.data.toList.drop 0 = dktX0_heavy_0 := by decide +kernel
theorem dksX0_heavy_1 : cX0_heavy.data.toList.drop 24 = dktX0_heavy_1 := dk_seg dksX0_heavy_0 24 rfl rfl
theorem dksX0_heavy_2 : cX0_heavy.data.toList.drop 46 = dktX0_heavy_2 := dk_seg dksX0_heavy_1 22 rfl rfl
theorem dksX0_heavy_3 : cX0_heavy.data.toList.drop 69 = dktX0_heavy_3 := dk_seg dksX0_heavy_2 23 rfl rfl
theorem dksX0_heavy_4 : cX0_heavy.data.toList.drop 93 = dktX0_heavy_4 := dk_seg dksX0_heavy_3 24 rfl rfl
theorem dksX0_heavy_5 : cX0_heavy.data.toList.drop 116 = dktX0_heavy_5 := dk_seg dksX0_heavy_4 23 rfl rfl
theorem dX0_heavy_0 : decode cX0_heavy 0 = .ok (.aload_n 0, 1) := dk_42 (dk_at dksX0_heavy_0 0 rfl rfl)
theorem dX0_heavy_1 : decode cX0_heavy 1 = .ok (.iload_n 1, 1) := dk_27 (dk_at dksX0_heavy_0 1 rfl rfl)
theorem dX0_heavy_2 : decode cX0_heavy 2 = .ok (.invokevirtual 161, 3) := dk_182 0 161 (dk_at dksX0_heavy_0 2 rfl rfl)
theorem dX0_heavy_5 : decode cX0_heavy 5 = .ok (.ifCond .eq 26, 3) := dk_153 0 26 (dk_at dksX0_heavy_0 5 rfl rfl)
theorem dX0_heavy_8 : decode cX0_heavy 8 = .ok (.aload_n 0, 1) := dk_42 (dk_at dksX0_heavy_0 8 rfl rfl)
theorem dX0_heavy_9 : decode cX0_heavy 9 = .ok (.getfield 138, 3) := dk_180 0 138 (dk_at dksX0_heavy_0 9 rfl rfl)
theorem dX0_heavy_12 : decode cX0_heavy 12 = .ok (.getfield 165, 3) := dk_180 0 165 (dk_at dksX0_heavy_0 12 rfl rfl)
theorem dX0_heavy_15 : decode cX0_heavy 15 = .ok (.iload_n 1, 1) := dk_27 (dk_at dksX0_heavy_0 15 rfl rfl)
theorem dX0_heavy_16 : decode cX0_heavy 16 = .ok (.iaload, 1) := dk_46 (dk_at dksX0_heavy_0 16 rfl rfl)
theorem dX0_heavy_17 : decode cX0_heavy 17 = .ok (.iconst 2, 1) := dk_5 (dk_at dksX0_heavy_0 17 rfl rfl)
theorem dX0_heavy_18 : decode cX0_heavy 18 = .ok (.if_icmp .eq 13, 3) := dk_159 0 13 (dk_at dksX0_heavy_0 18 rfl rfl)
theorem dX0_heavy_21 : decode cX0_heavy 21 = .ok (.iload_n 2, 1) := dk_28 (dk_at dksX0_heavy_0 21 rfl rfl)
theorem dX0_heavy_22 : decode cX0_heavy 22 = .ok (.i2l, 1) := dk_133 (dk_at dksX0_heavy_0 22 rfl rfl)
theorem dX0_heavy_23 : decode cX0_heavy 23 = .ok (.lconst 0, 1) := dk_9 (dk_at dksX0_heavy_0 23 rfl rfl)
theorem dX0_heavy_24 : decode cX0_heavy 24 = .ok (.lconst 1, 1) := dk_10 (dk_at dksX0_heavy_1 0 rfl rfl)
theorem dX0_heavy_25 : decode cX0_heavy 25 = .ok (.invokestatic 178, 3) := dk_184 0 178 (dk_at dksX0_heavy_1 1 rfl rfl)
theorem dX0_heavy_28 : decode cX0_heavy 28 = .ok (.ifCond .ne 5, 3) := dk_154 0 5 (dk_at dksX0_heavy_1 4 rfl rfl)
theorem dX0_heavy_31 : decode cX0_heavy 31 = .ok (.iconst (-1), 1) := dk_2 (dk_at dksX0_heavy_1 7 rfl rfl)
theorem dX0_heavy_32 : decode cX0_heavy 32 = .ok (.ireturn, 1) := dk_172 (dk_at dksX0_heavy_1 8 rfl rfl)
theorem dX0_heavy_33 : decode cX0_heavy 33 = .ok (.aload_n 0, 1) := dk_42 (dk_at dksX0_heavy_1 9 rfl rfl)
theorem dX0_heavy_34 : decode cX0_heavy 34 = .ok (.getfield 16, 3) := dk_180 0 16 (dk_at dksX0_heavy_1 10 rfl rfl)
theorem dX0_heavy_37 : decode cX0_heavy 37 = .ok (.aload_n 0, 1) := dk_42 (dk_at dksX0_heavy_1 13 rfl rfl)
theorem dX0_heavy_38 : decode cX0_heavy 38 = .ok (.getfield 138, 3) := dk_180 0 138 (dk_at dksX0_heavy_1 14 rfl rfl)
theorem dX0_heavy_41 : decode cX0_heavy 41 = .ok (.invokevirtual 134, 3) := dk_182 0 134 (dk_at dksX0_heavy_1 17 rfl rfl)
theorem dX0_heavy_44 : decode cX0_heavy 44 = .ok (.pop, 1) := dk_87 (dk_at dksX0_heavy_1 20 rfl rfl)
theorem dX0_heavy_45 : decode cX0_heavy 45 = .ok (.aload_n 0, 1) := dk_42 (dk_at dksX0_heavy_1 21 rfl rfl)
theorem dX0_heavy_46 : decode cX0_heavy 46 = .ok (.getfield 138, 3) := dk_180 0 138 (dk_at dksX0_heavy_2 0 rfl rfl)
theorem dX0_heavy_49 : decode cX0_heavy 49 = .ok (.iconst 1, 1) := dk_4 (dk_at dksX0_heavy_2 3 rfl rfl)
theorem dX0_heavy_50 : decode cX0_heavy 50 = .ok (.invokevirtual 241, 3) := dk_182 0 241 (dk_at dksX0_heavy_2 4 rfl rfl)
theorem dX0_heavy_53 : decode cX0_heavy 53 = .ok (.iconst 1, 1) := dk_4 (dk_at dksX0_heavy_2 7 rfl rfl)
theorem dX0_heavy_54 : decode cX0_heavy 54 = .ok (.iload_n 1, 1) := dk_27 (dk_at dksX0_heavy_2 8 rfl rfl)
theorem dX0_heavy_55 : decode cX0_heavy 55 = .ok (.ishl, 1) := dk_120 (dk_at dksX0_heavy_2 9 rfl rfl)
theorem dX0_heavy_56 : decode cX0_heavy 56 = .ok (.ior, 1) := dk_128 (dk_at dksX0_heavy_2 10 rfl rfl)
theorem dX0_heavy_57 : decode cX0_heavy 57 = .ok (.istore_n 3, 1) := dk_62 (dk_at dksX0_heavy_2 11 rfl rfl)
theorem dX0_heavy_58 : decode cX0_heavy 58 = .ok (.iconst 0, 1) := dk_3 (dk_at dksX0_heavy_2 12 rfl rfl)
theorem dX0_heavy_59 : decode cX0_heavy 59 = .ok (.istore 4, 2) := dk_54 4 (dk_at dksX0_heavy_2 13 rfl rfl)
theorem dX0_heavy_61 : decode cX0_heavy 61 = .ok (.bipush (-2), 2) := dk_16 254 (dk_at dksX0_heavy_2 15 rfl rfl)
theorem dX0_heavy_63 : decode cX0_heavy 63 = .ok (.istore 5, 2) := dk_54 5 (dk_at dksX0_heavy_2 17 rfl rfl)
theorem dX0_heavy_65 : decode cX0_heavy 65 = .ok (.bipush 20, 2) := dk_16 20 (dk_at dksX0_heavy_2 19 rfl rfl)
theorem dX0_heavy_67 : decode cX0_heavy 67 = .ok (.istore 6, 2) := dk_54 6 (dk_at dksX0_heavy_2 21 rfl rfl)
theorem dX0_heavy_69 : decode cX0_heavy 69 = .ok (.iload 6, 2) := dk_21 6 (dk_at dksX0_heavy_3 0 rfl rfl)
theorem dX0_heavy_71 : decode cX0_heavy 71 = .ok (.ifCond .le 41, 3) := dk_158 0 41 (dk_at dksX0_heavy_3 2 rfl rfl)
theorem dX0_heavy_74 : decode cX0_heavy 74 = .ok (.aload_n 0, 1) := dk_42 (dk_at dksX0_heavy_3 5 rfl rfl)
theorem dX0_heavy_75 : decode cX0_heavy 75 = .ok (.getfield 16, 3) := dk_180 0 16 (dk_at dksX0_heavy_3 6 rfl rfl)
theorem dX0_heavy_78 : decode cX0_heavy 78 = .ok (.getfield 197, 3) := dk_180 0 197 (dk_at dksX0_heavy_3 9 rfl rfl)
theorem dX0_heavy_81 : decode cX0_heavy 81 = .ok (.iload_n 1, 1) := dk_27 (dk_at dksX0_heavy_3 12 rfl rfl)
theorem dX0_heavy_82 : decode cX0_heavy 82 = .ok (.iload 6, 2) := dk_21 6 (dk_at dksX0_heavy_3 13 rfl rfl)
theorem dX0_heavy_84 : decode cX0_heavy 84 = .ok (.iastore, 1) := dk_79 (dk_at dksX0_heavy_3 15 rfl rfl)
theorem dX0_heavy_85 : decode cX0_heavy 85 = .ok (.aload_n 0, 1) := dk_42 (dk_at dksX0_heavy_3 16 rfl rfl)
theorem dX0_heavy_86 : decode cX0_heavy 86 = .ok (.getfield 16, 3) := dk_180 0 16 (dk_at dksX0_heavy_3 17 rfl rfl)
theorem dX0_heavy_89 : decode cX0_heavy 89 = .ok (.iload_n 3, 1) := dk_29 (dk_at dksX0_heavy_3 20 rfl rfl)
theorem dX0_heavy_90 : decode cX0_heavy 90 = .ok (.invokevirtual 260, 3) := dk_182 1 4 (dk_at dksX0_heavy_3 21 rfl rfl)
theorem dX0_heavy_93 : decode cX0_heavy 93 = .ok (.ifCond .eq 6, 3) := dk_153 0 6 (dk_at dksX0_heavy_4 0 rfl rfl)
theorem dX0_heavy_96 : decode cX0_heavy 96 = .ok (.goto 10, 3) := dk_167 0 10 (dk_at dksX0_heavy_4 3 rfl rfl)
theorem dX0_heavy_99 : decode cX0_heavy 99 = .ok (.iinc 4 1, 3) := dk_132 4 1 (dk_at dksX0_heavy_4 6 rfl rfl)
theorem dX0_heavy_102 : decode cX0_heavy 102 = .ok (.iload 6, 2) := dk_21 6 (dk_at dksX0_heavy_4 9 rfl rfl)
theorem dX0_heavy_104 : decode cX0_heavy 104 = .ok (.istore 5, 2) := dk_54 5 (dk_at dksX0_heavy_4 11 rfl rfl)
theorem dX0_heavy_106 : decode cX0_heavy 106 = .ok (.iinc 6 (-1), 3) := dk_132 6 255 (dk_at dksX0_heavy_4 13 rfl rfl)
theorem dX0_heavy_109 : decode cX0_heavy 109 = .ok (.goto (-40), 3) := dk_167 255 216 (dk_at dksX0_heavy_4 16 rfl rfl)
theorem dX0_heavy_112 : decode cX0_heavy 112 = .ok (.iload_n 2, 1) := dk_28 (dk_at dksX0_heavy_4 19 rfl rfl)
theorem dX0_heavy_113 : decode cX0_heavy 113 = .ok (.ifCond .ne 8, 3) := dk_154 0 8 (dk_at dksX0_heavy_4 20 rfl rfl)
theorem dX0_heavy_116 : decode cX0_heavy 116 = .ok (.iload 4, 2) := dk_21 4 (dk_at dksX0_heavy_5 0 rfl rfl)
theorem dX0_heavy_118 : decode cX0_heavy 118 = .ok (.goto 5, 3) := dk_167 0 5 (dk_at dksX0_heavy_5 2 rfl rfl)
theorem dX0_heavy_121 : decode cX0_heavy 121 = .ok (.iload 5, 2) := dk_21 5 (dk_at dksX0_heavy_5 5 rfl rfl)
theorem dX0_heavy_123 : decode cX0_heavy 123 = .ok (.ireturn, 1) := dk_172 (dk_at dksX0_heavy_5 7 rfl rfl)
abbrev cX0_rests : ByteArray := prog_1_method_41_code
def yX0_rests : MethodName := ⟨RX0, "rests", "(IIII)I"⟩
def dkwX0_rests_6 : List UInt8 := [16, 254, 167, 0, 20, 21, 4, 4, 160, 0, 10, 21, 6, 5, 108, 167, 0, 7, 21, 6, 5, 112, 172]
abbrev dktX0_rests_6 : List UInt8 := dkwX0_rests_6 ++ []
def dkwX0_rests_5 : List UInt8 := [21, 7, 54, 6, 132, 7, 255, 167, 255, 223, 21, 4, 154, 0, 6, 21, 5, 172, 21, 6, 2, 160, 0, 8]
abbrev dktX0_rests_5 : List UInt8 := dkwX0_rests_5 ++ dktX0_rests_6
def dkwX0_rests_4 : List UInt8 := [155, 0, 34, 42, 21, 7, 5, 108, 21, 7, 5, 112, 182, 1, 33, 154, 0, 6, 167, 0, 10, 132, 5, 1]
abbrev dktX0_rests_4 : List UInt8 := dkwX0_rests_4 ++ dktX0_rests_5
def dkwX0_rests_3 : List UInt8 := [21, 5, 29, 182, 1, 29, 132, 5, 1, 167, 255, 238, 3, 54, 5, 2, 54, 6, 6, 54, 7, 21, 7]
abbrev dktX0_rests_3 : List UInt8 := dkwX0_rests_3 ++ dktX0_rests_4
def dkwX0_rests_2 : List UInt8 := [42, 180, 0, 16, 42, 180, 0, 138, 182, 0, 134, 87, 3, 54, 5, 21, 5, 7, 162, 0, 18, 42, 27, 28]
abbrev dktX0_rests_2 : List UInt8 := dkwX0_rests_2 ++ dktX0_rests_3
def dkwX0_rests_1 : List UInt8 := [20, 1, 27, 184, 0, 178, 153, 0, 16, 21, 4, 133, 9, 20, 0, 193, 184, 0, 178, 154, 0, 5, 2, 172]
abbrev dktX0_rests_1 : List UInt8 := dkwX0_rests_1 ++ dktX0_rests_2
def dkwX0_rests_0 : List UInt8 := [42, 27, 182, 1, 24, 153, 0, 41, 42, 28, 182, 1, 24, 153, 0, 33, 27, 28, 159, 0, 28, 29, 133, 10]
abbrev dktX0_rests_0 : List UInt8 := dkwX0_rests_0 ++ dktX0_rests_1
theorem dksX0_rests_0 : cX0_rests.data.toList.drop 0 = dktX0_rests_0 := by decide +kernel
theorem dksX0_rests_1 : cX0_rests.data.toList.drop 24 = dktX0_rests_1 := dk_seg dksX0_rests_0 24 rfl rfl
theorem dksX0_rests_2 : cX0_rests.data.toList.drop 48 = dktX0_rests_2 := dk_seg dksX0_rests_1 24 rfl rfl
theorem dksX0_rests_3 : cX0_rests.data.toList.drop 72 = dktX0_rests_3 := dk_seg dksX0_rests_2 24 rfl rfl
theorem dksX0_rests_4 : cX0_rests.data.toList.drop 95 = dktX0_rests_4 := dk_seg dksX0_rests_3 23 rfl rfl
theorem dksX0_rests_5 : cX0_rests.data.toList.drop 119 = dktX0_rests_5 := dk_seg dksX0_rests_4 24 rfl rfl
theorem dksX0_rests_6 : cX0_rests.data.toList.drop 143 = dktX0_rests_6 := dk_seg dksX0_rests_5 24 rfl rfl
theorem dX0_rests_0 : decode cX0_rests 0 = .ok (.aload_n 0, 1) := dk_42 (dk_at dksX0_rests_0 0 rfl rfl)
theorem dX0_rests_1 : decode cX0_rests 1 = .ok (.iload_n 1, 1) := dk_27 (dk_at dksX0_rests_0 1 rfl rfl)
theorem dX0_rests_2 : decode cX0_rests 2 = .ok (.invokevirtual 280, 3) := dk_182 1 24 (dk_at dksX0_rests_0 2 rfl rfl)
theorem dX0_rests_5 : decode cX0_rests 5 = .ok (.ifCond .eq 41, 3) := dk_153 0 41 (dk_at dksX0_rests_0 5 rfl rfl)
theorem dX0_rests_8 : decode cX0_rests 8 = .ok (.aload_n 0, 1) := dk_42 (dk_at dksX0_rests_0 8 rfl rfl)
theorem dX0_rests_9 : decode cX0_rests 9 = .ok (.iload_n 2, 1) := dk_28 (dk_at dksX0_rests_0 9 rfl rfl)
theorem dX0_rests_10 : decode cX0_rests 10 = .ok (.invokevirtual 280, 3) := dk_182 1 24 (dk_at dksX0_rests_0 10 rfl rfl)
theorem dX0_rests_13 : decode cX0_rests 13 = .ok (.ifCond .eq 33, 3) := dk_153 0 33 (dk_at dksX0_rests_0 13 rfl rfl)
theorem dX0_rests_16 : decode cX0_rests 16 = .ok (.iload_n 1, 1) := dk_27 (dk_at dksX0_rests_0 16 rfl rfl)
theorem dX0_rests_17 : decode cX0_rests 17 = .ok (.iload_n 2, 1) := dk_28 (dk_at dksX0_rests_0 17 rfl rfl)
theorem dX0_rests_18 : decode cX0_rests 18 = .ok (.if_icmp .eq 28, 3) := dk_159 0 28 (dk_at dksX0_rests_0 18 rfl rfl)
theorem dX0_rests_21 : decode cX0_rests 21 = .ok (.iload_n 3, 1) := dk_29 (dk_at dksX0_rests_0 21 rfl rfl)
theorem dX0_rests_22 : decode cX0_rests 22 = .ok (.i2l, 1) := dk_133 (dk_at dksX0_rests_0 22 rfl rfl)
theorem dX0_rests_23 : decode cX0_rests 23 = .ok (.lconst 1, 1) := dk_10 (dk_at dksX0_rests_0 23 rfl rfl)
theorem dX0_rests_24 : decode cX0_rests 24 = .ok (.ldc2_w 283, 3) := dk_20 1 27 (dk_at dksX0_rests_1 0 rfl rfl)
theorem dX0_rests_27 : decode cX0_rests 27 = .ok (.invokestatic 178, 3) := dk_184 0 178 (dk_at dksX0_rests_1 3 rfl rfl)
theorem dX0_rests_30 : decode cX0_rests 30 = .ok (.ifCond .eq 16, 3) := dk_153 0 16 (dk_at dksX0_rests_1 6 rfl rfl)
theorem dX0_rests_33 : decode cX0_rests 33 = .ok (.iload 4, 2) := dk_21 4 (dk_at dksX0_rests_1 9 rfl rfl)
theorem dX0_rests_35 : decode cX0_rests 35 = .ok (.i2l, 1) := dk_133 (dk_at dksX0_rests_1 11 rfl rfl)
theorem dX0_rests_36 : decode cX0_rests 36 = .ok (.lconst 0, 1) := dk_9 (dk_at dksX0_rests_1 12 rfl rfl)
theorem dX0_rests_37 : decode cX0_rests 37 = .ok (.ldc2_w 193, 3) := dk_20 0 193 (dk_at dksX0_rests_1 13 rfl rfl)
theorem dX0_rests_40 : decode cX0_rests 40 = .ok (.invokestatic 178, 3) := dk_184 0 178 (dk_at dksX0_rests_1 16 rfl rfl)
theorem dX0_rests_43 : decode cX0_rests 43 = .ok (.ifCond .ne 5, 3) := dk_154 0 5 (dk_at dksX0_rests_1 19 rfl rfl)
theorem dX0_rests_46 : decode cX0_rests 46 = .ok (.iconst (-1), 1) := dk_2 (dk_at dksX0_rests_1 22 rfl rfl)
theorem dX0_rests_47 : decode cX0_rests 47 = .ok (.ireturn, 1) := dk_172 (dk_at dksX0_rests_1 23 rfl rfl)
theorem dX0_rests_48 : decode cX0_rests 48 = .ok (.aload_n 0, 1) := dk_42 (dk_at dksX0_rests_2 0 rfl rfl)
theorem dX0_rests_49 : decode cX0_rests 49 = .ok (.getfield 16, 3) := dk_180 0 16 (dk_at dksX0_rests_2 1 rfl rfl)
theorem dX0_rests_52 : decode cX0_rests 52 = .ok (.aload_n 0, 1) := dk_42 (dk_at dksX0_rests_2 4 rfl rfl)
theorem dX0_rests_53 : decode cX0_rests 53 = .ok (.getfield 138, 3) := dk_180 0 138 (dk_at dksX0_rests_2 5 rfl rfl)
theorem dX0_rests_56 : decode cX0_rests 56 = .ok (.invokevirtual 134, 3) := dk_182 0 134 (dk_at dksX0_rests_2 8 rfl rfl)
theorem dX0_rests_59 : decode cX0_rests 59 = .ok (.pop, 1) := dk_87 (dk_at dksX0_rests_2 11 rfl rfl)
theorem dX0_rests_60 : decode cX0_rests 60 = .ok (.iconst 0, 1) := dk_3 (dk_at dksX0_rests_2 12 rfl rfl)
theorem dX0_rests_61 : decode cX0_rests 61 = .ok (.istore 5, 2) := dk_54 5 (dk_at dksX0_rests_2 13 rfl rfl)
theorem dX0_rests_63 : decode cX0_rests 63 = .ok (.iload 5, 2) := dk_21 5 (dk_at dksX0_rests_2 15 rfl rfl)
theorem dX0_rests_65 : decode cX0_rests 65 = .ok (.iconst 4, 1) := dk_7 (dk_at dksX0_rests_2 17 rfl rfl)
theorem dX0_rests_66 : decode cX0_rests 66 = .ok (.if_icmp .ge 18, 3) := dk_162 0 18 (dk_at dksX0_rests_2 18 rfl rfl)
theorem dX0_rests_69 : decode cX0_rests 69 = .ok (.aload_n 0, 1) := dk_42 (dk_at dksX0_rests_2 21 rfl rfl)
theorem dX0_rests_70 : decode cX0_rests 70 = .ok (.iload_n 1, 1) := dk_27 (dk_at dksX0_rests_2 22 rfl rfl)
theorem dX0_rests_71 : decode cX0_rests 71 = .ok (.iload_n 2, 1) := dk_28 (dk_at dksX0_rests_2 23 rfl rfl)
theorem dX0_rests_72 : decode cX0_rests 72 = .ok (.iload 5, 2) := dk_21 5 (dk_at dksX0_rests_3 0 rfl rfl)
theorem dX0_rests_74 : decode cX0_rests 74 = .ok (.iload_n 3, 1) := dk_29 (dk_at dksX0_rests_3 2 rfl rfl)
theorem dX0_rests_75 : decode cX0_rests 75 = .ok (.invokevirtual 285, 3) := dk_182 1 29 (dk_at dksX0_rests_3 3 rfl rfl)
theorem dX0_rests_78 : decode cX0_rests 78 = .ok (.iinc 5 1, 3) := dk_132 5 1 (dk_at dksX0_rests_3 6 rfl rfl)
theorem dX0_rests_81 : decode cX0_rests 81 = .ok (.goto (-18), 3) := dk_167 255 238 (dk_at dksX0_rests_3 9 rfl rfl)
theorem dX0_rests_84 : decode cX0_rests 84 = .ok (.iconst 0, 1) := dk_3 (dk_at dksX0_rests_3 12 rfl rfl)
theorem dX0_rests_85 : decode cX0_rests 85 = .ok (.istore 5, 2) := dk_54 5 (dk_at dksX0_rests_3 13 rfl rfl)
theorem dX0_rests_87 : decode cX0_rests 87 = .ok (.iconst (-1), 1) := dk_2 (dk_at dksX0_rests_3 15 rfl rfl)
theorem dX0_rests_88 : decode cX0_rests 88 = .ok (.istore 6, 2) := dk_54 6 (dk_at dksX0_rests_3 16 rfl rfl)
theorem dX0_rests_90 : decode cX0_rests 90 = .ok (.iconst 3, 1) := dk_6 (dk_at dksX0_rests_3 18 rfl rfl)
theorem dX0_rests_91 : decode cX0_rests 91 = .ok (.istore 7, 2) := dk_54 7 (dk_at dksX0_rests_3 19 rfl rfl)
theorem dX0_rests_93 : decode cX0_rests 93 = .ok (.iload 7, 2) := dk_21 7 (dk_at dksX0_rests_3 21 rfl rfl)
theorem dX0_rests_95 : decode cX0_rests 95 = .ok (.ifCond .lt 34, 3) := dk_155 0 34 (dk_at dksX0_rests_4 0 rfl rfl)
theorem dX0_rests_98 : decode cX0_rests 98 = .ok (.aload_n 0, 1) := dk_42 (dk_at dksX0_rests_4 3 rfl rfl)
theorem dX0_rests_99 : decode cX0_rests 99 = .ok (.iload 7, 2) := dk_21 7 (dk_at dksX0_rests_4 4 rfl rfl)
theorem dX0_rests_101 : decode cX0_rests 101 = .ok (.iconst 2, 1) := dk_5 (dk_at dksX0_rests_4 6 rfl rfl)
theorem dX0_rests_102 : decode cX0_rests 102 = .ok (.idiv, 1) := dk_108 (dk_at dksX0_rests_4 7 rfl rfl)
theorem dX0_rests_103 : decode cX0_rests 103 = .ok (.iload 7, 2) := dk_21 7 (dk_at dksX0_rests_4 8 rfl rfl)
theorem dX0_rests_105 : decode cX0_rests 105 = .ok (.iconst 2, 1) := dk_5 (dk_at dksX0_rests_4 10 rfl rfl)
theorem dX0_rests_106 : decode cX0_rests 106 = .ok (.irem, 1) := dk_112 (dk_at dksX0_rests_4 11 rfl rfl)
theorem dX0_rests_107 : decode cX0_rests 107 = .ok (.invokevirtual 289, 3) := dk_182 1 33 (dk_at dksX0_rests_4 12 rfl rfl)
theorem dX0_rests_110 : decode cX0_rests 110 = .ok (.ifCond .ne 6, 3) := dk_154 0 6 (dk_at dksX0_rests_4 15 rfl rfl)
theorem dX0_rests_113 : decode cX0_rests 113 = .ok (.goto 10, 3) := dk_167 0 10 (dk_at dksX0_rests_4 18 rfl rfl)
theorem dX0_rests_116 : decode cX0_rests 116 = .ok (.iinc 5 1, 3) := dk_132 5 1 (dk_at dksX0_rests_4 21 rfl rfl)
theorem dX0_rests_119 : decode cX0_rests 119 = .ok (.iload 7, 2) := dk_21 7 (dk_at dksX0_rests_5 0 rfl rfl)
theorem dX0_rests_121 : decode cX0_rests 121 = .ok (.istore 6, 2) := dk_54 6 (dk_at dksX0_rests_5 2 rfl rfl)
theorem dX0_rests_123 : decode cX0_rests 123 = .ok (.iinc 7 (-1), 3) := dk_132 7 255 (dk_at dksX0_rests_5 4 rfl rfl)
theorem dX0_rests_126 : decode cX0_rests 126 = .ok (.goto (-33), 3) := dk_167 255 223 (dk_at dksX0_rests_5 7 rfl rfl)
theorem dX0_rests_129 : decode cX0_rests 129 = .ok (.iload 4, 2) := dk_21 4 (dk_at dksX0_rests_5 10 rfl rfl)
theorem dX0_rests_131 : decode cX0_rests 131 = .ok (.ifCond .ne 6, 3) := dk_154 0 6 (dk_at dksX0_rests_5 12 rfl rfl)
theorem dX0_rests_134 : decode cX0_rests 134 = .ok (.iload 5, 2) := dk_21 5 (dk_at dksX0_rests_5 15 rfl rfl)
theorem dX0_rests_136 : decode cX0_rests 136 = .ok (.ireturn, 1) := dk_172 (dk_at dksX0_rests_5 17 rfl rfl)
theorem dX0_rests_137 : decode cX0_rests 137 = .ok (.iload 6, 2) := dk_21 6 (dk_at dksX0_rests_5 18 rfl rfl)
theorem dX0_rests_139 : decode cX0_rests 139 = .ok (.iconst (-1), 1) := dk_2 (dk_at dksX0_rests_5 20 rfl rfl)
theorem dX0_rests_140 : decode cX0_rests 140 = .ok (.if_icmp .ne 8, 3) := dk_160 0 8 (dk_at dksX0_rests_5 21 rfl rfl)
theorem dX0_rests_143 : decode cX0_rests 143 = .ok (.bipush (-2), 2) := dk_16 254 (dk_at dksX0_rests_6 0 rfl rfl)
theorem dX0_rests_145 : decode cX0_rests 145 = .ok (.goto 20, 3) := dk_167 0 20 (dk_at dksX0_rests_6 2 rfl rfl)
theorem dX0_rests_148 : decode cX0_rests 148 = .ok (.iload 4, 2) := dk_21 4 (dk_at dksX0_rests_6 5 rfl rfl)
theorem dX0_rests_150 : decode cX0_rests 150 = .ok (.iconst 1, 1) := dk_4 (dk_at dksX0_rests_6 7 rfl rfl)
theorem dX0_rests_151 : decode cX0_rests 151 = .ok (.if_icmp .ne 10, 3) := dk_160 0 10 (dk_at dksX0_rests_6 8 rfl rfl)
theorem dX0_rests_154 : decode cX0_rests 154 = .ok (.iload 6, 2) := dk_21 6 (dk_at dksX0_rests_6 11 rfl rfl)
theorem dX0_rests_156 : decode cX0_rests 156 = .ok (.iconst 2, 1) := dk_5 (dk_at dksX0_rests_6 13 rfl rfl)
theorem dX0_rests_157 : decode cX0_rests 157 = .ok (.idiv, 1) := dk_108 (dk_at dksX0_rests_6 14 rfl rfl)
theorem dX0_rests_158 : decode cX0_rests 158 = .ok (.goto 7, 3) := dk_167 0 7 (dk_at dksX0_rests_6 15 rfl rfl)
theorem dX0_rests_161 : decode cX0_rests 161 = .ok (.iload 6, 2) := dk_21 6 (dk_at dksX0_rests_6 18 rfl rfl)
theorem dX0_rests_163 : decode cX0_rests 163 = .ok (.iconst 2, 1) := dk_5 (dk_at dksX0_rests_6 20 rfl rfl)
theorem dX0_rests_164 : decode cX0_rests 164 = .ok (.irem, 1) := dk_112 (dk_at dksX0_rests_6 21 rfl rfl)
theorem dX0_rests_165 : decode cX0_rests 165 = .ok (.ireturn, 1) := dk_172 (dk_at dksX0_rests_6 22 rfl rfl)
abbrev cX0_canChoose : ByteArray := prog_1_method_40_code
def yX0_canChoose : MethodName := ⟨RX0, "canChoose", "(I)Z"⟩
def dkwX0_canChoose_1 : List UInt8 := [167, 0, 4, 3, 172]
abbrev dktX0_canChoose_1 : List UInt8 := dkwX0_canChoose_1 ++ []
def dkwX0_canChoose_0 : List UInt8 := [42, 27, 182, 0, 161, 153, 0, 20, 42, 180, 0, 138, 180, 0, 165, 27, 46, 5, 159, 0, 7, 4]
abbrev dktX0_canChoose_0 : List UInt8 := dkwX0_canChoose_0 ++ dktX0_canChoose_1
theorem dksX0_canChoose_0 : cX0_canChoose.data.toList.drop 0 = dktX0_canChoose_0 := by decide +kernel
theorem dksX0_canChoose_1 : cX0_canChoose.data.toList.drop 22 = dktX0_canChoose_1 := dk_seg dksX0_canChoose_0 22 rfl rfl
theorem dX0_canChoose_0 : decode cX0_canChoose 0 = .ok (.aload_n 0, 1) := dk_42 (dk_at dksX0_canChoose_0 0 rfl rfl)
theorem dX0_canChoose_1 : decode cX0_canChoose 1 = .ok (.iload_n 1, 1) := dk_27 (dk_at dksX0_canChoose_0 1 rfl rfl)
theorem dX0_canChoose_2 : decode cX0_canChoose 2 = .ok (.invokevirtual 161, 3) := dk_182 0 161 (dk_at dksX0_canChoose_0 2 rfl rfl)
theorem dX0_canChoose_5 : decode cX0_canChoose 5 = .ok (.ifCond .eq 20, 3) := dk_153 0 20 (dk_at dksX0_canChoose_0 5 rfl rfl)
theorem dX0_canChoose_8 : decode cX0_canChoose 8 = .ok (.aload_n 0, 1) := dk_42 (dk_at dksX0_canChoose_0 8 rfl rfl)
theorem dX0_canChoose_9 : decode cX0_canChoose 9 = .ok (.getfield 138, 3) := dk_180 0 138 (dk_at dksX0_canChoose_0 9 rfl rfl)
theorem dX0_canChoose_12 : decode cX0_canChoose 12 = .ok (.getfield 165, 3) := dk_180 0 165 (dk_at dksX0_canChoose_0 12 rfl rfl)
theorem dX0_canChoose_15 : decode cX0_canChoose 15 = .ok (.iload_n 1, 1) := dk_27 (dk_at dksX0_canChoose_0 15 rfl rfl)
theorem dX0_canChoose_16 : decode cX0_canChoose 16 = .ok (.iaload, 1) := dk_46 (dk_at dksX0_canChoose_0 16 rfl rfl)
theorem dX0_canChoose_17 : decode cX0_canChoose 17 = .ok (.iconst 2, 1) := dk_5 (dk_at dksX0_canChoose_0 17 rfl rfl)
theorem dX0_canChoose_18 : decode cX0_canChoose 18 = .ok (.if_icmp .eq 7, 3) := dk_159 0 7 (dk_at dksX0_canChoose_0 18 rfl rfl)
theorem dX0_canChoose_21 : decode cX0_canChoose 21 = .ok (.iconst 1, 1) := dk_4 (dk_at dksX0_canChoose_0 21 rfl rfl)
theorem dX0_canChoose_22 : decode cX0_canChoose 22 = .ok (.goto 4, 3) := dk_167 0 4 (dk_at dksX0_canChoose_1 0 rfl rfl)
theorem dX0_canChoose_25 : decode cX0_canChoose 25 = .ok (.iconst 0, 1) := dk_3 (dk_at dksX0_canChoose_1 3 rfl rfl)
theorem dX0_canChoose_26 : decode cX0_canChoose 26 = .ok (.ireturn, 1) := dk_172 (dk_at dksX0_canChoose_1 4 rfl rfl)
abbrev cX0_weighs : ByteArray := prog_1_method_39_code
def yX0_weighs : MethodName := ⟨RX0, "weighs", "(IIII)V"⟩
def dkwX0_weighs_6 : List UInt8 := [42, 180, 0, 16, 180, 0, 165, 28, 46, 5, 160, 0, 8, 16, 10, 167, 0, 4, 3, 100, 79, 177]
abbrev dktX0_weighs_6 : List UInt8 := dkwX0_weighs_6 ++ []
def dkwX0_weighs_5 : List UInt8 := [180, 0, 165, 27, 46, 5, 160, 0, 8, 16, 10, 167, 0, 4, 3, 100, 79, 42, 180, 0, 93, 29, 92, 46]
abbrev dktX0_weighs_5 : List UInt8 := dkwX0_weighs_5 ++ dktX0_weighs_6
def dkwX0_weighs_4 : List UInt8 := [182, 1, 21, 96, 79, 132, 5, 1, 167, 255, 206, 42, 180, 0, 90, 29, 92, 46, 42, 180, 0, 16]
abbrev dktX0_weighs_4 : List UInt8 := dkwX0_weighs_4 ++ dktX0_weighs_5
def dkwX0_weighs_3 : List UInt8 := [180, 0, 90, 29, 92, 46, 42, 27, 182, 1, 21, 96, 79, 42, 180, 0, 93, 29, 92, 46, 42, 28]
abbrev dktX0_weighs_3 : List UInt8 := dkwX0_weighs_3 ++ dktX0_weighs_4
def dkwX0_weighs_2 : List UInt8 := [54, 5, 21, 5, 21, 4, 162, 0, 49, 42, 180, 0, 16, 42, 182, 0, 223, 182, 0, 226, 87, 42]
abbrev dktX0_weighs_2 : List UInt8 := dkwX0_weighs_2 ++ dktX0_weighs_3
def dkwX0_weighs_1 : List UInt8 := [180, 1, 18, 28, 29, 5, 112, 79, 42, 180, 0, 90, 29, 3, 79, 42, 180, 0, 93, 29, 3, 79, 3]
abbrev dktX0_weighs_1 : List UInt8 := dkwX0_weighs_1 ++ dktX0_weighs_2
def dkwX0_weighs_0 : List UInt8 := [42, 180, 0, 16, 42, 180, 0, 138, 182, 1, 15, 180, 1, 18, 27, 29, 5, 108, 79, 42, 180, 0, 16]
abbrev dktX0_weighs_0 : List UInt8 := dkwX0_weighs_0 ++ dktX0_weighs_1
theorem dksX0_weighs_0 : cX0_weighs.data.toList.drop 0 = dktX0_weighs_0 := by decide +kernel
theorem dksX0_weighs_1 : cX0_weighs.data.toList.drop 23 = dktX0_weighs_1 := dk_seg dksX0_weighs_0 23 rfl rfl
theorem dksX0_weighs_2 : cX0_weighs.data.toList.drop 46 = dktX0_weighs_2 := dk_seg dksX0_weighs_1 23 rfl rfl
theorem dksX0_weighs_3 : cX0_weighs.data.toList.drop 68 = dktX0_weighs_3 := dk_seg dksX0_weighs_2 22 rfl rfl
theorem dksX0_weighs_4 : cX0_weighs.data.toList.drop 90 = dktX0_weighs_4 := dk_seg dksX0_weighs_3 22 rfl rfl
theorem dksX0_weighs_5 : cX0_weighs.data.toList.drop 112 = dktX0_weighs_5 := dk_seg dksX0_weighs_4 22 rfl rfl
theorem dksX0_weighs_6 : cX0_weighs.data.toList.drop 136 = dktX0_weighs_6 := dk_seg dksX0_weighs_5 24 rfl rfl
theorem dX0_weighs_0 : decode cX0_weighs 0 = .ok (.aload_n 0, 1) := dk_42 (dk_at dksX0_weighs_0 0 rfl rfl)
theorem dX0_weighs_1 : decode cX0_weighs 1 = .ok (.getfield 16, 3) := dk_180 0 16 (dk_at dksX0_weighs_0 1 rfl rfl)
theorem dX0_weighs_4 : decode cX0_weighs 4 = .ok (.aload_n 0, 1) := dk_42 (dk_at dksX0_weighs_0 4 rfl rfl)
theorem dX0_weighs_5 : decode cX0_weighs 5 = .ok (.getfield 138, 3) := dk_180 0 138 (dk_at dksX0_weighs_0 5 rfl rfl)
theorem dX0_weighs_8 : decode cX0_weighs 8 = .ok (.invokevirtual 271, 3) := dk_182 1 15 (dk_at dksX0_weighs_0 8 rfl rfl)
theorem dX0_weighs_11 : decode cX0_weighs 11 = .ok (.getfield 274, 3) := dk_180 1 18 (dk_at dksX0_weighs_0 11 rfl rfl)
theorem dX0_weighs_14 : decode cX0_weighs 14 = .ok (.iload_n 1, 1) := dk_27 (dk_at dksX0_weighs_0 14 rfl rfl)
theorem dX0_weighs_15 : decode cX0_weighs 15 = .ok (.iload_n 3, 1) := dk_29 (dk_at dksX0_weighs_0 15 rfl rfl)
theorem dX0_weighs_16 : decode cX0_weighs 16 = .ok (.iconst 2, 1) := dk_5 (dk_at dksX0_weighs_0 16 rfl rfl)
theorem dX0_weighs_17 : decode cX0_weighs 17 = .ok (.idiv, 1) := dk_108 (dk_at dksX0_weighs_0 17 rfl rfl)
theorem dX0_weighs_18 : decode cX0_weighs 18 = .ok (.iastore, 1) := dk_79 (dk_at dksX0_weighs_0 18 rfl rfl)
theorem dX0_weighs_19 : decode cX0_weighs 19 = .ok (.aload_n 0, 1) := dk_42 (dk_at dksX0_weighs_0 19 rfl rfl)
theorem dX0_weighs_20 : decode cX0_weighs 20 = .ok (.getfield 16, 3) := dk_180 0 16 (dk_at dksX0_weighs_0 20 rfl rfl)
theorem dX0_weighs_23 : decode cX0_weighs 23 = .ok (.getfield 274, 3) := dk_180 1 18 (dk_at dksX0_weighs_1 0 rfl rfl)
theorem dX0_weighs_26 : decode cX0_weighs 26 = .ok (.iload_n 2, 1) := dk_28 (dk_at dksX0_weighs_1 3 rfl rfl)
theorem dX0_weighs_27 : decode cX0_weighs 27 = .ok (.iload_n 3, 1) := dk_29 (dk_at dksX0_weighs_1 4 rfl rfl)
theorem dX0_weighs_28 : decode cX0_weighs 28 = .ok (.iconst 2, 1) := dk_5 (dk_at dksX0_weighs_1 5 rfl rfl)
theorem dX0_weighs_29 : decode cX0_weighs 29 = .ok (.irem, 1) := dk_112 (dk_at dksX0_weighs_1 6 rfl rfl)
theorem dX0_weighs_30 : decode cX0_weighs 30 = .ok (.iastore, 1) := dk_79 (dk_at dksX0_weighs_1 7 rfl rfl)
theorem dX0_weighs_31 : decode cX0_weighs 31 = .ok (.aload_n 0, 1) := dk_42 (dk_at dksX0_weighs_1 8 rfl rfl)
theorem dX0_weighs_32 : decode cX0_weighs 32 = .ok (.getfield 90, 3) := dk_180 0 90 (dk_at dksX0_weighs_1 9 rfl rfl)
theorem dX0_weighs_35 : decode cX0_weighs 35 = .ok (.iload_n 3, 1) := dk_29 (dk_at dksX0_weighs_1 12 rfl rfl)
theorem dX0_weighs_36 : decode cX0_weighs 36 = .ok (.iconst 0, 1) := dk_3 (dk_at dksX0_weighs_1 13 rfl rfl)
theorem dX0_weighs_37 : decode cX0_weighs 37 = .ok (.iastore, 1) := dk_79 (dk_at dksX0_weighs_1 14 rfl rfl)
theorem dX0_weighs_38 : decode cX0_weighs 38 = .ok (.aload_n 0, 1) := dk_42 (dk_at dksX0_weighs_1 15 rfl rfl)
theorem dX0_weighs_39 : decode cX0_weighs 39 = .ok (.getfield 93, 3) := dk_180 0 93 (dk_at dksX0_weighs_1 16 rfl rfl)
theorem dX0_weighs_42 : decode cX0_weighs 42 = .ok (.iload_n 3, 1) := dk_29 (dk_at dksX0_weighs_1 19 rfl rfl)
theorem dX0_weighs_43 : decode cX0_weighs 43 = .ok (.iconst 0, 1) := dk_3 (dk_at dksX0_weighs_1 20 rfl rfl)
theorem dX0_weighs_44 : decode cX0_weighs 44 = .ok (.iastore, 1) := dk_79 (dk_at dksX0_weighs_1 21 rfl rfl)
theorem dX0_weighs_45 : decode cX0_weighs 45 = .ok (.iconst 0, 1) := dk_3 (dk_at dksX0_weighs_1 22 rfl rfl)
theorem dX0_weighs_46 : decode cX0_weighs 46 = .ok (.istore 5, 2) := dk_54 5 (dk_at dksX0_weighs_2 0 rfl rfl)
theorem dX0_weighs_48 : decode cX0_weighs 48 = .ok (.iload 5, 2) := dk_21 5 (dk_at dksX0_weighs_2 2 rfl rfl)
theorem dX0_weighs_50 : decode cX0_weighs 50 = .ok (.iload 4, 2) := dk_21 4 (dk_at dksX0_weighs_2 4 rfl rfl)
theorem dX0_weighs_52 : decode cX0_weighs 52 = .ok (.if_icmp .ge 49, 3) := dk_162 0 49 (dk_at dksX0_weighs_2 6 rfl rfl)
theorem dX0_weighs_55 : decode cX0_weighs 55 = .ok (.aload_n 0, 1) := dk_42 (dk_at dksX0_weighs_2 9 rfl rfl)
theorem dX0_weighs_56 : decode cX0_weighs 56 = .ok (.getfield 16, 3) := dk_180 0 16 (dk_at dksX0_weighs_2 10 rfl rfl)
theorem dX0_weighs_59 : decode cX0_weighs 59 = .ok (.aload_n 0, 1) := dk_42 (dk_at dksX0_weighs_2 13 rfl rfl)
theorem dX0_weighs_60 : decode cX0_weighs 60 = .ok (.invokevirtual 223, 3) := dk_182 0 223 (dk_at dksX0_weighs_2 14 rfl rfl)
theorem dX0_weighs_63 : decode cX0_weighs 63 = .ok (.invokevirtual 226, 3) := dk_182 0 226 (dk_at dksX0_weighs_2 17 rfl rfl)
theorem dX0_weighs_66 : decode cX0_weighs 66 = .ok (.pop, 1) := dk_87 (dk_at dksX0_weighs_2 20 rfl rfl)
theorem dX0_weighs_67 : decode cX0_weighs 67 = .ok (.aload_n 0, 1) := dk_42 (dk_at dksX0_weighs_2 21 rfl rfl)
theorem dX0_weighs_68 : decode cX0_weighs 68 = .ok (.getfield 90, 3) := dk_180 0 90 (dk_at dksX0_weighs_3 0 rfl rfl)
theorem dX0_weighs_71 : decode cX0_weighs 71 = .ok (.iload_n 3, 1) := dk_29 (dk_at dksX0_weighs_3 3 rfl rfl)
theorem dX0_weighs_72 : decode cX0_weighs 72 = .ok (.dup2, 1) := dk_92 (dk_at dksX0_weighs_3 4 rfl rfl)
theorem dX0_weighs_73 : decode cX0_weighs 73 = .ok (.iaload, 1) := dk_46 (dk_at dksX0_weighs_3 5 rfl rfl)
theorem dX0_weighs_74 : decode cX0_weighs 74 = .ok (.aload_n 0, 1) := dk_42 (dk_at dksX0_weighs_3 6 rfl rfl)
theorem dX0_weighs_75 : decode cX0_weighs 75 = .ok (.iload_n 1, 1) := dk_27 (dk_at dksX0_weighs_3 7 rfl rfl)
theorem dX0_weighs_76 : decode cX0_weighs 76 = .ok (.invokevirtual 277, 3) := dk_182 1 21 (dk_at dksX0_weighs_3 8 rfl rfl)
theorem dX0_weighs_79 : decode cX0_weighs 79 = .ok (.iadd, 1) := dk_96 (dk_at dksX0_weighs_3 11 rfl rfl)
theorem dX0_weighs_80 : decode cX0_weighs 80 = .ok (.iastore, 1) := dk_79 (dk_at dksX0_weighs_3 12 rfl rfl)
theorem dX0_weighs_81 : decode cX0_weighs 81 = .ok (.aload_n 0, 1) := dk_42 (dk_at dksX0_weighs_3 13 rfl rfl)
theorem dX0_weighs_82 : decode cX0_weighs 82 = .ok (.getfield 93, 3) := dk_180 0 93 (dk_at dksX0_weighs_3 14 rfl rfl)
theorem dX0_weighs_85 : decode cX0_weighs 85 = .ok (.iload_n 3, 1) := dk_29 (dk_at dksX0_weighs_3 17 rfl rfl)
theorem dX0_weighs_86 : decode cX0_weighs 86 = .ok (.dup2, 1) := dk_92 (dk_at dksX0_weighs_3 18 rfl rfl)
theorem dX0_weighs_87 : decode cX0_weighs 87 = .ok (.iaload, 1) := dk_46 (dk_at dksX0_weighs_3 19 rfl rfl)
theorem dX0_weighs_88 : decode cX0_weighs 88 = .ok (.aload_n 0, 1) := dk_42 (dk_at dksX0_weighs_3 20 rfl rfl)
theorem dX0_weighs_89 : decode cX0_weighs 89 = .ok (.iload_n 2, 1) := dk_28 (dk_at dksX0_weighs_3 21 rfl rfl)
theorem dX0_weighs_90 : decode cX0_weighs 90 = .ok (.invokevirtual 277, 3) := dk_182 1 21 (dk_at dksX0_weighs_4 0 rfl rfl)
theorem dX0_weighs_93 : decode cX0_weighs 93 = .ok (.iadd, 1) := dk_96 (dk_at dksX0_weighs_4 3 rfl rfl)
theorem dX0_weighs_94 : decode cX0_weighs 94 = .ok (.iastore, 1) := dk_79 (dk_at dksX0_weighs_4 4 rfl rfl)
theorem dX0_weighs_95 : decode cX0_weighs 95 = .ok (.iinc 5 1, 3) := dk_132 5 1 (dk_at dksX0_weighs_4 5 rfl rfl)
theorem dX0_weighs_98 : decode cX0_weighs 98 = .ok (.goto (-50), 3) := dk_167 255 206 (dk_at dksX0_weighs_4 8 rfl rfl)
theorem dX0_weighs_101 : decode cX0_weighs 101 = .ok (.aload_n 0, 1) := dk_42 (dk_at dksX0_weighs_4 11 rfl rfl)
theorem dX0_weighs_102 : decode cX0_weighs 102 = .ok (.getfield 90, 3) := dk_180 0 90 (dk_at dksX0_weighs_4 12 rfl rfl)
theorem dX0_weighs_105 : decode cX0_weighs 105 = .ok (.iload_n 3, 1) := dk_29 (dk_at dksX0_weighs_4 15 rfl rfl)
theorem dX0_weighs_106 : decode cX0_weighs 106 = .ok (.dup2, 1) := dk_92 (dk_at dksX0_weighs_4 16 rfl rfl)
theorem dX0_weighs_107 : decode cX0_weighs 107 = .ok (.iaload, 1) := dk_46 (dk_at dksX0_weighs_4 17 rfl rfl)
theorem dX0_weighs_108 : decode cX0_weighs 108 = .ok (.aload_n 0, 1) := dk_42 (dk_at dksX0_weighs_4 18 rfl rfl)
theorem dX0_weighs_109 : decode cX0_weighs 109 = .ok (.getfield 16, 3) := dk_180 0 16 (dk_at dksX0_weighs_4 19 rfl rfl)
theorem dX0_weighs_112 : decode cX0_weighs 112 = .ok (.getfield 165, 3) := dk_180 0 165 (dk_at dksX0_weighs_5 0 rfl rfl)
theorem dX0_weighs_115 : decode cX0_weighs 115 = .ok (.iload_n 1, 1) := dk_27 (dk_at dksX0_weighs_5 3 rfl rfl)
theorem dX0_weighs_116 : decode cX0_weighs 116 = .ok (.iaload, 1) := dk_46 (dk_at dksX0_weighs_5 4 rfl rfl)
theorem dX0_weighs_117 : decode cX0_weighs 117 = .ok (.iconst 2, 1) := dk_5 (dk_at dksX0_weighs_5 5 rfl rfl)
theorem dX0_weighs_118 : decode cX0_weighs 118 = .ok (.if_icmp .ne 8, 3) := dk_160 0 8 (dk_at dksX0_weighs_5 6 rfl rfl)
theorem dX0_weighs_121 : decode cX0_weighs 121 = .ok (.bipush 10, 2) := dk_16 10 (dk_at dksX0_weighs_5 9 rfl rfl)
theorem dX0_weighs_123 : decode cX0_weighs 123 = .ok (.goto 4, 3) := dk_167 0 4 (dk_at dksX0_weighs_5 11 rfl rfl)
theorem dX0_weighs_126 : decode cX0_weighs 126 = .ok (.iconst 0, 1) := dk_3 (dk_at dksX0_weighs_5 14 rfl rfl)
theorem dX0_weighs_127 : decode cX0_weighs 127 = .ok (.isub, 1) := dk_100 (dk_at dksX0_weighs_5 15 rfl rfl)
theorem dX0_weighs_128 : decode cX0_weighs 128 = .ok (.iastore, 1) := dk_79 (dk_at dksX0_weighs_5 16 rfl rfl)
theorem dX0_weighs_129 : decode cX0_weighs 129 = .ok (.aload_n 0, 1) := dk_42 (dk_at dksX0_weighs_5 17 rfl rfl)
theorem dX0_weighs_130 : decode cX0_weighs 130 = .ok (.getfield 93, 3) := dk_180 0 93 (dk_at dksX0_weighs_5 18 rfl rfl)
theorem dX0_weighs_133 : decode cX0_weighs 133 = .ok (.iload_n 3, 1) := dk_29 (dk_at dksX0_weighs_5 21 rfl rfl)
theorem dX0_weighs_134 : decode cX0_weighs 134 = .ok (.dup2, 1) := dk_92 (dk_at dksX0_weighs_5 22 rfl rfl)
theorem dX0_weighs_135 : decode cX0_weighs 135 = .ok (.iaload, 1) := dk_46 (dk_at dksX0_weighs_5 23 rfl rfl)
theorem dX0_weighs_136 : decode cX0_weighs 136 = .ok (.aload_n 0, 1) := dk_42 (dk_at dksX0_weighs_6 0 rfl rfl)
theorem dX0_weighs_137 : decode cX0_weighs 137 = .ok (.getfield 16, 3) := dk_180 0 16 (dk_at dksX0_weighs_6 1 rfl rfl)
theorem dX0_weighs_140 : decode cX0_weighs 140 = .ok (.getfield 165, 3) := dk_180 0 165 (dk_at dksX0_weighs_6 4 rfl rfl)
theorem dX0_weighs_143 : decode cX0_weighs 143 = .ok (.iload_n 2, 1) := dk_28 (dk_at dksX0_weighs_6 7 rfl rfl)
theorem dX0_weighs_144 : decode cX0_weighs 144 = .ok (.iaload, 1) := dk_46 (dk_at dksX0_weighs_6 8 rfl rfl)
theorem dX0_weighs_145 : decode cX0_weighs 145 = .ok (.iconst 2, 1) := dk_5 (dk_at dksX0_weighs_6 9 rfl rfl)
theorem dX0_weighs_146 : decode cX0_weighs 146 = .ok (.if_icmp .ne 8, 3) := dk_160 0 8 (dk_at dksX0_weighs_6 10 rfl rfl)
theorem dX0_weighs_149 : decode cX0_weighs 149 = .ok (.bipush 10, 2) := dk_16 10 (dk_at dksX0_weighs_6 13 rfl rfl)
theorem dX0_weighs_151 : decode cX0_weighs 151 = .ok (.goto 4, 3) := dk_167 0 4 (dk_at dksX0_weighs_6 15 rfl rfl)
theorem dX0_weighs_154 : decode cX0_weighs 154 = .ok (.iconst 0, 1) := dk_3 (dk_at dksX0_weighs_6 18 rfl rfl)
theorem dX0_weighs_155 : decode cX0_weighs 155 = .ok (.isub, 1) := dk_100 (dk_at dksX0_weighs_6 19 rfl rfl)
theorem dX0_weighs_156 : decode cX0_weighs 156 = .ok (.iastore, 1) := dk_79 (dk_at dksX0_weighs_6 20 rfl rfl)
theorem dX0_weighs_157 : decode cX0_weighs 157 = .ok (.return_, 1) := dk_177 (dk_at dksX0_weighs_6 21 rfl rfl)
abbrev cX0_gets : ByteArray := prog_1_method_38_code
def yX0_gets : MethodName := ⟨RX0, "gets", "(I)I"⟩
def dkwX0_gets_1 : List UInt8 := [108, 96, 167, 0, 4, 3, 172]
abbrev dktX0_gets_1 : List UInt8 := dkwX0_gets_1 ++ []
def dkwX0_gets_0 : List UInt8 := [42, 180, 0, 16, 180, 0, 165, 27, 46, 4, 160, 0, 19, 4, 42, 180, 0, 16, 27, 182, 0, 190, 16, 10]
abbrev dktX0_gets_0 : List UInt8 := dkwX0_gets_0 ++ dktX0_gets_1
theorem dksX0_gets_0 : cX0_gets.data.toList.drop 0 = dktX0_gets_0 := by decide +kernel
theorem dksX0_gets_1 : cX0_gets.data.toList.drop 24 = dktX0_gets_1 := dk_seg dksX0_gets_0 24 rfl rfl
theorem dX0_gets_0 : decode cX0_gets 0 = .ok (.aload_n 0, 1) := dk_42 (dk_at dksX0_gets_0 0 rfl rfl)
theorem dX0_gets_1 : decode cX0_gets 1 = .ok (.getfield 16, 3) := dk_180 0 16 (dk_at dksX0_gets_0 1 rfl rfl)
theorem dX0_gets_4 : decode cX0_gets 4 = .ok (.getfield 165, 3) := dk_180 0 165 (dk_at dksX0_gets_0 4 rfl rfl)
theorem dX0_gets_7 : decode cX0_gets 7 = .ok (.iload_n 1, 1) := dk_27 (dk_at dksX0_gets_0 7 rfl rfl)
theorem dX0_gets_8 : decode cX0_gets 8 = .ok (.iaload, 1) := dk_46 (dk_at dksX0_gets_0 8 rfl rfl)
theorem dX0_gets_9 : decode cX0_gets 9 = .ok (.iconst 1, 1) := dk_4 (dk_at dksX0_gets_0 9 rfl rfl)
theorem dX0_gets_10 : decode cX0_gets 10 = .ok (.if_icmp .ne 19, 3) := dk_160 0 19 (dk_at dksX0_gets_0 10 rfl rfl)
theorem dX0_gets_13 : decode cX0_gets 13 = .ok (.iconst 1, 1) := dk_4 (dk_at dksX0_gets_0 13 rfl rfl)
theorem dX0_gets_14 : decode cX0_gets 14 = .ok (.aload_n 0, 1) := dk_42 (dk_at dksX0_gets_0 14 rfl rfl)
theorem dX0_gets_15 : decode cX0_gets 15 = .ok (.getfield 16, 3) := dk_180 0 16 (dk_at dksX0_gets_0 15 rfl rfl)
theorem dX0_gets_18 : decode cX0_gets 18 = .ok (.iload_n 1, 1) := dk_27 (dk_at dksX0_gets_0 18 rfl rfl)
theorem dX0_gets_19 : decode cX0_gets 19 = .ok (.invokevirtual 190, 3) := dk_182 0 190 (dk_at dksX0_gets_0 19 rfl rfl)
theorem dX0_gets_22 : decode cX0_gets 22 = .ok (.bipush 10, 2) := dk_16 10 (dk_at dksX0_gets_0 22 rfl rfl)
theorem dX0_gets_24 : decode cX0_gets 24 = .ok (.idiv, 1) := dk_108 (dk_at dksX0_gets_1 0 rfl rfl)
theorem dX0_gets_25 : decode cX0_gets 25 = .ok (.iadd, 1) := dk_96 (dk_at dksX0_gets_1 1 rfl rfl)
theorem dX0_gets_26 : decode cX0_gets 26 = .ok (.goto 4, 3) := dk_167 0 4 (dk_at dksX0_gets_1 2 rfl rfl)
theorem dX0_gets_29 : decode cX0_gets 29 = .ok (.iconst 0, 1) := dk_3 (dk_at dksX0_gets_1 5 rfl rfl)
theorem dX0_gets_30 : decode cX0_gets 30 = .ok (.ireturn, 1) := dk_172 (dk_at dksX0_gets_1 6 rfl rfl)
abbrev cX0_isRest : ByteArray := prog_1_method_37_code
def yX0_isRest : MethodName := ⟨RX0, "isRest", "(II)Z"⟩
def dkwX0_isRest_2 : List UInt8 := [46, 163, 0, 7, 4, 167, 0, 4, 3, 172]
abbrev dktX0_isRest_2 : List UInt8 := dkwX0_isRest_2 ++ []
def dkwX0_isRest_1 : List UInt8 := [163, 0, 32, 42, 180, 0, 93, 5, 27, 104, 4, 96, 28, 100, 46, 42, 180, 0, 93, 5, 27, 104, 28, 96]
abbrev dktX0_isRest_1 : List UInt8 := dkwX0_isRest_1 ++ dktX0_isRest_2
def dkwX0_isRest_0 : List UInt8 := [42, 180, 0, 90, 5, 4, 27, 100, 104, 28, 96, 46, 42, 180, 0, 90, 5, 27, 104, 28, 96, 46]
abbrev dktX0_isRest_0 : List UInt8 := dkwX0_isRest_0 ++ dktX0_isRest_1
theorem dksX0_isRest_0 : cX0_isRest.data.toList.drop 0 = dktX0_isRest_0 := by decide +kernel
theorem dksX0_isRest_1 : cX0_isRest.data.toList.drop 22 = dktX0_isRest_1 := dk_seg dksX0_isRest_0 22 rfl rfl
theorem dksX0_isRest_2 : cX0_isRest.data.toList.drop 46 = dktX0_isRest_2 := dk_seg dksX0_isRest_1 24 rfl rfl
theorem dX0_isRest_0 : decode cX0_isRest 0 = .ok (.aload_n 0, 1) := dk_42 (dk_at dksX0_isRest_0 0 rfl rfl)
theorem dX0_isRest_1 : decode cX0_isRest 1 = .ok (.getfield 90, 3) := dk_180 0 90 (dk_at dksX0_isRest_0 1 rfl rfl)
theorem dX0_isRest_4 : decode cX0_isRest 4 = .ok (.iconst 2, 1) := dk_5 (dk_at dksX0_isRest_0 4 rfl rfl)
theorem dX0_isRest_5 : decode cX0_isRest 5 = .ok (.iconst 1, 1) := dk_4 (dk_at dksX0_isRest_0 5 rfl rfl)
theorem dX0_isRest_6 : decode cX0_isRest 6 = .ok (.iload_n 1, 1) := dk_27 (dk_at dksX0_isRest_0 6 rfl rfl)
theorem dX0_isRest_7 : decode cX0_isRest 7 = .ok (.isub, 1) := dk_100 (dk_at dksX0_isRest_0 7 rfl rfl)
theorem dX0_isRest_8 : decode cX0_isRest 8 = .ok (.imul, 1) := dk_104 (dk_at dksX0_isRest_0 8 rfl rfl)
theorem dX0_isRest_9 : decode cX0_isRest 9 = .ok (.iload_n 2, 1) := dk_28 (dk_at dksX0_isRest_0 9 rfl rfl)
theorem dX0_isRest_10 : decode cX0_isRest 10 = .ok (.iadd, 1) := dk_96 (dk_at dksX0_isRest_0 10 rfl rfl)
theorem dX0_isRest_11 : decode cX0_isRest 11 = .ok (.iaload, 1) := dk_46 (dk_at dksX0_isRest_0 11 rfl rfl)
theorem dX0_isRest_12 : decode cX0_isRest 12 = .ok (.aload_n 0, 1) := dk_42 (dk_at dksX0_isRest_0 12 rfl rfl)
theorem dX0_isRest_13 : decode cX0_isRest 13 = .ok (.getfield 90, 3) := dk_180 0 90 (dk_at dksX0_isRest_0 13 rfl rfl)
theorem dX0_isRest_16 : decode cX0_isRest 16 = .ok (.iconst 2, 1) := dk_5 (dk_at dksX0_isRest_0 16 rfl rfl)
theorem dX0_isRest_17 : decode cX0_isRest 17 = .ok (.iload_n 1, 1) := dk_27 (dk_at dksX0_isRest_0 17 rfl rfl)
theorem dX0_isRest_18 : decode cX0_isRest 18 = .ok (.imul, 1) := dk_104 (dk_at dksX0_isRest_0 18 rfl rfl)
theorem dX0_isRest_19 : decode cX0_isRest 19 = .ok (.iload_n 2, 1) := dk_28 (dk_at dksX0_isRest_0 19 rfl rfl)
theorem dX0_isRest_20 : decode cX0_isRest 20 = .ok (.iadd, 1) := dk_96 (dk_at dksX0_isRest_0 20 rfl rfl)
theorem dX0_isRest_21 : decode cX0_isRest 21 = .ok (.iaload, 1) := dk_46 (dk_at dksX0_isRest_0 21 rfl rfl)
theorem dX0_isRest_22 : decode cX0_isRest 22 = .ok (.if_icmp .gt 32, 3) := dk_163 0 32 (dk_at dksX0_isRest_1 0 rfl rfl)
theorem dX0_isRest_25 : decode cX0_isRest 25 = .ok (.aload_n 0, 1) := dk_42 (dk_at dksX0_isRest_1 3 rfl rfl)
theorem dX0_isRest_26 : decode cX0_isRest 26 = .ok (.getfield 93, 3) := dk_180 0 93 (dk_at dksX0_isRest_1 4 rfl rfl)
theorem dX0_isRest_29 : decode cX0_isRest 29 = .ok (.iconst 2, 1) := dk_5 (dk_at dksX0_isRest_1 7 rfl rfl)
theorem dX0_isRest_30 : decode cX0_isRest 30 = .ok (.iload_n 1, 1) := dk_27 (dk_at dksX0_isRest_1 8 rfl rfl)
theorem dX0_isRest_31 : decode cX0_isRest 31 = .ok (.imul, 1) := dk_104 (dk_at dksX0_isRest_1 9 rfl rfl)
theorem dX0_isRest_32 : decode cX0_isRest 32 = .ok (.iconst 1, 1) := dk_4 (dk_at dksX0_isRest_1 10 rfl rfl)
theorem dX0_isRest_33 : decode cX0_isRest 33 = .ok (.iadd, 1) := dk_96 (dk_at dksX0_isRest_1 11 rfl rfl)
theorem dX0_isRest_34 : decode cX0_isRest 34 = .ok (.iload_n 2, 1) := dk_28 (dk_at dksX0_isRest_1 12 rfl rfl)
theorem dX0_isRest_35 : decode cX0_isRest 35 = .ok (.isub, 1) := dk_100 (dk_at dksX0_isRest_1 13 rfl rfl)
theorem dX0_isRest_36 : decode cX0_isRest 36 = .ok (.iaload, 1) := dk_46 (dk_at dksX0_isRest_1 14 rfl rfl)
theorem dX0_isRest_37 : decode cX0_isRest 37 = .ok (.aload_n 0, 1) := dk_42 (dk_at dksX0_isRest_1 15 rfl rfl)
theorem dX0_isRest_38 : decode cX0_isRest 38 = .ok (.getfield 93, 3) := dk_180 0 93 (dk_at dksX0_isRest_1 16 rfl rfl)
theorem dX0_isRest_41 : decode cX0_isRest 41 = .ok (.iconst 2, 1) := dk_5 (dk_at dksX0_isRest_1 19 rfl rfl)
theorem dX0_isRest_42 : decode cX0_isRest 42 = .ok (.iload_n 1, 1) := dk_27 (dk_at dksX0_isRest_1 20 rfl rfl)
theorem dX0_isRest_43 : decode cX0_isRest 43 = .ok (.imul, 1) := dk_104 (dk_at dksX0_isRest_1 21 rfl rfl)
theorem dX0_isRest_44 : decode cX0_isRest 44 = .ok (.iload_n 2, 1) := dk_28 (dk_at dksX0_isRest_1 22 rfl rfl)
theorem dX0_isRest_45 : decode cX0_isRest 45 = .ok (.iadd, 1) := dk_96 (dk_at dksX0_isRest_1 23 rfl rfl)
theorem dX0_isRest_46 : decode cX0_isRest 46 = .ok (.iaload, 1) := dk_46 (dk_at dksX0_isRest_2 0 rfl rfl)
theorem dX0_isRest_47 : decode cX0_isRest 47 = .ok (.if_icmp .gt 7, 3) := dk_163 0 7 (dk_at dksX0_isRest_2 1 rfl rfl)
theorem dX0_isRest_50 : decode cX0_isRest 50 = .ok (.iconst 1, 1) := dk_4 (dk_at dksX0_isRest_2 4 rfl rfl)
theorem dX0_isRest_51 : decode cX0_isRest 51 = .ok (.goto 4, 3) := dk_167 0 4 (dk_at dksX0_isRest_2 5 rfl rfl)
theorem dX0_isRest_54 : decode cX0_isRest 54 = .ok (.iconst 0, 1) := dk_3 (dk_at dksX0_isRest_2 8 rfl rfl)
theorem dX0_isRest_55 : decode cX0_isRest 55 = .ok (.ireturn, 1) := dk_172 (dk_at dksX0_isRest_2 9 rfl rfl)
abbrev cX0_ring : ByteArray := prog_1_method_43_code
def yX0_ring : MethodName := ⟨RX0, "ring", "(I)I"⟩
def dkwX0_ring_5 : List UInt8 := [167, 0, 6, 29, 28, 100, 172, 132, 3, 1, 167, 255, 218, 132, 2, 1, 167, 255, 202, 16, 254, 172]
abbrev dktX0_ring_5 : List UInt8 := dkwX0_ring_5 ++ []
def dkwX0_ring_4 : List UInt8 := [42, 28, 29, 182, 1, 36, 153, 0, 23, 27, 154, 0, 15, 42, 180, 0, 138, 180, 0, 217, 28, 96]
abbrev dktX0_ring_4 : List UInt8 := dkwX0_ring_4 ++ dktX0_ring_5
def dkwX0_ring_3 : List UInt8 := [132, 2, 1, 167, 255, 214, 3, 61, 28, 16, 60, 162, 0, 54, 28, 4, 96, 62, 29, 16, 60, 163, 0, 38]
abbrev dktX0_ring_3 : List UInt8 := dkwX0_ring_3 ++ dktX0_ring_4
def dkwX0_ring_2 : List UInt8 := [180, 0, 96, 16, 8, 28, 104, 16, 8, 184, 0, 205, 42, 180, 0, 16, 42, 182, 0, 223, 182, 0, 226, 87]
abbrev dktX0_ring_2 : List UInt8 := dkwX0_ring_2 ++ dktX0_ring_3
def dkwX0_ring_1 : List UInt8 := [180, 0, 138, 182, 0, 134, 87, 3, 61, 28, 16, 60, 163, 0, 42, 42, 180, 0, 16, 180, 0, 165, 3, 42]
abbrev dktX0_ring_1 : List UInt8 := dkwX0_ring_1 ++ dktX0_ring_2
def dkwX0_ring_0 : List UInt8 := [42, 180, 0, 138, 198, 0, 13, 27, 133, 9, 10, 184, 0, 178, 154, 0, 5, 2, 172, 42, 180, 0, 16, 42]
abbrev dktX0_ring_0 : List UInt8 := dkwX0_ring_0 ++ dktX0_ring_1
theorem dksX0_ring_0 : cX0_ring.data.toList.drop 0 = dktX0_ring_0 := by decide +kernel
theorem dksX0_ring_1 : cX0_ring.data.toList.drop 24 = dktX0_ring_1 := dk_seg dksX0_ring_0 24 rfl rfl
theorem dksX0_ring_2 : cX0_ring.data.toList.drop 48 = dktX0_ring_2 := dk_seg dksX0_ring_1 24 rfl rfl
theorem dksX0_ring_3 : cX0_ring.data.toList.drop 72 = dktX0_ring_3 := dk_seg dksX0_ring_2 24 rfl rfl
theorem dksX0_ring_4 : cX0_ring.data.toList.drop 96 = dktX0_ring_4 := dk_seg dksX0_ring_3 24 rfl rfl
theorem dksX0_ring_5 : cX0_ring.data.toList.drop 118 = dktX0_ring_5 := dk_seg dksX0_ring_4 22 rfl rfl
theorem dX0_ring_0 : decode cX0_ring 0 = .ok (.aload_n 0, 1) := dk_42 (dk_at dksX0_ring_0 0 rfl rfl)
theorem dX0_ring_1 : decode cX0_ring 1 = .ok (.getfield 138, 3) := dk_180 0 138 (dk_at dksX0_ring_0 1 rfl rfl)
theorem dX0_ring_4 : decode cX0_ring 4 = .ok (.ifnull 13, 3) := dk_198 0 13 (dk_at dksX0_ring_0 4 rfl rfl)
theorem dX0_ring_7 : decode cX0_ring 7 = .ok (.iload_n 1, 1) := dk_27 (dk_at dksX0_ring_0 7 rfl rfl)
theorem dX0_ring_8 : decode cX0_ring 8 = .ok (.i2l, 1) := dk_133 (dk_at dksX0_ring_0 8 rfl rfl)
theorem dX0_ring_9 : decode cX0_ring 9 = .ok (.lconst 0, 1) := dk_9 (dk_at dksX0_ring_0 9 rfl rfl)
theorem dX0_ring_10 : decode cX0_ring 10 = .ok (.lconst 1, 1) := dk_10 (dk_at dksX0_ring_0 10 rfl rfl)
theorem dX0_ring_11 : decode cX0_ring 11 = .ok (.invokestatic 178, 3) := dk_184 0 178 (dk_at dksX0_ring_0 11 rfl rfl)
theorem dX0_ring_14 : decode cX0_ring 14 = .ok (.ifCond .ne 5, 3) := dk_154 0 5 (dk_at dksX0_ring_0 14 rfl rfl)
theorem dX0_ring_17 : decode cX0_ring 17 = .ok (.iconst (-1), 1) := dk_2 (dk_at dksX0_ring_0 17 rfl rfl)
theorem dX0_ring_18 : decode cX0_ring 18 = .ok (.ireturn, 1) := dk_172 (dk_at dksX0_ring_0 18 rfl rfl)
theorem dX0_ring_19 : decode cX0_ring 19 = .ok (.aload_n 0, 1) := dk_42 (dk_at dksX0_ring_0 19 rfl rfl)
theorem dX0_ring_20 : decode cX0_ring 20 = .ok (.getfield 16, 3) := dk_180 0 16 (dk_at dksX0_ring_0 20 rfl rfl)
theorem dX0_ring_23 : decode cX0_ring 23 = .ok (.aload_n 0, 1) := dk_42 (dk_at dksX0_ring_0 23 rfl rfl)
theorem dX0_ring_24 : decode cX0_ring 24 = .ok (.getfield 138, 3) := dk_180 0 138 (dk_at dksX0_ring_1 0 rfl rfl)
theorem dX0_ring_27 : decode cX0_ring 27 = .ok (.invokevirtual 134, 3) := dk_182 0 134 (dk_at dksX0_ring_1 3 rfl rfl)
theorem dX0_ring_30 : decode cX0_ring 30 = .ok (.pop, 1) := dk_87 (dk_at dksX0_ring_1 6 rfl rfl)
theorem dX0_ring_31 : decode cX0_ring 31 = .ok (.iconst 0, 1) := dk_3 (dk_at dksX0_ring_1 7 rfl rfl)
theorem dX0_ring_32 : decode cX0_ring 32 = .ok (.istore_n 2, 1) := dk_61 (dk_at dksX0_ring_1 8 rfl rfl)
theorem dX0_ring_33 : decode cX0_ring 33 = .ok (.iload_n 2, 1) := dk_28 (dk_at dksX0_ring_1 9 rfl rfl)
theorem dX0_ring_34 : decode cX0_ring 34 = .ok (.bipush 60, 2) := dk_16 60 (dk_at dksX0_ring_1 10 rfl rfl)
theorem dX0_ring_36 : decode cX0_ring 36 = .ok (.if_icmp .gt 42, 3) := dk_163 0 42 (dk_at dksX0_ring_1 12 rfl rfl)
theorem dX0_ring_39 : decode cX0_ring 39 = .ok (.aload_n 0, 1) := dk_42 (dk_at dksX0_ring_1 15 rfl rfl)
theorem dX0_ring_40 : decode cX0_ring 40 = .ok (.getfield 16, 3) := dk_180 0 16 (dk_at dksX0_ring_1 16 rfl rfl)
theorem dX0_ring_43 : decode cX0_ring 43 = .ok (.getfield 165, 3) := dk_180 0 165 (dk_at dksX0_ring_1 19 rfl rfl)
theorem dX0_ring_46 : decode cX0_ring 46 = .ok (.iconst 0, 1) := dk_3 (dk_at dksX0_ring_1 22 rfl rfl)
theorem dX0_ring_47 : decode cX0_ring 47 = .ok (.aload_n 0, 1) := dk_42 (dk_at dksX0_ring_1 23 rfl rfl)
theorem dX0_ring_48 : decode cX0_ring 48 = .ok (.getfield 96, 3) := dk_180 0 96 (dk_at dksX0_ring_2 0 rfl rfl)
theorem dX0_ring_51 : decode cX0_ring 51 = .ok (.bipush 8, 2) := dk_16 8 (dk_at dksX0_ring_2 3 rfl rfl)
theorem dX0_ring_53 : decode cX0_ring 53 = .ok (.iload_n 2, 1) := dk_28 (dk_at dksX0_ring_2 5 rfl rfl)
theorem dX0_ring_54 : decode cX0_ring 54 = .ok (.imul, 1) := dk_104 (dk_at dksX0_ring_2 6 rfl rfl)
theorem dX0_ring_55 : decode cX0_ring 55 = .ok (.bipush 8, 2) := dk_16 8 (dk_at dksX0_ring_2 7 rfl rfl)
theorem dX0_ring_57 : decode cX0_ring 57 = .ok (.invokestatic 205, 3) := dk_184 0 205 (dk_at dksX0_ring_2 9 rfl rfl)
theorem dX0_ring_60 : decode cX0_ring 60 = .ok (.aload_n 0, 1) := dk_42 (dk_at dksX0_ring_2 12 rfl rfl)
theorem dX0_ring_61 : decode cX0_ring 61 = .ok (.getfield 16, 3) := dk_180 0 16 (dk_at dksX0_ring_2 13 rfl rfl)
theorem dX0_ring_64 : decode cX0_ring 64 = .ok (.aload_n 0, 1) := dk_42 (dk_at dksX0_ring_2 16 rfl rfl)
theorem dX0_ring_65 : decode cX0_ring 65 = .ok (.invokevirtual 223, 3) := dk_182 0 223 (dk_at dksX0_ring_2 17 rfl rfl)
theorem dX0_ring_68 : decode cX0_ring 68 = .ok (.invokevirtual 226, 3) := dk_182 0 226 (dk_at dksX0_ring_2 20 rfl rfl)
theorem dX0_ring_71 : decode cX0_ring 71 = .ok (.pop, 1) := dk_87 (dk_at dksX0_ring_2 23 rfl rfl)
theorem dX0_ring_72 : decode cX0_ring 72 = .ok (.iinc 2 1, 3) := dk_132 2 1 (dk_at dksX0_ring_3 0 rfl rfl)
theorem dX0_ring_75 : decode cX0_ring 75 = .ok (.goto (-42), 3) := dk_167 255 214 (dk_at dksX0_ring_3 3 rfl rfl)
theorem dX0_ring_78 : decode cX0_ring 78 = .ok (.iconst 0, 1) := dk_3 (dk_at dksX0_ring_3 6 rfl rfl)
theorem dX0_ring_79 : decode cX0_ring 79 = .ok (.istore_n 2, 1) := dk_61 (dk_at dksX0_ring_3 7 rfl rfl)
theorem dX0_ring_80 : decode cX0_ring 80 = .ok (.iload_n 2, 1) := dk_28 (dk_at dksX0_ring_3 8 rfl rfl)
theorem dX0_ring_81 : decode cX0_ring 81 = .ok (.bipush 60, 2) := dk_16 60 (dk_at dksX0_ring_3 9 rfl rfl)
theorem dX0_ring_83 : decode cX0_ring 83 = .ok (.if_icmp .ge 54, 3) := dk_162 0 54 (dk_at dksX0_ring_3 11 rfl rfl)
theorem dX0_ring_86 : decode cX0_ring 86 = .ok (.iload_n 2, 1) := dk_28 (dk_at dksX0_ring_3 14 rfl rfl)
theorem dX0_ring_87 : decode cX0_ring 87 = .ok (.iconst 1, 1) := dk_4 (dk_at dksX0_ring_3 15 rfl rfl)
theorem dX0_ring_88 : decode cX0_ring 88 = .ok (.iadd, 1) := dk_96 (dk_at dksX0_ring_3 16 rfl rfl)
theorem dX0_ring_89 : decode cX0_ring 89 = .ok (.istore_n 3, 1) := dk_62 (dk_at dksX0_ring_3 17 rfl rfl)
theorem dX0_ring_90 : decode cX0_ring 90 = .ok (.iload_n 3, 1) := dk_29 (dk_at dksX0_ring_3 18 rfl rfl)
theorem dX0_ring_91 : decode cX0_ring 91 = .ok (.bipush 60, 2) := dk_16 60 (dk_at dksX0_ring_3 19 rfl rfl)
theorem dX0_ring_93 : decode cX0_ring 93 = .ok (.if_icmp .gt 38, 3) := dk_163 0 38 (dk_at dksX0_ring_3 21 rfl rfl)
theorem dX0_ring_96 : decode cX0_ring 96 = .ok (.aload_n 0, 1) := dk_42 (dk_at dksX0_ring_4 0 rfl rfl)
theorem dX0_ring_97 : decode cX0_ring 97 = .ok (.iload_n 2, 1) := dk_28 (dk_at dksX0_ring_4 1 rfl rfl)
theorem dX0_ring_98 : decode cX0_ring 98 = .ok (.iload_n 3, 1) := dk_29 (dk_at dksX0_ring_4 2 rfl rfl)
theorem dX0_ring_99 : decode cX0_ring 99 = .ok (.invokevirtual 292, 3) := dk_182 1 36 (dk_at dksX0_ring_4 3 rfl rfl)
theorem dX0_ring_102 : decode cX0_ring 102 = .ok (.ifCond .eq 23, 3) := dk_153 0 23 (dk_at dksX0_ring_4 6 rfl rfl)
theorem dX0_ring_105 : decode cX0_ring 105 = .ok (.iload_n 1, 1) := dk_27 (dk_at dksX0_ring_4 9 rfl rfl)
theorem dX0_ring_106 : decode cX0_ring 106 = .ok (.ifCond .ne 15, 3) := dk_154 0 15 (dk_at dksX0_ring_4 10 rfl rfl)
theorem dX0_ring_109 : decode cX0_ring 109 = .ok (.aload_n 0, 1) := dk_42 (dk_at dksX0_ring_4 13 rfl rfl)
theorem dX0_ring_110 : decode cX0_ring 110 = .ok (.getfield 138, 3) := dk_180 0 138 (dk_at dksX0_ring_4 14 rfl rfl)
theorem dX0_ring_113 : decode cX0_ring 113 = .ok (.getfield 217, 3) := dk_180 0 217 (dk_at dksX0_ring_4 17 rfl rfl)
theorem dX0_ring_116 : decode cX0_ring 116 = .ok (.iload_n 2, 1) := dk_28 (dk_at dksX0_ring_4 20 rfl rfl)
theorem dX0_ring_117 : decode cX0_ring 117 = .ok (.iadd, 1) := dk_96 (dk_at dksX0_ring_4 21 rfl rfl)
theorem dX0_ring_118 : decode cX0_ring 118 = .ok (.goto 6, 3) := dk_167 0 6 (dk_at dksX0_ring_5 0 rfl rfl)
theorem dX0_ring_121 : decode cX0_ring 121 = .ok (.iload_n 3, 1) := dk_29 (dk_at dksX0_ring_5 3 rfl rfl)
theorem dX0_ring_122 : decode cX0_ring 122 = .ok (.iload_n 2, 1) := dk_28 (dk_at dksX0_ring_5 4 rfl rfl)
theorem dX0_ring_123 : decode cX0_ring 123 = .ok (.isub, 1) := dk_100 (dk_at dksX0_ring_5 5 rfl rfl)
theorem dX0_ring_124 : decode cX0_ring 124 = .ok (.ireturn, 1) := dk_172 (dk_at dksX0_ring_5 6 rfl rfl)
theorem dX0_ring_125 : decode cX0_ring 125 = .ok (.iinc 3 1, 3) := dk_132 3 1 (dk_at dksX0_ring_5 7 rfl rfl)
theorem dX0_ring_128 : decode cX0_ring 128 = .ok (.goto (-38), 3) := dk_167 255 218 (dk_at dksX0_ring_5 10 rfl rfl)
theorem dX0_ring_131 : decode cX0_ring 131 = .ok (.iinc 2 1, 3) := dk_132 2 1 (dk_at dksX0_ring_5 13 rfl rfl)
theorem dX0_ring_134 : decode cX0_ring 134 = .ok (.goto (-54), 3) := dk_167 255 202 (dk_at dksX0_ring_5 16 rfl rfl)
theorem dX0_ring_137 : decode cX0_ring 137 = .ok (.bipush (-2), 2) := dk_16 254 (dk_at dksX0_ring_5 19 rfl rfl)
theorem dX0_ring_139 : decode cX0_ring 139 = .ok (.ireturn, 1) := dk_172 (dk_at dksX0_ring_5 21 rfl rfl)
abbrev cX0_areAlike : ByteArray := prog_1_method_42_code
def yX0_areAlike : MethodName := ⟨RX0, "areAlike", "(II)Z"⟩
def dkwX0_areAlike_1 : List UInt8 := [42, 180, 0, 96, 16, 8, 28, 104, 29, 96, 46, 159, 0, 5, 3, 172, 132, 3, 1, 167, 255, 215, 4, 172]
abbrev dktX0_areAlike_1 : List UInt8 := dkwX0_areAlike_1 ++ []
def dkwX0_areAlike_0 : List UInt8 := [3, 62, 29, 42, 180, 0, 138, 180, 0, 141, 162, 0, 36, 42, 180, 0, 96, 16, 8, 27, 104, 29, 96, 46]
abbrev dktX0_areAlike_0 : List UInt8 := dkwX0_areAlike_0 ++ dktX0_areAlike_1
theorem dksX0_areAlike_0 : cX0_areAlike.data.toList.drop 0 = dktX0_areAlike_0 := by decide +kernel
theorem dksX0_areAlike_1 : cX0_areAlike.data.toList.drop 24 = dktX0_areAlike_1 := dk_seg dksX0_areAlike_0 24 rfl rfl
theorem dX0_areAlike_0 : decode cX0_areAlike 0 = .ok (.iconst 0, 1) := dk_3 (dk_at dksX0_areAlike_0 0 rfl rfl)
theorem dX0_areAlike_1 : decode cX0_areAlike 1 = .ok (.istore_n 3, 1) := dk_62 (dk_at dksX0_areAlike_0 1 rfl rfl)
theorem dX0_areAlike_2 : decode cX0_areAlike 2 = .ok (.iload_n 3, 1) := dk_29 (dk_at dksX0_areAlike_0 2 rfl rfl)
theorem dX0_areAlike_3 : decode cX0_areAlike 3 = .ok (.aload_n 0, 1) := dk_42 (dk_at dksX0_areAlike_0 3 rfl rfl)
theorem dX0_areAlike_4 : decode cX0_areAlike 4 = .ok (.getfield 138, 3) := dk_180 0 138 (dk_at dksX0_areAlike_0 4 rfl rfl)
theorem dX0_areAlike_7 : decode cX0_areAlike 7 = .ok (.getfield 141, 3) := dk_180 0 141 (dk_at dksX0_areAlike_0 7 rfl rfl)
theorem dX0_areAlike_10 : decode cX0_areAlike 10 = .ok (.if_icmp .ge 36, 3) := dk_162 0 36 (dk_at dksX0_areAlike_0 10 rfl rfl)
theorem dX0_areAlike_13 : decode cX0_areAlike 13 = .ok (.aload_n 0, 1) := dk_42 (dk_at dksX0_areAlike_0 13 rfl rfl)
theorem dX0_areAlike_14 : decode cX0_areAlike 14 = .ok (.getfield 96, 3) := dk_180 0 96 (dk_at dksX0_areAlike_0 14 rfl rfl)
theorem dX0_areAlike_17 : decode cX0_areAlike 17 = .ok (.bipush 8, 2) := dk_16 8 (dk_at dksX0_areAlike_0 17 rfl rfl)
theorem dX0_areAlike_19 : decode cX0_areAlike 19 = .ok (.iload_n 1, 1) := dk_27 (dk_at dksX0_areAlike_0 19 rfl rfl)
theorem dX0_areAlike_20 : decode cX0_areAlike 20 = .ok (.imul, 1) := dk_104 (dk_at dksX0_areAlike_0 20 rfl rfl)
theorem dX0_areAlike_21 : decode cX0_areAlike 21 = .ok (.iload_n 3, 1) := dk_29 (dk_at dksX0_areAlike_0 21 rfl rfl)
theorem dX0_areAlike_22 : decode cX0_areAlike 22 = .ok (.iadd, 1) := dk_96 (dk_at dksX0_areAlike_0 22 rfl rfl)
theorem dX0_areAlike_23 : decode cX0_areAlike 23 = .ok (.iaload, 1) := dk_46 (dk_at dksX0_areAlike_0 23 rfl rfl)
theorem dX0_areAlike_24 : decode cX0_areAlike 24 = .ok (.aload_n 0, 1) := dk_42 (dk_at dksX0_areAlike_1 0 rfl rfl)
theorem dX0_areAlike_25 : decode cX0_areAlike 25 = .ok (.getfield 96, 3) := dk_180 0 96 (dk_at dksX0_areAlike_1 1 rfl rfl)
theorem dX0_areAlike_28 : decode cX0_areAlike 28 = .ok (.bipush 8, 2) := dk_16 8 (dk_at dksX0_areAlike_1 4 rfl rfl)
theorem dX0_areAlike_30 : decode cX0_areAlike 30 = .ok (.iload_n 2, 1) := dk_28 (dk_at dksX0_areAlike_1 6 rfl rfl)
theorem dX0_areAlike_31 : decode cX0_areAlike 31 = .ok (.imul, 1) := dk_104 (dk_at dksX0_areAlike_1 7 rfl rfl)
theorem dX0_areAlike_32 : decode cX0_areAlike 32 = .ok (.iload_n 3, 1) := dk_29 (dk_at dksX0_areAlike_1 8 rfl rfl)
theorem dX0_areAlike_33 : decode cX0_areAlike 33 = .ok (.iadd, 1) := dk_96 (dk_at dksX0_areAlike_1 9 rfl rfl)
theorem dX0_areAlike_34 : decode cX0_areAlike 34 = .ok (.iaload, 1) := dk_46 (dk_at dksX0_areAlike_1 10 rfl rfl)
theorem dX0_areAlike_35 : decode cX0_areAlike 35 = .ok (.if_icmp .eq 5, 3) := dk_159 0 5 (dk_at dksX0_areAlike_1 11 rfl rfl)
theorem dX0_areAlike_38 : decode cX0_areAlike 38 = .ok (.iconst 0, 1) := dk_3 (dk_at dksX0_areAlike_1 14 rfl rfl)
theorem dX0_areAlike_39 : decode cX0_areAlike 39 = .ok (.ireturn, 1) := dk_172 (dk_at dksX0_areAlike_1 15 rfl rfl)
theorem dX0_areAlike_40 : decode cX0_areAlike 40 = .ok (.iinc 3 1, 3) := dk_132 3 1 (dk_at dksX0_areAlike_1 16 rfl rfl)
theorem dX0_areAlike_43 : decode cX0_areAlike 43 = .ok (.goto (-41), 3) := dk_167 255 215 (dk_at dksX0_areAlike_1 19 rfl rfl)
theorem dX0_areAlike_46 : decode cX0_areAlike 46 = .ok (.iconst 1, 1) := dk_4 (dk_at dksX0_areAlike_1 22 rfl rfl)
theorem dX0_areAlike_47 : decode cX0_areAlike 47 = .ok (.ireturn, 1) := dk_172 (dk_at dksX0_areAlike_1 23 rfl rfl)
abbrev cX0_pence : ByteArray := prog_1_method_44_code
def yX0_pence : MethodName := ⟨RX0, "pence", "(II)I"⟩
def dkwX0_pence_6 : List UInt8 := [21, 4, 162, 0, 7, 4, 167, 0, 4, 3, 96, 172]
abbrev dktX0_pence_6 : List UInt8 := dkwX0_pence_6 ++ []
def dkwX0_pence_5 : List UInt8 := [162, 0, 7, 4, 167, 0, 4, 3, 96, 54, 5, 132, 7, 1, 167, 255, 181, 21, 6, 29, 108, 21, 5]
abbrev dktX0_pence_5 : List UInt8 := dkwX0_pence_5 ++ dktX0_pence_6
def dkwX0_pence_4 : List UInt8 := [29, 112, 21, 6, 29, 112, 163, 0, 20, 21, 8, 29, 112, 21, 6, 29, 112, 160, 0, 13, 21, 7, 28]
abbrev dktX0_pence_4 : List UInt8 := dkwX0_pence_4 ++ dktX0_pence_5
def dkwX0_pence_3 : List UInt8 := [180, 0, 138, 21, 7, 182, 0, 190, 104, 54, 8, 21, 4, 21, 8, 29, 108, 100, 54, 4, 21, 5, 21, 8]
abbrev dktX0_pence_3 : List UInt8 := dkwX0_pence_3 ++ dktX0_pence_4
def dkwX0_pence_2 : List UInt8 := [28, 182, 0, 190, 104, 54, 6, 3, 54, 7, 21, 7, 42, 180, 0, 138, 180, 0, 141, 162, 0, 69, 27, 42]
abbrev dktX0_pence_2 : List UInt8 := dkwX0_pence_2 ++ dktX0_pence_3
def dkwX0_pence_1 : List UInt8 := [180, 0, 138, 182, 1, 41, 62, 29, 154, 0, 5, 3, 172, 27, 54, 4, 3, 54, 5, 27, 42, 180, 0, 138]
abbrev dktX0_pence_1 : List UInt8 := dkwX0_pence_1 ++ dktX0_pence_2
def dkwX0_pence_0 : List UInt8 := [42, 28, 182, 0, 161, 153, 0, 15, 27, 133, 9, 20, 1, 39, 184, 0, 178, 154, 0, 5, 2, 172, 42]
abbrev dktX0_pence_0 : List UInt8 := dkwX0_pence_0 ++ dktX0_pence_1
theorem dksX0_pence_0 : cX0_pence.data.toList.drop 0 = dktX0_pence_0 := by decide +kernel
theorem dksX0_pence_1 : cX0_pence.data.toList.drop 23 = dktX0_pence_1 := dk_seg dksX0_pence_0 23 rfl rfl
theorem dksX0_pence_2 : cX0_pence.data.toList.drop 47 = dktX0_pence_2 := dk_seg dksX0_pence_1 24 rfl rfl
theorem dksX0_pence_3 : cX0_pence.data.toList.drop 71 = dktX0_pence_3 := dk_seg dksX0_pence_2 24 rfl rfl
theorem dksX0_pence_4 : cX0_pence.data.toList.drop 95 = dktX0_pence_4 := dk_seg dksX0_pence_3 24 rfl rfl
theorem dksX0_pence_5 : cX0_pence.data.toList.drop 118 = dktX0_pence_5 := dk_seg dksX0_pence_4 23 rfl rfl
theorem dksX0_pence_6 : cX0_pence.data.toList.drop 141 = dktX0_pence_6 := dk_seg dksX0_pence_5 23 rfl rfl
theorem dX0_pence_0 : decode cX0_pence 0 = .ok (.aload_n 0, 1) := dk_42 (dk_at dksX0_pence_0 0 rfl rfl)
theorem dX0_pence_1 : decode cX0_pence 1 = .ok (.iload_n 2, 1) := dk_28 (dk_at dksX0_pence_0 1 rfl rfl)
theorem dX0_pence_2 : decode cX0_pence 2 = .ok (.invokevirtual 161, 3) := dk_182 0 161 (dk_at dksX0_pence_0 2 rfl rfl)
theorem dX0_pence_5 : decode cX0_pence 5 = .ok (.ifCond .eq 15, 3) := dk_153 0 15 (dk_at dksX0_pence_0 5 rfl rfl)
theorem dX0_pence_8 : decode cX0_pence 8 = .ok (.iload_n 1, 1) := dk_27 (dk_at dksX0_pence_0 8 rfl rfl)
theorem dX0_pence_9 : decode cX0_pence 9 = .ok (.i2l, 1) := dk_133 (dk_at dksX0_pence_0 9 rfl rfl)
theorem dX0_pence_10 : decode cX0_pence 10 = .ok (.lconst 0, 1) := dk_9 (dk_at dksX0_pence_0 10 rfl rfl)
theorem dX0_pence_11 : decode cX0_pence 11 = .ok (.ldc2_w 295, 3) := dk_20 1 39 (dk_at dksX0_pence_0 11 rfl rfl)
theorem dX0_pence_14 : decode cX0_pence 14 = .ok (.invokestatic 178, 3) := dk_184 0 178 (dk_at dksX0_pence_0 14 rfl rfl)
theorem dX0_pence_17 : decode cX0_pence 17 = .ok (.ifCond .ne 5, 3) := dk_154 0 5 (dk_at dksX0_pence_0 17 rfl rfl)
theorem dX0_pence_20 : decode cX0_pence 20 = .ok (.iconst (-1), 1) := dk_2 (dk_at dksX0_pence_0 20 rfl rfl)
theorem dX0_pence_21 : decode cX0_pence 21 = .ok (.ireturn, 1) := dk_172 (dk_at dksX0_pence_0 21 rfl rfl)
theorem dX0_pence_22 : decode cX0_pence 22 = .ok (.aload_n 0, 1) := dk_42 (dk_at dksX0_pence_0 22 rfl rfl)
theorem dX0_pence_23 : decode cX0_pence 23 = .ok (.getfield 138, 3) := dk_180 0 138 (dk_at dksX0_pence_1 0 rfl rfl)
theorem dX0_pence_26 : decode cX0_pence 26 = .ok (.invokevirtual 297, 3) := dk_182 1 41 (dk_at dksX0_pence_1 3 rfl rfl)
theorem dX0_pence_29 : decode cX0_pence 29 = .ok (.istore_n 3, 1) := dk_62 (dk_at dksX0_pence_1 6 rfl rfl)
theorem dX0_pence_30 : decode cX0_pence 30 = .ok (.iload_n 3, 1) := dk_29 (dk_at dksX0_pence_1 7 rfl rfl)
theorem dX0_pence_31 : decode cX0_pence 31 = .ok (.ifCond .ne 5, 3) := dk_154 0 5 (dk_at dksX0_pence_1 8 rfl rfl)
theorem dX0_pence_34 : decode cX0_pence 34 = .ok (.iconst 0, 1) := dk_3 (dk_at dksX0_pence_1 11 rfl rfl)
theorem dX0_pence_35 : decode cX0_pence 35 = .ok (.ireturn, 1) := dk_172 (dk_at dksX0_pence_1 12 rfl rfl)
theorem dX0_pence_36 : decode cX0_pence 36 = .ok (.iload_n 1, 1) := dk_27 (dk_at dksX0_pence_1 13 rfl rfl)
theorem dX0_pence_37 : decode cX0_pence 37 = .ok (.istore 4, 2) := dk_54 4 (dk_at dksX0_pence_1 14 rfl rfl)
theorem dX0_pence_39 : decode cX0_pence 39 = .ok (.iconst 0, 1) := dk_3 (dk_at dksX0_pence_1 16 rfl rfl)
theorem dX0_pence_40 : decode cX0_pence 40 = .ok (.istore 5, 2) := dk_54 5 (dk_at dksX0_pence_1 17 rfl rfl)
theorem dX0_pence_42 : decode cX0_pence 42 = .ok (.iload_n 1, 1) := dk_27 (dk_at dksX0_pence_1 19 rfl rfl)
theorem dX0_pence_43 : decode cX0_pence 43 = .ok (.aload_n 0, 1) := dk_42 (dk_at dksX0_pence_1 20 rfl rfl)
theorem dX0_pence_44 : decode cX0_pence 44 = .ok (.getfield 138, 3) := dk_180 0 138 (dk_at dksX0_pence_1 21 rfl rfl)
theorem dX0_pence_47 : decode cX0_pence 47 = .ok (.iload_n 2, 1) := dk_28 (dk_at dksX0_pence_2 0 rfl rfl)
theorem dX0_pence_48 : decode cX0_pence 48 = .ok (.invokevirtual 190, 3) := dk_182 0 190 (dk_at dksX0_pence_2 1 rfl rfl)
theorem dX0_pence_51 : decode cX0_pence 51 = .ok (.imul, 1) := dk_104 (dk_at dksX0_pence_2 4 rfl rfl)
theorem dX0_pence_52 : decode cX0_pence 52 = .ok (.istore 6, 2) := dk_54 6 (dk_at dksX0_pence_2 5 rfl rfl)
theorem dX0_pence_54 : decode cX0_pence 54 = .ok (.iconst 0, 1) := dk_3 (dk_at dksX0_pence_2 7 rfl rfl)
theorem dX0_pence_55 : decode cX0_pence 55 = .ok (.istore 7, 2) := dk_54 7 (dk_at dksX0_pence_2 8 rfl rfl)
theorem dX0_pence_57 : decode cX0_pence 57 = .ok (.iload 7, 2) := dk_21 7 (dk_at dksX0_pence_2 10 rfl rfl)
theorem dX0_pence_59 : decode cX0_pence 59 = .ok (.aload_n 0, 1) := dk_42 (dk_at dksX0_pence_2 12 rfl rfl)
theorem dX0_pence_60 : decode cX0_pence 60 = .ok (.getfield 138, 3) := dk_180 0 138 (dk_at dksX0_pence_2 13 rfl rfl)
theorem dX0_pence_63 : decode cX0_pence 63 = .ok (.getfield 141, 3) := dk_180 0 141 (dk_at dksX0_pence_2 16 rfl rfl)
theorem dX0_pence_66 : decode cX0_pence 66 = .ok (.if_icmp .ge 69, 3) := dk_162 0 69 (dk_at dksX0_pence_2 19 rfl rfl)
theorem dX0_pence_69 : decode cX0_pence 69 = .ok (.iload_n 1, 1) := dk_27 (dk_at dksX0_pence_2 22 rfl rfl)
theorem dX0_pence_70 : decode cX0_pence 70 = .ok (.aload_n 0, 1) := dk_42 (dk_at dksX0_pence_2 23 rfl rfl)
theorem dX0_pence_71 : decode cX0_pence 71 = .ok (.getfield 138, 3) := dk_180 0 138 (dk_at dksX0_pence_3 0 rfl rfl)
theorem dX0_pence_74 : decode cX0_pence 74 = .ok (.iload 7, 2) := dk_21 7 (dk_at dksX0_pence_3 3 rfl rfl)
theorem dX0_pence_76 : decode cX0_pence 76 = .ok (.invokevirtual 190, 3) := dk_182 0 190 (dk_at dksX0_pence_3 5 rfl rfl)
theorem dX0_pence_79 : decode cX0_pence 79 = .ok (.imul, 1) := dk_104 (dk_at dksX0_pence_3 8 rfl rfl)
theorem dX0_pence_80 : decode cX0_pence 80 = .ok (.istore 8, 2) := dk_54 8 (dk_at dksX0_pence_3 9 rfl rfl)
theorem dX0_pence_82 : decode cX0_pence 82 = .ok (.iload 4, 2) := dk_21 4 (dk_at dksX0_pence_3 11 rfl rfl)
theorem dX0_pence_84 : decode cX0_pence 84 = .ok (.iload 8, 2) := dk_21 8 (dk_at dksX0_pence_3 13 rfl rfl)
theorem dX0_pence_86 : decode cX0_pence 86 = .ok (.iload_n 3, 1) := dk_29 (dk_at dksX0_pence_3 15 rfl rfl)
theorem dX0_pence_87 : decode cX0_pence 87 = .ok (.idiv, 1) := dk_108 (dk_at dksX0_pence_3 16 rfl rfl)
theorem dX0_pence_88 : decode cX0_pence 88 = .ok (.isub, 1) := dk_100 (dk_at dksX0_pence_3 17 rfl rfl)
theorem dX0_pence_89 : decode cX0_pence 89 = .ok (.istore 4, 2) := dk_54 4 (dk_at dksX0_pence_3 18 rfl rfl)
theorem dX0_pence_91 : decode cX0_pence 91 = .ok (.iload 5, 2) := dk_21 5 (dk_at dksX0_pence_3 20 rfl rfl)
theorem dX0_pence_93 : decode cX0_pence 93 = .ok (.iload 8, 2) := dk_21 8 (dk_at dksX0_pence_3 22 rfl rfl)
theorem dX0_pence_95 : decode cX0_pence 95 = .ok (.iload_n 3, 1) := dk_29 (dk_at dksX0_pence_4 0 rfl rfl)
theorem dX0_pence_96 : decode cX0_pence 96 = .ok (.irem, 1) := dk_112 (dk_at dksX0_pence_4 1 rfl rfl)
theorem dX0_pence_97 : decode cX0_pence 97 = .ok (.iload 6, 2) := dk_21 6 (dk_at dksX0_pence_4 2 rfl rfl)
theorem dX0_pence_99 : decode cX0_pence 99 = .ok (.iload_n 3, 1) := dk_29 (dk_at dksX0_pence_4 4 rfl rfl)
theorem dX0_pence_100 : decode cX0_pence 100 = .ok (.irem, 1) := dk_112 (dk_at dksX0_pence_4 5 rfl rfl)
theorem dX0_pence_101 : decode cX0_pence 101 = .ok (.if_icmp .gt 20, 3) := dk_163 0 20 (dk_at dksX0_pence_4 6 rfl rfl)
theorem dX0_pence_104 : decode cX0_pence 104 = .ok (.iload 8, 2) := dk_21 8 (dk_at dksX0_pence_4 9 rfl rfl)
theorem dX0_pence_106 : decode cX0_pence 106 = .ok (.iload_n 3, 1) := dk_29 (dk_at dksX0_pence_4 11 rfl rfl)
theorem dX0_pence_107 : decode cX0_pence 107 = .ok (.irem, 1) := dk_112 (dk_at dksX0_pence_4 12 rfl rfl)
theorem dX0_pence_108 : decode cX0_pence 108 = .ok (.iload 6, 2) := dk_21 6 (dk_at dksX0_pence_4 13 rfl rfl)
theorem dX0_pence_110 : decode cX0_pence 110 = .ok (.iload_n 3, 1) := dk_29 (dk_at dksX0_pence_4 15 rfl rfl)
theorem dX0_pence_111 : decode cX0_pence 111 = .ok (.irem, 1) := dk_112 (dk_at dksX0_pence_4 16 rfl rfl)
theorem dX0_pence_112 : decode cX0_pence 112 = .ok (.if_icmp .ne 13, 3) := dk_160 0 13 (dk_at dksX0_pence_4 17 rfl rfl)
theorem dX0_pence_115 : decode cX0_pence 115 = .ok (.iload 7, 2) := dk_21 7 (dk_at dksX0_pence_4 20 rfl rfl)
theorem dX0_pence_117 : decode cX0_pence 117 = .ok (.iload_n 2, 1) := dk_28 (dk_at dksX0_pence_4 22 rfl rfl)
theorem dX0_pence_118 : decode cX0_pence 118 = .ok (.if_icmp .ge 7, 3) := dk_162 0 7 (dk_at dksX0_pence_5 0 rfl rfl)
theorem dX0_pence_121 : decode cX0_pence 121 = .ok (.iconst 1, 1) := dk_4 (dk_at dksX0_pence_5 3 rfl rfl)
theorem dX0_pence_122 : decode cX0_pence 122 = .ok (.goto 4, 3) := dk_167 0 4 (dk_at dksX0_pence_5 4 rfl rfl)
theorem dX0_pence_125 : decode cX0_pence 125 = .ok (.iconst 0, 1) := dk_3 (dk_at dksX0_pence_5 7 rfl rfl)
theorem dX0_pence_126 : decode cX0_pence 126 = .ok (.iadd, 1) := dk_96 (dk_at dksX0_pence_5 8 rfl rfl)
theorem dX0_pence_127 : decode cX0_pence 127 = .ok (.istore 5, 2) := dk_54 5 (dk_at dksX0_pence_5 9 rfl rfl)
theorem dX0_pence_129 : decode cX0_pence 129 = .ok (.iinc 7 1, 3) := dk_132 7 1 (dk_at dksX0_pence_5 11 rfl rfl)
theorem dX0_pence_132 : decode cX0_pence 132 = .ok (.goto (-75), 3) := dk_167 255 181 (dk_at dksX0_pence_5 14 rfl rfl)
theorem dX0_pence_135 : decode cX0_pence 135 = .ok (.iload 6, 2) := dk_21 6 (dk_at dksX0_pence_5 17 rfl rfl)
theorem dX0_pence_137 : decode cX0_pence 137 = .ok (.iload_n 3, 1) := dk_29 (dk_at dksX0_pence_5 19 rfl rfl)
theorem dX0_pence_138 : decode cX0_pence 138 = .ok (.idiv, 1) := dk_108 (dk_at dksX0_pence_5 20 rfl rfl)
theorem dX0_pence_139 : decode cX0_pence 139 = .ok (.iload 5, 2) := dk_21 5 (dk_at dksX0_pence_5 21 rfl rfl)
theorem dX0_pence_141 : decode cX0_pence 141 = .ok (.iload 4, 2) := dk_21 4 (dk_at dksX0_pence_6 0 rfl rfl)
theorem dX0_pence_143 : decode cX0_pence 143 = .ok (.if_icmp .ge 7, 3) := dk_162 0 7 (dk_at dksX0_pence_6 2 rfl rfl)
theorem dX0_pence_146 : decode cX0_pence 146 = .ok (.iconst 1, 1) := dk_4 (dk_at dksX0_pence_6 5 rfl rfl)
theorem dX0_pence_147 : decode cX0_pence 147 = .ok (.goto 4, 3) := dk_167 0 4 (dk_at dksX0_pence_6 6 rfl rfl)
theorem dX0_pence_150 : decode cX0_pence 150 = .ok (.iconst 0, 1) := dk_3 (dk_at dksX0_pence_6 9 rfl rfl)
theorem dX0_pence_151 : decode cX0_pence 151 = .ok (.iadd, 1) := dk_96 (dk_at dksX0_pence_6 10 rfl rfl)
theorem dX0_pence_152 : decode cX0_pence 152 = .ok (.ireturn, 1) := dk_172 (dk_at dksX0_pence_6 11 rfl rfl)
abbrev cX0_note : ByteArray := prog_1_method_45_code
def yX0_note : MethodName := ⟨RX0, "note", "(III)I"⟩
def dkwX0_note_5 : List UInt8 := [180, 0, 138, 89, 180, 1, 44, 4, 96, 181, 1, 44, 42, 180, 0, 138, 180, 1, 44, 172]
abbrev dktX0_note_5 : List UInt8 := dkwX0_note_5 ++ []
def dkwX0_note_4 : List UInt8 := [180, 1, 49, 21, 4, 4, 96, 28, 79, 42, 180, 0, 138, 180, 1, 49, 21, 4, 5, 96, 29, 79, 42]
abbrev dktX0_note_4 : List UInt8 := dkwX0_note_4 ++ dktX0_note_5
def dkwX0_note_3 : List UInt8 := [180, 0, 138, 180, 1, 44, 104, 54, 4, 42, 180, 0, 138, 180, 1, 49, 21, 4, 27, 79, 42, 180, 0, 138]
abbrev dktX0_note_3 : List UInt8 := dkwX0_note_3 ++ dktX0_note_4
def dkwX0_note_2 : List UInt8 := [184, 0, 178, 153, 0, 15, 42, 180, 0, 138, 180, 1, 44, 16, 10, 160, 0, 6, 16, 254, 172, 6, 42]
abbrev dktX0_note_2 : List UInt8 := dkwX0_note_2 ++ dktX0_note_3
def dkwX0_note_1 : List UInt8 := [9, 20, 1, 47, 184, 0, 178, 153, 0, 35, 42, 28, 182, 0, 161, 153, 0, 27, 29, 133, 9, 20, 0, 193]
abbrev dktX0_note_1 : List UInt8 := dkwX0_note_1 ++ dktX0_note_2
def dkwX0_note_0 : List UInt8 := [27, 2, 160, 0, 20, 42, 180, 0, 138, 198, 0, 11, 42, 180, 0, 138, 3, 181, 1, 44, 3, 172, 27, 133]
abbrev dktX0_note_0 : List UInt8 := dkwX0_note_0 ++ dktX0_note_1
theorem dksX0_note_0 : cX0_note.data.toList.drop 0 = dktX0_note_0 := by decide +kernel
theorem dksX0_note_1 : cX0_note.data.toList.drop 24 = dktX0_note_1 := dk_seg dksX0_note_0 24 rfl rfl
theorem dksX0_note_2 : cX0_note.data.toList.drop 48 = dktX0_note_2 := dk_seg dksX0_note_1 24 rfl rfl
theorem dksX0_note_3 : cX0_note.data.toList.drop 71 = dktX0_note_3 := dk_seg dksX0_note_2 23 rfl rfl
theorem dksX0_note_4 : cX0_note.data.toList.drop 95 = dktX0_note_4 := dk_seg dksX0_note_3 24 rfl rfl
theorem dksX0_note_5 : cX0_note.data.toList.drop 118 = dktX0_note_5 := dk_seg dksX0_note_4 23 rfl rfl
theorem dX0_note_0 : decode cX0_note 0 = .ok (.iload_n 1, 1) := dk_27 (dk_at dksX0_note_0 0 rfl rfl)
theorem dX0_note_1 : decode cX0_note 1 = .ok (.iconst (-1), 1) := dk_2 (dk_at dksX0_note_0 1 rfl rfl)
theorem dX0_note_2 : decode cX0_note 2 = .ok (.if_icmp .ne 20, 3) := dk_160 0 20 (dk_at dksX0_note_0 2 rfl rfl)
theorem dX0_note_5 : decode cX0_note 5 = .ok (.aload_n 0, 1) := dk_42 (dk_at dksX0_note_0 5 rfl rfl)
theorem dX0_note_6 : decode cX0_note 6 = .ok (.getfield 138, 3) := dk_180 0 138 (dk_at dksX0_note_0 6 rfl rfl)
theorem dX0_note_9 : decode cX0_note 9 = .ok (.ifnull 11, 3) := dk_198 0 11 (dk_at dksX0_note_0 9 rfl rfl)
theorem dX0_note_12 : decode cX0_note 12 = .ok (.aload_n 0, 1) := dk_42 (dk_at dksX0_note_0 12 rfl rfl)
theorem dX0_note_13 : decode cX0_note 13 = .ok (.getfield 138, 3) := dk_180 0 138 (dk_at dksX0_note_0 13 rfl rfl)
theorem dX0_note_16 : decode cX0_note 16 = .ok (.iconst 0, 1) := dk_3 (dk_at dksX0_note_0 16 rfl rfl)
theorem dX0_note_17 : decode cX0_note 17 = .ok (.putfield 300, 3) := dk_181 1 44 (dk_at dksX0_note_0 17 rfl rfl)
theorem dX0_note_20 : decode cX0_note 20 = .ok (.iconst 0, 1) := dk_3 (dk_at dksX0_note_0 20 rfl rfl)
theorem dX0_note_21 : decode cX0_note 21 = .ok (.ireturn, 1) := dk_172 (dk_at dksX0_note_0 21 rfl rfl)
theorem dX0_note_22 : decode cX0_note 22 = .ok (.iload_n 1, 1) := dk_27 (dk_at dksX0_note_0 22 rfl rfl)
theorem dX0_note_23 : decode cX0_note 23 = .ok (.i2l, 1) := dk_133 (dk_at dksX0_note_0 23 rfl rfl)
theorem dX0_note_24 : decode cX0_note 24 = .ok (.lconst 0, 1) := dk_9 (dk_at dksX0_note_1 0 rfl rfl)
theorem dX0_note_25 : decode cX0_note 25 = .ok (.ldc2_w 303, 3) := dk_20 1 47 (dk_at dksX0_note_1 1 rfl rfl)
theorem dX0_note_28 : decode cX0_note 28 = .ok (.invokestatic 178, 3) := dk_184 0 178 (dk_at dksX0_note_1 4 rfl rfl)
theorem dX0_note_31 : decode cX0_note 31 = .ok (.ifCond .eq 35, 3) := dk_153 0 35 (dk_at dksX0_note_1 7 rfl rfl)
theorem dX0_note_34 : decode cX0_note 34 = .ok (.aload_n 0, 1) := dk_42 (dk_at dksX0_note_1 10 rfl rfl)
theorem dX0_note_35 : decode cX0_note 35 = .ok (.iload_n 2, 1) := dk_28 (dk_at dksX0_note_1 11 rfl rfl)
theorem dX0_note_36 : decode cX0_note 36 = .ok (.invokevirtual 161, 3) := dk_182 0 161 (dk_at dksX0_note_1 12 rfl rfl)
theorem dX0_note_39 : decode cX0_note 39 = .ok (.ifCond .eq 27, 3) := dk_153 0 27 (dk_at dksX0_note_1 15 rfl rfl)
theorem dX0_note_42 : decode cX0_note 42 = .ok (.iload_n 3, 1) := dk_29 (dk_at dksX0_note_1 18 rfl rfl)
theorem dX0_note_43 : decode cX0_note 43 = .ok (.i2l, 1) := dk_133 (dk_at dksX0_note_1 19 rfl rfl)
theorem dX0_note_44 : decode cX0_note 44 = .ok (.lconst 0, 1) := dk_9 (dk_at dksX0_note_1 20 rfl rfl)
theorem dX0_note_45 : decode cX0_note 45 = .ok (.ldc2_w 193, 3) := dk_20 0 193 (dk_at dksX0_note_1 21 rfl rfl)
theorem dX0_note_48 : decode cX0_note 48 = .ok (.invokestatic 178, 3) := dk_184 0 178 (dk_at dksX0_note_2 0 rfl rfl)
theorem dX0_note_51 : decode cX0_note 51 = .ok (.ifCond .eq 15, 3) := dk_153 0 15 (dk_at dksX0_note_2 3 rfl rfl)
theorem dX0_note_54 : decode cX0_note 54 = .ok (.aload_n 0, 1) := dk_42 (dk_at dksX0_note_2 6 rfl rfl)
theorem dX0_note_55 : decode cX0_note 55 = .ok (.getfield 138, 3) := dk_180 0 138 (dk_at dksX0_note_2 7 rfl rfl)
theorem dX0_note_58 : decode cX0_note 58 = .ok (.getfield 300, 3) := dk_180 1 44 (dk_at dksX0_note_2 10 rfl rfl)
theorem dX0_note_61 : decode cX0_note 61 = .ok (.bipush 10, 2) := dk_16 10 (dk_at dksX0_note_2 13 rfl rfl)
theorem dX0_note_63 : decode cX0_note 63 = .ok (.if_icmp .ne 6, 3) := dk_160 0 6 (dk_at dksX0_note_2 15 rfl rfl)
theorem dX0_note_66 : decode cX0_note 66 = .ok (.bipush (-2), 2) := dk_16 254 (dk_at dksX0_note_2 18 rfl rfl)
theorem dX0_note_68 : decode cX0_note 68 = .ok (.ireturn, 1) := dk_172 (dk_at dksX0_note_2 20 rfl rfl)
theorem dX0_note_69 : decode cX0_note 69 = .ok (.iconst 3, 1) := dk_6 (dk_at dksX0_note_2 21 rfl rfl)
theorem dX0_note_70 : decode cX0_note 70 = .ok (.aload_n 0, 1) := dk_42 (dk_at dksX0_note_2 22 rfl rfl)
theorem dX0_note_71 : decode cX0_note 71 = .ok (.getfield 138, 3) := dk_180 0 138 (dk_at dksX0_note_3 0 rfl rfl)
theorem dX0_note_74 : decode cX0_note 74 = .ok (.getfield 300, 3) := dk_180 1 44 (dk_at dksX0_note_3 3 rfl rfl)
theorem dX0_note_77 : decode cX0_note 77 = .ok (.imul, 1) := dk_104 (dk_at dksX0_note_3 6 rfl rfl)
theorem dX0_note_78 : decode cX0_note 78 = .ok (.istore 4, 2) := dk_54 4 (dk_at dksX0_note_3 7 rfl rfl)
theorem dX0_note_80 : decode cX0_note 80 = .ok (.aload_n 0, 1) := dk_42 (dk_at dksX0_note_3 9 rfl rfl)
theorem dX0_note_81 : decode cX0_note 81 = .ok (.getfield 138, 3) := dk_180 0 138 (dk_at dksX0_note_3 10 rfl rfl)
theorem dX0_note_84 : decode cX0_note 84 = .ok (.getfield 305, 3) := dk_180 1 49 (dk_at dksX0_note_3 13 rfl rfl)
theorem dX0_note_87 : decode cX0_note 87 = .ok (.iload 4, 2) := dk_21 4 (dk_at dksX0_note_3 16 rfl rfl)
theorem dX0_note_89 : decode cX0_note 89 = .ok (.iload_n 1, 1) := dk_27 (dk_at dksX0_note_3 18 rfl rfl)
theorem dX0_note_90 : decode cX0_note 90 = .ok (.iastore, 1) := dk_79 (dk_at dksX0_note_3 19 rfl rfl)
theorem dX0_note_91 : decode cX0_note 91 = .ok (.aload_n 0, 1) := dk_42 (dk_at dksX0_note_3 20 rfl rfl)
theorem dX0_note_92 : decode cX0_note 92 = .ok (.getfield 138, 3) := dk_180 0 138 (dk_at dksX0_note_3 21 rfl rfl)
theorem dX0_note_95 : decode cX0_note 95 = .ok (.getfield 305, 3) := dk_180 1 49 (dk_at dksX0_note_4 0 rfl rfl)
theorem dX0_note_98 : decode cX0_note 98 = .ok (.iload 4, 2) := dk_21 4 (dk_at dksX0_note_4 3 rfl rfl)
theorem dX0_note_100 : decode cX0_note 100 = .ok (.iconst 1, 1) := dk_4 (dk_at dksX0_note_4 5 rfl rfl)
theorem dX0_note_101 : decode cX0_note 101 = .ok (.iadd, 1) := dk_96 (dk_at dksX0_note_4 6 rfl rfl)
theorem dX0_note_102 : decode cX0_note 102 = .ok (.iload_n 2, 1) := dk_28 (dk_at dksX0_note_4 7 rfl rfl)
theorem dX0_note_103 : decode cX0_note 103 = .ok (.iastore, 1) := dk_79 (dk_at dksX0_note_4 8 rfl rfl)
theorem dX0_note_104 : decode cX0_note 104 = .ok (.aload_n 0, 1) := dk_42 (dk_at dksX0_note_4 9 rfl rfl)
theorem dX0_note_105 : decode cX0_note 105 = .ok (.getfield 138, 3) := dk_180 0 138 (dk_at dksX0_note_4 10 rfl rfl)
theorem dX0_note_108 : decode cX0_note 108 = .ok (.getfield 305, 3) := dk_180 1 49 (dk_at dksX0_note_4 13 rfl rfl)
theorem dX0_note_111 : decode cX0_note 111 = .ok (.iload 4, 2) := dk_21 4 (dk_at dksX0_note_4 16 rfl rfl)
theorem dX0_note_113 : decode cX0_note 113 = .ok (.iconst 2, 1) := dk_5 (dk_at dksX0_note_4 18 rfl rfl)
theorem dX0_note_114 : decode cX0_note 114 = .ok (.iadd, 1) := dk_96 (dk_at dksX0_note_4 19 rfl rfl)
theorem dX0_note_115 : decode cX0_note 115 = .ok (.iload_n 3, 1) := dk_29 (dk_at dksX0_note_4 20 rfl rfl)
theorem dX0_note_116 : decode cX0_note 116 = .ok (.iastore, 1) := dk_79 (dk_at dksX0_note_4 21 rfl rfl)
theorem dX0_note_117 : decode cX0_note 117 = .ok (.aload_n 0, 1) := dk_42 (dk_at dksX0_note_4 22 rfl rfl)
theorem dX0_note_118 : decode cX0_note 118 = .ok (.getfield 138, 3) := dk_180 0 138 (dk_at dksX0_note_5 0 rfl rfl)
theorem dX0_note_121 : decode cX0_note 121 = .ok (.dup, 1) := dk_89 (dk_at dksX0_note_5 3 rfl rfl)
theorem dX0_note_122 : decode cX0_note 122 = .ok (.getfield 300, 3) := dk_180 1 44 (dk_at dksX0_note_5 4 rfl rfl)
theorem dX0_note_125 : decode cX0_note 125 = .ok (.iconst 1, 1) := dk_4 (dk_at dksX0_note_5 7 rfl rfl)
theorem dX0_note_126 : decode cX0_note 126 = .ok (.iadd, 1) := dk_96 (dk_at dksX0_note_5 8 rfl rfl)
theorem dX0_note_127 : decode cX0_note 127 = .ok (.putfield 300, 3) := dk_181 1 44 (dk_at dksX0_note_5 9 rfl rfl)
theorem dX0_note_130 : decode cX0_note 130 = .ok (.aload_n 0, 1) := dk_42 (dk_at dksX0_note_5 12 rfl rfl)
theorem dX0_note_131 : decode cX0_note 131 = .ok (.getfield 138, 3) := dk_180 0 138 (dk_at dksX0_note_5 13 rfl rfl)
theorem dX0_note_134 : decode cX0_note 134 = .ok (.getfield 300, 3) := dk_180 1 44 (dk_at dksX0_note_5 16 rfl rfl)
theorem dX0_note_137 : decode cX0_note 137 = .ok (.ireturn, 1) := dk_172 (dk_at dksX0_note_5 19 rfl rfl)
abbrev cX0_ruled : ByteArray := prog_1_method_48_code
def yX0_ruled : MethodName := ⟨RX0, "ruled", "(I)I"⟩
def dkwX0_ruled_3 : List UInt8 := [154, 0, 7, 28, 167, 0, 4, 29, 172]
abbrev dktX0_ruled_3 : List UInt8 := dkwX0_ruled_3 ++ []
def dkwX0_ruled_2 : List UInt8 := [21, 4, 51, 154, 0, 6, 167, 0, 11, 132, 2, 1, 21, 4, 4, 100, 62, 132, 4, 255, 167, 255, 227, 27]
abbrev dktX0_ruled_2 : List UInt8 := dkwX0_ruled_2 ++ dktX0_ruled_3
def dkwX0_ruled_1 : List UInt8 := [182, 1, 58, 3, 61, 16, 254, 62, 42, 180, 0, 148, 54, 4, 21, 4, 155, 0, 30, 42, 180, 0, 99]
abbrev dktX0_ruled_1 : List UInt8 := dkwX0_ruled_1 ++ dktX0_ruled_2
def dkwX0_ruled_0 : List UInt8 := [42, 180, 0, 138, 198, 0, 13, 27, 133, 9, 10, 184, 0, 178, 154, 0, 6, 16, 253, 172, 42, 3]
abbrev dktX0_ruled_0 : List UInt8 := dkwX0_ruled_0 ++ dktX0_ruled_1
theorem dksX0_ruled_0 : cX0_ruled.data.toList.drop 0 = dktX0_ruled_0 := by decide +kernel
theorem dksX0_ruled_1 : cX0_ruled.data.toList.drop 22 = dktX0_ruled_1 := dk_seg dksX0_ruled_0 22 rfl rfl
theorem dksX0_ruled_2 : cX0_ruled.data.toList.drop 45 = dktX0_ruled_2 := dk_seg dksX0_ruled_1 23 rfl rfl
theorem dksX0_ruled_3 : cX0_ruled.data.toList.drop 69 = dktX0_ruled_3 := dk_seg dksX0_ruled_2 24 rfl rfl
theorem dX0_ruled_0 : decode cX0_ruled 0 = .ok (.aload_n 0, 1) := dk_42 (dk_at dksX0_ruled_0 0 rfl rfl)
theorem dX0_ruled_1 : decode cX0_ruled 1 = .ok (.getfield 138, 3) := dk_180 0 138 (dk_at dksX0_ruled_0 1 rfl rfl)
theorem dX0_ruled_4 : decode cX0_ruled 4 = .ok (.ifnull 13, 3) := dk_198 0 13 (dk_at dksX0_ruled_0 4 rfl rfl)
theorem dX0_ruled_7 : decode cX0_ruled 7 = .ok (.iload_n 1, 1) := dk_27 (dk_at dksX0_ruled_0 7 rfl rfl)
theorem dX0_ruled_8 : decode cX0_ruled 8 = .ok (.i2l, 1) := dk_133 (dk_at dksX0_ruled_0 8 rfl rfl)
theorem dX0_ruled_9 : decode cX0_ruled 9 = .ok (.lconst 0, 1) := dk_9 (dk_at dksX0_ruled_0 9 rfl rfl)
theorem dX0_ruled_10 : decode cX0_ruled 10 = .ok (.lconst 1, 1) := dk_10 (dk_at dksX0_ruled_0 10 rfl rfl)
theorem dX0_ruled_11 : decode cX0_ruled 11 = .ok (.invokestatic 178, 3) := dk_184 0 178 (dk_at dksX0_ruled_0 11 rfl rfl)
theorem dX0_ruled_14 : decode cX0_ruled 14 = .ok (.ifCond .ne 6, 3) := dk_154 0 6 (dk_at dksX0_ruled_0 14 rfl rfl)
theorem dX0_ruled_17 : decode cX0_ruled 17 = .ok (.bipush (-3), 2) := dk_16 253 (dk_at dksX0_ruled_0 17 rfl rfl)
theorem dX0_ruled_19 : decode cX0_ruled 19 = .ok (.ireturn, 1) := dk_172 (dk_at dksX0_ruled_0 19 rfl rfl)
theorem dX0_ruled_20 : decode cX0_ruled 20 = .ok (.aload_n 0, 1) := dk_42 (dk_at dksX0_ruled_0 20 rfl rfl)
theorem dX0_ruled_21 : decode cX0_ruled 21 = .ok (.iconst 0, 1) := dk_3 (dk_at dksX0_ruled_0 21 rfl rfl)
theorem dX0_ruled_22 : decode cX0_ruled 22 = .ok (.invokevirtual 314, 3) := dk_182 1 58 (dk_at dksX0_ruled_1 0 rfl rfl)
theorem dX0_ruled_25 : decode cX0_ruled 25 = .ok (.iconst 0, 1) := dk_3 (dk_at dksX0_ruled_1 3 rfl rfl)
theorem dX0_ruled_26 : decode cX0_ruled 26 = .ok (.istore_n 2, 1) := dk_61 (dk_at dksX0_ruled_1 4 rfl rfl)
theorem dX0_ruled_27 : decode cX0_ruled 27 = .ok (.bipush (-2), 2) := dk_16 254 (dk_at dksX0_ruled_1 5 rfl rfl)
theorem dX0_ruled_29 : decode cX0_ruled 29 = .ok (.istore_n 3, 1) := dk_62 (dk_at dksX0_ruled_1 7 rfl rfl)
theorem dX0_ruled_30 : decode cX0_ruled 30 = .ok (.aload_n 0, 1) := dk_42 (dk_at dksX0_ruled_1 8 rfl rfl)
theorem dX0_ruled_31 : decode cX0_ruled 31 = .ok (.getfield 148, 3) := dk_180 0 148 (dk_at dksX0_ruled_1 9 rfl rfl)
theorem dX0_ruled_34 : decode cX0_ruled 34 = .ok (.istore 4, 2) := dk_54 4 (dk_at dksX0_ruled_1 12 rfl rfl)
theorem dX0_ruled_36 : decode cX0_ruled 36 = .ok (.iload 4, 2) := dk_21 4 (dk_at dksX0_ruled_1 14 rfl rfl)
theorem dX0_ruled_38 : decode cX0_ruled 38 = .ok (.ifCond .lt 30, 3) := dk_155 0 30 (dk_at dksX0_ruled_1 16 rfl rfl)
theorem dX0_ruled_41 : decode cX0_ruled 41 = .ok (.aload_n 0, 1) := dk_42 (dk_at dksX0_ruled_1 19 rfl rfl)
theorem dX0_ruled_42 : decode cX0_ruled 42 = .ok (.getfield 99, 3) := dk_180 0 99 (dk_at dksX0_ruled_1 20 rfl rfl)
theorem dX0_ruled_45 : decode cX0_ruled 45 = .ok (.iload 4, 2) := dk_21 4 (dk_at dksX0_ruled_2 0 rfl rfl)
theorem dX0_ruled_47 : decode cX0_ruled 47 = .ok (.baload, 1) := dk_51 (dk_at dksX0_ruled_2 2 rfl rfl)
theorem dX0_ruled_48 : decode cX0_ruled 48 = .ok (.ifCond .ne 6, 3) := dk_154 0 6 (dk_at dksX0_ruled_2 3 rfl rfl)
theorem dX0_ruled_51 : decode cX0_ruled 51 = .ok (.goto 11, 3) := dk_167 0 11 (dk_at dksX0_ruled_2 6 rfl rfl)
theorem dX0_ruled_54 : decode cX0_ruled 54 = .ok (.iinc 2 1, 3) := dk_132 2 1 (dk_at dksX0_ruled_2 9 rfl rfl)
theorem dX0_ruled_57 : decode cX0_ruled 57 = .ok (.iload 4, 2) := dk_21 4 (dk_at dksX0_ruled_2 12 rfl rfl)
theorem dX0_ruled_59 : decode cX0_ruled 59 = .ok (.iconst 1, 1) := dk_4 (dk_at dksX0_ruled_2 14 rfl rfl)
theorem dX0_ruled_60 : decode cX0_ruled 60 = .ok (.isub, 1) := dk_100 (dk_at dksX0_ruled_2 15 rfl rfl)
theorem dX0_ruled_61 : decode cX0_ruled 61 = .ok (.istore_n 3, 1) := dk_62 (dk_at dksX0_ruled_2 16 rfl rfl)
theorem dX0_ruled_62 : decode cX0_ruled 62 = .ok (.iinc 4 (-1), 3) := dk_132 4 255 (dk_at dksX0_ruled_2 17 rfl rfl)
theorem dX0_ruled_65 : decode cX0_ruled 65 = .ok (.goto (-29), 3) := dk_167 255 227 (dk_at dksX0_ruled_2 20 rfl rfl)
theorem dX0_ruled_68 : decode cX0_ruled 68 = .ok (.iload_n 1, 1) := dk_27 (dk_at dksX0_ruled_2 23 rfl rfl)
theorem dX0_ruled_69 : decode cX0_ruled 69 = .ok (.ifCond .ne 7, 3) := dk_154 0 7 (dk_at dksX0_ruled_3 0 rfl rfl)
theorem dX0_ruled_72 : decode cX0_ruled 72 = .ok (.iload_n 2, 1) := dk_28 (dk_at dksX0_ruled_3 3 rfl rfl)
theorem dX0_ruled_73 : decode cX0_ruled 73 = .ok (.goto 4, 3) := dk_167 0 4 (dk_at dksX0_ruled_3 4 rfl rfl)
theorem dX0_ruled_76 : decode cX0_ruled 76 = .ok (.iload_n 3, 1) := dk_29 (dk_at dksX0_ruled_3 7 rfl rfl)
theorem dX0_ruled_77 : decode cX0_ruled 77 = .ok (.ireturn, 1) := dk_172 (dk_at dksX0_ruled_3 8 rfl rfl)
abbrev cX0_gathersRules : ByteArray := prog_1_method_47_code
def yX0_gathersRules : MethodName := ⟨RX0, "gathersRules", "(I)V"⟩
def dkwX0_gathersRules_5 : List UInt8 := [167, 255, 183, 132, 2, 1, 167, 255, 153, 177]
abbrev dktX0_gathersRules_5 : List UInt8 := dkwX0_gathersRules_5 ++ []
def dkwX0_gathersRules_4 : List UInt8 := [154, 0, 7, 1, 167, 0, 11, 42, 180, 0, 82, 28, 4, 100, 50, 182, 0, 226, 87, 132, 3, 1]
abbrev dktX0_gathersRules_4 : List UInt8 := dkwX0_gathersRules_4 ++ dktX0_gathersRules_5
def dkwX0_gathersRules_3 : List UInt8 := [180, 0, 165, 3, 42, 180, 0, 103, 16, 8, 28, 104, 16, 8, 184, 0, 205, 42, 180, 0, 16, 28]
abbrev dktX0_gathersRules_3 : List UInt8 := dkwX0_gathersRules_3 ++ dktX0_gathersRules_4
def dkwX0_gathersRules_2 : List UInt8 := [180, 0, 99, 28, 92, 51, 42, 29, 182, 1, 55, 126, 84, 29, 27, 160, 0, 24, 42, 180, 0, 16]
abbrev dktX0_gathersRules_2 : List UInt8 := dkwX0_gathersRules_2 ++ dktX0_gathersRules_3
def dkwX0_gathersRules_1 : List UInt8 := [180, 0, 16, 182, 1, 52, 42, 180, 0, 99, 28, 4, 84, 3, 62, 29, 16, 60, 163, 0, 73, 42]
abbrev dktX0_gathersRules_1 : List UInt8 := dkwX0_gathersRules_1 ++ dktX0_gathersRules_2
def dkwX0_gathersRules_0 : List UInt8 := [42, 180, 0, 16, 42, 180, 0, 138, 182, 0, 134, 87, 3, 61, 28, 42, 180, 0, 148, 163, 0, 101, 42]
abbrev dktX0_gathersRules_0 : List UInt8 := dkwX0_gathersRules_0 ++ dktX0_gathersRules_1
theorem dksX0_gathersRules_0 : cX0_gathersRules.data.toList.drop 0 = dktX0_gathersRules_0 := by decide +kernel
theorem dksX0_gathersRules_1 : cX0_gathersRules.data.toList.drop 23 = dktX0_gathersRules_1 := dk_seg dksX0_gathersRules_0 23 rfl rfl
theorem dksX0_gathersRules_2 : cX0_gathersRules.data.toList.drop 45 = dktX0_gathersRules_2 := dk_seg dksX0_gathersRules_1 22 rfl rfl
theorem dksX0_gathersRules_3 : cX0_gathersRules.data.toList.drop 67 = dktX0_gathersRules_3 := dk_seg dksX0_gathersRules_2 22 rfl rfl
theorem dksX0_gathersRules_4 : cX0_gathersRules.data.toList.drop 89 = dktX0_gathersRules_4 := dk_seg dksX0_gathersRules_3 22 rfl rfl
theorem dksX0_gathersRules_5 : cX0_gathersRules.data.toList.drop 111 = dktX0_gathersRules_5 := dk_seg dksX0_gathersRules_4 22 rfl rfl
theorem dX0_gathersRules_0 : decode cX0_gathersRules 0 = .ok (.aload_n 0, 1) := dk_42 (dk_at dksX0_gathersRules_0 0 rfl rfl)
theorem dX0_gathersRules_1 : decode cX0_gathersRules 1 = .ok (.getfield 16, 3) := dk_180 0 16 (dk_at dksX0_gathersRules_0 1 rfl rfl)
theorem dX0_gathersRules_4 : decode cX0_gathersRules 4 = .ok (.aload_n 0, 1) := dk_42 (dk_at dksX0_gathersRules_0 4 rfl rfl)
theorem dX0_gathersRules_5 : decode cX0_gathersRules 5 = .ok (.getfield 138, 3) := dk_180 0 138 (dk_at dksX0_gathersRules_0 5 rfl rfl)
theorem dX0_gathersRules_8 : decode cX0_gathersRules 8 = .ok (.invokevirtual 134, 3) := dk_182 0 134 (dk_at dksX0_gathersRules_0 8 rfl rfl)
theorem dX0_gathersRules_11 : decode cX0_gathersRules 11 = .ok (.pop, 1) := dk_87 (dk_at dksX0_gathersRules_0 11 rfl rfl)
theorem dX0_gathersRules_12 : decode cX0_gathersRules 12 = .ok (.iconst 0, 1) := dk_3 (dk_at dksX0_gathersRules_0 12 rfl rfl)
theorem dX0_gathersRules_13 : decode cX0_gathersRules 13 = .ok (.istore_n 2, 1) := dk_61 (dk_at dksX0_gathersRules_0 13 rfl rfl)
theorem dX0_gathersRules_14 : decode cX0_gathersRules 14 = .ok (.iload_n 2, 1) := dk_28 (dk_at dksX0_gathersRules_0 14 rfl rfl)
theorem dX0_gathersRules_15 : decode cX0_gathersRules 15 = .ok (.aload_n 0, 1) := dk_42 (dk_at dksX0_gathersRules_0 15 rfl rfl)
theorem dX0_gathersRules_16 : decode cX0_gathersRules 16 = .ok (.getfield 148, 3) := dk_180 0 148 (dk_at dksX0_gathersRules_0 16 rfl rfl)
theorem dX0_gathersRules_19 : decode cX0_gathersRules 19 = .ok (.if_icmp .gt 101, 3) := dk_163 0 101 (dk_at dksX0_gathersRules_0 19 rfl rfl)
theorem dX0_gathersRules_22 : decode cX0_gathersRules 22 = .ok (.aload_n 0, 1) := dk_42 (dk_at dksX0_gathersRules_0 22 rfl rfl)
theorem dX0_gathersRules_23 : decode cX0_gathersRules 23 = .ok (.getfield 16, 3) := dk_180 0 16 (dk_at dksX0_gathersRules_1 0 rfl rfl)
theorem dX0_gathersRules_26 : decode cX0_gathersRules 26 = .ok (.invokevirtual 308, 3) := dk_182 1 52 (dk_at dksX0_gathersRules_1 3 rfl rfl)
theorem dX0_gathersRules_29 : decode cX0_gathersRules 29 = .ok (.aload_n 0, 1) := dk_42 (dk_at dksX0_gathersRules_1 6 rfl rfl)
theorem dX0_gathersRules_30 : decode cX0_gathersRules 30 = .ok (.getfield 99, 3) := dk_180 0 99 (dk_at dksX0_gathersRules_1 7 rfl rfl)
theorem dX0_gathersRules_33 : decode cX0_gathersRules 33 = .ok (.iload_n 2, 1) := dk_28 (dk_at dksX0_gathersRules_1 10 rfl rfl)
theorem dX0_gathersRules_34 : decode cX0_gathersRules 34 = .ok (.iconst 1, 1) := dk_4 (dk_at dksX0_gathersRules_1 11 rfl rfl)
theorem dX0_gathersRules_35 : decode cX0_gathersRules 35 = .ok (.bastore, 1) := dk_84 (dk_at dksX0_gathersRules_1 12 rfl rfl)
theorem dX0_gathersRules_36 : decode cX0_gathersRules 36 = .ok (.iconst 0, 1) := dk_3 (dk_at dksX0_gathersRules_1 13 rfl rfl)
theorem dX0_gathersRules_37 : decode cX0_gathersRules 37 = .ok (.istore_n 3, 1) := dk_62 (dk_at dksX0_gathersRules_1 14 rfl rfl)
theorem dX0_gathersRules_38 : decode cX0_gathersRules 38 = .ok (.iload_n 3, 1) := dk_29 (dk_at dksX0_gathersRules_1 15 rfl rfl)
theorem dX0_gathersRules_39 : decode cX0_gathersRules 39 = .ok (.bipush 60, 2) := dk_16 60 (dk_at dksX0_gathersRules_1 16 rfl rfl)
theorem dX0_gathersRules_41 : decode cX0_gathersRules 41 = .ok (.if_icmp .gt 73, 3) := dk_163 0 73 (dk_at dksX0_gathersRules_1 18 rfl rfl)
theorem dX0_gathersRules_44 : decode cX0_gathersRules 44 = .ok (.aload_n 0, 1) := dk_42 (dk_at dksX0_gathersRules_1 21 rfl rfl)
theorem dX0_gathersRules_45 : decode cX0_gathersRules 45 = .ok (.getfield 99, 3) := dk_180 0 99 (dk_at dksX0_gathersRules_2 0 rfl rfl)
theorem dX0_gathersRules_48 : decode cX0_gathersRules 48 = .ok (.iload_n 2, 1) := dk_28 (dk_at dksX0_gathersRules_2 3 rfl rfl)
theorem dX0_gathersRules_49 : decode cX0_gathersRules 49 = .ok (.dup2, 1) := dk_92 (dk_at dksX0_gathersRules_2 4 rfl rfl)
theorem dX0_gathersRules_50 : decode cX0_gathersRules 50 = .ok (.baload, 1) := dk_51 (dk_at dksX0_gathersRules_2 5 rfl rfl)
theorem dX0_gathersRules_51 : decode cX0_gathersRules 51 = .ok (.aload_n 0, 1) := dk_42 (dk_at dksX0_gathersRules_2 6 rfl rfl)
theorem dX0_gathersRules_52 : decode cX0_gathersRules 52 = .ok (.iload_n 3, 1) := dk_29 (dk_at dksX0_gathersRules_2 7 rfl rfl)
theorem dX0_gathersRules_53 : decode cX0_gathersRules 53 = .ok (.invokevirtual 311, 3) := dk_182 1 55 (dk_at dksX0_gathersRules_2 8 rfl rfl)
theorem dX0_gathersRules_56 : decode cX0_gathersRules 56 = .ok (.iand, 1) := dk_126 (dk_at dksX0_gathersRules_2 11 rfl rfl)
theorem dX0_gathersRules_57 : decode cX0_gathersRules 57 = .ok (.bastore, 1) := dk_84 (dk_at dksX0_gathersRules_2 12 rfl rfl)
theorem dX0_gathersRules_58 : decode cX0_gathersRules 58 = .ok (.iload_n 3, 1) := dk_29 (dk_at dksX0_gathersRules_2 13 rfl rfl)
theorem dX0_gathersRules_59 : decode cX0_gathersRules 59 = .ok (.iload_n 1, 1) := dk_27 (dk_at dksX0_gathersRules_2 14 rfl rfl)
theorem dX0_gathersRules_60 : decode cX0_gathersRules 60 = .ok (.if_icmp .ne 24, 3) := dk_160 0 24 (dk_at dksX0_gathersRules_2 15 rfl rfl)
theorem dX0_gathersRules_63 : decode cX0_gathersRules 63 = .ok (.aload_n 0, 1) := dk_42 (dk_at dksX0_gathersRules_2 18 rfl rfl)
theorem dX0_gathersRules_64 : decode cX0_gathersRules 64 = .ok (.getfield 16, 3) := dk_180 0 16 (dk_at dksX0_gathersRules_2 19 rfl rfl)
theorem dX0_gathersRules_67 : decode cX0_gathersRules 67 = .ok (.getfield 165, 3) := dk_180 0 165 (dk_at dksX0_gathersRules_3 0 rfl rfl)
theorem dX0_gathersRules_70 : decode cX0_gathersRules 70 = .ok (.iconst 0, 1) := dk_3 (dk_at dksX0_gathersRules_3 3 rfl rfl)
theorem dX0_gathersRules_71 : decode cX0_gathersRules 71 = .ok (.aload_n 0, 1) := dk_42 (dk_at dksX0_gathersRules_3 4 rfl rfl)
theorem dX0_gathersRules_72 : decode cX0_gathersRules 72 = .ok (.getfield 103, 3) := dk_180 0 103 (dk_at dksX0_gathersRules_3 5 rfl rfl)
theorem dX0_gathersRules_75 : decode cX0_gathersRules 75 = .ok (.bipush 8, 2) := dk_16 8 (dk_at dksX0_gathersRules_3 8 rfl rfl)
theorem dX0_gathersRules_77 : decode cX0_gathersRules 77 = .ok (.iload_n 2, 1) := dk_28 (dk_at dksX0_gathersRules_3 10 rfl rfl)
theorem dX0_gathersRules_78 : decode cX0_gathersRules 78 = .ok (.imul, 1) := dk_104 (dk_at dksX0_gathersRules_3 11 rfl rfl)
theorem dX0_gathersRules_79 : decode cX0_gathersRules 79 = .ok (.bipush 8, 2) := dk_16 8 (dk_at dksX0_gathersRules_3 12 rfl rfl)
theorem dX0_gathersRules_81 : decode cX0_gathersRules 81 = .ok (.invokestatic 205, 3) := dk_184 0 205 (dk_at dksX0_gathersRules_3 14 rfl rfl)
theorem dX0_gathersRules_84 : decode cX0_gathersRules 84 = .ok (.aload_n 0, 1) := dk_42 (dk_at dksX0_gathersRules_3 17 rfl rfl)
theorem dX0_gathersRules_85 : decode cX0_gathersRules 85 = .ok (.getfield 16, 3) := dk_180 0 16 (dk_at dksX0_gathersRules_3 18 rfl rfl)
theorem dX0_gathersRules_88 : decode cX0_gathersRules 88 = .ok (.iload_n 2, 1) := dk_28 (dk_at dksX0_gathersRules_3 21 rfl rfl)
theorem dX0_gathersRules_89 : decode cX0_gathersRules 89 = .ok (.ifCond .ne 7, 3) := dk_154 0 7 (dk_at dksX0_gathersRules_4 0 rfl rfl)
theorem dX0_gathersRules_92 : decode cX0_gathersRules 92 = .ok (.aconst_null, 1) := dk_1 (dk_at dksX0_gathersRules_4 3 rfl rfl)
theorem dX0_gathersRules_93 : decode cX0_gathersRules 93 = .ok (.goto 11, 3) := dk_167 0 11 (dk_at dksX0_gathersRules_4 4 rfl rfl)
theorem dX0_gathersRules_96 : decode cX0_gathersRules 96 = .ok (.aload_n 0, 1) := dk_42 (dk_at dksX0_gathersRules_4 7 rfl rfl)
theorem dX0_gathersRules_97 : decode cX0_gathersRules 97 = .ok (.getfield 82, 3) := dk_180 0 82 (dk_at dksX0_gathersRules_4 8 rfl rfl)
theorem dX0_gathersRules_100 : decode cX0_gathersRules 100 = .ok (.iload_n 2, 1) := dk_28 (dk_at dksX0_gathersRules_4 11 rfl rfl)
theorem dX0_gathersRules_101 : decode cX0_gathersRules 101 = .ok (.iconst 1, 1) := dk_4 (dk_at dksX0_gathersRules_4 12 rfl rfl)
theorem dX0_gathersRules_102 : decode cX0_gathersRules 102 = .ok (.isub, 1) := dk_100 (dk_at dksX0_gathersRules_4 13 rfl rfl)
theorem dX0_gathersRules_103 : decode cX0_gathersRules 103 = .ok (.aaload, 1) := dk_50 (dk_at dksX0_gathersRules_4 14 rfl rfl)
theorem dX0_gathersRules_104 : decode cX0_gathersRules 104 = .ok (.invokevirtual 226, 3) := dk_182 0 226 (dk_at dksX0_gathersRules_4 15 rfl rfl)
theorem dX0_gathersRules_107 : decode cX0_gathersRules 107 = .ok (.pop, 1) := dk_87 (dk_at dksX0_gathersRules_4 18 rfl rfl)
theorem dX0_gathersRules_108 : decode cX0_gathersRules 108 = .ok (.iinc 3 1, 3) := dk_132 3 1 (dk_at dksX0_gathersRules_4 19 rfl rfl)
theorem dX0_gathersRules_111 : decode cX0_gathersRules 111 = .ok (.goto (-73), 3) := dk_167 255 183 (dk_at dksX0_gathersRules_5 0 rfl rfl)
theorem dX0_gathersRules_114 : decode cX0_gathersRules 114 = .ok (.iinc 2 1, 3) := dk_132 2 1 (dk_at dksX0_gathersRules_5 3 rfl rfl)
theorem dX0_gathersRules_117 : decode cX0_gathersRules 117 = .ok (.goto (-103), 3) := dk_167 255 153 (dk_at dksX0_gathersRules_5 6 rfl rfl)
theorem dX0_gathersRules_120 : decode cX0_gathersRules 120 = .ok (.return_, 1) := dk_177 (dk_at dksX0_gathersRules_5 9 rfl rfl)
abbrev cX0_areNotesSo : ByteArray := prog_1_method_46_code
def yX0_areNotesSo : MethodName := ⟨RX0, "areNotesSo", "(I)Z"⟩
def dkwX0_areNotesSo_2 : List UInt8 := [180, 0, 138, 180, 1, 49, 28, 5, 96, 46, 159, 0, 5, 3, 172, 132, 2, 3, 167, 255, 192, 4, 172]
abbrev dktX0_areNotesSo_2 : List UInt8 := dkwX0_areNotesSo_2 ++ []
def dkwX0_areNotesSo_1 : List UInt8 := [27, 160, 0, 38, 42, 180, 0, 16, 180, 0, 165, 42, 180, 0, 138, 180, 1, 49, 28, 4, 96, 46, 46, 42]
abbrev dktX0_areNotesSo_1 : List UInt8 := dkwX0_areNotesSo_1 ++ dktX0_areNotesSo_2
def dkwX0_areNotesSo_0 : List UInt8 := [3, 61, 28, 6, 42, 180, 0, 138, 180, 1, 44, 104, 162, 0, 57, 42, 180, 0, 138, 180, 1, 49, 28, 46]
abbrev dktX0_areNotesSo_0 : List UInt8 := dkwX0_areNotesSo_0 ++ dktX0_areNotesSo_1
theorem dksX0_areNotesSo_0 : cX0_areNotesSo.data.toList.drop 0 = dktX0_areNotesSo_0 := by decide +kernel
theorem dksX0_areNotesSo_1 : cX0_areNotesSo.data.toList.drop 24 = dktX0_areNotesSo_1 := dk_seg dksX0_areNotesSo_0 24 rfl rfl
theorem dksX0_areNotesSo_2 : cX0_areNotesSo.data.toList.drop 48 = dktX0_areNotesSo_2 := dk_seg dksX0_areNotesSo_1 24 rfl rfl
theorem dX0_areNotesSo_0 : decode cX0_areNotesSo 0 = .ok (.iconst 0, 1) := dk_3 (dk_at dksX0_areNotesSo_0 0 rfl rfl)
theorem dX0_areNotesSo_1 : decode cX0_areNotesSo 1 = .ok (.istore_n 2, 1) := dk_61 (dk_at dksX0_areNotesSo_0 1 rfl rfl)
theorem dX0_areNotesSo_2 : decode cX0_areNotesSo 2 = .ok (.iload_n 2, 1) := dk_28 (dk_at dksX0_areNotesSo_0 2 rfl rfl)
theorem dX0_areNotesSo_3 : decode cX0_areNotesSo 3 = .ok (.iconst 3, 1) := dk_6 (dk_at dksX0_areNotesSo_0 3 rfl rfl)
theorem dX0_areNotesSo_4 : decode cX0_areNotesSo 4 = .ok (.aload_n 0, 1) := dk_42 (dk_at dksX0_areNotesSo_0 4 rfl rfl)
theorem dX0_areNotesSo_5 : decode cX0_areNotesSo 5 = .ok (.getfield 138, 3) := dk_180 0 138 (dk_at dksX0_areNotesSo_0 5 rfl rfl)
theorem dX0_areNotesSo_8 : decode cX0_areNotesSo 8 = .ok (.getfield 300, 3) := dk_180 1 44 (dk_at dksX0_areNotesSo_0 8 rfl rfl)
theorem dX0_areNotesSo_11 : decode cX0_areNotesSo 11 = .ok (.imul, 1) := dk_104 (dk_at dksX0_areNotesSo_0 11 rfl rfl)
theorem dX0_areNotesSo_12 : decode cX0_areNotesSo 12 = .ok (.if_icmp .ge 57, 3) := dk_162 0 57 (dk_at dksX0_areNotesSo_0 12 rfl rfl)
theorem dX0_areNotesSo_15 : decode cX0_areNotesSo 15 = .ok (.aload_n 0, 1) := dk_42 (dk_at dksX0_areNotesSo_0 15 rfl rfl)
theorem dX0_areNotesSo_16 : decode cX0_areNotesSo 16 = .ok (.getfield 138, 3) := dk_180 0 138 (dk_at dksX0_areNotesSo_0 16 rfl rfl)
theorem dX0_areNotesSo_19 : decode cX0_areNotesSo 19 = .ok (.getfield 305, 3) := dk_180 1 49 (dk_at dksX0_areNotesSo_0 19 rfl rfl)
theorem dX0_areNotesSo_22 : decode cX0_areNotesSo 22 = .ok (.iload_n 2, 1) := dk_28 (dk_at dksX0_areNotesSo_0 22 rfl rfl)
theorem dX0_areNotesSo_23 : decode cX0_areNotesSo 23 = .ok (.iaload, 1) := dk_46 (dk_at dksX0_areNotesSo_0 23 rfl rfl)
theorem dX0_areNotesSo_24 : decode cX0_areNotesSo 24 = .ok (.iload_n 1, 1) := dk_27 (dk_at dksX0_areNotesSo_1 0 rfl rfl)
theorem dX0_areNotesSo_25 : decode cX0_areNotesSo 25 = .ok (.if_icmp .ne 38, 3) := dk_160 0 38 (dk_at dksX0_areNotesSo_1 1 rfl rfl)
theorem dX0_areNotesSo_28 : decode cX0_areNotesSo 28 = .ok (.aload_n 0, 1) := dk_42 (dk_at dksX0_areNotesSo_1 4 rfl rfl)
theorem dX0_areNotesSo_29 : decode cX0_areNotesSo 29 = .ok (.getfield 16, 3) := dk_180 0 16 (dk_at dksX0_areNotesSo_1 5 rfl rfl)
theorem dX0_areNotesSo_32 : decode cX0_areNotesSo 32 = .ok (.getfield 165, 3) := dk_180 0 165 (dk_at dksX0_areNotesSo_1 8 rfl rfl)
theorem dX0_areNotesSo_35 : decode cX0_areNotesSo 35 = .ok (.aload_n 0, 1) := dk_42 (dk_at dksX0_areNotesSo_1 11 rfl rfl)
theorem dX0_areNotesSo_36 : decode cX0_areNotesSo 36 = .ok (.getfield 138, 3) := dk_180 0 138 (dk_at dksX0_areNotesSo_1 12 rfl rfl)
theorem dX0_areNotesSo_39 : decode cX0_areNotesSo 39 = .ok (.getfield 305, 3) := dk_180 1 49 (dk_at dksX0_areNotesSo_1 15 rfl rfl)
theorem dX0_areNotesSo_42 : decode cX0_areNotesSo 42 = .ok (.iload_n 2, 1) := dk_28 (dk_at dksX0_areNotesSo_1 18 rfl rfl)
theorem dX0_areNotesSo_43 : decode cX0_areNotesSo 43 = .ok (.iconst 1, 1) := dk_4 (dk_at dksX0_areNotesSo_1 19 rfl rfl)
theorem dX0_areNotesSo_44 : decode cX0_areNotesSo 44 = .ok (.iadd, 1) := dk_96 (dk_at dksX0_areNotesSo_1 20 rfl rfl)
theorem dX0_areNotesSo_45 : decode cX0_areNotesSo 45 = .ok (.iaload, 1) := dk_46 (dk_at dksX0_areNotesSo_1 21 rfl rfl)
theorem dX0_areNotesSo_46 : decode cX0_areNotesSo 46 = .ok (.iaload, 1) := dk_46 (dk_at dksX0_areNotesSo_1 22 rfl rfl)
theorem dX0_areNotesSo_47 : decode cX0_areNotesSo 47 = .ok (.aload_n 0, 1) := dk_42 (dk_at dksX0_areNotesSo_1 23 rfl rfl)
theorem dX0_areNotesSo_48 : decode cX0_areNotesSo 48 = .ok (.getfield 138, 3) := dk_180 0 138 (dk_at dksX0_areNotesSo_2 0 rfl rfl)
theorem dX0_areNotesSo_51 : decode cX0_areNotesSo 51 = .ok (.getfield 305, 3) := dk_180 1 49 (dk_at dksX0_areNotesSo_2 3 rfl rfl)
theorem dX0_areNotesSo_54 : decode cX0_areNotesSo 54 = .ok (.iload_n 2, 1) := dk_28 (dk_at dksX0_areNotesSo_2 6 rfl rfl)
theorem dX0_areNotesSo_55 : decode cX0_areNotesSo 55 = .ok (.iconst 2, 1) := dk_5 (dk_at dksX0_areNotesSo_2 7 rfl rfl)
theorem dX0_areNotesSo_56 : decode cX0_areNotesSo 56 = .ok (.iadd, 1) := dk_96 (dk_at dksX0_areNotesSo_2 8 rfl rfl)
theorem dX0_areNotesSo_57 : decode cX0_areNotesSo 57 = .ok (.iaload, 1) := dk_46 (dk_at dksX0_areNotesSo_2 9 rfl rfl)
theorem dX0_areNotesSo_58 : decode cX0_areNotesSo 58 = .ok (.if_icmp .eq 5, 3) := dk_159 0 5 (dk_at dksX0_areNotesSo_2 10 rfl rfl)
theorem dX0_areNotesSo_61 : decode cX0_areNotesSo 61 = .ok (.iconst 0, 1) := dk_3 (dk_at dksX0_areNotesSo_2 13 rfl rfl)
theorem dX0_areNotesSo_62 : decode cX0_areNotesSo 62 = .ok (.ireturn, 1) := dk_172 (dk_at dksX0_areNotesSo_2 14 rfl rfl)
theorem dX0_areNotesSo_63 : decode cX0_areNotesSo 63 = .ok (.iinc 2 3, 3) := dk_132 2 3 (dk_at dksX0_areNotesSo_2 15 rfl rfl)
theorem dX0_areNotesSo_66 : decode cX0_areNotesSo 66 = .ok (.goto (-64), 3) := dk_167 255 192 (dk_at dksX0_areNotesSo_2 18 rfl rfl)
theorem dX0_areNotesSo_69 : decode cX0_areNotesSo 69 = .ok (.iconst 1, 1) := dk_4 (dk_at dksX0_areNotesSo_2 21 rfl rfl)
theorem dX0_areNotesSo_70 : decode cX0_areNotesSo 70 = .ok (.ireturn, 1) := dk_172 (dk_at dksX0_areNotesSo_2 22 rfl rfl)
abbrev cX0_look : ByteArray := prog_1_method_50_code
def yX0_look : MethodName := ⟨RX0, "look", "(II)I"⟩
def dkwX0_look_4 : List UInt8 := [54, 4, 132, 5, 1, 167, 255, 205, 28, 154, 0, 7, 29, 167, 0, 5, 21, 4, 172]
abbrev dktX0_look_4 : List UInt8 := dkwX0_look_4 ++ []
def dkwX0_look_3 : List UInt8 := [153, 0, 26, 29, 16, 254, 159, 0, 13, 21, 6, 21, 4, 161, 0, 6, 167, 0, 10, 21, 5, 62, 21, 6]
abbrev dktX0_look_3 : List UInt8 := dkwX0_look_3 ++ dktX0_look_4
def dkwX0_look_2 : List UInt8 := [21, 5, 42, 180, 0, 138, 180, 0, 141, 162, 0, 45, 42, 21, 5, 182, 1, 66, 54, 6, 21, 6]
abbrev dktX0_look_2 : List UInt8 := dkwX0_look_2 ++ dktX0_look_3
def dkwX0_look_1 : List UInt8 := [184, 0, 178, 154, 0, 5, 2, 172, 42, 27, 182, 1, 58, 16, 254, 62, 16, 254, 54, 4, 3, 54, 5]
abbrev dktX0_look_1 : List UInt8 := dkwX0_look_1 ++ dktX0_look_2
def dkwX0_look_0 : List UInt8 := [42, 180, 0, 138, 198, 0, 25, 27, 133, 9, 20, 1, 47, 184, 0, 178, 153, 0, 13, 28, 133, 9, 10]
abbrev dktX0_look_0 : List UInt8 := dkwX0_look_0 ++ dktX0_look_1
theorem dksX0_look_0 : cX0_look.data.toList.drop 0 = dktX0_look_0 := by decide +kernel
theorem dksX0_look_1 : cX0_look.data.toList.drop 23 = dktX0_look_1 := dk_seg dksX0_look_0 23 rfl rfl
theorem dksX0_look_2 : cX0_look.data.toList.drop 46 = dktX0_look_2 := dk_seg dksX0_look_1 23 rfl rfl
theorem dksX0_look_3 : cX0_look.data.toList.drop 68 = dktX0_look_3 := dk_seg dksX0_look_2 22 rfl rfl
theorem dksX0_look_4 : cX0_look.data.toList.drop 92 = dktX0_look_4 := dk_seg dksX0_look_3 24 rfl rfl
theorem dX0_look_0 : decode cX0_look 0 = .ok (.aload_n 0, 1) := dk_42 (dk_at dksX0_look_0 0 rfl rfl)
theorem dX0_look_1 : decode cX0_look 1 = .ok (.getfield 138, 3) := dk_180 0 138 (dk_at dksX0_look_0 1 rfl rfl)
theorem dX0_look_4 : decode cX0_look 4 = .ok (.ifnull 25, 3) := dk_198 0 25 (dk_at dksX0_look_0 4 rfl rfl)
theorem dX0_look_7 : decode cX0_look 7 = .ok (.iload_n 1, 1) := dk_27 (dk_at dksX0_look_0 7 rfl rfl)
theorem dX0_look_8 : decode cX0_look 8 = .ok (.i2l, 1) := dk_133 (dk_at dksX0_look_0 8 rfl rfl)
theorem dX0_look_9 : decode cX0_look 9 = .ok (.lconst 0, 1) := dk_9 (dk_at dksX0_look_0 9 rfl rfl)
theorem dX0_look_10 : decode cX0_look 10 = .ok (.ldc2_w 303, 3) := dk_20 1 47 (dk_at dksX0_look_0 10 rfl rfl)
theorem dX0_look_13 : decode cX0_look 13 = .ok (.invokestatic 178, 3) := dk_184 0 178 (dk_at dksX0_look_0 13 rfl rfl)
theorem dX0_look_16 : decode cX0_look 16 = .ok (.ifCond .eq 13, 3) := dk_153 0 13 (dk_at dksX0_look_0 16 rfl rfl)
theorem dX0_look_19 : decode cX0_look 19 = .ok (.iload_n 2, 1) := dk_28 (dk_at dksX0_look_0 19 rfl rfl)
theorem dX0_look_20 : decode cX0_look 20 = .ok (.i2l, 1) := dk_133 (dk_at dksX0_look_0 20 rfl rfl)
theorem dX0_look_21 : decode cX0_look 21 = .ok (.lconst 0, 1) := dk_9 (dk_at dksX0_look_0 21 rfl rfl)
theorem dX0_look_22 : decode cX0_look 22 = .ok (.lconst 1, 1) := dk_10 (dk_at dksX0_look_0 22 rfl rfl)
theorem dX0_look_23 : decode cX0_look 23 = .ok (.invokestatic 178, 3) := dk_184 0 178 (dk_at dksX0_look_1 0 rfl rfl)
theorem dX0_look_26 : decode cX0_look 26 = .ok (.ifCond .ne 5, 3) := dk_154 0 5 (dk_at dksX0_look_1 3 rfl rfl)
theorem dX0_look_29 : decode cX0_look 29 = .ok (.iconst (-1), 1) := dk_2 (dk_at dksX0_look_1 6 rfl rfl)
theorem dX0_look_30 : decode cX0_look 30 = .ok (.ireturn, 1) := dk_172 (dk_at dksX0_look_1 7 rfl rfl)
theorem dX0_look_31 : decode cX0_look 31 = .ok (.aload_n 0, 1) := dk_42 (dk_at dksX0_look_1 8 rfl rfl)
theorem dX0_look_32 : decode cX0_look 32 = .ok (.iload_n 1, 1) := dk_27 (dk_at dksX0_look_1 9 rfl rfl)
theorem dX0_look_33 : decode cX0_look 33 = .ok (.invokevirtual 314, 3) := dk_182 1 58 (dk_at dksX0_look_1 10 rfl rfl)
theorem dX0_look_36 : decode cX0_look 36 = .ok (.bipush (-2), 2) := dk_16 254 (dk_at dksX0_look_1 13 rfl rfl)
theorem dX0_look_38 : decode cX0_look 38 = .ok (.istore_n 3, 1) := dk_62 (dk_at dksX0_look_1 15 rfl rfl)
theorem dX0_look_39 : decode cX0_look 39 = .ok (.bipush (-2), 2) := dk_16 254 (dk_at dksX0_look_1 16 rfl rfl)
theorem dX0_look_41 : decode cX0_look 41 = .ok (.istore 4, 2) := dk_54 4 (dk_at dksX0_look_1 18 rfl rfl)
theorem dX0_look_43 : decode cX0_look 43 = .ok (.iconst 0, 1) := dk_3 (dk_at dksX0_look_1 20 rfl rfl)
theorem dX0_look_44 : decode cX0_look 44 = .ok (.istore 5, 2) := dk_54 5 (dk_at dksX0_look_1 21 rfl rfl)
theorem dX0_look_46 : decode cX0_look 46 = .ok (.iload 5, 2) := dk_21 5 (dk_at dksX0_look_2 0 rfl rfl)
theorem dX0_look_48 : decode cX0_look 48 = .ok (.aload_n 0, 1) := dk_42 (dk_at dksX0_look_2 2 rfl rfl)
theorem dX0_look_49 : decode cX0_look 49 = .ok (.getfield 138, 3) := dk_180 0 138 (dk_at dksX0_look_2 3 rfl rfl)
theorem dX0_look_52 : decode cX0_look 52 = .ok (.getfield 141, 3) := dk_180 0 141 (dk_at dksX0_look_2 6 rfl rfl)
theorem dX0_look_55 : decode cX0_look 55 = .ok (.if_icmp .ge 45, 3) := dk_162 0 45 (dk_at dksX0_look_2 9 rfl rfl)
theorem dX0_look_58 : decode cX0_look 58 = .ok (.aload_n 0, 1) := dk_42 (dk_at dksX0_look_2 12 rfl rfl)
theorem dX0_look_59 : decode cX0_look 59 = .ok (.iload 5, 2) := dk_21 5 (dk_at dksX0_look_2 13 rfl rfl)
theorem dX0_look_61 : decode cX0_look 61 = .ok (.invokevirtual 322, 3) := dk_182 1 66 (dk_at dksX0_look_2 15 rfl rfl)
theorem dX0_look_64 : decode cX0_look 64 = .ok (.istore 6, 2) := dk_54 6 (dk_at dksX0_look_2 18 rfl rfl)
theorem dX0_look_66 : decode cX0_look 66 = .ok (.iload 6, 2) := dk_21 6 (dk_at dksX0_look_2 20 rfl rfl)
theorem dX0_look_68 : decode cX0_look 68 = .ok (.ifCond .eq 26, 3) := dk_153 0 26 (dk_at dksX0_look_3 0 rfl rfl)
theorem dX0_look_71 : decode cX0_look 71 = .ok (.iload_n 3, 1) := dk_29 (dk_at dksX0_look_3 3 rfl rfl)
theorem dX0_look_72 : decode cX0_look 72 = .ok (.bipush (-2), 2) := dk_16 254 (dk_at dksX0_look_3 4 rfl rfl)
theorem dX0_look_74 : decode cX0_look 74 = .ok (.if_icmp .eq 13, 3) := dk_159 0 13 (dk_at dksX0_look_3 6 rfl rfl)
theorem dX0_look_77 : decode cX0_look 77 = .ok (.iload 6, 2) := dk_21 6 (dk_at dksX0_look_3 9 rfl rfl)
theorem dX0_look_79 : decode cX0_look 79 = .ok (.iload 4, 2) := dk_21 4 (dk_at dksX0_look_3 11 rfl rfl)
theorem dX0_look_81 : decode cX0_look 81 = .ok (.if_icmp .lt 6, 3) := dk_161 0 6 (dk_at dksX0_look_3 13 rfl rfl)
theorem dX0_look_84 : decode cX0_look 84 = .ok (.goto 10, 3) := dk_167 0 10 (dk_at dksX0_look_3 16 rfl rfl)
theorem dX0_look_87 : decode cX0_look 87 = .ok (.iload 5, 2) := dk_21 5 (dk_at dksX0_look_3 19 rfl rfl)
theorem dX0_look_89 : decode cX0_look 89 = .ok (.istore_n 3, 1) := dk_62 (dk_at dksX0_look_3 21 rfl rfl)
theorem dX0_look_90 : decode cX0_look 90 = .ok (.iload 6, 2) := dk_21 6 (dk_at dksX0_look_3 22 rfl rfl)
theorem dX0_look_92 : decode cX0_look 92 = .ok (.istore 4, 2) := dk_54 4 (dk_at dksX0_look_4 0 rfl rfl)
theorem dX0_look_94 : decode cX0_look 94 = .ok (.iinc 5 1, 3) := dk_132 5 1 (dk_at dksX0_look_4 2 rfl rfl)
theorem dX0_look_97 : decode cX0_look 97 = .ok (.goto (-51), 3) := dk_167 255 205 (dk_at dksX0_look_4 5 rfl rfl)
theorem dX0_look_100 : decode cX0_look 100 = .ok (.iload_n 2, 1) := dk_28 (dk_at dksX0_look_4 8 rfl rfl)
theorem dX0_look_101 : decode cX0_look 101 = .ok (.ifCond .ne 7, 3) := dk_154 0 7 (dk_at dksX0_look_4 9 rfl rfl)
theorem dX0_look_104 : decode cX0_look 104 = .ok (.iload_n 3, 1) := dk_29 (dk_at dksX0_look_4 12 rfl rfl)
theorem dX0_look_105 : decode cX0_look 105 = .ok (.goto 5, 3) := dk_167 0 5 (dk_at dksX0_look_4 13 rfl rfl)
theorem dX0_look_108 : decode cX0_look 108 = .ok (.iload 4, 2) := dk_21 4 (dk_at dksX0_look_4 16 rfl rfl)
theorem dX0_look_110 : decode cX0_look 110 = .ok (.ireturn, 1) := dk_172 (dk_at dksX0_look_4 18 rfl rfl)
abbrev cX0_alikeOf : ByteArray := prog_1_method_49_code
def yX0_alikeOf : MethodName := ⟨RX0, "alikeOf", "(I)I"⟩
def dkwX0_alikeOf_3 : List UInt8 := [61, 132, 3, 1, 167, 255, 184, 28, 172]
abbrev dktX0_alikeOf_3 : List UInt8 := dkwX0_alikeOf_3 ++ []
def dkwX0_alikeOf_2 : List UInt8 := [29, 160, 0, 7, 4, 167, 0, 4, 3, 96, 54, 4, 132, 5, 1, 167, 255, 208, 28, 21, 4, 184, 1, 61]
abbrev dktX0_alikeOf_2 : List UInt8 := dkwX0_alikeOf_2 ++ dktX0_alikeOf_3
def dkwX0_alikeOf_1 : List UInt8 := [21, 4, 42, 180, 0, 99, 21, 5, 51, 153, 0, 23, 42, 180, 0, 103, 16, 8, 21, 5, 104, 27, 96, 46]
abbrev dktX0_alikeOf_1 : List UInt8 := dkwX0_alikeOf_1 ++ dktX0_alikeOf_2
def dkwX0_alikeOf_0 : List UInt8 := [3, 61, 3, 62, 29, 5, 163, 0, 73, 3, 54, 4, 3, 54, 5, 21, 5, 42, 180, 0, 148, 163, 0, 45]
abbrev dktX0_alikeOf_0 : List UInt8 := dkwX0_alikeOf_0 ++ dktX0_alikeOf_1
theorem dksX0_alikeOf_0 : cX0_alikeOf.data.toList.drop 0 = dktX0_alikeOf_0 := by decide +kernel
theorem dksX0_alikeOf_1 : cX0_alikeOf.data.toList.drop 24 = dktX0_alikeOf_1 := dk_seg dksX0_alikeOf_0 24 rfl rfl
theorem dksX0_alikeOf_2 : cX0_alikeOf.data.toList.drop 48 = dktX0_alikeOf_2 := dk_seg dksX0_alikeOf_1 24 rfl rfl
theorem dksX0_alikeOf_3 : cX0_alikeOf.data.toList.drop 72 = dktX0_alikeOf_3 := dk_seg dksX0_alikeOf_2 24 rfl rfl
theorem dX0_alikeOf_0 : decode cX0_alikeOf 0 = .ok (.iconst 0, 1) := dk_3 (dk_at dksX0_alikeOf_0 0 rfl rfl)
theorem dX0_alikeOf_1 : decode cX0_alikeOf 1 = .ok (.istore_n 2, 1) := dk_61 (dk_at dksX0_alikeOf_0 1 rfl rfl)
theorem dX0_alikeOf_2 : decode cX0_alikeOf 2 = .ok (.iconst 0, 1) := dk_3 (dk_at dksX0_alikeOf_0 2 rfl rfl)
theorem dX0_alikeOf_3 : decode cX0_alikeOf 3 = .ok (.istore_n 3, 1) := dk_62 (dk_at dksX0_alikeOf_0 3 rfl rfl)
theorem dX0_alikeOf_4 : decode cX0_alikeOf 4 = .ok (.iload_n 3, 1) := dk_29 (dk_at dksX0_alikeOf_0 4 rfl rfl)
theorem dX0_alikeOf_5 : decode cX0_alikeOf 5 = .ok (.iconst 2, 1) := dk_5 (dk_at dksX0_alikeOf_0 5 rfl rfl)
theorem dX0_alikeOf_6 : decode cX0_alikeOf 6 = .ok (.if_icmp .gt 73, 3) := dk_163 0 73 (dk_at dksX0_alikeOf_0 6 rfl rfl)
theorem dX0_alikeOf_9 : decode cX0_alikeOf 9 = .ok (.iconst 0, 1) := dk_3 (dk_at dksX0_alikeOf_0 9 rfl rfl)
theorem dX0_alikeOf_10 : decode cX0_alikeOf 10 = .ok (.istore 4, 2) := dk_54 4 (dk_at dksX0_alikeOf_0 10 rfl rfl)
theorem dX0_alikeOf_12 : decode cX0_alikeOf 12 = .ok (.iconst 0, 1) := dk_3 (dk_at dksX0_alikeOf_0 12 rfl rfl)
theorem dX0_alikeOf_13 : decode cX0_alikeOf 13 = .ok (.istore 5, 2) := dk_54 5 (dk_at dksX0_alikeOf_0 13 rfl rfl)
theorem dX0_alikeOf_15 : decode cX0_alikeOf 15 = .ok (.iload 5, 2) := dk_21 5 (dk_at dksX0_alikeOf_0 15 rfl rfl)
theorem dX0_alikeOf_17 : decode cX0_alikeOf 17 = .ok (.aload_n 0, 1) := dk_42 (dk_at dksX0_alikeOf_0 17 rfl rfl)
theorem dX0_alikeOf_18 : decode cX0_alikeOf 18 = .ok (.getfield 148, 3) := dk_180 0 148 (dk_at dksX0_alikeOf_0 18 rfl rfl)
theorem dX0_alikeOf_21 : decode cX0_alikeOf 21 = .ok (.if_icmp .gt 45, 3) := dk_163 0 45 (dk_at dksX0_alikeOf_0 21 rfl rfl)
theorem dX0_alikeOf_24 : decode cX0_alikeOf 24 = .ok (.iload 4, 2) := dk_21 4 (dk_at dksX0_alikeOf_1 0 rfl rfl)
theorem dX0_alikeOf_26 : decode cX0_alikeOf 26 = .ok (.aload_n 0, 1) := dk_42 (dk_at dksX0_alikeOf_1 2 rfl rfl)
theorem dX0_alikeOf_27 : decode cX0_alikeOf 27 = .ok (.getfield 99, 3) := dk_180 0 99 (dk_at dksX0_alikeOf_1 3 rfl rfl)
theorem dX0_alikeOf_30 : decode cX0_alikeOf 30 = .ok (.iload 5, 2) := dk_21 5 (dk_at dksX0_alikeOf_1 6 rfl rfl)
theorem dX0_alikeOf_32 : decode cX0_alikeOf 32 = .ok (.baload, 1) := dk_51 (dk_at dksX0_alikeOf_1 8 rfl rfl)
theorem dX0_alikeOf_33 : decode cX0_alikeOf 33 = .ok (.ifCond .eq 23, 3) := dk_153 0 23 (dk_at dksX0_alikeOf_1 9 rfl rfl)
theorem dX0_alikeOf_36 : decode cX0_alikeOf 36 = .ok (.aload_n 0, 1) := dk_42 (dk_at dksX0_alikeOf_1 12 rfl rfl)
theorem dX0_alikeOf_37 : decode cX0_alikeOf 37 = .ok (.getfield 103, 3) := dk_180 0 103 (dk_at dksX0_alikeOf_1 13 rfl rfl)
theorem dX0_alikeOf_40 : decode cX0_alikeOf 40 = .ok (.bipush 8, 2) := dk_16 8 (dk_at dksX0_alikeOf_1 16 rfl rfl)
theorem dX0_alikeOf_42 : decode cX0_alikeOf 42 = .ok (.iload 5, 2) := dk_21 5 (dk_at dksX0_alikeOf_1 18 rfl rfl)
theorem dX0_alikeOf_44 : decode cX0_alikeOf 44 = .ok (.imul, 1) := dk_104 (dk_at dksX0_alikeOf_1 20 rfl rfl)
theorem dX0_alikeOf_45 : decode cX0_alikeOf 45 = .ok (.iload_n 1, 1) := dk_27 (dk_at dksX0_alikeOf_1 21 rfl rfl)
theorem dX0_alikeOf_46 : decode cX0_alikeOf 46 = .ok (.iadd, 1) := dk_96 (dk_at dksX0_alikeOf_1 22 rfl rfl)
theorem dX0_alikeOf_47 : decode cX0_alikeOf 47 = .ok (.iaload, 1) := dk_46 (dk_at dksX0_alikeOf_1 23 rfl rfl)
theorem dX0_alikeOf_48 : decode cX0_alikeOf 48 = .ok (.iload_n 3, 1) := dk_29 (dk_at dksX0_alikeOf_2 0 rfl rfl)
theorem dX0_alikeOf_49 : decode cX0_alikeOf 49 = .ok (.if_icmp .ne 7, 3) := dk_160 0 7 (dk_at dksX0_alikeOf_2 1 rfl rfl)
theorem dX0_alikeOf_52 : decode cX0_alikeOf 52 = .ok (.iconst 1, 1) := dk_4 (dk_at dksX0_alikeOf_2 4 rfl rfl)
theorem dX0_alikeOf_53 : decode cX0_alikeOf 53 = .ok (.goto 4, 3) := dk_167 0 4 (dk_at dksX0_alikeOf_2 5 rfl rfl)
theorem dX0_alikeOf_56 : decode cX0_alikeOf 56 = .ok (.iconst 0, 1) := dk_3 (dk_at dksX0_alikeOf_2 8 rfl rfl)
theorem dX0_alikeOf_57 : decode cX0_alikeOf 57 = .ok (.iadd, 1) := dk_96 (dk_at dksX0_alikeOf_2 9 rfl rfl)
theorem dX0_alikeOf_58 : decode cX0_alikeOf 58 = .ok (.istore 4, 2) := dk_54 4 (dk_at dksX0_alikeOf_2 10 rfl rfl)
theorem dX0_alikeOf_60 : decode cX0_alikeOf 60 = .ok (.iinc 5 1, 3) := dk_132 5 1 (dk_at dksX0_alikeOf_2 12 rfl rfl)
theorem dX0_alikeOf_63 : decode cX0_alikeOf 63 = .ok (.goto (-48), 3) := dk_167 255 208 (dk_at dksX0_alikeOf_2 15 rfl rfl)
theorem dX0_alikeOf_66 : decode cX0_alikeOf 66 = .ok (.iload_n 2, 1) := dk_28 (dk_at dksX0_alikeOf_2 18 rfl rfl)
theorem dX0_alikeOf_67 : decode cX0_alikeOf 67 = .ok (.iload 4, 2) := dk_21 4 (dk_at dksX0_alikeOf_2 19 rfl rfl)
theorem dX0_alikeOf_69 : decode cX0_alikeOf 69 = .ok (.invokestatic 317, 3) := dk_184 1 61 (dk_at dksX0_alikeOf_2 21 rfl rfl)
theorem dX0_alikeOf_72 : decode cX0_alikeOf 72 = .ok (.istore_n 2, 1) := dk_61 (dk_at dksX0_alikeOf_3 0 rfl rfl)
theorem dX0_alikeOf_73 : decode cX0_alikeOf 73 = .ok (.iinc 3 1, 3) := dk_132 3 1 (dk_at dksX0_alikeOf_3 1 rfl rfl)
theorem dX0_alikeOf_76 : decode cX0_alikeOf 76 = .ok (.goto (-72), 3) := dk_167 255 184 (dk_at dksX0_alikeOf_3 4 rfl rfl)
theorem dX0_alikeOf_79 : decode cX0_alikeOf 79 = .ok (.iload_n 2, 1) := dk_28 (dk_at dksX0_alikeOf_3 7 rfl rfl)
theorem dX0_alikeOf_80 : decode cX0_alikeOf 80 = .ok (.ireturn, 1) := dk_172 (dk_at dksX0_alikeOf_3 8 rfl rfl)
abbrev cX0_strung : ByteArray := prog_1_method_52_code
def yX0_strung : MethodName := ⟨RX0, "strung", "(I)I"⟩
def dkwX0_strung_3 : List UInt8 := [167, 255, 212, 28, 172]
abbrev dktX0_strung_3 : List UInt8 := dkwX0_strung_3 ++ []
def dkwX0_strung_2 : List UInt8 := [180, 0, 188, 27, 29, 79, 42, 182, 1, 69, 153, 0, 9, 28, 4, 29, 120, 128, 61, 132, 3, 1]
abbrev dktX0_strung_2 : List UInt8 := dkwX0_strung_2 ++ dktX0_strung_3
def dkwX0_strung_1 : List UInt8 := [3, 62, 29, 42, 180, 0, 138, 180, 0, 155, 162, 0, 39, 42, 180, 0, 16, 182, 1, 52, 42, 180, 0, 16]
abbrev dktX0_strung_1 : List UInt8 := dkwX0_strung_1 ++ dktX0_strung_2
def dkwX0_strung_0 : List UInt8 := [42, 27, 182, 0, 173, 154, 0, 5, 2, 172, 3, 61, 42, 180, 0, 16, 42, 180, 0, 138, 182, 0, 134, 87]
abbrev dktX0_strung_0 : List UInt8 := dkwX0_strung_0 ++ dktX0_strung_1
theorem dksX0_strung_0 : cX0_strung.data.toList.drop 0 = dktX0_strung_0 := by decide +kernel
theorem dksX0_strung_1 : cX0_strung.data.toList.drop 24 = dktX0_strung_1 := dk_seg dksX0_strung_0 24 rfl rfl
theorem dksX0_strung_2 : cX0_strung.data.toList.drop 48 = dktX0_strung_2 := dk_seg dksX0_strung_1 24 rfl rfl
theorem dksX0_strung_3 : cX0_strung.data.toList.drop 70 = dktX0_strung_3 := dk_seg dksX0_strung_2 22 rfl rfl
theorem dX0_strung_0 : decode cX0_strung 0 = .ok (.aload_n 0, 1) := dk_42 (dk_at dksX0_strung_0 0 rfl rfl)
theorem dX0_strung_1 : decode cX0_strung 1 = .ok (.iload_n 1, 1) := dk_27 (dk_at dksX0_strung_0 1 rfl rfl)
theorem dX0_strung_2 : decode cX0_strung 2 = .ok (.invokevirtual 173, 3) := dk_182 0 173 (dk_at dksX0_strung_0 2 rfl rfl)
theorem dX0_strung_5 : decode cX0_strung 5 = .ok (.ifCond .ne 5, 3) := dk_154 0 5 (dk_at dksX0_strung_0 5 rfl rfl)
theorem dX0_strung_8 : decode cX0_strung 8 = .ok (.iconst (-1), 1) := dk_2 (dk_at dksX0_strung_0 8 rfl rfl)
theorem dX0_strung_9 : decode cX0_strung 9 = .ok (.ireturn, 1) := dk_172 (dk_at dksX0_strung_0 9 rfl rfl)
theorem dX0_strung_10 : decode cX0_strung 10 = .ok (.iconst 0, 1) := dk_3 (dk_at dksX0_strung_0 10 rfl rfl)
theorem dX0_strung_11 : decode cX0_strung 11 = .ok (.istore_n 2, 1) := dk_61 (dk_at dksX0_strung_0 11 rfl rfl)
theorem dX0_strung_12 : decode cX0_strung 12 = .ok (.aload_n 0, 1) := dk_42 (dk_at dksX0_strung_0 12 rfl rfl)
theorem dX0_strung_13 : decode cX0_strung 13 = .ok (.getfield 16, 3) := dk_180 0 16 (dk_at dksX0_strung_0 13 rfl rfl)
theorem dX0_strung_16 : decode cX0_strung 16 = .ok (.aload_n 0, 1) := dk_42 (dk_at dksX0_strung_0 16 rfl rfl)
theorem dX0_strung_17 : decode cX0_strung 17 = .ok (.getfield 138, 3) := dk_180 0 138 (dk_at dksX0_strung_0 17 rfl rfl)
theorem dX0_strung_20 : decode cX0_strung 20 = .ok (.invokevirtual 134, 3) := dk_182 0 134 (dk_at dksX0_strung_0 20 rfl rfl)
theorem dX0_strung_23 : decode cX0_strung 23 = .ok (.pop, 1) := dk_87 (dk_at dksX0_strung_0 23 rfl rfl)
theorem dX0_strung_24 : decode cX0_strung 24 = .ok (.iconst 0, 1) := dk_3 (dk_at dksX0_strung_1 0 rfl rfl)
theorem dX0_strung_25 : decode cX0_strung 25 = .ok (.istore_n 3, 1) := dk_62 (dk_at dksX0_strung_1 1 rfl rfl)
theorem dX0_strung_26 : decode cX0_strung 26 = .ok (.iload_n 3, 1) := dk_29 (dk_at dksX0_strung_1 2 rfl rfl)
theorem dX0_strung_27 : decode cX0_strung 27 = .ok (.aload_n 0, 1) := dk_42 (dk_at dksX0_strung_1 3 rfl rfl)
theorem dX0_strung_28 : decode cX0_strung 28 = .ok (.getfield 138, 3) := dk_180 0 138 (dk_at dksX0_strung_1 4 rfl rfl)
theorem dX0_strung_31 : decode cX0_strung 31 = .ok (.getfield 155, 3) := dk_180 0 155 (dk_at dksX0_strung_1 7 rfl rfl)
theorem dX0_strung_34 : decode cX0_strung 34 = .ok (.if_icmp .ge 39, 3) := dk_162 0 39 (dk_at dksX0_strung_1 10 rfl rfl)
theorem dX0_strung_37 : decode cX0_strung 37 = .ok (.aload_n 0, 1) := dk_42 (dk_at dksX0_strung_1 13 rfl rfl)
theorem dX0_strung_38 : decode cX0_strung 38 = .ok (.getfield 16, 3) := dk_180 0 16 (dk_at dksX0_strung_1 14 rfl rfl)
theorem dX0_strung_41 : decode cX0_strung 41 = .ok (.invokevirtual 308, 3) := dk_182 1 52 (dk_at dksX0_strung_1 17 rfl rfl)
theorem dX0_strung_44 : decode cX0_strung 44 = .ok (.aload_n 0, 1) := dk_42 (dk_at dksX0_strung_1 20 rfl rfl)
theorem dX0_strung_45 : decode cX0_strung 45 = .ok (.getfield 16, 3) := dk_180 0 16 (dk_at dksX0_strung_1 21 rfl rfl)
theorem dX0_strung_48 : decode cX0_strung 48 = .ok (.getfield 188, 3) := dk_180 0 188 (dk_at dksX0_strung_2 0 rfl rfl)
theorem dX0_strung_51 : decode cX0_strung 51 = .ok (.iload_n 1, 1) := dk_27 (dk_at dksX0_strung_2 3 rfl rfl)
theorem dX0_strung_52 : decode cX0_strung 52 = .ok (.iload_n 3, 1) := dk_29 (dk_at dksX0_strung_2 4 rfl rfl)
theorem dX0_strung_53 : decode cX0_strung 53 = .ok (.iastore, 1) := dk_79 (dk_at dksX0_strung_2 5 rfl rfl)
theorem dX0_strung_54 : decode cX0_strung 54 = .ok (.aload_n 0, 1) := dk_42 (dk_at dksX0_strung_2 6 rfl rfl)
theorem dX0_strung_55 : decode cX0_strung 55 = .ok (.invokevirtual 325, 3) := dk_182 1 69 (dk_at dksX0_strung_2 7 rfl rfl)
theorem dX0_strung_58 : decode cX0_strung 58 = .ok (.ifCond .eq 9, 3) := dk_153 0 9 (dk_at dksX0_strung_2 10 rfl rfl)
theorem dX0_strung_61 : decode cX0_strung 61 = .ok (.iload_n 2, 1) := dk_28 (dk_at dksX0_strung_2 13 rfl rfl)
theorem dX0_strung_62 : decode cX0_strung 62 = .ok (.iconst 1, 1) := dk_4 (dk_at dksX0_strung_2 14 rfl rfl)
theorem dX0_strung_63 : decode cX0_strung 63 = .ok (.iload_n 3, 1) := dk_29 (dk_at dksX0_strung_2 15 rfl rfl)
theorem dX0_strung_64 : decode cX0_strung 64 = .ok (.ishl, 1) := dk_120 (dk_at dksX0_strung_2 16 rfl rfl)
theorem dX0_strung_65 : decode cX0_strung 65 = .ok (.ior, 1) := dk_128 (dk_at dksX0_strung_2 17 rfl rfl)
theorem dX0_strung_66 : decode cX0_strung 66 = .ok (.istore_n 2, 1) := dk_61 (dk_at dksX0_strung_2 18 rfl rfl)
theorem dX0_strung_67 : decode cX0_strung 67 = .ok (.iinc 3 1, 3) := dk_132 3 1 (dk_at dksX0_strung_2 19 rfl rfl)
theorem dX0_strung_70 : decode cX0_strung 70 = .ok (.goto (-44), 3) := dk_167 255 212 (dk_at dksX0_strung_3 0 rfl rfl)
theorem dX0_strung_73 : decode cX0_strung 73 = .ok (.iload_n 2, 1) := dk_28 (dk_at dksX0_strung_3 3 rfl rfl)
theorem dX0_strung_74 : decode cX0_strung 74 = .ok (.ireturn, 1) := dk_172 (dk_at dksX0_strung_3 4 rfl rfl)
abbrev cX0_areAllSo : ByteArray := prog_1_method_51_code
def yX0_areAllSo : MethodName := ⟨RX0, "areAllSo", "()Z"⟩
def dkwX0_areAllSo_1 : List UInt8 := [182, 0, 223, 182, 0, 226, 87, 132, 2, 1, 167, 255, 227, 27, 172]
abbrev dktX0_areAllSo_1 : List UInt8 := dkwX0_areAllSo_1 ++ []
def dkwX0_areAllSo_0 : List UInt8 := [4, 60, 3, 61, 28, 16, 60, 163, 0, 29, 27, 42, 28, 182, 1, 55, 126, 60, 42, 180, 0, 16, 42]
abbrev dktX0_areAllSo_0 : List UInt8 := dkwX0_areAllSo_0 ++ dktX0_areAllSo_1
theorem dksX0_areAllSo_0 : cX0_areAllSo.data.toList.drop 0 = dktX0_areAllSo_0 := by decide +kernel
theorem dksX0_areAllSo_1 : cX0_areAllSo.data.toList.drop 23 = dktX0_areAllSo_1 := dk_seg dksX0_areAllSo_0 23 rfl rfl
theorem dX0_areAllSo_0 : decode cX0_areAllSo 0 = .ok (.iconst 1, 1) := dk_4 (dk_at dksX0_areAllSo_0 0 rfl rfl)
theorem dX0_areAllSo_1 : decode cX0_areAllSo 1 = .ok (.istore_n 1, 1) := dk_60 (dk_at dksX0_areAllSo_0 1 rfl rfl)
theorem dX0_areAllSo_2 : decode cX0_areAllSo 2 = .ok (.iconst 0, 1) := dk_3 (dk_at dksX0_areAllSo_0 2 rfl rfl)
theorem dX0_areAllSo_3 : decode cX0_areAllSo 3 = .ok (.istore_n 2, 1) := dk_61 (dk_at dksX0_areAllSo_0 3 rfl rfl)
theorem dX0_areAllSo_4 : decode cX0_areAllSo 4 = .ok (.iload_n 2, 1) := dk_28 (dk_at dksX0_areAllSo_0 4 rfl rfl)
theorem dX0_areAllSo_5 : decode cX0_areAllSo 5 = .ok (.bipush 60, 2) := dk_16 60 (dk_at dksX0_areAllSo_0 5 rfl rfl)
theorem dX0_areAllSo_7 : decode cX0_areAllSo 7 = .ok (.if_icmp .gt 29, 3) := dk_163 0 29 (dk_at dksX0_areAllSo_0 7 rfl rfl)
theorem dX0_areAllSo_10 : decode cX0_areAllSo 10 = .ok (.iload_n 1, 1) := dk_27 (dk_at dksX0_areAllSo_0 10 rfl rfl)
theorem dX0_areAllSo_11 : decode cX0_areAllSo 11 = .ok (.aload_n 0, 1) := dk_42 (dk_at dksX0_areAllSo_0 11 rfl rfl)
theorem dX0_areAllSo_12 : decode cX0_areAllSo 12 = .ok (.iload_n 2, 1) := dk_28 (dk_at dksX0_areAllSo_0 12 rfl rfl)
theorem dX0_areAllSo_13 : decode cX0_areAllSo 13 = .ok (.invokevirtual 311, 3) := dk_182 1 55 (dk_at dksX0_areAllSo_0 13 rfl rfl)
theorem dX0_areAllSo_16 : decode cX0_areAllSo 16 = .ok (.iand, 1) := dk_126 (dk_at dksX0_areAllSo_0 16 rfl rfl)
theorem dX0_areAllSo_17 : decode cX0_areAllSo 17 = .ok (.istore_n 1, 1) := dk_60 (dk_at dksX0_areAllSo_0 17 rfl rfl)
theorem dX0_areAllSo_18 : decode cX0_areAllSo 18 = .ok (.aload_n 0, 1) := dk_42 (dk_at dksX0_areAllSo_0 18 rfl rfl)
theorem dX0_areAllSo_19 : decode cX0_areAllSo 19 = .ok (.getfield 16, 3) := dk_180 0 16 (dk_at dksX0_areAllSo_0 19 rfl rfl)
theorem dX0_areAllSo_22 : decode cX0_areAllSo 22 = .ok (.aload_n 0, 1) := dk_42 (dk_at dksX0_areAllSo_0 22 rfl rfl)
theorem dX0_areAllSo_23 : decode cX0_areAllSo 23 = .ok (.invokevirtual 223, 3) := dk_182 0 223 (dk_at dksX0_areAllSo_1 0 rfl rfl)
theorem dX0_areAllSo_26 : decode cX0_areAllSo 26 = .ok (.invokevirtual 226, 3) := dk_182 0 226 (dk_at dksX0_areAllSo_1 3 rfl rfl)
theorem dX0_areAllSo_29 : decode cX0_areAllSo 29 = .ok (.pop, 1) := dk_87 (dk_at dksX0_areAllSo_1 6 rfl rfl)
theorem dX0_areAllSo_30 : decode cX0_areAllSo 30 = .ok (.iinc 2 1, 3) := dk_132 2 1 (dk_at dksX0_areAllSo_1 7 rfl rfl)
theorem dX0_areAllSo_33 : decode cX0_areAllSo 33 = .ok (.goto (-29), 3) := dk_167 255 227 (dk_at dksX0_areAllSo_1 10 rfl rfl)
theorem dX0_areAllSo_36 : decode cX0_areAllSo 36 = .ok (.iload_n 1, 1) := dk_27 (dk_at dksX0_areAllSo_1 13 rfl rfl)
theorem dX0_areAllSo_37 : decode cX0_areAllSo 37 = .ok (.ireturn, 1) := dk_172 (dk_at dksX0_areAllSo_1 14 rfl rfl)
abbrev cX0_seed : ByteArray := prog_1_method_53_code
def yX0_seed : MethodName := ⟨RX0, "seed", "(I)I"⟩
def dkwX0_seed_0 : List UInt8 := [27, 156, 0, 5, 2, 172, 42, 180, 1, 73, 61, 42, 27, 181, 1, 73, 28, 172]
abbrev dktX0_seed_0 : List UInt8 := dkwX0_seed_0 ++ []
theorem dksX0_seed_0 : cX0_seed.data.toList.drop 0 = dktX0_seed_0 := by decide +kernel
theorem dX0_seed_0 : decode cX0_seed 0 = .ok (.iload_n 1, 1) := dk_27 (dk_at dksX0_seed_0 0 rfl rfl)
theorem dX0_seed_1 : decode cX0_seed 1 = .ok (.ifCond .ge 5, 3) := dk_156 0 5 (dk_at dksX0_seed_0 1 rfl rfl)
theorem dX0_seed_4 : decode cX0_seed 4 = .ok (.iconst (-1), 1) := dk_2 (dk_at dksX0_seed_0 4 rfl rfl)
theorem dX0_seed_5 : decode cX0_seed 5 = .ok (.ireturn, 1) := dk_172 (dk_at dksX0_seed_0 5 rfl rfl)
theorem dX0_seed_6 : decode cX0_seed 6 = .ok (.aload_n 0, 1) := dk_42 (dk_at dksX0_seed_0 6 rfl rfl)
theorem dX0_seed_7 : decode cX0_seed 7 = .ok (.getfield 329, 3) := dk_180 1 73 (dk_at dksX0_seed_0 7 rfl rfl)
theorem dX0_seed_10 : decode cX0_seed 10 = .ok (.istore_n 2, 1) := dk_61 (dk_at dksX0_seed_0 10 rfl rfl)
theorem dX0_seed_11 : decode cX0_seed 11 = .ok (.aload_n 0, 1) := dk_42 (dk_at dksX0_seed_0 11 rfl rfl)
theorem dX0_seed_12 : decode cX0_seed 12 = .ok (.iload_n 1, 1) := dk_27 (dk_at dksX0_seed_0 12 rfl rfl)
theorem dX0_seed_13 : decode cX0_seed 13 = .ok (.putfield 329, 3) := dk_181 1 73 (dk_at dksX0_seed_0 13 rfl rfl)
theorem dX0_seed_16 : decode cX0_seed 16 = .ok (.iload_n 2, 1) := dk_28 (dk_at dksX0_seed_0 16 rfl rfl)
theorem dX0_seed_17 : decode cX0_seed 17 = .ok (.ireturn, 1) := dk_172 (dk_at dksX0_seed_0 17 rfl rfl)
abbrev cX0_toasts : ByteArray := prog_1_method_56_code
def yX0_toasts : MethodName := ⟨RX0, "toasts", "(IIII)I"⟩
def dkwX0_toasts_9 : List UInt8 := [132, 7, 1, 167, 255, 129, 21, 4, 154, 0, 8, 21, 5, 167, 0, 5, 21, 6, 172]
abbrev dktX0_toasts_9 : List UInt8 := dkwX0_toasts_9 ++ []
def dkwX0_toasts_8 : List UInt8 := [184, 0, 244, 96, 54, 5, 21, 6, 42, 180, 0, 16, 4, 182, 0, 241, 184, 0, 244, 96, 54, 6]
abbrev dktX0_toasts_8 : List UInt8 := dkwX0_toasts_8 ++ dktX0_toasts_9
def dkwX0_toasts_7 : List UInt8 := [42, 182, 0, 223, 182, 0, 226, 87, 132, 8, 1, 167, 255, 188, 21, 5, 42, 180, 0, 16, 5, 182, 0, 241]
abbrev dktX0_toasts_7 : List UInt8 := dkwX0_toasts_7 ++ dktX0_toasts_8
def dkwX0_toasts_6 : List UInt8 := [21, 9, 153, 0, 18, 42, 42, 42, 180, 0, 138, 180, 0, 141, 182, 1, 88, 182, 1, 91, 42, 180, 0, 16]
abbrev dktX0_toasts_6 : List UInt8 := dkwX0_toasts_6 ++ dktX0_toasts_7
def dkwX0_toasts_5 : List UInt8 := [182, 1, 88, 29, 162, 0, 17, 42, 180, 0, 138, 180, 0, 141, 158, 0, 7, 4, 167, 0, 4, 3, 54, 9]
abbrev dktX0_toasts_5 : List UInt8 := dkwX0_toasts_5 ++ dktX0_toasts_6
def dkwX0_toasts_4 : List UInt8 := [180, 0, 16, 42, 180, 0, 138, 182, 1, 15, 87, 3, 54, 8, 21, 8, 28, 162, 0, 68, 42, 16, 100]
abbrev dktX0_toasts_4 : List UInt8 := dkwX0_toasts_4 ++ dktX0_toasts_5
def dkwX0_toasts_3 : List UInt8 := [42, 180, 0, 16, 42, 180, 0, 138, 182, 0, 134, 87, 3, 54, 7, 21, 7, 27, 162, 0, 127, 42]
abbrev dktX0_toasts_3 : List UInt8 := dkwX0_toasts_3 ++ dktX0_toasts_4
def dkwX0_toasts_2 : List UInt8 := [9, 10, 184, 0, 178, 154, 0, 5, 2, 172, 42, 42, 180, 1, 73, 181, 1, 76, 3, 54, 5, 3, 54, 6]
abbrev dktX0_toasts_2 : List UInt8 := dkwX0_toasts_2 ++ dktX0_toasts_3
def dkwX0_toasts_1 : List UInt8 := [20, 1, 47, 184, 0, 178, 153, 0, 26, 29, 133, 9, 20, 0, 251, 184, 0, 178, 153, 0, 14, 21, 4, 133]
abbrev dktX0_toasts_1 : List UInt8 := dkwX0_toasts_1 ++ dktX0_toasts_2
def dkwX0_toasts_0 : List UInt8 := [42, 180, 0, 138, 198, 0, 50, 27, 133, 10, 20, 1, 86, 184, 0, 178, 153, 0, 38, 28, 133, 10]
abbrev dktX0_toasts_0 : List UInt8 := dkwX0_toasts_0 ++ dktX0_toasts_1
theorem dksX0_toasts_0 : cX0_toasts.data.toList.drop 0 = dktX0_toasts_0 := by decide +kernel
theorem dksX0_toasts_1 : cX0_toasts.data.toList.drop 22 = dktX0_toasts_1 := dk_seg dksX0_toasts_0 22 rfl rfl
theorem dksX0_toasts_2 : cX0_toasts.data.toList.drop 46 = dktX0_toasts_2 := dk_seg dksX0_toasts_1 24 rfl rfl
theorem dksX0_toasts_3 : cX0_toasts.data.toList.drop 70 = dktX0_toasts_3 := dk_seg dksX0_toasts_2 24 rfl rfl
theorem dksX0_toasts_4 : cX0_toasts.data.toList.drop 92 = dktX0_toasts_4 := dk_seg dksX0_toasts_3 22 rfl rfl
theorem dksX0_toasts_5 : cX0_toasts.data.toList.drop 115 = dktX0_toasts_5 := dk_seg dksX0_toasts_4 23 rfl rfl
theorem dksX0_toasts_6 : cX0_toasts.data.toList.drop 139 = dktX0_toasts_6 := dk_seg dksX0_toasts_5 24 rfl rfl
theorem dksX0_toasts_7 : cX0_toasts.data.toList.drop 163 = dktX0_toasts_7 := dk_seg dksX0_toasts_6 24 rfl rfl
theorem dksX0_toasts_8 : cX0_toasts.data.toList.drop 187 = dktX0_toasts_8 := dk_seg dksX0_toasts_7 24 rfl rfl
theorem dksX0_toasts_9 : cX0_toasts.data.toList.drop 209 = dktX0_toasts_9 := dk_seg dksX0_toasts_8 22 rfl rfl
theorem dX0_toasts_0 : decode cX0_toasts 0 = .ok (.aload_n 0, 1) := dk_42 (dk_at dksX0_toasts_0 0 rfl rfl)
theorem dX0_toasts_1 : decode cX0_toasts 1 = .ok (.getfield 138, 3) := dk_180 0 138 (dk_at dksX0_toasts_0 1 rfl rfl)
theorem dX0_toasts_4 : decode cX0_toasts 4 = .ok (.ifnull 50, 3) := dk_198 0 50 (dk_at dksX0_toasts_0 4 rfl rfl)
theorem dX0_toasts_7 : decode cX0_toasts 7 = .ok (.iload_n 1, 1) := dk_27 (dk_at dksX0_toasts_0 7 rfl rfl)
theorem dX0_toasts_8 : decode cX0_toasts 8 = .ok (.i2l, 1) := dk_133 (dk_at dksX0_toasts_0 8 rfl rfl)
theorem dX0_toasts_9 : decode cX0_toasts 9 = .ok (.lconst 1, 1) := dk_10 (dk_at dksX0_toasts_0 9 rfl rfl)
theorem dX0_toasts_10 : decode cX0_toasts 10 = .ok (.ldc2_w 342, 3) := dk_20 1 86 (dk_at dksX0_toasts_0 10 rfl rfl)
theorem dX0_toasts_13 : decode cX0_toasts 13 = .ok (.invokestatic 178, 3) := dk_184 0 178 (dk_at dksX0_toasts_0 13 rfl rfl)
theorem dX0_toasts_16 : decode cX0_toasts 16 = .ok (.ifCond .eq 38, 3) := dk_153 0 38 (dk_at dksX0_toasts_0 16 rfl rfl)
theorem dX0_toasts_19 : decode cX0_toasts 19 = .ok (.iload_n 2, 1) := dk_28 (dk_at dksX0_toasts_0 19 rfl rfl)
theorem dX0_toasts_20 : decode cX0_toasts 20 = .ok (.i2l, 1) := dk_133 (dk_at dksX0_toasts_0 20 rfl rfl)
theorem dX0_toasts_21 : decode cX0_toasts 21 = .ok (.lconst 1, 1) := dk_10 (dk_at dksX0_toasts_0 21 rfl rfl)
theorem dX0_toasts_22 : decode cX0_toasts 22 = .ok (.ldc2_w 303, 3) := dk_20 1 47 (dk_at dksX0_toasts_1 0 rfl rfl)
theorem dX0_toasts_25 : decode cX0_toasts 25 = .ok (.invokestatic 178, 3) := dk_184 0 178 (dk_at dksX0_toasts_1 3 rfl rfl)
theorem dX0_toasts_28 : decode cX0_toasts 28 = .ok (.ifCond .eq 26, 3) := dk_153 0 26 (dk_at dksX0_toasts_1 6 rfl rfl)
theorem dX0_toasts_31 : decode cX0_toasts 31 = .ok (.iload_n 3, 1) := dk_29 (dk_at dksX0_toasts_1 9 rfl rfl)
theorem dX0_toasts_32 : decode cX0_toasts 32 = .ok (.i2l, 1) := dk_133 (dk_at dksX0_toasts_1 10 rfl rfl)
theorem dX0_toasts_33 : decode cX0_toasts 33 = .ok (.lconst 0, 1) := dk_9 (dk_at dksX0_toasts_1 11 rfl rfl)
theorem dX0_toasts_34 : decode cX0_toasts 34 = .ok (.ldc2_w 251, 3) := dk_20 0 251 (dk_at dksX0_toasts_1 12 rfl rfl)
theorem dX0_toasts_37 : decode cX0_toasts 37 = .ok (.invokestatic 178, 3) := dk_184 0 178 (dk_at dksX0_toasts_1 15 rfl rfl)
theorem dX0_toasts_40 : decode cX0_toasts 40 = .ok (.ifCond .eq 14, 3) := dk_153 0 14 (dk_at dksX0_toasts_1 18 rfl rfl)
theorem dX0_toasts_43 : decode cX0_toasts 43 = .ok (.iload 4, 2) := dk_21 4 (dk_at dksX0_toasts_1 21 rfl rfl)
theorem dX0_toasts_45 : decode cX0_toasts 45 = .ok (.i2l, 1) := dk_133 (dk_at dksX0_toasts_1 23 rfl rfl)
theorem dX0_toasts_46 : decode cX0_toasts 46 = .ok (.lconst 0, 1) := dk_9 (dk_at dksX0_toasts_2 0 rfl rfl)
theorem dX0_toasts_47 : decode cX0_toasts 47 = .ok (.lconst 1, 1) := dk_10 (dk_at dksX0_toasts_2 1 rfl rfl)
theorem dX0_toasts_48 : decode cX0_toasts 48 = .ok (.invokestatic 178, 3) := dk_184 0 178 (dk_at dksX0_toasts_2 2 rfl rfl)
theorem dX0_toasts_51 : decode cX0_toasts 51 = .ok (.ifCond .ne 5, 3) := dk_154 0 5 (dk_at dksX0_toasts_2 5 rfl rfl)
theorem dX0_toasts_54 : decode cX0_toasts 54 = .ok (.iconst (-1), 1) := dk_2 (dk_at dksX0_toasts_2 8 rfl rfl)
theorem dX0_toasts_55 : decode cX0_toasts 55 = .ok (.ireturn, 1) := dk_172 (dk_at dksX0_toasts_2 9 rfl rfl)
theorem dX0_toasts_56 : decode cX0_toasts 56 = .ok (.aload_n 0, 1) := dk_42 (dk_at dksX0_toasts_2 10 rfl rfl)
theorem dX0_toasts_57 : decode cX0_toasts 57 = .ok (.aload_n 0, 1) := dk_42 (dk_at dksX0_toasts_2 11 rfl rfl)
theorem dX0_toasts_58 : decode cX0_toasts 58 = .ok (.getfield 329, 3) := dk_180 1 73 (dk_at dksX0_toasts_2 12 rfl rfl)
theorem dX0_toasts_61 : decode cX0_toasts 61 = .ok (.putfield 332, 3) := dk_181 1 76 (dk_at dksX0_toasts_2 15 rfl rfl)
theorem dX0_toasts_64 : decode cX0_toasts 64 = .ok (.iconst 0, 1) := dk_3 (dk_at dksX0_toasts_2 18 rfl rfl)
theorem dX0_toasts_65 : decode cX0_toasts 65 = .ok (.istore 5, 2) := dk_54 5 (dk_at dksX0_toasts_2 19 rfl rfl)
theorem dX0_toasts_67 : decode cX0_toasts 67 = .ok (.iconst 0, 1) := dk_3 (dk_at dksX0_toasts_2 21 rfl rfl)
theorem dX0_toasts_68 : decode cX0_toasts 68 = .ok (.istore 6, 2) := dk_54 6 (dk_at dksX0_toasts_2 22 rfl rfl)
theorem dX0_toasts_70 : decode cX0_toasts 70 = .ok (.aload_n 0, 1) := dk_42 (dk_at dksX0_toasts_3 0 rfl rfl)
theorem dX0_toasts_71 : decode cX0_toasts 71 = .ok (.getfield 16, 3) := dk_180 0 16 (dk_at dksX0_toasts_3 1 rfl rfl)
theorem dX0_toasts_74 : decode cX0_toasts 74 = .ok (.aload_n 0, 1) := dk_42 (dk_at dksX0_toasts_3 4 rfl rfl)
theorem dX0_toasts_75 : decode cX0_toasts 75 = .ok (.getfield 138, 3) := dk_180 0 138 (dk_at dksX0_toasts_3 5 rfl rfl)
theorem dX0_toasts_78 : decode cX0_toasts 78 = .ok (.invokevirtual 134, 3) := dk_182 0 134 (dk_at dksX0_toasts_3 8 rfl rfl)
theorem dX0_toasts_81 : decode cX0_toasts 81 = .ok (.pop, 1) := dk_87 (dk_at dksX0_toasts_3 11 rfl rfl)
theorem dX0_toasts_82 : decode cX0_toasts 82 = .ok (.iconst 0, 1) := dk_3 (dk_at dksX0_toasts_3 12 rfl rfl)
theorem dX0_toasts_83 : decode cX0_toasts 83 = .ok (.istore 7, 2) := dk_54 7 (dk_at dksX0_toasts_3 13 rfl rfl)
theorem dX0_toasts_85 : decode cX0_toasts 85 = .ok (.iload 7, 2) := dk_21 7 (dk_at dksX0_toasts_3 15 rfl rfl)
theorem dX0_toasts_87 : decode cX0_toasts 87 = .ok (.iload_n 1, 1) := dk_27 (dk_at dksX0_toasts_3 17 rfl rfl)
theorem dX0_toasts_88 : decode cX0_toasts 88 = .ok (.if_icmp .ge 127, 3) := dk_162 0 127 (dk_at dksX0_toasts_3 18 rfl rfl)
theorem dX0_toasts_91 : decode cX0_toasts 91 = .ok (.aload_n 0, 1) := dk_42 (dk_at dksX0_toasts_3 21 rfl rfl)
theorem dX0_toasts_92 : decode cX0_toasts 92 = .ok (.getfield 16, 3) := dk_180 0 16 (dk_at dksX0_toasts_4 0 rfl rfl)
theorem dX0_toasts_95 : decode cX0_toasts 95 = .ok (.aload_n 0, 1) := dk_42 (dk_at dksX0_toasts_4 3 rfl rfl)
theorem dX0_toasts_96 : decode cX0_toasts 96 = .ok (.getfield 138, 3) := dk_180 0 138 (dk_at dksX0_toasts_4 4 rfl rfl)
theorem dX0_toasts_99 : decode cX0_toasts 99 = .ok (.invokevirtual 271, 3) := dk_182 1 15 (dk_at dksX0_toasts_4 7 rfl rfl)
theorem dX0_toasts_102 : decode cX0_toasts 102 = .ok (.pop, 1) := dk_87 (dk_at dksX0_toasts_4 10 rfl rfl)
theorem dX0_toasts_103 : decode cX0_toasts 103 = .ok (.iconst 0, 1) := dk_3 (dk_at dksX0_toasts_4 11 rfl rfl)
theorem dX0_toasts_104 : decode cX0_toasts 104 = .ok (.istore 8, 2) := dk_54 8 (dk_at dksX0_toasts_4 12 rfl rfl)
theorem dX0_toasts_106 : decode cX0_toasts 106 = .ok (.iload 8, 2) := dk_21 8 (dk_at dksX0_toasts_4 14 rfl rfl)
theorem dX0_toasts_108 : decode cX0_toasts 108 = .ok (.iload_n 2, 1) := dk_28 (dk_at dksX0_toasts_4 16 rfl rfl)
theorem dX0_toasts_109 : decode cX0_toasts 109 = .ok (.if_icmp .ge 68, 3) := dk_162 0 68 (dk_at dksX0_toasts_4 17 rfl rfl)
theorem dX0_toasts_112 : decode cX0_toasts 112 = .ok (.aload_n 0, 1) := dk_42 (dk_at dksX0_toasts_4 20 rfl rfl)
theorem dX0_toasts_113 : decode cX0_toasts 113 = .ok (.bipush 100, 2) := dk_16 100 (dk_at dksX0_toasts_4 21 rfl rfl)
theorem dX0_toasts_115 : decode cX0_toasts 115 = .ok (.invokevirtual 344, 3) := dk_182 1 88 (dk_at dksX0_toasts_5 0 rfl rfl)
theorem dX0_toasts_118 : decode cX0_toasts 118 = .ok (.iload_n 3, 1) := dk_29 (dk_at dksX0_toasts_5 3 rfl rfl)
theorem dX0_toasts_119 : decode cX0_toasts 119 = .ok (.if_icmp .ge 17, 3) := dk_162 0 17 (dk_at dksX0_toasts_5 4 rfl rfl)
theorem dX0_toasts_122 : decode cX0_toasts 122 = .ok (.aload_n 0, 1) := dk_42 (dk_at dksX0_toasts_5 7 rfl rfl)
theorem dX0_toasts_123 : decode cX0_toasts 123 = .ok (.getfield 138, 3) := dk_180 0 138 (dk_at dksX0_toasts_5 8 rfl rfl)
theorem dX0_toasts_126 : decode cX0_toasts 126 = .ok (.getfield 141, 3) := dk_180 0 141 (dk_at dksX0_toasts_5 11 rfl rfl)
theorem dX0_toasts_129 : decode cX0_toasts 129 = .ok (.ifCond .le 7, 3) := dk_158 0 7 (dk_at dksX0_toasts_5 14 rfl rfl)
theorem dX0_toasts_132 : decode cX0_toasts 132 = .ok (.iconst 1, 1) := dk_4 (dk_at dksX0_toasts_5 17 rfl rfl)
theorem dX0_toasts_133 : decode cX0_toasts 133 = .ok (.goto 4, 3) := dk_167 0 4 (dk_at dksX0_toasts_5 18 rfl rfl)
theorem dX0_toasts_136 : decode cX0_toasts 136 = .ok (.iconst 0, 1) := dk_3 (dk_at dksX0_toasts_5 21 rfl rfl)
theorem dX0_toasts_137 : decode cX0_toasts 137 = .ok (.istore 9, 2) := dk_54 9 (dk_at dksX0_toasts_5 22 rfl rfl)
theorem dX0_toasts_139 : decode cX0_toasts 139 = .ok (.iload 9, 2) := dk_21 9 (dk_at dksX0_toasts_6 0 rfl rfl)
theorem dX0_toasts_141 : decode cX0_toasts 141 = .ok (.ifCond .eq 18, 3) := dk_153 0 18 (dk_at dksX0_toasts_6 2 rfl rfl)
theorem dX0_toasts_144 : decode cX0_toasts 144 = .ok (.aload_n 0, 1) := dk_42 (dk_at dksX0_toasts_6 5 rfl rfl)
theorem dX0_toasts_145 : decode cX0_toasts 145 = .ok (.aload_n 0, 1) := dk_42 (dk_at dksX0_toasts_6 6 rfl rfl)
theorem dX0_toasts_146 : decode cX0_toasts 146 = .ok (.aload_n 0, 1) := dk_42 (dk_at dksX0_toasts_6 7 rfl rfl)
theorem dX0_toasts_147 : decode cX0_toasts 147 = .ok (.getfield 138, 3) := dk_180 0 138 (dk_at dksX0_toasts_6 8 rfl rfl)
theorem dX0_toasts_150 : decode cX0_toasts 150 = .ok (.getfield 141, 3) := dk_180 0 141 (dk_at dksX0_toasts_6 11 rfl rfl)
theorem dX0_toasts_153 : decode cX0_toasts 153 = .ok (.invokevirtual 344, 3) := dk_182 1 88 (dk_at dksX0_toasts_6 14 rfl rfl)
theorem dX0_toasts_156 : decode cX0_toasts 156 = .ok (.invokevirtual 347, 3) := dk_182 1 91 (dk_at dksX0_toasts_6 17 rfl rfl)
theorem dX0_toasts_159 : decode cX0_toasts 159 = .ok (.aload_n 0, 1) := dk_42 (dk_at dksX0_toasts_6 20 rfl rfl)
theorem dX0_toasts_160 : decode cX0_toasts 160 = .ok (.getfield 16, 3) := dk_180 0 16 (dk_at dksX0_toasts_6 21 rfl rfl)
theorem dX0_toasts_163 : decode cX0_toasts 163 = .ok (.aload_n 0, 1) := dk_42 (dk_at dksX0_toasts_7 0 rfl rfl)
theorem dX0_toasts_164 : decode cX0_toasts 164 = .ok (.invokevirtual 223, 3) := dk_182 0 223 (dk_at dksX0_toasts_7 1 rfl rfl)
theorem dX0_toasts_167 : decode cX0_toasts 167 = .ok (.invokevirtual 226, 3) := dk_182 0 226 (dk_at dksX0_toasts_7 4 rfl rfl)
theorem dX0_toasts_170 : decode cX0_toasts 170 = .ok (.pop, 1) := dk_87 (dk_at dksX0_toasts_7 7 rfl rfl)
theorem dX0_toasts_171 : decode cX0_toasts 171 = .ok (.iinc 8 1, 3) := dk_132 8 1 (dk_at dksX0_toasts_7 8 rfl rfl)
theorem dX0_toasts_174 : decode cX0_toasts 174 = .ok (.goto (-68), 3) := dk_167 255 188 (dk_at dksX0_toasts_7 11 rfl rfl)
theorem dX0_toasts_177 : decode cX0_toasts 177 = .ok (.iload 5, 2) := dk_21 5 (dk_at dksX0_toasts_7 14 rfl rfl)
theorem dX0_toasts_179 : decode cX0_toasts 179 = .ok (.aload_n 0, 1) := dk_42 (dk_at dksX0_toasts_7 16 rfl rfl)
theorem dX0_toasts_180 : decode cX0_toasts 180 = .ok (.getfield 16, 3) := dk_180 0 16 (dk_at dksX0_toasts_7 17 rfl rfl)
theorem dX0_toasts_183 : decode cX0_toasts 183 = .ok (.iconst 2, 1) := dk_5 (dk_at dksX0_toasts_7 20 rfl rfl)
theorem dX0_toasts_184 : decode cX0_toasts 184 = .ok (.invokevirtual 241, 3) := dk_182 0 241 (dk_at dksX0_toasts_7 21 rfl rfl)
theorem dX0_toasts_187 : decode cX0_toasts 187 = .ok (.invokestatic 244, 3) := dk_184 0 244 (dk_at dksX0_toasts_8 0 rfl rfl)
theorem dX0_toasts_190 : decode cX0_toasts 190 = .ok (.iadd, 1) := dk_96 (dk_at dksX0_toasts_8 3 rfl rfl)
theorem dX0_toasts_191 : decode cX0_toasts 191 = .ok (.istore 5, 2) := dk_54 5 (dk_at dksX0_toasts_8 4 rfl rfl)
theorem dX0_toasts_193 : decode cX0_toasts 193 = .ok (.iload 6, 2) := dk_21 6 (dk_at dksX0_toasts_8 6 rfl rfl)
theorem dX0_toasts_195 : decode cX0_toasts 195 = .ok (.aload_n 0, 1) := dk_42 (dk_at dksX0_toasts_8 8 rfl rfl)
theorem dX0_toasts_196 : decode cX0_toasts 196 = .ok (.getfield 16, 3) := dk_180 0 16 (dk_at dksX0_toasts_8 9 rfl rfl)
theorem dX0_toasts_199 : decode cX0_toasts 199 = .ok (.iconst 1, 1) := dk_4 (dk_at dksX0_toasts_8 12 rfl rfl)
theorem dX0_toasts_200 : decode cX0_toasts 200 = .ok (.invokevirtual 241, 3) := dk_182 0 241 (dk_at dksX0_toasts_8 13 rfl rfl)
theorem dX0_toasts_203 : decode cX0_toasts 203 = .ok (.invokestatic 244, 3) := dk_184 0 244 (dk_at dksX0_toasts_8 16 rfl rfl)
theorem dX0_toasts_206 : decode cX0_toasts 206 = .ok (.iadd, 1) := dk_96 (dk_at dksX0_toasts_8 19 rfl rfl)
theorem dX0_toasts_207 : decode cX0_toasts 207 = .ok (.istore 6, 2) := dk_54 6 (dk_at dksX0_toasts_8 20 rfl rfl)
theorem dX0_toasts_209 : decode cX0_toasts 209 = .ok (.iinc 7 1, 3) := dk_132 7 1 (dk_at dksX0_toasts_9 0 rfl rfl)
theorem dX0_toasts_212 : decode cX0_toasts 212 = .ok (.goto (-127), 3) := dk_167 255 129 (dk_at dksX0_toasts_9 3 rfl rfl)
theorem dX0_toasts_215 : decode cX0_toasts 215 = .ok (.iload 4, 2) := dk_21 4 (dk_at dksX0_toasts_9 6 rfl rfl)
theorem dX0_toasts_217 : decode cX0_toasts 217 = .ok (.ifCond .ne 8, 3) := dk_154 0 8 (dk_at dksX0_toasts_9 8 rfl rfl)
theorem dX0_toasts_220 : decode cX0_toasts 220 = .ok (.iload 5, 2) := dk_21 5 (dk_at dksX0_toasts_9 11 rfl rfl)
theorem dX0_toasts_222 : decode cX0_toasts 222 = .ok (.goto 5, 3) := dk_167 0 5 (dk_at dksX0_toasts_9 13 rfl rfl)
theorem dX0_toasts_225 : decode cX0_toasts 225 = .ok (.iload 6, 2) := dk_21 6 (dk_at dksX0_toasts_9 16 rfl rfl)
theorem dX0_toasts_227 : decode cX0_toasts 227 = .ok (.ireturn, 1) := dk_172 (dk_at dksX0_toasts_9 18 rfl rfl)
abbrev cX0_draw : ByteArray := prog_1_method_54_code
def yX0_draw : MethodName := ⟨RX0, "draw", "(I)I"⟩
def dkwX0_draw_1 : List UInt8 := [180, 1, 76, 19, 1, 85, 108, 27, 112, 172]
abbrev dktX0_draw_1 : List UInt8 := dkwX0_draw_1 ++ []
def dkwX0_draw_0 : List UInt8 := [42, 42, 180, 1, 76, 133, 20, 1, 79, 105, 20, 1, 81, 97, 20, 1, 83, 113, 136, 181, 1, 76, 42]
abbrev dktX0_draw_0 : List UInt8 := dkwX0_draw_0 ++ dktX0_draw_1
theorem dksX0_draw_0 : cX0_draw.data.toList.drop 0 = dktX0_draw_0 := by decide +kernel
theorem dksX0_draw_1 : cX0_draw.data.toList.drop 23 = dktX0_draw_1 := dk_seg dksX0_draw_0 23 rfl rfl
theorem dX0_draw_0 : decode cX0_draw 0 = .ok (.aload_n 0, 1) := dk_42 (dk_at dksX0_draw_0 0 rfl rfl)
theorem dX0_draw_1 : decode cX0_draw 1 = .ok (.aload_n 0, 1) := dk_42 (dk_at dksX0_draw_0 1 rfl rfl)
theorem dX0_draw_2 : decode cX0_draw 2 = .ok (.getfield 332, 3) := dk_180 1 76 (dk_at dksX0_draw_0 2 rfl rfl)
theorem dX0_draw_5 : decode cX0_draw 5 = .ok (.i2l, 1) := dk_133 (dk_at dksX0_draw_0 5 rfl rfl)
theorem dX0_draw_6 : decode cX0_draw 6 = .ok (.ldc2_w 335, 3) := dk_20 1 79 (dk_at dksX0_draw_0 6 rfl rfl)
theorem dX0_draw_9 : decode cX0_draw 9 = .ok (.lmul, 1) := dk_105 (dk_at dksX0_draw_0 9 rfl rfl)
theorem dX0_draw_10 : decode cX0_draw 10 = .ok (.ldc2_w 337, 3) := dk_20 1 81 (dk_at dksX0_draw_0 10 rfl rfl)
theorem dX0_draw_13 : decode cX0_draw 13 = .ok (.ladd, 1) := dk_97 (dk_at dksX0_draw_0 13 rfl rfl)
theorem dX0_draw_14 : decode cX0_draw 14 = .ok (.ldc2_w 339, 3) := dk_20 1 83 (dk_at dksX0_draw_0 14 rfl rfl)
theorem dX0_draw_17 : decode cX0_draw 17 = .ok (.lrem, 1) := dk_113 (dk_at dksX0_draw_0 17 rfl rfl)
theorem dX0_draw_18 : decode cX0_draw 18 = .ok (.l2i, 1) := dk_136 (dk_at dksX0_draw_0 18 rfl rfl)
theorem dX0_draw_19 : decode cX0_draw 19 = .ok (.putfield 332, 3) := dk_181 1 76 (dk_at dksX0_draw_0 19 rfl rfl)
theorem dX0_draw_22 : decode cX0_draw 22 = .ok (.aload_n 0, 1) := dk_42 (dk_at dksX0_draw_0 22 rfl rfl)
theorem dX0_draw_23 : decode cX0_draw 23 = .ok (.getfield 332, 3) := dk_180 1 76 (dk_at dksX0_draw_1 0 rfl rfl)
theorem dX0_draw_26 : decode cX0_draw 26 = .ok (.ldc_w 341, 3) := dk_19 1 85 (dk_at dksX0_draw_1 3 rfl rfl)
theorem dX0_draw_29 : decode cX0_draw 29 = .ok (.idiv, 1) := dk_108 (dk_at dksX0_draw_1 6 rfl rfl)
theorem dX0_draw_30 : decode cX0_draw 30 = .ok (.iload_n 1, 1) := dk_27 (dk_at dksX0_draw_1 7 rfl rfl)
theorem dX0_draw_31 : decode cX0_draw 31 = .ok (.irem, 1) := dk_112 (dk_at dksX0_draw_1 8 rfl rfl)
theorem dX0_draw_32 : decode cX0_draw 32 = .ok (.ireturn, 1) := dk_172 (dk_at dksX0_draw_1 9 rfl rfl)
abbrev cX0_stirs : ByteArray := prog_1_method_55_code
def yX0_stirs : MethodName := ⟨RX0, "stirs", "(I)V"⟩
def dkwX0_stirs_1 : List UInt8 := [180, 0, 16, 180, 0, 165, 27, 46, 100, 79, 42, 180, 0, 16, 182, 0, 230, 87, 177]
abbrev dktX0_stirs_1 : List UInt8 := dkwX0_stirs_1 ++ []
def dkwX0_stirs_0 : List UInt8 := [42, 180, 0, 16, 180, 0, 165, 27, 46, 5, 160, 0, 4, 177, 42, 180, 0, 16, 180, 0, 165, 27, 4, 42]
abbrev dktX0_stirs_0 : List UInt8 := dkwX0_stirs_0 ++ dktX0_stirs_1
theorem dksX0_stirs_0 : cX0_stirs.data.toList.drop 0 = dktX0_stirs_0 := by decide +kernel
theorem dksX0_stirs_1 : cX0_stirs.data.toList.drop 24 = dktX0_stirs_1 := dk_seg dksX0_stirs_0 24 rfl rfl
theorem dX0_stirs_0 : decode cX0_stirs 0 = .ok (.aload_n 0, 1) := dk_42 (dk_at dksX0_stirs_0 0 rfl rfl)
theorem dX0_stirs_1 : decode cX0_stirs 1 = .ok (.getfield 16, 3) := dk_180 0 16 (dk_at dksX0_stirs_0 1 rfl rfl)
theorem dX0_stirs_4 : decode cX0_stirs 4 = .ok (.getfield 165, 3) := dk_180 0 165 (dk_at dksX0_stirs_0 4 rfl rfl)
theorem dX0_stirs_7 : decode cX0_stirs 7 = .ok (.iload_n 1, 1) := dk_27 (dk_at dksX0_stirs_0 7 rfl rfl)
theorem dX0_stirs_8 : decode cX0_stirs 8 = .ok (.iaload, 1) := dk_46 (dk_at dksX0_stirs_0 8 rfl rfl)
theorem dX0_stirs_9 : decode cX0_stirs 9 = .ok (.iconst 2, 1) := dk_5 (dk_at dksX0_stirs_0 9 rfl rfl)
theorem dX0_stirs_10 : decode cX0_stirs 10 = .ok (.if_icmp .ne 4, 3) := dk_160 0 4 (dk_at dksX0_stirs_0 10 rfl rfl)
theorem dX0_stirs_13 : decode cX0_stirs 13 = .ok (.return_, 1) := dk_177 (dk_at dksX0_stirs_0 13 rfl rfl)
theorem dX0_stirs_14 : decode cX0_stirs 14 = .ok (.aload_n 0, 1) := dk_42 (dk_at dksX0_stirs_0 14 rfl rfl)
theorem dX0_stirs_15 : decode cX0_stirs 15 = .ok (.getfield 16, 3) := dk_180 0 16 (dk_at dksX0_stirs_0 15 rfl rfl)
theorem dX0_stirs_18 : decode cX0_stirs 18 = .ok (.getfield 165, 3) := dk_180 0 165 (dk_at dksX0_stirs_0 18 rfl rfl)
theorem dX0_stirs_21 : decode cX0_stirs 21 = .ok (.iload_n 1, 1) := dk_27 (dk_at dksX0_stirs_0 21 rfl rfl)
theorem dX0_stirs_22 : decode cX0_stirs 22 = .ok (.iconst 1, 1) := dk_4 (dk_at dksX0_stirs_0 22 rfl rfl)
theorem dX0_stirs_23 : decode cX0_stirs 23 = .ok (.aload_n 0, 1) := dk_42 (dk_at dksX0_stirs_0 23 rfl rfl)
theorem dX0_stirs_24 : decode cX0_stirs 24 = .ok (.getfield 16, 3) := dk_180 0 16 (dk_at dksX0_stirs_1 0 rfl rfl)
theorem dX0_stirs_27 : decode cX0_stirs 27 = .ok (.getfield 165, 3) := dk_180 0 165 (dk_at dksX0_stirs_1 3 rfl rfl)
theorem dX0_stirs_30 : decode cX0_stirs 30 = .ok (.iload_n 1, 1) := dk_27 (dk_at dksX0_stirs_1 6 rfl rfl)
theorem dX0_stirs_31 : decode cX0_stirs 31 = .ok (.iaload, 1) := dk_46 (dk_at dksX0_stirs_1 7 rfl rfl)
theorem dX0_stirs_32 : decode cX0_stirs 32 = .ok (.isub, 1) := dk_100 (dk_at dksX0_stirs_1 8 rfl rfl)
theorem dX0_stirs_33 : decode cX0_stirs 33 = .ok (.iastore, 1) := dk_79 (dk_at dksX0_stirs_1 9 rfl rfl)
theorem dX0_stirs_34 : decode cX0_stirs 34 = .ok (.aload_n 0, 1) := dk_42 (dk_at dksX0_stirs_1 10 rfl rfl)
theorem dX0_stirs_35 : decode cX0_stirs 35 = .ok (.getfield 16, 3) := dk_180 0 16 (dk_at dksX0_stirs_1 11 rfl rfl)
theorem dX0_stirs_38 : decode cX0_stirs 38 = .ok (.invokevirtual 230, 3) := dk_182 0 230 (dk_at dksX0_stirs_1 14 rfl rfl)
theorem dX0_stirs_41 : decode cX0_stirs 41 = .ok (.pop, 1) := dk_87 (dk_at dksX0_stirs_1 17 rfl rfl)
theorem dX0_stirs_42 : decode cX0_stirs 42 = .ok (.return_, 1) := dk_177 (dk_at dksX0_stirs_1 18 rfl rfl)
abbrev cX0_count : ByteArray := prog_1_method_57_code
def yX0_count : MethodName := ⟨RX0, "count", "(I)I"⟩
def dkwX0_count_8 : List UInt8 := [180, 0, 199, 172]
abbrev dktX0_count_8 : List UInt8 := dkwX0_count_8 ++ []
def dkwX0_count_7 : List UInt8 := [182, 0, 241, 172, 42, 180, 0, 138, 182, 1, 41, 172, 42, 180, 0, 138, 180, 1, 44, 172, 42, 180, 0, 138]
abbrev dktX0_count_7 : List UInt8 := dkwX0_count_7 ++ dktX0_count_8
def dkwX0_count_6 : List UInt8 := [42, 180, 0, 138, 180, 0, 217, 172, 42, 180, 0, 138, 4, 182, 0, 241, 172, 42, 180, 0, 138, 5]
abbrev dktX0_count_6 : List UInt8 := dkwX0_count_6 ++ dktX0_count_7
def dkwX0_count_5 : List UInt8 := [42, 180, 0, 138, 180, 0, 155, 172, 42, 180, 0, 138, 180, 0, 158, 172, 42, 180, 0, 138, 180, 0, 141, 172]
abbrev dktX0_count_5 : List UInt8 := dkwX0_count_5 ++ dktX0_count_6
def dkwX0_count_4 : List UInt8 := [170, 0, 0, 0, 0, 0, 0, 122, 0, 0, 0, 0, 0, 0, 0, 9, 0, 0, 0, 56, 0, 0, 0, 64, 0, 0, 0, 72, 0, 0, 0, 122, 0, 0, 0, 122, 0, 0, 0, 80, 0, 0, 0, 88, 0, 0, 0, 97, 0, 0, 0, 106, 0, 0, 0, 114]
abbrev dktX0_count_4 : List UInt8 := dkwX0_count_4 ++ dktX0_count_5
def dkwX0_count_3 : List UInt8 := [20, 1, 94, 184, 0, 178, 154, 0, 5, 2, 172, 42, 180, 0, 138, 199, 0, 5, 3, 172, 27]
abbrev dktX0_count_3 : List UInt8 := dkwX0_count_3 ++ dktX0_count_4
def dkwX0_count_2 : List UInt8 := [42, 180, 0, 148, 172, 42, 180, 0, 25, 172, 42, 180, 1, 73, 172, 42, 180, 0, 112, 172, 27, 133, 9]
abbrev dktX0_count_2 : List UInt8 := dkwX0_count_2 ++ dktX0_count_3
def dkwX0_count_1 : List UInt8 := [170, 0, 0, 0, 0, 0, 75, 0, 0, 0, 3, 0, 0, 0, 12, 0, 0, 0, 55, 0, 0, 0, 60, 0, 0, 0, 75, 0, 0, 0, 75, 0, 0, 0, 75, 0, 0, 0, 75, 0, 0, 0, 75, 0, 0, 0, 75, 0, 0, 0, 65, 0, 0, 0, 70]
abbrev dktX0_count_1 : List UInt8 := dkwX0_count_1 ++ dktX0_count_2
def dkwX0_count_0 : List UInt8 := [27]
abbrev dktX0_count_0 : List UInt8 := dkwX0_count_0 ++ dktX0_count_1
theorem dksX0_count_0 : cX0_count.data.toList.drop 0 = dktX0_count_0 := by decide +kernel
theorem dksX0_count_1 : cX0_count.data.toList.drop 1 = dktX0_count_1 := dk_seg dksX0_count_0 1 rfl rfl
theorem dksX0_count_2 : cX0_count.data.toList.drop 56 = dktX0_count_2 := dk_seg dksX0_count_1 55 rfl rfl
theorem dksX0_count_3 : cX0_count.data.toList.drop 79 = dktX0_count_3 := dk_seg dksX0_count_2 23 rfl rfl
theorem dksX0_count_4 : cX0_count.data.toList.drop 100 = dktX0_count_4 := dk_seg dksX0_count_3 21 rfl rfl
theorem dksX0_count_5 : cX0_count.data.toList.drop 156 = dktX0_count_5 := dk_seg dksX0_count_4 56 rfl rfl
theorem dksX0_count_6 : cX0_count.data.toList.drop 180 = dktX0_count_6 := dk_seg dksX0_count_5 24 rfl rfl
theorem dksX0_count_7 : cX0_count.data.toList.drop 202 = dktX0_count_7 := dk_seg dksX0_count_6 22 rfl rfl
theorem dksX0_count_8 : cX0_count.data.toList.drop 226 = dktX0_count_8 := dk_seg dksX0_count_7 24 rfl rfl
theorem dX0_count_0 : decode cX0_count 0 = .ok (.iload_n 1, 1) := dk_27 (dk_at dksX0_count_0 0 rfl rfl)
theorem dX0_count_1 : decode cX0_count 1 = .ok (.tableswitch 75 3 12 #[55, 60, 75, 75, 75, 75, 75, 75, 65, 70], 55) := by decide +kernel
theorem dX0_count_56 : decode cX0_count 56 = .ok (.aload_n 0, 1) := dk_42 (dk_at dksX0_count_2 0 rfl rfl)
theorem dX0_count_57 : decode cX0_count 57 = .ok (.getfield 148, 3) := dk_180 0 148 (dk_at dksX0_count_2 1 rfl rfl)
theorem dX0_count_60 : decode cX0_count 60 = .ok (.ireturn, 1) := dk_172 (dk_at dksX0_count_2 4 rfl rfl)
theorem dX0_count_61 : decode cX0_count 61 = .ok (.aload_n 0, 1) := dk_42 (dk_at dksX0_count_2 5 rfl rfl)
theorem dX0_count_62 : decode cX0_count 62 = .ok (.getfield 25, 3) := dk_180 0 25 (dk_at dksX0_count_2 6 rfl rfl)
theorem dX0_count_65 : decode cX0_count 65 = .ok (.ireturn, 1) := dk_172 (dk_at dksX0_count_2 9 rfl rfl)
theorem dX0_count_66 : decode cX0_count 66 = .ok (.aload_n 0, 1) := dk_42 (dk_at dksX0_count_2 10 rfl rfl)
theorem dX0_count_67 : decode cX0_count 67 = .ok (.getfield 329, 3) := dk_180 1 73 (dk_at dksX0_count_2 11 rfl rfl)
theorem dX0_count_70 : decode cX0_count 70 = .ok (.ireturn, 1) := dk_172 (dk_at dksX0_count_2 14 rfl rfl)
theorem dX0_count_71 : decode cX0_count 71 = .ok (.aload_n 0, 1) := dk_42 (dk_at dksX0_count_2 15 rfl rfl)
theorem dX0_count_72 : decode cX0_count 72 = .ok (.getfield 112, 3) := dk_180 0 112 (dk_at dksX0_count_2 16 rfl rfl)
theorem dX0_count_75 : decode cX0_count 75 = .ok (.ireturn, 1) := dk_172 (dk_at dksX0_count_2 19 rfl rfl)
theorem dX0_count_76 : decode cX0_count 76 = .ok (.iload_n 1, 1) := dk_27 (dk_at dksX0_count_2 20 rfl rfl)
theorem dX0_count_77 : decode cX0_count 77 = .ok (.i2l, 1) := dk_133 (dk_at dksX0_count_2 21 rfl rfl)
theorem dX0_count_78 : decode cX0_count 78 = .ok (.lconst 0, 1) := dk_9 (dk_at dksX0_count_2 22 rfl rfl)
theorem dX0_count_79 : decode cX0_count 79 = .ok (.ldc2_w 350, 3) := dk_20 1 94 (dk_at dksX0_count_3 0 rfl rfl)
theorem dX0_count_82 : decode cX0_count 82 = .ok (.invokestatic 178, 3) := dk_184 0 178 (dk_at dksX0_count_3 3 rfl rfl)
theorem dX0_count_85 : decode cX0_count 85 = .ok (.ifCond .ne 5, 3) := dk_154 0 5 (dk_at dksX0_count_3 6 rfl rfl)
theorem dX0_count_88 : decode cX0_count 88 = .ok (.iconst (-1), 1) := dk_2 (dk_at dksX0_count_3 9 rfl rfl)
theorem dX0_count_89 : decode cX0_count 89 = .ok (.ireturn, 1) := dk_172 (dk_at dksX0_count_3 10 rfl rfl)
theorem dX0_count_90 : decode cX0_count 90 = .ok (.aload_n 0, 1) := dk_42 (dk_at dksX0_count_3 11 rfl rfl)
theorem dX0_count_91 : decode cX0_count 91 = .ok (.getfield 138, 3) := dk_180 0 138 (dk_at dksX0_count_3 12 rfl rfl)
theorem dX0_count_94 : decode cX0_count 94 = .ok (.ifnonnull 5, 3) := dk_199 0 5 (dk_at dksX0_count_3 15 rfl rfl)
theorem dX0_count_97 : decode cX0_count 97 = .ok (.iconst 0, 1) := dk_3 (dk_at dksX0_count_3 18 rfl rfl)
theorem dX0_count_98 : decode cX0_count 98 = .ok (.ireturn, 1) := dk_172 (dk_at dksX0_count_3 19 rfl rfl)
theorem dX0_count_99 : decode cX0_count 99 = .ok (.iload_n 1, 1) := dk_27 (dk_at dksX0_count_3 20 rfl rfl)
theorem dX0_count_100 : decode cX0_count 100 = .ok (.tableswitch 122 0 9 #[56, 64, 72, 122, 122, 80, 88, 97, 106, 114], 56) := by decide +kernel
theorem dX0_count_156 : decode cX0_count 156 = .ok (.aload_n 0, 1) := dk_42 (dk_at dksX0_count_5 0 rfl rfl)
theorem dX0_count_157 : decode cX0_count 157 = .ok (.getfield 138, 3) := dk_180 0 138 (dk_at dksX0_count_5 1 rfl rfl)
theorem dX0_count_160 : decode cX0_count 160 = .ok (.getfield 155, 3) := dk_180 0 155 (dk_at dksX0_count_5 4 rfl rfl)
theorem dX0_count_163 : decode cX0_count 163 = .ok (.ireturn, 1) := dk_172 (dk_at dksX0_count_5 7 rfl rfl)
theorem dX0_count_164 : decode cX0_count 164 = .ok (.aload_n 0, 1) := dk_42 (dk_at dksX0_count_5 8 rfl rfl)
theorem dX0_count_165 : decode cX0_count 165 = .ok (.getfield 138, 3) := dk_180 0 138 (dk_at dksX0_count_5 9 rfl rfl)
theorem dX0_count_168 : decode cX0_count 168 = .ok (.getfield 158, 3) := dk_180 0 158 (dk_at dksX0_count_5 12 rfl rfl)
theorem dX0_count_171 : decode cX0_count 171 = .ok (.ireturn, 1) := dk_172 (dk_at dksX0_count_5 15 rfl rfl)
theorem dX0_count_172 : decode cX0_count 172 = .ok (.aload_n 0, 1) := dk_42 (dk_at dksX0_count_5 16 rfl rfl)
theorem dX0_count_173 : decode cX0_count 173 = .ok (.getfield 138, 3) := dk_180 0 138 (dk_at dksX0_count_5 17 rfl rfl)
theorem dX0_count_176 : decode cX0_count 176 = .ok (.getfield 141, 3) := dk_180 0 141 (dk_at dksX0_count_5 20 rfl rfl)
theorem dX0_count_179 : decode cX0_count 179 = .ok (.ireturn, 1) := dk_172 (dk_at dksX0_count_5 23 rfl rfl)
theorem dX0_count_180 : decode cX0_count 180 = .ok (.aload_n 0, 1) := dk_42 (dk_at dksX0_count_6 0 rfl rfl)
theorem dX0_count_181 : decode cX0_count 181 = .ok (.getfield 138, 3) := dk_180 0 138 (dk_at dksX0_count_6 1 rfl rfl)
theorem dX0_count_184 : decode cX0_count 184 = .ok (.getfield 217, 3) := dk_180 0 217 (dk_at dksX0_count_6 4 rfl rfl)
theorem dX0_count_187 : decode cX0_count 187 = .ok (.ireturn, 1) := dk_172 (dk_at dksX0_count_6 7 rfl rfl)
theorem dX0_count_188 : decode cX0_count 188 = .ok (.aload_n 0, 1) := dk_42 (dk_at dksX0_count_6 8 rfl rfl)
theorem dX0_count_189 : decode cX0_count 189 = .ok (.getfield 138, 3) := dk_180 0 138 (dk_at dksX0_count_6 9 rfl rfl)
theorem dX0_count_192 : decode cX0_count 192 = .ok (.iconst 1, 1) := dk_4 (dk_at dksX0_count_6 12 rfl rfl)
theorem dX0_count_193 : decode cX0_count 193 = .ok (.invokevirtual 241, 3) := dk_182 0 241 (dk_at dksX0_count_6 13 rfl rfl)
theorem dX0_count_196 : decode cX0_count 196 = .ok (.ireturn, 1) := dk_172 (dk_at dksX0_count_6 16 rfl rfl)
theorem dX0_count_197 : decode cX0_count 197 = .ok (.aload_n 0, 1) := dk_42 (dk_at dksX0_count_6 17 rfl rfl)
theorem dX0_count_198 : decode cX0_count 198 = .ok (.getfield 138, 3) := dk_180 0 138 (dk_at dksX0_count_6 18 rfl rfl)
theorem dX0_count_201 : decode cX0_count 201 = .ok (.iconst 2, 1) := dk_5 (dk_at dksX0_count_6 21 rfl rfl)
theorem dX0_count_202 : decode cX0_count 202 = .ok (.invokevirtual 241, 3) := dk_182 0 241 (dk_at dksX0_count_7 0 rfl rfl)
theorem dX0_count_205 : decode cX0_count 205 = .ok (.ireturn, 1) := dk_172 (dk_at dksX0_count_7 3 rfl rfl)
theorem dX0_count_206 : decode cX0_count 206 = .ok (.aload_n 0, 1) := dk_42 (dk_at dksX0_count_7 4 rfl rfl)
theorem dX0_count_207 : decode cX0_count 207 = .ok (.getfield 138, 3) := dk_180 0 138 (dk_at dksX0_count_7 5 rfl rfl)
theorem dX0_count_210 : decode cX0_count 210 = .ok (.invokevirtual 297, 3) := dk_182 1 41 (dk_at dksX0_count_7 8 rfl rfl)
theorem dX0_count_213 : decode cX0_count 213 = .ok (.ireturn, 1) := dk_172 (dk_at dksX0_count_7 11 rfl rfl)
theorem dX0_count_214 : decode cX0_count 214 = .ok (.aload_n 0, 1) := dk_42 (dk_at dksX0_count_7 12 rfl rfl)
theorem dX0_count_215 : decode cX0_count 215 = .ok (.getfield 138, 3) := dk_180 0 138 (dk_at dksX0_count_7 13 rfl rfl)
theorem dX0_count_218 : decode cX0_count 218 = .ok (.getfield 300, 3) := dk_180 1 44 (dk_at dksX0_count_7 16 rfl rfl)
theorem dX0_count_221 : decode cX0_count 221 = .ok (.ireturn, 1) := dk_172 (dk_at dksX0_count_7 19 rfl rfl)
theorem dX0_count_222 : decode cX0_count 222 = .ok (.aload_n 0, 1) := dk_42 (dk_at dksX0_count_7 20 rfl rfl)
theorem dX0_count_223 : decode cX0_count 223 = .ok (.getfield 138, 3) := dk_180 0 138 (dk_at dksX0_count_7 21 rfl rfl)
theorem dX0_count_226 : decode cX0_count 226 = .ok (.getfield 199, 3) := dk_180 0 199 (dk_at dksX0_count_8 0 rfl rfl)
theorem dX0_count_229 : decode cX0_count 229 = .ok (.ireturn, 1) := dk_172 (dk_at dksX0_count_8 3 rfl rfl)
abbrev cX0_image : ByteArray := prog_1_method_58_code
def yX0_image : MethodName := ⟨RX0, "image", "(I)I"⟩
def dkwX0_image_4 : List UInt8 := [42, 180, 0, 138, 180, 0, 217, 172]
abbrev dktX0_image_4 : List UInt8 := dkwX0_image_4 ++ []
def dkwX0_image_3 : List UInt8 := [181, 1, 102, 42, 180, 0, 138, 199, 0, 5, 3, 172, 44, 180, 1, 103, 42, 180, 0, 138, 182, 0, 134, 87]
abbrev dktX0_image_3 : List UInt8 := dkwX0_image_3 ++ dktX0_image_4
def dkwX0_image_2 : List UInt8 := [198, 0, 7, 4, 167, 0, 4, 3, 181, 1, 97, 44, 42, 180, 1, 73, 181, 1, 101, 44, 42, 180, 0, 25]
abbrev dktX0_image_2 : List UInt8 := dkwX0_image_2 ++ dktX0_image_3
def dkwX0_image_1 : List UInt8 := [180, 0, 108, 27, 187, 0, 106, 89, 183, 1, 96, 83, 42, 180, 0, 108, 27, 50, 77, 44, 42, 180, 0, 138]
abbrev dktX0_image_1 : List UInt8 := dkwX0_image_1 ++ dktX0_image_2
def dkwX0_image_0 : List UInt8 := [27, 133, 9, 20, 0, 176, 184, 0, 178, 154, 0, 5, 2, 172, 42, 180, 0, 108, 27, 50, 199, 0, 16, 42]
abbrev dktX0_image_0 : List UInt8 := dkwX0_image_0 ++ dktX0_image_1
theorem dksX0_image_0 : cX0_image.data.toList.drop 0 = dktX0_image_0 := by decide +kernel
theorem dksX0_image_1 : cX0_image.data.toList.drop 24 = dktX0_image_1 := dk_seg dksX0_image_0 24 rfl rfl
theorem dksX0_image_2 : cX0_image.data.toList.drop 48 = dktX0_image_2 := dk_seg dksX0_image_1 24 rfl rfl
theorem dksX0_image_3 : cX0_image.data.toList.drop 72 = dktX0_image_3 := dk_seg dksX0_image_2 24 rfl rfl
theorem dksX0_image_4 : cX0_image.data.toList.drop 96 = dktX0_image_4 := dk_seg dksX0_image_3 24 rfl rfl
theorem dX0_image_0 : decode cX0_image 0 = .ok (.iload_n 1, 1) := dk_27 (dk_at dksX0_image_0 0 rfl rfl)
theorem dX0_image_1 : decode cX0_image 1 = .ok (.i2l, 1) := dk_133 (dk_at dksX0_image_0 1 rfl rfl)
theorem dX0_image_2 : decode cX0_image 2 = .ok (.lconst 0, 1) := dk_9 (dk_at dksX0_image_0 2 rfl rfl)
theorem dX0_image_3 : decode cX0_image 3 = .ok (.ldc2_w 176, 3) := dk_20 0 176 (dk_at dksX0_image_0 3 rfl rfl)
theorem dX0_image_6 : decode cX0_image 6 = .ok (.invokestatic 178, 3) := dk_184 0 178 (dk_at dksX0_image_0 6 rfl rfl)
theorem dX0_image_9 : decode cX0_image 9 = .ok (.ifCond .ne 5, 3) := dk_154 0 5 (dk_at dksX0_image_0 9 rfl rfl)
theorem dX0_image_12 : decode cX0_image 12 = .ok (.iconst (-1), 1) := dk_2 (dk_at dksX0_image_0 12 rfl rfl)
theorem dX0_image_13 : decode cX0_image 13 = .ok (.ireturn, 1) := dk_172 (dk_at dksX0_image_0 13 rfl rfl)
theorem dX0_image_14 : decode cX0_image 14 = .ok (.aload_n 0, 1) := dk_42 (dk_at dksX0_image_0 14 rfl rfl)
theorem dX0_image_15 : decode cX0_image 15 = .ok (.getfield 108, 3) := dk_180 0 108 (dk_at dksX0_image_0 15 rfl rfl)
theorem dX0_image_18 : decode cX0_image 18 = .ok (.iload_n 1, 1) := dk_27 (dk_at dksX0_image_0 18 rfl rfl)
theorem dX0_image_19 : decode cX0_image 19 = .ok (.aaload, 1) := dk_50 (dk_at dksX0_image_0 19 rfl rfl)
theorem dX0_image_20 : decode cX0_image 20 = .ok (.ifnonnull 16, 3) := dk_199 0 16 (dk_at dksX0_image_0 20 rfl rfl)
theorem dX0_image_23 : decode cX0_image 23 = .ok (.aload_n 0, 1) := dk_42 (dk_at dksX0_image_0 23 rfl rfl)
theorem dX0_image_24 : decode cX0_image 24 = .ok (.getfield 108, 3) := dk_180 0 108 (dk_at dksX0_image_1 0 rfl rfl)
theorem dX0_image_27 : decode cX0_image 27 = .ok (.iload_n 1, 1) := dk_27 (dk_at dksX0_image_1 3 rfl rfl)
theorem dX0_image_28 : decode cX0_image 28 = .ok (.new 106, 3) := dk_187 0 106 (dk_at dksX0_image_1 4 rfl rfl)
theorem dX0_image_31 : decode cX0_image 31 = .ok (.dup, 1) := dk_89 (dk_at dksX0_image_1 7 rfl rfl)
theorem dX0_image_32 : decode cX0_image 32 = .ok (.invokespecial 352, 3) := dk_183 1 96 (dk_at dksX0_image_1 8 rfl rfl)
theorem dX0_image_35 : decode cX0_image 35 = .ok (.aastore, 1) := dk_83 (dk_at dksX0_image_1 11 rfl rfl)
theorem dX0_image_36 : decode cX0_image 36 = .ok (.aload_n 0, 1) := dk_42 (dk_at dksX0_image_1 12 rfl rfl)
theorem dX0_image_37 : decode cX0_image 37 = .ok (.getfield 108, 3) := dk_180 0 108 (dk_at dksX0_image_1 13 rfl rfl)
theorem dX0_image_40 : decode cX0_image 40 = .ok (.iload_n 1, 1) := dk_27 (dk_at dksX0_image_1 16 rfl rfl)
theorem dX0_image_41 : decode cX0_image 41 = .ok (.aaload, 1) := dk_50 (dk_at dksX0_image_1 17 rfl rfl)
theorem dX0_image_42 : decode cX0_image 42 = .ok (.astore_n 2, 1) := dk_77 (dk_at dksX0_image_1 18 rfl rfl)
theorem dX0_image_43 : decode cX0_image 43 = .ok (.aload_n 2, 1) := dk_44 (dk_at dksX0_image_1 19 rfl rfl)
theorem dX0_image_44 : decode cX0_image 44 = .ok (.aload_n 0, 1) := dk_42 (dk_at dksX0_image_1 20 rfl rfl)
theorem dX0_image_45 : decode cX0_image 45 = .ok (.getfield 138, 3) := dk_180 0 138 (dk_at dksX0_image_1 21 rfl rfl)
theorem dX0_image_48 : decode cX0_image 48 = .ok (.ifnull 7, 3) := dk_198 0 7 (dk_at dksX0_image_2 0 rfl rfl)
theorem dX0_image_51 : decode cX0_image 51 = .ok (.iconst 1, 1) := dk_4 (dk_at dksX0_image_2 3 rfl rfl)
theorem dX0_image_52 : decode cX0_image 52 = .ok (.goto 4, 3) := dk_167 0 4 (dk_at dksX0_image_2 4 rfl rfl)
theorem dX0_image_55 : decode cX0_image 55 = .ok (.iconst 0, 1) := dk_3 (dk_at dksX0_image_2 7 rfl rfl)
theorem dX0_image_56 : decode cX0_image 56 = .ok (.putfield 353, 3) := dk_181 1 97 (dk_at dksX0_image_2 8 rfl rfl)
theorem dX0_image_59 : decode cX0_image 59 = .ok (.aload_n 2, 1) := dk_44 (dk_at dksX0_image_2 11 rfl rfl)
theorem dX0_image_60 : decode cX0_image 60 = .ok (.aload_n 0, 1) := dk_42 (dk_at dksX0_image_2 12 rfl rfl)
theorem dX0_image_61 : decode cX0_image 61 = .ok (.getfield 329, 3) := dk_180 1 73 (dk_at dksX0_image_2 13 rfl rfl)
theorem dX0_image_64 : decode cX0_image 64 = .ok (.putfield 357, 3) := dk_181 1 101 (dk_at dksX0_image_2 16 rfl rfl)
theorem dX0_image_67 : decode cX0_image 67 = .ok (.aload_n 2, 1) := dk_44 (dk_at dksX0_image_2 19 rfl rfl)
theorem dX0_image_68 : decode cX0_image 68 = .ok (.aload_n 0, 1) := dk_42 (dk_at dksX0_image_2 20 rfl rfl)
theorem dX0_image_69 : decode cX0_image 69 = .ok (.getfield 25, 3) := dk_180 0 25 (dk_at dksX0_image_2 21 rfl rfl)
theorem dX0_image_72 : decode cX0_image 72 = .ok (.putfield 358, 3) := dk_181 1 102 (dk_at dksX0_image_3 0 rfl rfl)
theorem dX0_image_75 : decode cX0_image 75 = .ok (.aload_n 0, 1) := dk_42 (dk_at dksX0_image_3 3 rfl rfl)
theorem dX0_image_76 : decode cX0_image 76 = .ok (.getfield 138, 3) := dk_180 0 138 (dk_at dksX0_image_3 4 rfl rfl)
theorem dX0_image_79 : decode cX0_image 79 = .ok (.ifnonnull 5, 3) := dk_199 0 5 (dk_at dksX0_image_3 7 rfl rfl)
theorem dX0_image_82 : decode cX0_image 82 = .ok (.iconst 0, 1) := dk_3 (dk_at dksX0_image_3 10 rfl rfl)
theorem dX0_image_83 : decode cX0_image 83 = .ok (.ireturn, 1) := dk_172 (dk_at dksX0_image_3 11 rfl rfl)
theorem dX0_image_84 : decode cX0_image 84 = .ok (.aload_n 2, 1) := dk_44 (dk_at dksX0_image_3 12 rfl rfl)
theorem dX0_image_85 : decode cX0_image 85 = .ok (.getfield 359, 3) := dk_180 1 103 (dk_at dksX0_image_3 13 rfl rfl)
theorem dX0_image_88 : decode cX0_image 88 = .ok (.aload_n 0, 1) := dk_42 (dk_at dksX0_image_3 16 rfl rfl)
theorem dX0_image_89 : decode cX0_image 89 = .ok (.getfield 138, 3) := dk_180 0 138 (dk_at dksX0_image_3 17 rfl rfl)
theorem dX0_image_92 : decode cX0_image 92 = .ok (.invokevirtual 134, 3) := dk_182 0 134 (dk_at dksX0_image_3 20 rfl rfl)
theorem dX0_image_95 : decode cX0_image 95 = .ok (.pop, 1) := dk_87 (dk_at dksX0_image_3 23 rfl rfl)
theorem dX0_image_96 : decode cX0_image 96 = .ok (.aload_n 0, 1) := dk_42 (dk_at dksX0_image_4 0 rfl rfl)
theorem dX0_image_97 : decode cX0_image 97 = .ok (.getfield 138, 3) := dk_180 0 138 (dk_at dksX0_image_4 1 rfl rfl)
theorem dX0_image_100 : decode cX0_image 100 = .ok (.getfield 217, 3) := dk_180 0 217 (dk_at dksX0_image_4 4 rfl rfl)
theorem dX0_image_103 : decode cX0_image 103 = .ok (.ireturn, 1) := dk_172 (dk_at dksX0_image_4 7 rfl rfl)
abbrev cX0_back : ByteArray := prog_1_method_59_code
def yX0_back : MethodName := ⟨RX0, "back", "(I)I"⟩
def dkwX0_back_4 : List UInt8 := [167, 0, 10, 42, 180, 0, 138, 180, 0, 217, 172]
abbrev dktX0_back_4 : List UInt8 := dkwX0_back_4 ++ []
def dkwX0_back_3 : List UInt8 := [181, 1, 73, 42, 42, 180, 0, 108, 27, 50, 180, 1, 102, 181, 0, 25, 42, 180, 0, 138, 199, 0, 7, 3]
abbrev dktX0_back_3 : List UInt8 := dkwX0_back_3 ++ dktX0_back_4
def dkwX0_back_2 : List UInt8 := [180, 1, 103, 182, 0, 134, 167, 0, 4, 1, 181, 0, 138, 42, 42, 180, 0, 108, 27, 50, 180, 1, 101]
abbrev dktX0_back_2 : List UInt8 := dkwX0_back_2 ++ dktX0_back_3
def dkwX0_back_1 : List UInt8 := [42, 180, 0, 108, 27, 50, 180, 1, 97, 153, 0, 22, 42, 180, 0, 10, 42, 180, 0, 108, 27, 50]
abbrev dktX0_back_1 : List UInt8 := dkwX0_back_1 ++ dktX0_back_2
def dkwX0_back_0 : List UInt8 := [27, 133, 9, 20, 0, 176, 184, 0, 178, 153, 0, 12, 42, 180, 0, 108, 27, 50, 199, 0, 5, 2, 172, 42]
abbrev dktX0_back_0 : List UInt8 := dkwX0_back_0 ++ dktX0_back_1
theorem dksX0_back_0 : cX0_back.data.toList.drop 0 = dktX0_back_0 := by decide +kernel
theorem dksX0_back_1 : cX0_back.data.toList.drop 24 = dktX0_back_1 := dk_seg dksX0_back_0 24 rfl rfl
theorem dksX0_back_2 : cX0_back.data.toList.drop 46 = dktX0_back_2 := dk_seg dksX0_back_1 22 rfl rfl
theorem dksX0_back_3 : cX0_back.data.toList.drop 69 = dktX0_back_3 := dk_seg dksX0_back_2 23 rfl rfl
theorem dksX0_back_4 : cX0_back.data.toList.drop 93 = dktX0_back_4 := dk_seg dksX0_back_3 24 rfl rfl
theorem dX0_back_0 : decode cX0_back 0 = .ok (.iload_n 1, 1) := dk_27 (dk_at dksX0_back_0 0 rfl rfl)
theorem dX0_back_1 : decode cX0_back 1 = .ok (.i2l, 1) := dk_133 (dk_at dksX0_back_0 1 rfl rfl)
theorem dX0_back_2 : decode cX0_back 2 = .ok (.lconst 0, 1) := dk_9 (dk_at dksX0_back_0 2 rfl rfl)
theorem dX0_back_3 : decode cX0_back 3 = .ok (.ldc2_w 176, 3) := dk_20 0 176 (dk_at dksX0_back_0 3 rfl rfl)
theorem dX0_back_6 : decode cX0_back 6 = .ok (.invokestatic 178, 3) := dk_184 0 178 (dk_at dksX0_back_0 6 rfl rfl)
theorem dX0_back_9 : decode cX0_back 9 = .ok (.ifCond .eq 12, 3) := dk_153 0 12 (dk_at dksX0_back_0 9 rfl rfl)
theorem dX0_back_12 : decode cX0_back 12 = .ok (.aload_n 0, 1) := dk_42 (dk_at dksX0_back_0 12 rfl rfl)
theorem dX0_back_13 : decode cX0_back 13 = .ok (.getfield 108, 3) := dk_180 0 108 (dk_at dksX0_back_0 13 rfl rfl)
theorem dX0_back_16 : decode cX0_back 16 = .ok (.iload_n 1, 1) := dk_27 (dk_at dksX0_back_0 16 rfl rfl)
theorem dX0_back_17 : decode cX0_back 17 = .ok (.aaload, 1) := dk_50 (dk_at dksX0_back_0 17 rfl rfl)
theorem dX0_back_18 : decode cX0_back 18 = .ok (.ifnonnull 5, 3) := dk_199 0 5 (dk_at dksX0_back_0 18 rfl rfl)
theorem dX0_back_21 : decode cX0_back 21 = .ok (.iconst (-1), 1) := dk_2 (dk_at dksX0_back_0 21 rfl rfl)
theorem dX0_back_22 : decode cX0_back 22 = .ok (.ireturn, 1) := dk_172 (dk_at dksX0_back_0 22 rfl rfl)
theorem dX0_back_23 : decode cX0_back 23 = .ok (.aload_n 0, 1) := dk_42 (dk_at dksX0_back_0 23 rfl rfl)
theorem dX0_back_24 : decode cX0_back 24 = .ok (.aload_n 0, 1) := dk_42 (dk_at dksX0_back_1 0 rfl rfl)
theorem dX0_back_25 : decode cX0_back 25 = .ok (.getfield 108, 3) := dk_180 0 108 (dk_at dksX0_back_1 1 rfl rfl)
theorem dX0_back_28 : decode cX0_back 28 = .ok (.iload_n 1, 1) := dk_27 (dk_at dksX0_back_1 4 rfl rfl)
theorem dX0_back_29 : decode cX0_back 29 = .ok (.aaload, 1) := dk_50 (dk_at dksX0_back_1 5 rfl rfl)
theorem dX0_back_30 : decode cX0_back 30 = .ok (.getfield 353, 3) := dk_180 1 97 (dk_at dksX0_back_1 6 rfl rfl)
theorem dX0_back_33 : decode cX0_back 33 = .ok (.ifCond .eq 22, 3) := dk_153 0 22 (dk_at dksX0_back_1 9 rfl rfl)
theorem dX0_back_36 : decode cX0_back 36 = .ok (.aload_n 0, 1) := dk_42 (dk_at dksX0_back_1 12 rfl rfl)
theorem dX0_back_37 : decode cX0_back 37 = .ok (.getfield 10, 3) := dk_180 0 10 (dk_at dksX0_back_1 13 rfl rfl)
theorem dX0_back_40 : decode cX0_back 40 = .ok (.aload_n 0, 1) := dk_42 (dk_at dksX0_back_1 16 rfl rfl)
theorem dX0_back_41 : decode cX0_back 41 = .ok (.getfield 108, 3) := dk_180 0 108 (dk_at dksX0_back_1 17 rfl rfl)
theorem dX0_back_44 : decode cX0_back 44 = .ok (.iload_n 1, 1) := dk_27 (dk_at dksX0_back_1 20 rfl rfl)
theorem dX0_back_45 : decode cX0_back 45 = .ok (.aaload, 1) := dk_50 (dk_at dksX0_back_1 21 rfl rfl)
theorem dX0_back_46 : decode cX0_back 46 = .ok (.getfield 359, 3) := dk_180 1 103 (dk_at dksX0_back_2 0 rfl rfl)
theorem dX0_back_49 : decode cX0_back 49 = .ok (.invokevirtual 134, 3) := dk_182 0 134 (dk_at dksX0_back_2 3 rfl rfl)
theorem dX0_back_52 : decode cX0_back 52 = .ok (.goto 4, 3) := dk_167 0 4 (dk_at dksX0_back_2 6 rfl rfl)
theorem dX0_back_55 : decode cX0_back 55 = .ok (.aconst_null, 1) := dk_1 (dk_at dksX0_back_2 9 rfl rfl)
theorem dX0_back_56 : decode cX0_back 56 = .ok (.putfield 138, 3) := dk_181 0 138 (dk_at dksX0_back_2 10 rfl rfl)
theorem dX0_back_59 : decode cX0_back 59 = .ok (.aload_n 0, 1) := dk_42 (dk_at dksX0_back_2 13 rfl rfl)
theorem dX0_back_60 : decode cX0_back 60 = .ok (.aload_n 0, 1) := dk_42 (dk_at dksX0_back_2 14 rfl rfl)
theorem dX0_back_61 : decode cX0_back 61 = .ok (.getfield 108, 3) := dk_180 0 108 (dk_at dksX0_back_2 15 rfl rfl)
theorem dX0_back_64 : decode cX0_back 64 = .ok (.iload_n 1, 1) := dk_27 (dk_at dksX0_back_2 18 rfl rfl)
theorem dX0_back_65 : decode cX0_back 65 = .ok (.aaload, 1) := dk_50 (dk_at dksX0_back_2 19 rfl rfl)
theorem dX0_back_66 : decode cX0_back 66 = .ok (.getfield 357, 3) := dk_180 1 101 (dk_at dksX0_back_2 20 rfl rfl)
theorem dX0_back_69 : decode cX0_back 69 = .ok (.putfield 329, 3) := dk_181 1 73 (dk_at dksX0_back_3 0 rfl rfl)
theorem dX0_back_72 : decode cX0_back 72 = .ok (.aload_n 0, 1) := dk_42 (dk_at dksX0_back_3 3 rfl rfl)
theorem dX0_back_73 : decode cX0_back 73 = .ok (.aload_n 0, 1) := dk_42 (dk_at dksX0_back_3 4 rfl rfl)
theorem dX0_back_74 : decode cX0_back 74 = .ok (.getfield 108, 3) := dk_180 0 108 (dk_at dksX0_back_3 5 rfl rfl)
theorem dX0_back_77 : decode cX0_back 77 = .ok (.iload_n 1, 1) := dk_27 (dk_at dksX0_back_3 8 rfl rfl)
theorem dX0_back_78 : decode cX0_back 78 = .ok (.aaload, 1) := dk_50 (dk_at dksX0_back_3 9 rfl rfl)
theorem dX0_back_79 : decode cX0_back 79 = .ok (.getfield 358, 3) := dk_180 1 102 (dk_at dksX0_back_3 10 rfl rfl)
theorem dX0_back_82 : decode cX0_back 82 = .ok (.putfield 25, 3) := dk_181 0 25 (dk_at dksX0_back_3 13 rfl rfl)
theorem dX0_back_85 : decode cX0_back 85 = .ok (.aload_n 0, 1) := dk_42 (dk_at dksX0_back_3 16 rfl rfl)
theorem dX0_back_86 : decode cX0_back 86 = .ok (.getfield 138, 3) := dk_180 0 138 (dk_at dksX0_back_3 17 rfl rfl)
theorem dX0_back_89 : decode cX0_back 89 = .ok (.ifnonnull 7, 3) := dk_199 0 7 (dk_at dksX0_back_3 20 rfl rfl)
theorem dX0_back_92 : decode cX0_back 92 = .ok (.iconst 0, 1) := dk_3 (dk_at dksX0_back_3 23 rfl rfl)
theorem dX0_back_93 : decode cX0_back 93 = .ok (.goto 10, 3) := dk_167 0 10 (dk_at dksX0_back_4 0 rfl rfl)
theorem dX0_back_96 : decode cX0_back 96 = .ok (.aload_n 0, 1) := dk_42 (dk_at dksX0_back_4 3 rfl rfl)
theorem dX0_back_97 : decode cX0_back 97 = .ok (.getfield 138, 3) := dk_180 0 138 (dk_at dksX0_back_4 4 rfl rfl)
theorem dX0_back_100 : decode cX0_back 100 = .ok (.getfield 217, 3) := dk_180 0 217 (dk_at dksX0_back_4 7 rfl rfl)
theorem dX0_back_103 : decode cX0_back 103 = .ok (.ireturn, 1) := dk_172 (dk_at dksX0_back_4 10 rfl rfl)
theorem q117 : (Jvm.Cond.initialized "ChairCane") ∈ lw_all := lw_g (lw_at lw_m1 1 rfl) rfl
theorem q144 : (Jvm.Cond.instantiable "ChairCane" (23 : Nat)) ∈ lw_all := lw_g (lw_at lw_m1 28 rfl) rfl
theorem q146 : (Jvm.Cond.instanceMethod ({ cls := "ChairCane", name := "<init>", desc := "()V" } : Jvm.MethodName)) ∈ lw_all := lw_g (lw_at lw_m1 30 rfl) rfl
theorem q147 : (Jvm.Cond.code ({ cls := "ChairCane", name := "<init>", desc := "()V" } : Jvm.MethodName) prog_1_method_3_code (1 : Nat) (Option.none : Option Jvm.ClassFile.FieldType)) ∈ lw_all := lw_g (lw_at lw_m1 31 rfl) rfl
theorem q148 : (Jvm.Cond.methodLink "ChairCane" (1 : Nat) ({ cls := "java/lang/Object", name := "<init>", desc := "()V" } : Jvm.MethodName)) ∈ lw_all := lw_g (lw_at lw_m1 32 rfl) rfl
theorem q151 : (Jvm.Cond.classLink "ChairCane" (7 : Nat) "ChairCane$Dinner") ∈ lw_all := lw_g (lw_at lw_m1 35 rfl) rfl
theorem q153 : (Jvm.Cond.methodLinkNest "ChairCane" (9 : Nat) ({ cls := "ChairCane$Dinner", name := "<init>", desc := "()V" } : Jvm.MethodName) "ChairCane") ∈ lw_tbl := lw_at lw_m1 37 rfl
theorem q158 : (Jvm.Cond.fieldLinkNest "ChairCane" (155 : Nat) "ChairCane$Dinner" "strandMany" "I" "ChairCane") ∈ lw_tbl := lw_at lw_m1 42 rfl
theorem q161 : (Jvm.Cond.fieldLinkNest "ChairCane" (158 : Nat) "ChairCane$Dinner" "chairMany" "I" "ChairCane") ∈ lw_tbl := lw_at lw_m1 45 rfl
theorem q164 : (Jvm.Cond.fieldLinkNest "ChairCane" (141 : Nat) "ChairCane$Dinner" "sitterMany" "I" "ChairCane") ∈ lw_tbl := lw_at lw_m1 48 rfl
theorem q167 : (Jvm.Cond.fieldLinkNest "ChairCane" (300 : Nat) "ChairCane$Dinner" "noteMany" "I" "ChairCane") ∈ lw_tbl := lw_at lw_m1 51 rfl
theorem q169 : (Jvm.Cond.fieldLinkNest "ChairCane" (199 : Nat) "ChairCane$Dinner" "undoMany" "I" "ChairCane") ∈ lw_tbl := lw_at lw_m1 53 rfl
theorem q173 : (Jvm.Cond.fieldLinkNest "ChairCane" (217 : Nat) "ChairCane$Dinner" "now" "I" "ChairCane") ∈ lw_tbl := lw_at lw_m1 57 rfl
theorem q178 : (Jvm.Cond.fieldLinkNest "ChairCane" (186 : Nat) "ChairCane$Dinner" "height" "[I" "ChairCane") ∈ lw_tbl := lw_at lw_m1 62 rfl
theorem q181 : (Jvm.Cond.fieldLinkNest "ChairCane" (188 : Nat) "ChairCane$Dinner" "strand" "[I" "ChairCane") ∈ lw_tbl := lw_at lw_m1 65 rfl
theorem q184 : (Jvm.Cond.fieldLinkNest "ChairCane" (195 : Nat) "ChairCane$Dinner" "chair" "[I" "ChairCane") ∈ lw_tbl := lw_at lw_m1 68 rfl
theorem q187 : (Jvm.Cond.fieldLinkNest "ChairCane" (197 : Nat) "ChairCane$Dinner" "weight" "[I" "ChairCane") ∈ lw_tbl := lw_at lw_m1 71 rfl
theorem q189 : (Jvm.Cond.fieldLinkNest "ChairCane" (305 : Nat) "ChairCane$Dinner" "notes" "[I" "ChairCane") ∈ lw_tbl := lw_at lw_m1 73 rfl
theorem q191 : (Jvm.Cond.fieldLinkNest "ChairCane" (165 : Nat) "ChairCane$Dinner" "status" "[I" "ChairCane") ∈ lw_tbl := lw_at lw_m1 75 rfl
theorem q193 : (Jvm.Cond.fieldLinkNest "ChairCane" (171 : Nat) "ChairCane$Dinner" "cane" "[I" "ChairCane") ∈ lw_tbl := lw_at lw_m1 77 rfl
theorem q195 : (Jvm.Cond.fieldLinkNest "ChairCane" (202 : Nat) "ChairCane$Dinner" "undo" "[I" "ChairCane") ∈ lw_tbl := lw_at lw_m1 79 rfl
theorem q198 : (Jvm.Cond.fieldLinkNest "ChairCane" (274 : Nat) "ChairCane$Dinner" "plan" "[I" "ChairCane") ∈ lw_tbl := lw_at lw_m1 82 rfl
theorem q238 : (Jvm.Cond.classLink "ChairCane" (29 : Nat) "ChairCane$Fault") ∈ lw_all := lw_g (lw_at lw_m1 122 rfl) rfl
theorem q277 : (Jvm.Cond.methodLink "ChairCane" (31 : Nat) ({ cls := "ChairCane$Fault", name := "<init>", desc := "()V" } : Jvm.MethodName)) ∈ lw_all := lw_g (lw_at lw_m1 161 rfl) rfl
theorem q291 : (Jvm.Cond.fieldLinkNest "ChairCane" (122 : Nat) "ChairCane$Fault" "kind" "I" "ChairCane") ∈ lw_tbl := lw_at lw_m1 175 rfl
theorem q293 : (Jvm.Cond.fieldLinkNest "ChairCane" (119 : Nat) "ChairCane$Fault" "place" "I" "ChairCane") ∈ lw_tbl := lw_at lw_m1 177 rfl
theorem q312 : (Jvm.Cond.classLink "ChairCane" (40 : Nat) "java/lang/String") ∈ lw_all := lw_g (lw_at lw_m1 196 rfl) rfl
theorem q314 : (Jvm.Cond.stringRef "ChairCane" (42 : Nat) "hall") ∈ lw_tbl := lw_at lw_m1 198 rfl
theorem q315 : (Jvm.Cond.stringRef "ChairCane" (44 : Nat) "strand") ∈ lw_tbl := lw_at lw_m1 199 rfl
theorem q316 : (Jvm.Cond.stringRef "ChairCane" (46 : Nat) "chair") ∈ lw_tbl := lw_at lw_m1 200 rfl
theorem q317 : (Jvm.Cond.stringRef "ChairCane" (48 : Nat) "sitter") ∈ lw_tbl := lw_at lw_m1 201 rfl
theorem q318 : (Jvm.Cond.stringRef "ChairCane" (54 : Nat) "sit") ∈ lw_tbl := lw_at lw_m1 202 rfl
theorem q319 : (Jvm.Cond.stringRef "ChairCane" (59 : Nat) "weight") ∈ lw_tbl := lw_at lw_m1 203 rfl
theorem q320 : (Jvm.Cond.stringRef "ChairCane" (61 : Nat) "height") ∈ lw_tbl := lw_at lw_m1 204 rfl
theorem q321 : (Jvm.Cond.stringRef "ChairCane" (63 : Nat) "cane") ∈ lw_tbl := lw_at lw_m1 205 rfl
theorem q322 : (Jvm.Cond.stringRef "ChairCane" (65 : Nat) "sits") ∈ lw_tbl := lw_at lw_m1 206 rfl
theorem q323 : (Jvm.Cond.stringRef "ChairCane" (67 : Nat) "give") ∈ lw_tbl := lw_at lw_m1 207 rfl
theorem q324 : (Jvm.Cond.stringRef "ChairCane" (69 : Nat) "others") ∈ lw_tbl := lw_at lw_m1 208 rfl
theorem q325 : (Jvm.Cond.stringRef "ChairCane" (71 : Nat) "press") ∈ lw_tbl := lw_at lw_m1 209 rfl
theorem q326 : (Jvm.Cond.stringRef "ChairCane" (73 : Nat) "dropped") ∈ lw_tbl := lw_at lw_m1 210 rfl
theorem q327 : (Jvm.Cond.stringRef "ChairCane" (75 : Nat) "minute") ∈ lw_tbl := lw_at lw_m1 211 rfl
theorem q328 : (Jvm.Cond.classLink "ChairCane" (80 : Nat) "ChairCane$Rule") ∈ lw_all := lw_g (lw_at lw_m1 212 rfl) rfl
theorem q330 : (Jvm.Cond.classLink "ChairCane" (106 : Nat) "ChairCane$Image") ∈ lw_all := lw_g (lw_at lw_m1 214 rfl) rfl
theorem q332 : (Jvm.Cond.fieldLink "ChairCane" (138 : Nat) "ChairCane" "dinner" "LChairCane$Dinner;") ∈ lw_all := lw_g (lw_at lw_m1 216 rfl) rfl
theorem q333 : (Jvm.Cond.fieldLink "ChairCane" (10 : Nat) "ChairCane" "own" "LChairCane$Dinner;") ∈ lw_all := lw_g (lw_at lw_m1 217 rfl) rfl
theorem q334 : (Jvm.Cond.fieldLink "ChairCane" (16 : Nat) "ChairCane" "spare" "LChairCane$Dinner;") ∈ lw_all := lw_g (lw_at lw_m1 218 rfl) rfl
theorem q336 : (Jvm.Cond.fieldLink "ChairCane" (19 : Nat) "ChairCane" "reading" "LChairCane$Dinner;") ∈ lw_all := lw_g (lw_at lw_m1 220 rfl) rfl
theorem q337 : (Jvm.Cond.fieldLink "ChairCane" (22 : Nat) "ChairCane" "blank" "LChairCane$Dinner;") ∈ lw_all := lw_g (lw_at lw_m1 221 rfl) rfl
theorem q339 : (Jvm.Cond.fieldLink "ChairCane" (329 : Nat) "ChairCane" "x" "I") ∈ lw_all := lw_g (lw_at lw_m1 223 rfl) rfl
theorem q340 : (Jvm.Cond.fieldLink "ChairCane" (25 : Nat) "ChairCane" "inForce" "I") ∈ lw_all := lw_g (lw_at lw_m1 224 rfl) rfl
theorem q342 : (Jvm.Cond.fieldLink "ChairCane" (32 : Nat) "ChairCane" "fault" "LChairCane$Fault;") ∈ lw_all := lw_g (lw_at lw_m1 226 rfl) rfl
theorem q344 : (Jvm.Cond.fieldLink "ChairCane" (36 : Nat) "ChairCane" "tape" "[B") ∈ lw_all := lw_g (lw_at lw_m1 228 rfl) rfl
theorem q346 : (Jvm.Cond.fieldLink "ChairCane" (112 : Nat) "ChairCane" "taped" "I") ∈ lw_all := lw_g (lw_at lw_m1 230 rfl) rfl
theorem q347 : (Jvm.Cond.fieldLink "ChairCane" (50 : Nat) "ChairCane" "lineWords" "[Ljava/lang/String;") ∈ lw_all := lw_g (lw_at lw_m1 231 rfl) rfl
theorem q349 : (Jvm.Cond.fieldLink "ChairCane" (56 : Nat) "ChairCane" "clauseWords" "[Ljava/lang/String;") ∈ lw_all := lw_g (lw_at lw_m1 233 rfl) rfl
theorem q352 : (Jvm.Cond.fieldLink "ChairCane" (77 : Nat) "ChairCane" "wordNames" "[Ljava/lang/String;") ∈ lw_all := lw_g (lw_at lw_m1 236 rfl) rfl
theorem q353 : (Jvm.Cond.fieldLink "ChairCane" (82 : Nat) "ChairCane" "rules" "[LChairCane$Rule;") ∈ lw_all := lw_g (lw_at lw_m1 237 rfl) rfl
theorem q354 : (Jvm.Cond.fieldLink "ChairCane" (148 : Nat) "ChairCane" "ruleMany" "I") ∈ lw_all := lw_g (lw_at lw_m1 238 rfl) rfl
theorem q355 : (Jvm.Cond.fieldLink "ChairCane" (86 : Nat) "ChairCane" "firstUp" "[I") ∈ lw_all := lw_g (lw_at lw_m1 239 rfl) rfl
theorem q356 : (Jvm.Cond.fieldLink "ChairCane" (90 : Nat) "ChairCane" "hasOne" "[I") ∈ lw_all := lw_g (lw_at lw_m2 0 rfl) rfl
theorem q357 : (Jvm.Cond.fieldLink "ChairCane" (93 : Nat) "ChairCane" "hasOther" "[I") ∈ lw_all := lw_g (lw_at lw_m2 1 rfl) rfl
theorem q358 : (Jvm.Cond.fieldLink "ChairCane" (96 : Nat) "ChairCane" "standsThen" "[I") ∈ lw_all := lw_g (lw_at lw_m2 2 rfl) rfl
theorem q359 : (Jvm.Cond.fieldLink "ChairCane" (99 : Nat) "ChairCane" "isFit" "[Z") ∈ lw_all := lw_g (lw_at lw_m2 3 rfl) rfl
theorem q360 : (Jvm.Cond.fieldLink "ChairCane" (103 : Nat) "ChairCane" "statusThen" "[I") ∈ lw_all := lw_g (lw_at lw_m2 4 rfl) rfl
theorem q361 : (Jvm.Cond.fieldLink "ChairCane" (332 : Nat) "ChairCane" "drawX" "I") ∈ lw_all := lw_g (lw_at lw_m2 5 rfl) rfl
theorem q362 : (Jvm.Cond.fieldLink "ChairCane" (108 : Nat) "ChairCane" "images" "[LChairCane$Image;") ∈ lw_all := lw_g (lw_at lw_m2 6 rfl) rfl
theorem q363 : (Jvm.Cond.lays "ChairCane" "ChairCane" "dinner" "LChairCane$Dinner;") ∈ lw_all := lw_g (lw_at lw_m2 7 rfl) rfl
theorem q364 : (Jvm.Cond.soleField "ChairCane" "dinner") ∈ lw_all := lw_g (lw_at lw_m2 8 rfl) rfl
theorem q365 : (Jvm.Cond.laysFinal "ChairCane" "ChairCane" "own" "LChairCane$Dinner;") ∈ lw_all := lw_g (lw_at lw_m2 9 rfl) rfl
theorem q366 : (Jvm.Cond.soleField "ChairCane" "own") ∈ lw_all := lw_g (lw_at lw_m2 10 rfl) rfl
theorem q367 : (Jvm.Cond.laysFinal "ChairCane" "ChairCane" "spare" "LChairCane$Dinner;") ∈ lw_all := lw_g (lw_at lw_m2 11 rfl) rfl
theorem q368 : (Jvm.Cond.soleField "ChairCane" "spare") ∈ lw_all := lw_g (lw_at lw_m2 12 rfl) rfl
theorem q369 : (Jvm.Cond.laysFinal "ChairCane" "ChairCane" "reading" "LChairCane$Dinner;") ∈ lw_all := lw_g (lw_at lw_m2 13 rfl) rfl
theorem q370 : (Jvm.Cond.soleField "ChairCane" "reading") ∈ lw_all := lw_g (lw_at lw_m2 14 rfl) rfl
theorem q371 : (Jvm.Cond.laysFinal "ChairCane" "ChairCane" "blank" "LChairCane$Dinner;") ∈ lw_all := lw_g (lw_at lw_m2 15 rfl) rfl
theorem q372 : (Jvm.Cond.soleField "ChairCane" "blank") ∈ lw_all := lw_g (lw_at lw_m2 16 rfl) rfl
theorem q373 : (Jvm.Cond.lays "ChairCane" "ChairCane" "x" "I") ∈ lw_all := lw_g (lw_at lw_m2 17 rfl) rfl
theorem q374 : (Jvm.Cond.soleField "ChairCane" "x") ∈ lw_all := lw_g (lw_at lw_m2 18 rfl) rfl
theorem q375 : (Jvm.Cond.lays "ChairCane" "ChairCane" "inForce" "I") ∈ lw_all := lw_g (lw_at lw_m2 19 rfl) rfl
theorem q376 : (Jvm.Cond.soleField "ChairCane" "inForce") ∈ lw_all := lw_g (lw_at lw_m2 20 rfl) rfl
theorem q377 : (Jvm.Cond.laysFinal "ChairCane" "ChairCane" "fault" "LChairCane$Fault;") ∈ lw_all := lw_g (lw_at lw_m2 21 rfl) rfl
theorem q378 : (Jvm.Cond.soleField "ChairCane" "fault") ∈ lw_all := lw_g (lw_at lw_m2 22 rfl) rfl
theorem q379 : (Jvm.Cond.laysFinal "ChairCane" "ChairCane" "tape" "[B") ∈ lw_all := lw_g (lw_at lw_m2 23 rfl) rfl
theorem q380 : (Jvm.Cond.soleField "ChairCane" "tape") ∈ lw_all := lw_g (lw_at lw_m2 24 rfl) rfl
theorem q381 : (Jvm.Cond.lays "ChairCane" "ChairCane" "taped" "I") ∈ lw_all := lw_g (lw_at lw_m2 25 rfl) rfl
theorem q382 : (Jvm.Cond.soleField "ChairCane" "taped") ∈ lw_all := lw_g (lw_at lw_m2 26 rfl) rfl
theorem q383 : (Jvm.Cond.laysFinal "ChairCane" "ChairCane" "lineWords" "[Ljava/lang/String;") ∈ lw_all := lw_g (lw_at lw_m2 27 rfl) rfl
theorem q384 : (Jvm.Cond.soleField "ChairCane" "lineWords") ∈ lw_all := lw_g (lw_at lw_m2 28 rfl) rfl
theorem q385 : (Jvm.Cond.laysFinal "ChairCane" "ChairCane" "clauseWords" "[Ljava/lang/String;") ∈ lw_all := lw_g (lw_at lw_m2 29 rfl) rfl
theorem q386 : (Jvm.Cond.soleField "ChairCane" "clauseWords") ∈ lw_all := lw_g (lw_at lw_m2 30 rfl) rfl
theorem q387 : (Jvm.Cond.laysFinal "ChairCane" "ChairCane" "wordNames" "[Ljava/lang/String;") ∈ lw_all := lw_g (lw_at lw_m2 31 rfl) rfl
theorem q388 : (Jvm.Cond.soleField "ChairCane" "wordNames") ∈ lw_all := lw_g (lw_at lw_m2 32 rfl) rfl
theorem q389 : (Jvm.Cond.laysFinal "ChairCane" "ChairCane" "rules" "[LChairCane$Rule;") ∈ lw_all := lw_g (lw_at lw_m2 33 rfl) rfl
theorem q390 : (Jvm.Cond.soleField "ChairCane" "rules") ∈ lw_all := lw_g (lw_at lw_m2 34 rfl) rfl
theorem q391 : (Jvm.Cond.lays "ChairCane" "ChairCane" "ruleMany" "I") ∈ lw_all := lw_g (lw_at lw_m2 35 rfl) rfl
theorem q392 : (Jvm.Cond.soleField "ChairCane" "ruleMany") ∈ lw_all := lw_g (lw_at lw_m2 36 rfl) rfl
theorem q393 : (Jvm.Cond.laysFinal "ChairCane" "ChairCane" "firstUp" "[I") ∈ lw_all := lw_g (lw_at lw_m2 37 rfl) rfl
theorem q394 : (Jvm.Cond.soleField "ChairCane" "firstUp") ∈ lw_all := lw_g (lw_at lw_m2 38 rfl) rfl
theorem q395 : (Jvm.Cond.laysFinal "ChairCane" "ChairCane" "hasOne" "[I") ∈ lw_all := lw_g (lw_at lw_m2 39 rfl) rfl
theorem q396 : (Jvm.Cond.soleField "ChairCane" "hasOne") ∈ lw_all := lw_g (lw_at lw_m2 40 rfl) rfl
theorem q397 : (Jvm.Cond.laysFinal "ChairCane" "ChairCane" "hasOther" "[I") ∈ lw_all := lw_g (lw_at lw_m2 41 rfl) rfl
theorem q398 : (Jvm.Cond.soleField "ChairCane" "hasOther") ∈ lw_all := lw_g (lw_at lw_m2 42 rfl) rfl
theorem q399 : (Jvm.Cond.laysFinal "ChairCane" "ChairCane" "standsThen" "[I") ∈ lw_all := lw_g (lw_at lw_m2 43 rfl) rfl
theorem q400 : (Jvm.Cond.soleField "ChairCane" "standsThen") ∈ lw_all := lw_g (lw_at lw_m2 44 rfl) rfl
theorem q401 : (Jvm.Cond.laysFinal "ChairCane" "ChairCane" "isFit" "[Z") ∈ lw_all := lw_g (lw_at lw_m2 45 rfl) rfl
theorem q402 : (Jvm.Cond.soleField "ChairCane" "isFit") ∈ lw_all := lw_g (lw_at lw_m2 46 rfl) rfl
theorem q403 : (Jvm.Cond.laysFinal "ChairCane" "ChairCane" "statusThen" "[I") ∈ lw_all := lw_g (lw_at lw_m2 47 rfl) rfl
theorem q404 : (Jvm.Cond.soleField "ChairCane" "statusThen") ∈ lw_all := lw_g (lw_at lw_m2 48 rfl) rfl
theorem q405 : (Jvm.Cond.lays "ChairCane" "ChairCane" "drawX" "I") ∈ lw_all := lw_g (lw_at lw_m2 49 rfl) rfl
theorem q406 : (Jvm.Cond.soleField "ChairCane" "drawX") ∈ lw_all := lw_g (lw_at lw_m2 50 rfl) rfl
theorem q407 : (Jvm.Cond.laysFinal "ChairCane" "ChairCane" "images" "[LChairCane$Image;") ∈ lw_all := lw_g (lw_at lw_m2 51 rfl) rfl
theorem q408 : (Jvm.Cond.soleField "ChairCane" "images") ∈ lw_all := lw_g (lw_at lw_m2 52 rfl) rfl
theorem q409 : (Jvm.Cond.superclass "ChairCane" "java/lang/Object") ∈ lw_all := lw_g (lw_at lw_m2 53 rfl) rfl
theorem q412 : (Jvm.Cond.instanceMethod ({ cls := "ChairCane", name := "feed", desc := "(IIIII)I" } : Jvm.MethodName)) ∈ lw_all := lw_g (lw_at lw_m2 56 rfl) rfl
theorem q413 : (Jvm.Cond.selects "ChairCane" ({ cls := "ChairCane", name := "feed", desc := "(IIIII)I" } : Jvm.MethodName) ({ cls := "ChairCane", name := "feed", desc := "(IIIII)I" } : Jvm.MethodName)) ∈ lw_all := lw_g (lw_at lw_m2 57 rfl) rfl
theorem q414 : (Jvm.Cond.code ({ cls := "ChairCane", name := "feed", desc := "(IIIII)I" } : Jvm.MethodName) prog_1_method_4_code (6 : Nat) (Option.some Jvm.ClassFile.FieldType.int)) ∈ lw_all := lw_g (lw_at lw_m2 58 rfl) rfl
theorem q415 : (Jvm.Cond.methodLink "ChairCane" (115 : Nat) ({ cls := "ChairCane", name := "four", desc := "(I)V" } : Jvm.MethodName)) ∈ lw_all := lw_g (lw_at lw_m2 59 rfl) rfl
theorem q416 : (Jvm.Cond.privateMethod ({ cls := "ChairCane", name := "four", desc := "(I)V" } : Jvm.MethodName)) ∈ lw_tbl := lw_at lw_m2 60 rfl
theorem q417 : (Jvm.Cond.instanceMethod ({ cls := "ChairCane", name := "four", desc := "(I)V" } : Jvm.MethodName)) ∈ lw_all := lw_g (lw_at lw_m2 61 rfl) rfl
theorem q418 : (Jvm.Cond.code ({ cls := "ChairCane", name := "four", desc := "(I)V" } : Jvm.MethodName) prog_1_method_5_code (3 : Nat) (Option.none : Option Jvm.ClassFile.FieldType)) ∈ lw_all := lw_g (lw_at lw_m2 62 rfl) rfl
theorem q420 : (Jvm.Cond.instanceMethod ({ cls := "ChairCane", name := "end", desc := "(I)I" } : Jvm.MethodName)) ∈ lw_all := lw_g (lw_at lw_m2 64 rfl) rfl
theorem q421 : (Jvm.Cond.selects "ChairCane" ({ cls := "ChairCane", name := "end", desc := "(I)I" } : Jvm.MethodName) ({ cls := "ChairCane", name := "end", desc := "(I)I" } : Jvm.MethodName)) ∈ lw_all := lw_g (lw_at lw_m2 65 rfl) rfl
theorem q422 : (Jvm.Cond.code ({ cls := "ChairCane", name := "end", desc := "(I)I" } : Jvm.MethodName) prog_1_method_6_code (2 : Nat) (Option.some Jvm.ClassFile.FieldType.int)) ∈ lw_all := lw_g (lw_at lw_m2 66 rfl) rfl
theorem q424 : (Jvm.Cond.instanceMethod ({ cls := "ChairCane", name := "hall", desc := "()I" } : Jvm.MethodName)) ∈ lw_all := lw_g (lw_at lw_m2 68 rfl) rfl
theorem q425 : (Jvm.Cond.selects "ChairCane" ({ cls := "ChairCane", name := "hall", desc := "()I" } : Jvm.MethodName) ({ cls := "ChairCane", name := "hall", desc := "()I" } : Jvm.MethodName)) ∈ lw_all := lw_g (lw_at lw_m2 69 rfl) rfl
theorem q426 : (Jvm.Cond.codeWith ({ cls := "ChairCane", name := "hall", desc := "()I" } : Jvm.MethodName) prog_1_method_8_code (3 : Nat) (Option.some Jvm.ClassFile.FieldType.int) [((0 : Nat), (30 : Nat), (33 : Nat), (29 : Nat))]) ∈ lw_all := lw_g (lw_at lw_m2 70 rfl) rfl
theorem q427 : (Jvm.Cond.classLink "ChairCane" (125 : Nat) "ChairCane$Text") ∈ lw_all := lw_g (lw_at lw_m2 71 rfl) rfl
theorem q429 : (Jvm.Cond.methodLinkNest "ChairCane" (127 : Nat) ({ cls := "ChairCane$Text", name := "<init>", desc := "(LChairCane;)V" } : Jvm.MethodName) "ChairCane") ∈ lw_tbl := lw_at lw_m2 73 rfl
theorem q455 : (Jvm.Cond.methodLink "ChairCane" (130 : Nat) ({ cls := "ChairCane$Text", name := "hallTold", desc := "()LChairCane$Dinner;" } : Jvm.MethodName)) ∈ lw_all := lw_g (lw_at lw_m2 99 rfl) rfl
theorem q559 : (Jvm.Cond.static ({ cls := "ChairCane", name := "in", desc := "(JJJ)Z" } : Jvm.MethodName)) ∈ lw_all := lw_g (lw_at lw_m2 203 rfl) rfl
theorem q560 : (Jvm.Cond.code ({ cls := "ChairCane", name := "in", desc := "(JJJ)Z" } : Jvm.MethodName) prog_1_method_1_code (6 : Nat) (Option.some Jvm.ClassFile.FieldType.boolean)) ∈ lw_all := lw_g (lw_at lw_m2 204 rfl) rfl
theorem q585 : (Jvm.Cond.methodLink "ChairCane" (134 : Nat) ({ cls := "ChairCane$Dinner", name := "copies", desc := "(LChairCane$Dinner;)LChairCane$Dinner;" } : Jvm.MethodName)) ∈ lw_all := lw_g (lw_at lw_m2 229 rfl) rfl
theorem q586 : (Jvm.Cond.methodLink "ChairCane" (144 : Nat) ({ cls := "ChairCane", name := "faulted", desc := "()I" } : Jvm.MethodName)) ∈ lw_all := lw_g (lw_at lw_m2 230 rfl) rfl
theorem q587 : (Jvm.Cond.privateMethod ({ cls := "ChairCane", name := "faulted", desc := "()I" } : Jvm.MethodName)) ∈ lw_tbl := lw_at lw_m2 231 rfl
theorem q588 : (Jvm.Cond.instanceMethod ({ cls := "ChairCane", name := "faulted", desc := "()I" } : Jvm.MethodName)) ∈ lw_all := lw_g (lw_at lw_m2 232 rfl) rfl
theorem q589 : (Jvm.Cond.code ({ cls := "ChairCane", name := "faulted", desc := "()I" } : Jvm.MethodName) prog_1_method_7_code (1 : Nat) (Option.some Jvm.ClassFile.FieldType.int)) ∈ lw_all := lw_g (lw_at lw_m2 233 rfl) rfl
theorem q591 : (Jvm.Cond.instanceMethod ({ cls := "ChairCane", name := "rule", desc := "()I" } : Jvm.MethodName)) ∈ lw_all := lw_g (lw_at lw_m2 235 rfl) rfl
theorem q592 : (Jvm.Cond.selects "ChairCane" ({ cls := "ChairCane", name := "rule", desc := "()I" } : Jvm.MethodName) ({ cls := "ChairCane", name := "rule", desc := "()I" } : Jvm.MethodName)) ∈ lw_all := lw_g (lw_at lw_m2 236 rfl) rfl
theorem q593 : (Jvm.Cond.codeWith ({ cls := "ChairCane", name := "rule", desc := "()I" } : Jvm.MethodName) prog_1_method_9_code (3 : Nat) (Option.some Jvm.ClassFile.FieldType.int) [((16 : Nat), (46 : Nat), (49 : Nat), (29 : Nat))]) ∈ lw_all := lw_g (lw_at lw_m2 237 rfl) rfl
theorem q594 : (Jvm.Cond.methodLink "ChairCane" (151 : Nat) ({ cls := "ChairCane$Text", name := "ruleTold", desc := "()LChairCane$Rule;" } : Jvm.MethodName)) ∈ lw_all := lw_g (lw_at lw_m2 238 rfl) rfl
theorem q764 : (Jvm.Cond.instanceMethod ({ cls := "ChairCane", name := "force", desc := "(I)I" } : Jvm.MethodName)) ∈ lw_all := lw_g (lw_at lw_m3 168 rfl) rfl
theorem q765 : (Jvm.Cond.selects "ChairCane" ({ cls := "ChairCane", name := "force", desc := "(I)I" } : Jvm.MethodName) ({ cls := "ChairCane", name := "force", desc := "(I)I" } : Jvm.MethodName)) ∈ lw_all := lw_g (lw_at lw_m3 169 rfl) rfl
theorem q766 : (Jvm.Cond.code ({ cls := "ChairCane", name := "force", desc := "(I)I" } : Jvm.MethodName) prog_1_method_10_code (3 : Nat) (Option.some Jvm.ClassFile.FieldType.int)) ∈ lw_all := lw_g (lw_at lw_m3 170 rfl) rfl
theorem q768 : (Jvm.Cond.instanceMethod ({ cls := "ChairCane", name := "strand", desc := "(I)I" } : Jvm.MethodName)) ∈ lw_all := lw_g (lw_at lw_m3 172 rfl) rfl
theorem q769 : (Jvm.Cond.selects "ChairCane" ({ cls := "ChairCane", name := "strand", desc := "(I)I" } : Jvm.MethodName) ({ cls := "ChairCane", name := "strand", desc := "(I)I" } : Jvm.MethodName)) ∈ lw_all := lw_g (lw_at lw_m3 173 rfl) rfl
theorem q770 : (Jvm.Cond.code ({ cls := "ChairCane", name := "strand", desc := "(I)I" } : Jvm.MethodName) prog_1_method_16_code (2 : Nat) (Option.some Jvm.ClassFile.FieldType.int)) ∈ lw_all := lw_g (lw_at lw_m3 174 rfl) rfl
theorem q771 : (Jvm.Cond.methodLink "ChairCane" (168 : Nat) ({ cls := "ChairCane", name := "isStrand", desc := "(I)Z" } : Jvm.MethodName)) ∈ lw_all := lw_g (lw_at lw_m3 175 rfl) rfl
theorem q772 : (Jvm.Cond.privateMethod ({ cls := "ChairCane", name := "isStrand", desc := "(I)Z" } : Jvm.MethodName)) ∈ lw_tbl := lw_at lw_m3 176 rfl
theorem q773 : (Jvm.Cond.instanceMethod ({ cls := "ChairCane", name := "isStrand", desc := "(I)Z" } : Jvm.MethodName)) ∈ lw_all := lw_g (lw_at lw_m3 177 rfl) rfl
theorem q774 : (Jvm.Cond.code ({ cls := "ChairCane", name := "isStrand", desc := "(I)Z" } : Jvm.MethodName) prog_1_method_12_code (2 : Nat) (Option.some Jvm.ClassFile.FieldType.boolean)) ∈ lw_all := lw_g (lw_at lw_m3 178 rfl) rfl
theorem q776 : (Jvm.Cond.instanceMethod ({ cls := "ChairCane", name := "chair", desc := "(II)I" } : Jvm.MethodName)) ∈ lw_all := lw_g (lw_at lw_m3 180 rfl) rfl
theorem q777 : (Jvm.Cond.selects "ChairCane" ({ cls := "ChairCane", name := "chair", desc := "(II)I" } : Jvm.MethodName) ({ cls := "ChairCane", name := "chair", desc := "(II)I" } : Jvm.MethodName)) ∈ lw_all := lw_g (lw_at lw_m3 181 rfl) rfl
theorem q778 : (Jvm.Cond.code ({ cls := "ChairCane", name := "chair", desc := "(II)I" } : Jvm.MethodName) prog_1_method_17_code (4 : Nat) (Option.some Jvm.ClassFile.FieldType.int)) ∈ lw_all := lw_g (lw_at lw_m3 182 rfl) rfl
theorem q779 : (Jvm.Cond.methodLink "ChairCane" (173 : Nat) ({ cls := "ChairCane", name := "isChair", desc := "(I)Z" } : Jvm.MethodName)) ∈ lw_all := lw_g (lw_at lw_m3 183 rfl) rfl
theorem q780 : (Jvm.Cond.privateMethod ({ cls := "ChairCane", name := "isChair", desc := "(I)Z" } : Jvm.MethodName)) ∈ lw_tbl := lw_at lw_m3 184 rfl
theorem q781 : (Jvm.Cond.instanceMethod ({ cls := "ChairCane", name := "isChair", desc := "(I)Z" } : Jvm.MethodName)) ∈ lw_all := lw_g (lw_at lw_m3 185 rfl) rfl
theorem q782 : (Jvm.Cond.code ({ cls := "ChairCane", name := "isChair", desc := "(I)Z" } : Jvm.MethodName) prog_1_method_13_code (2 : Nat) (Option.some Jvm.ClassFile.FieldType.boolean)) ∈ lw_all := lw_g (lw_at lw_m3 186 rfl) rfl
theorem q783 : (Jvm.Cond.constantLong "ChairCane" (176 : Nat) (3 : Int64)) ∈ lw_all := lw_g (lw_at lw_m3 187 rfl) rfl
theorem q784 : (Jvm.Cond.methodLink "ChairCane" (178 : Nat) ({ cls := "ChairCane", name := "in", desc := "(JJJ)Z" } : Jvm.MethodName)) ∈ lw_all := lw_g (lw_at lw_m3 188 rfl) rfl
theorem q785 : (Jvm.Cond.methodLink "ChairCane" (182 : Nat) ({ cls := "ChairCane$Dinner", name := "sitterOf", desc := "(I)I" } : Jvm.MethodName)) ∈ lw_all := lw_g (lw_at lw_m3 189 rfl) rfl
theorem q786 : (Jvm.Cond.methodLink "ChairCane" (190 : Nat) ({ cls := "ChairCane$Dinner", name := "givesNow", desc := "(I)I" } : Jvm.MethodName)) ∈ lw_all := lw_g (lw_at lw_m3 190 rfl) rfl
theorem q799 : (Jvm.Cond.static ({ cls := "ChairCane", name := "has", desc := "(II)Z" } : Jvm.MethodName)) ∈ lw_all := lw_g (lw_at lw_m3 203 rfl) rfl
theorem q800 : (Jvm.Cond.code ({ cls := "ChairCane", name := "has", desc := "(II)Z" } : Jvm.MethodName) prog_1_method_2_code (2 : Nat) (Option.some Jvm.ClassFile.FieldType.boolean)) ∈ lw_all := lw_g (lw_at lw_m3 204 rfl) rfl
theorem q810 : (Jvm.Cond.instanceMethod ({ cls := "ChairCane", name := "sitter", desc := "(II)I" } : Jvm.MethodName)) ∈ lw_all := lw_g (lw_at lw_m3 214 rfl) rfl
theorem q811 : (Jvm.Cond.selects "ChairCane" ({ cls := "ChairCane", name := "sitter", desc := "(II)I" } : Jvm.MethodName) ({ cls := "ChairCane", name := "sitter", desc := "(II)I" } : Jvm.MethodName)) ∈ lw_all := lw_g (lw_at lw_m3 215 rfl) rfl
theorem q812 : (Jvm.Cond.code ({ cls := "ChairCane", name := "sitter", desc := "(II)I" } : Jvm.MethodName) prog_1_method_18_code (3 : Nat) (Option.some Jvm.ClassFile.FieldType.int)) ∈ lw_all := lw_g (lw_at lw_m3 216 rfl) rfl
theorem q813 : (Jvm.Cond.methodLink "ChairCane" (161 : Nat) ({ cls := "ChairCane", name := "isSitter", desc := "(I)Z" } : Jvm.MethodName)) ∈ lw_all := lw_g (lw_at lw_m3 217 rfl) rfl
theorem q814 : (Jvm.Cond.privateMethod ({ cls := "ChairCane", name := "isSitter", desc := "(I)Z" } : Jvm.MethodName)) ∈ lw_tbl := lw_at lw_m3 218 rfl
theorem q815 : (Jvm.Cond.instanceMethod ({ cls := "ChairCane", name := "isSitter", desc := "(I)Z" } : Jvm.MethodName)) ∈ lw_all := lw_g (lw_at lw_m3 219 rfl) rfl
theorem q816 : (Jvm.Cond.code ({ cls := "ChairCane", name := "isSitter", desc := "(I)Z" } : Jvm.MethodName) prog_1_method_14_code (2 : Nat) (Option.some Jvm.ClassFile.FieldType.boolean)) ∈ lw_all := lw_g (lw_at lw_m3 220 rfl) rfl
theorem q817 : (Jvm.Cond.constantLong "ChairCane" (193 : Nat) (2 : Int64)) ∈ lw_all := lw_g (lw_at lw_m3 221 rfl) rfl
theorem q819 : (Jvm.Cond.instanceMethod ({ cls := "ChairCane", name := "undo", desc := "()I" } : Jvm.MethodName)) ∈ lw_all := lw_g (lw_at lw_m3 223 rfl) rfl
theorem q820 : (Jvm.Cond.selects "ChairCane" ({ cls := "ChairCane", name := "undo", desc := "()I" } : Jvm.MethodName) ({ cls := "ChairCane", name := "undo", desc := "()I" } : Jvm.MethodName)) ∈ lw_all := lw_g (lw_at lw_m3 224 rfl) rfl
theorem q821 : (Jvm.Cond.code ({ cls := "ChairCane", name := "undo", desc := "()I" } : Jvm.MethodName) prog_1_method_20_code (1 : Nat) (Option.some Jvm.ClassFile.FieldType.int)) ∈ lw_all := lw_g (lw_at lw_m3 225 rfl) rfl
theorem q822 : (Jvm.Cond.methodLink "ChairCane" (214 : Nat) ({ cls := "ChairCane$Dinner", name := "laysBack", desc := "(I)V" } : Jvm.MethodName)) ∈ lw_all := lw_g (lw_at lw_m3 226 rfl) rfl
theorem q827 : (Jvm.Cond.instanceMethod ({ cls := "ChairCane", name := "minute", desc := "()I" } : Jvm.MethodName)) ∈ lw_all := lw_g (lw_at lw_m3 231 rfl) rfl
theorem q828 : (Jvm.Cond.selects "ChairCane" ({ cls := "ChairCane", name := "minute", desc := "()I" } : Jvm.MethodName) ({ cls := "ChairCane", name := "minute", desc := "()I" } : Jvm.MethodName)) ∈ lw_all := lw_g (lw_at lw_m3 232 rfl) rfl
theorem q829 : (Jvm.Cond.code ({ cls := "ChairCane", name := "minute", desc := "()I" } : Jvm.MethodName) prog_1_method_21_code (1 : Nat) (Option.some Jvm.ClassFile.FieldType.int)) ∈ lw_all := lw_g (lw_at lw_m3 233 rfl) rfl
theorem q830 : (Jvm.Cond.methodLink "ChairCane" (220 : Nat) ({ cls := "ChairCane", name := "keepsAct", desc := "()V" } : Jvm.MethodName)) ∈ lw_all := lw_g (lw_at lw_m3 234 rfl) rfl
theorem q831 : (Jvm.Cond.privateMethod ({ cls := "ChairCane", name := "keepsAct", desc := "()V" } : Jvm.MethodName)) ∈ lw_tbl := lw_at lw_m3 235 rfl
theorem q832 : (Jvm.Cond.instanceMethod ({ cls := "ChairCane", name := "keepsAct", desc := "()V" } : Jvm.MethodName)) ∈ lw_all := lw_g (lw_at lw_m3 236 rfl) rfl
theorem q833 : (Jvm.Cond.code ({ cls := "ChairCane", name := "keepsAct", desc := "()V" } : Jvm.MethodName) prog_1_method_19_code (1 : Nat) (Option.none : Option Jvm.ClassFile.FieldType)) ∈ lw_all := lw_g (lw_at lw_m3 237 rfl) rfl
theorem q834 : (Jvm.Cond.methodLink "ChairCane" (205 : Nat) ({ cls := "java/lang/System", name := "arraycopy", desc := "(Ljava/lang/Object;ILjava/lang/Object;II)V" } : Jvm.MethodName)) ∈ lw_all := lw_g (lw_at lw_m3 238 rfl) rfl
theorem q835 : (Jvm.Cond.methodLink "ChairCane" (211 : Nat) ({ cls := "ChairCane$Dinner", name := "lays", desc := "(I)V" } : Jvm.MethodName)) ∈ lw_all := lw_g (lw_at lw_m3 239 rfl) rfl
theorem q839 : (Jvm.Cond.methodLink "ChairCane" (223 : Nat) ({ cls := "ChairCane", name := "law", desc := "()LChairCane$Rule;" } : Jvm.MethodName)) ∈ lw_all := lw_g (lw_at lw_m4 3 rfl) rfl
theorem q840 : (Jvm.Cond.privateMethod ({ cls := "ChairCane", name := "law", desc := "()LChairCane$Rule;" } : Jvm.MethodName)) ∈ lw_tbl := lw_at lw_m4 4 rfl
theorem q841 : (Jvm.Cond.instanceMethod ({ cls := "ChairCane", name := "law", desc := "()LChairCane$Rule;" } : Jvm.MethodName)) ∈ lw_all := lw_g (lw_at lw_m4 5 rfl) rfl
theorem q842 : (Jvm.Cond.code ({ cls := "ChairCane", name := "law", desc := "()LChairCane$Rule;" } : Jvm.MethodName) prog_1_method_11_code (1 : Nat) (Option.some (Jvm.ClassFile.FieldType.object "ChairCane$Rule"))) ∈ lw_all := lw_g (lw_at lw_m4 6 rfl) rfl
theorem q843 : (Jvm.Cond.methodLink "ChairCane" (226 : Nat) ({ cls := "ChairCane$Dinner", name := "passes", desc := "(LChairCane$Rule;)I" } : Jvm.MethodName)) ∈ lw_all := lw_g (lw_at lw_m4 7 rfl) rfl
theorem q903 : (Jvm.Cond.instanceMethod ({ cls := "ChairCane", name := "sit", desc := "(I)I" } : Jvm.MethodName)) ∈ lw_all := lw_g (lw_at lw_m4 67 rfl) rfl
theorem q904 : (Jvm.Cond.selects "ChairCane" ({ cls := "ChairCane", name := "sit", desc := "(I)I" } : Jvm.MethodName) ({ cls := "ChairCane", name := "sit", desc := "(I)I" } : Jvm.MethodName)) ∈ lw_all := lw_g (lw_at lw_m4 68 rfl) rfl
theorem q905 : (Jvm.Cond.code ({ cls := "ChairCane", name := "sit", desc := "(I)I" } : Jvm.MethodName) prog_1_method_23_code (2 : Nat) (Option.some Jvm.ClassFile.FieldType.int)) ∈ lw_all := lw_g (lw_at lw_m4 69 rfl) rfl
theorem q906 : (Jvm.Cond.methodLink "ChairCane" (233 : Nat) ({ cls := "ChairCane", name := "isSitterThat", desc := "(II)Z" } : Jvm.MethodName)) ∈ lw_all := lw_g (lw_at lw_m4 70 rfl) rfl
theorem q907 : (Jvm.Cond.privateMethod ({ cls := "ChairCane", name := "isSitterThat", desc := "(II)Z" } : Jvm.MethodName)) ∈ lw_tbl := lw_at lw_m4 71 rfl
theorem q908 : (Jvm.Cond.instanceMethod ({ cls := "ChairCane", name := "isSitterThat", desc := "(II)Z" } : Jvm.MethodName)) ∈ lw_all := lw_g (lw_at lw_m4 72 rfl) rfl
theorem q909 : (Jvm.Cond.code ({ cls := "ChairCane", name := "isSitterThat", desc := "(II)Z" } : Jvm.MethodName) prog_1_method_15_code (3 : Nat) (Option.some Jvm.ClassFile.FieldType.boolean)) ∈ lw_all := lw_g (lw_at lw_m4 73 rfl) rfl
theorem q910 : (Jvm.Cond.methodLink "ChairCane" (237 : Nat) ({ cls := "ChairCane", name := "becomes", desc := "(II)I" } : Jvm.MethodName)) ∈ lw_all := lw_g (lw_at lw_m4 74 rfl) rfl
theorem q911 : (Jvm.Cond.privateMethod ({ cls := "ChairCane", name := "becomes", desc := "(II)I" } : Jvm.MethodName)) ∈ lw_tbl := lw_at lw_m4 75 rfl
theorem q912 : (Jvm.Cond.instanceMethod ({ cls := "ChairCane", name := "becomes", desc := "(II)I" } : Jvm.MethodName)) ∈ lw_all := lw_g (lw_at lw_m4 76 rfl) rfl
theorem q913 : (Jvm.Cond.code ({ cls := "ChairCane", name := "becomes", desc := "(II)I" } : Jvm.MethodName) prog_1_method_22_code (3 : Nat) (Option.some Jvm.ClassFile.FieldType.int)) ∈ lw_all := lw_g (lw_at lw_m4 77 rfl) rfl
theorem q914 : (Jvm.Cond.methodLink "ChairCane" (230 : Nat) ({ cls := "ChairCane$Dinner", name := "settled", desc := "()I" } : Jvm.MethodName)) ∈ lw_all := lw_g (lw_at lw_m4 78 rfl) rfl
theorem q916 : (Jvm.Cond.instanceMethod ({ cls := "ChairCane", name := "rise", desc := "(I)I" } : Jvm.MethodName)) ∈ lw_all := lw_g (lw_at lw_m4 80 rfl) rfl
theorem q917 : (Jvm.Cond.selects "ChairCane" ({ cls := "ChairCane", name := "rise", desc := "(I)I" } : Jvm.MethodName) ({ cls := "ChairCane", name := "rise", desc := "(I)I" } : Jvm.MethodName)) ∈ lw_all := lw_g (lw_at lw_m4 81 rfl) rfl
theorem q918 : (Jvm.Cond.code ({ cls := "ChairCane", name := "rise", desc := "(I)I" } : Jvm.MethodName) prog_1_method_24_code (2 : Nat) (Option.some Jvm.ClassFile.FieldType.int)) ∈ lw_all := lw_g (lw_at lw_m4 82 rfl) rfl
theorem q920 : (Jvm.Cond.instanceMethod ({ cls := "ChairCane", name := "help", desc := "(I)I" } : Jvm.MethodName)) ∈ lw_all := lw_g (lw_at lw_m4 84 rfl) rfl
theorem q921 : (Jvm.Cond.selects "ChairCane" ({ cls := "ChairCane", name := "help", desc := "(I)I" } : Jvm.MethodName) ({ cls := "ChairCane", name := "help", desc := "(I)I" } : Jvm.MethodName)) ∈ lw_all := lw_g (lw_at lw_m4 85 rfl) rfl
theorem q922 : (Jvm.Cond.code ({ cls := "ChairCane", name := "help", desc := "(I)I" } : Jvm.MethodName) prog_1_method_25_code (2 : Nat) (Option.some Jvm.ClassFile.FieldType.int)) ∈ lw_all := lw_g (lw_at lw_m4 86 rfl) rfl
theorem q923 : (Jvm.Cond.methodLink "ChairCane" (241 : Nat) ({ cls := "ChairCane$Dinner", name := "onesThat", desc := "(I)I" } : Jvm.MethodName)) ∈ lw_all := lw_g (lw_at lw_m4 87 rfl) rfl
theorem q924 : (Jvm.Cond.methodLink "ChairCane" (244 : Nat) ({ cls := "java/lang/Integer", name := "bitCount", desc := "(I)I" } : Jvm.MethodName)) ∈ lw_all := lw_g (lw_at lw_m4 88 rfl) rfl
theorem q926 : (Jvm.Cond.instanceMethod ({ cls := "ChairCane", name := "let", desc := "(II)I" } : Jvm.MethodName)) ∈ lw_all := lw_g (lw_at lw_m4 90 rfl) rfl
theorem q927 : (Jvm.Cond.selects "ChairCane" ({ cls := "ChairCane", name := "let", desc := "(II)I" } : Jvm.MethodName) ({ cls := "ChairCane", name := "let", desc := "(II)I" } : Jvm.MethodName)) ∈ lw_all := lw_g (lw_at lw_m4 91 rfl) rfl
theorem q928 : (Jvm.Cond.code ({ cls := "ChairCane", name := "let", desc := "(II)I" } : Jvm.MethodName) prog_1_method_26_code (3 : Nat) (Option.some Jvm.ClassFile.FieldType.int)) ∈ lw_all := lw_g (lw_at lw_m4 92 rfl) rfl
theorem q929 : (Jvm.Cond.constantLong "ChairCane" (249 : Nat) (99 : Int64)) ∈ lw_all := lw_g (lw_at lw_m4 93 rfl) rfl
theorem q931 : (Jvm.Cond.instanceMethod ({ cls := "ChairCane", name := "ahead", desc := "(III)I" } : Jvm.MethodName)) ∈ lw_all := lw_g (lw_at lw_m4 95 rfl) rfl
theorem q932 : (Jvm.Cond.selects "ChairCane" ({ cls := "ChairCane", name := "ahead", desc := "(III)I" } : Jvm.MethodName) ({ cls := "ChairCane", name := "ahead", desc := "(III)I" } : Jvm.MethodName)) ∈ lw_all := lw_g (lw_at lw_m4 96 rfl) rfl
theorem q933 : (Jvm.Cond.code ({ cls := "ChairCane", name := "ahead", desc := "(III)I" } : Jvm.MethodName) prog_1_method_27_code (4 : Nat) (Option.some Jvm.ClassFile.FieldType.int)) ∈ lw_all := lw_g (lw_at lw_m4 97 rfl) rfl
theorem q934 : (Jvm.Cond.constantLong "ChairCane" (251 : Nat) (100 : Int64)) ∈ lw_all := lw_g (lw_at lw_m4 98 rfl) rfl
theorem q935 : (Jvm.Cond.methodLink "ChairCane" (253 : Nat) ({ cls := "ChairCane$Dinner", name := "passesAll", desc := "(ILChairCane$Rule;)LChairCane$Dinner;" } : Jvm.MethodName)) ∈ lw_all := lw_g (lw_at lw_m4 99 rfl) rfl
theorem q941 : (Jvm.Cond.instanceMethod ({ cls := "ChairCane", name := "falls", desc := "(I)I" } : Jvm.MethodName)) ∈ lw_all := lw_g (lw_at lw_m4 105 rfl) rfl
theorem q942 : (Jvm.Cond.selects "ChairCane" ({ cls := "ChairCane", name := "falls", desc := "(I)I" } : Jvm.MethodName) ({ cls := "ChairCane", name := "falls", desc := "(I)I" } : Jvm.MethodName)) ∈ lw_all := lw_g (lw_at lw_m4 106 rfl) rfl
theorem q943 : (Jvm.Cond.code ({ cls := "ChairCane", name := "falls", desc := "(I)I" } : Jvm.MethodName) prog_1_method_28_code (4 : Nat) (Option.some Jvm.ClassFile.FieldType.int)) ∈ lw_all := lw_g (lw_at lw_m4 107 rfl) rfl
theorem q945 : (Jvm.Cond.instanceMethod ({ cls := "ChairCane", name := "felled", desc := "(I)I" } : Jvm.MethodName)) ∈ lw_all := lw_g (lw_at lw_m4 109 rfl) rfl
theorem q946 : (Jvm.Cond.selects "ChairCane" ({ cls := "ChairCane", name := "felled", desc := "(I)I" } : Jvm.MethodName) ({ cls := "ChairCane", name := "felled", desc := "(I)I" } : Jvm.MethodName)) ∈ lw_all := lw_g (lw_at lw_m4 110 rfl) rfl
theorem q947 : (Jvm.Cond.code ({ cls := "ChairCane", name := "felled", desc := "(I)I" } : Jvm.MethodName) prog_1_method_30_code (2 : Nat) (Option.some Jvm.ClassFile.FieldType.int)) ∈ lw_all := lw_g (lw_at lw_m4 111 rfl) rfl
theorem q948 : (Jvm.Cond.methodLink "ChairCane" (257 : Nat) ({ cls := "ChairCane", name := "fells", desc := "(I)I" } : Jvm.MethodName)) ∈ lw_all := lw_g (lw_at lw_m4 112 rfl) rfl
theorem q949 : (Jvm.Cond.privateMethod ({ cls := "ChairCane", name := "fells", desc := "(I)I" } : Jvm.MethodName)) ∈ lw_tbl := lw_at lw_m4 113 rfl
theorem q950 : (Jvm.Cond.instanceMethod ({ cls := "ChairCane", name := "fells", desc := "(I)I" } : Jvm.MethodName)) ∈ lw_all := lw_g (lw_at lw_m4 114 rfl) rfl
theorem q951 : (Jvm.Cond.code ({ cls := "ChairCane", name := "fells", desc := "(I)I" } : Jvm.MethodName) prog_1_method_29_code (2 : Nat) (Option.some Jvm.ClassFile.FieldType.int)) ∈ lw_all := lw_g (lw_at lw_m4 115 rfl) rfl
theorem q953 : (Jvm.Cond.instanceMethod ({ cls := "ChairCane", name := "tall", desc := "(I)I" } : Jvm.MethodName)) ∈ lw_all := lw_g (lw_at lw_m4 117 rfl) rfl
theorem q954 : (Jvm.Cond.selects "ChairCane" ({ cls := "ChairCane", name := "tall", desc := "(I)I" } : Jvm.MethodName) ({ cls := "ChairCane", name := "tall", desc := "(I)I" } : Jvm.MethodName)) ∈ lw_all := lw_g (lw_at lw_m4 118 rfl) rfl
theorem q955 : (Jvm.Cond.code ({ cls := "ChairCane", name := "tall", desc := "(I)I" } : Jvm.MethodName) prog_1_method_31_code (6 : Nat) (Option.some Jvm.ClassFile.FieldType.int)) ∈ lw_all := lw_g (lw_at lw_m4 119 rfl) rfl
theorem q957 : (Jvm.Cond.instanceMethod ({ cls := "ChairCane", name := "ease", desc := "(I)I" } : Jvm.MethodName)) ∈ lw_all := lw_g (lw_at lw_m4 121 rfl) rfl
theorem q958 : (Jvm.Cond.selects "ChairCane" ({ cls := "ChairCane", name := "ease", desc := "(I)I" } : Jvm.MethodName) ({ cls := "ChairCane", name := "ease", desc := "(I)I" } : Jvm.MethodName)) ∈ lw_all := lw_g (lw_at lw_m4 122 rfl) rfl
theorem q959 : (Jvm.Cond.code ({ cls := "ChairCane", name := "ease", desc := "(I)I" } : Jvm.MethodName) prog_1_method_32_code (6 : Nat) (Option.some Jvm.ClassFile.FieldType.int)) ∈ lw_all := lw_g (lw_at lw_m4 123 rfl) rfl
theorem q960 : (Jvm.Cond.methodLink "ChairCane" (260 : Nat) ({ cls := "ChairCane$Dinner", name := "dropsOf", desc := "(I)I" } : Jvm.MethodName)) ∈ lw_all := lw_g (lw_at lw_m4 124 rfl) rfl
theorem q962 : (Jvm.Cond.instanceMethod ({ cls := "ChairCane", name := "way", desc := "(I)I" } : Jvm.MethodName)) ∈ lw_all := lw_g (lw_at lw_m4 126 rfl) rfl
theorem q963 : (Jvm.Cond.selects "ChairCane" ({ cls := "ChairCane", name := "way", desc := "(I)I" } : Jvm.MethodName) ({ cls := "ChairCane", name := "way", desc := "(I)I" } : Jvm.MethodName)) ∈ lw_all := lw_g (lw_at lw_m4 127 rfl) rfl
theorem q964 : (Jvm.Cond.code ({ cls := "ChairCane", name := "way", desc := "(I)I" } : Jvm.MethodName) prog_1_method_34_code (5 : Nat) (Option.some Jvm.ClassFile.FieldType.int)) ∈ lw_all := lw_g (lw_at lw_m4 128 rfl) rfl
theorem q965 : (Jvm.Cond.constantLong "ChairCane" (266 : Nat) (7 : Int64)) ∈ lw_all := lw_g (lw_at lw_m4 129 rfl) rfl
theorem q966 : (Jvm.Cond.methodLink "ChairCane" (268 : Nat) ({ cls := "ChairCane", name := "upFrom", desc := "(I)I" } : Jvm.MethodName)) ∈ lw_all := lw_g (lw_at lw_m4 130 rfl) rfl
theorem q967 : (Jvm.Cond.privateMethod ({ cls := "ChairCane", name := "upFrom", desc := "(I)I" } : Jvm.MethodName)) ∈ lw_tbl := lw_at lw_m4 131 rfl
theorem q968 : (Jvm.Cond.instanceMethod ({ cls := "ChairCane", name := "upFrom", desc := "(I)I" } : Jvm.MethodName)) ∈ lw_all := lw_g (lw_at lw_m4 132 rfl) rfl
theorem q969 : (Jvm.Cond.code ({ cls := "ChairCane", name := "upFrom", desc := "(I)I" } : Jvm.MethodName) prog_1_method_33_code (4 : Nat) (Option.some Jvm.ClassFile.FieldType.int)) ∈ lw_all := lw_g (lw_at lw_m4 133 rfl) rfl
theorem q970 : (Jvm.Cond.methodLink "ChairCane" (263 : Nat) ({ cls := "ChairCane", name := "has", desc := "(II)Z" } : Jvm.MethodName)) ∈ lw_all := lw_g (lw_at lw_m4 134 rfl) rfl
theorem q972 : (Jvm.Cond.instanceMethod ({ cls := "ChairCane", name := "most", desc := "(I)I" } : Jvm.MethodName)) ∈ lw_all := lw_g (lw_at lw_m4 136 rfl) rfl
theorem q973 : (Jvm.Cond.selects "ChairCane" ({ cls := "ChairCane", name := "most", desc := "(I)I" } : Jvm.MethodName) ({ cls := "ChairCane", name := "most", desc := "(I)I" } : Jvm.MethodName)) ∈ lw_all := lw_g (lw_at lw_m4 137 rfl) rfl
theorem q974 : (Jvm.Cond.code ({ cls := "ChairCane", name := "most", desc := "(I)I" } : Jvm.MethodName) prog_1_method_35_code (4 : Nat) (Option.some Jvm.ClassFile.FieldType.int)) ∈ lw_all := lw_g (lw_at lw_m4 138 rfl) rfl
theorem q976 : (Jvm.Cond.instanceMethod ({ cls := "ChairCane", name := "heavy", desc := "(II)I" } : Jvm.MethodName)) ∈ lw_all := lw_g (lw_at lw_m4 140 rfl) rfl
theorem q977 : (Jvm.Cond.selects "ChairCane" ({ cls := "ChairCane", name := "heavy", desc := "(II)I" } : Jvm.MethodName) ({ cls := "ChairCane", name := "heavy", desc := "(II)I" } : Jvm.MethodName)) ∈ lw_all := lw_g (lw_at lw_m4 141 rfl) rfl
theorem q978 : (Jvm.Cond.code ({ cls := "ChairCane", name := "heavy", desc := "(II)I" } : Jvm.MethodName) prog_1_method_36_code (7 : Nat) (Option.some Jvm.ClassFile.FieldType.int)) ∈ lw_all := lw_g (lw_at lw_m4 142 rfl) rfl
theorem q980 : (Jvm.Cond.instanceMethod ({ cls := "ChairCane", name := "rests", desc := "(IIII)I" } : Jvm.MethodName)) ∈ lw_all := lw_g (lw_at lw_m4 144 rfl) rfl
theorem q981 : (Jvm.Cond.selects "ChairCane" ({ cls := "ChairCane", name := "rests", desc := "(IIII)I" } : Jvm.MethodName) ({ cls := "ChairCane", name := "rests", desc := "(IIII)I" } : Jvm.MethodName)) ∈ lw_all := lw_g (lw_at lw_m4 145 rfl) rfl
theorem q982 : (Jvm.Cond.code ({ cls := "ChairCane", name := "rests", desc := "(IIII)I" } : Jvm.MethodName) prog_1_method_41_code (8 : Nat) (Option.some Jvm.ClassFile.FieldType.int)) ∈ lw_all := lw_g (lw_at lw_m4 146 rfl) rfl
theorem q983 : (Jvm.Cond.methodLink "ChairCane" (280 : Nat) ({ cls := "ChairCane", name := "canChoose", desc := "(I)Z" } : Jvm.MethodName)) ∈ lw_all := lw_g (lw_at lw_m4 147 rfl) rfl
theorem q984 : (Jvm.Cond.privateMethod ({ cls := "ChairCane", name := "canChoose", desc := "(I)Z" } : Jvm.MethodName)) ∈ lw_tbl := lw_at lw_m4 148 rfl
theorem q985 : (Jvm.Cond.instanceMethod ({ cls := "ChairCane", name := "canChoose", desc := "(I)Z" } : Jvm.MethodName)) ∈ lw_all := lw_g (lw_at lw_m4 149 rfl) rfl
theorem q986 : (Jvm.Cond.code ({ cls := "ChairCane", name := "canChoose", desc := "(I)Z" } : Jvm.MethodName) prog_1_method_40_code (2 : Nat) (Option.some Jvm.ClassFile.FieldType.boolean)) ∈ lw_all := lw_g (lw_at lw_m4 150 rfl) rfl
theorem q987 : (Jvm.Cond.constantLong "ChairCane" (283 : Nat) (20 : Int64)) ∈ lw_all := lw_g (lw_at lw_m4 151 rfl) rfl
theorem q988 : (Jvm.Cond.methodLink "ChairCane" (285 : Nat) ({ cls := "ChairCane", name := "weighs", desc := "(IIII)V" } : Jvm.MethodName)) ∈ lw_all := lw_g (lw_at lw_m4 152 rfl) rfl
theorem q989 : (Jvm.Cond.privateMethod ({ cls := "ChairCane", name := "weighs", desc := "(IIII)V" } : Jvm.MethodName)) ∈ lw_tbl := lw_at lw_m4 153 rfl
theorem q990 : (Jvm.Cond.instanceMethod ({ cls := "ChairCane", name := "weighs", desc := "(IIII)V" } : Jvm.MethodName)) ∈ lw_all := lw_g (lw_at lw_m4 154 rfl) rfl
theorem q991 : (Jvm.Cond.code ({ cls := "ChairCane", name := "weighs", desc := "(IIII)V" } : Jvm.MethodName) prog_1_method_39_code (6 : Nat) (Option.none : Option Jvm.ClassFile.FieldType)) ∈ lw_all := lw_g (lw_at lw_m4 155 rfl) rfl
theorem q992 : (Jvm.Cond.methodLink "ChairCane" (271 : Nat) ({ cls := "ChairCane$Dinner", name := "standsAs", desc := "(LChairCane$Dinner;)LChairCane$Dinner;" } : Jvm.MethodName)) ∈ lw_all := lw_g (lw_at lw_m4 156 rfl) rfl
theorem q993 : (Jvm.Cond.methodLink "ChairCane" (277 : Nat) ({ cls := "ChairCane", name := "gets", desc := "(I)I" } : Jvm.MethodName)) ∈ lw_all := lw_g (lw_at lw_m4 157 rfl) rfl
theorem q994 : (Jvm.Cond.privateMethod ({ cls := "ChairCane", name := "gets", desc := "(I)I" } : Jvm.MethodName)) ∈ lw_tbl := lw_at lw_m4 158 rfl
theorem q995 : (Jvm.Cond.instanceMethod ({ cls := "ChairCane", name := "gets", desc := "(I)I" } : Jvm.MethodName)) ∈ lw_all := lw_g (lw_at lw_m4 159 rfl) rfl
theorem q996 : (Jvm.Cond.code ({ cls := "ChairCane", name := "gets", desc := "(I)I" } : Jvm.MethodName) prog_1_method_38_code (2 : Nat) (Option.some Jvm.ClassFile.FieldType.int)) ∈ lw_all := lw_g (lw_at lw_m4 160 rfl) rfl
theorem q997 : (Jvm.Cond.methodLink "ChairCane" (289 : Nat) ({ cls := "ChairCane", name := "isRest", desc := "(II)Z" } : Jvm.MethodName)) ∈ lw_all := lw_g (lw_at lw_m4 161 rfl) rfl
theorem q998 : (Jvm.Cond.privateMethod ({ cls := "ChairCane", name := "isRest", desc := "(II)Z" } : Jvm.MethodName)) ∈ lw_tbl := lw_at lw_m4 162 rfl
theorem q999 : (Jvm.Cond.instanceMethod ({ cls := "ChairCane", name := "isRest", desc := "(II)Z" } : Jvm.MethodName)) ∈ lw_all := lw_g (lw_at lw_m4 163 rfl) rfl
theorem q1000 : (Jvm.Cond.code ({ cls := "ChairCane", name := "isRest", desc := "(II)Z" } : Jvm.MethodName) prog_1_method_37_code (3 : Nat) (Option.some Jvm.ClassFile.FieldType.boolean)) ∈ lw_all := lw_g (lw_at lw_m4 164 rfl) rfl
theorem q1002 : (Jvm.Cond.instanceMethod ({ cls := "ChairCane", name := "ring", desc := "(I)I" } : Jvm.MethodName)) ∈ lw_all := lw_g (lw_at lw_m4 166 rfl) rfl
theorem q1003 : (Jvm.Cond.selects "ChairCane" ({ cls := "ChairCane", name := "ring", desc := "(I)I" } : Jvm.MethodName) ({ cls := "ChairCane", name := "ring", desc := "(I)I" } : Jvm.MethodName)) ∈ lw_all := lw_g (lw_at lw_m4 167 rfl) rfl
theorem q1004 : (Jvm.Cond.code ({ cls := "ChairCane", name := "ring", desc := "(I)I" } : Jvm.MethodName) prog_1_method_43_code (4 : Nat) (Option.some Jvm.ClassFile.FieldType.int)) ∈ lw_all := lw_g (lw_at lw_m4 168 rfl) rfl
theorem q1005 : (Jvm.Cond.methodLink "ChairCane" (292 : Nat) ({ cls := "ChairCane", name := "areAlike", desc := "(II)Z" } : Jvm.MethodName)) ∈ lw_all := lw_g (lw_at lw_m4 169 rfl) rfl
theorem q1006 : (Jvm.Cond.privateMethod ({ cls := "ChairCane", name := "areAlike", desc := "(II)Z" } : Jvm.MethodName)) ∈ lw_tbl := lw_at lw_m4 170 rfl
theorem q1007 : (Jvm.Cond.instanceMethod ({ cls := "ChairCane", name := "areAlike", desc := "(II)Z" } : Jvm.MethodName)) ∈ lw_all := lw_g (lw_at lw_m4 171 rfl) rfl
theorem q1008 : (Jvm.Cond.code ({ cls := "ChairCane", name := "areAlike", desc := "(II)Z" } : Jvm.MethodName) prog_1_method_42_code (4 : Nat) (Option.some Jvm.ClassFile.FieldType.boolean)) ∈ lw_all := lw_g (lw_at lw_m4 172 rfl) rfl
theorem q1010 : (Jvm.Cond.instanceMethod ({ cls := "ChairCane", name := "pence", desc := "(II)I" } : Jvm.MethodName)) ∈ lw_all := lw_g (lw_at lw_m4 174 rfl) rfl
theorem q1011 : (Jvm.Cond.selects "ChairCane" ({ cls := "ChairCane", name := "pence", desc := "(II)I" } : Jvm.MethodName) ({ cls := "ChairCane", name := "pence", desc := "(II)I" } : Jvm.MethodName)) ∈ lw_all := lw_g (lw_at lw_m4 175 rfl) rfl
theorem q1012 : (Jvm.Cond.code ({ cls := "ChairCane", name := "pence", desc := "(II)I" } : Jvm.MethodName) prog_1_method_44_code (9 : Nat) (Option.some Jvm.ClassFile.FieldType.int)) ∈ lw_all := lw_g (lw_at lw_m4 176 rfl) rfl
theorem q1013 : (Jvm.Cond.constantLong "ChairCane" (295 : Nat) (9999 : Int64)) ∈ lw_all := lw_g (lw_at lw_m4 177 rfl) rfl
theorem q1014 : (Jvm.Cond.methodLink "ChairCane" (297 : Nat) ({ cls := "ChairCane$Dinner", name := "givesAll", desc := "()I" } : Jvm.MethodName)) ∈ lw_all := lw_g (lw_at lw_m4 178 rfl) rfl
theorem q1019 : (Jvm.Cond.instanceMethod ({ cls := "ChairCane", name := "note", desc := "(III)I" } : Jvm.MethodName)) ∈ lw_all := lw_g (lw_at lw_m4 183 rfl) rfl
theorem q1020 : (Jvm.Cond.selects "ChairCane" ({ cls := "ChairCane", name := "note", desc := "(III)I" } : Jvm.MethodName) ({ cls := "ChairCane", name := "note", desc := "(III)I" } : Jvm.MethodName)) ∈ lw_all := lw_g (lw_at lw_m4 184 rfl) rfl
theorem q1021 : (Jvm.Cond.code ({ cls := "ChairCane", name := "note", desc := "(III)I" } : Jvm.MethodName) prog_1_method_45_code (5 : Nat) (Option.some Jvm.ClassFile.FieldType.int)) ∈ lw_all := lw_g (lw_at lw_m4 185 rfl) rfl
theorem q1022 : (Jvm.Cond.constantLong "ChairCane" (303 : Nat) (60 : Int64)) ∈ lw_all := lw_g (lw_at lw_m4 186 rfl) rfl
theorem q1024 : (Jvm.Cond.instanceMethod ({ cls := "ChairCane", name := "ruled", desc := "(I)I" } : Jvm.MethodName)) ∈ lw_all := lw_g (lw_at lw_m4 188 rfl) rfl
theorem q1025 : (Jvm.Cond.selects "ChairCane" ({ cls := "ChairCane", name := "ruled", desc := "(I)I" } : Jvm.MethodName) ({ cls := "ChairCane", name := "ruled", desc := "(I)I" } : Jvm.MethodName)) ∈ lw_all := lw_g (lw_at lw_m4 189 rfl) rfl
theorem q1026 : (Jvm.Cond.code ({ cls := "ChairCane", name := "ruled", desc := "(I)I" } : Jvm.MethodName) prog_1_method_48_code (5 : Nat) (Option.some Jvm.ClassFile.FieldType.int)) ∈ lw_all := lw_g (lw_at lw_m4 190 rfl) rfl
theorem q1027 : (Jvm.Cond.methodLink "ChairCane" (314 : Nat) ({ cls := "ChairCane", name := "gathersRules", desc := "(I)V" } : Jvm.MethodName)) ∈ lw_all := lw_g (lw_at lw_m4 191 rfl) rfl
theorem q1028 : (Jvm.Cond.privateMethod ({ cls := "ChairCane", name := "gathersRules", desc := "(I)V" } : Jvm.MethodName)) ∈ lw_tbl := lw_at lw_m4 192 rfl
theorem q1029 : (Jvm.Cond.instanceMethod ({ cls := "ChairCane", name := "gathersRules", desc := "(I)V" } : Jvm.MethodName)) ∈ lw_all := lw_g (lw_at lw_m4 193 rfl) rfl
theorem q1030 : (Jvm.Cond.code ({ cls := "ChairCane", name := "gathersRules", desc := "(I)V" } : Jvm.MethodName) prog_1_method_47_code (4 : Nat) (Option.none : Option Jvm.ClassFile.FieldType)) ∈ lw_all := lw_g (lw_at lw_m4 194 rfl) rfl
theorem q1031 : (Jvm.Cond.methodLink "ChairCane" (308 : Nat) ({ cls := "ChairCane$Dinner", name := "begins", desc := "()V" } : Jvm.MethodName)) ∈ lw_all := lw_g (lw_at lw_m4 195 rfl) rfl
theorem q1032 : (Jvm.Cond.methodLink "ChairCane" (311 : Nat) ({ cls := "ChairCane", name := "areNotesSo", desc := "(I)Z" } : Jvm.MethodName)) ∈ lw_all := lw_g (lw_at lw_m4 196 rfl) rfl
theorem q1033 : (Jvm.Cond.privateMethod ({ cls := "ChairCane", name := "areNotesSo", desc := "(I)Z" } : Jvm.MethodName)) ∈ lw_tbl := lw_at lw_m4 197 rfl
theorem q1034 : (Jvm.Cond.instanceMethod ({ cls := "ChairCane", name := "areNotesSo", desc := "(I)Z" } : Jvm.MethodName)) ∈ lw_all := lw_g (lw_at lw_m4 198 rfl) rfl
theorem q1035 : (Jvm.Cond.code ({ cls := "ChairCane", name := "areNotesSo", desc := "(I)Z" } : Jvm.MethodName) prog_1_method_46_code (3 : Nat) (Option.some Jvm.ClassFile.FieldType.boolean)) ∈ lw_all := lw_g (lw_at lw_m4 199 rfl) rfl
theorem q1037 : (Jvm.Cond.instanceMethod ({ cls := "ChairCane", name := "look", desc := "(II)I" } : Jvm.MethodName)) ∈ lw_all := lw_g (lw_at lw_m4 201 rfl) rfl
theorem q1038 : (Jvm.Cond.selects "ChairCane" ({ cls := "ChairCane", name := "look", desc := "(II)I" } : Jvm.MethodName) ({ cls := "ChairCane", name := "look", desc := "(II)I" } : Jvm.MethodName)) ∈ lw_all := lw_g (lw_at lw_m4 202 rfl) rfl
theorem q1039 : (Jvm.Cond.code ({ cls := "ChairCane", name := "look", desc := "(II)I" } : Jvm.MethodName) prog_1_method_50_code (7 : Nat) (Option.some Jvm.ClassFile.FieldType.int)) ∈ lw_all := lw_g (lw_at lw_m4 203 rfl) rfl
theorem q1040 : (Jvm.Cond.methodLink "ChairCane" (322 : Nat) ({ cls := "ChairCane", name := "alikeOf", desc := "(I)I" } : Jvm.MethodName)) ∈ lw_all := lw_g (lw_at lw_m4 204 rfl) rfl
theorem q1041 : (Jvm.Cond.privateMethod ({ cls := "ChairCane", name := "alikeOf", desc := "(I)I" } : Jvm.MethodName)) ∈ lw_tbl := lw_at lw_m4 205 rfl
theorem q1042 : (Jvm.Cond.instanceMethod ({ cls := "ChairCane", name := "alikeOf", desc := "(I)I" } : Jvm.MethodName)) ∈ lw_all := lw_g (lw_at lw_m4 206 rfl) rfl
theorem q1043 : (Jvm.Cond.code ({ cls := "ChairCane", name := "alikeOf", desc := "(I)I" } : Jvm.MethodName) prog_1_method_49_code (6 : Nat) (Option.some Jvm.ClassFile.FieldType.int)) ∈ lw_all := lw_g (lw_at lw_m4 207 rfl) rfl
theorem q1044 : (Jvm.Cond.methodLink "ChairCane" (317 : Nat) ({ cls := "java/lang/Math", name := "max", desc := "(II)I" } : Jvm.MethodName)) ∈ lw_all := lw_g (lw_at lw_m4 208 rfl) rfl
theorem q1048 : (Jvm.Cond.instanceMethod ({ cls := "ChairCane", name := "strung", desc := "(I)I" } : Jvm.MethodName)) ∈ lw_all := lw_g (lw_at lw_m4 212 rfl) rfl
theorem q1049 : (Jvm.Cond.selects "ChairCane" ({ cls := "ChairCane", name := "strung", desc := "(I)I" } : Jvm.MethodName) ({ cls := "ChairCane", name := "strung", desc := "(I)I" } : Jvm.MethodName)) ∈ lw_all := lw_g (lw_at lw_m4 213 rfl) rfl
theorem q1050 : (Jvm.Cond.code ({ cls := "ChairCane", name := "strung", desc := "(I)I" } : Jvm.MethodName) prog_1_method_52_code (4 : Nat) (Option.some Jvm.ClassFile.FieldType.int)) ∈ lw_all := lw_g (lw_at lw_m4 214 rfl) rfl
theorem q1051 : (Jvm.Cond.methodLink "ChairCane" (325 : Nat) ({ cls := "ChairCane", name := "areAllSo", desc := "()Z" } : Jvm.MethodName)) ∈ lw_all := lw_g (lw_at lw_m4 215 rfl) rfl
theorem q1052 : (Jvm.Cond.privateMethod ({ cls := "ChairCane", name := "areAllSo", desc := "()Z" } : Jvm.MethodName)) ∈ lw_tbl := lw_at lw_m4 216 rfl
theorem q1053 : (Jvm.Cond.instanceMethod ({ cls := "ChairCane", name := "areAllSo", desc := "()Z" } : Jvm.MethodName)) ∈ lw_all := lw_g (lw_at lw_m4 217 rfl) rfl
theorem q1054 : (Jvm.Cond.code ({ cls := "ChairCane", name := "areAllSo", desc := "()Z" } : Jvm.MethodName) prog_1_method_51_code (3 : Nat) (Option.some Jvm.ClassFile.FieldType.boolean)) ∈ lw_all := lw_g (lw_at lw_m4 218 rfl) rfl
theorem q1056 : (Jvm.Cond.instanceMethod ({ cls := "ChairCane", name := "seed", desc := "(I)I" } : Jvm.MethodName)) ∈ lw_all := lw_g (lw_at lw_m4 220 rfl) rfl
theorem q1057 : (Jvm.Cond.selects "ChairCane" ({ cls := "ChairCane", name := "seed", desc := "(I)I" } : Jvm.MethodName) ({ cls := "ChairCane", name := "seed", desc := "(I)I" } : Jvm.MethodName)) ∈ lw_all := lw_g (lw_at lw_m4 221 rfl) rfl
theorem q1058 : (Jvm.Cond.code ({ cls := "ChairCane", name := "seed", desc := "(I)I" } : Jvm.MethodName) prog_1_method_53_code (3 : Nat) (Option.some Jvm.ClassFile.FieldType.int)) ∈ lw_all := lw_g (lw_at lw_m4 222 rfl) rfl
theorem q1060 : (Jvm.Cond.instanceMethod ({ cls := "ChairCane", name := "toasts", desc := "(IIII)I" } : Jvm.MethodName)) ∈ lw_all := lw_g (lw_at lw_m4 224 rfl) rfl
theorem q1061 : (Jvm.Cond.selects "ChairCane" ({ cls := "ChairCane", name := "toasts", desc := "(IIII)I" } : Jvm.MethodName) ({ cls := "ChairCane", name := "toasts", desc := "(IIII)I" } : Jvm.MethodName)) ∈ lw_all := lw_g (lw_at lw_m4 225 rfl) rfl
theorem q1062 : (Jvm.Cond.code ({ cls := "ChairCane", name := "toasts", desc := "(IIII)I" } : Jvm.MethodName) prog_1_method_56_code (10 : Nat) (Option.some Jvm.ClassFile.FieldType.int)) ∈ lw_all := lw_g (lw_at lw_m4 226 rfl) rfl
theorem q1063 : (Jvm.Cond.constantLong "ChairCane" (342 : Nat) (10 : Int64)) ∈ lw_all := lw_g (lw_at lw_m4 227 rfl) rfl
theorem q1064 : (Jvm.Cond.methodLink "ChairCane" (344 : Nat) ({ cls := "ChairCane", name := "draw", desc := "(I)I" } : Jvm.MethodName)) ∈ lw_all := lw_g (lw_at lw_m4 228 rfl) rfl
theorem q1065 : (Jvm.Cond.privateMethod ({ cls := "ChairCane", name := "draw", desc := "(I)I" } : Jvm.MethodName)) ∈ lw_tbl := lw_at lw_m4 229 rfl
theorem q1066 : (Jvm.Cond.instanceMethod ({ cls := "ChairCane", name := "draw", desc := "(I)I" } : Jvm.MethodName)) ∈ lw_all := lw_g (lw_at lw_m4 230 rfl) rfl
theorem q1067 : (Jvm.Cond.code ({ cls := "ChairCane", name := "draw", desc := "(I)I" } : Jvm.MethodName) prog_1_method_54_code (2 : Nat) (Option.some Jvm.ClassFile.FieldType.int)) ∈ lw_all := lw_g (lw_at lw_m4 231 rfl) rfl
theorem q1068 : (Jvm.Cond.constantLong "ChairCane" (335 : Nat) (1103515245 : Int64)) ∈ lw_all := lw_g (lw_at lw_m4 232 rfl) rfl
theorem q1069 : (Jvm.Cond.constantLong "ChairCane" (337 : Nat) (12345 : Int64)) ∈ lw_all := lw_g (lw_at lw_m4 233 rfl) rfl
theorem q1070 : (Jvm.Cond.constantLong "ChairCane" (339 : Nat) (2147483648 : Int64)) ∈ lw_all := lw_g (lw_at lw_m4 234 rfl) rfl
theorem q1071 : (Jvm.Cond.constant "ChairCane" (341 : Nat) (65536 : Int32)) ∈ lw_all := lw_g (lw_at lw_m4 235 rfl) rfl
theorem q1072 : (Jvm.Cond.methodLink "ChairCane" (347 : Nat) ({ cls := "ChairCane", name := "stirs", desc := "(I)V" } : Jvm.MethodName)) ∈ lw_all := lw_g (lw_at lw_m4 236 rfl) rfl
theorem q1073 : (Jvm.Cond.privateMethod ({ cls := "ChairCane", name := "stirs", desc := "(I)V" } : Jvm.MethodName)) ∈ lw_tbl := lw_at lw_m4 237 rfl
theorem q1074 : (Jvm.Cond.instanceMethod ({ cls := "ChairCane", name := "stirs", desc := "(I)V" } : Jvm.MethodName)) ∈ lw_all := lw_g (lw_at lw_m4 238 rfl) rfl
theorem q1075 : (Jvm.Cond.code ({ cls := "ChairCane", name := "stirs", desc := "(I)V" } : Jvm.MethodName) prog_1_method_55_code (2 : Nat) (Option.none : Option Jvm.ClassFile.FieldType)) ∈ lw_all := lw_g (lw_at lw_m4 239 rfl) rfl
theorem q1077 : (Jvm.Cond.instanceMethod ({ cls := "ChairCane", name := "count", desc := "(I)I" } : Jvm.MethodName)) ∈ lw_all := lw_g (lw_at lw_m5 1 rfl) rfl
theorem q1078 : (Jvm.Cond.selects "ChairCane" ({ cls := "ChairCane", name := "count", desc := "(I)I" } : Jvm.MethodName) ({ cls := "ChairCane", name := "count", desc := "(I)I" } : Jvm.MethodName)) ∈ lw_all := lw_g (lw_at lw_m5 2 rfl) rfl
theorem q1079 : (Jvm.Cond.code ({ cls := "ChairCane", name := "count", desc := "(I)I" } : Jvm.MethodName) prog_1_method_57_code (2 : Nat) (Option.some Jvm.ClassFile.FieldType.int)) ∈ lw_all := lw_g (lw_at lw_m5 3 rfl) rfl
theorem q1080 : (Jvm.Cond.constantLong "ChairCane" (350 : Nat) (12 : Int64)) ∈ lw_all := lw_g (lw_at lw_m5 4 rfl) rfl
theorem q1082 : (Jvm.Cond.instanceMethod ({ cls := "ChairCane", name := "image", desc := "(I)I" } : Jvm.MethodName)) ∈ lw_all := lw_g (lw_at lw_m5 6 rfl) rfl
theorem q1083 : (Jvm.Cond.selects "ChairCane" ({ cls := "ChairCane", name := "image", desc := "(I)I" } : Jvm.MethodName) ({ cls := "ChairCane", name := "image", desc := "(I)I" } : Jvm.MethodName)) ∈ lw_all := lw_g (lw_at lw_m5 7 rfl) rfl
theorem q1084 : (Jvm.Cond.code ({ cls := "ChairCane", name := "image", desc := "(I)I" } : Jvm.MethodName) prog_1_method_58_code (3 : Nat) (Option.some Jvm.ClassFile.FieldType.int)) ∈ lw_all := lw_g (lw_at lw_m5 8 rfl) rfl
theorem q1086 : (Jvm.Cond.methodLinkNest "ChairCane" (352 : Nat) ({ cls := "ChairCane$Image", name := "<init>", desc := "()V" } : Jvm.MethodName) "ChairCane") ∈ lw_tbl := lw_at lw_m5 10 rfl
theorem q1093 : (Jvm.Cond.fieldLinkNest "ChairCane" (359 : Nat) "ChairCane$Image" "dinner" "LChairCane$Dinner;" "ChairCane") ∈ lw_tbl := lw_at lw_m5 17 rfl
theorem q1094 : (Jvm.Cond.fieldLinkNest "ChairCane" (353 : Nat) "ChairCane$Image" "isTold" "Z" "ChairCane") ∈ lw_tbl := lw_at lw_m5 18 rfl
theorem q1095 : (Jvm.Cond.fieldLinkNest "ChairCane" (357 : Nat) "ChairCane$Image" "x" "I" "ChairCane") ∈ lw_tbl := lw_at lw_m5 19 rfl
theorem q1096 : (Jvm.Cond.fieldLinkNest "ChairCane" (358 : Nat) "ChairCane$Image" "inForce" "I" "ChairCane") ∈ lw_tbl := lw_at lw_m5 20 rfl
theorem q1107 : (Jvm.Cond.instanceMethod ({ cls := "ChairCane", name := "back", desc := "(I)I" } : Jvm.MethodName)) ∈ lw_all := lw_g (lw_at lw_m5 31 rfl) rfl
theorem q1108 : (Jvm.Cond.selects "ChairCane" ({ cls := "ChairCane", name := "back", desc := "(I)I" } : Jvm.MethodName) ({ cls := "ChairCane", name := "back", desc := "(I)I" } : Jvm.MethodName)) ∈ lw_all := lw_g (lw_at lw_m5 32 rfl) rfl
theorem q1109 : (Jvm.Cond.code ({ cls := "ChairCane", name := "back", desc := "(I)I" } : Jvm.MethodName) prog_1_method_59_code (2 : Nat) (Option.some Jvm.ClassFile.FieldType.int)) ∈ lw_all := lw_g (lw_at lw_m5 33 rfl) rfl
theorem in_X0 : ∀ w ∈ wsX00, w ∈ lw_all := lw_in wsX00 [363, 365, 367, 369, 371, 373, 375, 377, 379, 381, 383, 385, 387, 389, 391, 393, 395, 397, 399, 401, 403, 405, 407] (by decide +kernel) (by decide +kernel)
