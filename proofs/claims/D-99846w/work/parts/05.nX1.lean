/-! ChairCane$Dinner -/
set_option maxRecDepth 100000
def RX1 : String := "ChairCane$Dinner"
def TX1 : u_T := fun k => match k with
  | 0 => ("ChairCane$Dinner", "strandMany", "I", false)
  | 1 => ("ChairCane$Dinner", "chairMany", "I", false)
  | 2 => ("ChairCane$Dinner", "sitterMany", "I", false)
  | 3 => ("ChairCane$Dinner", "noteMany", "I", false)
  | 4 => ("ChairCane$Dinner", "undoMany", "I", false)
  | 5 => ("ChairCane$Dinner", "isTold", "I", false)
  | 6 => ("ChairCane$Dinner", "now", "I", false)
  | 7 => ("ChairCane$Dinner", "toldCane", "[I", true)
  | 8 => ("ChairCane$Dinner", "height", "[I", true)
  | 9 => ("ChairCane$Dinner", "strand", "[I", true)
  | 10 => ("ChairCane$Dinner", "chair", "[I", true)
  | 11 => ("ChairCane$Dinner", "weight", "[I", true)
  | 12 => ("ChairCane$Dinner", "notes", "[I", true)
  | 13 => ("ChairCane$Dinner", "status", "[I", true)
  | 14 => ("ChairCane$Dinner", "cane", "[I", true)
  | 15 => ("ChairCane$Dinner", "undo", "[I", true)
  | 16 => ("ChairCane$Dinner", "words", "[J", true)
  | _ => ("ChairCane$Dinner", "plan", "[I", true)
def tyX1 : Nat → FieldType := fun k => match k with
  | 0 => .int
  | 1 => .int
  | 2 => .int
  | 3 => .int
  | 4 => .int
  | 5 => .int
  | 6 => .int
  | 7 => .array .int
  | 8 => .array .int
  | 9 => .array .int
  | 10 => .array .int
  | 11 => .array .int
  | 12 => .array .int
  | 13 => .array .int
  | 14 => .array .int
  | 15 => .array .int
  | 16 => .array .long
  | _ => .array .int
abbrev wsX10 : List Cond := u_ws RX1 TX1 18
set_option maxRecDepth 100000 in
theorem nmX1 : ∀ a, a < 18 → ∀ b, b < 18 → a ≠ b → (TX1 a).2.1 ≠ (TX1 b).2.1 := by decide +kernel
set_option maxRecDepth 100000 in
theorem tyX1_ok : ∀ k, k < 18 → parseFieldDescriptor (TX1 k).2.2.1 = some (tyX1 k) := by decide +kernel
abbrev cX1_init : ByteArray := prog_5_method_1_code
def yX1_init : MethodName := ⟨RX1, "<init>", "()V"⟩
def dkwX1_init_3 : List UInt8 := [181, 0, 36, 42, 16, 11, 188, 11, 181, 0, 39, 42, 16, 8, 188, 10, 181, 0, 43, 177]
abbrev dktX1_init_3 : List UInt8 := dkwX1_init_3 ++ []
def dkwX1_init_2 : List UInt8 := [181, 0, 27, 42, 16, 8, 188, 10, 181, 0, 30, 42, 7, 188, 10, 181, 0, 33, 42, 17, 1, 4, 188, 10]
abbrev dktX1_init_2 : List UInt8 := dkwX1_init_2 ++ dktX1_init_3
def dkwX1_init_1 : List UInt8 := [181, 0, 18, 42, 16, 8, 188, 10, 181, 0, 21, 42, 16, 8, 188, 10, 181, 0, 24, 42, 16, 30, 188, 10]
abbrev dktX1_init_1 : List UInt8 := dkwX1_init_1 ++ dktX1_init_2
def dkwX1_init_0 : List UInt8 := [42, 183, 0, 3, 42, 7, 188, 10, 181, 0, 9, 42, 16, 8, 188, 10, 181, 0, 15, 42, 16, 8, 188, 10]
abbrev dktX1_init_0 : List UInt8 := dkwX1_init_0 ++ dktX1_init_1
theorem dksX1_init_0 : cX1_init.data.toList.drop 0 = dktX1_init_0 := by decide +kernel
theorem dksX1_init_1 : cX1_init.data.toList.drop 24 = dktX1_init_1 := dk_seg dksX1_init_0 24 rfl rfl
theorem dksX1_init_2 : cX1_init.data.toList.drop 48 = dktX1_init_2 := dk_seg dksX1_init_1 24 rfl rfl
theorem dksX1_init_3 : cX1_init.data.toList.drop 72 = dktX1_init_3 := dk_seg dksX1_init_2 24 rfl rfl
theorem dX1_init_0 : decode cX1_init 0 = .ok (.aload_n 0, 1) := dk_42 (dk_at dksX1_init_0 0 rfl rfl)
theorem dX1_init_1 : decode cX1_init 1 = .ok (.invokespecial 3, 3) := dk_183 0 3 (dk_at dksX1_init_0 1 rfl rfl)
theorem dX1_init_4 : decode cX1_init 4 = .ok (.aload_n 0, 1) := dk_42 (dk_at dksX1_init_0 4 rfl rfl)
theorem dX1_init_5 : decode cX1_init 5 = .ok (.iconst 4, 1) := dk_7 (dk_at dksX1_init_0 5 rfl rfl)
theorem dX1_init_6 : decode cX1_init 6 = .ok (.newarray .int, 2) := dk_188_10 (dk_at dksX1_init_0 6 rfl rfl)
theorem dX1_init_8 : decode cX1_init 8 = .ok (.putfield 9, 3) := dk_181 0 9 (dk_at dksX1_init_0 8 rfl rfl)
theorem dX1_init_11 : decode cX1_init 11 = .ok (.aload_n 0, 1) := dk_42 (dk_at dksX1_init_0 11 rfl rfl)
theorem dX1_init_12 : decode cX1_init 12 = .ok (.bipush 8, 2) := dk_16 8 (dk_at dksX1_init_0 12 rfl rfl)
theorem dX1_init_14 : decode cX1_init 14 = .ok (.newarray .int, 2) := dk_188_10 (dk_at dksX1_init_0 14 rfl rfl)
theorem dX1_init_16 : decode cX1_init 16 = .ok (.putfield 15, 3) := dk_181 0 15 (dk_at dksX1_init_0 16 rfl rfl)
theorem dX1_init_19 : decode cX1_init 19 = .ok (.aload_n 0, 1) := dk_42 (dk_at dksX1_init_0 19 rfl rfl)
theorem dX1_init_20 : decode cX1_init 20 = .ok (.bipush 8, 2) := dk_16 8 (dk_at dksX1_init_0 20 rfl rfl)
theorem dX1_init_22 : decode cX1_init 22 = .ok (.newarray .int, 2) := dk_188_10 (dk_at dksX1_init_0 22 rfl rfl)
theorem dX1_init_24 : decode cX1_init 24 = .ok (.putfield 18, 3) := dk_181 0 18 (dk_at dksX1_init_1 0 rfl rfl)
theorem dX1_init_27 : decode cX1_init 27 = .ok (.aload_n 0, 1) := dk_42 (dk_at dksX1_init_1 3 rfl rfl)
theorem dX1_init_28 : decode cX1_init 28 = .ok (.bipush 8, 2) := dk_16 8 (dk_at dksX1_init_1 4 rfl rfl)
theorem dX1_init_30 : decode cX1_init 30 = .ok (.newarray .int, 2) := dk_188_10 (dk_at dksX1_init_1 6 rfl rfl)
theorem dX1_init_32 : decode cX1_init 32 = .ok (.putfield 21, 3) := dk_181 0 21 (dk_at dksX1_init_1 8 rfl rfl)
theorem dX1_init_35 : decode cX1_init 35 = .ok (.aload_n 0, 1) := dk_42 (dk_at dksX1_init_1 11 rfl rfl)
theorem dX1_init_36 : decode cX1_init 36 = .ok (.bipush 8, 2) := dk_16 8 (dk_at dksX1_init_1 12 rfl rfl)
theorem dX1_init_38 : decode cX1_init 38 = .ok (.newarray .int, 2) := dk_188_10 (dk_at dksX1_init_1 14 rfl rfl)
theorem dX1_init_40 : decode cX1_init 40 = .ok (.putfield 24, 3) := dk_181 0 24 (dk_at dksX1_init_1 16 rfl rfl)
theorem dX1_init_43 : decode cX1_init 43 = .ok (.aload_n 0, 1) := dk_42 (dk_at dksX1_init_1 19 rfl rfl)
theorem dX1_init_44 : decode cX1_init 44 = .ok (.bipush 30, 2) := dk_16 30 (dk_at dksX1_init_1 20 rfl rfl)
theorem dX1_init_46 : decode cX1_init 46 = .ok (.newarray .int, 2) := dk_188_10 (dk_at dksX1_init_1 22 rfl rfl)
theorem dX1_init_48 : decode cX1_init 48 = .ok (.putfield 27, 3) := dk_181 0 27 (dk_at dksX1_init_2 0 rfl rfl)
theorem dX1_init_51 : decode cX1_init 51 = .ok (.aload_n 0, 1) := dk_42 (dk_at dksX1_init_2 3 rfl rfl)
theorem dX1_init_52 : decode cX1_init 52 = .ok (.bipush 8, 2) := dk_16 8 (dk_at dksX1_init_2 4 rfl rfl)
theorem dX1_init_54 : decode cX1_init 54 = .ok (.newarray .int, 2) := dk_188_10 (dk_at dksX1_init_2 6 rfl rfl)
theorem dX1_init_56 : decode cX1_init 56 = .ok (.putfield 30, 3) := dk_181 0 30 (dk_at dksX1_init_2 8 rfl rfl)
theorem dX1_init_59 : decode cX1_init 59 = .ok (.aload_n 0, 1) := dk_42 (dk_at dksX1_init_2 11 rfl rfl)
theorem dX1_init_60 : decode cX1_init 60 = .ok (.iconst 4, 1) := dk_7 (dk_at dksX1_init_2 12 rfl rfl)
theorem dX1_init_61 : decode cX1_init 61 = .ok (.newarray .int, 2) := dk_188_10 (dk_at dksX1_init_2 13 rfl rfl)
theorem dX1_init_63 : decode cX1_init 63 = .ok (.putfield 33, 3) := dk_181 0 33 (dk_at dksX1_init_2 15 rfl rfl)
theorem dX1_init_66 : decode cX1_init 66 = .ok (.aload_n 0, 1) := dk_42 (dk_at dksX1_init_2 18 rfl rfl)
theorem dX1_init_67 : decode cX1_init 67 = .ok (.sipush 260, 3) := dk_17 1 4 (dk_at dksX1_init_2 19 rfl rfl)
theorem dX1_init_70 : decode cX1_init 70 = .ok (.newarray .int, 2) := dk_188_10 (dk_at dksX1_init_2 22 rfl rfl)
theorem dX1_init_72 : decode cX1_init 72 = .ok (.putfield 36, 3) := dk_181 0 36 (dk_at dksX1_init_3 0 rfl rfl)
theorem dX1_init_75 : decode cX1_init 75 = .ok (.aload_n 0, 1) := dk_42 (dk_at dksX1_init_3 3 rfl rfl)
theorem dX1_init_76 : decode cX1_init 76 = .ok (.bipush 11, 2) := dk_16 11 (dk_at dksX1_init_3 4 rfl rfl)
theorem dX1_init_78 : decode cX1_init 78 = .ok (.newarray .long, 2) := dk_188_11 (dk_at dksX1_init_3 6 rfl rfl)
theorem dX1_init_80 : decode cX1_init 80 = .ok (.putfield 39, 3) := dk_181 0 39 (dk_at dksX1_init_3 8 rfl rfl)
theorem dX1_init_83 : decode cX1_init 83 = .ok (.aload_n 0, 1) := dk_42 (dk_at dksX1_init_3 11 rfl rfl)
theorem dX1_init_84 : decode cX1_init 84 = .ok (.bipush 8, 2) := dk_16 8 (dk_at dksX1_init_3 12 rfl rfl)
theorem dX1_init_86 : decode cX1_init 86 = .ok (.newarray .int, 2) := dk_188_10 (dk_at dksX1_init_3 14 rfl rfl)
theorem dX1_init_88 : decode cX1_init 88 = .ok (.putfield 43, 3) := dk_181 0 43 (dk_at dksX1_init_3 16 rfl rfl)
theorem dX1_init_91 : decode cX1_init 91 = .ok (.return_, 1) := dk_177 (dk_at dksX1_init_3 19 rfl rfl)
abbrev cX1_copies : ByteArray := prog_5_method_2_code
def yX1_copies : MethodName := ⟨RX1, "copies", "(LChairCane$Dinner;)LChairCane$Dinner;"⟩
def dkwX1_copies_4 : List UInt8 := [182, 0, 71, 176]
abbrev dktX1_copies_4 : List UInt8 := dkwX1_copies_4 ++ []
def dkwX1_copies_3 : List UInt8 := [16, 30, 184, 0, 65, 43, 180, 0, 36, 3, 42, 180, 0, 36, 3, 17, 1, 4, 184, 0, 65, 42, 43]
abbrev dktX1_copies_3 : List UInt8 := dkwX1_copies_3 ++ dktX1_copies_4
def dkwX1_copies_2 : List UInt8 := [43, 180, 0, 9, 3, 42, 180, 0, 9, 3, 7, 184, 0, 65, 43, 180, 0, 27, 3, 42, 180, 0, 27, 3]
abbrev dktX1_copies_2 : List UInt8 := dkwX1_copies_2 ++ dktX1_copies_3
def dkwX1_copies_1 : List UInt8 := [42, 43, 180, 0, 56, 181, 0, 56, 42, 43, 180, 0, 59, 181, 0, 59, 42, 43, 180, 0, 62, 181, 0, 62]
abbrev dktX1_copies_1 : List UInt8 := dkwX1_copies_1 ++ dktX1_copies_2
def dkwX1_copies_0 : List UInt8 := [42, 43, 180, 0, 46, 181, 0, 46, 42, 43, 180, 0, 50, 181, 0, 50, 42, 43, 180, 0, 53, 181, 0, 53]
abbrev dktX1_copies_0 : List UInt8 := dkwX1_copies_0 ++ dktX1_copies_1
theorem dksX1_copies_0 : cX1_copies.data.toList.drop 0 = dktX1_copies_0 := by decide +kernel
theorem dksX1_copies_1 : cX1_copies.data.toList.drop 24 = dktX1_copies_1 := dk_seg dksX1_copies_0 24 rfl rfl
theorem dksX1_copies_2 : cX1_copies.data.toList.drop 48 = dktX1_copies_2 := dk_seg dksX1_copies_1 24 rfl rfl
theorem dksX1_copies_3 : cX1_copies.data.toList.drop 72 = dktX1_copies_3 := dk_seg dksX1_copies_2 24 rfl rfl
theorem dksX1_copies_4 : cX1_copies.data.toList.drop 95 = dktX1_copies_4 := dk_seg dksX1_copies_3 23 rfl rfl
theorem dX1_copies_0 : decode cX1_copies 0 = .ok (.aload_n 0, 1) := dk_42 (dk_at dksX1_copies_0 0 rfl rfl)
theorem dX1_copies_1 : decode cX1_copies 1 = .ok (.aload_n 1, 1) := dk_43 (dk_at dksX1_copies_0 1 rfl rfl)
theorem dX1_copies_2 : decode cX1_copies 2 = .ok (.getfield 46, 3) := dk_180 0 46 (dk_at dksX1_copies_0 2 rfl rfl)
theorem dX1_copies_5 : decode cX1_copies 5 = .ok (.putfield 46, 3) := dk_181 0 46 (dk_at dksX1_copies_0 5 rfl rfl)
theorem dX1_copies_8 : decode cX1_copies 8 = .ok (.aload_n 0, 1) := dk_42 (dk_at dksX1_copies_0 8 rfl rfl)
theorem dX1_copies_9 : decode cX1_copies 9 = .ok (.aload_n 1, 1) := dk_43 (dk_at dksX1_copies_0 9 rfl rfl)
theorem dX1_copies_10 : decode cX1_copies 10 = .ok (.getfield 50, 3) := dk_180 0 50 (dk_at dksX1_copies_0 10 rfl rfl)
theorem dX1_copies_13 : decode cX1_copies 13 = .ok (.putfield 50, 3) := dk_181 0 50 (dk_at dksX1_copies_0 13 rfl rfl)
theorem dX1_copies_16 : decode cX1_copies 16 = .ok (.aload_n 0, 1) := dk_42 (dk_at dksX1_copies_0 16 rfl rfl)
theorem dX1_copies_17 : decode cX1_copies 17 = .ok (.aload_n 1, 1) := dk_43 (dk_at dksX1_copies_0 17 rfl rfl)
theorem dX1_copies_18 : decode cX1_copies 18 = .ok (.getfield 53, 3) := dk_180 0 53 (dk_at dksX1_copies_0 18 rfl rfl)
theorem dX1_copies_21 : decode cX1_copies 21 = .ok (.putfield 53, 3) := dk_181 0 53 (dk_at dksX1_copies_0 21 rfl rfl)
theorem dX1_copies_24 : decode cX1_copies 24 = .ok (.aload_n 0, 1) := dk_42 (dk_at dksX1_copies_1 0 rfl rfl)
theorem dX1_copies_25 : decode cX1_copies 25 = .ok (.aload_n 1, 1) := dk_43 (dk_at dksX1_copies_1 1 rfl rfl)
theorem dX1_copies_26 : decode cX1_copies 26 = .ok (.getfield 56, 3) := dk_180 0 56 (dk_at dksX1_copies_1 2 rfl rfl)
theorem dX1_copies_29 : decode cX1_copies 29 = .ok (.putfield 56, 3) := dk_181 0 56 (dk_at dksX1_copies_1 5 rfl rfl)
theorem dX1_copies_32 : decode cX1_copies 32 = .ok (.aload_n 0, 1) := dk_42 (dk_at dksX1_copies_1 8 rfl rfl)
theorem dX1_copies_33 : decode cX1_copies 33 = .ok (.aload_n 1, 1) := dk_43 (dk_at dksX1_copies_1 9 rfl rfl)
theorem dX1_copies_34 : decode cX1_copies 34 = .ok (.getfield 59, 3) := dk_180 0 59 (dk_at dksX1_copies_1 10 rfl rfl)
theorem dX1_copies_37 : decode cX1_copies 37 = .ok (.putfield 59, 3) := dk_181 0 59 (dk_at dksX1_copies_1 13 rfl rfl)
theorem dX1_copies_40 : decode cX1_copies 40 = .ok (.aload_n 0, 1) := dk_42 (dk_at dksX1_copies_1 16 rfl rfl)
theorem dX1_copies_41 : decode cX1_copies 41 = .ok (.aload_n 1, 1) := dk_43 (dk_at dksX1_copies_1 17 rfl rfl)
theorem dX1_copies_42 : decode cX1_copies 42 = .ok (.getfield 62, 3) := dk_180 0 62 (dk_at dksX1_copies_1 18 rfl rfl)
theorem dX1_copies_45 : decode cX1_copies 45 = .ok (.putfield 62, 3) := dk_181 0 62 (dk_at dksX1_copies_1 21 rfl rfl)
theorem dX1_copies_48 : decode cX1_copies 48 = .ok (.aload_n 1, 1) := dk_43 (dk_at dksX1_copies_2 0 rfl rfl)
theorem dX1_copies_49 : decode cX1_copies 49 = .ok (.getfield 9, 3) := dk_180 0 9 (dk_at dksX1_copies_2 1 rfl rfl)
theorem dX1_copies_52 : decode cX1_copies 52 = .ok (.iconst 0, 1) := dk_3 (dk_at dksX1_copies_2 4 rfl rfl)
theorem dX1_copies_53 : decode cX1_copies 53 = .ok (.aload_n 0, 1) := dk_42 (dk_at dksX1_copies_2 5 rfl rfl)
theorem dX1_copies_54 : decode cX1_copies 54 = .ok (.getfield 9, 3) := dk_180 0 9 (dk_at dksX1_copies_2 6 rfl rfl)
theorem dX1_copies_57 : decode cX1_copies 57 = .ok (.iconst 0, 1) := dk_3 (dk_at dksX1_copies_2 9 rfl rfl)
theorem dX1_copies_58 : decode cX1_copies 58 = .ok (.iconst 4, 1) := dk_7 (dk_at dksX1_copies_2 10 rfl rfl)
theorem dX1_copies_59 : decode cX1_copies 59 = .ok (.invokestatic 65, 3) := dk_184 0 65 (dk_at dksX1_copies_2 11 rfl rfl)
theorem dX1_copies_62 : decode cX1_copies 62 = .ok (.aload_n 1, 1) := dk_43 (dk_at dksX1_copies_2 14 rfl rfl)
theorem dX1_copies_63 : decode cX1_copies 63 = .ok (.getfield 27, 3) := dk_180 0 27 (dk_at dksX1_copies_2 15 rfl rfl)
theorem dX1_copies_66 : decode cX1_copies 66 = .ok (.iconst 0, 1) := dk_3 (dk_at dksX1_copies_2 18 rfl rfl)
theorem dX1_copies_67 : decode cX1_copies 67 = .ok (.aload_n 0, 1) := dk_42 (dk_at dksX1_copies_2 19 rfl rfl)
theorem dX1_copies_68 : decode cX1_copies 68 = .ok (.getfield 27, 3) := dk_180 0 27 (dk_at dksX1_copies_2 20 rfl rfl)
theorem dX1_copies_71 : decode cX1_copies 71 = .ok (.iconst 0, 1) := dk_3 (dk_at dksX1_copies_2 23 rfl rfl)
theorem dX1_copies_72 : decode cX1_copies 72 = .ok (.bipush 30, 2) := dk_16 30 (dk_at dksX1_copies_3 0 rfl rfl)
theorem dX1_copies_74 : decode cX1_copies 74 = .ok (.invokestatic 65, 3) := dk_184 0 65 (dk_at dksX1_copies_3 2 rfl rfl)
theorem dX1_copies_77 : decode cX1_copies 77 = .ok (.aload_n 1, 1) := dk_43 (dk_at dksX1_copies_3 5 rfl rfl)
theorem dX1_copies_78 : decode cX1_copies 78 = .ok (.getfield 36, 3) := dk_180 0 36 (dk_at dksX1_copies_3 6 rfl rfl)
theorem dX1_copies_81 : decode cX1_copies 81 = .ok (.iconst 0, 1) := dk_3 (dk_at dksX1_copies_3 9 rfl rfl)
theorem dX1_copies_82 : decode cX1_copies 82 = .ok (.aload_n 0, 1) := dk_42 (dk_at dksX1_copies_3 10 rfl rfl)
theorem dX1_copies_83 : decode cX1_copies 83 = .ok (.getfield 36, 3) := dk_180 0 36 (dk_at dksX1_copies_3 11 rfl rfl)
theorem dX1_copies_86 : decode cX1_copies 86 = .ok (.iconst 0, 1) := dk_3 (dk_at dksX1_copies_3 14 rfl rfl)
theorem dX1_copies_87 : decode cX1_copies 87 = .ok (.sipush 260, 3) := dk_17 1 4 (dk_at dksX1_copies_3 15 rfl rfl)
theorem dX1_copies_90 : decode cX1_copies 90 = .ok (.invokestatic 65, 3) := dk_184 0 65 (dk_at dksX1_copies_3 18 rfl rfl)
theorem dX1_copies_93 : decode cX1_copies 93 = .ok (.aload_n 0, 1) := dk_42 (dk_at dksX1_copies_3 21 rfl rfl)
theorem dX1_copies_94 : decode cX1_copies 94 = .ok (.aload_n 1, 1) := dk_43 (dk_at dksX1_copies_3 22 rfl rfl)
theorem dX1_copies_95 : decode cX1_copies 95 = .ok (.invokevirtual 71, 3) := dk_182 0 71 (dk_at dksX1_copies_4 0 rfl rfl)
theorem dX1_copies_98 : decode cX1_copies 98 = .ok (.areturn, 1) := dk_176 (dk_at dksX1_copies_4 3 rfl rfl)
abbrev cX1_standsAs : ByteArray := prog_5_method_3_code
def yX1_standsAs : MethodName := ⟨RX1, "standsAs", "(LChairCane$Dinner;)LChairCane$Dinner;"⟩
def dkwX1_standsAs_5 : List UInt8 := [184, 0, 65, 42, 176]
abbrev dktX1_standsAs_5 : List UInt8 := dkwX1_standsAs_5 ++ []
def dkwX1_standsAs_4 : List UInt8 := [3, 42, 180, 0, 30, 3, 16, 8, 184, 0, 65, 43, 180, 0, 33, 3, 42, 180, 0, 33, 3, 7]
abbrev dktX1_standsAs_4 : List UInt8 := dkwX1_standsAs_4 ++ dktX1_standsAs_5
def dkwX1_standsAs_3 : List UInt8 := [16, 8, 184, 0, 65, 43, 180, 0, 24, 3, 42, 180, 0, 24, 3, 16, 8, 184, 0, 65, 43, 180, 0, 30]
abbrev dktX1_standsAs_3 : List UInt8 := dkwX1_standsAs_3 ++ dktX1_standsAs_4
def dkwX1_standsAs_2 : List UInt8 := [180, 0, 18, 3, 42, 180, 0, 18, 3, 16, 8, 184, 0, 65, 43, 180, 0, 21, 3, 42, 180, 0, 21, 3]
abbrev dktX1_standsAs_2 : List UInt8 := dkwX1_standsAs_2 ++ dktX1_standsAs_3
def dkwX1_standsAs_1 : List UInt8 := [132, 2, 1, 167, 255, 240, 43, 180, 0, 15, 3, 42, 180, 0, 15, 3, 16, 8, 184, 0, 65, 43]
abbrev dktX1_standsAs_1 : List UInt8 := dkwX1_standsAs_1 ++ dktX1_standsAs_2
def dkwX1_standsAs_0 : List UInt8 := [42, 43, 180, 0, 75, 181, 0, 75, 3, 61, 28, 16, 8, 162, 0, 16, 42, 180, 0, 43, 28, 2, 79]
abbrev dktX1_standsAs_0 : List UInt8 := dkwX1_standsAs_0 ++ dktX1_standsAs_1
theorem dksX1_standsAs_0 : cX1_standsAs.data.toList.drop 0 = dktX1_standsAs_0 := by decide +kernel
theorem dksX1_standsAs_1 : cX1_standsAs.data.toList.drop 23 = dktX1_standsAs_1 := dk_seg dksX1_standsAs_0 23 rfl rfl
theorem dksX1_standsAs_2 : cX1_standsAs.data.toList.drop 45 = dktX1_standsAs_2 := dk_seg dksX1_standsAs_1 22 rfl rfl
theorem dksX1_standsAs_3 : cX1_standsAs.data.toList.drop 69 = dktX1_standsAs_3 := dk_seg dksX1_standsAs_2 24 rfl rfl
theorem dksX1_standsAs_4 : cX1_standsAs.data.toList.drop 93 = dktX1_standsAs_4 := dk_seg dksX1_standsAs_3 24 rfl rfl
theorem dksX1_standsAs_5 : cX1_standsAs.data.toList.drop 115 = dktX1_standsAs_5 := dk_seg dksX1_standsAs_4 22 rfl rfl
theorem dX1_standsAs_0 : decode cX1_standsAs 0 = .ok (.aload_n 0, 1) := dk_42 (dk_at dksX1_standsAs_0 0 rfl rfl)
theorem dX1_standsAs_1 : decode cX1_standsAs 1 = .ok (.aload_n 1, 1) := dk_43 (dk_at dksX1_standsAs_0 1 rfl rfl)
theorem dX1_standsAs_2 : decode cX1_standsAs 2 = .ok (.getfield 75, 3) := dk_180 0 75 (dk_at dksX1_standsAs_0 2 rfl rfl)
theorem dX1_standsAs_5 : decode cX1_standsAs 5 = .ok (.putfield 75, 3) := dk_181 0 75 (dk_at dksX1_standsAs_0 5 rfl rfl)
theorem dX1_standsAs_8 : decode cX1_standsAs 8 = .ok (.iconst 0, 1) := dk_3 (dk_at dksX1_standsAs_0 8 rfl rfl)
theorem dX1_standsAs_9 : decode cX1_standsAs 9 = .ok (.istore_n 2, 1) := dk_61 (dk_at dksX1_standsAs_0 9 rfl rfl)
theorem dX1_standsAs_10 : decode cX1_standsAs 10 = .ok (.iload_n 2, 1) := dk_28 (dk_at dksX1_standsAs_0 10 rfl rfl)
theorem dX1_standsAs_11 : decode cX1_standsAs 11 = .ok (.bipush 8, 2) := dk_16 8 (dk_at dksX1_standsAs_0 11 rfl rfl)
theorem dX1_standsAs_13 : decode cX1_standsAs 13 = .ok (.if_icmp .ge 16, 3) := dk_162 0 16 (dk_at dksX1_standsAs_0 13 rfl rfl)
theorem dX1_standsAs_16 : decode cX1_standsAs 16 = .ok (.aload_n 0, 1) := dk_42 (dk_at dksX1_standsAs_0 16 rfl rfl)
theorem dX1_standsAs_17 : decode cX1_standsAs 17 = .ok (.getfield 43, 3) := dk_180 0 43 (dk_at dksX1_standsAs_0 17 rfl rfl)
theorem dX1_standsAs_20 : decode cX1_standsAs 20 = .ok (.iload_n 2, 1) := dk_28 (dk_at dksX1_standsAs_0 20 rfl rfl)
theorem dX1_standsAs_21 : decode cX1_standsAs 21 = .ok (.iconst (-1), 1) := dk_2 (dk_at dksX1_standsAs_0 21 rfl rfl)
theorem dX1_standsAs_22 : decode cX1_standsAs 22 = .ok (.iastore, 1) := dk_79 (dk_at dksX1_standsAs_0 22 rfl rfl)
theorem dX1_standsAs_23 : decode cX1_standsAs 23 = .ok (.iinc 2 1, 3) := dk_132 2 1 (dk_at dksX1_standsAs_1 0 rfl rfl)
theorem dX1_standsAs_26 : decode cX1_standsAs 26 = .ok (.goto (-16), 3) := dk_167 255 240 (dk_at dksX1_standsAs_1 3 rfl rfl)
theorem dX1_standsAs_29 : decode cX1_standsAs 29 = .ok (.aload_n 1, 1) := dk_43 (dk_at dksX1_standsAs_1 6 rfl rfl)
theorem dX1_standsAs_30 : decode cX1_standsAs 30 = .ok (.getfield 15, 3) := dk_180 0 15 (dk_at dksX1_standsAs_1 7 rfl rfl)
theorem dX1_standsAs_33 : decode cX1_standsAs 33 = .ok (.iconst 0, 1) := dk_3 (dk_at dksX1_standsAs_1 10 rfl rfl)
theorem dX1_standsAs_34 : decode cX1_standsAs 34 = .ok (.aload_n 0, 1) := dk_42 (dk_at dksX1_standsAs_1 11 rfl rfl)
theorem dX1_standsAs_35 : decode cX1_standsAs 35 = .ok (.getfield 15, 3) := dk_180 0 15 (dk_at dksX1_standsAs_1 12 rfl rfl)
theorem dX1_standsAs_38 : decode cX1_standsAs 38 = .ok (.iconst 0, 1) := dk_3 (dk_at dksX1_standsAs_1 15 rfl rfl)
theorem dX1_standsAs_39 : decode cX1_standsAs 39 = .ok (.bipush 8, 2) := dk_16 8 (dk_at dksX1_standsAs_1 16 rfl rfl)
theorem dX1_standsAs_41 : decode cX1_standsAs 41 = .ok (.invokestatic 65, 3) := dk_184 0 65 (dk_at dksX1_standsAs_1 18 rfl rfl)
theorem dX1_standsAs_44 : decode cX1_standsAs 44 = .ok (.aload_n 1, 1) := dk_43 (dk_at dksX1_standsAs_1 21 rfl rfl)
theorem dX1_standsAs_45 : decode cX1_standsAs 45 = .ok (.getfield 18, 3) := dk_180 0 18 (dk_at dksX1_standsAs_2 0 rfl rfl)
theorem dX1_standsAs_48 : decode cX1_standsAs 48 = .ok (.iconst 0, 1) := dk_3 (dk_at dksX1_standsAs_2 3 rfl rfl)
theorem dX1_standsAs_49 : decode cX1_standsAs 49 = .ok (.aload_n 0, 1) := dk_42 (dk_at dksX1_standsAs_2 4 rfl rfl)
theorem dX1_standsAs_50 : decode cX1_standsAs 50 = .ok (.getfield 18, 3) := dk_180 0 18 (dk_at dksX1_standsAs_2 5 rfl rfl)
theorem dX1_standsAs_53 : decode cX1_standsAs 53 = .ok (.iconst 0, 1) := dk_3 (dk_at dksX1_standsAs_2 8 rfl rfl)
theorem dX1_standsAs_54 : decode cX1_standsAs 54 = .ok (.bipush 8, 2) := dk_16 8 (dk_at dksX1_standsAs_2 9 rfl rfl)
theorem dX1_standsAs_56 : decode cX1_standsAs 56 = .ok (.invokestatic 65, 3) := dk_184 0 65 (dk_at dksX1_standsAs_2 11 rfl rfl)
theorem dX1_standsAs_59 : decode cX1_standsAs 59 = .ok (.aload_n 1, 1) := dk_43 (dk_at dksX1_standsAs_2 14 rfl rfl)
theorem dX1_standsAs_60 : decode cX1_standsAs 60 = .ok (.getfield 21, 3) := dk_180 0 21 (dk_at dksX1_standsAs_2 15 rfl rfl)
theorem dX1_standsAs_63 : decode cX1_standsAs 63 = .ok (.iconst 0, 1) := dk_3 (dk_at dksX1_standsAs_2 18 rfl rfl)
theorem dX1_standsAs_64 : decode cX1_standsAs 64 = .ok (.aload_n 0, 1) := dk_42 (dk_at dksX1_standsAs_2 19 rfl rfl)
theorem dX1_standsAs_65 : decode cX1_standsAs 65 = .ok (.getfield 21, 3) := dk_180 0 21 (dk_at dksX1_standsAs_2 20 rfl rfl)
theorem dX1_standsAs_68 : decode cX1_standsAs 68 = .ok (.iconst 0, 1) := dk_3 (dk_at dksX1_standsAs_2 23 rfl rfl)
theorem dX1_standsAs_69 : decode cX1_standsAs 69 = .ok (.bipush 8, 2) := dk_16 8 (dk_at dksX1_standsAs_3 0 rfl rfl)
theorem dX1_standsAs_71 : decode cX1_standsAs 71 = .ok (.invokestatic 65, 3) := dk_184 0 65 (dk_at dksX1_standsAs_3 2 rfl rfl)
theorem dX1_standsAs_74 : decode cX1_standsAs 74 = .ok (.aload_n 1, 1) := dk_43 (dk_at dksX1_standsAs_3 5 rfl rfl)
theorem dX1_standsAs_75 : decode cX1_standsAs 75 = .ok (.getfield 24, 3) := dk_180 0 24 (dk_at dksX1_standsAs_3 6 rfl rfl)
theorem dX1_standsAs_78 : decode cX1_standsAs 78 = .ok (.iconst 0, 1) := dk_3 (dk_at dksX1_standsAs_3 9 rfl rfl)
theorem dX1_standsAs_79 : decode cX1_standsAs 79 = .ok (.aload_n 0, 1) := dk_42 (dk_at dksX1_standsAs_3 10 rfl rfl)
theorem dX1_standsAs_80 : decode cX1_standsAs 80 = .ok (.getfield 24, 3) := dk_180 0 24 (dk_at dksX1_standsAs_3 11 rfl rfl)
theorem dX1_standsAs_83 : decode cX1_standsAs 83 = .ok (.iconst 0, 1) := dk_3 (dk_at dksX1_standsAs_3 14 rfl rfl)
theorem dX1_standsAs_84 : decode cX1_standsAs 84 = .ok (.bipush 8, 2) := dk_16 8 (dk_at dksX1_standsAs_3 15 rfl rfl)
theorem dX1_standsAs_86 : decode cX1_standsAs 86 = .ok (.invokestatic 65, 3) := dk_184 0 65 (dk_at dksX1_standsAs_3 17 rfl rfl)
theorem dX1_standsAs_89 : decode cX1_standsAs 89 = .ok (.aload_n 1, 1) := dk_43 (dk_at dksX1_standsAs_3 20 rfl rfl)
theorem dX1_standsAs_90 : decode cX1_standsAs 90 = .ok (.getfield 30, 3) := dk_180 0 30 (dk_at dksX1_standsAs_3 21 rfl rfl)
theorem dX1_standsAs_93 : decode cX1_standsAs 93 = .ok (.iconst 0, 1) := dk_3 (dk_at dksX1_standsAs_4 0 rfl rfl)
theorem dX1_standsAs_94 : decode cX1_standsAs 94 = .ok (.aload_n 0, 1) := dk_42 (dk_at dksX1_standsAs_4 1 rfl rfl)
theorem dX1_standsAs_95 : decode cX1_standsAs 95 = .ok (.getfield 30, 3) := dk_180 0 30 (dk_at dksX1_standsAs_4 2 rfl rfl)
theorem dX1_standsAs_98 : decode cX1_standsAs 98 = .ok (.iconst 0, 1) := dk_3 (dk_at dksX1_standsAs_4 5 rfl rfl)
theorem dX1_standsAs_99 : decode cX1_standsAs 99 = .ok (.bipush 8, 2) := dk_16 8 (dk_at dksX1_standsAs_4 6 rfl rfl)
theorem dX1_standsAs_101 : decode cX1_standsAs 101 = .ok (.invokestatic 65, 3) := dk_184 0 65 (dk_at dksX1_standsAs_4 8 rfl rfl)
theorem dX1_standsAs_104 : decode cX1_standsAs 104 = .ok (.aload_n 1, 1) := dk_43 (dk_at dksX1_standsAs_4 11 rfl rfl)
theorem dX1_standsAs_105 : decode cX1_standsAs 105 = .ok (.getfield 33, 3) := dk_180 0 33 (dk_at dksX1_standsAs_4 12 rfl rfl)
theorem dX1_standsAs_108 : decode cX1_standsAs 108 = .ok (.iconst 0, 1) := dk_3 (dk_at dksX1_standsAs_4 15 rfl rfl)
theorem dX1_standsAs_109 : decode cX1_standsAs 109 = .ok (.aload_n 0, 1) := dk_42 (dk_at dksX1_standsAs_4 16 rfl rfl)
theorem dX1_standsAs_110 : decode cX1_standsAs 110 = .ok (.getfield 33, 3) := dk_180 0 33 (dk_at dksX1_standsAs_4 17 rfl rfl)
theorem dX1_standsAs_113 : decode cX1_standsAs 113 = .ok (.iconst 0, 1) := dk_3 (dk_at dksX1_standsAs_4 20 rfl rfl)
theorem dX1_standsAs_114 : decode cX1_standsAs 114 = .ok (.iconst 4, 1) := dk_7 (dk_at dksX1_standsAs_4 21 rfl rfl)
theorem dX1_standsAs_115 : decode cX1_standsAs 115 = .ok (.invokestatic 65, 3) := dk_184 0 65 (dk_at dksX1_standsAs_5 0 rfl rfl)
theorem dX1_standsAs_118 : decode cX1_standsAs 118 = .ok (.aload_n 0, 1) := dk_42 (dk_at dksX1_standsAs_5 3 rfl rfl)
theorem dX1_standsAs_119 : decode cX1_standsAs 119 = .ok (.areturn, 1) := dk_176 (dk_at dksX1_standsAs_5 4 rfl rfl)
abbrev cX1_sitterOf : ByteArray := prog_5_method_8_code
def yX1_sitterOf : MethodName := ⟨RX1, "sitterOf", "(I)I"⟩
def dkwX1_sitterOf_1 : List UInt8 := [132, 2, 1, 167, 255, 233, 2, 172]
abbrev dktX1_sitterOf_1 : List UInt8 := dkwX1_sitterOf_1 ++ []
def dkwX1_sitterOf_0 : List UInt8 := [3, 61, 28, 42, 180, 0, 53, 162, 0, 21, 42, 180, 0, 21, 28, 46, 27, 160, 0, 5, 28, 172]
abbrev dktX1_sitterOf_0 : List UInt8 := dkwX1_sitterOf_0 ++ dktX1_sitterOf_1
theorem dksX1_sitterOf_0 : cX1_sitterOf.data.toList.drop 0 = dktX1_sitterOf_0 := by decide +kernel
theorem dksX1_sitterOf_1 : cX1_sitterOf.data.toList.drop 22 = dktX1_sitterOf_1 := dk_seg dksX1_sitterOf_0 22 rfl rfl
theorem dX1_sitterOf_0 : decode cX1_sitterOf 0 = .ok (.iconst 0, 1) := dk_3 (dk_at dksX1_sitterOf_0 0 rfl rfl)
theorem dX1_sitterOf_1 : decode cX1_sitterOf 1 = .ok (.istore_n 2, 1) := dk_61 (dk_at dksX1_sitterOf_0 1 rfl rfl)
theorem dX1_sitterOf_2 : decode cX1_sitterOf 2 = .ok (.iload_n 2, 1) := dk_28 (dk_at dksX1_sitterOf_0 2 rfl rfl)
theorem dX1_sitterOf_3 : decode cX1_sitterOf 3 = .ok (.aload_n 0, 1) := dk_42 (dk_at dksX1_sitterOf_0 3 rfl rfl)
theorem dX1_sitterOf_4 : decode cX1_sitterOf 4 = .ok (.getfield 53, 3) := dk_180 0 53 (dk_at dksX1_sitterOf_0 4 rfl rfl)
theorem dX1_sitterOf_7 : decode cX1_sitterOf 7 = .ok (.if_icmp .ge 21, 3) := dk_162 0 21 (dk_at dksX1_sitterOf_0 7 rfl rfl)
theorem dX1_sitterOf_10 : decode cX1_sitterOf 10 = .ok (.aload_n 0, 1) := dk_42 (dk_at dksX1_sitterOf_0 10 rfl rfl)
theorem dX1_sitterOf_11 : decode cX1_sitterOf 11 = .ok (.getfield 21, 3) := dk_180 0 21 (dk_at dksX1_sitterOf_0 11 rfl rfl)
theorem dX1_sitterOf_14 : decode cX1_sitterOf 14 = .ok (.iload_n 2, 1) := dk_28 (dk_at dksX1_sitterOf_0 14 rfl rfl)
theorem dX1_sitterOf_15 : decode cX1_sitterOf 15 = .ok (.iaload, 1) := dk_46 (dk_at dksX1_sitterOf_0 15 rfl rfl)
theorem dX1_sitterOf_16 : decode cX1_sitterOf 16 = .ok (.iload_n 1, 1) := dk_27 (dk_at dksX1_sitterOf_0 16 rfl rfl)
theorem dX1_sitterOf_17 : decode cX1_sitterOf 17 = .ok (.if_icmp .ne 5, 3) := dk_160 0 5 (dk_at dksX1_sitterOf_0 17 rfl rfl)
theorem dX1_sitterOf_20 : decode cX1_sitterOf 20 = .ok (.iload_n 2, 1) := dk_28 (dk_at dksX1_sitterOf_0 20 rfl rfl)
theorem dX1_sitterOf_21 : decode cX1_sitterOf 21 = .ok (.ireturn, 1) := dk_172 (dk_at dksX1_sitterOf_0 21 rfl rfl)
theorem dX1_sitterOf_22 : decode cX1_sitterOf 22 = .ok (.iinc 2 1, 3) := dk_132 2 1 (dk_at dksX1_sitterOf_1 0 rfl rfl)
theorem dX1_sitterOf_25 : decode cX1_sitterOf 25 = .ok (.goto (-23), 3) := dk_167 255 233 (dk_at dksX1_sitterOf_1 3 rfl rfl)
theorem dX1_sitterOf_28 : decode cX1_sitterOf 28 = .ok (.iconst (-1), 1) := dk_2 (dk_at dksX1_sitterOf_1 6 rfl rfl)
theorem dX1_sitterOf_29 : decode cX1_sitterOf 29 = .ok (.ireturn, 1) := dk_172 (dk_at dksX1_sitterOf_1 7 rfl rfl)
abbrev cX1_begins : ByteArray := prog_5_method_6_code
def yX1_begins : MethodName := ⟨RX1, "begins", "()V"⟩
def dkwX1_begins_1 : List UInt8 := [167, 255, 240, 42, 180, 0, 9, 3, 42, 180, 0, 33, 3, 7, 184, 0, 65, 177]
abbrev dktX1_begins_1 : List UInt8 := dkwX1_begins_1 ++ []
def dkwX1_begins_0 : List UInt8 := [42, 3, 181, 0, 75, 3, 60, 27, 16, 8, 162, 0, 16, 42, 180, 0, 30, 27, 3, 79, 132, 1, 1]
abbrev dktX1_begins_0 : List UInt8 := dkwX1_begins_0 ++ dktX1_begins_1
theorem dksX1_begins_0 : cX1_begins.data.toList.drop 0 = dktX1_begins_0 := by decide +kernel
theorem dksX1_begins_1 : cX1_begins.data.toList.drop 23 = dktX1_begins_1 := dk_seg dksX1_begins_0 23 rfl rfl
theorem dX1_begins_0 : decode cX1_begins 0 = .ok (.aload_n 0, 1) := dk_42 (dk_at dksX1_begins_0 0 rfl rfl)
theorem dX1_begins_1 : decode cX1_begins 1 = .ok (.iconst 0, 1) := dk_3 (dk_at dksX1_begins_0 1 rfl rfl)
theorem dX1_begins_2 : decode cX1_begins 2 = .ok (.putfield 75, 3) := dk_181 0 75 (dk_at dksX1_begins_0 2 rfl rfl)
theorem dX1_begins_5 : decode cX1_begins 5 = .ok (.iconst 0, 1) := dk_3 (dk_at dksX1_begins_0 5 rfl rfl)
theorem dX1_begins_6 : decode cX1_begins 6 = .ok (.istore_n 1, 1) := dk_60 (dk_at dksX1_begins_0 6 rfl rfl)
theorem dX1_begins_7 : decode cX1_begins 7 = .ok (.iload_n 1, 1) := dk_27 (dk_at dksX1_begins_0 7 rfl rfl)
theorem dX1_begins_8 : decode cX1_begins 8 = .ok (.bipush 8, 2) := dk_16 8 (dk_at dksX1_begins_0 8 rfl rfl)
theorem dX1_begins_10 : decode cX1_begins 10 = .ok (.if_icmp .ge 16, 3) := dk_162 0 16 (dk_at dksX1_begins_0 10 rfl rfl)
theorem dX1_begins_13 : decode cX1_begins 13 = .ok (.aload_n 0, 1) := dk_42 (dk_at dksX1_begins_0 13 rfl rfl)
theorem dX1_begins_14 : decode cX1_begins 14 = .ok (.getfield 30, 3) := dk_180 0 30 (dk_at dksX1_begins_0 14 rfl rfl)
theorem dX1_begins_17 : decode cX1_begins 17 = .ok (.iload_n 1, 1) := dk_27 (dk_at dksX1_begins_0 17 rfl rfl)
theorem dX1_begins_18 : decode cX1_begins 18 = .ok (.iconst 0, 1) := dk_3 (dk_at dksX1_begins_0 18 rfl rfl)
theorem dX1_begins_19 : decode cX1_begins 19 = .ok (.iastore, 1) := dk_79 (dk_at dksX1_begins_0 19 rfl rfl)
theorem dX1_begins_20 : decode cX1_begins 20 = .ok (.iinc 1 1, 3) := dk_132 1 1 (dk_at dksX1_begins_0 20 rfl rfl)
theorem dX1_begins_23 : decode cX1_begins 23 = .ok (.goto (-16), 3) := dk_167 255 240 (dk_at dksX1_begins_1 0 rfl rfl)
theorem dX1_begins_26 : decode cX1_begins 26 = .ok (.aload_n 0, 1) := dk_42 (dk_at dksX1_begins_1 3 rfl rfl)
theorem dX1_begins_27 : decode cX1_begins 27 = .ok (.getfield 9, 3) := dk_180 0 9 (dk_at dksX1_begins_1 4 rfl rfl)
theorem dX1_begins_30 : decode cX1_begins 30 = .ok (.iconst 0, 1) := dk_3 (dk_at dksX1_begins_1 7 rfl rfl)
theorem dX1_begins_31 : decode cX1_begins 31 = .ok (.aload_n 0, 1) := dk_42 (dk_at dksX1_begins_1 8 rfl rfl)
theorem dX1_begins_32 : decode cX1_begins 32 = .ok (.getfield 33, 3) := dk_180 0 33 (dk_at dksX1_begins_1 9 rfl rfl)
theorem dX1_begins_35 : decode cX1_begins 35 = .ok (.iconst 0, 1) := dk_3 (dk_at dksX1_begins_1 12 rfl rfl)
theorem dX1_begins_36 : decode cX1_begins 36 = .ok (.iconst 4, 1) := dk_7 (dk_at dksX1_begins_1 13 rfl rfl)
theorem dX1_begins_37 : decode cX1_begins 37 = .ok (.invokestatic 65, 3) := dk_184 0 65 (dk_at dksX1_begins_1 14 rfl rfl)
theorem dX1_begins_40 : decode cX1_begins 40 = .ok (.return_, 1) := dk_177 (dk_at dksX1_begins_1 17 rfl rfl)
abbrev cX1_givesNow : ByteArray := prog_5_method_12_code
def yX1_givesNow : MethodName := ⟨RX1, "givesNow", "(I)I"⟩
def dkwX1_givesNow_0 : List UInt8 := [42, 27, 42, 4, 182, 0, 90, 182, 0, 93, 172]
abbrev dktX1_givesNow_0 : List UInt8 := dkwX1_givesNow_0 ++ []
theorem dksX1_givesNow_0 : cX1_givesNow.data.toList.drop 0 = dktX1_givesNow_0 := by decide +kernel
theorem dX1_givesNow_0 : decode cX1_givesNow 0 = .ok (.aload_n 0, 1) := dk_42 (dk_at dksX1_givesNow_0 0 rfl rfl)
theorem dX1_givesNow_1 : decode cX1_givesNow 1 = .ok (.iload_n 1, 1) := dk_27 (dk_at dksX1_givesNow_0 1 rfl rfl)
theorem dX1_givesNow_2 : decode cX1_givesNow 2 = .ok (.aload_n 0, 1) := dk_42 (dk_at dksX1_givesNow_0 2 rfl rfl)
theorem dX1_givesNow_3 : decode cX1_givesNow 3 = .ok (.iconst 1, 1) := dk_4 (dk_at dksX1_givesNow_0 3 rfl rfl)
theorem dX1_givesNow_4 : decode cX1_givesNow 4 = .ok (.invokevirtual 90, 3) := dk_182 0 90 (dk_at dksX1_givesNow_0 4 rfl rfl)
theorem dX1_givesNow_7 : decode cX1_givesNow 7 = .ok (.invokevirtual 93, 3) := dk_182 0 93 (dk_at dksX1_givesNow_0 7 rfl rfl)
theorem dX1_givesNow_10 : decode cX1_givesNow 10 = .ok (.ireturn, 1) := dk_172 (dk_at dksX1_givesNow_0 10 rfl rfl)
abbrev cX1_onesThat : ByteArray := prog_5_method_7_code
def yX1_onesThat : MethodName := ⟨RX1, "onesThat", "(I)I"⟩
def dkwX1_onesThat_1 : List UInt8 := [29, 120, 167, 0, 4, 3, 128, 61, 132, 3, 1, 167, 255, 225, 28, 172]
abbrev dktX1_onesThat_1 : List UInt8 := dkwX1_onesThat_1 ++ []
def dkwX1_onesThat_0 : List UInt8 := [3, 61, 3, 62, 29, 42, 180, 0, 53, 162, 0, 29, 28, 42, 180, 0, 30, 29, 46, 27, 160, 0, 9, 4]
abbrev dktX1_onesThat_0 : List UInt8 := dkwX1_onesThat_0 ++ dktX1_onesThat_1
theorem dksX1_onesThat_0 : cX1_onesThat.data.toList.drop 0 = dktX1_onesThat_0 := by decide +kernel
theorem dksX1_onesThat_1 : cX1_onesThat.data.toList.drop 24 = dktX1_onesThat_1 := dk_seg dksX1_onesThat_0 24 rfl rfl
theorem dX1_onesThat_0 : decode cX1_onesThat 0 = .ok (.iconst 0, 1) := dk_3 (dk_at dksX1_onesThat_0 0 rfl rfl)
theorem dX1_onesThat_1 : decode cX1_onesThat 1 = .ok (.istore_n 2, 1) := dk_61 (dk_at dksX1_onesThat_0 1 rfl rfl)
theorem dX1_onesThat_2 : decode cX1_onesThat 2 = .ok (.iconst 0, 1) := dk_3 (dk_at dksX1_onesThat_0 2 rfl rfl)
theorem dX1_onesThat_3 : decode cX1_onesThat 3 = .ok (.istore_n 3, 1) := dk_62 (dk_at dksX1_onesThat_0 3 rfl rfl)
theorem dX1_onesThat_4 : decode cX1_onesThat 4 = .ok (.iload_n 3, 1) := dk_29 (dk_at dksX1_onesThat_0 4 rfl rfl)
theorem dX1_onesThat_5 : decode cX1_onesThat 5 = .ok (.aload_n 0, 1) := dk_42 (dk_at dksX1_onesThat_0 5 rfl rfl)
theorem dX1_onesThat_6 : decode cX1_onesThat 6 = .ok (.getfield 53, 3) := dk_180 0 53 (dk_at dksX1_onesThat_0 6 rfl rfl)
theorem dX1_onesThat_9 : decode cX1_onesThat 9 = .ok (.if_icmp .ge 29, 3) := dk_162 0 29 (dk_at dksX1_onesThat_0 9 rfl rfl)
theorem dX1_onesThat_12 : decode cX1_onesThat 12 = .ok (.iload_n 2, 1) := dk_28 (dk_at dksX1_onesThat_0 12 rfl rfl)
theorem dX1_onesThat_13 : decode cX1_onesThat 13 = .ok (.aload_n 0, 1) := dk_42 (dk_at dksX1_onesThat_0 13 rfl rfl)
theorem dX1_onesThat_14 : decode cX1_onesThat 14 = .ok (.getfield 30, 3) := dk_180 0 30 (dk_at dksX1_onesThat_0 14 rfl rfl)
theorem dX1_onesThat_17 : decode cX1_onesThat 17 = .ok (.iload_n 3, 1) := dk_29 (dk_at dksX1_onesThat_0 17 rfl rfl)
theorem dX1_onesThat_18 : decode cX1_onesThat 18 = .ok (.iaload, 1) := dk_46 (dk_at dksX1_onesThat_0 18 rfl rfl)
theorem dX1_onesThat_19 : decode cX1_onesThat 19 = .ok (.iload_n 1, 1) := dk_27 (dk_at dksX1_onesThat_0 19 rfl rfl)
theorem dX1_onesThat_20 : decode cX1_onesThat 20 = .ok (.if_icmp .ne 9, 3) := dk_160 0 9 (dk_at dksX1_onesThat_0 20 rfl rfl)
theorem dX1_onesThat_23 : decode cX1_onesThat 23 = .ok (.iconst 1, 1) := dk_4 (dk_at dksX1_onesThat_0 23 rfl rfl)
theorem dX1_onesThat_24 : decode cX1_onesThat 24 = .ok (.iload_n 3, 1) := dk_29 (dk_at dksX1_onesThat_1 0 rfl rfl)
theorem dX1_onesThat_25 : decode cX1_onesThat 25 = .ok (.ishl, 1) := dk_120 (dk_at dksX1_onesThat_1 1 rfl rfl)
theorem dX1_onesThat_26 : decode cX1_onesThat 26 = .ok (.goto 4, 3) := dk_167 0 4 (dk_at dksX1_onesThat_1 2 rfl rfl)
theorem dX1_onesThat_29 : decode cX1_onesThat 29 = .ok (.iconst 0, 1) := dk_3 (dk_at dksX1_onesThat_1 5 rfl rfl)
theorem dX1_onesThat_30 : decode cX1_onesThat 30 = .ok (.ior, 1) := dk_128 (dk_at dksX1_onesThat_1 6 rfl rfl)
theorem dX1_onesThat_31 : decode cX1_onesThat 31 = .ok (.istore_n 2, 1) := dk_61 (dk_at dksX1_onesThat_1 7 rfl rfl)
theorem dX1_onesThat_32 : decode cX1_onesThat 32 = .ok (.iinc 3 1, 3) := dk_132 3 1 (dk_at dksX1_onesThat_1 8 rfl rfl)
theorem dX1_onesThat_35 : decode cX1_onesThat 35 = .ok (.goto (-31), 3) := dk_167 255 225 (dk_at dksX1_onesThat_1 11 rfl rfl)
theorem dX1_onesThat_38 : decode cX1_onesThat 38 = .ok (.iload_n 2, 1) := dk_28 (dk_at dksX1_onesThat_1 14 rfl rfl)
theorem dX1_onesThat_39 : decode cX1_onesThat 39 = .ok (.ireturn, 1) := dk_172 (dk_at dksX1_onesThat_1 15 rfl rfl)
abbrev cX1_giveOf : ByteArray := prog_5_method_11_code
def yX1_giveOf : MethodName := ⟨RX1, "giveOf", "(II)I"⟩
def dkwX1_giveOf_1 : List UInt8 := [104, 42, 42, 27, 182, 0, 82, 28, 182, 0, 86, 108, 167, 0, 4, 3, 172]
abbrev dktX1_giveOf_1 : List UInt8 := dkwX1_giveOf_1 ++ []
def dkwX1_giveOf_0 : List UInt8 := [28, 27, 184, 0, 78, 153, 0, 34, 42, 180, 0, 33, 42, 27, 182, 0, 82, 46, 42, 180, 0, 24, 27, 46]
abbrev dktX1_giveOf_0 : List UInt8 := dkwX1_giveOf_0 ++ dktX1_giveOf_1
theorem dksX1_giveOf_0 : cX1_giveOf.data.toList.drop 0 = dktX1_giveOf_0 := by decide +kernel
theorem dksX1_giveOf_1 : cX1_giveOf.data.toList.drop 24 = dktX1_giveOf_1 := dk_seg dksX1_giveOf_0 24 rfl rfl
theorem dX1_giveOf_0 : decode cX1_giveOf 0 = .ok (.iload_n 2, 1) := dk_28 (dk_at dksX1_giveOf_0 0 rfl rfl)
theorem dX1_giveOf_1 : decode cX1_giveOf 1 = .ok (.iload_n 1, 1) := dk_27 (dk_at dksX1_giveOf_0 1 rfl rfl)
theorem dX1_giveOf_2 : decode cX1_giveOf 2 = .ok (.invokestatic 78, 3) := dk_184 0 78 (dk_at dksX1_giveOf_0 2 rfl rfl)
theorem dX1_giveOf_5 : decode cX1_giveOf 5 = .ok (.ifCond .eq 34, 3) := dk_153 0 34 (dk_at dksX1_giveOf_0 5 rfl rfl)
theorem dX1_giveOf_8 : decode cX1_giveOf 8 = .ok (.aload_n 0, 1) := dk_42 (dk_at dksX1_giveOf_0 8 rfl rfl)
theorem dX1_giveOf_9 : decode cX1_giveOf 9 = .ok (.getfield 33, 3) := dk_180 0 33 (dk_at dksX1_giveOf_0 9 rfl rfl)
theorem dX1_giveOf_12 : decode cX1_giveOf 12 = .ok (.aload_n 0, 1) := dk_42 (dk_at dksX1_giveOf_0 12 rfl rfl)
theorem dX1_giveOf_13 : decode cX1_giveOf 13 = .ok (.iload_n 1, 1) := dk_27 (dk_at dksX1_giveOf_0 13 rfl rfl)
theorem dX1_giveOf_14 : decode cX1_giveOf 14 = .ok (.invokevirtual 82, 3) := dk_182 0 82 (dk_at dksX1_giveOf_0 14 rfl rfl)
theorem dX1_giveOf_17 : decode cX1_giveOf 17 = .ok (.iaload, 1) := dk_46 (dk_at dksX1_giveOf_0 17 rfl rfl)
theorem dX1_giveOf_18 : decode cX1_giveOf 18 = .ok (.aload_n 0, 1) := dk_42 (dk_at dksX1_giveOf_0 18 rfl rfl)
theorem dX1_giveOf_19 : decode cX1_giveOf 19 = .ok (.getfield 24, 3) := dk_180 0 24 (dk_at dksX1_giveOf_0 19 rfl rfl)
theorem dX1_giveOf_22 : decode cX1_giveOf 22 = .ok (.iload_n 1, 1) := dk_27 (dk_at dksX1_giveOf_0 22 rfl rfl)
theorem dX1_giveOf_23 : decode cX1_giveOf 23 = .ok (.iaload, 1) := dk_46 (dk_at dksX1_giveOf_0 23 rfl rfl)
theorem dX1_giveOf_24 : decode cX1_giveOf 24 = .ok (.imul, 1) := dk_104 (dk_at dksX1_giveOf_1 0 rfl rfl)
theorem dX1_giveOf_25 : decode cX1_giveOf 25 = .ok (.aload_n 0, 1) := dk_42 (dk_at dksX1_giveOf_1 1 rfl rfl)
theorem dX1_giveOf_26 : decode cX1_giveOf 26 = .ok (.aload_n 0, 1) := dk_42 (dk_at dksX1_giveOf_1 2 rfl rfl)
theorem dX1_giveOf_27 : decode cX1_giveOf 27 = .ok (.iload_n 1, 1) := dk_27 (dk_at dksX1_giveOf_1 3 rfl rfl)
theorem dX1_giveOf_28 : decode cX1_giveOf 28 = .ok (.invokevirtual 82, 3) := dk_182 0 82 (dk_at dksX1_giveOf_1 4 rfl rfl)
theorem dX1_giveOf_31 : decode cX1_giveOf 31 = .ok (.iload_n 2, 1) := dk_28 (dk_at dksX1_giveOf_1 7 rfl rfl)
theorem dX1_giveOf_32 : decode cX1_giveOf 32 = .ok (.invokevirtual 86, 3) := dk_182 0 86 (dk_at dksX1_giveOf_1 8 rfl rfl)
theorem dX1_giveOf_35 : decode cX1_giveOf 35 = .ok (.idiv, 1) := dk_108 (dk_at dksX1_giveOf_1 11 rfl rfl)
theorem dX1_giveOf_36 : decode cX1_giveOf 36 = .ok (.goto 4, 3) := dk_167 0 4 (dk_at dksX1_giveOf_1 12 rfl rfl)
theorem dX1_giveOf_39 : decode cX1_giveOf 39 = .ok (.iconst 0, 1) := dk_3 (dk_at dksX1_giveOf_1 15 rfl rfl)
theorem dX1_giveOf_40 : decode cX1_giveOf 40 = .ok (.ireturn, 1) := dk_172 (dk_at dksX1_giveOf_1 16 rfl rfl)
abbrev cX1_strandOf : ByteArray := prog_5_method_9_code
def yX1_strandOf : MethodName := ⟨RX1, "strandOf", "(I)I"⟩
def dkwX1_strandOf_0 : List UInt8 := [42, 180, 0, 18, 42, 180, 0, 21, 27, 46, 46, 172]
abbrev dktX1_strandOf_0 : List UInt8 := dkwX1_strandOf_0 ++ []
theorem dksX1_strandOf_0 : cX1_strandOf.data.toList.drop 0 = dktX1_strandOf_0 := by decide +kernel
theorem dX1_strandOf_0 : decode cX1_strandOf 0 = .ok (.aload_n 0, 1) := dk_42 (dk_at dksX1_strandOf_0 0 rfl rfl)
theorem dX1_strandOf_1 : decode cX1_strandOf 1 = .ok (.getfield 18, 3) := dk_180 0 18 (dk_at dksX1_strandOf_0 1 rfl rfl)
theorem dX1_strandOf_4 : decode cX1_strandOf 4 = .ok (.aload_n 0, 1) := dk_42 (dk_at dksX1_strandOf_0 4 rfl rfl)
theorem dX1_strandOf_5 : decode cX1_strandOf 5 = .ok (.getfield 21, 3) := dk_180 0 21 (dk_at dksX1_strandOf_0 5 rfl rfl)
theorem dX1_strandOf_8 : decode cX1_strandOf 8 = .ok (.iload_n 1, 1) := dk_27 (dk_at dksX1_strandOf_0 8 rfl rfl)
theorem dX1_strandOf_9 : decode cX1_strandOf 9 = .ok (.iaload, 1) := dk_46 (dk_at dksX1_strandOf_0 9 rfl rfl)
theorem dX1_strandOf_10 : decode cX1_strandOf 10 = .ok (.iaload, 1) := dk_46 (dk_at dksX1_strandOf_0 10 rfl rfl)
theorem dX1_strandOf_11 : decode cX1_strandOf 11 = .ok (.ireturn, 1) := dk_172 (dk_at dksX1_strandOf_0 11 rfl rfl)
abbrev cX1_pressOn : ByteArray := prog_5_method_10_code
def yX1_pressOn : MethodName := ⟨RX1, "pressOn", "(II)I"⟩
def dkwX1_pressOn_2 : List UInt8 := [132, 4, 1, 167, 255, 211, 29, 172]
abbrev dktX1_pressOn_2 : List UInt8 := dkwX1_pressOn_2 ++ []
def dkwX1_pressOn_1 : List UInt8 := [42, 21, 4, 182, 0, 82, 27, 160, 0, 13, 42, 180, 0, 24, 21, 4, 46, 167, 0, 4, 3, 96, 62]
abbrev dktX1_pressOn_1 : List UInt8 := dkwX1_pressOn_1 ++ dktX1_pressOn_2
def dkwX1_pressOn_0 : List UInt8 := [3, 62, 3, 54, 4, 21, 4, 42, 180, 0, 53, 162, 0, 42, 29, 28, 21, 4, 184, 0, 78, 153, 0, 23]
abbrev dktX1_pressOn_0 : List UInt8 := dkwX1_pressOn_0 ++ dktX1_pressOn_1
theorem dksX1_pressOn_0 : cX1_pressOn.data.toList.drop 0 = dktX1_pressOn_0 := by decide +kernel
theorem dksX1_pressOn_1 : cX1_pressOn.data.toList.drop 24 = dktX1_pressOn_1 := dk_seg dksX1_pressOn_0 24 rfl rfl
theorem dksX1_pressOn_2 : cX1_pressOn.data.toList.drop 47 = dktX1_pressOn_2 := dk_seg dksX1_pressOn_1 23 rfl rfl
theorem dX1_pressOn_0 : decode cX1_pressOn 0 = .ok (.iconst 0, 1) := dk_3 (dk_at dksX1_pressOn_0 0 rfl rfl)
theorem dX1_pressOn_1 : decode cX1_pressOn 1 = .ok (.istore_n 3, 1) := dk_62 (dk_at dksX1_pressOn_0 1 rfl rfl)
theorem dX1_pressOn_2 : decode cX1_pressOn 2 = .ok (.iconst 0, 1) := dk_3 (dk_at dksX1_pressOn_0 2 rfl rfl)
theorem dX1_pressOn_3 : decode cX1_pressOn 3 = .ok (.istore 4, 2) := dk_54 4 (dk_at dksX1_pressOn_0 3 rfl rfl)
theorem dX1_pressOn_5 : decode cX1_pressOn 5 = .ok (.iload 4, 2) := dk_21 4 (dk_at dksX1_pressOn_0 5 rfl rfl)
theorem dX1_pressOn_7 : decode cX1_pressOn 7 = .ok (.aload_n 0, 1) := dk_42 (dk_at dksX1_pressOn_0 7 rfl rfl)
theorem dX1_pressOn_8 : decode cX1_pressOn 8 = .ok (.getfield 53, 3) := dk_180 0 53 (dk_at dksX1_pressOn_0 8 rfl rfl)
theorem dX1_pressOn_11 : decode cX1_pressOn 11 = .ok (.if_icmp .ge 42, 3) := dk_162 0 42 (dk_at dksX1_pressOn_0 11 rfl rfl)
theorem dX1_pressOn_14 : decode cX1_pressOn 14 = .ok (.iload_n 3, 1) := dk_29 (dk_at dksX1_pressOn_0 14 rfl rfl)
theorem dX1_pressOn_15 : decode cX1_pressOn 15 = .ok (.iload_n 2, 1) := dk_28 (dk_at dksX1_pressOn_0 15 rfl rfl)
theorem dX1_pressOn_16 : decode cX1_pressOn 16 = .ok (.iload 4, 2) := dk_21 4 (dk_at dksX1_pressOn_0 16 rfl rfl)
theorem dX1_pressOn_18 : decode cX1_pressOn 18 = .ok (.invokestatic 78, 3) := dk_184 0 78 (dk_at dksX1_pressOn_0 18 rfl rfl)
theorem dX1_pressOn_21 : decode cX1_pressOn 21 = .ok (.ifCond .eq 23, 3) := dk_153 0 23 (dk_at dksX1_pressOn_0 21 rfl rfl)
theorem dX1_pressOn_24 : decode cX1_pressOn 24 = .ok (.aload_n 0, 1) := dk_42 (dk_at dksX1_pressOn_1 0 rfl rfl)
theorem dX1_pressOn_25 : decode cX1_pressOn 25 = .ok (.iload 4, 2) := dk_21 4 (dk_at dksX1_pressOn_1 1 rfl rfl)
theorem dX1_pressOn_27 : decode cX1_pressOn 27 = .ok (.invokevirtual 82, 3) := dk_182 0 82 (dk_at dksX1_pressOn_1 3 rfl rfl)
theorem dX1_pressOn_30 : decode cX1_pressOn 30 = .ok (.iload_n 1, 1) := dk_27 (dk_at dksX1_pressOn_1 6 rfl rfl)
theorem dX1_pressOn_31 : decode cX1_pressOn 31 = .ok (.if_icmp .ne 13, 3) := dk_160 0 13 (dk_at dksX1_pressOn_1 7 rfl rfl)
theorem dX1_pressOn_34 : decode cX1_pressOn 34 = .ok (.aload_n 0, 1) := dk_42 (dk_at dksX1_pressOn_1 10 rfl rfl)
theorem dX1_pressOn_35 : decode cX1_pressOn 35 = .ok (.getfield 24, 3) := dk_180 0 24 (dk_at dksX1_pressOn_1 11 rfl rfl)
theorem dX1_pressOn_38 : decode cX1_pressOn 38 = .ok (.iload 4, 2) := dk_21 4 (dk_at dksX1_pressOn_1 14 rfl rfl)
theorem dX1_pressOn_40 : decode cX1_pressOn 40 = .ok (.iaload, 1) := dk_46 (dk_at dksX1_pressOn_1 16 rfl rfl)
theorem dX1_pressOn_41 : decode cX1_pressOn 41 = .ok (.goto 4, 3) := dk_167 0 4 (dk_at dksX1_pressOn_1 17 rfl rfl)
theorem dX1_pressOn_44 : decode cX1_pressOn 44 = .ok (.iconst 0, 1) := dk_3 (dk_at dksX1_pressOn_1 20 rfl rfl)
theorem dX1_pressOn_45 : decode cX1_pressOn 45 = .ok (.iadd, 1) := dk_96 (dk_at dksX1_pressOn_1 21 rfl rfl)
theorem dX1_pressOn_46 : decode cX1_pressOn 46 = .ok (.istore_n 3, 1) := dk_62 (dk_at dksX1_pressOn_1 22 rfl rfl)
theorem dX1_pressOn_47 : decode cX1_pressOn 47 = .ok (.iinc 4 1, 3) := dk_132 4 1 (dk_at dksX1_pressOn_2 0 rfl rfl)
theorem dX1_pressOn_50 : decode cX1_pressOn 50 = .ok (.goto (-45), 3) := dk_167 255 211 (dk_at dksX1_pressOn_2 3 rfl rfl)
theorem dX1_pressOn_53 : decode cX1_pressOn 53 = .ok (.iload_n 3, 1) := dk_29 (dk_at dksX1_pressOn_2 6 rfl rfl)
theorem dX1_pressOn_54 : decode cX1_pressOn 54 = .ok (.ireturn, 1) := dk_172 (dk_at dksX1_pressOn_2 7 rfl rfl)
abbrev cX1_laysBack : ByteArray := prog_5_method_5_code
def yX1_laysBack : MethodName := ⟨RX1, "laysBack", "(I)V"⟩
def dkwX1_laysBack_2 : List UInt8 := [184, 0, 65, 177]
abbrev dktX1_laysBack_2 : List UInt8 := dkwX1_laysBack_2 ++ []
def dkwX1_laysBack_1 : List UInt8 := [180, 0, 30, 3, 16, 8, 184, 0, 65, 42, 180, 0, 36, 28, 16, 9, 96, 42, 180, 0, 33, 3, 7]
abbrev dktX1_laysBack_1 : List UInt8 := dkwX1_laysBack_1 ++ dktX1_laysBack_2
def dkwX1_laysBack_0 : List UInt8 := [16, 13, 27, 104, 61, 42, 42, 180, 0, 36, 28, 46, 181, 0, 75, 42, 180, 0, 36, 28, 4, 96, 42]
abbrev dktX1_laysBack_0 : List UInt8 := dkwX1_laysBack_0 ++ dktX1_laysBack_1
theorem dksX1_laysBack_0 : cX1_laysBack.data.toList.drop 0 = dktX1_laysBack_0 := by decide +kernel
theorem dksX1_laysBack_1 : cX1_laysBack.data.toList.drop 23 = dktX1_laysBack_1 := dk_seg dksX1_laysBack_0 23 rfl rfl
theorem dksX1_laysBack_2 : cX1_laysBack.data.toList.drop 46 = dktX1_laysBack_2 := dk_seg dksX1_laysBack_1 23 rfl rfl
theorem dX1_laysBack_0 : decode cX1_laysBack 0 = .ok (.bipush 13, 2) := dk_16 13 (dk_at dksX1_laysBack_0 0 rfl rfl)
theorem dX1_laysBack_2 : decode cX1_laysBack 2 = .ok (.iload_n 1, 1) := dk_27 (dk_at dksX1_laysBack_0 2 rfl rfl)
theorem dX1_laysBack_3 : decode cX1_laysBack 3 = .ok (.imul, 1) := dk_104 (dk_at dksX1_laysBack_0 3 rfl rfl)
theorem dX1_laysBack_4 : decode cX1_laysBack 4 = .ok (.istore_n 2, 1) := dk_61 (dk_at dksX1_laysBack_0 4 rfl rfl)
theorem dX1_laysBack_5 : decode cX1_laysBack 5 = .ok (.aload_n 0, 1) := dk_42 (dk_at dksX1_laysBack_0 5 rfl rfl)
theorem dX1_laysBack_6 : decode cX1_laysBack 6 = .ok (.aload_n 0, 1) := dk_42 (dk_at dksX1_laysBack_0 6 rfl rfl)
theorem dX1_laysBack_7 : decode cX1_laysBack 7 = .ok (.getfield 36, 3) := dk_180 0 36 (dk_at dksX1_laysBack_0 7 rfl rfl)
theorem dX1_laysBack_10 : decode cX1_laysBack 10 = .ok (.iload_n 2, 1) := dk_28 (dk_at dksX1_laysBack_0 10 rfl rfl)
theorem dX1_laysBack_11 : decode cX1_laysBack 11 = .ok (.iaload, 1) := dk_46 (dk_at dksX1_laysBack_0 11 rfl rfl)
theorem dX1_laysBack_12 : decode cX1_laysBack 12 = .ok (.putfield 75, 3) := dk_181 0 75 (dk_at dksX1_laysBack_0 12 rfl rfl)
theorem dX1_laysBack_15 : decode cX1_laysBack 15 = .ok (.aload_n 0, 1) := dk_42 (dk_at dksX1_laysBack_0 15 rfl rfl)
theorem dX1_laysBack_16 : decode cX1_laysBack 16 = .ok (.getfield 36, 3) := dk_180 0 36 (dk_at dksX1_laysBack_0 16 rfl rfl)
theorem dX1_laysBack_19 : decode cX1_laysBack 19 = .ok (.iload_n 2, 1) := dk_28 (dk_at dksX1_laysBack_0 19 rfl rfl)
theorem dX1_laysBack_20 : decode cX1_laysBack 20 = .ok (.iconst 1, 1) := dk_4 (dk_at dksX1_laysBack_0 20 rfl rfl)
theorem dX1_laysBack_21 : decode cX1_laysBack 21 = .ok (.iadd, 1) := dk_96 (dk_at dksX1_laysBack_0 21 rfl rfl)
theorem dX1_laysBack_22 : decode cX1_laysBack 22 = .ok (.aload_n 0, 1) := dk_42 (dk_at dksX1_laysBack_0 22 rfl rfl)
theorem dX1_laysBack_23 : decode cX1_laysBack 23 = .ok (.getfield 30, 3) := dk_180 0 30 (dk_at dksX1_laysBack_1 0 rfl rfl)
theorem dX1_laysBack_26 : decode cX1_laysBack 26 = .ok (.iconst 0, 1) := dk_3 (dk_at dksX1_laysBack_1 3 rfl rfl)
theorem dX1_laysBack_27 : decode cX1_laysBack 27 = .ok (.bipush 8, 2) := dk_16 8 (dk_at dksX1_laysBack_1 4 rfl rfl)
theorem dX1_laysBack_29 : decode cX1_laysBack 29 = .ok (.invokestatic 65, 3) := dk_184 0 65 (dk_at dksX1_laysBack_1 6 rfl rfl)
theorem dX1_laysBack_32 : decode cX1_laysBack 32 = .ok (.aload_n 0, 1) := dk_42 (dk_at dksX1_laysBack_1 9 rfl rfl)
theorem dX1_laysBack_33 : decode cX1_laysBack 33 = .ok (.getfield 36, 3) := dk_180 0 36 (dk_at dksX1_laysBack_1 10 rfl rfl)
theorem dX1_laysBack_36 : decode cX1_laysBack 36 = .ok (.iload_n 2, 1) := dk_28 (dk_at dksX1_laysBack_1 13 rfl rfl)
theorem dX1_laysBack_37 : decode cX1_laysBack 37 = .ok (.bipush 9, 2) := dk_16 9 (dk_at dksX1_laysBack_1 14 rfl rfl)
theorem dX1_laysBack_39 : decode cX1_laysBack 39 = .ok (.iadd, 1) := dk_96 (dk_at dksX1_laysBack_1 16 rfl rfl)
theorem dX1_laysBack_40 : decode cX1_laysBack 40 = .ok (.aload_n 0, 1) := dk_42 (dk_at dksX1_laysBack_1 17 rfl rfl)
theorem dX1_laysBack_41 : decode cX1_laysBack 41 = .ok (.getfield 33, 3) := dk_180 0 33 (dk_at dksX1_laysBack_1 18 rfl rfl)
theorem dX1_laysBack_44 : decode cX1_laysBack 44 = .ok (.iconst 0, 1) := dk_3 (dk_at dksX1_laysBack_1 21 rfl rfl)
theorem dX1_laysBack_45 : decode cX1_laysBack 45 = .ok (.iconst 4, 1) := dk_7 (dk_at dksX1_laysBack_1 22 rfl rfl)
theorem dX1_laysBack_46 : decode cX1_laysBack 46 = .ok (.invokestatic 65, 3) := dk_184 0 65 (dk_at dksX1_laysBack_2 0 rfl rfl)
theorem dX1_laysBack_49 : decode cX1_laysBack 49 = .ok (.return_, 1) := dk_177 (dk_at dksX1_laysBack_2 3 rfl rfl)
abbrev cX1_lays : ByteArray := prog_5_method_4_code
def yX1_lays : MethodName := ⟨RX1, "lays", "(I)V"⟩
def dkwX1_lays_2 : List UInt8 := [184, 0, 65, 177]
abbrev dktX1_lays_2 : List UInt8 := dkwX1_lays_2 ++ []
def dkwX1_lays_1 : List UInt8 := [28, 4, 96, 16, 8, 184, 0, 65, 42, 180, 0, 33, 3, 42, 180, 0, 36, 28, 16, 9, 96, 7]
abbrev dktX1_lays_1 : List UInt8 := dkwX1_lays_1 ++ dktX1_lays_2
def dkwX1_lays_0 : List UInt8 := [16, 13, 27, 104, 61, 42, 180, 0, 36, 28, 42, 180, 0, 75, 79, 42, 180, 0, 30, 3, 42, 180, 0, 36]
abbrev dktX1_lays_0 : List UInt8 := dkwX1_lays_0 ++ dktX1_lays_1
theorem dksX1_lays_0 : cX1_lays.data.toList.drop 0 = dktX1_lays_0 := by decide +kernel
theorem dksX1_lays_1 : cX1_lays.data.toList.drop 24 = dktX1_lays_1 := dk_seg dksX1_lays_0 24 rfl rfl
theorem dksX1_lays_2 : cX1_lays.data.toList.drop 46 = dktX1_lays_2 := dk_seg dksX1_lays_1 22 rfl rfl
theorem dX1_lays_0 : decode cX1_lays 0 = .ok (.bipush 13, 2) := dk_16 13 (dk_at dksX1_lays_0 0 rfl rfl)
theorem dX1_lays_2 : decode cX1_lays 2 = .ok (.iload_n 1, 1) := dk_27 (dk_at dksX1_lays_0 2 rfl rfl)
theorem dX1_lays_3 : decode cX1_lays 3 = .ok (.imul, 1) := dk_104 (dk_at dksX1_lays_0 3 rfl rfl)
theorem dX1_lays_4 : decode cX1_lays 4 = .ok (.istore_n 2, 1) := dk_61 (dk_at dksX1_lays_0 4 rfl rfl)
theorem dX1_lays_5 : decode cX1_lays 5 = .ok (.aload_n 0, 1) := dk_42 (dk_at dksX1_lays_0 5 rfl rfl)
theorem dX1_lays_6 : decode cX1_lays 6 = .ok (.getfield 36, 3) := dk_180 0 36 (dk_at dksX1_lays_0 6 rfl rfl)
theorem dX1_lays_9 : decode cX1_lays 9 = .ok (.iload_n 2, 1) := dk_28 (dk_at dksX1_lays_0 9 rfl rfl)
theorem dX1_lays_10 : decode cX1_lays 10 = .ok (.aload_n 0, 1) := dk_42 (dk_at dksX1_lays_0 10 rfl rfl)
theorem dX1_lays_11 : decode cX1_lays 11 = .ok (.getfield 75, 3) := dk_180 0 75 (dk_at dksX1_lays_0 11 rfl rfl)
theorem dX1_lays_14 : decode cX1_lays 14 = .ok (.iastore, 1) := dk_79 (dk_at dksX1_lays_0 14 rfl rfl)
theorem dX1_lays_15 : decode cX1_lays 15 = .ok (.aload_n 0, 1) := dk_42 (dk_at dksX1_lays_0 15 rfl rfl)
theorem dX1_lays_16 : decode cX1_lays 16 = .ok (.getfield 30, 3) := dk_180 0 30 (dk_at dksX1_lays_0 16 rfl rfl)
theorem dX1_lays_19 : decode cX1_lays 19 = .ok (.iconst 0, 1) := dk_3 (dk_at dksX1_lays_0 19 rfl rfl)
theorem dX1_lays_20 : decode cX1_lays 20 = .ok (.aload_n 0, 1) := dk_42 (dk_at dksX1_lays_0 20 rfl rfl)
theorem dX1_lays_21 : decode cX1_lays 21 = .ok (.getfield 36, 3) := dk_180 0 36 (dk_at dksX1_lays_0 21 rfl rfl)
theorem dX1_lays_24 : decode cX1_lays 24 = .ok (.iload_n 2, 1) := dk_28 (dk_at dksX1_lays_1 0 rfl rfl)
theorem dX1_lays_25 : decode cX1_lays 25 = .ok (.iconst 1, 1) := dk_4 (dk_at dksX1_lays_1 1 rfl rfl)
theorem dX1_lays_26 : decode cX1_lays 26 = .ok (.iadd, 1) := dk_96 (dk_at dksX1_lays_1 2 rfl rfl)
theorem dX1_lays_27 : decode cX1_lays 27 = .ok (.bipush 8, 2) := dk_16 8 (dk_at dksX1_lays_1 3 rfl rfl)
theorem dX1_lays_29 : decode cX1_lays 29 = .ok (.invokestatic 65, 3) := dk_184 0 65 (dk_at dksX1_lays_1 5 rfl rfl)
theorem dX1_lays_32 : decode cX1_lays 32 = .ok (.aload_n 0, 1) := dk_42 (dk_at dksX1_lays_1 8 rfl rfl)
theorem dX1_lays_33 : decode cX1_lays 33 = .ok (.getfield 33, 3) := dk_180 0 33 (dk_at dksX1_lays_1 9 rfl rfl)
theorem dX1_lays_36 : decode cX1_lays 36 = .ok (.iconst 0, 1) := dk_3 (dk_at dksX1_lays_1 12 rfl rfl)
theorem dX1_lays_37 : decode cX1_lays 37 = .ok (.aload_n 0, 1) := dk_42 (dk_at dksX1_lays_1 13 rfl rfl)
theorem dX1_lays_38 : decode cX1_lays 38 = .ok (.getfield 36, 3) := dk_180 0 36 (dk_at dksX1_lays_1 14 rfl rfl)
theorem dX1_lays_41 : decode cX1_lays 41 = .ok (.iload_n 2, 1) := dk_28 (dk_at dksX1_lays_1 17 rfl rfl)
theorem dX1_lays_42 : decode cX1_lays 42 = .ok (.bipush 9, 2) := dk_16 9 (dk_at dksX1_lays_1 18 rfl rfl)
theorem dX1_lays_44 : decode cX1_lays 44 = .ok (.iadd, 1) := dk_96 (dk_at dksX1_lays_1 20 rfl rfl)
theorem dX1_lays_45 : decode cX1_lays 45 = .ok (.iconst 4, 1) := dk_7 (dk_at dksX1_lays_1 21 rfl rfl)
theorem dX1_lays_46 : decode cX1_lays 46 = .ok (.invokestatic 65, 3) := dk_184 0 65 (dk_at dksX1_lays_2 0 rfl rfl)
theorem dX1_lays_49 : decode cX1_lays 49 = .ok (.return_, 1) := dk_177 (dk_at dksX1_lays_2 3 rfl rfl)
abbrev cX1_passes : ByteArray := prog_5_method_17_code
def yX1_passes : MethodName := ⟨RX1, "passes", "(LChairCane$Rule;)I"⟩
def dkwX1_passes_3 : List UInt8 := [3, 79, 132, 2, 1, 167, 255, 181, 42, 89, 180, 0, 75, 4, 96, 181, 0, 75, 42, 182, 0, 117, 172]
abbrev dktX1_passes_3 : List UInt8 := dkwX1_passes_3 ++ []
def dkwX1_passes_2 : List UInt8 := [43, 198, 0, 25, 42, 180, 0, 30, 28, 42, 28, 43, 182, 0, 113, 9, 148, 158, 0, 7, 4, 167, 0, 4]
abbrev dktX1_passes_2 : List UInt8 := dkwX1_passes_2 ++ dktX1_passes_3
def dkwX1_passes_1 : List UInt8 := [180, 0, 43, 28, 46, 2, 159, 0, 18, 42, 180, 0, 30, 28, 42, 180, 0, 43, 28, 46, 79, 167, 0, 29]
abbrev dktX1_passes_1 : List UInt8 := dkwX1_passes_1 ++ dktX1_passes_2
def dkwX1_passes_0 : List UInt8 := [3, 61, 28, 42, 180, 0, 53, 162, 0, 73, 42, 180, 0, 30, 28, 46, 5, 160, 0, 6, 167, 0, 54, 42]
abbrev dktX1_passes_0 : List UInt8 := dkwX1_passes_0 ++ dktX1_passes_1
theorem dksX1_passes_0 : cX1_passes.data.toList.drop 0 = dktX1_passes_0 := by decide +kernel
theorem dksX1_passes_1 : cX1_passes.data.toList.drop 24 = dktX1_passes_1 := dk_seg dksX1_passes_0 24 rfl rfl
theorem dksX1_passes_2 : cX1_passes.data.toList.drop 48 = dktX1_passes_2 := dk_seg dksX1_passes_1 24 rfl rfl
theorem dksX1_passes_3 : cX1_passes.data.toList.drop 72 = dktX1_passes_3 := dk_seg dksX1_passes_2 24 rfl rfl
theorem dX1_passes_0 : decode cX1_passes 0 = .ok (.iconst 0, 1) := dk_3 (dk_at dksX1_passes_0 0 rfl rfl)
theorem dX1_passes_1 : decode cX1_passes 1 = .ok (.istore_n 2, 1) := dk_61 (dk_at dksX1_passes_0 1 rfl rfl)
theorem dX1_passes_2 : decode cX1_passes 2 = .ok (.iload_n 2, 1) := dk_28 (dk_at dksX1_passes_0 2 rfl rfl)
theorem dX1_passes_3 : decode cX1_passes 3 = .ok (.aload_n 0, 1) := dk_42 (dk_at dksX1_passes_0 3 rfl rfl)
theorem dX1_passes_4 : decode cX1_passes 4 = .ok (.getfield 53, 3) := dk_180 0 53 (dk_at dksX1_passes_0 4 rfl rfl)
theorem dX1_passes_7 : decode cX1_passes 7 = .ok (.if_icmp .ge 73, 3) := dk_162 0 73 (dk_at dksX1_passes_0 7 rfl rfl)
theorem dX1_passes_10 : decode cX1_passes 10 = .ok (.aload_n 0, 1) := dk_42 (dk_at dksX1_passes_0 10 rfl rfl)
theorem dX1_passes_11 : decode cX1_passes 11 = .ok (.getfield 30, 3) := dk_180 0 30 (dk_at dksX1_passes_0 11 rfl rfl)
theorem dX1_passes_14 : decode cX1_passes 14 = .ok (.iload_n 2, 1) := dk_28 (dk_at dksX1_passes_0 14 rfl rfl)
theorem dX1_passes_15 : decode cX1_passes 15 = .ok (.iaload, 1) := dk_46 (dk_at dksX1_passes_0 15 rfl rfl)
theorem dX1_passes_16 : decode cX1_passes 16 = .ok (.iconst 2, 1) := dk_5 (dk_at dksX1_passes_0 16 rfl rfl)
theorem dX1_passes_17 : decode cX1_passes 17 = .ok (.if_icmp .ne 6, 3) := dk_160 0 6 (dk_at dksX1_passes_0 17 rfl rfl)
theorem dX1_passes_20 : decode cX1_passes 20 = .ok (.goto 54, 3) := dk_167 0 54 (dk_at dksX1_passes_0 20 rfl rfl)
theorem dX1_passes_23 : decode cX1_passes 23 = .ok (.aload_n 0, 1) := dk_42 (dk_at dksX1_passes_0 23 rfl rfl)
theorem dX1_passes_24 : decode cX1_passes 24 = .ok (.getfield 43, 3) := dk_180 0 43 (dk_at dksX1_passes_1 0 rfl rfl)
theorem dX1_passes_27 : decode cX1_passes 27 = .ok (.iload_n 2, 1) := dk_28 (dk_at dksX1_passes_1 3 rfl rfl)
theorem dX1_passes_28 : decode cX1_passes 28 = .ok (.iaload, 1) := dk_46 (dk_at dksX1_passes_1 4 rfl rfl)
theorem dX1_passes_29 : decode cX1_passes 29 = .ok (.iconst (-1), 1) := dk_2 (dk_at dksX1_passes_1 5 rfl rfl)
theorem dX1_passes_30 : decode cX1_passes 30 = .ok (.if_icmp .eq 18, 3) := dk_159 0 18 (dk_at dksX1_passes_1 6 rfl rfl)
theorem dX1_passes_33 : decode cX1_passes 33 = .ok (.aload_n 0, 1) := dk_42 (dk_at dksX1_passes_1 9 rfl rfl)
theorem dX1_passes_34 : decode cX1_passes 34 = .ok (.getfield 30, 3) := dk_180 0 30 (dk_at dksX1_passes_1 10 rfl rfl)
theorem dX1_passes_37 : decode cX1_passes 37 = .ok (.iload_n 2, 1) := dk_28 (dk_at dksX1_passes_1 13 rfl rfl)
theorem dX1_passes_38 : decode cX1_passes 38 = .ok (.aload_n 0, 1) := dk_42 (dk_at dksX1_passes_1 14 rfl rfl)
theorem dX1_passes_39 : decode cX1_passes 39 = .ok (.getfield 43, 3) := dk_180 0 43 (dk_at dksX1_passes_1 15 rfl rfl)
theorem dX1_passes_42 : decode cX1_passes 42 = .ok (.iload_n 2, 1) := dk_28 (dk_at dksX1_passes_1 18 rfl rfl)
theorem dX1_passes_43 : decode cX1_passes 43 = .ok (.iaload, 1) := dk_46 (dk_at dksX1_passes_1 19 rfl rfl)
theorem dX1_passes_44 : decode cX1_passes 44 = .ok (.iastore, 1) := dk_79 (dk_at dksX1_passes_1 20 rfl rfl)
theorem dX1_passes_45 : decode cX1_passes 45 = .ok (.goto 29, 3) := dk_167 0 29 (dk_at dksX1_passes_1 21 rfl rfl)
theorem dX1_passes_48 : decode cX1_passes 48 = .ok (.aload_n 1, 1) := dk_43 (dk_at dksX1_passes_2 0 rfl rfl)
theorem dX1_passes_49 : decode cX1_passes 49 = .ok (.ifnull 25, 3) := dk_198 0 25 (dk_at dksX1_passes_2 1 rfl rfl)
theorem dX1_passes_52 : decode cX1_passes 52 = .ok (.aload_n 0, 1) := dk_42 (dk_at dksX1_passes_2 4 rfl rfl)
theorem dX1_passes_53 : decode cX1_passes 53 = .ok (.getfield 30, 3) := dk_180 0 30 (dk_at dksX1_passes_2 5 rfl rfl)
theorem dX1_passes_56 : decode cX1_passes 56 = .ok (.iload_n 2, 1) := dk_28 (dk_at dksX1_passes_2 8 rfl rfl)
theorem dX1_passes_57 : decode cX1_passes 57 = .ok (.aload_n 0, 1) := dk_42 (dk_at dksX1_passes_2 9 rfl rfl)
theorem dX1_passes_58 : decode cX1_passes 58 = .ok (.iload_n 2, 1) := dk_28 (dk_at dksX1_passes_2 10 rfl rfl)
theorem dX1_passes_59 : decode cX1_passes 59 = .ok (.aload_n 1, 1) := dk_43 (dk_at dksX1_passes_2 11 rfl rfl)
theorem dX1_passes_60 : decode cX1_passes 60 = .ok (.invokevirtual 113, 3) := dk_182 0 113 (dk_at dksX1_passes_2 12 rfl rfl)
theorem dX1_passes_63 : decode cX1_passes 63 = .ok (.lconst 0, 1) := dk_9 (dk_at dksX1_passes_2 15 rfl rfl)
theorem dX1_passes_64 : decode cX1_passes 64 = .ok (.lcmp, 1) := dk_148 (dk_at dksX1_passes_2 16 rfl rfl)
theorem dX1_passes_65 : decode cX1_passes 65 = .ok (.ifCond .le 7, 3) := dk_158 0 7 (dk_at dksX1_passes_2 17 rfl rfl)
theorem dX1_passes_68 : decode cX1_passes 68 = .ok (.iconst 1, 1) := dk_4 (dk_at dksX1_passes_2 20 rfl rfl)
theorem dX1_passes_69 : decode cX1_passes 69 = .ok (.goto 4, 3) := dk_167 0 4 (dk_at dksX1_passes_2 21 rfl rfl)
theorem dX1_passes_72 : decode cX1_passes 72 = .ok (.iconst 0, 1) := dk_3 (dk_at dksX1_passes_3 0 rfl rfl)
theorem dX1_passes_73 : decode cX1_passes 73 = .ok (.iastore, 1) := dk_79 (dk_at dksX1_passes_3 1 rfl rfl)
theorem dX1_passes_74 : decode cX1_passes 74 = .ok (.iinc 2 1, 3) := dk_132 2 1 (dk_at dksX1_passes_3 2 rfl rfl)
theorem dX1_passes_77 : decode cX1_passes 77 = .ok (.goto (-75), 3) := dk_167 255 181 (dk_at dksX1_passes_3 5 rfl rfl)
theorem dX1_passes_80 : decode cX1_passes 80 = .ok (.aload_n 0, 1) := dk_42 (dk_at dksX1_passes_3 8 rfl rfl)
theorem dX1_passes_81 : decode cX1_passes 81 = .ok (.dup, 1) := dk_89 (dk_at dksX1_passes_3 9 rfl rfl)
theorem dX1_passes_82 : decode cX1_passes 82 = .ok (.getfield 75, 3) := dk_180 0 75 (dk_at dksX1_passes_3 10 rfl rfl)
theorem dX1_passes_85 : decode cX1_passes 85 = .ok (.iconst 1, 1) := dk_4 (dk_at dksX1_passes_3 13 rfl rfl)
theorem dX1_passes_86 : decode cX1_passes 86 = .ok (.iadd, 1) := dk_96 (dk_at dksX1_passes_3 14 rfl rfl)
theorem dX1_passes_87 : decode cX1_passes 87 = .ok (.putfield 75, 3) := dk_181 0 75 (dk_at dksX1_passes_3 15 rfl rfl)
theorem dX1_passes_90 : decode cX1_passes 90 = .ok (.aload_n 0, 1) := dk_42 (dk_at dksX1_passes_3 18 rfl rfl)
theorem dX1_passes_91 : decode cX1_passes 91 = .ok (.invokevirtual 117, 3) := dk_182 0 117 (dk_at dksX1_passes_3 19 rfl rfl)
theorem dX1_passes_94 : decode cX1_passes 94 = .ok (.ireturn, 1) := dk_172 (dk_at dksX1_passes_3 22 rfl rfl)
abbrev cX1_sumOf : ByteArray := prog_5_method_16_code
def yX1_sumOf : MethodName := ⟨RX1, "sumOf", "(ILChairCane$Rule;)J"⟩
def dkwX1_sumOf_10 : List UInt8 := [182, 0, 107, 173]
abbrev dktX1_sumOf_10 : List UInt8 := dkwX1_sumOf_10 ++ []
def dkwX1_sumOf_9 : List UInt8 := [184, 0, 102, 133, 80, 42, 180, 0, 39, 16, 10, 42, 180, 0, 75, 133, 80, 44, 42, 180, 0, 39]
abbrev dktX1_sumOf_9 : List UInt8 := dkwX1_sumOf_9 ++ dktX1_sumOf_10
def dkwX1_sumOf_8 : List UInt8 := [27, 182, 0, 82, 21, 4, 182, 0, 86, 133, 80, 42, 180, 0, 39, 16, 9, 42, 5, 182, 0, 90]
abbrev dktX1_sumOf_8 : List UInt8 := dkwX1_sumOf_8 ++ dktX1_sumOf_9
def dkwX1_sumOf_7 : List UInt8 := [27, 182, 0, 96, 133, 80, 42, 180, 0, 39, 16, 7, 21, 5, 133, 80, 42, 180, 0, 39, 16, 8, 42, 42]
abbrev dktX1_sumOf_7 : List UInt8 := dkwX1_sumOf_7 ++ dktX1_sumOf_8
def dkwX1_sumOf_6 : List UInt8 := [8, 42, 180, 0, 30, 27, 46, 4, 160, 0, 7, 10, 167, 0, 4, 9, 80, 42, 180, 0, 39, 16, 6, 42]
abbrev dktX1_sumOf_6 : List UInt8 := dkwX1_sumOf_6 ++ dktX1_sumOf_7
def dkwX1_sumOf_5 : List UInt8 := [46, 133, 80, 42, 180, 0, 39, 7, 42, 180, 0, 33, 42, 27, 182, 0, 82, 46, 133, 80, 42, 180, 0, 39]
abbrev dktX1_sumOf_5 : List UInt8 := dkwX1_sumOf_5 ++ dktX1_sumOf_6
def dkwX1_sumOf_4 : List UInt8 := [5, 42, 180, 0, 24, 27, 46, 133, 80, 42, 180, 0, 39, 6, 42, 180, 0, 15, 42, 180, 0, 21, 27, 46]
abbrev dktX1_sumOf_4 : List UInt8 := dkwX1_sumOf_4 ++ dktX1_sumOf_5
def dkwX1_sumOf_3 : List UInt8 := [180, 0, 39, 3, 27, 133, 80, 42, 180, 0, 39, 4, 42, 180, 0, 21, 27, 46, 133, 80, 42, 180, 0, 39]
abbrev dktX1_sumOf_3 : List UInt8 := dkwX1_sumOf_3 ++ dktX1_sumOf_4
def dkwX1_sumOf_2 : List UInt8 := [42, 27, 182, 0, 82, 160, 0, 7, 4, 167, 0, 4, 3, 96, 54, 5, 132, 6, 1, 167, 255, 210, 42]
abbrev dktX1_sumOf_2 : List UInt8 := dkwX1_sumOf_2 ++ dktX1_sumOf_3
def dkwX1_sumOf_1 : List UInt8 := [180, 0, 53, 162, 0, 43, 21, 5, 21, 4, 21, 6, 184, 0, 78, 153, 0, 21, 42, 21, 6, 182, 0, 82]
abbrev dktX1_sumOf_1 : List UInt8 := dkwX1_sumOf_1 ++ dktX1_sumOf_2
def dkwX1_sumOf_0 : List UInt8 := [42, 4, 182, 0, 90, 62, 29, 4, 27, 120, 2, 130, 126, 54, 4, 3, 54, 5, 3, 54, 6, 21, 6, 42]
abbrev dktX1_sumOf_0 : List UInt8 := dkwX1_sumOf_0 ++ dktX1_sumOf_1
theorem dksX1_sumOf_0 : cX1_sumOf.data.toList.drop 0 = dktX1_sumOf_0 := by decide +kernel
theorem dksX1_sumOf_1 : cX1_sumOf.data.toList.drop 24 = dktX1_sumOf_1 := dk_seg dksX1_sumOf_0 24 rfl rfl
theorem dksX1_sumOf_2 : cX1_sumOf.data.toList.drop 48 = dktX1_sumOf_2 := dk_seg dksX1_sumOf_1 24 rfl rfl
theorem dksX1_sumOf_3 : cX1_sumOf.data.toList.drop 71 = dktX1_sumOf_3 := dk_seg dksX1_sumOf_2 23 rfl rfl
theorem dksX1_sumOf_4 : cX1_sumOf.data.toList.drop 95 = dktX1_sumOf_4 := dk_seg dksX1_sumOf_3 24 rfl rfl
theorem dksX1_sumOf_5 : cX1_sumOf.data.toList.drop 119 = dktX1_sumOf_5 := dk_seg dksX1_sumOf_4 24 rfl rfl
theorem dksX1_sumOf_6 : cX1_sumOf.data.toList.drop 143 = dktX1_sumOf_6 := dk_seg dksX1_sumOf_5 24 rfl rfl
theorem dksX1_sumOf_7 : cX1_sumOf.data.toList.drop 167 = dktX1_sumOf_7 := dk_seg dksX1_sumOf_6 24 rfl rfl
theorem dksX1_sumOf_8 : cX1_sumOf.data.toList.drop 191 = dktX1_sumOf_8 := dk_seg dksX1_sumOf_7 24 rfl rfl
theorem dksX1_sumOf_9 : cX1_sumOf.data.toList.drop 213 = dktX1_sumOf_9 := dk_seg dksX1_sumOf_8 22 rfl rfl
theorem dksX1_sumOf_10 : cX1_sumOf.data.toList.drop 235 = dktX1_sumOf_10 := dk_seg dksX1_sumOf_9 22 rfl rfl
theorem dX1_sumOf_0 : decode cX1_sumOf 0 = .ok (.aload_n 0, 1) := dk_42 (dk_at dksX1_sumOf_0 0 rfl rfl)
theorem dX1_sumOf_1 : decode cX1_sumOf 1 = .ok (.iconst 1, 1) := dk_4 (dk_at dksX1_sumOf_0 1 rfl rfl)
theorem dX1_sumOf_2 : decode cX1_sumOf 2 = .ok (.invokevirtual 90, 3) := dk_182 0 90 (dk_at dksX1_sumOf_0 2 rfl rfl)
theorem dX1_sumOf_5 : decode cX1_sumOf 5 = .ok (.istore_n 3, 1) := dk_62 (dk_at dksX1_sumOf_0 5 rfl rfl)
theorem dX1_sumOf_6 : decode cX1_sumOf 6 = .ok (.iload_n 3, 1) := dk_29 (dk_at dksX1_sumOf_0 6 rfl rfl)
theorem dX1_sumOf_7 : decode cX1_sumOf 7 = .ok (.iconst 1, 1) := dk_4 (dk_at dksX1_sumOf_0 7 rfl rfl)
theorem dX1_sumOf_8 : decode cX1_sumOf 8 = .ok (.iload_n 1, 1) := dk_27 (dk_at dksX1_sumOf_0 8 rfl rfl)
theorem dX1_sumOf_9 : decode cX1_sumOf 9 = .ok (.ishl, 1) := dk_120 (dk_at dksX1_sumOf_0 9 rfl rfl)
theorem dX1_sumOf_10 : decode cX1_sumOf 10 = .ok (.iconst (-1), 1) := dk_2 (dk_at dksX1_sumOf_0 10 rfl rfl)
theorem dX1_sumOf_11 : decode cX1_sumOf 11 = .ok (.ixor, 1) := dk_130 (dk_at dksX1_sumOf_0 11 rfl rfl)
theorem dX1_sumOf_12 : decode cX1_sumOf 12 = .ok (.iand, 1) := dk_126 (dk_at dksX1_sumOf_0 12 rfl rfl)
theorem dX1_sumOf_13 : decode cX1_sumOf 13 = .ok (.istore 4, 2) := dk_54 4 (dk_at dksX1_sumOf_0 13 rfl rfl)
theorem dX1_sumOf_15 : decode cX1_sumOf 15 = .ok (.iconst 0, 1) := dk_3 (dk_at dksX1_sumOf_0 15 rfl rfl)
theorem dX1_sumOf_16 : decode cX1_sumOf 16 = .ok (.istore 5, 2) := dk_54 5 (dk_at dksX1_sumOf_0 16 rfl rfl)
theorem dX1_sumOf_18 : decode cX1_sumOf 18 = .ok (.iconst 0, 1) := dk_3 (dk_at dksX1_sumOf_0 18 rfl rfl)
theorem dX1_sumOf_19 : decode cX1_sumOf 19 = .ok (.istore 6, 2) := dk_54 6 (dk_at dksX1_sumOf_0 19 rfl rfl)
theorem dX1_sumOf_21 : decode cX1_sumOf 21 = .ok (.iload 6, 2) := dk_21 6 (dk_at dksX1_sumOf_0 21 rfl rfl)
theorem dX1_sumOf_23 : decode cX1_sumOf 23 = .ok (.aload_n 0, 1) := dk_42 (dk_at dksX1_sumOf_0 23 rfl rfl)
theorem dX1_sumOf_24 : decode cX1_sumOf 24 = .ok (.getfield 53, 3) := dk_180 0 53 (dk_at dksX1_sumOf_1 0 rfl rfl)
theorem dX1_sumOf_27 : decode cX1_sumOf 27 = .ok (.if_icmp .ge 43, 3) := dk_162 0 43 (dk_at dksX1_sumOf_1 3 rfl rfl)
theorem dX1_sumOf_30 : decode cX1_sumOf 30 = .ok (.iload 5, 2) := dk_21 5 (dk_at dksX1_sumOf_1 6 rfl rfl)
theorem dX1_sumOf_32 : decode cX1_sumOf 32 = .ok (.iload 4, 2) := dk_21 4 (dk_at dksX1_sumOf_1 8 rfl rfl)
theorem dX1_sumOf_34 : decode cX1_sumOf 34 = .ok (.iload 6, 2) := dk_21 6 (dk_at dksX1_sumOf_1 10 rfl rfl)
theorem dX1_sumOf_36 : decode cX1_sumOf 36 = .ok (.invokestatic 78, 3) := dk_184 0 78 (dk_at dksX1_sumOf_1 12 rfl rfl)
theorem dX1_sumOf_39 : decode cX1_sumOf 39 = .ok (.ifCond .eq 21, 3) := dk_153 0 21 (dk_at dksX1_sumOf_1 15 rfl rfl)
theorem dX1_sumOf_42 : decode cX1_sumOf 42 = .ok (.aload_n 0, 1) := dk_42 (dk_at dksX1_sumOf_1 18 rfl rfl)
theorem dX1_sumOf_43 : decode cX1_sumOf 43 = .ok (.iload 6, 2) := dk_21 6 (dk_at dksX1_sumOf_1 19 rfl rfl)
theorem dX1_sumOf_45 : decode cX1_sumOf 45 = .ok (.invokevirtual 82, 3) := dk_182 0 82 (dk_at dksX1_sumOf_1 21 rfl rfl)
theorem dX1_sumOf_48 : decode cX1_sumOf 48 = .ok (.aload_n 0, 1) := dk_42 (dk_at dksX1_sumOf_2 0 rfl rfl)
theorem dX1_sumOf_49 : decode cX1_sumOf 49 = .ok (.iload_n 1, 1) := dk_27 (dk_at dksX1_sumOf_2 1 rfl rfl)
theorem dX1_sumOf_50 : decode cX1_sumOf 50 = .ok (.invokevirtual 82, 3) := dk_182 0 82 (dk_at dksX1_sumOf_2 2 rfl rfl)
theorem dX1_sumOf_53 : decode cX1_sumOf 53 = .ok (.if_icmp .ne 7, 3) := dk_160 0 7 (dk_at dksX1_sumOf_2 5 rfl rfl)
theorem dX1_sumOf_56 : decode cX1_sumOf 56 = .ok (.iconst 1, 1) := dk_4 (dk_at dksX1_sumOf_2 8 rfl rfl)
theorem dX1_sumOf_57 : decode cX1_sumOf 57 = .ok (.goto 4, 3) := dk_167 0 4 (dk_at dksX1_sumOf_2 9 rfl rfl)
theorem dX1_sumOf_60 : decode cX1_sumOf 60 = .ok (.iconst 0, 1) := dk_3 (dk_at dksX1_sumOf_2 12 rfl rfl)
theorem dX1_sumOf_61 : decode cX1_sumOf 61 = .ok (.iadd, 1) := dk_96 (dk_at dksX1_sumOf_2 13 rfl rfl)
theorem dX1_sumOf_62 : decode cX1_sumOf 62 = .ok (.istore 5, 2) := dk_54 5 (dk_at dksX1_sumOf_2 14 rfl rfl)
theorem dX1_sumOf_64 : decode cX1_sumOf 64 = .ok (.iinc 6 1, 3) := dk_132 6 1 (dk_at dksX1_sumOf_2 16 rfl rfl)
theorem dX1_sumOf_67 : decode cX1_sumOf 67 = .ok (.goto (-46), 3) := dk_167 255 210 (dk_at dksX1_sumOf_2 19 rfl rfl)
theorem dX1_sumOf_70 : decode cX1_sumOf 70 = .ok (.aload_n 0, 1) := dk_42 (dk_at dksX1_sumOf_2 22 rfl rfl)
theorem dX1_sumOf_71 : decode cX1_sumOf 71 = .ok (.getfield 39, 3) := dk_180 0 39 (dk_at dksX1_sumOf_3 0 rfl rfl)
theorem dX1_sumOf_74 : decode cX1_sumOf 74 = .ok (.iconst 0, 1) := dk_3 (dk_at dksX1_sumOf_3 3 rfl rfl)
theorem dX1_sumOf_75 : decode cX1_sumOf 75 = .ok (.iload_n 1, 1) := dk_27 (dk_at dksX1_sumOf_3 4 rfl rfl)
theorem dX1_sumOf_76 : decode cX1_sumOf 76 = .ok (.i2l, 1) := dk_133 (dk_at dksX1_sumOf_3 5 rfl rfl)
theorem dX1_sumOf_77 : decode cX1_sumOf 77 = .ok (.lastore, 1) := dk_80 (dk_at dksX1_sumOf_3 6 rfl rfl)
theorem dX1_sumOf_78 : decode cX1_sumOf 78 = .ok (.aload_n 0, 1) := dk_42 (dk_at dksX1_sumOf_3 7 rfl rfl)
theorem dX1_sumOf_79 : decode cX1_sumOf 79 = .ok (.getfield 39, 3) := dk_180 0 39 (dk_at dksX1_sumOf_3 8 rfl rfl)
theorem dX1_sumOf_82 : decode cX1_sumOf 82 = .ok (.iconst 1, 1) := dk_4 (dk_at dksX1_sumOf_3 11 rfl rfl)
theorem dX1_sumOf_83 : decode cX1_sumOf 83 = .ok (.aload_n 0, 1) := dk_42 (dk_at dksX1_sumOf_3 12 rfl rfl)
theorem dX1_sumOf_84 : decode cX1_sumOf 84 = .ok (.getfield 21, 3) := dk_180 0 21 (dk_at dksX1_sumOf_3 13 rfl rfl)
theorem dX1_sumOf_87 : decode cX1_sumOf 87 = .ok (.iload_n 1, 1) := dk_27 (dk_at dksX1_sumOf_3 16 rfl rfl)
theorem dX1_sumOf_88 : decode cX1_sumOf 88 = .ok (.iaload, 1) := dk_46 (dk_at dksX1_sumOf_3 17 rfl rfl)
theorem dX1_sumOf_89 : decode cX1_sumOf 89 = .ok (.i2l, 1) := dk_133 (dk_at dksX1_sumOf_3 18 rfl rfl)
theorem dX1_sumOf_90 : decode cX1_sumOf 90 = .ok (.lastore, 1) := dk_80 (dk_at dksX1_sumOf_3 19 rfl rfl)
theorem dX1_sumOf_91 : decode cX1_sumOf 91 = .ok (.aload_n 0, 1) := dk_42 (dk_at dksX1_sumOf_3 20 rfl rfl)
theorem dX1_sumOf_92 : decode cX1_sumOf 92 = .ok (.getfield 39, 3) := dk_180 0 39 (dk_at dksX1_sumOf_3 21 rfl rfl)
theorem dX1_sumOf_95 : decode cX1_sumOf 95 = .ok (.iconst 2, 1) := dk_5 (dk_at dksX1_sumOf_4 0 rfl rfl)
theorem dX1_sumOf_96 : decode cX1_sumOf 96 = .ok (.aload_n 0, 1) := dk_42 (dk_at dksX1_sumOf_4 1 rfl rfl)
theorem dX1_sumOf_97 : decode cX1_sumOf 97 = .ok (.getfield 24, 3) := dk_180 0 24 (dk_at dksX1_sumOf_4 2 rfl rfl)
theorem dX1_sumOf_100 : decode cX1_sumOf 100 = .ok (.iload_n 1, 1) := dk_27 (dk_at dksX1_sumOf_4 5 rfl rfl)
theorem dX1_sumOf_101 : decode cX1_sumOf 101 = .ok (.iaload, 1) := dk_46 (dk_at dksX1_sumOf_4 6 rfl rfl)
theorem dX1_sumOf_102 : decode cX1_sumOf 102 = .ok (.i2l, 1) := dk_133 (dk_at dksX1_sumOf_4 7 rfl rfl)
theorem dX1_sumOf_103 : decode cX1_sumOf 103 = .ok (.lastore, 1) := dk_80 (dk_at dksX1_sumOf_4 8 rfl rfl)
theorem dX1_sumOf_104 : decode cX1_sumOf 104 = .ok (.aload_n 0, 1) := dk_42 (dk_at dksX1_sumOf_4 9 rfl rfl)
theorem dX1_sumOf_105 : decode cX1_sumOf 105 = .ok (.getfield 39, 3) := dk_180 0 39 (dk_at dksX1_sumOf_4 10 rfl rfl)
theorem dX1_sumOf_108 : decode cX1_sumOf 108 = .ok (.iconst 3, 1) := dk_6 (dk_at dksX1_sumOf_4 13 rfl rfl)
theorem dX1_sumOf_109 : decode cX1_sumOf 109 = .ok (.aload_n 0, 1) := dk_42 (dk_at dksX1_sumOf_4 14 rfl rfl)
theorem dX1_sumOf_110 : decode cX1_sumOf 110 = .ok (.getfield 15, 3) := dk_180 0 15 (dk_at dksX1_sumOf_4 15 rfl rfl)
theorem dX1_sumOf_113 : decode cX1_sumOf 113 = .ok (.aload_n 0, 1) := dk_42 (dk_at dksX1_sumOf_4 18 rfl rfl)
theorem dX1_sumOf_114 : decode cX1_sumOf 114 = .ok (.getfield 21, 3) := dk_180 0 21 (dk_at dksX1_sumOf_4 19 rfl rfl)
theorem dX1_sumOf_117 : decode cX1_sumOf 117 = .ok (.iload_n 1, 1) := dk_27 (dk_at dksX1_sumOf_4 22 rfl rfl)
theorem dX1_sumOf_118 : decode cX1_sumOf 118 = .ok (.iaload, 1) := dk_46 (dk_at dksX1_sumOf_4 23 rfl rfl)
theorem dX1_sumOf_119 : decode cX1_sumOf 119 = .ok (.iaload, 1) := dk_46 (dk_at dksX1_sumOf_5 0 rfl rfl)
theorem dX1_sumOf_120 : decode cX1_sumOf 120 = .ok (.i2l, 1) := dk_133 (dk_at dksX1_sumOf_5 1 rfl rfl)
theorem dX1_sumOf_121 : decode cX1_sumOf 121 = .ok (.lastore, 1) := dk_80 (dk_at dksX1_sumOf_5 2 rfl rfl)
theorem dX1_sumOf_122 : decode cX1_sumOf 122 = .ok (.aload_n 0, 1) := dk_42 (dk_at dksX1_sumOf_5 3 rfl rfl)
theorem dX1_sumOf_123 : decode cX1_sumOf 123 = .ok (.getfield 39, 3) := dk_180 0 39 (dk_at dksX1_sumOf_5 4 rfl rfl)
theorem dX1_sumOf_126 : decode cX1_sumOf 126 = .ok (.iconst 4, 1) := dk_7 (dk_at dksX1_sumOf_5 7 rfl rfl)
theorem dX1_sumOf_127 : decode cX1_sumOf 127 = .ok (.aload_n 0, 1) := dk_42 (dk_at dksX1_sumOf_5 8 rfl rfl)
theorem dX1_sumOf_128 : decode cX1_sumOf 128 = .ok (.getfield 33, 3) := dk_180 0 33 (dk_at dksX1_sumOf_5 9 rfl rfl)
theorem dX1_sumOf_131 : decode cX1_sumOf 131 = .ok (.aload_n 0, 1) := dk_42 (dk_at dksX1_sumOf_5 12 rfl rfl)
theorem dX1_sumOf_132 : decode cX1_sumOf 132 = .ok (.iload_n 1, 1) := dk_27 (dk_at dksX1_sumOf_5 13 rfl rfl)
theorem dX1_sumOf_133 : decode cX1_sumOf 133 = .ok (.invokevirtual 82, 3) := dk_182 0 82 (dk_at dksX1_sumOf_5 14 rfl rfl)
theorem dX1_sumOf_136 : decode cX1_sumOf 136 = .ok (.iaload, 1) := dk_46 (dk_at dksX1_sumOf_5 17 rfl rfl)
theorem dX1_sumOf_137 : decode cX1_sumOf 137 = .ok (.i2l, 1) := dk_133 (dk_at dksX1_sumOf_5 18 rfl rfl)
theorem dX1_sumOf_138 : decode cX1_sumOf 138 = .ok (.lastore, 1) := dk_80 (dk_at dksX1_sumOf_5 19 rfl rfl)
theorem dX1_sumOf_139 : decode cX1_sumOf 139 = .ok (.aload_n 0, 1) := dk_42 (dk_at dksX1_sumOf_5 20 rfl rfl)
theorem dX1_sumOf_140 : decode cX1_sumOf 140 = .ok (.getfield 39, 3) := dk_180 0 39 (dk_at dksX1_sumOf_5 21 rfl rfl)
theorem dX1_sumOf_143 : decode cX1_sumOf 143 = .ok (.iconst 5, 1) := dk_8 (dk_at dksX1_sumOf_6 0 rfl rfl)
theorem dX1_sumOf_144 : decode cX1_sumOf 144 = .ok (.aload_n 0, 1) := dk_42 (dk_at dksX1_sumOf_6 1 rfl rfl)
theorem dX1_sumOf_145 : decode cX1_sumOf 145 = .ok (.getfield 30, 3) := dk_180 0 30 (dk_at dksX1_sumOf_6 2 rfl rfl)
theorem dX1_sumOf_148 : decode cX1_sumOf 148 = .ok (.iload_n 1, 1) := dk_27 (dk_at dksX1_sumOf_6 5 rfl rfl)
theorem dX1_sumOf_149 : decode cX1_sumOf 149 = .ok (.iaload, 1) := dk_46 (dk_at dksX1_sumOf_6 6 rfl rfl)
theorem dX1_sumOf_150 : decode cX1_sumOf 150 = .ok (.iconst 1, 1) := dk_4 (dk_at dksX1_sumOf_6 7 rfl rfl)
theorem dX1_sumOf_151 : decode cX1_sumOf 151 = .ok (.if_icmp .ne 7, 3) := dk_160 0 7 (dk_at dksX1_sumOf_6 8 rfl rfl)
theorem dX1_sumOf_154 : decode cX1_sumOf 154 = .ok (.lconst 1, 1) := dk_10 (dk_at dksX1_sumOf_6 11 rfl rfl)
theorem dX1_sumOf_155 : decode cX1_sumOf 155 = .ok (.goto 4, 3) := dk_167 0 4 (dk_at dksX1_sumOf_6 12 rfl rfl)
theorem dX1_sumOf_158 : decode cX1_sumOf 158 = .ok (.lconst 0, 1) := dk_9 (dk_at dksX1_sumOf_6 15 rfl rfl)
theorem dX1_sumOf_159 : decode cX1_sumOf 159 = .ok (.lastore, 1) := dk_80 (dk_at dksX1_sumOf_6 16 rfl rfl)
theorem dX1_sumOf_160 : decode cX1_sumOf 160 = .ok (.aload_n 0, 1) := dk_42 (dk_at dksX1_sumOf_6 17 rfl rfl)
theorem dX1_sumOf_161 : decode cX1_sumOf 161 = .ok (.getfield 39, 3) := dk_180 0 39 (dk_at dksX1_sumOf_6 18 rfl rfl)
theorem dX1_sumOf_164 : decode cX1_sumOf 164 = .ok (.bipush 6, 2) := dk_16 6 (dk_at dksX1_sumOf_6 21 rfl rfl)
theorem dX1_sumOf_166 : decode cX1_sumOf 166 = .ok (.aload_n 0, 1) := dk_42 (dk_at dksX1_sumOf_6 23 rfl rfl)
theorem dX1_sumOf_167 : decode cX1_sumOf 167 = .ok (.iload_n 1, 1) := dk_27 (dk_at dksX1_sumOf_7 0 rfl rfl)
theorem dX1_sumOf_168 : decode cX1_sumOf 168 = .ok (.invokevirtual 96, 3) := dk_182 0 96 (dk_at dksX1_sumOf_7 1 rfl rfl)
theorem dX1_sumOf_171 : decode cX1_sumOf 171 = .ok (.i2l, 1) := dk_133 (dk_at dksX1_sumOf_7 4 rfl rfl)
theorem dX1_sumOf_172 : decode cX1_sumOf 172 = .ok (.lastore, 1) := dk_80 (dk_at dksX1_sumOf_7 5 rfl rfl)
theorem dX1_sumOf_173 : decode cX1_sumOf 173 = .ok (.aload_n 0, 1) := dk_42 (dk_at dksX1_sumOf_7 6 rfl rfl)
theorem dX1_sumOf_174 : decode cX1_sumOf 174 = .ok (.getfield 39, 3) := dk_180 0 39 (dk_at dksX1_sumOf_7 7 rfl rfl)
theorem dX1_sumOf_177 : decode cX1_sumOf 177 = .ok (.bipush 7, 2) := dk_16 7 (dk_at dksX1_sumOf_7 10 rfl rfl)
theorem dX1_sumOf_179 : decode cX1_sumOf 179 = .ok (.iload 5, 2) := dk_21 5 (dk_at dksX1_sumOf_7 12 rfl rfl)
theorem dX1_sumOf_181 : decode cX1_sumOf 181 = .ok (.i2l, 1) := dk_133 (dk_at dksX1_sumOf_7 14 rfl rfl)
theorem dX1_sumOf_182 : decode cX1_sumOf 182 = .ok (.lastore, 1) := dk_80 (dk_at dksX1_sumOf_7 15 rfl rfl)
theorem dX1_sumOf_183 : decode cX1_sumOf 183 = .ok (.aload_n 0, 1) := dk_42 (dk_at dksX1_sumOf_7 16 rfl rfl)
theorem dX1_sumOf_184 : decode cX1_sumOf 184 = .ok (.getfield 39, 3) := dk_180 0 39 (dk_at dksX1_sumOf_7 17 rfl rfl)
theorem dX1_sumOf_187 : decode cX1_sumOf 187 = .ok (.bipush 8, 2) := dk_16 8 (dk_at dksX1_sumOf_7 20 rfl rfl)
theorem dX1_sumOf_189 : decode cX1_sumOf 189 = .ok (.aload_n 0, 1) := dk_42 (dk_at dksX1_sumOf_7 22 rfl rfl)
theorem dX1_sumOf_190 : decode cX1_sumOf 190 = .ok (.aload_n 0, 1) := dk_42 (dk_at dksX1_sumOf_7 23 rfl rfl)
theorem dX1_sumOf_191 : decode cX1_sumOf 191 = .ok (.iload_n 1, 1) := dk_27 (dk_at dksX1_sumOf_8 0 rfl rfl)
theorem dX1_sumOf_192 : decode cX1_sumOf 192 = .ok (.invokevirtual 82, 3) := dk_182 0 82 (dk_at dksX1_sumOf_8 1 rfl rfl)
theorem dX1_sumOf_195 : decode cX1_sumOf 195 = .ok (.iload 4, 2) := dk_21 4 (dk_at dksX1_sumOf_8 4 rfl rfl)
theorem dX1_sumOf_197 : decode cX1_sumOf 197 = .ok (.invokevirtual 86, 3) := dk_182 0 86 (dk_at dksX1_sumOf_8 6 rfl rfl)
theorem dX1_sumOf_200 : decode cX1_sumOf 200 = .ok (.i2l, 1) := dk_133 (dk_at dksX1_sumOf_8 9 rfl rfl)
theorem dX1_sumOf_201 : decode cX1_sumOf 201 = .ok (.lastore, 1) := dk_80 (dk_at dksX1_sumOf_8 10 rfl rfl)
theorem dX1_sumOf_202 : decode cX1_sumOf 202 = .ok (.aload_n 0, 1) := dk_42 (dk_at dksX1_sumOf_8 11 rfl rfl)
theorem dX1_sumOf_203 : decode cX1_sumOf 203 = .ok (.getfield 39, 3) := dk_180 0 39 (dk_at dksX1_sumOf_8 12 rfl rfl)
theorem dX1_sumOf_206 : decode cX1_sumOf 206 = .ok (.bipush 9, 2) := dk_16 9 (dk_at dksX1_sumOf_8 15 rfl rfl)
theorem dX1_sumOf_208 : decode cX1_sumOf 208 = .ok (.aload_n 0, 1) := dk_42 (dk_at dksX1_sumOf_8 17 rfl rfl)
theorem dX1_sumOf_209 : decode cX1_sumOf 209 = .ok (.iconst 2, 1) := dk_5 (dk_at dksX1_sumOf_8 18 rfl rfl)
theorem dX1_sumOf_210 : decode cX1_sumOf 210 = .ok (.invokevirtual 90, 3) := dk_182 0 90 (dk_at dksX1_sumOf_8 19 rfl rfl)
theorem dX1_sumOf_213 : decode cX1_sumOf 213 = .ok (.invokestatic 102, 3) := dk_184 0 102 (dk_at dksX1_sumOf_9 0 rfl rfl)
theorem dX1_sumOf_216 : decode cX1_sumOf 216 = .ok (.i2l, 1) := dk_133 (dk_at dksX1_sumOf_9 3 rfl rfl)
theorem dX1_sumOf_217 : decode cX1_sumOf 217 = .ok (.lastore, 1) := dk_80 (dk_at dksX1_sumOf_9 4 rfl rfl)
theorem dX1_sumOf_218 : decode cX1_sumOf 218 = .ok (.aload_n 0, 1) := dk_42 (dk_at dksX1_sumOf_9 5 rfl rfl)
theorem dX1_sumOf_219 : decode cX1_sumOf 219 = .ok (.getfield 39, 3) := dk_180 0 39 (dk_at dksX1_sumOf_9 6 rfl rfl)
theorem dX1_sumOf_222 : decode cX1_sumOf 222 = .ok (.bipush 10, 2) := dk_16 10 (dk_at dksX1_sumOf_9 9 rfl rfl)
theorem dX1_sumOf_224 : decode cX1_sumOf 224 = .ok (.aload_n 0, 1) := dk_42 (dk_at dksX1_sumOf_9 11 rfl rfl)
theorem dX1_sumOf_225 : decode cX1_sumOf 225 = .ok (.getfield 75, 3) := dk_180 0 75 (dk_at dksX1_sumOf_9 12 rfl rfl)
theorem dX1_sumOf_228 : decode cX1_sumOf 228 = .ok (.i2l, 1) := dk_133 (dk_at dksX1_sumOf_9 15 rfl rfl)
theorem dX1_sumOf_229 : decode cX1_sumOf 229 = .ok (.lastore, 1) := dk_80 (dk_at dksX1_sumOf_9 16 rfl rfl)
theorem dX1_sumOf_230 : decode cX1_sumOf 230 = .ok (.aload_n 2, 1) := dk_44 (dk_at dksX1_sumOf_9 17 rfl rfl)
theorem dX1_sumOf_231 : decode cX1_sumOf 231 = .ok (.aload_n 0, 1) := dk_42 (dk_at dksX1_sumOf_9 18 rfl rfl)
theorem dX1_sumOf_232 : decode cX1_sumOf 232 = .ok (.getfield 39, 3) := dk_180 0 39 (dk_at dksX1_sumOf_9 19 rfl rfl)
theorem dX1_sumOf_235 : decode cX1_sumOf 235 = .ok (.invokevirtual 107, 3) := dk_182 0 107 (dk_at dksX1_sumOf_10 0 rfl rfl)
theorem dX1_sumOf_238 : decode cX1_sumOf 238 = .ok (.lreturn, 1) := dk_173 (dk_at dksX1_sumOf_10 3 rfl rfl)
abbrev cX1_settled : ByteArray := prog_5_method_15_code
def yX1_settled : MethodName := ⟨RX1, "settled", "()I"⟩
def dkwX1_settled_2 : List UInt8 := [27, 28, 128, 60, 42, 42, 4, 182, 0, 90, 182, 0, 99, 61, 167, 255, 207, 27, 172]
abbrev dktX1_settled_2 : List UInt8 := dkwX1_settled_2 ++ []
def dkwX1_settled_1 : List UInt8 := [162, 0, 24, 28, 29, 184, 0, 78, 153, 0, 10, 42, 180, 0, 30, 29, 5, 79, 132, 3, 1, 167, 255, 230]
abbrev dktX1_settled_1 : List UInt8 := dkwX1_settled_1 ++ dktX1_settled_2
def dkwX1_settled_0 : List UInt8 := [3, 60, 42, 42, 4, 182, 0, 90, 182, 0, 99, 61, 28, 153, 0, 51, 3, 62, 29, 42, 180, 0, 53]
abbrev dktX1_settled_0 : List UInt8 := dkwX1_settled_0 ++ dktX1_settled_1
theorem dksX1_settled_0 : cX1_settled.data.toList.drop 0 = dktX1_settled_0 := by decide +kernel
theorem dksX1_settled_1 : cX1_settled.data.toList.drop 23 = dktX1_settled_1 := dk_seg dksX1_settled_0 23 rfl rfl
theorem dksX1_settled_2 : cX1_settled.data.toList.drop 47 = dktX1_settled_2 := dk_seg dksX1_settled_1 24 rfl rfl
theorem dX1_settled_0 : decode cX1_settled 0 = .ok (.iconst 0, 1) := dk_3 (dk_at dksX1_settled_0 0 rfl rfl)
theorem dX1_settled_1 : decode cX1_settled 1 = .ok (.istore_n 1, 1) := dk_60 (dk_at dksX1_settled_0 1 rfl rfl)
theorem dX1_settled_2 : decode cX1_settled 2 = .ok (.aload_n 0, 1) := dk_42 (dk_at dksX1_settled_0 2 rfl rfl)
theorem dX1_settled_3 : decode cX1_settled 3 = .ok (.aload_n 0, 1) := dk_42 (dk_at dksX1_settled_0 3 rfl rfl)
theorem dX1_settled_4 : decode cX1_settled 4 = .ok (.iconst 1, 1) := dk_4 (dk_at dksX1_settled_0 4 rfl rfl)
theorem dX1_settled_5 : decode cX1_settled 5 = .ok (.invokevirtual 90, 3) := dk_182 0 90 (dk_at dksX1_settled_0 5 rfl rfl)
theorem dX1_settled_8 : decode cX1_settled 8 = .ok (.invokevirtual 99, 3) := dk_182 0 99 (dk_at dksX1_settled_0 8 rfl rfl)
theorem dX1_settled_11 : decode cX1_settled 11 = .ok (.istore_n 2, 1) := dk_61 (dk_at dksX1_settled_0 11 rfl rfl)
theorem dX1_settled_12 : decode cX1_settled 12 = .ok (.iload_n 2, 1) := dk_28 (dk_at dksX1_settled_0 12 rfl rfl)
theorem dX1_settled_13 : decode cX1_settled 13 = .ok (.ifCond .eq 51, 3) := dk_153 0 51 (dk_at dksX1_settled_0 13 rfl rfl)
theorem dX1_settled_16 : decode cX1_settled 16 = .ok (.iconst 0, 1) := dk_3 (dk_at dksX1_settled_0 16 rfl rfl)
theorem dX1_settled_17 : decode cX1_settled 17 = .ok (.istore_n 3, 1) := dk_62 (dk_at dksX1_settled_0 17 rfl rfl)
theorem dX1_settled_18 : decode cX1_settled 18 = .ok (.iload_n 3, 1) := dk_29 (dk_at dksX1_settled_0 18 rfl rfl)
theorem dX1_settled_19 : decode cX1_settled 19 = .ok (.aload_n 0, 1) := dk_42 (dk_at dksX1_settled_0 19 rfl rfl)
theorem dX1_settled_20 : decode cX1_settled 20 = .ok (.getfield 53, 3) := dk_180 0 53 (dk_at dksX1_settled_0 20 rfl rfl)
theorem dX1_settled_23 : decode cX1_settled 23 = .ok (.if_icmp .ge 24, 3) := dk_162 0 24 (dk_at dksX1_settled_1 0 rfl rfl)
theorem dX1_settled_26 : decode cX1_settled 26 = .ok (.iload_n 2, 1) := dk_28 (dk_at dksX1_settled_1 3 rfl rfl)
theorem dX1_settled_27 : decode cX1_settled 27 = .ok (.iload_n 3, 1) := dk_29 (dk_at dksX1_settled_1 4 rfl rfl)
theorem dX1_settled_28 : decode cX1_settled 28 = .ok (.invokestatic 78, 3) := dk_184 0 78 (dk_at dksX1_settled_1 5 rfl rfl)
theorem dX1_settled_31 : decode cX1_settled 31 = .ok (.ifCond .eq 10, 3) := dk_153 0 10 (dk_at dksX1_settled_1 8 rfl rfl)
theorem dX1_settled_34 : decode cX1_settled 34 = .ok (.aload_n 0, 1) := dk_42 (dk_at dksX1_settled_1 11 rfl rfl)
theorem dX1_settled_35 : decode cX1_settled 35 = .ok (.getfield 30, 3) := dk_180 0 30 (dk_at dksX1_settled_1 12 rfl rfl)
theorem dX1_settled_38 : decode cX1_settled 38 = .ok (.iload_n 3, 1) := dk_29 (dk_at dksX1_settled_1 15 rfl rfl)
theorem dX1_settled_39 : decode cX1_settled 39 = .ok (.iconst 2, 1) := dk_5 (dk_at dksX1_settled_1 16 rfl rfl)
theorem dX1_settled_40 : decode cX1_settled 40 = .ok (.iastore, 1) := dk_79 (dk_at dksX1_settled_1 17 rfl rfl)
theorem dX1_settled_41 : decode cX1_settled 41 = .ok (.iinc 3 1, 3) := dk_132 3 1 (dk_at dksX1_settled_1 18 rfl rfl)
theorem dX1_settled_44 : decode cX1_settled 44 = .ok (.goto (-26), 3) := dk_167 255 230 (dk_at dksX1_settled_1 21 rfl rfl)
theorem dX1_settled_47 : decode cX1_settled 47 = .ok (.iload_n 1, 1) := dk_27 (dk_at dksX1_settled_2 0 rfl rfl)
theorem dX1_settled_48 : decode cX1_settled 48 = .ok (.iload_n 2, 1) := dk_28 (dk_at dksX1_settled_2 1 rfl rfl)
theorem dX1_settled_49 : decode cX1_settled 49 = .ok (.ior, 1) := dk_128 (dk_at dksX1_settled_2 2 rfl rfl)
theorem dX1_settled_50 : decode cX1_settled 50 = .ok (.istore_n 1, 1) := dk_60 (dk_at dksX1_settled_2 3 rfl rfl)
theorem dX1_settled_51 : decode cX1_settled 51 = .ok (.aload_n 0, 1) := dk_42 (dk_at dksX1_settled_2 4 rfl rfl)
theorem dX1_settled_52 : decode cX1_settled 52 = .ok (.aload_n 0, 1) := dk_42 (dk_at dksX1_settled_2 5 rfl rfl)
theorem dX1_settled_53 : decode cX1_settled 53 = .ok (.iconst 1, 1) := dk_4 (dk_at dksX1_settled_2 6 rfl rfl)
theorem dX1_settled_54 : decode cX1_settled 54 = .ok (.invokevirtual 90, 3) := dk_182 0 90 (dk_at dksX1_settled_2 7 rfl rfl)
theorem dX1_settled_57 : decode cX1_settled 57 = .ok (.invokevirtual 99, 3) := dk_182 0 99 (dk_at dksX1_settled_2 10 rfl rfl)
theorem dX1_settled_60 : decode cX1_settled 60 = .ok (.istore_n 2, 1) := dk_61 (dk_at dksX1_settled_2 13 rfl rfl)
theorem dX1_settled_61 : decode cX1_settled 61 = .ok (.goto (-49), 3) := dk_167 255 207 (dk_at dksX1_settled_2 14 rfl rfl)
theorem dX1_settled_64 : decode cX1_settled 64 = .ok (.iload_n 1, 1) := dk_27 (dk_at dksX1_settled_2 17 rfl rfl)
theorem dX1_settled_65 : decode cX1_settled 65 = .ok (.ireturn, 1) := dk_172 (dk_at dksX1_settled_2 18 rfl rfl)
abbrev cX1_dropsOf : ByteArray := prog_5_method_14_code
def yX1_dropsOf : MethodName := ⟨RX1, "dropsOf", "(I)I"⟩
def dkwX1_dropsOf_2 : List UInt8 := [128, 61, 132, 3, 1, 167, 255, 207, 28, 172]
abbrev dktX1_dropsOf_2 : List UInt8 := dkwX1_dropsOf_2 ++ []
def dkwX1_dropsOf_1 : List UInt8 := [182, 0, 93, 42, 180, 0, 15, 42, 180, 0, 21, 29, 46, 46, 161, 0, 9, 4, 29, 120, 167, 0, 4, 3]
abbrev dktX1_dropsOf_1 : List UInt8 := dkwX1_dropsOf_1 ++ dktX1_dropsOf_2
def dkwX1_dropsOf_0 : List UInt8 := [3, 61, 3, 62, 29, 42, 180, 0, 53, 162, 0, 47, 28, 27, 29, 184, 0, 78, 153, 0, 29, 42, 29, 27]
abbrev dktX1_dropsOf_0 : List UInt8 := dkwX1_dropsOf_0 ++ dktX1_dropsOf_1
theorem dksX1_dropsOf_0 : cX1_dropsOf.data.toList.drop 0 = dktX1_dropsOf_0 := by decide +kernel
theorem dksX1_dropsOf_1 : cX1_dropsOf.data.toList.drop 24 = dktX1_dropsOf_1 := dk_seg dksX1_dropsOf_0 24 rfl rfl
theorem dksX1_dropsOf_2 : cX1_dropsOf.data.toList.drop 48 = dktX1_dropsOf_2 := dk_seg dksX1_dropsOf_1 24 rfl rfl
theorem dX1_dropsOf_0 : decode cX1_dropsOf 0 = .ok (.iconst 0, 1) := dk_3 (dk_at dksX1_dropsOf_0 0 rfl rfl)
theorem dX1_dropsOf_1 : decode cX1_dropsOf 1 = .ok (.istore_n 2, 1) := dk_61 (dk_at dksX1_dropsOf_0 1 rfl rfl)
theorem dX1_dropsOf_2 : decode cX1_dropsOf 2 = .ok (.iconst 0, 1) := dk_3 (dk_at dksX1_dropsOf_0 2 rfl rfl)
theorem dX1_dropsOf_3 : decode cX1_dropsOf 3 = .ok (.istore_n 3, 1) := dk_62 (dk_at dksX1_dropsOf_0 3 rfl rfl)
theorem dX1_dropsOf_4 : decode cX1_dropsOf 4 = .ok (.iload_n 3, 1) := dk_29 (dk_at dksX1_dropsOf_0 4 rfl rfl)
theorem dX1_dropsOf_5 : decode cX1_dropsOf 5 = .ok (.aload_n 0, 1) := dk_42 (dk_at dksX1_dropsOf_0 5 rfl rfl)
theorem dX1_dropsOf_6 : decode cX1_dropsOf 6 = .ok (.getfield 53, 3) := dk_180 0 53 (dk_at dksX1_dropsOf_0 6 rfl rfl)
theorem dX1_dropsOf_9 : decode cX1_dropsOf 9 = .ok (.if_icmp .ge 47, 3) := dk_162 0 47 (dk_at dksX1_dropsOf_0 9 rfl rfl)
theorem dX1_dropsOf_12 : decode cX1_dropsOf 12 = .ok (.iload_n 2, 1) := dk_28 (dk_at dksX1_dropsOf_0 12 rfl rfl)
theorem dX1_dropsOf_13 : decode cX1_dropsOf 13 = .ok (.iload_n 1, 1) := dk_27 (dk_at dksX1_dropsOf_0 13 rfl rfl)
theorem dX1_dropsOf_14 : decode cX1_dropsOf 14 = .ok (.iload_n 3, 1) := dk_29 (dk_at dksX1_dropsOf_0 14 rfl rfl)
theorem dX1_dropsOf_15 : decode cX1_dropsOf 15 = .ok (.invokestatic 78, 3) := dk_184 0 78 (dk_at dksX1_dropsOf_0 15 rfl rfl)
theorem dX1_dropsOf_18 : decode cX1_dropsOf 18 = .ok (.ifCond .eq 29, 3) := dk_153 0 29 (dk_at dksX1_dropsOf_0 18 rfl rfl)
theorem dX1_dropsOf_21 : decode cX1_dropsOf 21 = .ok (.aload_n 0, 1) := dk_42 (dk_at dksX1_dropsOf_0 21 rfl rfl)
theorem dX1_dropsOf_22 : decode cX1_dropsOf 22 = .ok (.iload_n 3, 1) := dk_29 (dk_at dksX1_dropsOf_0 22 rfl rfl)
theorem dX1_dropsOf_23 : decode cX1_dropsOf 23 = .ok (.iload_n 1, 1) := dk_27 (dk_at dksX1_dropsOf_0 23 rfl rfl)
theorem dX1_dropsOf_24 : decode cX1_dropsOf 24 = .ok (.invokevirtual 93, 3) := dk_182 0 93 (dk_at dksX1_dropsOf_1 0 rfl rfl)
theorem dX1_dropsOf_27 : decode cX1_dropsOf 27 = .ok (.aload_n 0, 1) := dk_42 (dk_at dksX1_dropsOf_1 3 rfl rfl)
theorem dX1_dropsOf_28 : decode cX1_dropsOf 28 = .ok (.getfield 15, 3) := dk_180 0 15 (dk_at dksX1_dropsOf_1 4 rfl rfl)
theorem dX1_dropsOf_31 : decode cX1_dropsOf 31 = .ok (.aload_n 0, 1) := dk_42 (dk_at dksX1_dropsOf_1 7 rfl rfl)
theorem dX1_dropsOf_32 : decode cX1_dropsOf 32 = .ok (.getfield 21, 3) := dk_180 0 21 (dk_at dksX1_dropsOf_1 8 rfl rfl)
theorem dX1_dropsOf_35 : decode cX1_dropsOf 35 = .ok (.iload_n 3, 1) := dk_29 (dk_at dksX1_dropsOf_1 11 rfl rfl)
theorem dX1_dropsOf_36 : decode cX1_dropsOf 36 = .ok (.iaload, 1) := dk_46 (dk_at dksX1_dropsOf_1 12 rfl rfl)
theorem dX1_dropsOf_37 : decode cX1_dropsOf 37 = .ok (.iaload, 1) := dk_46 (dk_at dksX1_dropsOf_1 13 rfl rfl)
theorem dX1_dropsOf_38 : decode cX1_dropsOf 38 = .ok (.if_icmp .lt 9, 3) := dk_161 0 9 (dk_at dksX1_dropsOf_1 14 rfl rfl)
theorem dX1_dropsOf_41 : decode cX1_dropsOf 41 = .ok (.iconst 1, 1) := dk_4 (dk_at dksX1_dropsOf_1 17 rfl rfl)
theorem dX1_dropsOf_42 : decode cX1_dropsOf 42 = .ok (.iload_n 3, 1) := dk_29 (dk_at dksX1_dropsOf_1 18 rfl rfl)
theorem dX1_dropsOf_43 : decode cX1_dropsOf 43 = .ok (.ishl, 1) := dk_120 (dk_at dksX1_dropsOf_1 19 rfl rfl)
theorem dX1_dropsOf_44 : decode cX1_dropsOf 44 = .ok (.goto 4, 3) := dk_167 0 4 (dk_at dksX1_dropsOf_1 20 rfl rfl)
theorem dX1_dropsOf_47 : decode cX1_dropsOf 47 = .ok (.iconst 0, 1) := dk_3 (dk_at dksX1_dropsOf_1 23 rfl rfl)
theorem dX1_dropsOf_48 : decode cX1_dropsOf 48 = .ok (.ior, 1) := dk_128 (dk_at dksX1_dropsOf_2 0 rfl rfl)
theorem dX1_dropsOf_49 : decode cX1_dropsOf 49 = .ok (.istore_n 2, 1) := dk_61 (dk_at dksX1_dropsOf_2 1 rfl rfl)
theorem dX1_dropsOf_50 : decode cX1_dropsOf 50 = .ok (.iinc 3 1, 3) := dk_132 3 1 (dk_at dksX1_dropsOf_2 2 rfl rfl)
theorem dX1_dropsOf_53 : decode cX1_dropsOf 53 = .ok (.goto (-49), 3) := dk_167 255 207 (dk_at dksX1_dropsOf_2 5 rfl rfl)
theorem dX1_dropsOf_56 : decode cX1_dropsOf 56 = .ok (.iload_n 2, 1) := dk_28 (dk_at dksX1_dropsOf_2 8 rfl rfl)
theorem dX1_dropsOf_57 : decode cX1_dropsOf 57 = .ok (.ireturn, 1) := dk_172 (dk_at dksX1_dropsOf_2 9 rfl rfl)
abbrev cX1_passesAll : ByteArray := prog_5_method_18_code
def yX1_passesAll : MethodName := ⟨RX1, "passesAll", "(ILChairCane$Rule;)LChairCane$Dinner;"⟩
def dkwX1_passesAll_0 : List UInt8 := [3, 62, 29, 27, 162, 0, 15, 42, 44, 182, 0, 121, 87, 132, 3, 1, 167, 255, 242, 42, 176]
abbrev dktX1_passesAll_0 : List UInt8 := dkwX1_passesAll_0 ++ []
theorem dksX1_passesAll_0 : cX1_passesAll.data.toList.drop 0 = dktX1_passesAll_0 := by decide +kernel
theorem dX1_passesAll_0 : decode cX1_passesAll 0 = .ok (.iconst 0, 1) := dk_3 (dk_at dksX1_passesAll_0 0 rfl rfl)
theorem dX1_passesAll_1 : decode cX1_passesAll 1 = .ok (.istore_n 3, 1) := dk_62 (dk_at dksX1_passesAll_0 1 rfl rfl)
theorem dX1_passesAll_2 : decode cX1_passesAll 2 = .ok (.iload_n 3, 1) := dk_29 (dk_at dksX1_passesAll_0 2 rfl rfl)
theorem dX1_passesAll_3 : decode cX1_passesAll 3 = .ok (.iload_n 1, 1) := dk_27 (dk_at dksX1_passesAll_0 3 rfl rfl)
theorem dX1_passesAll_4 : decode cX1_passesAll 4 = .ok (.if_icmp .ge 15, 3) := dk_162 0 15 (dk_at dksX1_passesAll_0 4 rfl rfl)
theorem dX1_passesAll_7 : decode cX1_passesAll 7 = .ok (.aload_n 0, 1) := dk_42 (dk_at dksX1_passesAll_0 7 rfl rfl)
theorem dX1_passesAll_8 : decode cX1_passesAll 8 = .ok (.aload_n 2, 1) := dk_44 (dk_at dksX1_passesAll_0 8 rfl rfl)
theorem dX1_passesAll_9 : decode cX1_passesAll 9 = .ok (.invokevirtual 121, 3) := dk_182 0 121 (dk_at dksX1_passesAll_0 9 rfl rfl)
theorem dX1_passesAll_12 : decode cX1_passesAll 12 = .ok (.pop, 1) := dk_87 (dk_at dksX1_passesAll_0 12 rfl rfl)
theorem dX1_passesAll_13 : decode cX1_passesAll 13 = .ok (.iinc 3 1, 3) := dk_132 3 1 (dk_at dksX1_passesAll_0 13 rfl rfl)
theorem dX1_passesAll_16 : decode cX1_passesAll 16 = .ok (.goto (-14), 3) := dk_167 255 242 (dk_at dksX1_passesAll_0 16 rfl rfl)
theorem dX1_passesAll_19 : decode cX1_passesAll 19 = .ok (.aload_n 0, 1) := dk_42 (dk_at dksX1_passesAll_0 19 rfl rfl)
theorem dX1_passesAll_20 : decode cX1_passesAll 20 = .ok (.areturn, 1) := dk_176 (dk_at dksX1_passesAll_0 20 rfl rfl)
abbrev cX1_givesAll : ByteArray := prog_5_method_13_code
def yX1_givesAll : MethodName := ⟨RX1, "givesAll", "()I"⟩
def dkwX1_givesAll_1 : List UInt8 := [167, 255, 237, 27, 172]
abbrev dktX1_givesAll_1 : List UInt8 := dkwX1_givesAll_1 ++ []
def dkwX1_givesAll_0 : List UInt8 := [3, 60, 3, 61, 28, 42, 180, 0, 53, 162, 0, 17, 27, 42, 28, 182, 0, 96, 96, 60, 132, 2, 1]
abbrev dktX1_givesAll_0 : List UInt8 := dkwX1_givesAll_0 ++ dktX1_givesAll_1
theorem dksX1_givesAll_0 : cX1_givesAll.data.toList.drop 0 = dktX1_givesAll_0 := by decide +kernel
theorem dksX1_givesAll_1 : cX1_givesAll.data.toList.drop 23 = dktX1_givesAll_1 := dk_seg dksX1_givesAll_0 23 rfl rfl
theorem dX1_givesAll_0 : decode cX1_givesAll 0 = .ok (.iconst 0, 1) := dk_3 (dk_at dksX1_givesAll_0 0 rfl rfl)
theorem dX1_givesAll_1 : decode cX1_givesAll 1 = .ok (.istore_n 1, 1) := dk_60 (dk_at dksX1_givesAll_0 1 rfl rfl)
theorem dX1_givesAll_2 : decode cX1_givesAll 2 = .ok (.iconst 0, 1) := dk_3 (dk_at dksX1_givesAll_0 2 rfl rfl)
theorem dX1_givesAll_3 : decode cX1_givesAll 3 = .ok (.istore_n 2, 1) := dk_61 (dk_at dksX1_givesAll_0 3 rfl rfl)
theorem dX1_givesAll_4 : decode cX1_givesAll 4 = .ok (.iload_n 2, 1) := dk_28 (dk_at dksX1_givesAll_0 4 rfl rfl)
theorem dX1_givesAll_5 : decode cX1_givesAll 5 = .ok (.aload_n 0, 1) := dk_42 (dk_at dksX1_givesAll_0 5 rfl rfl)
theorem dX1_givesAll_6 : decode cX1_givesAll 6 = .ok (.getfield 53, 3) := dk_180 0 53 (dk_at dksX1_givesAll_0 6 rfl rfl)
theorem dX1_givesAll_9 : decode cX1_givesAll 9 = .ok (.if_icmp .ge 17, 3) := dk_162 0 17 (dk_at dksX1_givesAll_0 9 rfl rfl)
theorem dX1_givesAll_12 : decode cX1_givesAll 12 = .ok (.iload_n 1, 1) := dk_27 (dk_at dksX1_givesAll_0 12 rfl rfl)
theorem dX1_givesAll_13 : decode cX1_givesAll 13 = .ok (.aload_n 0, 1) := dk_42 (dk_at dksX1_givesAll_0 13 rfl rfl)
theorem dX1_givesAll_14 : decode cX1_givesAll 14 = .ok (.iload_n 2, 1) := dk_28 (dk_at dksX1_givesAll_0 14 rfl rfl)
theorem dX1_givesAll_15 : decode cX1_givesAll 15 = .ok (.invokevirtual 96, 3) := dk_182 0 96 (dk_at dksX1_givesAll_0 15 rfl rfl)
theorem dX1_givesAll_18 : decode cX1_givesAll 18 = .ok (.iadd, 1) := dk_96 (dk_at dksX1_givesAll_0 18 rfl rfl)
theorem dX1_givesAll_19 : decode cX1_givesAll 19 = .ok (.istore_n 1, 1) := dk_60 (dk_at dksX1_givesAll_0 19 rfl rfl)
theorem dX1_givesAll_20 : decode cX1_givesAll 20 = .ok (.iinc 2 1, 3) := dk_132 2 1 (dk_at dksX1_givesAll_0 20 rfl rfl)
theorem dX1_givesAll_23 : decode cX1_givesAll 23 = .ok (.goto (-19), 3) := dk_167 255 237 (dk_at dksX1_givesAll_1 0 rfl rfl)
theorem dX1_givesAll_26 : decode cX1_givesAll 26 = .ok (.iload_n 1, 1) := dk_27 (dk_at dksX1_givesAll_1 3 rfl rfl)
theorem dX1_givesAll_27 : decode cX1_givesAll 27 = .ok (.ireturn, 1) := dk_172 (dk_at dksX1_givesAll_1 4 rfl rfl)
theorem q118 : (Jvm.Cond.initialized "ChairCane$Dinner") ∈ lw_all := lw_g (lw_at lw_m1 2 rfl) rfl
theorem q152 : (Jvm.Cond.instantiable "ChairCane$Dinner" (18 : Nat)) ∈ lw_all := lw_g (lw_at lw_m1 36 rfl) rfl
theorem q154 : (Jvm.Cond.instanceMethod ({ cls := "ChairCane$Dinner", name := "<init>", desc := "()V" } : Jvm.MethodName)) ∈ lw_all := lw_g (lw_at lw_m1 38 rfl) rfl
theorem q155 : (Jvm.Cond.code ({ cls := "ChairCane$Dinner", name := "<init>", desc := "()V" } : Jvm.MethodName) prog_5_method_1_code (1 : Nat) (Option.none : Option Jvm.ClassFile.FieldType)) ∈ lw_all := lw_g (lw_at lw_m1 39 rfl) rfl
theorem q156 : (Jvm.Cond.methodLink "ChairCane$Dinner" (3 : Nat) ({ cls := "java/lang/Object", name := "<init>", desc := "()V" } : Jvm.MethodName)) ∈ lw_all := lw_g (lw_at lw_m1 40 rfl) rfl
theorem q157 : (Jvm.Cond.fieldLink "ChairCane$Dinner" (46 : Nat) "ChairCane$Dinner" "strandMany" "I") ∈ lw_all := lw_g (lw_at lw_m1 41 rfl) rfl
theorem q160 : (Jvm.Cond.fieldLink "ChairCane$Dinner" (50 : Nat) "ChairCane$Dinner" "chairMany" "I") ∈ lw_all := lw_g (lw_at lw_m1 44 rfl) rfl
theorem q163 : (Jvm.Cond.fieldLink "ChairCane$Dinner" (53 : Nat) "ChairCane$Dinner" "sitterMany" "I") ∈ lw_all := lw_g (lw_at lw_m1 47 rfl) rfl
theorem q166 : (Jvm.Cond.fieldLink "ChairCane$Dinner" (56 : Nat) "ChairCane$Dinner" "noteMany" "I") ∈ lw_all := lw_g (lw_at lw_m1 50 rfl) rfl
theorem q168 : (Jvm.Cond.fieldLink "ChairCane$Dinner" (59 : Nat) "ChairCane$Dinner" "undoMany" "I") ∈ lw_all := lw_g (lw_at lw_m1 52 rfl) rfl
theorem q170 : (Jvm.Cond.fieldLink "ChairCane$Dinner" (62 : Nat) "ChairCane$Dinner" "isTold" "I") ∈ lw_all := lw_g (lw_at lw_m1 54 rfl) rfl
theorem q172 : (Jvm.Cond.fieldLink "ChairCane$Dinner" (75 : Nat) "ChairCane$Dinner" "now" "I") ∈ lw_all := lw_g (lw_at lw_m1 56 rfl) rfl
theorem q174 : (Jvm.Cond.fieldLink "ChairCane$Dinner" (9 : Nat) "ChairCane$Dinner" "toldCane" "[I") ∈ lw_all := lw_g (lw_at lw_m1 58 rfl) rfl
theorem q176 : (Jvm.Cond.fieldLink "ChairCane$Dinner" (15 : Nat) "ChairCane$Dinner" "height" "[I") ∈ lw_all := lw_g (lw_at lw_m1 60 rfl) rfl
theorem q179 : (Jvm.Cond.fieldLink "ChairCane$Dinner" (18 : Nat) "ChairCane$Dinner" "strand" "[I") ∈ lw_all := lw_g (lw_at lw_m1 63 rfl) rfl
theorem q182 : (Jvm.Cond.fieldLink "ChairCane$Dinner" (21 : Nat) "ChairCane$Dinner" "chair" "[I") ∈ lw_all := lw_g (lw_at lw_m1 66 rfl) rfl
theorem q185 : (Jvm.Cond.fieldLink "ChairCane$Dinner" (24 : Nat) "ChairCane$Dinner" "weight" "[I") ∈ lw_all := lw_g (lw_at lw_m1 69 rfl) rfl
theorem q188 : (Jvm.Cond.fieldLink "ChairCane$Dinner" (27 : Nat) "ChairCane$Dinner" "notes" "[I") ∈ lw_all := lw_g (lw_at lw_m1 72 rfl) rfl
theorem q190 : (Jvm.Cond.fieldLink "ChairCane$Dinner" (30 : Nat) "ChairCane$Dinner" "status" "[I") ∈ lw_all := lw_g (lw_at lw_m1 74 rfl) rfl
theorem q192 : (Jvm.Cond.fieldLink "ChairCane$Dinner" (33 : Nat) "ChairCane$Dinner" "cane" "[I") ∈ lw_all := lw_g (lw_at lw_m1 76 rfl) rfl
theorem q194 : (Jvm.Cond.fieldLink "ChairCane$Dinner" (36 : Nat) "ChairCane$Dinner" "undo" "[I") ∈ lw_all := lw_g (lw_at lw_m1 78 rfl) rfl
theorem q196 : (Jvm.Cond.fieldLink "ChairCane$Dinner" (39 : Nat) "ChairCane$Dinner" "words" "[J") ∈ lw_all := lw_g (lw_at lw_m1 80 rfl) rfl
theorem q197 : (Jvm.Cond.fieldLink "ChairCane$Dinner" (43 : Nat) "ChairCane$Dinner" "plan" "[I") ∈ lw_all := lw_g (lw_at lw_m1 81 rfl) rfl
theorem q199 : (Jvm.Cond.lays "ChairCane$Dinner" "ChairCane$Dinner" "strandMany" "I") ∈ lw_all := lw_g (lw_at lw_m1 83 rfl) rfl
theorem q200 : (Jvm.Cond.soleField "ChairCane$Dinner" "strandMany") ∈ lw_all := lw_g (lw_at lw_m1 84 rfl) rfl
theorem q201 : (Jvm.Cond.lays "ChairCane$Dinner" "ChairCane$Dinner" "chairMany" "I") ∈ lw_all := lw_g (lw_at lw_m1 85 rfl) rfl
theorem q202 : (Jvm.Cond.soleField "ChairCane$Dinner" "chairMany") ∈ lw_all := lw_g (lw_at lw_m1 86 rfl) rfl
theorem q203 : (Jvm.Cond.lays "ChairCane$Dinner" "ChairCane$Dinner" "sitterMany" "I") ∈ lw_all := lw_g (lw_at lw_m1 87 rfl) rfl
theorem q204 : (Jvm.Cond.soleField "ChairCane$Dinner" "sitterMany") ∈ lw_all := lw_g (lw_at lw_m1 88 rfl) rfl
theorem q205 : (Jvm.Cond.lays "ChairCane$Dinner" "ChairCane$Dinner" "noteMany" "I") ∈ lw_all := lw_g (lw_at lw_m1 89 rfl) rfl
theorem q206 : (Jvm.Cond.soleField "ChairCane$Dinner" "noteMany") ∈ lw_all := lw_g (lw_at lw_m1 90 rfl) rfl
theorem q207 : (Jvm.Cond.lays "ChairCane$Dinner" "ChairCane$Dinner" "undoMany" "I") ∈ lw_all := lw_g (lw_at lw_m1 91 rfl) rfl
theorem q208 : (Jvm.Cond.soleField "ChairCane$Dinner" "undoMany") ∈ lw_all := lw_g (lw_at lw_m1 92 rfl) rfl
theorem q209 : (Jvm.Cond.lays "ChairCane$Dinner" "ChairCane$Dinner" "isTold" "I") ∈ lw_all := lw_g (lw_at lw_m1 93 rfl) rfl
theorem q210 : (Jvm.Cond.soleField "ChairCane$Dinner" "isTold") ∈ lw_all := lw_g (lw_at lw_m1 94 rfl) rfl
theorem q211 : (Jvm.Cond.lays "ChairCane$Dinner" "ChairCane$Dinner" "now" "I") ∈ lw_all := lw_g (lw_at lw_m1 95 rfl) rfl
theorem q212 : (Jvm.Cond.soleField "ChairCane$Dinner" "now") ∈ lw_all := lw_g (lw_at lw_m1 96 rfl) rfl
theorem q213 : (Jvm.Cond.laysFinal "ChairCane$Dinner" "ChairCane$Dinner" "toldCane" "[I") ∈ lw_all := lw_g (lw_at lw_m1 97 rfl) rfl
theorem q214 : (Jvm.Cond.soleField "ChairCane$Dinner" "toldCane") ∈ lw_all := lw_g (lw_at lw_m1 98 rfl) rfl
theorem q215 : (Jvm.Cond.laysFinal "ChairCane$Dinner" "ChairCane$Dinner" "height" "[I") ∈ lw_all := lw_g (lw_at lw_m1 99 rfl) rfl
theorem q216 : (Jvm.Cond.soleField "ChairCane$Dinner" "height") ∈ lw_all := lw_g (lw_at lw_m1 100 rfl) rfl
theorem q217 : (Jvm.Cond.laysFinal "ChairCane$Dinner" "ChairCane$Dinner" "strand" "[I") ∈ lw_all := lw_g (lw_at lw_m1 101 rfl) rfl
theorem q218 : (Jvm.Cond.soleField "ChairCane$Dinner" "strand") ∈ lw_all := lw_g (lw_at lw_m1 102 rfl) rfl
theorem q219 : (Jvm.Cond.laysFinal "ChairCane$Dinner" "ChairCane$Dinner" "chair" "[I") ∈ lw_all := lw_g (lw_at lw_m1 103 rfl) rfl
theorem q220 : (Jvm.Cond.soleField "ChairCane$Dinner" "chair") ∈ lw_all := lw_g (lw_at lw_m1 104 rfl) rfl
theorem q221 : (Jvm.Cond.laysFinal "ChairCane$Dinner" "ChairCane$Dinner" "weight" "[I") ∈ lw_all := lw_g (lw_at lw_m1 105 rfl) rfl
theorem q222 : (Jvm.Cond.soleField "ChairCane$Dinner" "weight") ∈ lw_all := lw_g (lw_at lw_m1 106 rfl) rfl
theorem q223 : (Jvm.Cond.laysFinal "ChairCane$Dinner" "ChairCane$Dinner" "notes" "[I") ∈ lw_all := lw_g (lw_at lw_m1 107 rfl) rfl
theorem q224 : (Jvm.Cond.soleField "ChairCane$Dinner" "notes") ∈ lw_all := lw_g (lw_at lw_m1 108 rfl) rfl
theorem q225 : (Jvm.Cond.laysFinal "ChairCane$Dinner" "ChairCane$Dinner" "status" "[I") ∈ lw_all := lw_g (lw_at lw_m1 109 rfl) rfl
theorem q226 : (Jvm.Cond.soleField "ChairCane$Dinner" "status") ∈ lw_all := lw_g (lw_at lw_m1 110 rfl) rfl
theorem q227 : (Jvm.Cond.laysFinal "ChairCane$Dinner" "ChairCane$Dinner" "cane" "[I") ∈ lw_all := lw_g (lw_at lw_m1 111 rfl) rfl
theorem q228 : (Jvm.Cond.soleField "ChairCane$Dinner" "cane") ∈ lw_all := lw_g (lw_at lw_m1 112 rfl) rfl
theorem q229 : (Jvm.Cond.laysFinal "ChairCane$Dinner" "ChairCane$Dinner" "undo" "[I") ∈ lw_all := lw_g (lw_at lw_m1 113 rfl) rfl
theorem q230 : (Jvm.Cond.soleField "ChairCane$Dinner" "undo") ∈ lw_all := lw_g (lw_at lw_m1 114 rfl) rfl
theorem q231 : (Jvm.Cond.laysFinal "ChairCane$Dinner" "ChairCane$Dinner" "words" "[J") ∈ lw_all := lw_g (lw_at lw_m1 115 rfl) rfl
theorem q232 : (Jvm.Cond.soleField "ChairCane$Dinner" "words") ∈ lw_all := lw_g (lw_at lw_m1 116 rfl) rfl
theorem q233 : (Jvm.Cond.laysFinal "ChairCane$Dinner" "ChairCane$Dinner" "plan" "[I") ∈ lw_all := lw_g (lw_at lw_m1 117 rfl) rfl
theorem q234 : (Jvm.Cond.soleField "ChairCane$Dinner" "plan") ∈ lw_all := lw_g (lw_at lw_m1 118 rfl) rfl
theorem q235 : (Jvm.Cond.superclass "ChairCane$Dinner" "java/lang/Object") ∈ lw_all := lw_g (lw_at lw_m1 119 rfl) rfl
theorem q460 : (Jvm.Cond.instanceMethod ({ cls := "ChairCane$Dinner", name := "copies", desc := "(LChairCane$Dinner;)LChairCane$Dinner;" } : Jvm.MethodName)) ∈ lw_all := lw_g (lw_at lw_m2 104 rfl) rfl
theorem q461 : (Jvm.Cond.selects "ChairCane$Dinner" ({ cls := "ChairCane$Dinner", name := "copies", desc := "(LChairCane$Dinner;)LChairCane$Dinner;" } : Jvm.MethodName) ({ cls := "ChairCane$Dinner", name := "copies", desc := "(LChairCane$Dinner;)LChairCane$Dinner;" } : Jvm.MethodName)) ∈ lw_all := lw_g (lw_at lw_m2 105 rfl) rfl
theorem q462 : (Jvm.Cond.code ({ cls := "ChairCane$Dinner", name := "copies", desc := "(LChairCane$Dinner;)LChairCane$Dinner;" } : Jvm.MethodName) prog_5_method_2_code (2 : Nat) (Option.some (Jvm.ClassFile.FieldType.object "ChairCane$Dinner"))) ∈ lw_all := lw_g (lw_at lw_m2 106 rfl) rfl
theorem q463 : (Jvm.Cond.methodLink "ChairCane$Dinner" (65 : Nat) ({ cls := "java/lang/System", name := "arraycopy", desc := "(Ljava/lang/Object;ILjava/lang/Object;II)V" } : Jvm.MethodName)) ∈ lw_all := lw_g (lw_at lw_m2 107 rfl) rfl
theorem q466 : (Jvm.Cond.methodLink "ChairCane$Dinner" (71 : Nat) ({ cls := "ChairCane$Dinner", name := "standsAs", desc := "(LChairCane$Dinner;)LChairCane$Dinner;" } : Jvm.MethodName)) ∈ lw_all := lw_g (lw_at lw_m2 110 rfl) rfl
theorem q467 : (Jvm.Cond.instanceMethod ({ cls := "ChairCane$Dinner", name := "standsAs", desc := "(LChairCane$Dinner;)LChairCane$Dinner;" } : Jvm.MethodName)) ∈ lw_all := lw_g (lw_at lw_m2 111 rfl) rfl
theorem q468 : (Jvm.Cond.selects "ChairCane$Dinner" ({ cls := "ChairCane$Dinner", name := "standsAs", desc := "(LChairCane$Dinner;)LChairCane$Dinner;" } : Jvm.MethodName) ({ cls := "ChairCane$Dinner", name := "standsAs", desc := "(LChairCane$Dinner;)LChairCane$Dinner;" } : Jvm.MethodName)) ∈ lw_all := lw_g (lw_at lw_m2 112 rfl) rfl
theorem q469 : (Jvm.Cond.code ({ cls := "ChairCane$Dinner", name := "standsAs", desc := "(LChairCane$Dinner;)LChairCane$Dinner;" } : Jvm.MethodName) prog_5_method_3_code (3 : Nat) (Option.some (Jvm.ClassFile.FieldType.object "ChairCane$Dinner"))) ∈ lw_all := lw_g (lw_at lw_m2 113 rfl) rfl
theorem q570 : (Jvm.Cond.instanceMethod ({ cls := "ChairCane$Dinner", name := "sitterOf", desc := "(I)I" } : Jvm.MethodName)) ∈ lw_all := lw_g (lw_at lw_m2 214 rfl) rfl
theorem q571 : (Jvm.Cond.selects "ChairCane$Dinner" ({ cls := "ChairCane$Dinner", name := "sitterOf", desc := "(I)I" } : Jvm.MethodName) ({ cls := "ChairCane$Dinner", name := "sitterOf", desc := "(I)I" } : Jvm.MethodName)) ∈ lw_all := lw_g (lw_at lw_m2 215 rfl) rfl
theorem q572 : (Jvm.Cond.code ({ cls := "ChairCane$Dinner", name := "sitterOf", desc := "(I)I" } : Jvm.MethodName) prog_5_method_8_code (3 : Nat) (Option.some Jvm.ClassFile.FieldType.int)) ∈ lw_all := lw_g (lw_at lw_m2 216 rfl) rfl
theorem q582 : (Jvm.Cond.instanceMethod ({ cls := "ChairCane$Dinner", name := "begins", desc := "()V" } : Jvm.MethodName)) ∈ lw_all := lw_g (lw_at lw_m2 226 rfl) rfl
theorem q583 : (Jvm.Cond.selects "ChairCane$Dinner" ({ cls := "ChairCane$Dinner", name := "begins", desc := "()V" } : Jvm.MethodName) ({ cls := "ChairCane$Dinner", name := "begins", desc := "()V" } : Jvm.MethodName)) ∈ lw_all := lw_g (lw_at lw_m2 227 rfl) rfl
theorem q584 : (Jvm.Cond.code ({ cls := "ChairCane$Dinner", name := "begins", desc := "()V" } : Jvm.MethodName) prog_5_method_6_code (2 : Nat) (Option.none : Option Jvm.ClassFile.FieldType)) ∈ lw_all := lw_g (lw_at lw_m2 228 rfl) rfl
theorem q787 : (Jvm.Cond.instanceMethod ({ cls := "ChairCane$Dinner", name := "givesNow", desc := "(I)I" } : Jvm.MethodName)) ∈ lw_all := lw_g (lw_at lw_m3 191 rfl) rfl
theorem q788 : (Jvm.Cond.selects "ChairCane$Dinner" ({ cls := "ChairCane$Dinner", name := "givesNow", desc := "(I)I" } : Jvm.MethodName) ({ cls := "ChairCane$Dinner", name := "givesNow", desc := "(I)I" } : Jvm.MethodName)) ∈ lw_all := lw_g (lw_at lw_m3 192 rfl) rfl
theorem q789 : (Jvm.Cond.code ({ cls := "ChairCane$Dinner", name := "givesNow", desc := "(I)I" } : Jvm.MethodName) prog_5_method_12_code (2 : Nat) (Option.some Jvm.ClassFile.FieldType.int)) ∈ lw_all := lw_g (lw_at lw_m3 193 rfl) rfl
theorem q790 : (Jvm.Cond.methodLink "ChairCane$Dinner" (90 : Nat) ({ cls := "ChairCane$Dinner", name := "onesThat", desc := "(I)I" } : Jvm.MethodName)) ∈ lw_all := lw_g (lw_at lw_m3 194 rfl) rfl
theorem q791 : (Jvm.Cond.instanceMethod ({ cls := "ChairCane$Dinner", name := "onesThat", desc := "(I)I" } : Jvm.MethodName)) ∈ lw_all := lw_g (lw_at lw_m3 195 rfl) rfl
theorem q792 : (Jvm.Cond.selects "ChairCane$Dinner" ({ cls := "ChairCane$Dinner", name := "onesThat", desc := "(I)I" } : Jvm.MethodName) ({ cls := "ChairCane$Dinner", name := "onesThat", desc := "(I)I" } : Jvm.MethodName)) ∈ lw_all := lw_g (lw_at lw_m3 196 rfl) rfl
theorem q793 : (Jvm.Cond.code ({ cls := "ChairCane$Dinner", name := "onesThat", desc := "(I)I" } : Jvm.MethodName) prog_5_method_7_code (4 : Nat) (Option.some Jvm.ClassFile.FieldType.int)) ∈ lw_all := lw_g (lw_at lw_m3 197 rfl) rfl
theorem q794 : (Jvm.Cond.methodLink "ChairCane$Dinner" (93 : Nat) ({ cls := "ChairCane$Dinner", name := "giveOf", desc := "(II)I" } : Jvm.MethodName)) ∈ lw_all := lw_g (lw_at lw_m3 198 rfl) rfl
theorem q795 : (Jvm.Cond.instanceMethod ({ cls := "ChairCane$Dinner", name := "giveOf", desc := "(II)I" } : Jvm.MethodName)) ∈ lw_all := lw_g (lw_at lw_m3 199 rfl) rfl
theorem q796 : (Jvm.Cond.selects "ChairCane$Dinner" ({ cls := "ChairCane$Dinner", name := "giveOf", desc := "(II)I" } : Jvm.MethodName) ({ cls := "ChairCane$Dinner", name := "giveOf", desc := "(II)I" } : Jvm.MethodName)) ∈ lw_all := lw_g (lw_at lw_m3 200 rfl) rfl
theorem q797 : (Jvm.Cond.code ({ cls := "ChairCane$Dinner", name := "giveOf", desc := "(II)I" } : Jvm.MethodName) prog_5_method_11_code (3 : Nat) (Option.some Jvm.ClassFile.FieldType.int)) ∈ lw_all := lw_g (lw_at lw_m3 201 rfl) rfl
theorem q798 : (Jvm.Cond.methodLinkNest "ChairCane$Dinner" (78 : Nat) ({ cls := "ChairCane", name := "has", desc := "(II)Z" } : Jvm.MethodName) "ChairCane") ∈ lw_tbl := lw_at lw_m3 202 rfl
theorem q801 : (Jvm.Cond.methodLink "ChairCane$Dinner" (82 : Nat) ({ cls := "ChairCane$Dinner", name := "strandOf", desc := "(I)I" } : Jvm.MethodName)) ∈ lw_all := lw_g (lw_at lw_m3 205 rfl) rfl
theorem q802 : (Jvm.Cond.instanceMethod ({ cls := "ChairCane$Dinner", name := "strandOf", desc := "(I)I" } : Jvm.MethodName)) ∈ lw_all := lw_g (lw_at lw_m3 206 rfl) rfl
theorem q803 : (Jvm.Cond.selects "ChairCane$Dinner" ({ cls := "ChairCane$Dinner", name := "strandOf", desc := "(I)I" } : Jvm.MethodName) ({ cls := "ChairCane$Dinner", name := "strandOf", desc := "(I)I" } : Jvm.MethodName)) ∈ lw_all := lw_g (lw_at lw_m3 207 rfl) rfl
theorem q804 : (Jvm.Cond.code ({ cls := "ChairCane$Dinner", name := "strandOf", desc := "(I)I" } : Jvm.MethodName) prog_5_method_9_code (2 : Nat) (Option.some Jvm.ClassFile.FieldType.int)) ∈ lw_all := lw_g (lw_at lw_m3 208 rfl) rfl
theorem q805 : (Jvm.Cond.methodLink "ChairCane$Dinner" (86 : Nat) ({ cls := "ChairCane$Dinner", name := "pressOn", desc := "(II)I" } : Jvm.MethodName)) ∈ lw_all := lw_g (lw_at lw_m3 209 rfl) rfl
theorem q806 : (Jvm.Cond.instanceMethod ({ cls := "ChairCane$Dinner", name := "pressOn", desc := "(II)I" } : Jvm.MethodName)) ∈ lw_all := lw_g (lw_at lw_m3 210 rfl) rfl
theorem q807 : (Jvm.Cond.selects "ChairCane$Dinner" ({ cls := "ChairCane$Dinner", name := "pressOn", desc := "(II)I" } : Jvm.MethodName) ({ cls := "ChairCane$Dinner", name := "pressOn", desc := "(II)I" } : Jvm.MethodName)) ∈ lw_all := lw_g (lw_at lw_m3 211 rfl) rfl
theorem q808 : (Jvm.Cond.code ({ cls := "ChairCane$Dinner", name := "pressOn", desc := "(II)I" } : Jvm.MethodName) prog_5_method_10_code (5 : Nat) (Option.some Jvm.ClassFile.FieldType.int)) ∈ lw_all := lw_g (lw_at lw_m3 212 rfl) rfl
theorem q823 : (Jvm.Cond.instanceMethod ({ cls := "ChairCane$Dinner", name := "laysBack", desc := "(I)V" } : Jvm.MethodName)) ∈ lw_all := lw_g (lw_at lw_m3 227 rfl) rfl
theorem q824 : (Jvm.Cond.selects "ChairCane$Dinner" ({ cls := "ChairCane$Dinner", name := "laysBack", desc := "(I)V" } : Jvm.MethodName) ({ cls := "ChairCane$Dinner", name := "laysBack", desc := "(I)V" } : Jvm.MethodName)) ∈ lw_all := lw_g (lw_at lw_m3 228 rfl) rfl
theorem q825 : (Jvm.Cond.code ({ cls := "ChairCane$Dinner", name := "laysBack", desc := "(I)V" } : Jvm.MethodName) prog_5_method_5_code (3 : Nat) (Option.none : Option Jvm.ClassFile.FieldType)) ∈ lw_all := lw_g (lw_at lw_m3 229 rfl) rfl
theorem q836 : (Jvm.Cond.instanceMethod ({ cls := "ChairCane$Dinner", name := "lays", desc := "(I)V" } : Jvm.MethodName)) ∈ lw_all := lw_g (lw_at lw_m4 0 rfl) rfl
theorem q837 : (Jvm.Cond.selects "ChairCane$Dinner" ({ cls := "ChairCane$Dinner", name := "lays", desc := "(I)V" } : Jvm.MethodName) ({ cls := "ChairCane$Dinner", name := "lays", desc := "(I)V" } : Jvm.MethodName)) ∈ lw_all := lw_g (lw_at lw_m4 1 rfl) rfl
theorem q838 : (Jvm.Cond.code ({ cls := "ChairCane$Dinner", name := "lays", desc := "(I)V" } : Jvm.MethodName) prog_5_method_4_code (3 : Nat) (Option.none : Option Jvm.ClassFile.FieldType)) ∈ lw_all := lw_g (lw_at lw_m4 2 rfl) rfl
theorem q844 : (Jvm.Cond.instanceMethod ({ cls := "ChairCane$Dinner", name := "passes", desc := "(LChairCane$Rule;)I" } : Jvm.MethodName)) ∈ lw_all := lw_g (lw_at lw_m4 8 rfl) rfl
theorem q845 : (Jvm.Cond.selects "ChairCane$Dinner" ({ cls := "ChairCane$Dinner", name := "passes", desc := "(LChairCane$Rule;)I" } : Jvm.MethodName) ({ cls := "ChairCane$Dinner", name := "passes", desc := "(LChairCane$Rule;)I" } : Jvm.MethodName)) ∈ lw_all := lw_g (lw_at lw_m4 9 rfl) rfl
theorem q846 : (Jvm.Cond.code ({ cls := "ChairCane$Dinner", name := "passes", desc := "(LChairCane$Rule;)I" } : Jvm.MethodName) prog_5_method_17_code (3 : Nat) (Option.some Jvm.ClassFile.FieldType.int)) ∈ lw_all := lw_g (lw_at lw_m4 10 rfl) rfl
theorem q847 : (Jvm.Cond.methodLink "ChairCane$Dinner" (113 : Nat) ({ cls := "ChairCane$Dinner", name := "sumOf", desc := "(ILChairCane$Rule;)J" } : Jvm.MethodName)) ∈ lw_all := lw_g (lw_at lw_m4 11 rfl) rfl
theorem q848 : (Jvm.Cond.privateMethod ({ cls := "ChairCane$Dinner", name := "sumOf", desc := "(ILChairCane$Rule;)J" } : Jvm.MethodName)) ∈ lw_tbl := lw_at lw_m4 12 rfl
theorem q849 : (Jvm.Cond.instanceMethod ({ cls := "ChairCane$Dinner", name := "sumOf", desc := "(ILChairCane$Rule;)J" } : Jvm.MethodName)) ∈ lw_all := lw_g (lw_at lw_m4 13 rfl) rfl
theorem q850 : (Jvm.Cond.code ({ cls := "ChairCane$Dinner", name := "sumOf", desc := "(ILChairCane$Rule;)J" } : Jvm.MethodName) prog_5_method_16_code (7 : Nat) (Option.some Jvm.ClassFile.FieldType.long)) ∈ lw_all := lw_g (lw_at lw_m4 14 rfl) rfl
theorem q851 : (Jvm.Cond.methodLink "ChairCane$Dinner" (96 : Nat) ({ cls := "ChairCane$Dinner", name := "givesNow", desc := "(I)I" } : Jvm.MethodName)) ∈ lw_all := lw_g (lw_at lw_m4 15 rfl) rfl
theorem q852 : (Jvm.Cond.methodLink "ChairCane$Dinner" (102 : Nat) ({ cls := "java/lang/Integer", name := "bitCount", desc := "(I)I" } : Jvm.MethodName)) ∈ lw_all := lw_g (lw_at lw_m4 16 rfl) rfl
theorem q858 : (Jvm.Cond.methodLink "ChairCane$Dinner" (107 : Nat) ({ cls := "ChairCane$Rule", name := "summed", desc := "([J)J" } : Jvm.MethodName)) ∈ lw_all := lw_g (lw_at lw_m4 22 rfl) rfl
theorem q894 : (Jvm.Cond.methodLink "ChairCane$Dinner" (117 : Nat) ({ cls := "ChairCane$Dinner", name := "settled", desc := "()I" } : Jvm.MethodName)) ∈ lw_all := lw_g (lw_at lw_m4 58 rfl) rfl
theorem q895 : (Jvm.Cond.instanceMethod ({ cls := "ChairCane$Dinner", name := "settled", desc := "()I" } : Jvm.MethodName)) ∈ lw_all := lw_g (lw_at lw_m4 59 rfl) rfl
theorem q896 : (Jvm.Cond.selects "ChairCane$Dinner" ({ cls := "ChairCane$Dinner", name := "settled", desc := "()I" } : Jvm.MethodName) ({ cls := "ChairCane$Dinner", name := "settled", desc := "()I" } : Jvm.MethodName)) ∈ lw_all := lw_g (lw_at lw_m4 60 rfl) rfl
theorem q897 : (Jvm.Cond.code ({ cls := "ChairCane$Dinner", name := "settled", desc := "()I" } : Jvm.MethodName) prog_5_method_15_code (4 : Nat) (Option.some Jvm.ClassFile.FieldType.int)) ∈ lw_all := lw_g (lw_at lw_m4 61 rfl) rfl
theorem q898 : (Jvm.Cond.methodLink "ChairCane$Dinner" (99 : Nat) ({ cls := "ChairCane$Dinner", name := "dropsOf", desc := "(I)I" } : Jvm.MethodName)) ∈ lw_all := lw_g (lw_at lw_m4 62 rfl) rfl
theorem q899 : (Jvm.Cond.instanceMethod ({ cls := "ChairCane$Dinner", name := "dropsOf", desc := "(I)I" } : Jvm.MethodName)) ∈ lw_all := lw_g (lw_at lw_m4 63 rfl) rfl
theorem q900 : (Jvm.Cond.selects "ChairCane$Dinner" ({ cls := "ChairCane$Dinner", name := "dropsOf", desc := "(I)I" } : Jvm.MethodName) ({ cls := "ChairCane$Dinner", name := "dropsOf", desc := "(I)I" } : Jvm.MethodName)) ∈ lw_all := lw_g (lw_at lw_m4 64 rfl) rfl
theorem q901 : (Jvm.Cond.code ({ cls := "ChairCane$Dinner", name := "dropsOf", desc := "(I)I" } : Jvm.MethodName) prog_5_method_14_code (4 : Nat) (Option.some Jvm.ClassFile.FieldType.int)) ∈ lw_all := lw_g (lw_at lw_m4 65 rfl) rfl
theorem q936 : (Jvm.Cond.instanceMethod ({ cls := "ChairCane$Dinner", name := "passesAll", desc := "(ILChairCane$Rule;)LChairCane$Dinner;" } : Jvm.MethodName)) ∈ lw_all := lw_g (lw_at lw_m4 100 rfl) rfl
theorem q937 : (Jvm.Cond.selects "ChairCane$Dinner" ({ cls := "ChairCane$Dinner", name := "passesAll", desc := "(ILChairCane$Rule;)LChairCane$Dinner;" } : Jvm.MethodName) ({ cls := "ChairCane$Dinner", name := "passesAll", desc := "(ILChairCane$Rule;)LChairCane$Dinner;" } : Jvm.MethodName)) ∈ lw_all := lw_g (lw_at lw_m4 101 rfl) rfl
theorem q938 : (Jvm.Cond.code ({ cls := "ChairCane$Dinner", name := "passesAll", desc := "(ILChairCane$Rule;)LChairCane$Dinner;" } : Jvm.MethodName) prog_5_method_18_code (4 : Nat) (Option.some (Jvm.ClassFile.FieldType.object "ChairCane$Dinner"))) ∈ lw_all := lw_g (lw_at lw_m4 102 rfl) rfl
theorem q939 : (Jvm.Cond.methodLink "ChairCane$Dinner" (121 : Nat) ({ cls := "ChairCane$Dinner", name := "passes", desc := "(LChairCane$Rule;)I" } : Jvm.MethodName)) ∈ lw_all := lw_g (lw_at lw_m4 103 rfl) rfl
theorem q1015 : (Jvm.Cond.instanceMethod ({ cls := "ChairCane$Dinner", name := "givesAll", desc := "()I" } : Jvm.MethodName)) ∈ lw_all := lw_g (lw_at lw_m4 179 rfl) rfl
theorem q1016 : (Jvm.Cond.selects "ChairCane$Dinner" ({ cls := "ChairCane$Dinner", name := "givesAll", desc := "()I" } : Jvm.MethodName) ({ cls := "ChairCane$Dinner", name := "givesAll", desc := "()I" } : Jvm.MethodName)) ∈ lw_all := lw_g (lw_at lw_m4 180 rfl) rfl
theorem q1017 : (Jvm.Cond.code ({ cls := "ChairCane$Dinner", name := "givesAll", desc := "()I" } : Jvm.MethodName) prog_5_method_13_code (3 : Nat) (Option.some Jvm.ClassFile.FieldType.int)) ∈ lw_all := lw_g (lw_at lw_m4 181 rfl) rfl
theorem in_X1 : ∀ w ∈ wsX10, w ∈ lw_all := lw_in wsX10 [199, 201, 203, 205, 207, 209, 211, 213, 215, 217, 219, 221, 223, 225, 227, 229, 231, 233] (by decide +kernel) (by decide +kernel)
