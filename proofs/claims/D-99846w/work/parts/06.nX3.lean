/-! ChairCaneModel -/
set_option maxRecDepth 100000
def RX3 : String := "ChairCaneModel"
def TX3 : u_T := fun k => match k with
  | 0 => ("ChairCaneModel", "thrown", "I", false)
  | 1 => ("ChairCaneModel", "scalar", "[I", true)
  | 2 => ("ChairCaneModel", "cane", "[I", true)
  | 3 => ("ChairCaneModel", "is", "[I", true)
  | 4 => ("ChairCaneModel", "strandOf", "[I", true)
  | 5 => ("ChairCaneModel", "weight", "[I", true)
  | 6 => ("ChairCaneModel", "height", "[I", true)
  | 7 => ("ChairCaneModel", "chairOf", "[I", true)
  | 8 => ("ChairCaneModel", "noteMinute", "[I", true)
  | 9 => ("ChairCaneModel", "noteWho", "[I", true)
  | 10 => ("ChairCaneModel", "noteIs", "[I", true)
  | 11 => ("ChairCaneModel", "toldCane", "[I", true)
  | 12 => ("ChairCaneModel", "newScalar", "[I", true)
  | 13 => ("ChairCaneModel", "newCane", "[I", true)
  | 14 => ("ChairCaneModel", "newHeight", "[I", true)
  | 15 => ("ChairCaneModel", "newStrand", "[I", true)
  | 16 => ("ChairCaneModel", "newChair", "[I", true)
  | 17 => ("ChairCaneModel", "newWeight", "[I", true)
  | 18 => ("ChairCaneModel", "taped", "I", false)
  | 19 => ("ChairCaneModel", "p", "I", false)
  | 20 => ("ChairCaneModel", "fault", "I", false)
  | 21 => ("ChairCaneModel", "slot", "I", false)
  | 22 => ("ChairCaneModel", "rules", "I", false)
  | 23 => ("ChairCaneModel", "entries", "I", false)
  | 24 => ("ChairCaneModel", "deep", "I", false)
  | 25 => ("ChairCaneModel", "counted", "I", false)
  | 26 => ("ChairCaneModel", "opened", "I", false)
  | 27 => ("ChairCaneModel", "words", "I", false)
  | 28 => ("ChairCaneModel", "tape", "[B", true)
  | 29 => ("ChairCaneModel", "sort", "[I", true)
  | 30 => ("ChairCaneModel", "number", "[I", true)
  | 31 => ("ChairCaneModel", "clauses", "[I", true)
  | 32 => ("ChairCaneModel", "sumAt", "[I", true)
  | 33 => ("ChairCaneModel", "testAt", "[I", true)
  | 34 => ("ChairCaneModel", "endAt", "[I", true)
  | 35 => ("ChairCaneModel", "open", "[I", true)
  | 36 => ("ChairCaneModel", "asked", "[J", true)
  | 37 => ("ChairCaneModel", "stack", "[J", true)
  | 38 => ("ChairCaneModel", "must", "[I", true)
  | 39 => ("ChairCaneModel", "past", "[I", true)
  | 40 => ("ChairCaneModel", "pastOf", "[I", true)
  | 41 => ("ChairCaneModel", "pastMany", "I", false)
  | 42 => ("ChairCaneModel", "pastAt", "I", false)
  | 43 => ("ChairCaneModel", "takesBack", "Z", false)
  | 44 => ("ChairCaneModel", "canRise", "[Z", true)
  | 45 => ("ChairCaneModel", "firstHas", "[I", true)
  | 46 => ("ChairCaneModel", "secondHas", "[I", true)
  | 47 => ("ChairCaneModel", "lay", "[I", true)
  | 48 => ("ChairCaneModel", "shows", "[I", true)
  | 49 => ("ChairCaneModel", "images", "[I", true)
  | 50 => ("ChairCaneModel", "isMade", "[Z", true)
  | 51 => ("ChairCaneModel", "imageAt", "I", false)
  | _ => ("ChairCaneModel", "goesBack", "Z", false)
def tyX3 : Nat → FieldType := fun k => match k with
  | 0 => .int
  | 1 => .array .int
  | 2 => .array .int
  | 3 => .array .int
  | 4 => .array .int
  | 5 => .array .int
  | 6 => .array .int
  | 7 => .array .int
  | 8 => .array .int
  | 9 => .array .int
  | 10 => .array .int
  | 11 => .array .int
  | 12 => .array .int
  | 13 => .array .int
  | 14 => .array .int
  | 15 => .array .int
  | 16 => .array .int
  | 17 => .array .int
  | 18 => .int
  | 19 => .int
  | 20 => .int
  | 21 => .int
  | 22 => .int
  | 23 => .int
  | 24 => .int
  | 25 => .int
  | 26 => .int
  | 27 => .int
  | 28 => .array .byte
  | 29 => .array .int
  | 30 => .array .int
  | 31 => .array .int
  | 32 => .array .int
  | 33 => .array .int
  | 34 => .array .int
  | 35 => .array .int
  | 36 => .array .long
  | 37 => .array .long
  | 38 => .array .int
  | 39 => .array .int
  | 40 => .array .int
  | 41 => .int
  | 42 => .int
  | 43 => .boolean
  | 44 => .array .boolean
  | 45 => .array .int
  | 46 => .array .int
  | 47 => .array .int
  | 48 => .array .int
  | 49 => .array .int
  | 50 => .array .boolean
  | 51 => .int
  | _ => .boolean
abbrev wsX30 : List Cond := u_ws RX3 TX3 53
set_option maxRecDepth 100000 in
theorem nmX3 : ∀ a, a < 53 → ∀ b, b < 53 → a ≠ b → (TX3 a).2.1 ≠ (TX3 b).2.1 := by decide +kernel
set_option maxRecDepth 100000 in
theorem tyX3_ok : ∀ k, k < 53 → parseFieldDescriptor (TX3 k).2.2.1 = some (tyX3 k) := by decide +kernel
abbrev cX3_init : ByteArray := prog_17_method_1_code
def yX3_init : MethodName := ⟨RX3, "<init>", "()V"⟩
def dkwX3_init_15 : List UInt8 := [16, 56, 188, 10, 181, 0, 119, 42, 17, 7, 208, 188, 10, 181, 0, 122, 42, 7, 188, 4, 181, 0, 125, 177]
abbrev dktX3_init_15 : List UInt8 := dkwX3_init_15 ++ []
def dkwX3_init_14 : List UInt8 := [42, 7, 188, 10, 181, 0, 110, 42, 7, 188, 10, 181, 0, 113, 42, 17, 1, 232, 188, 10, 181, 0, 116, 42]
abbrev dktX3_init_14 : List UInt8 := dkwX3_init_14 ++ dktX3_init_15
def dkwX3_init_13 : List UInt8 := [17, 1, 4, 188, 10, 181, 0, 100, 42, 4, 188, 10, 181, 0, 103, 42, 17, 1, 0, 188, 4, 181, 0, 106]
abbrev dktX3_init_13 : List UInt8 := dkwX3_init_13 ++ dktX3_init_14
def dkwX3_init_12 : List UInt8 := [89, 7, 2, 79, 89, 8, 2, 79, 89, 16, 6, 2, 79, 89, 16, 7, 2, 79, 181, 0, 97, 42]
abbrev dktX3_init_12 : List UInt8 := dkwX3_init_12 ++ dktX3_init_13
def dkwX3_init_11 : List UInt8 := [181, 0, 94, 42, 16, 8, 188, 10, 89, 3, 2, 79, 89, 4, 2, 79, 89, 5, 2, 79, 89, 6, 2, 79]
abbrev dktX3_init_11 : List UInt8 := dkwX3_init_11 ++ dktX3_init_12
def dkwX3_init_10 : List UInt8 := [17, 1, 146, 188, 10, 181, 0, 87, 42, 16, 11, 188, 11, 181, 0, 90, 42, 17, 1, 44, 188, 11]
abbrev dktX3_init_10 : List UInt8 := dkwX3_init_10 ++ dktX3_init_11
def dkwX3_init_9 : List UInt8 := [188, 10, 181, 0, 78, 42, 16, 72, 188, 10, 181, 0, 81, 42, 16, 72, 188, 10, 181, 0, 84, 42]
abbrev dktX3_init_9 : List UInt8 := dkwX3_init_9 ++ dktX3_init_10
def dkwX3_init_8 : List UInt8 := [181, 0, 69, 42, 17, 7, 8, 188, 10, 181, 0, 72, 42, 16, 6, 188, 10, 181, 0, 75, 42, 16, 72]
abbrev dktX3_init_8 : List UInt8 := dkwX3_init_8 ++ dktX3_init_9
def dkwX3_init_7 : List UInt8 := [181, 0, 58, 42, 16, 11, 181, 0, 61, 42, 17, 1, 144, 188, 8, 181, 0, 65, 42, 17, 7, 8, 188, 10]
abbrev dktX3_init_7 : List UInt8 := dkwX3_init_7 ++ dktX3_init_8
def dkwX3_init_6 : List UInt8 := [181, 0, 49, 42, 16, 8, 188, 10, 181, 0, 52, 42, 16, 8, 188, 10, 181, 0, 55, 42, 16, 8, 188, 10]
abbrev dktX3_init_6 : List UInt8 := dkwX3_init_6 ++ dktX3_init_7
def dkwX3_init_5 : List UInt8 := [188, 10, 181, 0, 40, 42, 7, 188, 10, 181, 0, 43, 42, 7, 188, 10, 181, 0, 46, 42, 16, 8, 188, 10]
abbrev dktX3_init_5 : List UInt8 := dkwX3_init_5 ++ dktX3_init_6
def dkwX3_init_4 : List UInt8 := [188, 10, 181, 0, 31, 42, 16, 10, 188, 10, 181, 0, 34, 42, 16, 10, 188, 10, 181, 0, 37, 42, 7]
abbrev dktX3_init_4 : List UInt8 := dkwX3_init_4 ++ dktX3_init_5
def dkwX3_init_3 : List UInt8 := [188, 10, 181, 0, 22, 42, 16, 8, 188, 10, 181, 0, 25, 42, 16, 8, 188, 10, 181, 0, 28, 42, 16, 10]
abbrev dktX3_init_3 : List UInt8 := dkwX3_init_3 ++ dktX3_init_4
def dkwX3_init_2 : List UInt8 := [188, 10, 181, 0, 13, 42, 16, 8, 188, 10, 181, 0, 16, 42, 16, 8, 188, 10, 181, 0, 19, 42, 16, 8]
abbrev dktX3_init_2 : List UInt8 := dkwX3_init_2 ++ dktX3_init_3
def dkwX3_init_1 : List UInt8 := [79, 89, 7, 3, 79, 89, 8, 3, 79, 89, 16, 6, 3, 79, 89, 16, 7, 2, 79, 181, 0, 9, 42, 7]
abbrev dktX3_init_1 : List UInt8 := dkwX3_init_1 ++ dktX3_init_2
def dkwX3_init_0 : List UInt8 := [42, 183, 0, 3, 42, 16, 8, 188, 10, 89, 3, 3, 79, 89, 4, 3, 79, 89, 5, 3, 79, 89, 6, 3]
abbrev dktX3_init_0 : List UInt8 := dkwX3_init_0 ++ dktX3_init_1
theorem dksX3_init_0 : cX3_init.data.toList.drop 0 = dktX3_init_0 := by decide +kernel
theorem dksX3_init_1 : cX3_init.data.toList.drop 24 = dktX3_init_1 := dk_seg dksX3_init_0 24 rfl rfl
theorem dksX3_init_2 : cX3_init.data.toList.drop 48 = dktX3_init_2 := dk_seg dksX3_init_1 24 rfl rfl
theorem dksX3_init_3 : cX3_init.data.toList.drop 72 = dktX3_init_3 := dk_seg dksX3_init_2 24 rfl rfl
theorem dksX3_init_4 : cX3_init.data.toList.drop 96 = dktX3_init_4 := dk_seg dksX3_init_3 24 rfl rfl
theorem dksX3_init_5 : cX3_init.data.toList.drop 119 = dktX3_init_5 := dk_seg dksX3_init_4 23 rfl rfl
theorem dksX3_init_6 : cX3_init.data.toList.drop 143 = dktX3_init_6 := dk_seg dksX3_init_5 24 rfl rfl
theorem dksX3_init_7 : cX3_init.data.toList.drop 167 = dktX3_init_7 := dk_seg dksX3_init_6 24 rfl rfl
theorem dksX3_init_8 : cX3_init.data.toList.drop 191 = dktX3_init_8 := dk_seg dksX3_init_7 24 rfl rfl
theorem dksX3_init_9 : cX3_init.data.toList.drop 214 = dktX3_init_9 := dk_seg dksX3_init_8 23 rfl rfl
theorem dksX3_init_10 : cX3_init.data.toList.drop 236 = dktX3_init_10 := dk_seg dksX3_init_9 22 rfl rfl
theorem dksX3_init_11 : cX3_init.data.toList.drop 258 = dktX3_init_11 := dk_seg dksX3_init_10 22 rfl rfl
theorem dksX3_init_12 : cX3_init.data.toList.drop 282 = dktX3_init_12 := dk_seg dksX3_init_11 24 rfl rfl
theorem dksX3_init_13 : cX3_init.data.toList.drop 304 = dktX3_init_13 := dk_seg dksX3_init_12 22 rfl rfl
theorem dksX3_init_14 : cX3_init.data.toList.drop 328 = dktX3_init_14 := dk_seg dksX3_init_13 24 rfl rfl
theorem dksX3_init_15 : cX3_init.data.toList.drop 352 = dktX3_init_15 := dk_seg dksX3_init_14 24 rfl rfl
theorem dX3_init_0 : decode cX3_init 0 = .ok (.aload_n 0, 1) := dk_42 (dk_at dksX3_init_0 0 rfl rfl)
theorem dX3_init_1 : decode cX3_init 1 = .ok (.invokespecial 3, 3) := dk_183 0 3 (dk_at dksX3_init_0 1 rfl rfl)
theorem dX3_init_4 : decode cX3_init 4 = .ok (.aload_n 0, 1) := dk_42 (dk_at dksX3_init_0 4 rfl rfl)
theorem dX3_init_5 : decode cX3_init 5 = .ok (.bipush 8, 2) := dk_16 8 (dk_at dksX3_init_0 5 rfl rfl)
theorem dX3_init_7 : decode cX3_init 7 = .ok (.newarray .int, 2) := dk_188_10 (dk_at dksX3_init_0 7 rfl rfl)
theorem dX3_init_9 : decode cX3_init 9 = .ok (.dup, 1) := dk_89 (dk_at dksX3_init_0 9 rfl rfl)
theorem dX3_init_10 : decode cX3_init 10 = .ok (.iconst 0, 1) := dk_3 (dk_at dksX3_init_0 10 rfl rfl)
theorem dX3_init_11 : decode cX3_init 11 = .ok (.iconst 0, 1) := dk_3 (dk_at dksX3_init_0 11 rfl rfl)
theorem dX3_init_12 : decode cX3_init 12 = .ok (.iastore, 1) := dk_79 (dk_at dksX3_init_0 12 rfl rfl)
theorem dX3_init_13 : decode cX3_init 13 = .ok (.dup, 1) := dk_89 (dk_at dksX3_init_0 13 rfl rfl)
theorem dX3_init_14 : decode cX3_init 14 = .ok (.iconst 1, 1) := dk_4 (dk_at dksX3_init_0 14 rfl rfl)
theorem dX3_init_15 : decode cX3_init 15 = .ok (.iconst 0, 1) := dk_3 (dk_at dksX3_init_0 15 rfl rfl)
theorem dX3_init_16 : decode cX3_init 16 = .ok (.iastore, 1) := dk_79 (dk_at dksX3_init_0 16 rfl rfl)
theorem dX3_init_17 : decode cX3_init 17 = .ok (.dup, 1) := dk_89 (dk_at dksX3_init_0 17 rfl rfl)
theorem dX3_init_18 : decode cX3_init 18 = .ok (.iconst 2, 1) := dk_5 (dk_at dksX3_init_0 18 rfl rfl)
theorem dX3_init_19 : decode cX3_init 19 = .ok (.iconst 0, 1) := dk_3 (dk_at dksX3_init_0 19 rfl rfl)
theorem dX3_init_20 : decode cX3_init 20 = .ok (.iastore, 1) := dk_79 (dk_at dksX3_init_0 20 rfl rfl)
theorem dX3_init_21 : decode cX3_init 21 = .ok (.dup, 1) := dk_89 (dk_at dksX3_init_0 21 rfl rfl)
theorem dX3_init_22 : decode cX3_init 22 = .ok (.iconst 3, 1) := dk_6 (dk_at dksX3_init_0 22 rfl rfl)
theorem dX3_init_23 : decode cX3_init 23 = .ok (.iconst 0, 1) := dk_3 (dk_at dksX3_init_0 23 rfl rfl)
theorem dX3_init_24 : decode cX3_init 24 = .ok (.iastore, 1) := dk_79 (dk_at dksX3_init_1 0 rfl rfl)
theorem dX3_init_25 : decode cX3_init 25 = .ok (.dup, 1) := dk_89 (dk_at dksX3_init_1 1 rfl rfl)
theorem dX3_init_26 : decode cX3_init 26 = .ok (.iconst 4, 1) := dk_7 (dk_at dksX3_init_1 2 rfl rfl)
theorem dX3_init_27 : decode cX3_init 27 = .ok (.iconst 0, 1) := dk_3 (dk_at dksX3_init_1 3 rfl rfl)
theorem dX3_init_28 : decode cX3_init 28 = .ok (.iastore, 1) := dk_79 (dk_at dksX3_init_1 4 rfl rfl)
theorem dX3_init_29 : decode cX3_init 29 = .ok (.dup, 1) := dk_89 (dk_at dksX3_init_1 5 rfl rfl)
theorem dX3_init_30 : decode cX3_init 30 = .ok (.iconst 5, 1) := dk_8 (dk_at dksX3_init_1 6 rfl rfl)
theorem dX3_init_31 : decode cX3_init 31 = .ok (.iconst 0, 1) := dk_3 (dk_at dksX3_init_1 7 rfl rfl)
theorem dX3_init_32 : decode cX3_init 32 = .ok (.iastore, 1) := dk_79 (dk_at dksX3_init_1 8 rfl rfl)
theorem dX3_init_33 : decode cX3_init 33 = .ok (.dup, 1) := dk_89 (dk_at dksX3_init_1 9 rfl rfl)
theorem dX3_init_34 : decode cX3_init 34 = .ok (.bipush 6, 2) := dk_16 6 (dk_at dksX3_init_1 10 rfl rfl)
theorem dX3_init_36 : decode cX3_init 36 = .ok (.iconst 0, 1) := dk_3 (dk_at dksX3_init_1 12 rfl rfl)
theorem dX3_init_37 : decode cX3_init 37 = .ok (.iastore, 1) := dk_79 (dk_at dksX3_init_1 13 rfl rfl)
theorem dX3_init_38 : decode cX3_init 38 = .ok (.dup, 1) := dk_89 (dk_at dksX3_init_1 14 rfl rfl)
theorem dX3_init_39 : decode cX3_init 39 = .ok (.bipush 7, 2) := dk_16 7 (dk_at dksX3_init_1 15 rfl rfl)
theorem dX3_init_41 : decode cX3_init 41 = .ok (.iconst (-1), 1) := dk_2 (dk_at dksX3_init_1 17 rfl rfl)
theorem dX3_init_42 : decode cX3_init 42 = .ok (.iastore, 1) := dk_79 (dk_at dksX3_init_1 18 rfl rfl)
theorem dX3_init_43 : decode cX3_init 43 = .ok (.putfield 9, 3) := dk_181 0 9 (dk_at dksX3_init_1 19 rfl rfl)
theorem dX3_init_46 : decode cX3_init 46 = .ok (.aload_n 0, 1) := dk_42 (dk_at dksX3_init_1 22 rfl rfl)
theorem dX3_init_47 : decode cX3_init 47 = .ok (.iconst 4, 1) := dk_7 (dk_at dksX3_init_1 23 rfl rfl)
theorem dX3_init_48 : decode cX3_init 48 = .ok (.newarray .int, 2) := dk_188_10 (dk_at dksX3_init_2 0 rfl rfl)
theorem dX3_init_50 : decode cX3_init 50 = .ok (.putfield 13, 3) := dk_181 0 13 (dk_at dksX3_init_2 2 rfl rfl)
theorem dX3_init_53 : decode cX3_init 53 = .ok (.aload_n 0, 1) := dk_42 (dk_at dksX3_init_2 5 rfl rfl)
theorem dX3_init_54 : decode cX3_init 54 = .ok (.bipush 8, 2) := dk_16 8 (dk_at dksX3_init_2 6 rfl rfl)
theorem dX3_init_56 : decode cX3_init 56 = .ok (.newarray .int, 2) := dk_188_10 (dk_at dksX3_init_2 8 rfl rfl)
theorem dX3_init_58 : decode cX3_init 58 = .ok (.putfield 16, 3) := dk_181 0 16 (dk_at dksX3_init_2 10 rfl rfl)
theorem dX3_init_61 : decode cX3_init 61 = .ok (.aload_n 0, 1) := dk_42 (dk_at dksX3_init_2 13 rfl rfl)
theorem dX3_init_62 : decode cX3_init 62 = .ok (.bipush 8, 2) := dk_16 8 (dk_at dksX3_init_2 14 rfl rfl)
theorem dX3_init_64 : decode cX3_init 64 = .ok (.newarray .int, 2) := dk_188_10 (dk_at dksX3_init_2 16 rfl rfl)
theorem dX3_init_66 : decode cX3_init 66 = .ok (.putfield 19, 3) := dk_181 0 19 (dk_at dksX3_init_2 18 rfl rfl)
theorem dX3_init_69 : decode cX3_init 69 = .ok (.aload_n 0, 1) := dk_42 (dk_at dksX3_init_2 21 rfl rfl)
theorem dX3_init_70 : decode cX3_init 70 = .ok (.bipush 8, 2) := dk_16 8 (dk_at dksX3_init_2 22 rfl rfl)
theorem dX3_init_72 : decode cX3_init 72 = .ok (.newarray .int, 2) := dk_188_10 (dk_at dksX3_init_3 0 rfl rfl)
theorem dX3_init_74 : decode cX3_init 74 = .ok (.putfield 22, 3) := dk_181 0 22 (dk_at dksX3_init_3 2 rfl rfl)
theorem dX3_init_77 : decode cX3_init 77 = .ok (.aload_n 0, 1) := dk_42 (dk_at dksX3_init_3 5 rfl rfl)
theorem dX3_init_78 : decode cX3_init 78 = .ok (.bipush 8, 2) := dk_16 8 (dk_at dksX3_init_3 6 rfl rfl)
theorem dX3_init_80 : decode cX3_init 80 = .ok (.newarray .int, 2) := dk_188_10 (dk_at dksX3_init_3 8 rfl rfl)
theorem dX3_init_82 : decode cX3_init 82 = .ok (.putfield 25, 3) := dk_181 0 25 (dk_at dksX3_init_3 10 rfl rfl)
theorem dX3_init_85 : decode cX3_init 85 = .ok (.aload_n 0, 1) := dk_42 (dk_at dksX3_init_3 13 rfl rfl)
theorem dX3_init_86 : decode cX3_init 86 = .ok (.bipush 8, 2) := dk_16 8 (dk_at dksX3_init_3 14 rfl rfl)
theorem dX3_init_88 : decode cX3_init 88 = .ok (.newarray .int, 2) := dk_188_10 (dk_at dksX3_init_3 16 rfl rfl)
theorem dX3_init_90 : decode cX3_init 90 = .ok (.putfield 28, 3) := dk_181 0 28 (dk_at dksX3_init_3 18 rfl rfl)
theorem dX3_init_93 : decode cX3_init 93 = .ok (.aload_n 0, 1) := dk_42 (dk_at dksX3_init_3 21 rfl rfl)
theorem dX3_init_94 : decode cX3_init 94 = .ok (.bipush 10, 2) := dk_16 10 (dk_at dksX3_init_3 22 rfl rfl)
theorem dX3_init_96 : decode cX3_init 96 = .ok (.newarray .int, 2) := dk_188_10 (dk_at dksX3_init_4 0 rfl rfl)
theorem dX3_init_98 : decode cX3_init 98 = .ok (.putfield 31, 3) := dk_181 0 31 (dk_at dksX3_init_4 2 rfl rfl)
theorem dX3_init_101 : decode cX3_init 101 = .ok (.aload_n 0, 1) := dk_42 (dk_at dksX3_init_4 5 rfl rfl)
theorem dX3_init_102 : decode cX3_init 102 = .ok (.bipush 10, 2) := dk_16 10 (dk_at dksX3_init_4 6 rfl rfl)
theorem dX3_init_104 : decode cX3_init 104 = .ok (.newarray .int, 2) := dk_188_10 (dk_at dksX3_init_4 8 rfl rfl)
theorem dX3_init_106 : decode cX3_init 106 = .ok (.putfield 34, 3) := dk_181 0 34 (dk_at dksX3_init_4 10 rfl rfl)
theorem dX3_init_109 : decode cX3_init 109 = .ok (.aload_n 0, 1) := dk_42 (dk_at dksX3_init_4 13 rfl rfl)
theorem dX3_init_110 : decode cX3_init 110 = .ok (.bipush 10, 2) := dk_16 10 (dk_at dksX3_init_4 14 rfl rfl)
theorem dX3_init_112 : decode cX3_init 112 = .ok (.newarray .int, 2) := dk_188_10 (dk_at dksX3_init_4 16 rfl rfl)
theorem dX3_init_114 : decode cX3_init 114 = .ok (.putfield 37, 3) := dk_181 0 37 (dk_at dksX3_init_4 18 rfl rfl)
theorem dX3_init_117 : decode cX3_init 117 = .ok (.aload_n 0, 1) := dk_42 (dk_at dksX3_init_4 21 rfl rfl)
theorem dX3_init_118 : decode cX3_init 118 = .ok (.iconst 4, 1) := dk_7 (dk_at dksX3_init_4 22 rfl rfl)
theorem dX3_init_119 : decode cX3_init 119 = .ok (.newarray .int, 2) := dk_188_10 (dk_at dksX3_init_5 0 rfl rfl)
theorem dX3_init_121 : decode cX3_init 121 = .ok (.putfield 40, 3) := dk_181 0 40 (dk_at dksX3_init_5 2 rfl rfl)
theorem dX3_init_124 : decode cX3_init 124 = .ok (.aload_n 0, 1) := dk_42 (dk_at dksX3_init_5 5 rfl rfl)
theorem dX3_init_125 : decode cX3_init 125 = .ok (.iconst 4, 1) := dk_7 (dk_at dksX3_init_5 6 rfl rfl)
theorem dX3_init_126 : decode cX3_init 126 = .ok (.newarray .int, 2) := dk_188_10 (dk_at dksX3_init_5 7 rfl rfl)
theorem dX3_init_128 : decode cX3_init 128 = .ok (.putfield 43, 3) := dk_181 0 43 (dk_at dksX3_init_5 9 rfl rfl)
theorem dX3_init_131 : decode cX3_init 131 = .ok (.aload_n 0, 1) := dk_42 (dk_at dksX3_init_5 12 rfl rfl)
theorem dX3_init_132 : decode cX3_init 132 = .ok (.iconst 4, 1) := dk_7 (dk_at dksX3_init_5 13 rfl rfl)
theorem dX3_init_133 : decode cX3_init 133 = .ok (.newarray .int, 2) := dk_188_10 (dk_at dksX3_init_5 14 rfl rfl)
theorem dX3_init_135 : decode cX3_init 135 = .ok (.putfield 46, 3) := dk_181 0 46 (dk_at dksX3_init_5 16 rfl rfl)
theorem dX3_init_138 : decode cX3_init 138 = .ok (.aload_n 0, 1) := dk_42 (dk_at dksX3_init_5 19 rfl rfl)
theorem dX3_init_139 : decode cX3_init 139 = .ok (.bipush 8, 2) := dk_16 8 (dk_at dksX3_init_5 20 rfl rfl)
theorem dX3_init_141 : decode cX3_init 141 = .ok (.newarray .int, 2) := dk_188_10 (dk_at dksX3_init_5 22 rfl rfl)
theorem dX3_init_143 : decode cX3_init 143 = .ok (.putfield 49, 3) := dk_181 0 49 (dk_at dksX3_init_6 0 rfl rfl)
theorem dX3_init_146 : decode cX3_init 146 = .ok (.aload_n 0, 1) := dk_42 (dk_at dksX3_init_6 3 rfl rfl)
theorem dX3_init_147 : decode cX3_init 147 = .ok (.bipush 8, 2) := dk_16 8 (dk_at dksX3_init_6 4 rfl rfl)
theorem dX3_init_149 : decode cX3_init 149 = .ok (.newarray .int, 2) := dk_188_10 (dk_at dksX3_init_6 6 rfl rfl)
theorem dX3_init_151 : decode cX3_init 151 = .ok (.putfield 52, 3) := dk_181 0 52 (dk_at dksX3_init_6 8 rfl rfl)
theorem dX3_init_154 : decode cX3_init 154 = .ok (.aload_n 0, 1) := dk_42 (dk_at dksX3_init_6 11 rfl rfl)
theorem dX3_init_155 : decode cX3_init 155 = .ok (.bipush 8, 2) := dk_16 8 (dk_at dksX3_init_6 12 rfl rfl)
theorem dX3_init_157 : decode cX3_init 157 = .ok (.newarray .int, 2) := dk_188_10 (dk_at dksX3_init_6 14 rfl rfl)
theorem dX3_init_159 : decode cX3_init 159 = .ok (.putfield 55, 3) := dk_181 0 55 (dk_at dksX3_init_6 16 rfl rfl)
theorem dX3_init_162 : decode cX3_init 162 = .ok (.aload_n 0, 1) := dk_42 (dk_at dksX3_init_6 19 rfl rfl)
theorem dX3_init_163 : decode cX3_init 163 = .ok (.bipush 8, 2) := dk_16 8 (dk_at dksX3_init_6 20 rfl rfl)
theorem dX3_init_165 : decode cX3_init 165 = .ok (.newarray .int, 2) := dk_188_10 (dk_at dksX3_init_6 22 rfl rfl)
theorem dX3_init_167 : decode cX3_init 167 = .ok (.putfield 58, 3) := dk_181 0 58 (dk_at dksX3_init_7 0 rfl rfl)
theorem dX3_init_170 : decode cX3_init 170 = .ok (.aload_n 0, 1) := dk_42 (dk_at dksX3_init_7 3 rfl rfl)
theorem dX3_init_171 : decode cX3_init 171 = .ok (.bipush 11, 2) := dk_16 11 (dk_at dksX3_init_7 4 rfl rfl)
theorem dX3_init_173 : decode cX3_init 173 = .ok (.putfield 61, 3) := dk_181 0 61 (dk_at dksX3_init_7 6 rfl rfl)
theorem dX3_init_176 : decode cX3_init 176 = .ok (.aload_n 0, 1) := dk_42 (dk_at dksX3_init_7 9 rfl rfl)
theorem dX3_init_177 : decode cX3_init 177 = .ok (.sipush 400, 3) := dk_17 1 144 (dk_at dksX3_init_7 10 rfl rfl)
theorem dX3_init_180 : decode cX3_init 180 = .ok (.newarray .byte, 2) := dk_188_8 (dk_at dksX3_init_7 13 rfl rfl)
theorem dX3_init_182 : decode cX3_init 182 = .ok (.putfield 65, 3) := dk_181 0 65 (dk_at dksX3_init_7 15 rfl rfl)
theorem dX3_init_185 : decode cX3_init 185 = .ok (.aload_n 0, 1) := dk_42 (dk_at dksX3_init_7 18 rfl rfl)
theorem dX3_init_186 : decode cX3_init 186 = .ok (.sipush 1800, 3) := dk_17 7 8 (dk_at dksX3_init_7 19 rfl rfl)
theorem dX3_init_189 : decode cX3_init 189 = .ok (.newarray .int, 2) := dk_188_10 (dk_at dksX3_init_7 22 rfl rfl)
theorem dX3_init_191 : decode cX3_init 191 = .ok (.putfield 69, 3) := dk_181 0 69 (dk_at dksX3_init_8 0 rfl rfl)
theorem dX3_init_194 : decode cX3_init 194 = .ok (.aload_n 0, 1) := dk_42 (dk_at dksX3_init_8 3 rfl rfl)
theorem dX3_init_195 : decode cX3_init 195 = .ok (.sipush 1800, 3) := dk_17 7 8 (dk_at dksX3_init_8 4 rfl rfl)
theorem dX3_init_198 : decode cX3_init 198 = .ok (.newarray .int, 2) := dk_188_10 (dk_at dksX3_init_8 7 rfl rfl)
theorem dX3_init_200 : decode cX3_init 200 = .ok (.putfield 72, 3) := dk_181 0 72 (dk_at dksX3_init_8 9 rfl rfl)
theorem dX3_init_203 : decode cX3_init 203 = .ok (.aload_n 0, 1) := dk_42 (dk_at dksX3_init_8 12 rfl rfl)
theorem dX3_init_204 : decode cX3_init 204 = .ok (.bipush 6, 2) := dk_16 6 (dk_at dksX3_init_8 13 rfl rfl)
theorem dX3_init_206 : decode cX3_init 206 = .ok (.newarray .int, 2) := dk_188_10 (dk_at dksX3_init_8 15 rfl rfl)
theorem dX3_init_208 : decode cX3_init 208 = .ok (.putfield 75, 3) := dk_181 0 75 (dk_at dksX3_init_8 17 rfl rfl)
theorem dX3_init_211 : decode cX3_init 211 = .ok (.aload_n 0, 1) := dk_42 (dk_at dksX3_init_8 20 rfl rfl)
theorem dX3_init_212 : decode cX3_init 212 = .ok (.bipush 72, 2) := dk_16 72 (dk_at dksX3_init_8 21 rfl rfl)
theorem dX3_init_214 : decode cX3_init 214 = .ok (.newarray .int, 2) := dk_188_10 (dk_at dksX3_init_9 0 rfl rfl)
theorem dX3_init_216 : decode cX3_init 216 = .ok (.putfield 78, 3) := dk_181 0 78 (dk_at dksX3_init_9 2 rfl rfl)
theorem dX3_init_219 : decode cX3_init 219 = .ok (.aload_n 0, 1) := dk_42 (dk_at dksX3_init_9 5 rfl rfl)
theorem dX3_init_220 : decode cX3_init 220 = .ok (.bipush 72, 2) := dk_16 72 (dk_at dksX3_init_9 6 rfl rfl)
theorem dX3_init_222 : decode cX3_init 222 = .ok (.newarray .int, 2) := dk_188_10 (dk_at dksX3_init_9 8 rfl rfl)
theorem dX3_init_224 : decode cX3_init 224 = .ok (.putfield 81, 3) := dk_181 0 81 (dk_at dksX3_init_9 10 rfl rfl)
theorem dX3_init_227 : decode cX3_init 227 = .ok (.aload_n 0, 1) := dk_42 (dk_at dksX3_init_9 13 rfl rfl)
theorem dX3_init_228 : decode cX3_init 228 = .ok (.bipush 72, 2) := dk_16 72 (dk_at dksX3_init_9 14 rfl rfl)
theorem dX3_init_230 : decode cX3_init 230 = .ok (.newarray .int, 2) := dk_188_10 (dk_at dksX3_init_9 16 rfl rfl)
theorem dX3_init_232 : decode cX3_init 232 = .ok (.putfield 84, 3) := dk_181 0 84 (dk_at dksX3_init_9 18 rfl rfl)
theorem dX3_init_235 : decode cX3_init 235 = .ok (.aload_n 0, 1) := dk_42 (dk_at dksX3_init_9 21 rfl rfl)
theorem dX3_init_236 : decode cX3_init 236 = .ok (.sipush 402, 3) := dk_17 1 146 (dk_at dksX3_init_10 0 rfl rfl)
theorem dX3_init_239 : decode cX3_init 239 = .ok (.newarray .int, 2) := dk_188_10 (dk_at dksX3_init_10 3 rfl rfl)
theorem dX3_init_241 : decode cX3_init 241 = .ok (.putfield 87, 3) := dk_181 0 87 (dk_at dksX3_init_10 5 rfl rfl)
theorem dX3_init_244 : decode cX3_init 244 = .ok (.aload_n 0, 1) := dk_42 (dk_at dksX3_init_10 8 rfl rfl)
theorem dX3_init_245 : decode cX3_init 245 = .ok (.bipush 11, 2) := dk_16 11 (dk_at dksX3_init_10 9 rfl rfl)
theorem dX3_init_247 : decode cX3_init 247 = .ok (.newarray .long, 2) := dk_188_11 (dk_at dksX3_init_10 11 rfl rfl)
theorem dX3_init_249 : decode cX3_init 249 = .ok (.putfield 90, 3) := dk_181 0 90 (dk_at dksX3_init_10 13 rfl rfl)
theorem dX3_init_252 : decode cX3_init 252 = .ok (.aload_n 0, 1) := dk_42 (dk_at dksX3_init_10 16 rfl rfl)
theorem dX3_init_253 : decode cX3_init 253 = .ok (.sipush 300, 3) := dk_17 1 44 (dk_at dksX3_init_10 17 rfl rfl)
theorem dX3_init_256 : decode cX3_init 256 = .ok (.newarray .long, 2) := dk_188_11 (dk_at dksX3_init_10 20 rfl rfl)
theorem dX3_init_258 : decode cX3_init 258 = .ok (.putfield 94, 3) := dk_181 0 94 (dk_at dksX3_init_11 0 rfl rfl)
theorem dX3_init_261 : decode cX3_init 261 = .ok (.aload_n 0, 1) := dk_42 (dk_at dksX3_init_11 3 rfl rfl)
theorem dX3_init_262 : decode cX3_init 262 = .ok (.bipush 8, 2) := dk_16 8 (dk_at dksX3_init_11 4 rfl rfl)
theorem dX3_init_264 : decode cX3_init 264 = .ok (.newarray .int, 2) := dk_188_10 (dk_at dksX3_init_11 6 rfl rfl)
theorem dX3_init_266 : decode cX3_init 266 = .ok (.dup, 1) := dk_89 (dk_at dksX3_init_11 8 rfl rfl)
theorem dX3_init_267 : decode cX3_init 267 = .ok (.iconst 0, 1) := dk_3 (dk_at dksX3_init_11 9 rfl rfl)
theorem dX3_init_268 : decode cX3_init 268 = .ok (.iconst (-1), 1) := dk_2 (dk_at dksX3_init_11 10 rfl rfl)
theorem dX3_init_269 : decode cX3_init 269 = .ok (.iastore, 1) := dk_79 (dk_at dksX3_init_11 11 rfl rfl)
theorem dX3_init_270 : decode cX3_init 270 = .ok (.dup, 1) := dk_89 (dk_at dksX3_init_11 12 rfl rfl)
theorem dX3_init_271 : decode cX3_init 271 = .ok (.iconst 1, 1) := dk_4 (dk_at dksX3_init_11 13 rfl rfl)
theorem dX3_init_272 : decode cX3_init 272 = .ok (.iconst (-1), 1) := dk_2 (dk_at dksX3_init_11 14 rfl rfl)
theorem dX3_init_273 : decode cX3_init 273 = .ok (.iastore, 1) := dk_79 (dk_at dksX3_init_11 15 rfl rfl)
theorem dX3_init_274 : decode cX3_init 274 = .ok (.dup, 1) := dk_89 (dk_at dksX3_init_11 16 rfl rfl)
theorem dX3_init_275 : decode cX3_init 275 = .ok (.iconst 2, 1) := dk_5 (dk_at dksX3_init_11 17 rfl rfl)
theorem dX3_init_276 : decode cX3_init 276 = .ok (.iconst (-1), 1) := dk_2 (dk_at dksX3_init_11 18 rfl rfl)
theorem dX3_init_277 : decode cX3_init 277 = .ok (.iastore, 1) := dk_79 (dk_at dksX3_init_11 19 rfl rfl)
theorem dX3_init_278 : decode cX3_init 278 = .ok (.dup, 1) := dk_89 (dk_at dksX3_init_11 20 rfl rfl)
theorem dX3_init_279 : decode cX3_init 279 = .ok (.iconst 3, 1) := dk_6 (dk_at dksX3_init_11 21 rfl rfl)
theorem dX3_init_280 : decode cX3_init 280 = .ok (.iconst (-1), 1) := dk_2 (dk_at dksX3_init_11 22 rfl rfl)
theorem dX3_init_281 : decode cX3_init 281 = .ok (.iastore, 1) := dk_79 (dk_at dksX3_init_11 23 rfl rfl)
theorem dX3_init_282 : decode cX3_init 282 = .ok (.dup, 1) := dk_89 (dk_at dksX3_init_12 0 rfl rfl)
theorem dX3_init_283 : decode cX3_init 283 = .ok (.iconst 4, 1) := dk_7 (dk_at dksX3_init_12 1 rfl rfl)
theorem dX3_init_284 : decode cX3_init 284 = .ok (.iconst (-1), 1) := dk_2 (dk_at dksX3_init_12 2 rfl rfl)
theorem dX3_init_285 : decode cX3_init 285 = .ok (.iastore, 1) := dk_79 (dk_at dksX3_init_12 3 rfl rfl)
theorem dX3_init_286 : decode cX3_init 286 = .ok (.dup, 1) := dk_89 (dk_at dksX3_init_12 4 rfl rfl)
theorem dX3_init_287 : decode cX3_init 287 = .ok (.iconst 5, 1) := dk_8 (dk_at dksX3_init_12 5 rfl rfl)
theorem dX3_init_288 : decode cX3_init 288 = .ok (.iconst (-1), 1) := dk_2 (dk_at dksX3_init_12 6 rfl rfl)
theorem dX3_init_289 : decode cX3_init 289 = .ok (.iastore, 1) := dk_79 (dk_at dksX3_init_12 7 rfl rfl)
theorem dX3_init_290 : decode cX3_init 290 = .ok (.dup, 1) := dk_89 (dk_at dksX3_init_12 8 rfl rfl)
theorem dX3_init_291 : decode cX3_init 291 = .ok (.bipush 6, 2) := dk_16 6 (dk_at dksX3_init_12 9 rfl rfl)
theorem dX3_init_293 : decode cX3_init 293 = .ok (.iconst (-1), 1) := dk_2 (dk_at dksX3_init_12 11 rfl rfl)
theorem dX3_init_294 : decode cX3_init 294 = .ok (.iastore, 1) := dk_79 (dk_at dksX3_init_12 12 rfl rfl)
theorem dX3_init_295 : decode cX3_init 295 = .ok (.dup, 1) := dk_89 (dk_at dksX3_init_12 13 rfl rfl)
theorem dX3_init_296 : decode cX3_init 296 = .ok (.bipush 7, 2) := dk_16 7 (dk_at dksX3_init_12 14 rfl rfl)
theorem dX3_init_298 : decode cX3_init 298 = .ok (.iconst (-1), 1) := dk_2 (dk_at dksX3_init_12 16 rfl rfl)
theorem dX3_init_299 : decode cX3_init 299 = .ok (.iastore, 1) := dk_79 (dk_at dksX3_init_12 17 rfl rfl)
theorem dX3_init_300 : decode cX3_init 300 = .ok (.putfield 97, 3) := dk_181 0 97 (dk_at dksX3_init_12 18 rfl rfl)
theorem dX3_init_303 : decode cX3_init 303 = .ok (.aload_n 0, 1) := dk_42 (dk_at dksX3_init_12 21 rfl rfl)
theorem dX3_init_304 : decode cX3_init 304 = .ok (.sipush 260, 3) := dk_17 1 4 (dk_at dksX3_init_13 0 rfl rfl)
theorem dX3_init_307 : decode cX3_init 307 = .ok (.newarray .int, 2) := dk_188_10 (dk_at dksX3_init_13 3 rfl rfl)
theorem dX3_init_309 : decode cX3_init 309 = .ok (.putfield 100, 3) := dk_181 0 100 (dk_at dksX3_init_13 5 rfl rfl)
theorem dX3_init_312 : decode cX3_init 312 = .ok (.aload_n 0, 1) := dk_42 (dk_at dksX3_init_13 8 rfl rfl)
theorem dX3_init_313 : decode cX3_init 313 = .ok (.iconst 1, 1) := dk_4 (dk_at dksX3_init_13 9 rfl rfl)
theorem dX3_init_314 : decode cX3_init 314 = .ok (.newarray .int, 2) := dk_188_10 (dk_at dksX3_init_13 10 rfl rfl)
theorem dX3_init_316 : decode cX3_init 316 = .ok (.putfield 103, 3) := dk_181 0 103 (dk_at dksX3_init_13 12 rfl rfl)
theorem dX3_init_319 : decode cX3_init 319 = .ok (.aload_n 0, 1) := dk_42 (dk_at dksX3_init_13 15 rfl rfl)
theorem dX3_init_320 : decode cX3_init 320 = .ok (.sipush 256, 3) := dk_17 1 0 (dk_at dksX3_init_13 16 rfl rfl)
theorem dX3_init_323 : decode cX3_init 323 = .ok (.newarray .boolean, 2) := dk_188_4 (dk_at dksX3_init_13 19 rfl rfl)
theorem dX3_init_325 : decode cX3_init 325 = .ok (.putfield 106, 3) := dk_181 0 106 (dk_at dksX3_init_13 21 rfl rfl)
theorem dX3_init_328 : decode cX3_init 328 = .ok (.aload_n 0, 1) := dk_42 (dk_at dksX3_init_14 0 rfl rfl)
theorem dX3_init_329 : decode cX3_init 329 = .ok (.iconst 4, 1) := dk_7 (dk_at dksX3_init_14 1 rfl rfl)
theorem dX3_init_330 : decode cX3_init 330 = .ok (.newarray .int, 2) := dk_188_10 (dk_at dksX3_init_14 2 rfl rfl)
theorem dX3_init_332 : decode cX3_init 332 = .ok (.putfield 110, 3) := dk_181 0 110 (dk_at dksX3_init_14 4 rfl rfl)
theorem dX3_init_335 : decode cX3_init 335 = .ok (.aload_n 0, 1) := dk_42 (dk_at dksX3_init_14 7 rfl rfl)
theorem dX3_init_336 : decode cX3_init 336 = .ok (.iconst 4, 1) := dk_7 (dk_at dksX3_init_14 8 rfl rfl)
theorem dX3_init_337 : decode cX3_init 337 = .ok (.newarray .int, 2) := dk_188_10 (dk_at dksX3_init_14 9 rfl rfl)
theorem dX3_init_339 : decode cX3_init 339 = .ok (.putfield 113, 3) := dk_181 0 113 (dk_at dksX3_init_14 11 rfl rfl)
theorem dX3_init_342 : decode cX3_init 342 = .ok (.aload_n 0, 1) := dk_42 (dk_at dksX3_init_14 14 rfl rfl)
theorem dX3_init_343 : decode cX3_init 343 = .ok (.sipush 488, 3) := dk_17 1 232 (dk_at dksX3_init_14 15 rfl rfl)
theorem dX3_init_346 : decode cX3_init 346 = .ok (.newarray .int, 2) := dk_188_10 (dk_at dksX3_init_14 18 rfl rfl)
theorem dX3_init_348 : decode cX3_init 348 = .ok (.putfield 116, 3) := dk_181 0 116 (dk_at dksX3_init_14 20 rfl rfl)
theorem dX3_init_351 : decode cX3_init 351 = .ok (.aload_n 0, 1) := dk_42 (dk_at dksX3_init_14 23 rfl rfl)
theorem dX3_init_352 : decode cX3_init 352 = .ok (.bipush 56, 2) := dk_16 56 (dk_at dksX3_init_15 0 rfl rfl)
theorem dX3_init_354 : decode cX3_init 354 = .ok (.newarray .int, 2) := dk_188_10 (dk_at dksX3_init_15 2 rfl rfl)
theorem dX3_init_356 : decode cX3_init 356 = .ok (.putfield 119, 3) := dk_181 0 119 (dk_at dksX3_init_15 4 rfl rfl)
theorem dX3_init_359 : decode cX3_init 359 = .ok (.aload_n 0, 1) := dk_42 (dk_at dksX3_init_15 7 rfl rfl)
theorem dX3_init_360 : decode cX3_init 360 = .ok (.sipush 2000, 3) := dk_17 7 208 (dk_at dksX3_init_15 8 rfl rfl)
theorem dX3_init_363 : decode cX3_init 363 = .ok (.newarray .int, 2) := dk_188_10 (dk_at dksX3_init_15 11 rfl rfl)
theorem dX3_init_365 : decode cX3_init 365 = .ok (.putfield 122, 3) := dk_181 0 122 (dk_at dksX3_init_15 13 rfl rfl)
theorem dX3_init_368 : decode cX3_init 368 = .ok (.aload_n 0, 1) := dk_42 (dk_at dksX3_init_15 16 rfl rfl)
theorem dX3_init_369 : decode cX3_init 369 = .ok (.iconst 4, 1) := dk_7 (dk_at dksX3_init_15 17 rfl rfl)
theorem dX3_init_370 : decode cX3_init 370 = .ok (.newarray .boolean, 2) := dk_188_4 (dk_at dksX3_init_15 18 rfl rfl)
theorem dX3_init_372 : decode cX3_init 372 = .ok (.putfield 125, 3) := dk_181 0 125 (dk_at dksX3_init_15 20 rfl rfl)
theorem dX3_init_375 : decode cX3_init 375 = .ok (.return_, 1) := dk_177 (dk_at dksX3_init_15 23 rfl rfl)
abbrev cX3_feed : ByteArray := prog_17_method_10_code
def yX3_feed : MethodName := ⟨RX3, "feed", "(IIIII)I"⟩
def dkwX3_feed_2 : List UInt8 := [172]
abbrev dktX3_feed_2 : List UInt8 := dkwX3_feed_2 ++ []
def dkwX3_feed_1 : List UInt8 := [182, 0, 138, 42, 29, 182, 0, 138, 42, 21, 4, 182, 0, 138, 42, 21, 5, 182, 0, 138, 42, 180, 0, 135]
abbrev dktX3_feed_1 : List UInt8 := dkwX3_feed_1 ++ dktX3_feed_2
def dkwX3_feed_0 : List UInt8 := [42, 180, 0, 135, 16, 20, 96, 17, 1, 144, 164, 0, 5, 2, 172, 42, 27, 182, 0, 138, 42, 28]
abbrev dktX3_feed_0 : List UInt8 := dkwX3_feed_0 ++ dktX3_feed_1
theorem dksX3_feed_0 : cX3_feed.data.toList.drop 0 = dktX3_feed_0 := by decide +kernel
theorem dksX3_feed_1 : cX3_feed.data.toList.drop 22 = dktX3_feed_1 := dk_seg dksX3_feed_0 22 rfl rfl
theorem dksX3_feed_2 : cX3_feed.data.toList.drop 46 = dktX3_feed_2 := dk_seg dksX3_feed_1 24 rfl rfl
theorem dX3_feed_0 : decode cX3_feed 0 = .ok (.aload_n 0, 1) := dk_42 (dk_at dksX3_feed_0 0 rfl rfl)
theorem dX3_feed_1 : decode cX3_feed 1 = .ok (.getfield 135, 3) := dk_180 0 135 (dk_at dksX3_feed_0 1 rfl rfl)
theorem dX3_feed_4 : decode cX3_feed 4 = .ok (.bipush 20, 2) := dk_16 20 (dk_at dksX3_feed_0 4 rfl rfl)
theorem dX3_feed_6 : decode cX3_feed 6 = .ok (.iadd, 1) := dk_96 (dk_at dksX3_feed_0 6 rfl rfl)
theorem dX3_feed_7 : decode cX3_feed 7 = .ok (.sipush 400, 3) := dk_17 1 144 (dk_at dksX3_feed_0 7 rfl rfl)
theorem dX3_feed_10 : decode cX3_feed 10 = .ok (.if_icmp .le 5, 3) := dk_164 0 5 (dk_at dksX3_feed_0 10 rfl rfl)
theorem dX3_feed_13 : decode cX3_feed 13 = .ok (.iconst (-1), 1) := dk_2 (dk_at dksX3_feed_0 13 rfl rfl)
theorem dX3_feed_14 : decode cX3_feed 14 = .ok (.ireturn, 1) := dk_172 (dk_at dksX3_feed_0 14 rfl rfl)
theorem dX3_feed_15 : decode cX3_feed 15 = .ok (.aload_n 0, 1) := dk_42 (dk_at dksX3_feed_0 15 rfl rfl)
theorem dX3_feed_16 : decode cX3_feed 16 = .ok (.iload_n 1, 1) := dk_27 (dk_at dksX3_feed_0 16 rfl rfl)
theorem dX3_feed_17 : decode cX3_feed 17 = .ok (.invokevirtual 138, 3) := dk_182 0 138 (dk_at dksX3_feed_0 17 rfl rfl)
theorem dX3_feed_20 : decode cX3_feed 20 = .ok (.aload_n 0, 1) := dk_42 (dk_at dksX3_feed_0 20 rfl rfl)
theorem dX3_feed_21 : decode cX3_feed 21 = .ok (.iload_n 2, 1) := dk_28 (dk_at dksX3_feed_0 21 rfl rfl)
theorem dX3_feed_22 : decode cX3_feed 22 = .ok (.invokevirtual 138, 3) := dk_182 0 138 (dk_at dksX3_feed_1 0 rfl rfl)
theorem dX3_feed_25 : decode cX3_feed 25 = .ok (.aload_n 0, 1) := dk_42 (dk_at dksX3_feed_1 3 rfl rfl)
theorem dX3_feed_26 : decode cX3_feed 26 = .ok (.iload_n 3, 1) := dk_29 (dk_at dksX3_feed_1 4 rfl rfl)
theorem dX3_feed_27 : decode cX3_feed 27 = .ok (.invokevirtual 138, 3) := dk_182 0 138 (dk_at dksX3_feed_1 5 rfl rfl)
theorem dX3_feed_30 : decode cX3_feed 30 = .ok (.aload_n 0, 1) := dk_42 (dk_at dksX3_feed_1 8 rfl rfl)
theorem dX3_feed_31 : decode cX3_feed 31 = .ok (.iload 4, 2) := dk_21 4 (dk_at dksX3_feed_1 9 rfl rfl)
theorem dX3_feed_33 : decode cX3_feed 33 = .ok (.invokevirtual 138, 3) := dk_182 0 138 (dk_at dksX3_feed_1 11 rfl rfl)
theorem dX3_feed_36 : decode cX3_feed 36 = .ok (.aload_n 0, 1) := dk_42 (dk_at dksX3_feed_1 14 rfl rfl)
theorem dX3_feed_37 : decode cX3_feed 37 = .ok (.iload 5, 2) := dk_21 5 (dk_at dksX3_feed_1 15 rfl rfl)
theorem dX3_feed_39 : decode cX3_feed 39 = .ok (.invokevirtual 138, 3) := dk_182 0 138 (dk_at dksX3_feed_1 17 rfl rfl)
theorem dX3_feed_42 : decode cX3_feed 42 = .ok (.aload_n 0, 1) := dk_42 (dk_at dksX3_feed_1 20 rfl rfl)
theorem dX3_feed_43 : decode cX3_feed 43 = .ok (.getfield 135, 3) := dk_180 0 135 (dk_at dksX3_feed_1 21 rfl rfl)
theorem dX3_feed_46 : decode cX3_feed 46 = .ok (.ireturn, 1) := dk_172 (dk_at dksX3_feed_2 0 rfl rfl)
abbrev cX3_put : ByteArray := prog_17_method_11_code
def yX3_put : MethodName := ⟨RX3, "put", "(I)V"⟩
def dkwX3_put_1 : List UInt8 := [180, 0, 135, 4, 96, 181, 0, 135, 132, 2, 248, 167, 255, 226, 177]
abbrev dktX3_put_1 : List UInt8 := dkwX3_put_1 ++ []
def dkwX3_put_0 : List UInt8 := [16, 24, 61, 28, 155, 0, 32, 42, 180, 0, 65, 42, 180, 0, 135, 27, 28, 122, 145, 84, 42, 89]
abbrev dktX3_put_0 : List UInt8 := dkwX3_put_0 ++ dktX3_put_1
theorem dksX3_put_0 : cX3_put.data.toList.drop 0 = dktX3_put_0 := by decide +kernel
theorem dksX3_put_1 : cX3_put.data.toList.drop 22 = dktX3_put_1 := dk_seg dksX3_put_0 22 rfl rfl
theorem dX3_put_0 : decode cX3_put 0 = .ok (.bipush 24, 2) := dk_16 24 (dk_at dksX3_put_0 0 rfl rfl)
theorem dX3_put_2 : decode cX3_put 2 = .ok (.istore_n 2, 1) := dk_61 (dk_at dksX3_put_0 2 rfl rfl)
theorem dX3_put_3 : decode cX3_put 3 = .ok (.iload_n 2, 1) := dk_28 (dk_at dksX3_put_0 3 rfl rfl)
theorem dX3_put_4 : decode cX3_put 4 = .ok (.ifCond .lt 32, 3) := dk_155 0 32 (dk_at dksX3_put_0 4 rfl rfl)
theorem dX3_put_7 : decode cX3_put 7 = .ok (.aload_n 0, 1) := dk_42 (dk_at dksX3_put_0 7 rfl rfl)
theorem dX3_put_8 : decode cX3_put 8 = .ok (.getfield 65, 3) := dk_180 0 65 (dk_at dksX3_put_0 8 rfl rfl)
theorem dX3_put_11 : decode cX3_put 11 = .ok (.aload_n 0, 1) := dk_42 (dk_at dksX3_put_0 11 rfl rfl)
theorem dX3_put_12 : decode cX3_put 12 = .ok (.getfield 135, 3) := dk_180 0 135 (dk_at dksX3_put_0 12 rfl rfl)
theorem dX3_put_15 : decode cX3_put 15 = .ok (.iload_n 1, 1) := dk_27 (dk_at dksX3_put_0 15 rfl rfl)
theorem dX3_put_16 : decode cX3_put 16 = .ok (.iload_n 2, 1) := dk_28 (dk_at dksX3_put_0 16 rfl rfl)
theorem dX3_put_17 : decode cX3_put 17 = .ok (.ishr, 1) := dk_122 (dk_at dksX3_put_0 17 rfl rfl)
theorem dX3_put_18 : decode cX3_put 18 = .ok (.i2b, 1) := dk_145 (dk_at dksX3_put_0 18 rfl rfl)
theorem dX3_put_19 : decode cX3_put 19 = .ok (.bastore, 1) := dk_84 (dk_at dksX3_put_0 19 rfl rfl)
theorem dX3_put_20 : decode cX3_put 20 = .ok (.aload_n 0, 1) := dk_42 (dk_at dksX3_put_0 20 rfl rfl)
theorem dX3_put_21 : decode cX3_put 21 = .ok (.dup, 1) := dk_89 (dk_at dksX3_put_0 21 rfl rfl)
theorem dX3_put_22 : decode cX3_put 22 = .ok (.getfield 135, 3) := dk_180 0 135 (dk_at dksX3_put_1 0 rfl rfl)
theorem dX3_put_25 : decode cX3_put 25 = .ok (.iconst 1, 1) := dk_4 (dk_at dksX3_put_1 3 rfl rfl)
theorem dX3_put_26 : decode cX3_put 26 = .ok (.iadd, 1) := dk_96 (dk_at dksX3_put_1 4 rfl rfl)
theorem dX3_put_27 : decode cX3_put 27 = .ok (.putfield 135, 3) := dk_181 0 135 (dk_at dksX3_put_1 5 rfl rfl)
theorem dX3_put_30 : decode cX3_put 30 = .ok (.iinc 2 (-8), 3) := dk_132 2 248 (dk_at dksX3_put_1 8 rfl rfl)
theorem dX3_put_33 : decode cX3_put 33 = .ok (.goto (-30), 3) := dk_167 255 226 (dk_at dksX3_put_1 11 rfl rfl)
theorem dX3_put_36 : decode cX3_put 36 = .ok (.return_, 1) := dk_177 (dk_at dksX3_put_1 14 rfl rfl)
abbrev cX3_end : ByteArray := prog_17_method_12_code
def yX3_end : MethodName := ⟨RX3, "end", "(I)I"⟩
def dkwX3_end_0 : List UInt8 := [27, 155, 0, 11, 27, 42, 180, 0, 135, 164, 0, 5, 2, 172, 42, 27, 181, 0, 135, 27, 172]
abbrev dktX3_end_0 : List UInt8 := dkwX3_end_0 ++ []
theorem dksX3_end_0 : cX3_end.data.toList.drop 0 = dktX3_end_0 := by decide +kernel
theorem dX3_end_0 : decode cX3_end 0 = .ok (.iload_n 1, 1) := dk_27 (dk_at dksX3_end_0 0 rfl rfl)
theorem dX3_end_1 : decode cX3_end 1 = .ok (.ifCond .lt 11, 3) := dk_155 0 11 (dk_at dksX3_end_0 1 rfl rfl)
theorem dX3_end_4 : decode cX3_end 4 = .ok (.iload_n 1, 1) := dk_27 (dk_at dksX3_end_0 4 rfl rfl)
theorem dX3_end_5 : decode cX3_end 5 = .ok (.aload_n 0, 1) := dk_42 (dk_at dksX3_end_0 5 rfl rfl)
theorem dX3_end_6 : decode cX3_end 6 = .ok (.getfield 135, 3) := dk_180 0 135 (dk_at dksX3_end_0 6 rfl rfl)
theorem dX3_end_9 : decode cX3_end 9 = .ok (.if_icmp .le 5, 3) := dk_164 0 5 (dk_at dksX3_end_0 9 rfl rfl)
theorem dX3_end_12 : decode cX3_end 12 = .ok (.iconst (-1), 1) := dk_2 (dk_at dksX3_end_0 12 rfl rfl)
theorem dX3_end_13 : decode cX3_end 13 = .ok (.ireturn, 1) := dk_172 (dk_at dksX3_end_0 13 rfl rfl)
theorem dX3_end_14 : decode cX3_end 14 = .ok (.aload_n 0, 1) := dk_42 (dk_at dksX3_end_0 14 rfl rfl)
theorem dX3_end_15 : decode cX3_end 15 = .ok (.iload_n 1, 1) := dk_27 (dk_at dksX3_end_0 15 rfl rfl)
theorem dX3_end_16 : decode cX3_end 16 = .ok (.putfield 135, 3) := dk_181 0 135 (dk_at dksX3_end_0 16 rfl rfl)
theorem dX3_end_19 : decode cX3_end 19 = .ok (.iload_n 1, 1) := dk_27 (dk_at dksX3_end_0 19 rfl rfl)
theorem dX3_end_20 : decode cX3_end 20 = .ok (.ireturn, 1) := dk_172 (dk_at dksX3_end_0 20 rfl rfl)
abbrev cX3_hall : ByteArray := prog_17_method_43_code
def yX3_hall : MethodName := ⟨RX3, "hall", "()I"⟩
def dkwX3_hall_5 : List UInt8 := [181, 1, 43, 42, 180, 0, 9, 6, 46, 172]
abbrev dktX3_hall_5 : List UInt8 := dkwX3_hall_5 ++ []
def dkwX3_hall_4 : List UInt8 := [180, 0, 28, 184, 1, 33, 42, 180, 0, 58, 42, 180, 0, 22, 184, 1, 33, 42, 182, 1, 40, 42, 3]
abbrev dktX3_hall_4 : List UInt8 := dkwX3_hall_4 ++ dktX3_hall_5
def dkwX3_hall_3 : List UInt8 := [180, 0, 25, 184, 1, 33, 42, 180, 0, 52, 42, 180, 0, 19, 184, 1, 33, 42, 180, 0, 55, 42]
abbrev dktX3_hall_3 : List UInt8 := dkwX3_hall_3 ++ dktX3_hall_4
def dkwX3_hall_2 : List UInt8 := [180, 0, 9, 8, 3, 79, 42, 180, 0, 46, 42, 180, 0, 40, 184, 1, 33, 42, 180, 0, 49, 42]
abbrev dktX3_hall_2 : List UInt8 := dkwX3_hall_2 ++ dktX3_hall_3
def dkwX3_hall_1 : List UInt8 := [162, 0, 21, 42, 180, 0, 9, 27, 42, 180, 0, 43, 27, 46, 79, 132, 1, 1, 167, 255, 236, 42]
abbrev dktX3_hall_1 : List UInt8 := dkwX3_hall_1 ++ dktX3_hall_2
def dkwX3_hall_0 : List UInt8 := [42, 182, 1, 37, 42, 180, 0, 161, 158, 0, 11, 16, 254, 42, 180, 0, 161, 100, 172, 3, 60, 27, 7]
abbrev dktX3_hall_0 : List UInt8 := dkwX3_hall_0 ++ dktX3_hall_1
theorem dksX3_hall_0 : cX3_hall.data.toList.drop 0 = dktX3_hall_0 := by decide +kernel
theorem dksX3_hall_1 : cX3_hall.data.toList.drop 23 = dktX3_hall_1 := dk_seg dksX3_hall_0 23 rfl rfl
theorem dksX3_hall_2 : cX3_hall.data.toList.drop 45 = dktX3_hall_2 := dk_seg dksX3_hall_1 22 rfl rfl
theorem dksX3_hall_3 : cX3_hall.data.toList.drop 67 = dktX3_hall_3 := dk_seg dksX3_hall_2 22 rfl rfl
theorem dksX3_hall_4 : cX3_hall.data.toList.drop 89 = dktX3_hall_4 := dk_seg dksX3_hall_3 22 rfl rfl
theorem dksX3_hall_5 : cX3_hall.data.toList.drop 112 = dktX3_hall_5 := dk_seg dksX3_hall_4 23 rfl rfl
theorem dX3_hall_0 : decode cX3_hall 0 = .ok (.aload_n 0, 1) := dk_42 (dk_at dksX3_hall_0 0 rfl rfl)
theorem dX3_hall_1 : decode cX3_hall 1 = .ok (.invokevirtual 293, 3) := dk_182 1 37 (dk_at dksX3_hall_0 1 rfl rfl)
theorem dX3_hall_4 : decode cX3_hall 4 = .ok (.aload_n 0, 1) := dk_42 (dk_at dksX3_hall_0 4 rfl rfl)
theorem dX3_hall_5 : decode cX3_hall 5 = .ok (.getfield 161, 3) := dk_180 0 161 (dk_at dksX3_hall_0 5 rfl rfl)
theorem dX3_hall_8 : decode cX3_hall 8 = .ok (.ifCond .le 11, 3) := dk_158 0 11 (dk_at dksX3_hall_0 8 rfl rfl)
theorem dX3_hall_11 : decode cX3_hall 11 = .ok (.bipush (-2), 2) := dk_16 254 (dk_at dksX3_hall_0 11 rfl rfl)
theorem dX3_hall_13 : decode cX3_hall 13 = .ok (.aload_n 0, 1) := dk_42 (dk_at dksX3_hall_0 13 rfl rfl)
theorem dX3_hall_14 : decode cX3_hall 14 = .ok (.getfield 161, 3) := dk_180 0 161 (dk_at dksX3_hall_0 14 rfl rfl)
theorem dX3_hall_17 : decode cX3_hall 17 = .ok (.isub, 1) := dk_100 (dk_at dksX3_hall_0 17 rfl rfl)
theorem dX3_hall_18 : decode cX3_hall 18 = .ok (.ireturn, 1) := dk_172 (dk_at dksX3_hall_0 18 rfl rfl)
theorem dX3_hall_19 : decode cX3_hall 19 = .ok (.iconst 0, 1) := dk_3 (dk_at dksX3_hall_0 19 rfl rfl)
theorem dX3_hall_20 : decode cX3_hall 20 = .ok (.istore_n 1, 1) := dk_60 (dk_at dksX3_hall_0 20 rfl rfl)
theorem dX3_hall_21 : decode cX3_hall 21 = .ok (.iload_n 1, 1) := dk_27 (dk_at dksX3_hall_0 21 rfl rfl)
theorem dX3_hall_22 : decode cX3_hall 22 = .ok (.iconst 4, 1) := dk_7 (dk_at dksX3_hall_0 22 rfl rfl)
theorem dX3_hall_23 : decode cX3_hall 23 = .ok (.if_icmp .ge 21, 3) := dk_162 0 21 (dk_at dksX3_hall_1 0 rfl rfl)
theorem dX3_hall_26 : decode cX3_hall 26 = .ok (.aload_n 0, 1) := dk_42 (dk_at dksX3_hall_1 3 rfl rfl)
theorem dX3_hall_27 : decode cX3_hall 27 = .ok (.getfield 9, 3) := dk_180 0 9 (dk_at dksX3_hall_1 4 rfl rfl)
theorem dX3_hall_30 : decode cX3_hall 30 = .ok (.iload_n 1, 1) := dk_27 (dk_at dksX3_hall_1 7 rfl rfl)
theorem dX3_hall_31 : decode cX3_hall 31 = .ok (.aload_n 0, 1) := dk_42 (dk_at dksX3_hall_1 8 rfl rfl)
theorem dX3_hall_32 : decode cX3_hall 32 = .ok (.getfield 43, 3) := dk_180 0 43 (dk_at dksX3_hall_1 9 rfl rfl)
theorem dX3_hall_35 : decode cX3_hall 35 = .ok (.iload_n 1, 1) := dk_27 (dk_at dksX3_hall_1 12 rfl rfl)
theorem dX3_hall_36 : decode cX3_hall 36 = .ok (.iaload, 1) := dk_46 (dk_at dksX3_hall_1 13 rfl rfl)
theorem dX3_hall_37 : decode cX3_hall 37 = .ok (.iastore, 1) := dk_79 (dk_at dksX3_hall_1 14 rfl rfl)
theorem dX3_hall_38 : decode cX3_hall 38 = .ok (.iinc 1 1, 3) := dk_132 1 1 (dk_at dksX3_hall_1 15 rfl rfl)
theorem dX3_hall_41 : decode cX3_hall 41 = .ok (.goto (-20), 3) := dk_167 255 236 (dk_at dksX3_hall_1 18 rfl rfl)
theorem dX3_hall_44 : decode cX3_hall 44 = .ok (.aload_n 0, 1) := dk_42 (dk_at dksX3_hall_1 21 rfl rfl)
theorem dX3_hall_45 : decode cX3_hall 45 = .ok (.getfield 9, 3) := dk_180 0 9 (dk_at dksX3_hall_2 0 rfl rfl)
theorem dX3_hall_48 : decode cX3_hall 48 = .ok (.iconst 5, 1) := dk_8 (dk_at dksX3_hall_2 3 rfl rfl)
theorem dX3_hall_49 : decode cX3_hall 49 = .ok (.iconst 0, 1) := dk_3 (dk_at dksX3_hall_2 4 rfl rfl)
theorem dX3_hall_50 : decode cX3_hall 50 = .ok (.iastore, 1) := dk_79 (dk_at dksX3_hall_2 5 rfl rfl)
theorem dX3_hall_51 : decode cX3_hall 51 = .ok (.aload_n 0, 1) := dk_42 (dk_at dksX3_hall_2 6 rfl rfl)
theorem dX3_hall_52 : decode cX3_hall 52 = .ok (.getfield 46, 3) := dk_180 0 46 (dk_at dksX3_hall_2 7 rfl rfl)
theorem dX3_hall_55 : decode cX3_hall 55 = .ok (.aload_n 0, 1) := dk_42 (dk_at dksX3_hall_2 10 rfl rfl)
theorem dX3_hall_56 : decode cX3_hall 56 = .ok (.getfield 40, 3) := dk_180 0 40 (dk_at dksX3_hall_2 11 rfl rfl)
theorem dX3_hall_59 : decode cX3_hall 59 = .ok (.invokestatic 289, 3) := dk_184 1 33 (dk_at dksX3_hall_2 14 rfl rfl)
theorem dX3_hall_62 : decode cX3_hall 62 = .ok (.aload_n 0, 1) := dk_42 (dk_at dksX3_hall_2 17 rfl rfl)
theorem dX3_hall_63 : decode cX3_hall 63 = .ok (.getfield 49, 3) := dk_180 0 49 (dk_at dksX3_hall_2 18 rfl rfl)
theorem dX3_hall_66 : decode cX3_hall 66 = .ok (.aload_n 0, 1) := dk_42 (dk_at dksX3_hall_2 21 rfl rfl)
theorem dX3_hall_67 : decode cX3_hall 67 = .ok (.getfield 25, 3) := dk_180 0 25 (dk_at dksX3_hall_3 0 rfl rfl)
theorem dX3_hall_70 : decode cX3_hall 70 = .ok (.invokestatic 289, 3) := dk_184 1 33 (dk_at dksX3_hall_3 3 rfl rfl)
theorem dX3_hall_73 : decode cX3_hall 73 = .ok (.aload_n 0, 1) := dk_42 (dk_at dksX3_hall_3 6 rfl rfl)
theorem dX3_hall_74 : decode cX3_hall 74 = .ok (.getfield 52, 3) := dk_180 0 52 (dk_at dksX3_hall_3 7 rfl rfl)
theorem dX3_hall_77 : decode cX3_hall 77 = .ok (.aload_n 0, 1) := dk_42 (dk_at dksX3_hall_3 10 rfl rfl)
theorem dX3_hall_78 : decode cX3_hall 78 = .ok (.getfield 19, 3) := dk_180 0 19 (dk_at dksX3_hall_3 11 rfl rfl)
theorem dX3_hall_81 : decode cX3_hall 81 = .ok (.invokestatic 289, 3) := dk_184 1 33 (dk_at dksX3_hall_3 14 rfl rfl)
theorem dX3_hall_84 : decode cX3_hall 84 = .ok (.aload_n 0, 1) := dk_42 (dk_at dksX3_hall_3 17 rfl rfl)
theorem dX3_hall_85 : decode cX3_hall 85 = .ok (.getfield 55, 3) := dk_180 0 55 (dk_at dksX3_hall_3 18 rfl rfl)
theorem dX3_hall_88 : decode cX3_hall 88 = .ok (.aload_n 0, 1) := dk_42 (dk_at dksX3_hall_3 21 rfl rfl)
theorem dX3_hall_89 : decode cX3_hall 89 = .ok (.getfield 28, 3) := dk_180 0 28 (dk_at dksX3_hall_4 0 rfl rfl)
theorem dX3_hall_92 : decode cX3_hall 92 = .ok (.invokestatic 289, 3) := dk_184 1 33 (dk_at dksX3_hall_4 3 rfl rfl)
theorem dX3_hall_95 : decode cX3_hall 95 = .ok (.aload_n 0, 1) := dk_42 (dk_at dksX3_hall_4 6 rfl rfl)
theorem dX3_hall_96 : decode cX3_hall 96 = .ok (.getfield 58, 3) := dk_180 0 58 (dk_at dksX3_hall_4 7 rfl rfl)
theorem dX3_hall_99 : decode cX3_hall 99 = .ok (.aload_n 0, 1) := dk_42 (dk_at dksX3_hall_4 10 rfl rfl)
theorem dX3_hall_100 : decode cX3_hall 100 = .ok (.getfield 22, 3) := dk_180 0 22 (dk_at dksX3_hall_4 11 rfl rfl)
theorem dX3_hall_103 : decode cX3_hall 103 = .ok (.invokestatic 289, 3) := dk_184 1 33 (dk_at dksX3_hall_4 14 rfl rfl)
theorem dX3_hall_106 : decode cX3_hall 106 = .ok (.aload_n 0, 1) := dk_42 (dk_at dksX3_hall_4 17 rfl rfl)
theorem dX3_hall_107 : decode cX3_hall 107 = .ok (.invokevirtual 296, 3) := dk_182 1 40 (dk_at dksX3_hall_4 18 rfl rfl)
theorem dX3_hall_110 : decode cX3_hall 110 = .ok (.aload_n 0, 1) := dk_42 (dk_at dksX3_hall_4 21 rfl rfl)
theorem dX3_hall_111 : decode cX3_hall 111 = .ok (.iconst 0, 1) := dk_3 (dk_at dksX3_hall_4 22 rfl rfl)
theorem dX3_hall_112 : decode cX3_hall 112 = .ok (.putfield 299, 3) := dk_181 1 43 (dk_at dksX3_hall_5 0 rfl rfl)
theorem dX3_hall_115 : decode cX3_hall 115 = .ok (.aload_n 0, 1) := dk_42 (dk_at dksX3_hall_5 3 rfl rfl)
theorem dX3_hall_116 : decode cX3_hall 116 = .ok (.getfield 9, 3) := dk_180 0 9 (dk_at dksX3_hall_5 4 rfl rfl)
theorem dX3_hall_119 : decode cX3_hall 119 = .ok (.iconst 3, 1) := dk_6 (dk_at dksX3_hall_5 7 rfl rfl)
theorem dX3_hall_120 : decode cX3_hall 120 = .ok (.iaload, 1) := dk_46 (dk_at dksX3_hall_5 8 rfl rfl)
theorem dX3_hall_121 : decode cX3_hall 121 = .ok (.ireturn, 1) := dk_172 (dk_at dksX3_hall_5 9 rfl rfl)
abbrev cX3_readsAll : ByteArray := prog_17_method_41_code
def yX3_readsAll : MethodName := ⟨RX3, "readsAll", "()V"⟩
def dkwX3_readsAll_2 : List UInt8 := [42, 3, 181, 0, 135, 177]
abbrev dktX3_readsAll_2 : List UInt8 := dkwX3_readsAll_2 ++ []
def dkwX3_readsAll_1 : List UInt8 := [3, 60, 4, 61, 28, 153, 0, 19, 42, 27, 182, 1, 27, 132, 1, 1, 42, 182, 1, 30, 61, 167, 255, 239]
abbrev dktX3_readsAll_1 : List UInt8 := dkwX3_readsAll_1 ++ dktX3_readsAll_2
def dkwX3_readsAll_0 : List UInt8 := [42, 182, 1, 24, 3, 60, 27, 7, 162, 0, 16, 42, 180, 0, 43, 27, 3, 79, 132, 1, 1, 167, 255, 241]
abbrev dktX3_readsAll_0 : List UInt8 := dkwX3_readsAll_0 ++ dktX3_readsAll_1
theorem dksX3_readsAll_0 : cX3_readsAll.data.toList.drop 0 = dktX3_readsAll_0 := by decide +kernel
theorem dksX3_readsAll_1 : cX3_readsAll.data.toList.drop 24 = dktX3_readsAll_1 := dk_seg dksX3_readsAll_0 24 rfl rfl
theorem dksX3_readsAll_2 : cX3_readsAll.data.toList.drop 48 = dktX3_readsAll_2 := dk_seg dksX3_readsAll_1 24 rfl rfl
theorem dX3_readsAll_0 : decode cX3_readsAll 0 = .ok (.aload_n 0, 1) := dk_42 (dk_at dksX3_readsAll_0 0 rfl rfl)
theorem dX3_readsAll_1 : decode cX3_readsAll 1 = .ok (.invokevirtual 280, 3) := dk_182 1 24 (dk_at dksX3_readsAll_0 1 rfl rfl)
theorem dX3_readsAll_4 : decode cX3_readsAll 4 = .ok (.iconst 0, 1) := dk_3 (dk_at dksX3_readsAll_0 4 rfl rfl)
theorem dX3_readsAll_5 : decode cX3_readsAll 5 = .ok (.istore_n 1, 1) := dk_60 (dk_at dksX3_readsAll_0 5 rfl rfl)
theorem dX3_readsAll_6 : decode cX3_readsAll 6 = .ok (.iload_n 1, 1) := dk_27 (dk_at dksX3_readsAll_0 6 rfl rfl)
theorem dX3_readsAll_7 : decode cX3_readsAll 7 = .ok (.iconst 4, 1) := dk_7 (dk_at dksX3_readsAll_0 7 rfl rfl)
theorem dX3_readsAll_8 : decode cX3_readsAll 8 = .ok (.if_icmp .ge 16, 3) := dk_162 0 16 (dk_at dksX3_readsAll_0 8 rfl rfl)
theorem dX3_readsAll_11 : decode cX3_readsAll 11 = .ok (.aload_n 0, 1) := dk_42 (dk_at dksX3_readsAll_0 11 rfl rfl)
theorem dX3_readsAll_12 : decode cX3_readsAll 12 = .ok (.getfield 43, 3) := dk_180 0 43 (dk_at dksX3_readsAll_0 12 rfl rfl)
theorem dX3_readsAll_15 : decode cX3_readsAll 15 = .ok (.iload_n 1, 1) := dk_27 (dk_at dksX3_readsAll_0 15 rfl rfl)
theorem dX3_readsAll_16 : decode cX3_readsAll 16 = .ok (.iconst 0, 1) := dk_3 (dk_at dksX3_readsAll_0 16 rfl rfl)
theorem dX3_readsAll_17 : decode cX3_readsAll 17 = .ok (.iastore, 1) := dk_79 (dk_at dksX3_readsAll_0 17 rfl rfl)
theorem dX3_readsAll_18 : decode cX3_readsAll 18 = .ok (.iinc 1 1, 3) := dk_132 1 1 (dk_at dksX3_readsAll_0 18 rfl rfl)
theorem dX3_readsAll_21 : decode cX3_readsAll 21 = .ok (.goto (-15), 3) := dk_167 255 241 (dk_at dksX3_readsAll_0 21 rfl rfl)
theorem dX3_readsAll_24 : decode cX3_readsAll 24 = .ok (.iconst 0, 1) := dk_3 (dk_at dksX3_readsAll_1 0 rfl rfl)
theorem dX3_readsAll_25 : decode cX3_readsAll 25 = .ok (.istore_n 1, 1) := dk_60 (dk_at dksX3_readsAll_1 1 rfl rfl)
theorem dX3_readsAll_26 : decode cX3_readsAll 26 = .ok (.iconst 1, 1) := dk_4 (dk_at dksX3_readsAll_1 2 rfl rfl)
theorem dX3_readsAll_27 : decode cX3_readsAll 27 = .ok (.istore_n 2, 1) := dk_61 (dk_at dksX3_readsAll_1 3 rfl rfl)
theorem dX3_readsAll_28 : decode cX3_readsAll 28 = .ok (.iload_n 2, 1) := dk_28 (dk_at dksX3_readsAll_1 4 rfl rfl)
theorem dX3_readsAll_29 : decode cX3_readsAll 29 = .ok (.ifCond .eq 19, 3) := dk_153 0 19 (dk_at dksX3_readsAll_1 5 rfl rfl)
theorem dX3_readsAll_32 : decode cX3_readsAll 32 = .ok (.aload_n 0, 1) := dk_42 (dk_at dksX3_readsAll_1 8 rfl rfl)
theorem dX3_readsAll_33 : decode cX3_readsAll 33 = .ok (.iload_n 1, 1) := dk_27 (dk_at dksX3_readsAll_1 9 rfl rfl)
theorem dX3_readsAll_34 : decode cX3_readsAll 34 = .ok (.invokevirtual 283, 3) := dk_182 1 27 (dk_at dksX3_readsAll_1 10 rfl rfl)
theorem dX3_readsAll_37 : decode cX3_readsAll 37 = .ok (.iinc 1 1, 3) := dk_132 1 1 (dk_at dksX3_readsAll_1 13 rfl rfl)
theorem dX3_readsAll_40 : decode cX3_readsAll 40 = .ok (.aload_n 0, 1) := dk_42 (dk_at dksX3_readsAll_1 16 rfl rfl)
theorem dX3_readsAll_41 : decode cX3_readsAll 41 = .ok (.invokevirtual 286, 3) := dk_182 1 30 (dk_at dksX3_readsAll_1 17 rfl rfl)
theorem dX3_readsAll_44 : decode cX3_readsAll 44 = .ok (.istore_n 2, 1) := dk_61 (dk_at dksX3_readsAll_1 20 rfl rfl)
theorem dX3_readsAll_45 : decode cX3_readsAll 45 = .ok (.goto (-17), 3) := dk_167 255 239 (dk_at dksX3_readsAll_1 21 rfl rfl)
theorem dX3_readsAll_48 : decode cX3_readsAll 48 = .ok (.aload_n 0, 1) := dk_42 (dk_at dksX3_readsAll_2 0 rfl rfl)
theorem dX3_readsAll_49 : decode cX3_readsAll 49 = .ok (.iconst 0, 1) := dk_3 (dk_at dksX3_readsAll_2 1 rfl rfl)
theorem dX3_readsAll_50 : decode cX3_readsAll 50 = .ok (.putfield 135, 3) := dk_181 0 135 (dk_at dksX3_readsAll_2 2 rfl rfl)
theorem dX3_readsAll_53 : decode cX3_readsAll 53 = .ok (.return_, 1) := dk_177 (dk_at dksX3_readsAll_2 5 rfl rfl)
abbrev cX3_starts : ByteArray := prog_17_method_40_code
def yX3_starts : MethodName := ⟨RX3, "starts", "()V"⟩
def dkwX3_starts_1 : List UInt8 := [181, 0, 197, 177]
abbrev dktX3_starts_1 : List UInt8 := dkwX3_starts_1 ++ []
def dkwX3_starts_0 : List UInt8 := [42, 3, 181, 0, 164, 42, 3, 181, 0, 161, 42, 3, 181, 0, 194, 42, 3, 181, 0, 235, 42, 3]
abbrev dktX3_starts_0 : List UInt8 := dkwX3_starts_0 ++ dktX3_starts_1
theorem dksX3_starts_0 : cX3_starts.data.toList.drop 0 = dktX3_starts_0 := by decide +kernel
theorem dksX3_starts_1 : cX3_starts.data.toList.drop 22 = dktX3_starts_1 := dk_seg dksX3_starts_0 22 rfl rfl
theorem dX3_starts_0 : decode cX3_starts 0 = .ok (.aload_n 0, 1) := dk_42 (dk_at dksX3_starts_0 0 rfl rfl)
theorem dX3_starts_1 : decode cX3_starts 1 = .ok (.iconst 0, 1) := dk_3 (dk_at dksX3_starts_0 1 rfl rfl)
theorem dX3_starts_2 : decode cX3_starts 2 = .ok (.putfield 164, 3) := dk_181 0 164 (dk_at dksX3_starts_0 2 rfl rfl)
theorem dX3_starts_5 : decode cX3_starts 5 = .ok (.aload_n 0, 1) := dk_42 (dk_at dksX3_starts_0 5 rfl rfl)
theorem dX3_starts_6 : decode cX3_starts 6 = .ok (.iconst 0, 1) := dk_3 (dk_at dksX3_starts_0 6 rfl rfl)
theorem dX3_starts_7 : decode cX3_starts 7 = .ok (.putfield 161, 3) := dk_181 0 161 (dk_at dksX3_starts_0 7 rfl rfl)
theorem dX3_starts_10 : decode cX3_starts 10 = .ok (.aload_n 0, 1) := dk_42 (dk_at dksX3_starts_0 10 rfl rfl)
theorem dX3_starts_11 : decode cX3_starts 11 = .ok (.iconst 0, 1) := dk_3 (dk_at dksX3_starts_0 11 rfl rfl)
theorem dX3_starts_12 : decode cX3_starts 12 = .ok (.putfield 194, 3) := dk_181 0 194 (dk_at dksX3_starts_0 12 rfl rfl)
theorem dX3_starts_15 : decode cX3_starts 15 = .ok (.aload_n 0, 1) := dk_42 (dk_at dksX3_starts_0 15 rfl rfl)
theorem dX3_starts_16 : decode cX3_starts 16 = .ok (.iconst 0, 1) := dk_3 (dk_at dksX3_starts_0 16 rfl rfl)
theorem dX3_starts_17 : decode cX3_starts 17 = .ok (.putfield 235, 3) := dk_181 0 235 (dk_at dksX3_starts_0 17 rfl rfl)
theorem dX3_starts_20 : decode cX3_starts 20 = .ok (.aload_n 0, 1) := dk_42 (dk_at dksX3_starts_0 20 rfl rfl)
theorem dX3_starts_21 : decode cX3_starts 21 = .ok (.iconst 0, 1) := dk_3 (dk_at dksX3_starts_0 21 rfl rfl)
theorem dX3_starts_22 : decode cX3_starts 22 = .ok (.putfield 197, 3) := dk_181 0 197 (dk_at dksX3_starts_1 0 rfl rfl)
theorem dX3_starts_25 : decode cX3_starts 25 = .ok (.return_, 1) := dk_177 (dk_at dksX3_starts_1 3 rfl rfl)
abbrev cX3_hallClause : ByteArray := prog_17_method_37_code
def yX3_hallClause : MethodName := ⟨RX3, "hallClause", "(I)V"⟩
def dkwX3_hallClause_3 : List UInt8 := [182, 0, 175, 96, 181, 0, 164, 42, 29, 182, 1, 21, 177]
abbrev dktX3_hallClause_3 : List UInt8 := dkwX3_hallClause_3 ++ []
def dkwX3_hallClause_2 : List UInt8 := [182, 1, 17, 153, 0, 10, 42, 7, 28, 182, 0, 200, 177, 42, 89, 180, 0, 164, 29, 184, 1, 14]
abbrev dktX3_hallClause_2 : List UInt8 := dkwX3_hallClause_2 ++ dktX3_hallClause_3
def dkwX3_hallClause_1 : List UInt8 := [154, 0, 9, 132, 3, 1, 167, 255, 237, 29, 7, 160, 0, 10, 42, 3, 28, 182, 0, 200, 177, 42, 29, 27]
abbrev dktX3_hallClause_1 : List UInt8 := dkwX3_hallClause_1 ++ dktX3_hallClause_2
def dkwX3_hallClause_0 : List UInt8 := [42, 182, 0, 184, 42, 180, 0, 164, 61, 3, 62, 29, 7, 162, 0, 20, 42, 29, 184, 1, 14, 182, 0, 187]
abbrev dktX3_hallClause_0 : List UInt8 := dkwX3_hallClause_0 ++ dktX3_hallClause_1
theorem dksX3_hallClause_0 : cX3_hallClause.data.toList.drop 0 = dktX3_hallClause_0 := by decide +kernel
theorem dksX3_hallClause_1 : cX3_hallClause.data.toList.drop 24 = dktX3_hallClause_1 := dk_seg dksX3_hallClause_0 24 rfl rfl
theorem dksX3_hallClause_2 : cX3_hallClause.data.toList.drop 48 = dktX3_hallClause_2 := dk_seg dksX3_hallClause_1 24 rfl rfl
theorem dksX3_hallClause_3 : cX3_hallClause.data.toList.drop 70 = dktX3_hallClause_3 := dk_seg dksX3_hallClause_2 22 rfl rfl
theorem dX3_hallClause_0 : decode cX3_hallClause 0 = .ok (.aload_n 0, 1) := dk_42 (dk_at dksX3_hallClause_0 0 rfl rfl)
theorem dX3_hallClause_1 : decode cX3_hallClause 1 = .ok (.invokevirtual 184, 3) := dk_182 0 184 (dk_at dksX3_hallClause_0 1 rfl rfl)
theorem dX3_hallClause_4 : decode cX3_hallClause 4 = .ok (.aload_n 0, 1) := dk_42 (dk_at dksX3_hallClause_0 4 rfl rfl)
theorem dX3_hallClause_5 : decode cX3_hallClause 5 = .ok (.getfield 164, 3) := dk_180 0 164 (dk_at dksX3_hallClause_0 5 rfl rfl)
theorem dX3_hallClause_8 : decode cX3_hallClause 8 = .ok (.istore_n 2, 1) := dk_61 (dk_at dksX3_hallClause_0 8 rfl rfl)
theorem dX3_hallClause_9 : decode cX3_hallClause 9 = .ok (.iconst 0, 1) := dk_3 (dk_at dksX3_hallClause_0 9 rfl rfl)
theorem dX3_hallClause_10 : decode cX3_hallClause 10 = .ok (.istore_n 3, 1) := dk_62 (dk_at dksX3_hallClause_0 10 rfl rfl)
theorem dX3_hallClause_11 : decode cX3_hallClause 11 = .ok (.iload_n 3, 1) := dk_29 (dk_at dksX3_hallClause_0 11 rfl rfl)
theorem dX3_hallClause_12 : decode cX3_hallClause 12 = .ok (.iconst 4, 1) := dk_7 (dk_at dksX3_hallClause_0 12 rfl rfl)
theorem dX3_hallClause_13 : decode cX3_hallClause 13 = .ok (.if_icmp .ge 20, 3) := dk_162 0 20 (dk_at dksX3_hallClause_0 13 rfl rfl)
theorem dX3_hallClause_16 : decode cX3_hallClause 16 = .ok (.aload_n 0, 1) := dk_42 (dk_at dksX3_hallClause_0 16 rfl rfl)
theorem dX3_hallClause_17 : decode cX3_hallClause 17 = .ok (.iload_n 3, 1) := dk_29 (dk_at dksX3_hallClause_0 17 rfl rfl)
theorem dX3_hallClause_18 : decode cX3_hallClause 18 = .ok (.invokestatic 270, 3) := dk_184 1 14 (dk_at dksX3_hallClause_0 18 rfl rfl)
theorem dX3_hallClause_21 : decode cX3_hallClause 21 = .ok (.invokevirtual 187, 3) := dk_182 0 187 (dk_at dksX3_hallClause_0 21 rfl rfl)
theorem dX3_hallClause_24 : decode cX3_hallClause 24 = .ok (.ifCond .ne 9, 3) := dk_154 0 9 (dk_at dksX3_hallClause_1 0 rfl rfl)
theorem dX3_hallClause_27 : decode cX3_hallClause 27 = .ok (.iinc 3 1, 3) := dk_132 3 1 (dk_at dksX3_hallClause_1 3 rfl rfl)
theorem dX3_hallClause_30 : decode cX3_hallClause 30 = .ok (.goto (-19), 3) := dk_167 255 237 (dk_at dksX3_hallClause_1 6 rfl rfl)
theorem dX3_hallClause_33 : decode cX3_hallClause 33 = .ok (.iload_n 3, 1) := dk_29 (dk_at dksX3_hallClause_1 9 rfl rfl)
theorem dX3_hallClause_34 : decode cX3_hallClause 34 = .ok (.iconst 4, 1) := dk_7 (dk_at dksX3_hallClause_1 10 rfl rfl)
theorem dX3_hallClause_35 : decode cX3_hallClause 35 = .ok (.if_icmp .ne 10, 3) := dk_160 0 10 (dk_at dksX3_hallClause_1 11 rfl rfl)
theorem dX3_hallClause_38 : decode cX3_hallClause 38 = .ok (.aload_n 0, 1) := dk_42 (dk_at dksX3_hallClause_1 14 rfl rfl)
theorem dX3_hallClause_39 : decode cX3_hallClause 39 = .ok (.iconst 0, 1) := dk_3 (dk_at dksX3_hallClause_1 15 rfl rfl)
theorem dX3_hallClause_40 : decode cX3_hallClause 40 = .ok (.iload_n 2, 1) := dk_28 (dk_at dksX3_hallClause_1 16 rfl rfl)
theorem dX3_hallClause_41 : decode cX3_hallClause 41 = .ok (.invokevirtual 200, 3) := dk_182 0 200 (dk_at dksX3_hallClause_1 17 rfl rfl)
theorem dX3_hallClause_44 : decode cX3_hallClause 44 = .ok (.return_, 1) := dk_177 (dk_at dksX3_hallClause_1 20 rfl rfl)
theorem dX3_hallClause_45 : decode cX3_hallClause 45 = .ok (.aload_n 0, 1) := dk_42 (dk_at dksX3_hallClause_1 21 rfl rfl)
theorem dX3_hallClause_46 : decode cX3_hallClause 46 = .ok (.iload_n 3, 1) := dk_29 (dk_at dksX3_hallClause_1 22 rfl rfl)
theorem dX3_hallClause_47 : decode cX3_hallClause 47 = .ok (.iload_n 1, 1) := dk_27 (dk_at dksX3_hallClause_1 23 rfl rfl)
theorem dX3_hallClause_48 : decode cX3_hallClause 48 = .ok (.invokevirtual 273, 3) := dk_182 1 17 (dk_at dksX3_hallClause_2 0 rfl rfl)
theorem dX3_hallClause_51 : decode cX3_hallClause 51 = .ok (.ifCond .eq 10, 3) := dk_153 0 10 (dk_at dksX3_hallClause_2 3 rfl rfl)
theorem dX3_hallClause_54 : decode cX3_hallClause 54 = .ok (.aload_n 0, 1) := dk_42 (dk_at dksX3_hallClause_2 6 rfl rfl)
theorem dX3_hallClause_55 : decode cX3_hallClause 55 = .ok (.iconst 4, 1) := dk_7 (dk_at dksX3_hallClause_2 7 rfl rfl)
theorem dX3_hallClause_56 : decode cX3_hallClause 56 = .ok (.iload_n 2, 1) := dk_28 (dk_at dksX3_hallClause_2 8 rfl rfl)
theorem dX3_hallClause_57 : decode cX3_hallClause 57 = .ok (.invokevirtual 200, 3) := dk_182 0 200 (dk_at dksX3_hallClause_2 9 rfl rfl)
theorem dX3_hallClause_60 : decode cX3_hallClause 60 = .ok (.return_, 1) := dk_177 (dk_at dksX3_hallClause_2 12 rfl rfl)
theorem dX3_hallClause_61 : decode cX3_hallClause 61 = .ok (.aload_n 0, 1) := dk_42 (dk_at dksX3_hallClause_2 13 rfl rfl)
theorem dX3_hallClause_62 : decode cX3_hallClause 62 = .ok (.dup, 1) := dk_89 (dk_at dksX3_hallClause_2 14 rfl rfl)
theorem dX3_hallClause_63 : decode cX3_hallClause 63 = .ok (.getfield 164, 3) := dk_180 0 164 (dk_at dksX3_hallClause_2 15 rfl rfl)
theorem dX3_hallClause_66 : decode cX3_hallClause 66 = .ok (.iload_n 3, 1) := dk_29 (dk_at dksX3_hallClause_2 18 rfl rfl)
theorem dX3_hallClause_67 : decode cX3_hallClause 67 = .ok (.invokestatic 270, 3) := dk_184 1 14 (dk_at dksX3_hallClause_2 19 rfl rfl)
theorem dX3_hallClause_70 : decode cX3_hallClause 70 = .ok (.invokevirtual 175, 3) := dk_182 0 175 (dk_at dksX3_hallClause_3 0 rfl rfl)
theorem dX3_hallClause_73 : decode cX3_hallClause 73 = .ok (.iadd, 1) := dk_96 (dk_at dksX3_hallClause_3 3 rfl rfl)
theorem dX3_hallClause_74 : decode cX3_hallClause 74 = .ok (.putfield 164, 3) := dk_181 0 164 (dk_at dksX3_hallClause_3 4 rfl rfl)
theorem dX3_hallClause_77 : decode cX3_hallClause 77 = .ok (.aload_n 0, 1) := dk_42 (dk_at dksX3_hallClause_3 7 rfl rfl)
theorem dX3_hallClause_78 : decode cX3_hallClause 78 = .ok (.iload_n 3, 1) := dk_29 (dk_at dksX3_hallClause_3 8 rfl rfl)
theorem dX3_hallClause_79 : decode cX3_hallClause 79 = .ok (.invokevirtual 277, 3) := dk_182 1 21 (dk_at dksX3_hallClause_3 9 rfl rfl)
theorem dX3_hallClause_82 : decode cX3_hallClause 82 = .ok (.return_, 1) := dk_177 (dk_at dksX3_hallClause_3 12 rfl rfl)
abbrev cX3_blanks : ByteArray := prog_17_method_16_code
def yX3_blanks : MethodName := ⟨RX3, "blanks", "()V"⟩
def dkwX3_blanks_0 : List UInt8 := [42, 182, 0, 167, 16, 32, 160, 0, 16, 42, 89, 180, 0, 164, 4, 96, 181, 0, 164, 167, 255, 237, 177]
abbrev dktX3_blanks_0 : List UInt8 := dkwX3_blanks_0 ++ []
theorem dksX3_blanks_0 : cX3_blanks.data.toList.drop 0 = dktX3_blanks_0 := by decide +kernel
theorem dX3_blanks_0 : decode cX3_blanks 0 = .ok (.aload_n 0, 1) := dk_42 (dk_at dksX3_blanks_0 0 rfl rfl)
theorem dX3_blanks_1 : decode cX3_blanks 1 = .ok (.invokevirtual 167, 3) := dk_182 0 167 (dk_at dksX3_blanks_0 1 rfl rfl)
theorem dX3_blanks_4 : decode cX3_blanks 4 = .ok (.bipush 32, 2) := dk_16 32 (dk_at dksX3_blanks_0 4 rfl rfl)
theorem dX3_blanks_6 : decode cX3_blanks 6 = .ok (.if_icmp .ne 16, 3) := dk_160 0 16 (dk_at dksX3_blanks_0 6 rfl rfl)
theorem dX3_blanks_9 : decode cX3_blanks 9 = .ok (.aload_n 0, 1) := dk_42 (dk_at dksX3_blanks_0 9 rfl rfl)
theorem dX3_blanks_10 : decode cX3_blanks 10 = .ok (.dup, 1) := dk_89 (dk_at dksX3_blanks_0 10 rfl rfl)
theorem dX3_blanks_11 : decode cX3_blanks 11 = .ok (.getfield 164, 3) := dk_180 0 164 (dk_at dksX3_blanks_0 11 rfl rfl)
theorem dX3_blanks_14 : decode cX3_blanks 14 = .ok (.iconst 1, 1) := dk_4 (dk_at dksX3_blanks_0 14 rfl rfl)
theorem dX3_blanks_15 : decode cX3_blanks 15 = .ok (.iadd, 1) := dk_96 (dk_at dksX3_blanks_0 15 rfl rfl)
theorem dX3_blanks_16 : decode cX3_blanks 16 = .ok (.putfield 164, 3) := dk_181 0 164 (dk_at dksX3_blanks_0 16 rfl rfl)
theorem dX3_blanks_19 : decode cX3_blanks 19 = .ok (.goto (-19), 3) := dk_167 255 237 (dk_at dksX3_blanks_0 19 rfl rfl)
theorem dX3_blanks_22 : decode cX3_blanks 22 = .ok (.return_, 1) := dk_177 (dk_at dksX3_blanks_0 22 rfl rfl)
abbrev cX3_sign : ByteArray := prog_17_method_15_code
def yX3_sign : MethodName := ⟨RX3, "sign", "()I"⟩
def dkwX3_sign_1 : List UInt8 := [167, 0, 4, 2, 172]
abbrev dktX3_sign_1 : List UInt8 := dkwX3_sign_1 ++ []
def dkwX3_sign_0 : List UInt8 := [42, 180, 0, 164, 42, 180, 0, 135, 162, 0, 19, 42, 180, 0, 65, 42, 180, 0, 164, 51, 17, 0, 255, 126]
abbrev dktX3_sign_0 : List UInt8 := dkwX3_sign_0 ++ dktX3_sign_1
theorem dksX3_sign_0 : cX3_sign.data.toList.drop 0 = dktX3_sign_0 := by decide +kernel
theorem dksX3_sign_1 : cX3_sign.data.toList.drop 24 = dktX3_sign_1 := dk_seg dksX3_sign_0 24 rfl rfl
theorem dX3_sign_0 : decode cX3_sign 0 = .ok (.aload_n 0, 1) := dk_42 (dk_at dksX3_sign_0 0 rfl rfl)
theorem dX3_sign_1 : decode cX3_sign 1 = .ok (.getfield 164, 3) := dk_180 0 164 (dk_at dksX3_sign_0 1 rfl rfl)
theorem dX3_sign_4 : decode cX3_sign 4 = .ok (.aload_n 0, 1) := dk_42 (dk_at dksX3_sign_0 4 rfl rfl)
theorem dX3_sign_5 : decode cX3_sign 5 = .ok (.getfield 135, 3) := dk_180 0 135 (dk_at dksX3_sign_0 5 rfl rfl)
theorem dX3_sign_8 : decode cX3_sign 8 = .ok (.if_icmp .ge 19, 3) := dk_162 0 19 (dk_at dksX3_sign_0 8 rfl rfl)
theorem dX3_sign_11 : decode cX3_sign 11 = .ok (.aload_n 0, 1) := dk_42 (dk_at dksX3_sign_0 11 rfl rfl)
theorem dX3_sign_12 : decode cX3_sign 12 = .ok (.getfield 65, 3) := dk_180 0 65 (dk_at dksX3_sign_0 12 rfl rfl)
theorem dX3_sign_15 : decode cX3_sign 15 = .ok (.aload_n 0, 1) := dk_42 (dk_at dksX3_sign_0 15 rfl rfl)
theorem dX3_sign_16 : decode cX3_sign 16 = .ok (.getfield 164, 3) := dk_180 0 164 (dk_at dksX3_sign_0 16 rfl rfl)
theorem dX3_sign_19 : decode cX3_sign 19 = .ok (.baload, 1) := dk_51 (dk_at dksX3_sign_0 19 rfl rfl)
theorem dX3_sign_20 : decode cX3_sign 20 = .ok (.sipush 255, 3) := dk_17 0 255 (dk_at dksX3_sign_0 20 rfl rfl)
theorem dX3_sign_23 : decode cX3_sign 23 = .ok (.iand, 1) := dk_126 (dk_at dksX3_sign_0 23 rfl rfl)
theorem dX3_sign_24 : decode cX3_sign 24 = .ok (.goto 4, 3) := dk_167 0 4 (dk_at dksX3_sign_1 0 rfl rfl)
theorem dX3_sign_27 : decode cX3_sign 27 = .ok (.iconst (-1), 1) := dk_2 (dk_at dksX3_sign_1 3 rfl rfl)
theorem dX3_sign_28 : decode cX3_sign 28 = .ok (.ireturn, 1) := dk_172 (dk_at dksX3_sign_1 4 rfl rfl)
abbrev cX3_hallWord : ByteArray := prog_17_method_33_code
def yX3_hallWord : MethodName := ⟨RX3, "hallWord", "(I)Ljava/lang/String;"⟩
def dkwX3_hallWord_2 : List UInt8 := [19, 1, 3, 176, 19, 1, 5, 176, 18, 144, 176, 18, 142, 176]
abbrev dktX3_hallWord_2 : List UInt8 := dkwX3_hallWord_2 ++ []
def dkwX3_hallWord_1 : List UInt8 := [170, 0, 0, 0, 0, 0, 38, 0, 0, 0, 0, 0, 0, 0, 2, 0, 0, 0, 27, 0, 0, 0, 31, 0, 0, 0, 35]
abbrev dktX3_hallWord_1 : List UInt8 := dkwX3_hallWord_1 ++ dktX3_hallWord_2
def dkwX3_hallWord_0 : List UInt8 := [26]
abbrev dktX3_hallWord_0 : List UInt8 := dkwX3_hallWord_0 ++ dktX3_hallWord_1
theorem dksX3_hallWord_0 : cX3_hallWord.data.toList.drop 0 = dktX3_hallWord_0 := by decide +kernel
theorem dksX3_hallWord_1 : cX3_hallWord.data.toList.drop 1 = dktX3_hallWord_1 := dk_seg dksX3_hallWord_0 1 rfl rfl
theorem dksX3_hallWord_2 : cX3_hallWord.data.toList.drop 28 = dktX3_hallWord_2 := dk_seg dksX3_hallWord_1 27 rfl rfl
theorem dX3_hallWord_0 : decode cX3_hallWord 0 = .ok (.iload_n 0, 1) := dk_26 (dk_at dksX3_hallWord_0 0 rfl rfl)
theorem dX3_hallWord_1 : decode cX3_hallWord 1 = .ok (.tableswitch 38 0 2 #[27, 31, 35], 27) := by decide +kernel
theorem dX3_hallWord_28 : decode cX3_hallWord 28 = .ok (.ldc_w 259, 3) := dk_19 1 3 (dk_at dksX3_hallWord_2 0 rfl rfl)
theorem dX3_hallWord_31 : decode cX3_hallWord 31 = .ok (.areturn, 1) := dk_176 (dk_at dksX3_hallWord_2 3 rfl rfl)
theorem dX3_hallWord_32 : decode cX3_hallWord 32 = .ok (.ldc_w 261, 3) := dk_19 1 5 (dk_at dksX3_hallWord_2 4 rfl rfl)
theorem dX3_hallWord_35 : decode cX3_hallWord 35 = .ok (.areturn, 1) := dk_176 (dk_at dksX3_hallWord_2 7 rfl rfl)
theorem dX3_hallWord_36 : decode cX3_hallWord 36 = .ok (.ldc 144, 2) := dk_18 144 (dk_at dksX3_hallWord_2 8 rfl rfl)
theorem dX3_hallWord_38 : decode cX3_hallWord 38 = .ok (.areturn, 1) := dk_176 (dk_at dksX3_hallWord_2 10 rfl rfl)
theorem dX3_hallWord_39 : decode cX3_hallWord 39 = .ok (.ldc 142, 2) := dk_18 142 (dk_at dksX3_hallWord_2 11 rfl rfl)
theorem dX3_hallWord_41 : decode cX3_hallWord 41 = .ok (.areturn, 1) := dk_176 (dk_at dksX3_hallWord_2 13 rfl rfl)
abbrev cX3_stood : ByteArray := prog_17_method_18_code
def yX3_stood : MethodName := ⟨RX3, "stood", "(Ljava/lang/String;)Z"⟩
def dkwX3_stood_4 : List UInt8 := [160, 0, 7, 4, 167, 0, 4, 3, 62, 132, 4, 1, 167, 255, 213, 29, 172]
abbrev dktX3_stood_4 : List UInt8 := dkwX3_stood_4 ++ []
def dkwX3_stood_3 : List UInt8 := [29, 153, 0, 36, 42, 180, 0, 65, 42, 180, 0, 164, 21, 4, 96, 51, 43, 21, 4, 182, 0, 180]
abbrev dktX3_stood_3 : List UInt8 := dkwX3_stood_3 ++ dktX3_stood_4
def dkwX3_stood_2 : List UInt8 := [182, 0, 175, 160, 0, 7, 4, 167, 0, 4, 3, 62, 3, 54, 4, 21, 4, 43, 182, 0, 175, 162, 0, 40]
abbrev dktX3_stood_2 : List UInt8 := dkwX3_stood_2 ++ dktX3_stood_3
def dkwX3_stood_1 : List UInt8 := [42, 180, 0, 65, 28, 51, 16, 122, 163, 0, 9, 132, 2, 1, 167, 255, 223, 28, 42, 180, 0, 164, 100, 43]
abbrev dktX3_stood_1 : List UInt8 := dkwX3_stood_1 ++ dktX3_stood_2
def dkwX3_stood_0 : List UInt8 := [42, 180, 0, 164, 61, 28, 42, 180, 0, 135, 162, 0, 31, 42, 180, 0, 65, 28, 51, 16, 97, 161, 0, 20]
abbrev dktX3_stood_0 : List UInt8 := dkwX3_stood_0 ++ dktX3_stood_1
theorem dksX3_stood_0 : cX3_stood.data.toList.drop 0 = dktX3_stood_0 := by decide +kernel
theorem dksX3_stood_1 : cX3_stood.data.toList.drop 24 = dktX3_stood_1 := dk_seg dksX3_stood_0 24 rfl rfl
theorem dksX3_stood_2 : cX3_stood.data.toList.drop 48 = dktX3_stood_2 := dk_seg dksX3_stood_1 24 rfl rfl
theorem dksX3_stood_3 : cX3_stood.data.toList.drop 72 = dktX3_stood_3 := dk_seg dksX3_stood_2 24 rfl rfl
theorem dksX3_stood_4 : cX3_stood.data.toList.drop 94 = dktX3_stood_4 := dk_seg dksX3_stood_3 22 rfl rfl
theorem dX3_stood_0 : decode cX3_stood 0 = .ok (.aload_n 0, 1) := dk_42 (dk_at dksX3_stood_0 0 rfl rfl)
theorem dX3_stood_1 : decode cX3_stood 1 = .ok (.getfield 164, 3) := dk_180 0 164 (dk_at dksX3_stood_0 1 rfl rfl)
theorem dX3_stood_4 : decode cX3_stood 4 = .ok (.istore_n 2, 1) := dk_61 (dk_at dksX3_stood_0 4 rfl rfl)
theorem dX3_stood_5 : decode cX3_stood 5 = .ok (.iload_n 2, 1) := dk_28 (dk_at dksX3_stood_0 5 rfl rfl)
theorem dX3_stood_6 : decode cX3_stood 6 = .ok (.aload_n 0, 1) := dk_42 (dk_at dksX3_stood_0 6 rfl rfl)
theorem dX3_stood_7 : decode cX3_stood 7 = .ok (.getfield 135, 3) := dk_180 0 135 (dk_at dksX3_stood_0 7 rfl rfl)
theorem dX3_stood_10 : decode cX3_stood 10 = .ok (.if_icmp .ge 31, 3) := dk_162 0 31 (dk_at dksX3_stood_0 10 rfl rfl)
theorem dX3_stood_13 : decode cX3_stood 13 = .ok (.aload_n 0, 1) := dk_42 (dk_at dksX3_stood_0 13 rfl rfl)
theorem dX3_stood_14 : decode cX3_stood 14 = .ok (.getfield 65, 3) := dk_180 0 65 (dk_at dksX3_stood_0 14 rfl rfl)
theorem dX3_stood_17 : decode cX3_stood 17 = .ok (.iload_n 2, 1) := dk_28 (dk_at dksX3_stood_0 17 rfl rfl)
theorem dX3_stood_18 : decode cX3_stood 18 = .ok (.baload, 1) := dk_51 (dk_at dksX3_stood_0 18 rfl rfl)
theorem dX3_stood_19 : decode cX3_stood 19 = .ok (.bipush 97, 2) := dk_16 97 (dk_at dksX3_stood_0 19 rfl rfl)
theorem dX3_stood_21 : decode cX3_stood 21 = .ok (.if_icmp .lt 20, 3) := dk_161 0 20 (dk_at dksX3_stood_0 21 rfl rfl)
theorem dX3_stood_24 : decode cX3_stood 24 = .ok (.aload_n 0, 1) := dk_42 (dk_at dksX3_stood_1 0 rfl rfl)
theorem dX3_stood_25 : decode cX3_stood 25 = .ok (.getfield 65, 3) := dk_180 0 65 (dk_at dksX3_stood_1 1 rfl rfl)
theorem dX3_stood_28 : decode cX3_stood 28 = .ok (.iload_n 2, 1) := dk_28 (dk_at dksX3_stood_1 4 rfl rfl)
theorem dX3_stood_29 : decode cX3_stood 29 = .ok (.baload, 1) := dk_51 (dk_at dksX3_stood_1 5 rfl rfl)
theorem dX3_stood_30 : decode cX3_stood 30 = .ok (.bipush 122, 2) := dk_16 122 (dk_at dksX3_stood_1 6 rfl rfl)
theorem dX3_stood_32 : decode cX3_stood 32 = .ok (.if_icmp .gt 9, 3) := dk_163 0 9 (dk_at dksX3_stood_1 8 rfl rfl)
theorem dX3_stood_35 : decode cX3_stood 35 = .ok (.iinc 2 1, 3) := dk_132 2 1 (dk_at dksX3_stood_1 11 rfl rfl)
theorem dX3_stood_38 : decode cX3_stood 38 = .ok (.goto (-33), 3) := dk_167 255 223 (dk_at dksX3_stood_1 14 rfl rfl)
theorem dX3_stood_41 : decode cX3_stood 41 = .ok (.iload_n 2, 1) := dk_28 (dk_at dksX3_stood_1 17 rfl rfl)
theorem dX3_stood_42 : decode cX3_stood 42 = .ok (.aload_n 0, 1) := dk_42 (dk_at dksX3_stood_1 18 rfl rfl)
theorem dX3_stood_43 : decode cX3_stood 43 = .ok (.getfield 164, 3) := dk_180 0 164 (dk_at dksX3_stood_1 19 rfl rfl)
theorem dX3_stood_46 : decode cX3_stood 46 = .ok (.isub, 1) := dk_100 (dk_at dksX3_stood_1 22 rfl rfl)
theorem dX3_stood_47 : decode cX3_stood 47 = .ok (.aload_n 1, 1) := dk_43 (dk_at dksX3_stood_1 23 rfl rfl)
theorem dX3_stood_48 : decode cX3_stood 48 = .ok (.invokevirtual 175, 3) := dk_182 0 175 (dk_at dksX3_stood_2 0 rfl rfl)
theorem dX3_stood_51 : decode cX3_stood 51 = .ok (.if_icmp .ne 7, 3) := dk_160 0 7 (dk_at dksX3_stood_2 3 rfl rfl)
theorem dX3_stood_54 : decode cX3_stood 54 = .ok (.iconst 1, 1) := dk_4 (dk_at dksX3_stood_2 6 rfl rfl)
theorem dX3_stood_55 : decode cX3_stood 55 = .ok (.goto 4, 3) := dk_167 0 4 (dk_at dksX3_stood_2 7 rfl rfl)
theorem dX3_stood_58 : decode cX3_stood 58 = .ok (.iconst 0, 1) := dk_3 (dk_at dksX3_stood_2 10 rfl rfl)
theorem dX3_stood_59 : decode cX3_stood 59 = .ok (.istore_n 3, 1) := dk_62 (dk_at dksX3_stood_2 11 rfl rfl)
theorem dX3_stood_60 : decode cX3_stood 60 = .ok (.iconst 0, 1) := dk_3 (dk_at dksX3_stood_2 12 rfl rfl)
theorem dX3_stood_61 : decode cX3_stood 61 = .ok (.istore 4, 2) := dk_54 4 (dk_at dksX3_stood_2 13 rfl rfl)
theorem dX3_stood_63 : decode cX3_stood 63 = .ok (.iload 4, 2) := dk_21 4 (dk_at dksX3_stood_2 15 rfl rfl)
theorem dX3_stood_65 : decode cX3_stood 65 = .ok (.aload_n 1, 1) := dk_43 (dk_at dksX3_stood_2 17 rfl rfl)
theorem dX3_stood_66 : decode cX3_stood 66 = .ok (.invokevirtual 175, 3) := dk_182 0 175 (dk_at dksX3_stood_2 18 rfl rfl)
theorem dX3_stood_69 : decode cX3_stood 69 = .ok (.if_icmp .ge 40, 3) := dk_162 0 40 (dk_at dksX3_stood_2 21 rfl rfl)
theorem dX3_stood_72 : decode cX3_stood 72 = .ok (.iload_n 3, 1) := dk_29 (dk_at dksX3_stood_3 0 rfl rfl)
theorem dX3_stood_73 : decode cX3_stood 73 = .ok (.ifCond .eq 36, 3) := dk_153 0 36 (dk_at dksX3_stood_3 1 rfl rfl)
theorem dX3_stood_76 : decode cX3_stood 76 = .ok (.aload_n 0, 1) := dk_42 (dk_at dksX3_stood_3 4 rfl rfl)
theorem dX3_stood_77 : decode cX3_stood 77 = .ok (.getfield 65, 3) := dk_180 0 65 (dk_at dksX3_stood_3 5 rfl rfl)
theorem dX3_stood_80 : decode cX3_stood 80 = .ok (.aload_n 0, 1) := dk_42 (dk_at dksX3_stood_3 8 rfl rfl)
theorem dX3_stood_81 : decode cX3_stood 81 = .ok (.getfield 164, 3) := dk_180 0 164 (dk_at dksX3_stood_3 9 rfl rfl)
theorem dX3_stood_84 : decode cX3_stood 84 = .ok (.iload 4, 2) := dk_21 4 (dk_at dksX3_stood_3 12 rfl rfl)
theorem dX3_stood_86 : decode cX3_stood 86 = .ok (.iadd, 1) := dk_96 (dk_at dksX3_stood_3 14 rfl rfl)
theorem dX3_stood_87 : decode cX3_stood 87 = .ok (.baload, 1) := dk_51 (dk_at dksX3_stood_3 15 rfl rfl)
theorem dX3_stood_88 : decode cX3_stood 88 = .ok (.aload_n 1, 1) := dk_43 (dk_at dksX3_stood_3 16 rfl rfl)
theorem dX3_stood_89 : decode cX3_stood 89 = .ok (.iload 4, 2) := dk_21 4 (dk_at dksX3_stood_3 17 rfl rfl)
theorem dX3_stood_91 : decode cX3_stood 91 = .ok (.invokevirtual 180, 3) := dk_182 0 180 (dk_at dksX3_stood_3 19 rfl rfl)
theorem dX3_stood_94 : decode cX3_stood 94 = .ok (.if_icmp .ne 7, 3) := dk_160 0 7 (dk_at dksX3_stood_4 0 rfl rfl)
theorem dX3_stood_97 : decode cX3_stood 97 = .ok (.iconst 1, 1) := dk_4 (dk_at dksX3_stood_4 3 rfl rfl)
theorem dX3_stood_98 : decode cX3_stood 98 = .ok (.goto 4, 3) := dk_167 0 4 (dk_at dksX3_stood_4 4 rfl rfl)
theorem dX3_stood_101 : decode cX3_stood 101 = .ok (.iconst 0, 1) := dk_3 (dk_at dksX3_stood_4 7 rfl rfl)
theorem dX3_stood_102 : decode cX3_stood 102 = .ok (.istore_n 3, 1) := dk_62 (dk_at dksX3_stood_4 8 rfl rfl)
theorem dX3_stood_103 : decode cX3_stood 103 = .ok (.iinc 4 1, 3) := dk_132 4 1 (dk_at dksX3_stood_4 9 rfl rfl)
theorem dX3_stood_106 : decode cX3_stood 106 = .ok (.goto (-43), 3) := dk_167 255 213 (dk_at dksX3_stood_4 12 rfl rfl)
theorem dX3_stood_109 : decode cX3_stood 109 = .ok (.iload_n 3, 1) := dk_29 (dk_at dksX3_stood_4 15 rfl rfl)
theorem dX3_stood_110 : decode cX3_stood 110 = .ok (.ireturn, 1) := dk_172 (dk_at dksX3_stood_4 16 rfl rfl)
abbrev cX3_fails : ByteArray := prog_17_method_14_code
def yX3_fails : MethodName := ⟨RX3, "fails", "(II)V"⟩
def dkwX3_fails_1 : List UInt8 := [181, 0, 161, 177]
abbrev dktX3_fails_1 : List UInt8 := dkwX3_fails_1 ++ []
def dkwX3_fails_0 : List UInt8 := [42, 42, 180, 0, 161, 154, 0, 14, 4, 16, 8, 28, 104, 96, 27, 96, 167, 0, 7, 42, 180, 0, 161]
abbrev dktX3_fails_0 : List UInt8 := dkwX3_fails_0 ++ dktX3_fails_1
theorem dksX3_fails_0 : cX3_fails.data.toList.drop 0 = dktX3_fails_0 := by decide +kernel
theorem dksX3_fails_1 : cX3_fails.data.toList.drop 23 = dktX3_fails_1 := dk_seg dksX3_fails_0 23 rfl rfl
theorem dX3_fails_0 : decode cX3_fails 0 = .ok (.aload_n 0, 1) := dk_42 (dk_at dksX3_fails_0 0 rfl rfl)
theorem dX3_fails_1 : decode cX3_fails 1 = .ok (.aload_n 0, 1) := dk_42 (dk_at dksX3_fails_0 1 rfl rfl)
theorem dX3_fails_2 : decode cX3_fails 2 = .ok (.getfield 161, 3) := dk_180 0 161 (dk_at dksX3_fails_0 2 rfl rfl)
theorem dX3_fails_5 : decode cX3_fails 5 = .ok (.ifCond .ne 14, 3) := dk_154 0 14 (dk_at dksX3_fails_0 5 rfl rfl)
theorem dX3_fails_8 : decode cX3_fails 8 = .ok (.iconst 1, 1) := dk_4 (dk_at dksX3_fails_0 8 rfl rfl)
theorem dX3_fails_9 : decode cX3_fails 9 = .ok (.bipush 8, 2) := dk_16 8 (dk_at dksX3_fails_0 9 rfl rfl)
theorem dX3_fails_11 : decode cX3_fails 11 = .ok (.iload_n 2, 1) := dk_28 (dk_at dksX3_fails_0 11 rfl rfl)
theorem dX3_fails_12 : decode cX3_fails 12 = .ok (.imul, 1) := dk_104 (dk_at dksX3_fails_0 12 rfl rfl)
theorem dX3_fails_13 : decode cX3_fails 13 = .ok (.iadd, 1) := dk_96 (dk_at dksX3_fails_0 13 rfl rfl)
theorem dX3_fails_14 : decode cX3_fails 14 = .ok (.iload_n 1, 1) := dk_27 (dk_at dksX3_fails_0 14 rfl rfl)
theorem dX3_fails_15 : decode cX3_fails 15 = .ok (.iadd, 1) := dk_96 (dk_at dksX3_fails_0 15 rfl rfl)
theorem dX3_fails_16 : decode cX3_fails 16 = .ok (.goto 7, 3) := dk_167 0 7 (dk_at dksX3_fails_0 16 rfl rfl)
theorem dX3_fails_19 : decode cX3_fails 19 = .ok (.aload_n 0, 1) := dk_42 (dk_at dksX3_fails_0 19 rfl rfl)
theorem dX3_fails_20 : decode cX3_fails 20 = .ok (.getfield 161, 3) := dk_180 0 161 (dk_at dksX3_fails_0 20 rfl rfl)
theorem dX3_fails_23 : decode cX3_fails 23 = .ok (.putfield 161, 3) := dk_181 0 161 (dk_at dksX3_fails_1 0 rfl rfl)
theorem dX3_fails_26 : decode cX3_fails 26 = .ok (.return_, 1) := dk_177 (dk_at dksX3_fails_1 3 rfl rfl)
abbrev cX3_isFull : ByteArray := prog_17_method_36_code
def yX3_isFull : MethodName := ⟨RX3, "isFull", "(II)Z"⟩
def dkwX3_isFull_2 : List UInt8 := [160, 0, 18, 42, 180, 0, 43, 5, 46, 16, 8, 160, 0, 7, 4, 167, 0, 4, 3, 172]
abbrev dktX3_isFull_2 : List UInt8 := dkwX3_isFull_2 ++ []
def dkwX3_isFull_1 : List UInt8 := [159, 0, 5, 4, 172, 27, 4, 160, 0, 13, 42, 180, 0, 43, 4, 46, 7, 159, 0, 19, 27, 5]
abbrev dktX3_isFull_1 : List UInt8 := dkwX3_isFull_1 ++ dktX3_isFull_2
def dkwX3_isFull_0 : List UInt8 := [28, 16, 40, 159, 0, 24, 27, 154, 0, 7, 4, 167, 0, 4, 3, 28, 154, 0, 7, 4, 167, 0, 4, 3]
abbrev dktX3_isFull_0 : List UInt8 := dkwX3_isFull_0 ++ dktX3_isFull_1
theorem dksX3_isFull_0 : cX3_isFull.data.toList.drop 0 = dktX3_isFull_0 := by decide +kernel
theorem dksX3_isFull_1 : cX3_isFull.data.toList.drop 24 = dktX3_isFull_1 := dk_seg dksX3_isFull_0 24 rfl rfl
theorem dksX3_isFull_2 : cX3_isFull.data.toList.drop 46 = dktX3_isFull_2 := dk_seg dksX3_isFull_1 22 rfl rfl
theorem dX3_isFull_0 : decode cX3_isFull 0 = .ok (.iload_n 2, 1) := dk_28 (dk_at dksX3_isFull_0 0 rfl rfl)
theorem dX3_isFull_1 : decode cX3_isFull 1 = .ok (.bipush 40, 2) := dk_16 40 (dk_at dksX3_isFull_0 1 rfl rfl)
theorem dX3_isFull_3 : decode cX3_isFull 3 = .ok (.if_icmp .eq 24, 3) := dk_159 0 24 (dk_at dksX3_isFull_0 3 rfl rfl)
theorem dX3_isFull_6 : decode cX3_isFull 6 = .ok (.iload_n 1, 1) := dk_27 (dk_at dksX3_isFull_0 6 rfl rfl)
theorem dX3_isFull_7 : decode cX3_isFull 7 = .ok (.ifCond .ne 7, 3) := dk_154 0 7 (dk_at dksX3_isFull_0 7 rfl rfl)
theorem dX3_isFull_10 : decode cX3_isFull 10 = .ok (.iconst 1, 1) := dk_4 (dk_at dksX3_isFull_0 10 rfl rfl)
theorem dX3_isFull_11 : decode cX3_isFull 11 = .ok (.goto 4, 3) := dk_167 0 4 (dk_at dksX3_isFull_0 11 rfl rfl)
theorem dX3_isFull_14 : decode cX3_isFull 14 = .ok (.iconst 0, 1) := dk_3 (dk_at dksX3_isFull_0 14 rfl rfl)
theorem dX3_isFull_15 : decode cX3_isFull 15 = .ok (.iload_n 2, 1) := dk_28 (dk_at dksX3_isFull_0 15 rfl rfl)
theorem dX3_isFull_16 : decode cX3_isFull 16 = .ok (.ifCond .ne 7, 3) := dk_154 0 7 (dk_at dksX3_isFull_0 16 rfl rfl)
theorem dX3_isFull_19 : decode cX3_isFull 19 = .ok (.iconst 1, 1) := dk_4 (dk_at dksX3_isFull_0 19 rfl rfl)
theorem dX3_isFull_20 : decode cX3_isFull 20 = .ok (.goto 4, 3) := dk_167 0 4 (dk_at dksX3_isFull_0 20 rfl rfl)
theorem dX3_isFull_23 : decode cX3_isFull 23 = .ok (.iconst 0, 1) := dk_3 (dk_at dksX3_isFull_0 23 rfl rfl)
theorem dX3_isFull_24 : decode cX3_isFull 24 = .ok (.if_icmp .eq 5, 3) := dk_159 0 5 (dk_at dksX3_isFull_1 0 rfl rfl)
theorem dX3_isFull_27 : decode cX3_isFull 27 = .ok (.iconst 1, 1) := dk_4 (dk_at dksX3_isFull_1 3 rfl rfl)
theorem dX3_isFull_28 : decode cX3_isFull 28 = .ok (.ireturn, 1) := dk_172 (dk_at dksX3_isFull_1 4 rfl rfl)
theorem dX3_isFull_29 : decode cX3_isFull 29 = .ok (.iload_n 1, 1) := dk_27 (dk_at dksX3_isFull_1 5 rfl rfl)
theorem dX3_isFull_30 : decode cX3_isFull 30 = .ok (.iconst 1, 1) := dk_4 (dk_at dksX3_isFull_1 6 rfl rfl)
theorem dX3_isFull_31 : decode cX3_isFull 31 = .ok (.if_icmp .ne 13, 3) := dk_160 0 13 (dk_at dksX3_isFull_1 7 rfl rfl)
theorem dX3_isFull_34 : decode cX3_isFull 34 = .ok (.aload_n 0, 1) := dk_42 (dk_at dksX3_isFull_1 10 rfl rfl)
theorem dX3_isFull_35 : decode cX3_isFull 35 = .ok (.getfield 43, 3) := dk_180 0 43 (dk_at dksX3_isFull_1 11 rfl rfl)
theorem dX3_isFull_38 : decode cX3_isFull 38 = .ok (.iconst 1, 1) := dk_4 (dk_at dksX3_isFull_1 14 rfl rfl)
theorem dX3_isFull_39 : decode cX3_isFull 39 = .ok (.iaload, 1) := dk_46 (dk_at dksX3_isFull_1 15 rfl rfl)
theorem dX3_isFull_40 : decode cX3_isFull 40 = .ok (.iconst 4, 1) := dk_7 (dk_at dksX3_isFull_1 16 rfl rfl)
theorem dX3_isFull_41 : decode cX3_isFull 41 = .ok (.if_icmp .eq 19, 3) := dk_159 0 19 (dk_at dksX3_isFull_1 17 rfl rfl)
theorem dX3_isFull_44 : decode cX3_isFull 44 = .ok (.iload_n 1, 1) := dk_27 (dk_at dksX3_isFull_1 20 rfl rfl)
theorem dX3_isFull_45 : decode cX3_isFull 45 = .ok (.iconst 2, 1) := dk_5 (dk_at dksX3_isFull_1 21 rfl rfl)
theorem dX3_isFull_46 : decode cX3_isFull 46 = .ok (.if_icmp .ne 18, 3) := dk_160 0 18 (dk_at dksX3_isFull_2 0 rfl rfl)
theorem dX3_isFull_49 : decode cX3_isFull 49 = .ok (.aload_n 0, 1) := dk_42 (dk_at dksX3_isFull_2 3 rfl rfl)
theorem dX3_isFull_50 : decode cX3_isFull 50 = .ok (.getfield 43, 3) := dk_180 0 43 (dk_at dksX3_isFull_2 4 rfl rfl)
theorem dX3_isFull_53 : decode cX3_isFull 53 = .ok (.iconst 2, 1) := dk_5 (dk_at dksX3_isFull_2 7 rfl rfl)
theorem dX3_isFull_54 : decode cX3_isFull 54 = .ok (.iaload, 1) := dk_46 (dk_at dksX3_isFull_2 8 rfl rfl)
theorem dX3_isFull_55 : decode cX3_isFull 55 = .ok (.bipush 8, 2) := dk_16 8 (dk_at dksX3_isFull_2 9 rfl rfl)
theorem dX3_isFull_57 : decode cX3_isFull 57 = .ok (.if_icmp .ne 7, 3) := dk_160 0 7 (dk_at dksX3_isFull_2 11 rfl rfl)
theorem dX3_isFull_60 : decode cX3_isFull 60 = .ok (.iconst 1, 1) := dk_4 (dk_at dksX3_isFull_2 14 rfl rfl)
theorem dX3_isFull_61 : decode cX3_isFull 61 = .ok (.goto 4, 3) := dk_167 0 4 (dk_at dksX3_isFull_2 15 rfl rfl)
theorem dX3_isFull_64 : decode cX3_isFull 64 = .ok (.iconst 0, 1) := dk_3 (dk_at dksX3_isFull_2 18 rfl rfl)
theorem dX3_isFull_65 : decode cX3_isFull 65 = .ok (.ireturn, 1) := dk_172 (dk_at dksX3_isFull_2 19 rfl rfl)
abbrev cX3_hallPart : ByteArray := prog_17_method_35_code
def yX3_hallPart : MethodName := ⟨RX3, "hallPart", "(I)V"⟩
def dkwX3_hallPart_6 : List UInt8 := [182, 1, 11, 177]
abbrev dktX3_hallPart_6 : List UInt8 := dkwX3_hallPart_6 ++ []
def dkwX3_hallPart_5 : List UInt8 := [4, 46, 4, 100, 182, 1, 7, 79, 42, 180, 0, 43, 5, 92, 46, 4, 96, 79, 167, 0, 7, 42]
abbrev dktX3_hallPart_5 : List UInt8 := dkwX3_hallPart_5 ++ dktX3_hallPart_6
def dkwX3_hallPart_4 : List UInt8 := [42, 180, 0, 49, 28, 42, 4, 16, 60, 182, 1, 7, 79, 42, 180, 0, 52, 28, 42, 3, 42, 180, 0, 43]
abbrev dktX3_hallPart_4 : List UInt8 := dkwX3_hallPart_4 ++ dktX3_hallPart_5
def dkwX3_hallPart_3 : List UInt8 := [182, 1, 7, 79, 42, 180, 0, 43, 4, 92, 46, 4, 96, 79, 167, 0, 59, 42, 180, 0, 43, 5, 46, 61]
abbrev dktX3_hallPart_3 : List UInt8 := dkwX3_hallPart_3 ++ dktX3_hallPart_4
def dkwX3_hallPart_2 : List UInt8 := [42, 180, 0, 43, 3, 4, 79, 167, 0, 90, 42, 180, 0, 46, 42, 180, 0, 43, 4, 46, 42, 3, 16, 99]
abbrev dktX3_hallPart_2 : List UInt8 := dkwX3_hallPart_2 ++ dktX3_hallPart_3
def dkwX3_hallPart_1 : List UInt8 := [170, 0, 0, 0, 0, 0, 120, 0, 0, 0, 0, 0, 0, 0, 2, 0, 0, 0, 27, 0, 0, 0, 37, 0, 0, 0, 68]
abbrev dktX3_hallPart_1 : List UInt8 := dkwX3_hallPart_1 ++ dktX3_hallPart_2
def dkwX3_hallPart_0 : List UInt8 := [27]
abbrev dktX3_hallPart_0 : List UInt8 := dkwX3_hallPart_0 ++ dktX3_hallPart_1
theorem dksX3_hallPart_0 : cX3_hallPart.data.toList.drop 0 = dktX3_hallPart_0 := by decide +kernel
theorem dksX3_hallPart_1 : cX3_hallPart.data.toList.drop 1 = dktX3_hallPart_1 := dk_seg dksX3_hallPart_0 1 rfl rfl
theorem dksX3_hallPart_2 : cX3_hallPart.data.toList.drop 28 = dktX3_hallPart_2 := dk_seg dksX3_hallPart_1 27 rfl rfl
theorem dksX3_hallPart_3 : cX3_hallPart.data.toList.drop 52 = dktX3_hallPart_3 := dk_seg dksX3_hallPart_2 24 rfl rfl
theorem dksX3_hallPart_4 : cX3_hallPart.data.toList.drop 76 = dktX3_hallPart_4 := dk_seg dksX3_hallPart_3 24 rfl rfl
theorem dksX3_hallPart_5 : cX3_hallPart.data.toList.drop 100 = dktX3_hallPart_5 := dk_seg dksX3_hallPart_4 24 rfl rfl
theorem dksX3_hallPart_6 : cX3_hallPart.data.toList.drop 122 = dktX3_hallPart_6 := dk_seg dksX3_hallPart_5 22 rfl rfl
theorem dX3_hallPart_0 : decode cX3_hallPart 0 = .ok (.iload_n 1, 1) := dk_27 (dk_at dksX3_hallPart_0 0 rfl rfl)
theorem dX3_hallPart_1 : decode cX3_hallPart 1 = .ok (.tableswitch 120 0 2 #[27, 37, 68], 27) := by decide +kernel
theorem dX3_hallPart_28 : decode cX3_hallPart 28 = .ok (.aload_n 0, 1) := dk_42 (dk_at dksX3_hallPart_2 0 rfl rfl)
theorem dX3_hallPart_29 : decode cX3_hallPart 29 = .ok (.getfield 43, 3) := dk_180 0 43 (dk_at dksX3_hallPart_2 1 rfl rfl)
theorem dX3_hallPart_32 : decode cX3_hallPart 32 = .ok (.iconst 0, 1) := dk_3 (dk_at dksX3_hallPart_2 4 rfl rfl)
theorem dX3_hallPart_33 : decode cX3_hallPart 33 = .ok (.iconst 1, 1) := dk_4 (dk_at dksX3_hallPart_2 5 rfl rfl)
theorem dX3_hallPart_34 : decode cX3_hallPart 34 = .ok (.iastore, 1) := dk_79 (dk_at dksX3_hallPart_2 6 rfl rfl)
theorem dX3_hallPart_35 : decode cX3_hallPart 35 = .ok (.goto 90, 3) := dk_167 0 90 (dk_at dksX3_hallPart_2 7 rfl rfl)
theorem dX3_hallPart_38 : decode cX3_hallPart 38 = .ok (.aload_n 0, 1) := dk_42 (dk_at dksX3_hallPart_2 10 rfl rfl)
theorem dX3_hallPart_39 : decode cX3_hallPart 39 = .ok (.getfield 46, 3) := dk_180 0 46 (dk_at dksX3_hallPart_2 11 rfl rfl)
theorem dX3_hallPart_42 : decode cX3_hallPart 42 = .ok (.aload_n 0, 1) := dk_42 (dk_at dksX3_hallPart_2 14 rfl rfl)
theorem dX3_hallPart_43 : decode cX3_hallPart 43 = .ok (.getfield 43, 3) := dk_180 0 43 (dk_at dksX3_hallPart_2 15 rfl rfl)
theorem dX3_hallPart_46 : decode cX3_hallPart 46 = .ok (.iconst 1, 1) := dk_4 (dk_at dksX3_hallPart_2 18 rfl rfl)
theorem dX3_hallPart_47 : decode cX3_hallPart 47 = .ok (.iaload, 1) := dk_46 (dk_at dksX3_hallPart_2 19 rfl rfl)
theorem dX3_hallPart_48 : decode cX3_hallPart 48 = .ok (.aload_n 0, 1) := dk_42 (dk_at dksX3_hallPart_2 20 rfl rfl)
theorem dX3_hallPart_49 : decode cX3_hallPart 49 = .ok (.iconst 0, 1) := dk_3 (dk_at dksX3_hallPart_2 21 rfl rfl)
theorem dX3_hallPart_50 : decode cX3_hallPart 50 = .ok (.bipush 99, 2) := dk_16 99 (dk_at dksX3_hallPart_2 22 rfl rfl)
theorem dX3_hallPart_52 : decode cX3_hallPart 52 = .ok (.invokevirtual 263, 3) := dk_182 1 7 (dk_at dksX3_hallPart_3 0 rfl rfl)
theorem dX3_hallPart_55 : decode cX3_hallPart 55 = .ok (.iastore, 1) := dk_79 (dk_at dksX3_hallPart_3 3 rfl rfl)
theorem dX3_hallPart_56 : decode cX3_hallPart 56 = .ok (.aload_n 0, 1) := dk_42 (dk_at dksX3_hallPart_3 4 rfl rfl)
theorem dX3_hallPart_57 : decode cX3_hallPart 57 = .ok (.getfield 43, 3) := dk_180 0 43 (dk_at dksX3_hallPart_3 5 rfl rfl)
theorem dX3_hallPart_60 : decode cX3_hallPart 60 = .ok (.iconst 1, 1) := dk_4 (dk_at dksX3_hallPart_3 8 rfl rfl)
theorem dX3_hallPart_61 : decode cX3_hallPart 61 = .ok (.dup2, 1) := dk_92 (dk_at dksX3_hallPart_3 9 rfl rfl)
theorem dX3_hallPart_62 : decode cX3_hallPart 62 = .ok (.iaload, 1) := dk_46 (dk_at dksX3_hallPart_3 10 rfl rfl)
theorem dX3_hallPart_63 : decode cX3_hallPart 63 = .ok (.iconst 1, 1) := dk_4 (dk_at dksX3_hallPart_3 11 rfl rfl)
theorem dX3_hallPart_64 : decode cX3_hallPart 64 = .ok (.iadd, 1) := dk_96 (dk_at dksX3_hallPart_3 12 rfl rfl)
theorem dX3_hallPart_65 : decode cX3_hallPart 65 = .ok (.iastore, 1) := dk_79 (dk_at dksX3_hallPart_3 13 rfl rfl)
theorem dX3_hallPart_66 : decode cX3_hallPart 66 = .ok (.goto 59, 3) := dk_167 0 59 (dk_at dksX3_hallPart_3 14 rfl rfl)
theorem dX3_hallPart_69 : decode cX3_hallPart 69 = .ok (.aload_n 0, 1) := dk_42 (dk_at dksX3_hallPart_3 17 rfl rfl)
theorem dX3_hallPart_70 : decode cX3_hallPart 70 = .ok (.getfield 43, 3) := dk_180 0 43 (dk_at dksX3_hallPart_3 18 rfl rfl)
theorem dX3_hallPart_73 : decode cX3_hallPart 73 = .ok (.iconst 2, 1) := dk_5 (dk_at dksX3_hallPart_3 21 rfl rfl)
theorem dX3_hallPart_74 : decode cX3_hallPart 74 = .ok (.iaload, 1) := dk_46 (dk_at dksX3_hallPart_3 22 rfl rfl)
theorem dX3_hallPart_75 : decode cX3_hallPart 75 = .ok (.istore_n 2, 1) := dk_61 (dk_at dksX3_hallPart_3 23 rfl rfl)
theorem dX3_hallPart_76 : decode cX3_hallPart 76 = .ok (.aload_n 0, 1) := dk_42 (dk_at dksX3_hallPart_4 0 rfl rfl)
theorem dX3_hallPart_77 : decode cX3_hallPart 77 = .ok (.getfield 49, 3) := dk_180 0 49 (dk_at dksX3_hallPart_4 1 rfl rfl)
theorem dX3_hallPart_80 : decode cX3_hallPart 80 = .ok (.iload_n 2, 1) := dk_28 (dk_at dksX3_hallPart_4 4 rfl rfl)
theorem dX3_hallPart_81 : decode cX3_hallPart 81 = .ok (.aload_n 0, 1) := dk_42 (dk_at dksX3_hallPart_4 5 rfl rfl)
theorem dX3_hallPart_82 : decode cX3_hallPart 82 = .ok (.iconst 1, 1) := dk_4 (dk_at dksX3_hallPart_4 6 rfl rfl)
theorem dX3_hallPart_83 : decode cX3_hallPart 83 = .ok (.bipush 60, 2) := dk_16 60 (dk_at dksX3_hallPart_4 7 rfl rfl)
theorem dX3_hallPart_85 : decode cX3_hallPart 85 = .ok (.invokevirtual 263, 3) := dk_182 1 7 (dk_at dksX3_hallPart_4 9 rfl rfl)
theorem dX3_hallPart_88 : decode cX3_hallPart 88 = .ok (.iastore, 1) := dk_79 (dk_at dksX3_hallPart_4 12 rfl rfl)
theorem dX3_hallPart_89 : decode cX3_hallPart 89 = .ok (.aload_n 0, 1) := dk_42 (dk_at dksX3_hallPart_4 13 rfl rfl)
theorem dX3_hallPart_90 : decode cX3_hallPart 90 = .ok (.getfield 52, 3) := dk_180 0 52 (dk_at dksX3_hallPart_4 14 rfl rfl)
theorem dX3_hallPart_93 : decode cX3_hallPart 93 = .ok (.iload_n 2, 1) := dk_28 (dk_at dksX3_hallPart_4 17 rfl rfl)
theorem dX3_hallPart_94 : decode cX3_hallPart 94 = .ok (.aload_n 0, 1) := dk_42 (dk_at dksX3_hallPart_4 18 rfl rfl)
theorem dX3_hallPart_95 : decode cX3_hallPart 95 = .ok (.iconst 0, 1) := dk_3 (dk_at dksX3_hallPart_4 19 rfl rfl)
theorem dX3_hallPart_96 : decode cX3_hallPart 96 = .ok (.aload_n 0, 1) := dk_42 (dk_at dksX3_hallPart_4 20 rfl rfl)
theorem dX3_hallPart_97 : decode cX3_hallPart 97 = .ok (.getfield 43, 3) := dk_180 0 43 (dk_at dksX3_hallPart_4 21 rfl rfl)
theorem dX3_hallPart_100 : decode cX3_hallPart 100 = .ok (.iconst 1, 1) := dk_4 (dk_at dksX3_hallPart_5 0 rfl rfl)
theorem dX3_hallPart_101 : decode cX3_hallPart 101 = .ok (.iaload, 1) := dk_46 (dk_at dksX3_hallPart_5 1 rfl rfl)
theorem dX3_hallPart_102 : decode cX3_hallPart 102 = .ok (.iconst 1, 1) := dk_4 (dk_at dksX3_hallPart_5 2 rfl rfl)
theorem dX3_hallPart_103 : decode cX3_hallPart 103 = .ok (.isub, 1) := dk_100 (dk_at dksX3_hallPart_5 3 rfl rfl)
theorem dX3_hallPart_104 : decode cX3_hallPart 104 = .ok (.invokevirtual 263, 3) := dk_182 1 7 (dk_at dksX3_hallPart_5 4 rfl rfl)
theorem dX3_hallPart_107 : decode cX3_hallPart 107 = .ok (.iastore, 1) := dk_79 (dk_at dksX3_hallPart_5 7 rfl rfl)
theorem dX3_hallPart_108 : decode cX3_hallPart 108 = .ok (.aload_n 0, 1) := dk_42 (dk_at dksX3_hallPart_5 8 rfl rfl)
theorem dX3_hallPart_109 : decode cX3_hallPart 109 = .ok (.getfield 43, 3) := dk_180 0 43 (dk_at dksX3_hallPart_5 9 rfl rfl)
theorem dX3_hallPart_112 : decode cX3_hallPart 112 = .ok (.iconst 2, 1) := dk_5 (dk_at dksX3_hallPart_5 12 rfl rfl)
theorem dX3_hallPart_113 : decode cX3_hallPart 113 = .ok (.dup2, 1) := dk_92 (dk_at dksX3_hallPart_5 13 rfl rfl)
theorem dX3_hallPart_114 : decode cX3_hallPart 114 = .ok (.iaload, 1) := dk_46 (dk_at dksX3_hallPart_5 14 rfl rfl)
theorem dX3_hallPart_115 : decode cX3_hallPart 115 = .ok (.iconst 1, 1) := dk_4 (dk_at dksX3_hallPart_5 15 rfl rfl)
theorem dX3_hallPart_116 : decode cX3_hallPart 116 = .ok (.iadd, 1) := dk_96 (dk_at dksX3_hallPart_5 16 rfl rfl)
theorem dX3_hallPart_117 : decode cX3_hallPart 117 = .ok (.iastore, 1) := dk_79 (dk_at dksX3_hallPart_5 17 rfl rfl)
theorem dX3_hallPart_118 : decode cX3_hallPart 118 = .ok (.goto 7, 3) := dk_167 0 7 (dk_at dksX3_hallPart_5 18 rfl rfl)
theorem dX3_hallPart_121 : decode cX3_hallPart 121 = .ok (.aload_n 0, 1) := dk_42 (dk_at dksX3_hallPart_5 21 rfl rfl)
theorem dX3_hallPart_122 : decode cX3_hallPart 122 = .ok (.invokevirtual 267, 3) := dk_182 1 11 (dk_at dksX3_hallPart_6 0 rfl rfl)
theorem dX3_hallPart_125 : decode cX3_hallPart 125 = .ok (.return_, 1) := dk_177 (dk_at dksX3_hallPart_6 3 rfl rfl)
abbrev cX3_amount : ByteArray := prog_17_method_32_code
def yX3_amount : MethodName := ⟨RX3, "amount", "(II)I"⟩
def dkwX3_amount_2 : List UInt8 := [154, 0, 9, 42, 4, 29, 182, 0, 200, 21, 4, 172]
abbrev dktX3_amount_2 : List UInt8 := dkwX3_amount_2 ++ []
def dkwX3_amount_1 : List UInt8 := [167, 0, 4, 3, 54, 4, 42, 180, 0, 161, 154, 0, 22, 21, 4, 133, 27, 133, 28, 133, 184, 0, 131]
abbrev dktX3_amount_1 : List UInt8 := dkwX3_amount_1 ++ dktX3_amount_2
def dkwX3_amount_0 : List UInt8 := [42, 182, 0, 184, 42, 180, 0, 164, 62, 42, 180, 0, 161, 154, 0, 12, 42, 18, 208, 182, 0, 209]
abbrev dktX3_amount_0 : List UInt8 := dkwX3_amount_0 ++ dktX3_amount_1
theorem dksX3_amount_0 : cX3_amount.data.toList.drop 0 = dktX3_amount_0 := by decide +kernel
theorem dksX3_amount_1 : cX3_amount.data.toList.drop 22 = dktX3_amount_1 := dk_seg dksX3_amount_0 22 rfl rfl
theorem dksX3_amount_2 : cX3_amount.data.toList.drop 45 = dktX3_amount_2 := dk_seg dksX3_amount_1 23 rfl rfl
theorem dX3_amount_0 : decode cX3_amount 0 = .ok (.aload_n 0, 1) := dk_42 (dk_at dksX3_amount_0 0 rfl rfl)
theorem dX3_amount_1 : decode cX3_amount 1 = .ok (.invokevirtual 184, 3) := dk_182 0 184 (dk_at dksX3_amount_0 1 rfl rfl)
theorem dX3_amount_4 : decode cX3_amount 4 = .ok (.aload_n 0, 1) := dk_42 (dk_at dksX3_amount_0 4 rfl rfl)
theorem dX3_amount_5 : decode cX3_amount 5 = .ok (.getfield 164, 3) := dk_180 0 164 (dk_at dksX3_amount_0 5 rfl rfl)
theorem dX3_amount_8 : decode cX3_amount 8 = .ok (.istore_n 3, 1) := dk_62 (dk_at dksX3_amount_0 8 rfl rfl)
theorem dX3_amount_9 : decode cX3_amount 9 = .ok (.aload_n 0, 1) := dk_42 (dk_at dksX3_amount_0 9 rfl rfl)
theorem dX3_amount_10 : decode cX3_amount 10 = .ok (.getfield 161, 3) := dk_180 0 161 (dk_at dksX3_amount_0 10 rfl rfl)
theorem dX3_amount_13 : decode cX3_amount 13 = .ok (.ifCond .ne 12, 3) := dk_154 0 12 (dk_at dksX3_amount_0 13 rfl rfl)
theorem dX3_amount_16 : decode cX3_amount 16 = .ok (.aload_n 0, 1) := dk_42 (dk_at dksX3_amount_0 16 rfl rfl)
theorem dX3_amount_17 : decode cX3_amount 17 = .ok (.ldc 208, 2) := dk_18 208 (dk_at dksX3_amount_0 17 rfl rfl)
theorem dX3_amount_19 : decode cX3_amount 19 = .ok (.invokevirtual 209, 3) := dk_182 0 209 (dk_at dksX3_amount_0 19 rfl rfl)
theorem dX3_amount_22 : decode cX3_amount 22 = .ok (.goto 4, 3) := dk_167 0 4 (dk_at dksX3_amount_1 0 rfl rfl)
theorem dX3_amount_25 : decode cX3_amount 25 = .ok (.iconst 0, 1) := dk_3 (dk_at dksX3_amount_1 3 rfl rfl)
theorem dX3_amount_26 : decode cX3_amount 26 = .ok (.istore 4, 2) := dk_54 4 (dk_at dksX3_amount_1 4 rfl rfl)
theorem dX3_amount_28 : decode cX3_amount 28 = .ok (.aload_n 0, 1) := dk_42 (dk_at dksX3_amount_1 6 rfl rfl)
theorem dX3_amount_29 : decode cX3_amount 29 = .ok (.getfield 161, 3) := dk_180 0 161 (dk_at dksX3_amount_1 7 rfl rfl)
theorem dX3_amount_32 : decode cX3_amount 32 = .ok (.ifCond .ne 22, 3) := dk_154 0 22 (dk_at dksX3_amount_1 10 rfl rfl)
theorem dX3_amount_35 : decode cX3_amount 35 = .ok (.iload 4, 2) := dk_21 4 (dk_at dksX3_amount_1 13 rfl rfl)
theorem dX3_amount_37 : decode cX3_amount 37 = .ok (.i2l, 1) := dk_133 (dk_at dksX3_amount_1 15 rfl rfl)
theorem dX3_amount_38 : decode cX3_amount 38 = .ok (.iload_n 1, 1) := dk_27 (dk_at dksX3_amount_1 16 rfl rfl)
theorem dX3_amount_39 : decode cX3_amount 39 = .ok (.i2l, 1) := dk_133 (dk_at dksX3_amount_1 17 rfl rfl)
theorem dX3_amount_40 : decode cX3_amount 40 = .ok (.iload_n 2, 1) := dk_28 (dk_at dksX3_amount_1 18 rfl rfl)
theorem dX3_amount_41 : decode cX3_amount 41 = .ok (.i2l, 1) := dk_133 (dk_at dksX3_amount_1 19 rfl rfl)
theorem dX3_amount_42 : decode cX3_amount 42 = .ok (.invokestatic 131, 3) := dk_184 0 131 (dk_at dksX3_amount_1 20 rfl rfl)
theorem dX3_amount_45 : decode cX3_amount 45 = .ok (.ifCond .ne 9, 3) := dk_154 0 9 (dk_at dksX3_amount_2 0 rfl rfl)
theorem dX3_amount_48 : decode cX3_amount 48 = .ok (.aload_n 0, 1) := dk_42 (dk_at dksX3_amount_2 3 rfl rfl)
theorem dX3_amount_49 : decode cX3_amount 49 = .ok (.iconst 1, 1) := dk_4 (dk_at dksX3_amount_2 4 rfl rfl)
theorem dX3_amount_50 : decode cX3_amount 50 = .ok (.iload_n 3, 1) := dk_29 (dk_at dksX3_amount_2 5 rfl rfl)
theorem dX3_amount_51 : decode cX3_amount 51 = .ok (.invokevirtual 200, 3) := dk_182 0 200 (dk_at dksX3_amount_2 6 rfl rfl)
theorem dX3_amount_54 : decode cX3_amount 54 = .ok (.iload 4, 2) := dk_21 4 (dk_at dksX3_amount_2 9 rfl rfl)
theorem dX3_amount_56 : decode cX3_amount 56 = .ok (.ireturn, 1) := dk_172 (dk_at dksX3_amount_2 11 rfl rfl)
abbrev cX3_digits : ByteArray := prog_17_method_22_code
def yX3_digits : MethodName := ⟨RX3, "digits", "(I)I"⟩
def dkwX3_digits_4 : List UInt8 := [29, 172]
abbrev dktX3_digits_4 : List UInt8 := dkwX3_digits_4 ++ []
def dkwX3_digits_3 : List UInt8 := [167, 255, 212, 42, 180, 0, 164, 28, 100, 8, 163, 0, 8, 29, 27, 164, 0, 9, 42, 4, 28, 182, 0, 200]
abbrev dktX3_digits_3 : List UInt8 := dkwX3_digits_3 ++ dktX3_digits_4
def dkwX3_digits_2 : List UInt8 := [182, 0, 167, 96, 16, 48, 100, 167, 0, 4, 29, 62, 42, 89, 180, 0, 164, 4, 96, 181, 0, 164]
abbrev dktX3_digits_2 : List UInt8 := dkwX3_digits_2 ++ dktX3_digits_3
def dkwX3_digits_1 : List UInt8 := [62, 42, 182, 0, 204, 153, 0, 43, 42, 180, 0, 164, 28, 100, 8, 162, 0, 18, 16, 10, 29, 104, 42]
abbrev dktX3_digits_1 : List UInt8 := dkwX3_digits_1 ++ dktX3_digits_2
def dkwX3_digits_0 : List UInt8 := [42, 182, 0, 204, 154, 0, 14, 42, 3, 42, 180, 0, 164, 182, 0, 200, 3, 172, 42, 180, 0, 164, 61, 3]
abbrev dktX3_digits_0 : List UInt8 := dkwX3_digits_0 ++ dktX3_digits_1
theorem dksX3_digits_0 : cX3_digits.data.toList.drop 0 = dktX3_digits_0 := by decide +kernel
theorem dksX3_digits_1 : cX3_digits.data.toList.drop 24 = dktX3_digits_1 := dk_seg dksX3_digits_0 24 rfl rfl
theorem dksX3_digits_2 : cX3_digits.data.toList.drop 47 = dktX3_digits_2 := dk_seg dksX3_digits_1 23 rfl rfl
theorem dksX3_digits_3 : cX3_digits.data.toList.drop 69 = dktX3_digits_3 := dk_seg dksX3_digits_2 22 rfl rfl
theorem dksX3_digits_4 : cX3_digits.data.toList.drop 93 = dktX3_digits_4 := dk_seg dksX3_digits_3 24 rfl rfl
theorem dX3_digits_0 : decode cX3_digits 0 = .ok (.aload_n 0, 1) := dk_42 (dk_at dksX3_digits_0 0 rfl rfl)
theorem dX3_digits_1 : decode cX3_digits 1 = .ok (.invokevirtual 204, 3) := dk_182 0 204 (dk_at dksX3_digits_0 1 rfl rfl)
theorem dX3_digits_4 : decode cX3_digits 4 = .ok (.ifCond .ne 14, 3) := dk_154 0 14 (dk_at dksX3_digits_0 4 rfl rfl)
theorem dX3_digits_7 : decode cX3_digits 7 = .ok (.aload_n 0, 1) := dk_42 (dk_at dksX3_digits_0 7 rfl rfl)
theorem dX3_digits_8 : decode cX3_digits 8 = .ok (.iconst 0, 1) := dk_3 (dk_at dksX3_digits_0 8 rfl rfl)
theorem dX3_digits_9 : decode cX3_digits 9 = .ok (.aload_n 0, 1) := dk_42 (dk_at dksX3_digits_0 9 rfl rfl)
theorem dX3_digits_10 : decode cX3_digits 10 = .ok (.getfield 164, 3) := dk_180 0 164 (dk_at dksX3_digits_0 10 rfl rfl)
theorem dX3_digits_13 : decode cX3_digits 13 = .ok (.invokevirtual 200, 3) := dk_182 0 200 (dk_at dksX3_digits_0 13 rfl rfl)
theorem dX3_digits_16 : decode cX3_digits 16 = .ok (.iconst 0, 1) := dk_3 (dk_at dksX3_digits_0 16 rfl rfl)
theorem dX3_digits_17 : decode cX3_digits 17 = .ok (.ireturn, 1) := dk_172 (dk_at dksX3_digits_0 17 rfl rfl)
theorem dX3_digits_18 : decode cX3_digits 18 = .ok (.aload_n 0, 1) := dk_42 (dk_at dksX3_digits_0 18 rfl rfl)
theorem dX3_digits_19 : decode cX3_digits 19 = .ok (.getfield 164, 3) := dk_180 0 164 (dk_at dksX3_digits_0 19 rfl rfl)
theorem dX3_digits_22 : decode cX3_digits 22 = .ok (.istore_n 2, 1) := dk_61 (dk_at dksX3_digits_0 22 rfl rfl)
theorem dX3_digits_23 : decode cX3_digits 23 = .ok (.iconst 0, 1) := dk_3 (dk_at dksX3_digits_0 23 rfl rfl)
theorem dX3_digits_24 : decode cX3_digits 24 = .ok (.istore_n 3, 1) := dk_62 (dk_at dksX3_digits_1 0 rfl rfl)
theorem dX3_digits_25 : decode cX3_digits 25 = .ok (.aload_n 0, 1) := dk_42 (dk_at dksX3_digits_1 1 rfl rfl)
theorem dX3_digits_26 : decode cX3_digits 26 = .ok (.invokevirtual 204, 3) := dk_182 0 204 (dk_at dksX3_digits_1 2 rfl rfl)
theorem dX3_digits_29 : decode cX3_digits 29 = .ok (.ifCond .eq 43, 3) := dk_153 0 43 (dk_at dksX3_digits_1 5 rfl rfl)
theorem dX3_digits_32 : decode cX3_digits 32 = .ok (.aload_n 0, 1) := dk_42 (dk_at dksX3_digits_1 8 rfl rfl)
theorem dX3_digits_33 : decode cX3_digits 33 = .ok (.getfield 164, 3) := dk_180 0 164 (dk_at dksX3_digits_1 9 rfl rfl)
theorem dX3_digits_36 : decode cX3_digits 36 = .ok (.iload_n 2, 1) := dk_28 (dk_at dksX3_digits_1 12 rfl rfl)
theorem dX3_digits_37 : decode cX3_digits 37 = .ok (.isub, 1) := dk_100 (dk_at dksX3_digits_1 13 rfl rfl)
theorem dX3_digits_38 : decode cX3_digits 38 = .ok (.iconst 5, 1) := dk_8 (dk_at dksX3_digits_1 14 rfl rfl)
theorem dX3_digits_39 : decode cX3_digits 39 = .ok (.if_icmp .ge 18, 3) := dk_162 0 18 (dk_at dksX3_digits_1 15 rfl rfl)
theorem dX3_digits_42 : decode cX3_digits 42 = .ok (.bipush 10, 2) := dk_16 10 (dk_at dksX3_digits_1 18 rfl rfl)
theorem dX3_digits_44 : decode cX3_digits 44 = .ok (.iload_n 3, 1) := dk_29 (dk_at dksX3_digits_1 20 rfl rfl)
theorem dX3_digits_45 : decode cX3_digits 45 = .ok (.imul, 1) := dk_104 (dk_at dksX3_digits_1 21 rfl rfl)
theorem dX3_digits_46 : decode cX3_digits 46 = .ok (.aload_n 0, 1) := dk_42 (dk_at dksX3_digits_1 22 rfl rfl)
theorem dX3_digits_47 : decode cX3_digits 47 = .ok (.invokevirtual 167, 3) := dk_182 0 167 (dk_at dksX3_digits_2 0 rfl rfl)
theorem dX3_digits_50 : decode cX3_digits 50 = .ok (.iadd, 1) := dk_96 (dk_at dksX3_digits_2 3 rfl rfl)
theorem dX3_digits_51 : decode cX3_digits 51 = .ok (.bipush 48, 2) := dk_16 48 (dk_at dksX3_digits_2 4 rfl rfl)
theorem dX3_digits_53 : decode cX3_digits 53 = .ok (.isub, 1) := dk_100 (dk_at dksX3_digits_2 6 rfl rfl)
theorem dX3_digits_54 : decode cX3_digits 54 = .ok (.goto 4, 3) := dk_167 0 4 (dk_at dksX3_digits_2 7 rfl rfl)
theorem dX3_digits_57 : decode cX3_digits 57 = .ok (.iload_n 3, 1) := dk_29 (dk_at dksX3_digits_2 10 rfl rfl)
theorem dX3_digits_58 : decode cX3_digits 58 = .ok (.istore_n 3, 1) := dk_62 (dk_at dksX3_digits_2 11 rfl rfl)
theorem dX3_digits_59 : decode cX3_digits 59 = .ok (.aload_n 0, 1) := dk_42 (dk_at dksX3_digits_2 12 rfl rfl)
theorem dX3_digits_60 : decode cX3_digits 60 = .ok (.dup, 1) := dk_89 (dk_at dksX3_digits_2 13 rfl rfl)
theorem dX3_digits_61 : decode cX3_digits 61 = .ok (.getfield 164, 3) := dk_180 0 164 (dk_at dksX3_digits_2 14 rfl rfl)
theorem dX3_digits_64 : decode cX3_digits 64 = .ok (.iconst 1, 1) := dk_4 (dk_at dksX3_digits_2 17 rfl rfl)
theorem dX3_digits_65 : decode cX3_digits 65 = .ok (.iadd, 1) := dk_96 (dk_at dksX3_digits_2 18 rfl rfl)
theorem dX3_digits_66 : decode cX3_digits 66 = .ok (.putfield 164, 3) := dk_181 0 164 (dk_at dksX3_digits_2 19 rfl rfl)
theorem dX3_digits_69 : decode cX3_digits 69 = .ok (.goto (-44), 3) := dk_167 255 212 (dk_at dksX3_digits_3 0 rfl rfl)
theorem dX3_digits_72 : decode cX3_digits 72 = .ok (.aload_n 0, 1) := dk_42 (dk_at dksX3_digits_3 3 rfl rfl)
theorem dX3_digits_73 : decode cX3_digits 73 = .ok (.getfield 164, 3) := dk_180 0 164 (dk_at dksX3_digits_3 4 rfl rfl)
theorem dX3_digits_76 : decode cX3_digits 76 = .ok (.iload_n 2, 1) := dk_28 (dk_at dksX3_digits_3 7 rfl rfl)
theorem dX3_digits_77 : decode cX3_digits 77 = .ok (.isub, 1) := dk_100 (dk_at dksX3_digits_3 8 rfl rfl)
theorem dX3_digits_78 : decode cX3_digits 78 = .ok (.iconst 5, 1) := dk_8 (dk_at dksX3_digits_3 9 rfl rfl)
theorem dX3_digits_79 : decode cX3_digits 79 = .ok (.if_icmp .gt 8, 3) := dk_163 0 8 (dk_at dksX3_digits_3 10 rfl rfl)
theorem dX3_digits_82 : decode cX3_digits 82 = .ok (.iload_n 3, 1) := dk_29 (dk_at dksX3_digits_3 13 rfl rfl)
theorem dX3_digits_83 : decode cX3_digits 83 = .ok (.iload_n 1, 1) := dk_27 (dk_at dksX3_digits_3 14 rfl rfl)
theorem dX3_digits_84 : decode cX3_digits 84 = .ok (.if_icmp .le 9, 3) := dk_164 0 9 (dk_at dksX3_digits_3 15 rfl rfl)
theorem dX3_digits_87 : decode cX3_digits 87 = .ok (.aload_n 0, 1) := dk_42 (dk_at dksX3_digits_3 18 rfl rfl)
theorem dX3_digits_88 : decode cX3_digits 88 = .ok (.iconst 1, 1) := dk_4 (dk_at dksX3_digits_3 19 rfl rfl)
theorem dX3_digits_89 : decode cX3_digits 89 = .ok (.iload_n 2, 1) := dk_28 (dk_at dksX3_digits_3 20 rfl rfl)
theorem dX3_digits_90 : decode cX3_digits 90 = .ok (.invokevirtual 200, 3) := dk_182 0 200 (dk_at dksX3_digits_3 21 rfl rfl)
theorem dX3_digits_93 : decode cX3_digits 93 = .ok (.iload_n 3, 1) := dk_29 (dk_at dksX3_digits_4 0 rfl rfl)
theorem dX3_digits_94 : decode cX3_digits 94 = .ok (.ireturn, 1) := dk_172 (dk_at dksX3_digits_4 1 rfl rfl)
abbrev cX3_isDigit : ByteArray := prog_17_method_17_code
def yX3_isDigit : MethodName := ⟨RX3, "isDigit", "()Z"⟩
def dkwX3_isDigit_0 : List UInt8 := [42, 182, 0, 167, 133, 20, 0, 171, 20, 0, 173, 184, 0, 131, 172]
abbrev dktX3_isDigit_0 : List UInt8 := dkwX3_isDigit_0 ++ []
theorem dksX3_isDigit_0 : cX3_isDigit.data.toList.drop 0 = dktX3_isDigit_0 := by decide +kernel
theorem dX3_isDigit_0 : decode cX3_isDigit 0 = .ok (.aload_n 0, 1) := dk_42 (dk_at dksX3_isDigit_0 0 rfl rfl)
theorem dX3_isDigit_1 : decode cX3_isDigit 1 = .ok (.invokevirtual 167, 3) := dk_182 0 167 (dk_at dksX3_isDigit_0 1 rfl rfl)
theorem dX3_isDigit_4 : decode cX3_isDigit 4 = .ok (.i2l, 1) := dk_133 (dk_at dksX3_isDigit_0 4 rfl rfl)
theorem dX3_isDigit_5 : decode cX3_isDigit 5 = .ok (.ldc2_w 171, 3) := dk_20 0 171 (dk_at dksX3_isDigit_0 5 rfl rfl)
theorem dX3_isDigit_8 : decode cX3_isDigit 8 = .ok (.ldc2_w 173, 3) := dk_20 0 173 (dk_at dksX3_isDigit_0 8 rfl rfl)
theorem dX3_isDigit_11 : decode cX3_isDigit 11 = .ok (.invokestatic 131, 3) := dk_184 0 131 (dk_at dksX3_isDigit_0 11 rfl rfl)
theorem dX3_isDigit_14 : decode cX3_isDigit 14 = .ok (.ireturn, 1) := dk_172 (dk_at dksX3_isDigit_0 14 rfl rfl)
abbrev cX3_in : ByteArray := prog_17_method_3_code
def yX3_in : MethodName := ⟨RX3, "in", "(JJJ)Z"⟩
def dkwX3_in_0 : List UInt8 := [30, 32, 148, 155, 0, 14, 30, 22, 4, 148, 157, 0, 7, 4, 167, 0, 4, 3, 172]
abbrev dktX3_in_0 : List UInt8 := dkwX3_in_0 ++ []
theorem dksX3_in_0 : cX3_in.data.toList.drop 0 = dktX3_in_0 := by decide +kernel
theorem dX3_in_0 : decode cX3_in 0 = .ok (.lload_n 0, 1) := dk_30 (dk_at dksX3_in_0 0 rfl rfl)
theorem dX3_in_1 : decode cX3_in 1 = .ok (.lload_n 2, 1) := dk_32 (dk_at dksX3_in_0 1 rfl rfl)
theorem dX3_in_2 : decode cX3_in 2 = .ok (.lcmp, 1) := dk_148 (dk_at dksX3_in_0 2 rfl rfl)
theorem dX3_in_3 : decode cX3_in 3 = .ok (.ifCond .lt 14, 3) := dk_155 0 14 (dk_at dksX3_in_0 3 rfl rfl)
theorem dX3_in_6 : decode cX3_in 6 = .ok (.lload_n 0, 1) := dk_30 (dk_at dksX3_in_0 6 rfl rfl)
theorem dX3_in_7 : decode cX3_in 7 = .ok (.lload 4, 2) := dk_22 4 (dk_at dksX3_in_0 7 rfl rfl)
theorem dX3_in_9 : decode cX3_in 9 = .ok (.lcmp, 1) := dk_148 (dk_at dksX3_in_0 9 rfl rfl)
theorem dX3_in_10 : decode cX3_in 10 = .ok (.ifCond .gt 7, 3) := dk_157 0 7 (dk_at dksX3_in_0 10 rfl rfl)
theorem dX3_in_13 : decode cX3_in 13 = .ok (.iconst 1, 1) := dk_4 (dk_at dksX3_in_0 13 rfl rfl)
theorem dX3_in_14 : decode cX3_in 14 = .ok (.goto 4, 3) := dk_167 0 4 (dk_at dksX3_in_0 14 rfl rfl)
theorem dX3_in_17 : decode cX3_in 17 = .ok (.iconst 0, 1) := dk_3 (dk_at dksX3_in_0 17 rfl rfl)
theorem dX3_in_18 : decode cX3_in 18 = .ok (.ireturn, 1) := dk_172 (dk_at dksX3_in_0 18 rfl rfl)
abbrev cX3_sitterPart : ByteArray := prog_17_method_34_code
def yX3_sitterPart : MethodName := ⟨RX3, "sitterPart", "()V"⟩
def dkwX3_sitterPart_4 : List UInt8 := [180, 0, 58, 29, 21, 4, 79, 42, 180, 0, 43, 6, 92, 46, 4, 96, 79, 177]
abbrev dktX3_sitterPart_4 : List UInt8 := dkwX3_sitterPart_4 ++ []
def dkwX3_sitterPart_3 : List UInt8 := [16, 20, 182, 1, 7, 54, 4, 42, 180, 0, 161, 154, 0, 28, 42, 180, 0, 55, 29, 28, 79, 42]
abbrev dktX3_sitterPart_3 : List UInt8 := dkwX3_sitterPart_3 ++ dktX3_sitterPart_4
def dkwX3_sitterPart_2 : List UInt8 := [180, 0, 55, 21, 4, 46, 28, 160, 0, 9, 42, 4, 27, 182, 0, 200, 132, 4, 1, 167, 255, 223, 42, 4]
abbrev dktX3_sitterPart_2 : List UInt8 := dkwX3_sitterPart_2 ++ dktX3_sitterPart_3
def dkwX3_sitterPart_1 : List UInt8 := [180, 0, 43, 6, 46, 62, 3, 54, 4, 21, 4, 29, 162, 0, 33, 42, 180, 0, 161, 154, 0, 20, 42]
abbrev dktX3_sitterPart_1 : List UInt8 := dkwX3_sitterPart_1 ++ dktX3_sitterPart_2
def dkwX3_sitterPart_0 : List UInt8 := [42, 182, 0, 184, 42, 180, 0, 164, 60, 42, 3, 42, 180, 0, 43, 5, 46, 4, 100, 182, 1, 7, 61, 42]
abbrev dktX3_sitterPart_0 : List UInt8 := dkwX3_sitterPart_0 ++ dktX3_sitterPart_1
theorem dksX3_sitterPart_0 : cX3_sitterPart.data.toList.drop 0 = dktX3_sitterPart_0 := by decide +kernel
theorem dksX3_sitterPart_1 : cX3_sitterPart.data.toList.drop 24 = dktX3_sitterPart_1 := dk_seg dksX3_sitterPart_0 24 rfl rfl
theorem dksX3_sitterPart_2 : cX3_sitterPart.data.toList.drop 47 = dktX3_sitterPart_2 := dk_seg dksX3_sitterPart_1 23 rfl rfl
theorem dksX3_sitterPart_3 : cX3_sitterPart.data.toList.drop 71 = dktX3_sitterPart_3 := dk_seg dksX3_sitterPart_2 24 rfl rfl
theorem dksX3_sitterPart_4 : cX3_sitterPart.data.toList.drop 93 = dktX3_sitterPart_4 := dk_seg dksX3_sitterPart_3 22 rfl rfl
theorem dX3_sitterPart_0 : decode cX3_sitterPart 0 = .ok (.aload_n 0, 1) := dk_42 (dk_at dksX3_sitterPart_0 0 rfl rfl)
theorem dX3_sitterPart_1 : decode cX3_sitterPart 1 = .ok (.invokevirtual 184, 3) := dk_182 0 184 (dk_at dksX3_sitterPart_0 1 rfl rfl)
theorem dX3_sitterPart_4 : decode cX3_sitterPart 4 = .ok (.aload_n 0, 1) := dk_42 (dk_at dksX3_sitterPart_0 4 rfl rfl)
theorem dX3_sitterPart_5 : decode cX3_sitterPart 5 = .ok (.getfield 164, 3) := dk_180 0 164 (dk_at dksX3_sitterPart_0 5 rfl rfl)
theorem dX3_sitterPart_8 : decode cX3_sitterPart 8 = .ok (.istore_n 1, 1) := dk_60 (dk_at dksX3_sitterPart_0 8 rfl rfl)
theorem dX3_sitterPart_9 : decode cX3_sitterPart 9 = .ok (.aload_n 0, 1) := dk_42 (dk_at dksX3_sitterPart_0 9 rfl rfl)
theorem dX3_sitterPart_10 : decode cX3_sitterPart 10 = .ok (.iconst 0, 1) := dk_3 (dk_at dksX3_sitterPart_0 10 rfl rfl)
theorem dX3_sitterPart_11 : decode cX3_sitterPart 11 = .ok (.aload_n 0, 1) := dk_42 (dk_at dksX3_sitterPart_0 11 rfl rfl)
theorem dX3_sitterPart_12 : decode cX3_sitterPart 12 = .ok (.getfield 43, 3) := dk_180 0 43 (dk_at dksX3_sitterPart_0 12 rfl rfl)
theorem dX3_sitterPart_15 : decode cX3_sitterPart 15 = .ok (.iconst 2, 1) := dk_5 (dk_at dksX3_sitterPart_0 15 rfl rfl)
theorem dX3_sitterPart_16 : decode cX3_sitterPart 16 = .ok (.iaload, 1) := dk_46 (dk_at dksX3_sitterPart_0 16 rfl rfl)
theorem dX3_sitterPart_17 : decode cX3_sitterPart 17 = .ok (.iconst 1, 1) := dk_4 (dk_at dksX3_sitterPart_0 17 rfl rfl)
theorem dX3_sitterPart_18 : decode cX3_sitterPart 18 = .ok (.isub, 1) := dk_100 (dk_at dksX3_sitterPart_0 18 rfl rfl)
theorem dX3_sitterPart_19 : decode cX3_sitterPart 19 = .ok (.invokevirtual 263, 3) := dk_182 1 7 (dk_at dksX3_sitterPart_0 19 rfl rfl)
theorem dX3_sitterPart_22 : decode cX3_sitterPart 22 = .ok (.istore_n 2, 1) := dk_61 (dk_at dksX3_sitterPart_0 22 rfl rfl)
theorem dX3_sitterPart_23 : decode cX3_sitterPart 23 = .ok (.aload_n 0, 1) := dk_42 (dk_at dksX3_sitterPart_0 23 rfl rfl)
theorem dX3_sitterPart_24 : decode cX3_sitterPart 24 = .ok (.getfield 43, 3) := dk_180 0 43 (dk_at dksX3_sitterPart_1 0 rfl rfl)
theorem dX3_sitterPart_27 : decode cX3_sitterPart 27 = .ok (.iconst 3, 1) := dk_6 (dk_at dksX3_sitterPart_1 3 rfl rfl)
theorem dX3_sitterPart_28 : decode cX3_sitterPart 28 = .ok (.iaload, 1) := dk_46 (dk_at dksX3_sitterPart_1 4 rfl rfl)
theorem dX3_sitterPart_29 : decode cX3_sitterPart 29 = .ok (.istore_n 3, 1) := dk_62 (dk_at dksX3_sitterPart_1 5 rfl rfl)
theorem dX3_sitterPart_30 : decode cX3_sitterPart 30 = .ok (.iconst 0, 1) := dk_3 (dk_at dksX3_sitterPart_1 6 rfl rfl)
theorem dX3_sitterPart_31 : decode cX3_sitterPart 31 = .ok (.istore 4, 2) := dk_54 4 (dk_at dksX3_sitterPart_1 7 rfl rfl)
theorem dX3_sitterPart_33 : decode cX3_sitterPart 33 = .ok (.iload 4, 2) := dk_21 4 (dk_at dksX3_sitterPart_1 9 rfl rfl)
theorem dX3_sitterPart_35 : decode cX3_sitterPart 35 = .ok (.iload_n 3, 1) := dk_29 (dk_at dksX3_sitterPart_1 11 rfl rfl)
theorem dX3_sitterPart_36 : decode cX3_sitterPart 36 = .ok (.if_icmp .ge 33, 3) := dk_162 0 33 (dk_at dksX3_sitterPart_1 12 rfl rfl)
theorem dX3_sitterPart_39 : decode cX3_sitterPart 39 = .ok (.aload_n 0, 1) := dk_42 (dk_at dksX3_sitterPart_1 15 rfl rfl)
theorem dX3_sitterPart_40 : decode cX3_sitterPart 40 = .ok (.getfield 161, 3) := dk_180 0 161 (dk_at dksX3_sitterPart_1 16 rfl rfl)
theorem dX3_sitterPart_43 : decode cX3_sitterPart 43 = .ok (.ifCond .ne 20, 3) := dk_154 0 20 (dk_at dksX3_sitterPart_1 19 rfl rfl)
theorem dX3_sitterPart_46 : decode cX3_sitterPart 46 = .ok (.aload_n 0, 1) := dk_42 (dk_at dksX3_sitterPart_1 22 rfl rfl)
theorem dX3_sitterPart_47 : decode cX3_sitterPart 47 = .ok (.getfield 55, 3) := dk_180 0 55 (dk_at dksX3_sitterPart_2 0 rfl rfl)
theorem dX3_sitterPart_50 : decode cX3_sitterPart 50 = .ok (.iload 4, 2) := dk_21 4 (dk_at dksX3_sitterPart_2 3 rfl rfl)
theorem dX3_sitterPart_52 : decode cX3_sitterPart 52 = .ok (.iaload, 1) := dk_46 (dk_at dksX3_sitterPart_2 5 rfl rfl)
theorem dX3_sitterPart_53 : decode cX3_sitterPart 53 = .ok (.iload_n 2, 1) := dk_28 (dk_at dksX3_sitterPart_2 6 rfl rfl)
theorem dX3_sitterPart_54 : decode cX3_sitterPart 54 = .ok (.if_icmp .ne 9, 3) := dk_160 0 9 (dk_at dksX3_sitterPart_2 7 rfl rfl)
theorem dX3_sitterPart_57 : decode cX3_sitterPart 57 = .ok (.aload_n 0, 1) := dk_42 (dk_at dksX3_sitterPart_2 10 rfl rfl)
theorem dX3_sitterPart_58 : decode cX3_sitterPart 58 = .ok (.iconst 1, 1) := dk_4 (dk_at dksX3_sitterPart_2 11 rfl rfl)
theorem dX3_sitterPart_59 : decode cX3_sitterPart 59 = .ok (.iload_n 1, 1) := dk_27 (dk_at dksX3_sitterPart_2 12 rfl rfl)
theorem dX3_sitterPart_60 : decode cX3_sitterPart 60 = .ok (.invokevirtual 200, 3) := dk_182 0 200 (dk_at dksX3_sitterPart_2 13 rfl rfl)
theorem dX3_sitterPart_63 : decode cX3_sitterPart 63 = .ok (.iinc 4 1, 3) := dk_132 4 1 (dk_at dksX3_sitterPart_2 16 rfl rfl)
theorem dX3_sitterPart_66 : decode cX3_sitterPart 66 = .ok (.goto (-33), 3) := dk_167 255 223 (dk_at dksX3_sitterPart_2 19 rfl rfl)
theorem dX3_sitterPart_69 : decode cX3_sitterPart 69 = .ok (.aload_n 0, 1) := dk_42 (dk_at dksX3_sitterPart_2 22 rfl rfl)
theorem dX3_sitterPart_70 : decode cX3_sitterPart 70 = .ok (.iconst 1, 1) := dk_4 (dk_at dksX3_sitterPart_2 23 rfl rfl)
theorem dX3_sitterPart_71 : decode cX3_sitterPart 71 = .ok (.bipush 20, 2) := dk_16 20 (dk_at dksX3_sitterPart_3 0 rfl rfl)
theorem dX3_sitterPart_73 : decode cX3_sitterPart 73 = .ok (.invokevirtual 263, 3) := dk_182 1 7 (dk_at dksX3_sitterPart_3 2 rfl rfl)
theorem dX3_sitterPart_76 : decode cX3_sitterPart 76 = .ok (.istore 4, 2) := dk_54 4 (dk_at dksX3_sitterPart_3 5 rfl rfl)
theorem dX3_sitterPart_78 : decode cX3_sitterPart 78 = .ok (.aload_n 0, 1) := dk_42 (dk_at dksX3_sitterPart_3 7 rfl rfl)
theorem dX3_sitterPart_79 : decode cX3_sitterPart 79 = .ok (.getfield 161, 3) := dk_180 0 161 (dk_at dksX3_sitterPart_3 8 rfl rfl)
theorem dX3_sitterPart_82 : decode cX3_sitterPart 82 = .ok (.ifCond .ne 28, 3) := dk_154 0 28 (dk_at dksX3_sitterPart_3 11 rfl rfl)
theorem dX3_sitterPart_85 : decode cX3_sitterPart 85 = .ok (.aload_n 0, 1) := dk_42 (dk_at dksX3_sitterPart_3 14 rfl rfl)
theorem dX3_sitterPart_86 : decode cX3_sitterPart 86 = .ok (.getfield 55, 3) := dk_180 0 55 (dk_at dksX3_sitterPart_3 15 rfl rfl)
theorem dX3_sitterPart_89 : decode cX3_sitterPart 89 = .ok (.iload_n 3, 1) := dk_29 (dk_at dksX3_sitterPart_3 18 rfl rfl)
theorem dX3_sitterPart_90 : decode cX3_sitterPart 90 = .ok (.iload_n 2, 1) := dk_28 (dk_at dksX3_sitterPart_3 19 rfl rfl)
theorem dX3_sitterPart_91 : decode cX3_sitterPart 91 = .ok (.iastore, 1) := dk_79 (dk_at dksX3_sitterPart_3 20 rfl rfl)
theorem dX3_sitterPart_92 : decode cX3_sitterPart 92 = .ok (.aload_n 0, 1) := dk_42 (dk_at dksX3_sitterPart_3 21 rfl rfl)
theorem dX3_sitterPart_93 : decode cX3_sitterPart 93 = .ok (.getfield 58, 3) := dk_180 0 58 (dk_at dksX3_sitterPart_4 0 rfl rfl)
theorem dX3_sitterPart_96 : decode cX3_sitterPart 96 = .ok (.iload_n 3, 1) := dk_29 (dk_at dksX3_sitterPart_4 3 rfl rfl)
theorem dX3_sitterPart_97 : decode cX3_sitterPart 97 = .ok (.iload 4, 2) := dk_21 4 (dk_at dksX3_sitterPart_4 4 rfl rfl)
theorem dX3_sitterPart_99 : decode cX3_sitterPart 99 = .ok (.iastore, 1) := dk_79 (dk_at dksX3_sitterPart_4 6 rfl rfl)
theorem dX3_sitterPart_100 : decode cX3_sitterPart 100 = .ok (.aload_n 0, 1) := dk_42 (dk_at dksX3_sitterPart_4 7 rfl rfl)
theorem dX3_sitterPart_101 : decode cX3_sitterPart 101 = .ok (.getfield 43, 3) := dk_180 0 43 (dk_at dksX3_sitterPart_4 8 rfl rfl)
theorem dX3_sitterPart_104 : decode cX3_sitterPart 104 = .ok (.iconst 3, 1) := dk_6 (dk_at dksX3_sitterPart_4 11 rfl rfl)
theorem dX3_sitterPart_105 : decode cX3_sitterPart 105 = .ok (.dup2, 1) := dk_92 (dk_at dksX3_sitterPart_4 12 rfl rfl)
theorem dX3_sitterPart_106 : decode cX3_sitterPart 106 = .ok (.iaload, 1) := dk_46 (dk_at dksX3_sitterPart_4 13 rfl rfl)
theorem dX3_sitterPart_107 : decode cX3_sitterPart 107 = .ok (.iconst 1, 1) := dk_4 (dk_at dksX3_sitterPart_4 14 rfl rfl)
theorem dX3_sitterPart_108 : decode cX3_sitterPart 108 = .ok (.iadd, 1) := dk_96 (dk_at dksX3_sitterPart_4 15 rfl rfl)
theorem dX3_sitterPart_109 : decode cX3_sitterPart 109 = .ok (.iastore, 1) := dk_79 (dk_at dksX3_sitterPart_4 16 rfl rfl)
theorem dX3_sitterPart_110 : decode cX3_sitterPart 110 = .ok (.return_, 1) := dk_177 (dk_at dksX3_sitterPart_4 17 rfl rfl)
abbrev cX3_goesOn : ByteArray := prog_17_method_39_code
def yX3_goesOn : MethodName := ⟨RX3, "goesOn", "()Z"⟩
def dkwX3_goesOn_3 : List UInt8 := [181, 0, 164, 27, 172]
abbrev dktX3_goesOn_3 : List UInt8 := dkwX3_goesOn_3 ++ []
def dkwX3_goesOn_2 : List UInt8 := [42, 180, 0, 164, 42, 180, 0, 135, 162, 0, 7, 4, 167, 0, 4, 3, 60, 42, 89, 180, 0, 164, 4, 96]
abbrev dktX3_goesOn_2 : List UInt8 := dkwX3_goesOn_2 ++ dktX3_goesOn_3
def dkwX3_goesOn_1 : List UInt8 := [182, 0, 167, 16, 59, 159, 0, 12, 42, 3, 42, 180, 0, 164, 182, 0, 200, 42, 180, 0, 161, 154, 0, 18]
abbrev dktX3_goesOn_1 : List UInt8 := dkwX3_goesOn_1 ++ dktX3_goesOn_2
def dkwX3_goesOn_0 : List UInt8 := [42, 182, 0, 184, 42, 180, 0, 161, 154, 0, 32, 42, 180, 0, 164, 42, 180, 0, 135, 162, 0, 21, 42]
abbrev dktX3_goesOn_0 : List UInt8 := dkwX3_goesOn_0 ++ dktX3_goesOn_1
theorem dksX3_goesOn_0 : cX3_goesOn.data.toList.drop 0 = dktX3_goesOn_0 := by decide +kernel
theorem dksX3_goesOn_1 : cX3_goesOn.data.toList.drop 23 = dktX3_goesOn_1 := dk_seg dksX3_goesOn_0 23 rfl rfl
theorem dksX3_goesOn_2 : cX3_goesOn.data.toList.drop 47 = dktX3_goesOn_2 := dk_seg dksX3_goesOn_1 24 rfl rfl
theorem dksX3_goesOn_3 : cX3_goesOn.data.toList.drop 71 = dktX3_goesOn_3 := dk_seg dksX3_goesOn_2 24 rfl rfl
theorem dX3_goesOn_0 : decode cX3_goesOn 0 = .ok (.aload_n 0, 1) := dk_42 (dk_at dksX3_goesOn_0 0 rfl rfl)
theorem dX3_goesOn_1 : decode cX3_goesOn 1 = .ok (.invokevirtual 184, 3) := dk_182 0 184 (dk_at dksX3_goesOn_0 1 rfl rfl)
theorem dX3_goesOn_4 : decode cX3_goesOn 4 = .ok (.aload_n 0, 1) := dk_42 (dk_at dksX3_goesOn_0 4 rfl rfl)
theorem dX3_goesOn_5 : decode cX3_goesOn 5 = .ok (.getfield 161, 3) := dk_180 0 161 (dk_at dksX3_goesOn_0 5 rfl rfl)
theorem dX3_goesOn_8 : decode cX3_goesOn 8 = .ok (.ifCond .ne 32, 3) := dk_154 0 32 (dk_at dksX3_goesOn_0 8 rfl rfl)
theorem dX3_goesOn_11 : decode cX3_goesOn 11 = .ok (.aload_n 0, 1) := dk_42 (dk_at dksX3_goesOn_0 11 rfl rfl)
theorem dX3_goesOn_12 : decode cX3_goesOn 12 = .ok (.getfield 164, 3) := dk_180 0 164 (dk_at dksX3_goesOn_0 12 rfl rfl)
theorem dX3_goesOn_15 : decode cX3_goesOn 15 = .ok (.aload_n 0, 1) := dk_42 (dk_at dksX3_goesOn_0 15 rfl rfl)
theorem dX3_goesOn_16 : decode cX3_goesOn 16 = .ok (.getfield 135, 3) := dk_180 0 135 (dk_at dksX3_goesOn_0 16 rfl rfl)
theorem dX3_goesOn_19 : decode cX3_goesOn 19 = .ok (.if_icmp .ge 21, 3) := dk_162 0 21 (dk_at dksX3_goesOn_0 19 rfl rfl)
theorem dX3_goesOn_22 : decode cX3_goesOn 22 = .ok (.aload_n 0, 1) := dk_42 (dk_at dksX3_goesOn_0 22 rfl rfl)
theorem dX3_goesOn_23 : decode cX3_goesOn 23 = .ok (.invokevirtual 167, 3) := dk_182 0 167 (dk_at dksX3_goesOn_1 0 rfl rfl)
theorem dX3_goesOn_26 : decode cX3_goesOn 26 = .ok (.bipush 59, 2) := dk_16 59 (dk_at dksX3_goesOn_1 3 rfl rfl)
theorem dX3_goesOn_28 : decode cX3_goesOn 28 = .ok (.if_icmp .eq 12, 3) := dk_159 0 12 (dk_at dksX3_goesOn_1 5 rfl rfl)
theorem dX3_goesOn_31 : decode cX3_goesOn 31 = .ok (.aload_n 0, 1) := dk_42 (dk_at dksX3_goesOn_1 8 rfl rfl)
theorem dX3_goesOn_32 : decode cX3_goesOn 32 = .ok (.iconst 0, 1) := dk_3 (dk_at dksX3_goesOn_1 9 rfl rfl)
theorem dX3_goesOn_33 : decode cX3_goesOn 33 = .ok (.aload_n 0, 1) := dk_42 (dk_at dksX3_goesOn_1 10 rfl rfl)
theorem dX3_goesOn_34 : decode cX3_goesOn 34 = .ok (.getfield 164, 3) := dk_180 0 164 (dk_at dksX3_goesOn_1 11 rfl rfl)
theorem dX3_goesOn_37 : decode cX3_goesOn 37 = .ok (.invokevirtual 200, 3) := dk_182 0 200 (dk_at dksX3_goesOn_1 14 rfl rfl)
theorem dX3_goesOn_40 : decode cX3_goesOn 40 = .ok (.aload_n 0, 1) := dk_42 (dk_at dksX3_goesOn_1 17 rfl rfl)
theorem dX3_goesOn_41 : decode cX3_goesOn 41 = .ok (.getfield 161, 3) := dk_180 0 161 (dk_at dksX3_goesOn_1 18 rfl rfl)
theorem dX3_goesOn_44 : decode cX3_goesOn 44 = .ok (.ifCond .ne 18, 3) := dk_154 0 18 (dk_at dksX3_goesOn_1 21 rfl rfl)
theorem dX3_goesOn_47 : decode cX3_goesOn 47 = .ok (.aload_n 0, 1) := dk_42 (dk_at dksX3_goesOn_2 0 rfl rfl)
theorem dX3_goesOn_48 : decode cX3_goesOn 48 = .ok (.getfield 164, 3) := dk_180 0 164 (dk_at dksX3_goesOn_2 1 rfl rfl)
theorem dX3_goesOn_51 : decode cX3_goesOn 51 = .ok (.aload_n 0, 1) := dk_42 (dk_at dksX3_goesOn_2 4 rfl rfl)
theorem dX3_goesOn_52 : decode cX3_goesOn 52 = .ok (.getfield 135, 3) := dk_180 0 135 (dk_at dksX3_goesOn_2 5 rfl rfl)
theorem dX3_goesOn_55 : decode cX3_goesOn 55 = .ok (.if_icmp .ge 7, 3) := dk_162 0 7 (dk_at dksX3_goesOn_2 8 rfl rfl)
theorem dX3_goesOn_58 : decode cX3_goesOn 58 = .ok (.iconst 1, 1) := dk_4 (dk_at dksX3_goesOn_2 11 rfl rfl)
theorem dX3_goesOn_59 : decode cX3_goesOn 59 = .ok (.goto 4, 3) := dk_167 0 4 (dk_at dksX3_goesOn_2 12 rfl rfl)
theorem dX3_goesOn_62 : decode cX3_goesOn 62 = .ok (.iconst 0, 1) := dk_3 (dk_at dksX3_goesOn_2 15 rfl rfl)
theorem dX3_goesOn_63 : decode cX3_goesOn 63 = .ok (.istore_n 1, 1) := dk_60 (dk_at dksX3_goesOn_2 16 rfl rfl)
theorem dX3_goesOn_64 : decode cX3_goesOn 64 = .ok (.aload_n 0, 1) := dk_42 (dk_at dksX3_goesOn_2 17 rfl rfl)
theorem dX3_goesOn_65 : decode cX3_goesOn 65 = .ok (.dup, 1) := dk_89 (dk_at dksX3_goesOn_2 18 rfl rfl)
theorem dX3_goesOn_66 : decode cX3_goesOn 66 = .ok (.getfield 164, 3) := dk_180 0 164 (dk_at dksX3_goesOn_2 19 rfl rfl)
theorem dX3_goesOn_69 : decode cX3_goesOn 69 = .ok (.iconst 1, 1) := dk_4 (dk_at dksX3_goesOn_2 22 rfl rfl)
theorem dX3_goesOn_70 : decode cX3_goesOn 70 = .ok (.iadd, 1) := dk_96 (dk_at dksX3_goesOn_2 23 rfl rfl)
theorem dX3_goesOn_71 : decode cX3_goesOn 71 = .ok (.putfield 164, 3) := dk_181 0 164 (dk_at dksX3_goesOn_3 0 rfl rfl)
theorem dX3_goesOn_74 : decode cX3_goesOn 74 = .ok (.iload_n 1, 1) := dk_27 (dk_at dksX3_goesOn_3 3 rfl rfl)
theorem dX3_goesOn_75 : decode cX3_goesOn 75 = .ok (.ireturn, 1) := dk_172 (dk_at dksX3_goesOn_3 4 rfl rfl)
abbrev cX3_copies : ByteArray := prog_17_method_38_code
def yX3_copies : MethodName := ⟨RX3, "copies", "([I[I)V"⟩
def dkwX3_copies_0 : List UInt8 := [3, 61, 28, 42, 190, 162, 0, 15, 43, 28, 42, 28, 46, 79, 132, 2, 1, 167, 255, 241, 177]
abbrev dktX3_copies_0 : List UInt8 := dkwX3_copies_0 ++ []
theorem dksX3_copies_0 : cX3_copies.data.toList.drop 0 = dktX3_copies_0 := by decide +kernel
theorem dX3_copies_0 : decode cX3_copies 0 = .ok (.iconst 0, 1) := dk_3 (dk_at dksX3_copies_0 0 rfl rfl)
theorem dX3_copies_1 : decode cX3_copies 1 = .ok (.istore_n 2, 1) := dk_61 (dk_at dksX3_copies_0 1 rfl rfl)
theorem dX3_copies_2 : decode cX3_copies 2 = .ok (.iload_n 2, 1) := dk_28 (dk_at dksX3_copies_0 2 rfl rfl)
theorem dX3_copies_3 : decode cX3_copies 3 = .ok (.aload_n 0, 1) := dk_42 (dk_at dksX3_copies_0 3 rfl rfl)
theorem dX3_copies_4 : decode cX3_copies 4 = .ok (.arraylength, 1) := dk_190 (dk_at dksX3_copies_0 4 rfl rfl)
theorem dX3_copies_5 : decode cX3_copies 5 = .ok (.if_icmp .ge 15, 3) := dk_162 0 15 (dk_at dksX3_copies_0 5 rfl rfl)
theorem dX3_copies_8 : decode cX3_copies 8 = .ok (.aload_n 1, 1) := dk_43 (dk_at dksX3_copies_0 8 rfl rfl)
theorem dX3_copies_9 : decode cX3_copies 9 = .ok (.iload_n 2, 1) := dk_28 (dk_at dksX3_copies_0 9 rfl rfl)
theorem dX3_copies_10 : decode cX3_copies 10 = .ok (.aload_n 0, 1) := dk_42 (dk_at dksX3_copies_0 10 rfl rfl)
theorem dX3_copies_11 : decode cX3_copies 11 = .ok (.iload_n 2, 1) := dk_28 (dk_at dksX3_copies_0 11 rfl rfl)
theorem dX3_copies_12 : decode cX3_copies 12 = .ok (.iaload, 1) := dk_46 (dk_at dksX3_copies_0 12 rfl rfl)
theorem dX3_copies_13 : decode cX3_copies 13 = .ok (.iastore, 1) := dk_79 (dk_at dksX3_copies_0 13 rfl rfl)
theorem dX3_copies_14 : decode cX3_copies 14 = .ok (.iinc 2 1, 3) := dk_132 2 1 (dk_at dksX3_copies_0 14 rfl rfl)
theorem dX3_copies_17 : decode cX3_copies 17 = .ok (.goto (-15), 3) := dk_167 255 241 (dk_at dksX3_copies_0 17 rfl rfl)
theorem dX3_copies_20 : decode cX3_copies 20 = .ok (.return_, 1) := dk_177 (dk_at dksX3_copies_0 20 rfl rfl)
abbrev cX3_begins : ByteArray := prog_17_method_42_code
def yX3_begins : MethodName := ⟨RX3, "begins", "()V"⟩
def dkwX3_begins_1 : List UInt8 := [162, 0, 16, 42, 180, 0, 16, 27, 3, 79, 132, 1, 1, 167, 255, 240, 177]
abbrev dktX3_begins_1 : List UInt8 := dkwX3_begins_1 ++ []
def dkwX3_begins_0 : List UInt8 := [42, 180, 0, 40, 42, 180, 0, 13, 184, 1, 33, 42, 180, 0, 9, 7, 3, 79, 3, 60, 27, 16, 8]
abbrev dktX3_begins_0 : List UInt8 := dkwX3_begins_0 ++ dktX3_begins_1
theorem dksX3_begins_0 : cX3_begins.data.toList.drop 0 = dktX3_begins_0 := by decide +kernel
theorem dksX3_begins_1 : cX3_begins.data.toList.drop 23 = dktX3_begins_1 := dk_seg dksX3_begins_0 23 rfl rfl
theorem dX3_begins_0 : decode cX3_begins 0 = .ok (.aload_n 0, 1) := dk_42 (dk_at dksX3_begins_0 0 rfl rfl)
theorem dX3_begins_1 : decode cX3_begins 1 = .ok (.getfield 40, 3) := dk_180 0 40 (dk_at dksX3_begins_0 1 rfl rfl)
theorem dX3_begins_4 : decode cX3_begins 4 = .ok (.aload_n 0, 1) := dk_42 (dk_at dksX3_begins_0 4 rfl rfl)
theorem dX3_begins_5 : decode cX3_begins 5 = .ok (.getfield 13, 3) := dk_180 0 13 (dk_at dksX3_begins_0 5 rfl rfl)
theorem dX3_begins_8 : decode cX3_begins 8 = .ok (.invokestatic 289, 3) := dk_184 1 33 (dk_at dksX3_begins_0 8 rfl rfl)
theorem dX3_begins_11 : decode cX3_begins 11 = .ok (.aload_n 0, 1) := dk_42 (dk_at dksX3_begins_0 11 rfl rfl)
theorem dX3_begins_12 : decode cX3_begins 12 = .ok (.getfield 9, 3) := dk_180 0 9 (dk_at dksX3_begins_0 12 rfl rfl)
theorem dX3_begins_15 : decode cX3_begins 15 = .ok (.iconst 4, 1) := dk_7 (dk_at dksX3_begins_0 15 rfl rfl)
theorem dX3_begins_16 : decode cX3_begins 16 = .ok (.iconst 0, 1) := dk_3 (dk_at dksX3_begins_0 16 rfl rfl)
theorem dX3_begins_17 : decode cX3_begins 17 = .ok (.iastore, 1) := dk_79 (dk_at dksX3_begins_0 17 rfl rfl)
theorem dX3_begins_18 : decode cX3_begins 18 = .ok (.iconst 0, 1) := dk_3 (dk_at dksX3_begins_0 18 rfl rfl)
theorem dX3_begins_19 : decode cX3_begins 19 = .ok (.istore_n 1, 1) := dk_60 (dk_at dksX3_begins_0 19 rfl rfl)
theorem dX3_begins_20 : decode cX3_begins 20 = .ok (.iload_n 1, 1) := dk_27 (dk_at dksX3_begins_0 20 rfl rfl)
theorem dX3_begins_21 : decode cX3_begins 21 = .ok (.bipush 8, 2) := dk_16 8 (dk_at dksX3_begins_0 21 rfl rfl)
theorem dX3_begins_23 : decode cX3_begins 23 = .ok (.if_icmp .ge 16, 3) := dk_162 0 16 (dk_at dksX3_begins_1 0 rfl rfl)
theorem dX3_begins_26 : decode cX3_begins 26 = .ok (.aload_n 0, 1) := dk_42 (dk_at dksX3_begins_1 3 rfl rfl)
theorem dX3_begins_27 : decode cX3_begins 27 = .ok (.getfield 16, 3) := dk_180 0 16 (dk_at dksX3_begins_1 4 rfl rfl)
theorem dX3_begins_30 : decode cX3_begins 30 = .ok (.iload_n 1, 1) := dk_27 (dk_at dksX3_begins_1 7 rfl rfl)
theorem dX3_begins_31 : decode cX3_begins 31 = .ok (.iconst 0, 1) := dk_3 (dk_at dksX3_begins_1 8 rfl rfl)
theorem dX3_begins_32 : decode cX3_begins 32 = .ok (.iastore, 1) := dk_79 (dk_at dksX3_begins_1 9 rfl rfl)
theorem dX3_begins_33 : decode cX3_begins 33 = .ok (.iinc 1 1, 3) := dk_132 1 1 (dk_at dksX3_begins_1 10 rfl rfl)
theorem dX3_begins_36 : decode cX3_begins 36 = .ok (.goto (-16), 3) := dk_167 255 240 (dk_at dksX3_begins_1 13 rfl rfl)
theorem dX3_begins_39 : decode cX3_begins 39 = .ok (.return_, 1) := dk_177 (dk_at dksX3_begins_1 16 rfl rfl)
abbrev cX3_rule : ByteArray := prog_17_method_45_code
def yX3_rule : MethodName := ⟨RX3, "rule", "()I"⟩
def dkwX3_rule_4 : List UInt8 := [180, 0, 161, 100, 167, 0, 9, 42, 180, 1, 56, 4, 100, 172]
abbrev dktX3_rule_4 : List UInt8 := dkwX3_rule_4 ++ []
def dkwX3_rule_3 : List UInt8 := [154, 0, 7, 4, 167, 0, 4, 3, 96, 181, 1, 56, 42, 180, 0, 161, 158, 0, 13, 16, 254, 42]
abbrev dktX3_rule_3 : List UInt8 := dkwX3_rule_3 ++ dktX3_rule_4
def dkwX3_rule_2 : List UInt8 := [3, 181, 0, 135, 42, 180, 0, 75, 42, 180, 0, 191, 27, 79, 42, 89, 180, 1, 56, 42, 180, 0, 161]
abbrev dktX3_rule_2 : List UInt8 := dkwX3_rule_2 ++ dktX3_rule_3
def dkwX3_rule_1 : List UInt8 := [60, 4, 61, 28, 153, 0, 19, 42, 27, 182, 1, 59, 132, 1, 1, 42, 182, 1, 30, 61, 167, 255, 239, 42]
abbrev dktX3_rule_1 : List UInt8 := dkwX3_rule_1 ++ dktX3_rule_2
def dkwX3_rule_0 : List UInt8 := [42, 180, 1, 56, 16, 6, 160, 0, 5, 2, 172, 42, 42, 180, 1, 56, 181, 0, 191, 42, 182, 1, 24, 3]
abbrev dktX3_rule_0 : List UInt8 := dkwX3_rule_0 ++ dktX3_rule_1
theorem dksX3_rule_0 : cX3_rule.data.toList.drop 0 = dktX3_rule_0 := by decide +kernel
theorem dksX3_rule_1 : cX3_rule.data.toList.drop 24 = dktX3_rule_1 := dk_seg dksX3_rule_0 24 rfl rfl
theorem dksX3_rule_2 : cX3_rule.data.toList.drop 48 = dktX3_rule_2 := dk_seg dksX3_rule_1 24 rfl rfl
theorem dksX3_rule_3 : cX3_rule.data.toList.drop 71 = dktX3_rule_3 := dk_seg dksX3_rule_2 23 rfl rfl
theorem dksX3_rule_4 : cX3_rule.data.toList.drop 93 = dktX3_rule_4 := dk_seg dksX3_rule_3 22 rfl rfl
theorem dX3_rule_0 : decode cX3_rule 0 = .ok (.aload_n 0, 1) := dk_42 (dk_at dksX3_rule_0 0 rfl rfl)
theorem dX3_rule_1 : decode cX3_rule 1 = .ok (.getfield 312, 3) := dk_180 1 56 (dk_at dksX3_rule_0 1 rfl rfl)
theorem dX3_rule_4 : decode cX3_rule 4 = .ok (.bipush 6, 2) := dk_16 6 (dk_at dksX3_rule_0 4 rfl rfl)
theorem dX3_rule_6 : decode cX3_rule 6 = .ok (.if_icmp .ne 5, 3) := dk_160 0 5 (dk_at dksX3_rule_0 6 rfl rfl)
theorem dX3_rule_9 : decode cX3_rule 9 = .ok (.iconst (-1), 1) := dk_2 (dk_at dksX3_rule_0 9 rfl rfl)
theorem dX3_rule_10 : decode cX3_rule 10 = .ok (.ireturn, 1) := dk_172 (dk_at dksX3_rule_0 10 rfl rfl)
theorem dX3_rule_11 : decode cX3_rule 11 = .ok (.aload_n 0, 1) := dk_42 (dk_at dksX3_rule_0 11 rfl rfl)
theorem dX3_rule_12 : decode cX3_rule 12 = .ok (.aload_n 0, 1) := dk_42 (dk_at dksX3_rule_0 12 rfl rfl)
theorem dX3_rule_13 : decode cX3_rule 13 = .ok (.getfield 312, 3) := dk_180 1 56 (dk_at dksX3_rule_0 13 rfl rfl)
theorem dX3_rule_16 : decode cX3_rule 16 = .ok (.putfield 191, 3) := dk_181 0 191 (dk_at dksX3_rule_0 16 rfl rfl)
theorem dX3_rule_19 : decode cX3_rule 19 = .ok (.aload_n 0, 1) := dk_42 (dk_at dksX3_rule_0 19 rfl rfl)
theorem dX3_rule_20 : decode cX3_rule 20 = .ok (.invokevirtual 280, 3) := dk_182 1 24 (dk_at dksX3_rule_0 20 rfl rfl)
theorem dX3_rule_23 : decode cX3_rule 23 = .ok (.iconst 0, 1) := dk_3 (dk_at dksX3_rule_0 23 rfl rfl)
theorem dX3_rule_24 : decode cX3_rule 24 = .ok (.istore_n 1, 1) := dk_60 (dk_at dksX3_rule_1 0 rfl rfl)
theorem dX3_rule_25 : decode cX3_rule 25 = .ok (.iconst 1, 1) := dk_4 (dk_at dksX3_rule_1 1 rfl rfl)
theorem dX3_rule_26 : decode cX3_rule 26 = .ok (.istore_n 2, 1) := dk_61 (dk_at dksX3_rule_1 2 rfl rfl)
theorem dX3_rule_27 : decode cX3_rule 27 = .ok (.iload_n 2, 1) := dk_28 (dk_at dksX3_rule_1 3 rfl rfl)
theorem dX3_rule_28 : decode cX3_rule 28 = .ok (.ifCond .eq 19, 3) := dk_153 0 19 (dk_at dksX3_rule_1 4 rfl rfl)
theorem dX3_rule_31 : decode cX3_rule 31 = .ok (.aload_n 0, 1) := dk_42 (dk_at dksX3_rule_1 7 rfl rfl)
theorem dX3_rule_32 : decode cX3_rule 32 = .ok (.iload_n 1, 1) := dk_27 (dk_at dksX3_rule_1 8 rfl rfl)
theorem dX3_rule_33 : decode cX3_rule 33 = .ok (.invokevirtual 315, 3) := dk_182 1 59 (dk_at dksX3_rule_1 9 rfl rfl)
theorem dX3_rule_36 : decode cX3_rule 36 = .ok (.iinc 1 1, 3) := dk_132 1 1 (dk_at dksX3_rule_1 12 rfl rfl)
theorem dX3_rule_39 : decode cX3_rule 39 = .ok (.aload_n 0, 1) := dk_42 (dk_at dksX3_rule_1 15 rfl rfl)
theorem dX3_rule_40 : decode cX3_rule 40 = .ok (.invokevirtual 286, 3) := dk_182 1 30 (dk_at dksX3_rule_1 16 rfl rfl)
theorem dX3_rule_43 : decode cX3_rule 43 = .ok (.istore_n 2, 1) := dk_61 (dk_at dksX3_rule_1 19 rfl rfl)
theorem dX3_rule_44 : decode cX3_rule 44 = .ok (.goto (-17), 3) := dk_167 255 239 (dk_at dksX3_rule_1 20 rfl rfl)
theorem dX3_rule_47 : decode cX3_rule 47 = .ok (.aload_n 0, 1) := dk_42 (dk_at dksX3_rule_1 23 rfl rfl)
theorem dX3_rule_48 : decode cX3_rule 48 = .ok (.iconst 0, 1) := dk_3 (dk_at dksX3_rule_2 0 rfl rfl)
theorem dX3_rule_49 : decode cX3_rule 49 = .ok (.putfield 135, 3) := dk_181 0 135 (dk_at dksX3_rule_2 1 rfl rfl)
theorem dX3_rule_52 : decode cX3_rule 52 = .ok (.aload_n 0, 1) := dk_42 (dk_at dksX3_rule_2 4 rfl rfl)
theorem dX3_rule_53 : decode cX3_rule 53 = .ok (.getfield 75, 3) := dk_180 0 75 (dk_at dksX3_rule_2 5 rfl rfl)
theorem dX3_rule_56 : decode cX3_rule 56 = .ok (.aload_n 0, 1) := dk_42 (dk_at dksX3_rule_2 8 rfl rfl)
theorem dX3_rule_57 : decode cX3_rule 57 = .ok (.getfield 191, 3) := dk_180 0 191 (dk_at dksX3_rule_2 9 rfl rfl)
theorem dX3_rule_60 : decode cX3_rule 60 = .ok (.iload_n 1, 1) := dk_27 (dk_at dksX3_rule_2 12 rfl rfl)
theorem dX3_rule_61 : decode cX3_rule 61 = .ok (.iastore, 1) := dk_79 (dk_at dksX3_rule_2 13 rfl rfl)
theorem dX3_rule_62 : decode cX3_rule 62 = .ok (.aload_n 0, 1) := dk_42 (dk_at dksX3_rule_2 14 rfl rfl)
theorem dX3_rule_63 : decode cX3_rule 63 = .ok (.dup, 1) := dk_89 (dk_at dksX3_rule_2 15 rfl rfl)
theorem dX3_rule_64 : decode cX3_rule 64 = .ok (.getfield 312, 3) := dk_180 1 56 (dk_at dksX3_rule_2 16 rfl rfl)
theorem dX3_rule_67 : decode cX3_rule 67 = .ok (.aload_n 0, 1) := dk_42 (dk_at dksX3_rule_2 19 rfl rfl)
theorem dX3_rule_68 : decode cX3_rule 68 = .ok (.getfield 161, 3) := dk_180 0 161 (dk_at dksX3_rule_2 20 rfl rfl)
theorem dX3_rule_71 : decode cX3_rule 71 = .ok (.ifCond .ne 7, 3) := dk_154 0 7 (dk_at dksX3_rule_3 0 rfl rfl)
theorem dX3_rule_74 : decode cX3_rule 74 = .ok (.iconst 1, 1) := dk_4 (dk_at dksX3_rule_3 3 rfl rfl)
theorem dX3_rule_75 : decode cX3_rule 75 = .ok (.goto 4, 3) := dk_167 0 4 (dk_at dksX3_rule_3 4 rfl rfl)
theorem dX3_rule_78 : decode cX3_rule 78 = .ok (.iconst 0, 1) := dk_3 (dk_at dksX3_rule_3 7 rfl rfl)
theorem dX3_rule_79 : decode cX3_rule 79 = .ok (.iadd, 1) := dk_96 (dk_at dksX3_rule_3 8 rfl rfl)
theorem dX3_rule_80 : decode cX3_rule 80 = .ok (.putfield 312, 3) := dk_181 1 56 (dk_at dksX3_rule_3 9 rfl rfl)
theorem dX3_rule_83 : decode cX3_rule 83 = .ok (.aload_n 0, 1) := dk_42 (dk_at dksX3_rule_3 12 rfl rfl)
theorem dX3_rule_84 : decode cX3_rule 84 = .ok (.getfield 161, 3) := dk_180 0 161 (dk_at dksX3_rule_3 13 rfl rfl)
theorem dX3_rule_87 : decode cX3_rule 87 = .ok (.ifCond .le 13, 3) := dk_158 0 13 (dk_at dksX3_rule_3 16 rfl rfl)
theorem dX3_rule_90 : decode cX3_rule 90 = .ok (.bipush (-2), 2) := dk_16 254 (dk_at dksX3_rule_3 19 rfl rfl)
theorem dX3_rule_92 : decode cX3_rule 92 = .ok (.aload_n 0, 1) := dk_42 (dk_at dksX3_rule_3 21 rfl rfl)
theorem dX3_rule_93 : decode cX3_rule 93 = .ok (.getfield 161, 3) := dk_180 0 161 (dk_at dksX3_rule_4 0 rfl rfl)
theorem dX3_rule_96 : decode cX3_rule 96 = .ok (.isub, 1) := dk_100 (dk_at dksX3_rule_4 3 rfl rfl)
theorem dX3_rule_97 : decode cX3_rule 97 = .ok (.goto 9, 3) := dk_167 0 9 (dk_at dksX3_rule_4 4 rfl rfl)
theorem dX3_rule_100 : decode cX3_rule 100 = .ok (.aload_n 0, 1) := dk_42 (dk_at dksX3_rule_4 7 rfl rfl)
theorem dX3_rule_101 : decode cX3_rule 101 = .ok (.getfield 312, 3) := dk_180 1 56 (dk_at dksX3_rule_4 8 rfl rfl)
theorem dX3_rule_104 : decode cX3_rule 104 = .ok (.iconst 1, 1) := dk_4 (dk_at dksX3_rule_4 11 rfl rfl)
theorem dX3_rule_105 : decode cX3_rule 105 = .ok (.isub, 1) := dk_100 (dk_at dksX3_rule_4 12 rfl rfl)
theorem dX3_rule_106 : decode cX3_rule 106 = .ok (.ireturn, 1) := dk_172 (dk_at dksX3_rule_4 13 rfl rfl)
abbrev cX3_ruleClause : ByteArray := prog_17_method_44_code
def yX3_ruleClause : MethodName := ⟨RX3, "ruleClause", "(I)V"⟩
def dkwX3_ruleClause_4 : List UInt8 := [182, 1, 50, 153, 0, 7, 42, 182, 1, 53, 42, 180, 0, 84, 29, 42, 180, 0, 194, 79, 177]
abbrev dktX3_ruleClause_4 : List UInt8 := dkwX3_ruleClause_4 ++ []
def dkwX3_ruleClause_3 : List UInt8 := [182, 0, 229, 42, 180, 0, 81, 29, 42, 180, 0, 194, 79, 42, 180, 0, 161, 154, 0, 17, 42, 19, 1, 48]
abbrev dktX3_ruleClause_3 : List UInt8 := dkwX3_ruleClause_3 ++ dktX3_ruleClause_4
def dkwX3_ruleClause_2 : List UInt8 := [181, 0, 164, 16, 12, 42, 180, 0, 191, 104, 27, 96, 62, 42, 180, 0, 78, 29, 42, 180, 0, 194, 79, 42]
abbrev dktX3_ruleClause_2 : List UInt8 := dkwX3_ruleClause_2 ++ dktX3_ruleClause_3
def dkwX3_ruleClause_1 : List UInt8 := [182, 0, 200, 177, 27, 16, 12, 160, 0, 10, 42, 7, 28, 182, 0, 200, 177, 42, 89, 180, 0, 164, 6, 96]
abbrev dktX3_ruleClause_1 : List UInt8 := dkwX3_ruleClause_1 ++ dktX3_ruleClause_2
def dkwX3_ruleClause_0 : List UInt8 := [42, 182, 0, 184, 42, 180, 0, 164, 61, 42, 19, 1, 46, 182, 0, 187, 154, 0, 10, 42, 3, 28]
abbrev dktX3_ruleClause_0 : List UInt8 := dkwX3_ruleClause_0 ++ dktX3_ruleClause_1
theorem dksX3_ruleClause_0 : cX3_ruleClause.data.toList.drop 0 = dktX3_ruleClause_0 := by decide +kernel
theorem dksX3_ruleClause_1 : cX3_ruleClause.data.toList.drop 22 = dktX3_ruleClause_1 := dk_seg dksX3_ruleClause_0 22 rfl rfl
theorem dksX3_ruleClause_2 : cX3_ruleClause.data.toList.drop 46 = dktX3_ruleClause_2 := dk_seg dksX3_ruleClause_1 24 rfl rfl
theorem dksX3_ruleClause_3 : cX3_ruleClause.data.toList.drop 70 = dktX3_ruleClause_3 := dk_seg dksX3_ruleClause_2 24 rfl rfl
theorem dksX3_ruleClause_4 : cX3_ruleClause.data.toList.drop 94 = dktX3_ruleClause_4 := dk_seg dksX3_ruleClause_3 24 rfl rfl
theorem dX3_ruleClause_0 : decode cX3_ruleClause 0 = .ok (.aload_n 0, 1) := dk_42 (dk_at dksX3_ruleClause_0 0 rfl rfl)
theorem dX3_ruleClause_1 : decode cX3_ruleClause 1 = .ok (.invokevirtual 184, 3) := dk_182 0 184 (dk_at dksX3_ruleClause_0 1 rfl rfl)
theorem dX3_ruleClause_4 : decode cX3_ruleClause 4 = .ok (.aload_n 0, 1) := dk_42 (dk_at dksX3_ruleClause_0 4 rfl rfl)
theorem dX3_ruleClause_5 : decode cX3_ruleClause 5 = .ok (.getfield 164, 3) := dk_180 0 164 (dk_at dksX3_ruleClause_0 5 rfl rfl)
theorem dX3_ruleClause_8 : decode cX3_ruleClause 8 = .ok (.istore_n 2, 1) := dk_61 (dk_at dksX3_ruleClause_0 8 rfl rfl)
theorem dX3_ruleClause_9 : decode cX3_ruleClause 9 = .ok (.aload_n 0, 1) := dk_42 (dk_at dksX3_ruleClause_0 9 rfl rfl)
theorem dX3_ruleClause_10 : decode cX3_ruleClause 10 = .ok (.ldc_w 302, 3) := dk_19 1 46 (dk_at dksX3_ruleClause_0 10 rfl rfl)
theorem dX3_ruleClause_13 : decode cX3_ruleClause 13 = .ok (.invokevirtual 187, 3) := dk_182 0 187 (dk_at dksX3_ruleClause_0 13 rfl rfl)
theorem dX3_ruleClause_16 : decode cX3_ruleClause 16 = .ok (.ifCond .ne 10, 3) := dk_154 0 10 (dk_at dksX3_ruleClause_0 16 rfl rfl)
theorem dX3_ruleClause_19 : decode cX3_ruleClause 19 = .ok (.aload_n 0, 1) := dk_42 (dk_at dksX3_ruleClause_0 19 rfl rfl)
theorem dX3_ruleClause_20 : decode cX3_ruleClause 20 = .ok (.iconst 0, 1) := dk_3 (dk_at dksX3_ruleClause_0 20 rfl rfl)
theorem dX3_ruleClause_21 : decode cX3_ruleClause 21 = .ok (.iload_n 2, 1) := dk_28 (dk_at dksX3_ruleClause_0 21 rfl rfl)
theorem dX3_ruleClause_22 : decode cX3_ruleClause 22 = .ok (.invokevirtual 200, 3) := dk_182 0 200 (dk_at dksX3_ruleClause_1 0 rfl rfl)
theorem dX3_ruleClause_25 : decode cX3_ruleClause 25 = .ok (.return_, 1) := dk_177 (dk_at dksX3_ruleClause_1 3 rfl rfl)
theorem dX3_ruleClause_26 : decode cX3_ruleClause 26 = .ok (.iload_n 1, 1) := dk_27 (dk_at dksX3_ruleClause_1 4 rfl rfl)
theorem dX3_ruleClause_27 : decode cX3_ruleClause 27 = .ok (.bipush 12, 2) := dk_16 12 (dk_at dksX3_ruleClause_1 5 rfl rfl)
theorem dX3_ruleClause_29 : decode cX3_ruleClause 29 = .ok (.if_icmp .ne 10, 3) := dk_160 0 10 (dk_at dksX3_ruleClause_1 7 rfl rfl)
theorem dX3_ruleClause_32 : decode cX3_ruleClause 32 = .ok (.aload_n 0, 1) := dk_42 (dk_at dksX3_ruleClause_1 10 rfl rfl)
theorem dX3_ruleClause_33 : decode cX3_ruleClause 33 = .ok (.iconst 4, 1) := dk_7 (dk_at dksX3_ruleClause_1 11 rfl rfl)
theorem dX3_ruleClause_34 : decode cX3_ruleClause 34 = .ok (.iload_n 2, 1) := dk_28 (dk_at dksX3_ruleClause_1 12 rfl rfl)
theorem dX3_ruleClause_35 : decode cX3_ruleClause 35 = .ok (.invokevirtual 200, 3) := dk_182 0 200 (dk_at dksX3_ruleClause_1 13 rfl rfl)
theorem dX3_ruleClause_38 : decode cX3_ruleClause 38 = .ok (.return_, 1) := dk_177 (dk_at dksX3_ruleClause_1 16 rfl rfl)
theorem dX3_ruleClause_39 : decode cX3_ruleClause 39 = .ok (.aload_n 0, 1) := dk_42 (dk_at dksX3_ruleClause_1 17 rfl rfl)
theorem dX3_ruleClause_40 : decode cX3_ruleClause 40 = .ok (.dup, 1) := dk_89 (dk_at dksX3_ruleClause_1 18 rfl rfl)
theorem dX3_ruleClause_41 : decode cX3_ruleClause 41 = .ok (.getfield 164, 3) := dk_180 0 164 (dk_at dksX3_ruleClause_1 19 rfl rfl)
theorem dX3_ruleClause_44 : decode cX3_ruleClause 44 = .ok (.iconst 3, 1) := dk_6 (dk_at dksX3_ruleClause_1 22 rfl rfl)
theorem dX3_ruleClause_45 : decode cX3_ruleClause 45 = .ok (.iadd, 1) := dk_96 (dk_at dksX3_ruleClause_1 23 rfl rfl)
theorem dX3_ruleClause_46 : decode cX3_ruleClause 46 = .ok (.putfield 164, 3) := dk_181 0 164 (dk_at dksX3_ruleClause_2 0 rfl rfl)
theorem dX3_ruleClause_49 : decode cX3_ruleClause 49 = .ok (.bipush 12, 2) := dk_16 12 (dk_at dksX3_ruleClause_2 3 rfl rfl)
theorem dX3_ruleClause_51 : decode cX3_ruleClause 51 = .ok (.aload_n 0, 1) := dk_42 (dk_at dksX3_ruleClause_2 5 rfl rfl)
theorem dX3_ruleClause_52 : decode cX3_ruleClause 52 = .ok (.getfield 191, 3) := dk_180 0 191 (dk_at dksX3_ruleClause_2 6 rfl rfl)
theorem dX3_ruleClause_55 : decode cX3_ruleClause 55 = .ok (.imul, 1) := dk_104 (dk_at dksX3_ruleClause_2 9 rfl rfl)
theorem dX3_ruleClause_56 : decode cX3_ruleClause 56 = .ok (.iload_n 1, 1) := dk_27 (dk_at dksX3_ruleClause_2 10 rfl rfl)
theorem dX3_ruleClause_57 : decode cX3_ruleClause 57 = .ok (.iadd, 1) := dk_96 (dk_at dksX3_ruleClause_2 11 rfl rfl)
theorem dX3_ruleClause_58 : decode cX3_ruleClause 58 = .ok (.istore_n 3, 1) := dk_62 (dk_at dksX3_ruleClause_2 12 rfl rfl)
theorem dX3_ruleClause_59 : decode cX3_ruleClause 59 = .ok (.aload_n 0, 1) := dk_42 (dk_at dksX3_ruleClause_2 13 rfl rfl)
theorem dX3_ruleClause_60 : decode cX3_ruleClause 60 = .ok (.getfield 78, 3) := dk_180 0 78 (dk_at dksX3_ruleClause_2 14 rfl rfl)
theorem dX3_ruleClause_63 : decode cX3_ruleClause 63 = .ok (.iload_n 3, 1) := dk_29 (dk_at dksX3_ruleClause_2 17 rfl rfl)
theorem dX3_ruleClause_64 : decode cX3_ruleClause 64 = .ok (.aload_n 0, 1) := dk_42 (dk_at dksX3_ruleClause_2 18 rfl rfl)
theorem dX3_ruleClause_65 : decode cX3_ruleClause 65 = .ok (.getfield 194, 3) := dk_180 0 194 (dk_at dksX3_ruleClause_2 19 rfl rfl)
theorem dX3_ruleClause_68 : decode cX3_ruleClause 68 = .ok (.iastore, 1) := dk_79 (dk_at dksX3_ruleClause_2 22 rfl rfl)
theorem dX3_ruleClause_69 : decode cX3_ruleClause 69 = .ok (.aload_n 0, 1) := dk_42 (dk_at dksX3_ruleClause_2 23 rfl rfl)
theorem dX3_ruleClause_70 : decode cX3_ruleClause 70 = .ok (.invokevirtual 229, 3) := dk_182 0 229 (dk_at dksX3_ruleClause_3 0 rfl rfl)
theorem dX3_ruleClause_73 : decode cX3_ruleClause 73 = .ok (.aload_n 0, 1) := dk_42 (dk_at dksX3_ruleClause_3 3 rfl rfl)
theorem dX3_ruleClause_74 : decode cX3_ruleClause 74 = .ok (.getfield 81, 3) := dk_180 0 81 (dk_at dksX3_ruleClause_3 4 rfl rfl)
theorem dX3_ruleClause_77 : decode cX3_ruleClause 77 = .ok (.iload_n 3, 1) := dk_29 (dk_at dksX3_ruleClause_3 7 rfl rfl)
theorem dX3_ruleClause_78 : decode cX3_ruleClause 78 = .ok (.aload_n 0, 1) := dk_42 (dk_at dksX3_ruleClause_3 8 rfl rfl)
theorem dX3_ruleClause_79 : decode cX3_ruleClause 79 = .ok (.getfield 194, 3) := dk_180 0 194 (dk_at dksX3_ruleClause_3 9 rfl rfl)
theorem dX3_ruleClause_82 : decode cX3_ruleClause 82 = .ok (.iastore, 1) := dk_79 (dk_at dksX3_ruleClause_3 12 rfl rfl)
theorem dX3_ruleClause_83 : decode cX3_ruleClause 83 = .ok (.aload_n 0, 1) := dk_42 (dk_at dksX3_ruleClause_3 13 rfl rfl)
theorem dX3_ruleClause_84 : decode cX3_ruleClause 84 = .ok (.getfield 161, 3) := dk_180 0 161 (dk_at dksX3_ruleClause_3 14 rfl rfl)
theorem dX3_ruleClause_87 : decode cX3_ruleClause 87 = .ok (.ifCond .ne 17, 3) := dk_154 0 17 (dk_at dksX3_ruleClause_3 17 rfl rfl)
theorem dX3_ruleClause_90 : decode cX3_ruleClause 90 = .ok (.aload_n 0, 1) := dk_42 (dk_at dksX3_ruleClause_3 20 rfl rfl)
theorem dX3_ruleClause_91 : decode cX3_ruleClause 91 = .ok (.ldc_w 304, 3) := dk_19 1 48 (dk_at dksX3_ruleClause_3 21 rfl rfl)
theorem dX3_ruleClause_94 : decode cX3_ruleClause 94 = .ok (.invokevirtual 306, 3) := dk_182 1 50 (dk_at dksX3_ruleClause_4 0 rfl rfl)
theorem dX3_ruleClause_97 : decode cX3_ruleClause 97 = .ok (.ifCond .eq 7, 3) := dk_153 0 7 (dk_at dksX3_ruleClause_4 3 rfl rfl)
theorem dX3_ruleClause_100 : decode cX3_ruleClause 100 = .ok (.aload_n 0, 1) := dk_42 (dk_at dksX3_ruleClause_4 6 rfl rfl)
theorem dX3_ruleClause_101 : decode cX3_ruleClause 101 = .ok (.invokevirtual 309, 3) := dk_182 1 53 (dk_at dksX3_ruleClause_4 7 rfl rfl)
theorem dX3_ruleClause_104 : decode cX3_ruleClause 104 = .ok (.aload_n 0, 1) := dk_42 (dk_at dksX3_ruleClause_4 10 rfl rfl)
theorem dX3_ruleClause_105 : decode cX3_ruleClause 105 = .ok (.getfield 84, 3) := dk_180 0 84 (dk_at dksX3_ruleClause_4 11 rfl rfl)
theorem dX3_ruleClause_108 : decode cX3_ruleClause 108 = .ok (.iload_n 3, 1) := dk_29 (dk_at dksX3_ruleClause_4 14 rfl rfl)
theorem dX3_ruleClause_109 : decode cX3_ruleClause 109 = .ok (.aload_n 0, 1) := dk_42 (dk_at dksX3_ruleClause_4 15 rfl rfl)
theorem dX3_ruleClause_110 : decode cX3_ruleClause 110 = .ok (.getfield 194, 3) := dk_180 0 194 (dk_at dksX3_ruleClause_4 16 rfl rfl)
theorem dX3_ruleClause_113 : decode cX3_ruleClause 113 = .ok (.iastore, 1) := dk_79 (dk_at dksX3_ruleClause_4 19 rfl rfl)
theorem dX3_ruleClause_114 : decode cX3_ruleClause 114 = .ok (.return_, 1) := dk_177 (dk_at dksX3_ruleClause_4 20 rfl rfl)
abbrev cX3_sum : ByteArray := prog_17_method_25_code
def yX3_sum : MethodName := ⟨RX3, "sum", "()V"⟩
def dkwX3_sum_2 : List UInt8 := [180, 0, 164, 4, 96, 181, 0, 164, 42, 182, 0, 226, 42, 27, 3, 182, 0, 216, 167, 255, 196, 177]
abbrev dktX3_sum_2 : List UInt8 := dkwX3_sum_2 ++ []
def dkwX3_sum_1 : List UInt8 := [16, 45, 160, 0, 41, 42, 182, 0, 167, 16, 43, 160, 0, 7, 5, 167, 0, 4, 6, 60, 42, 89]
abbrev dktX3_sum_1 : List UInt8 := dkwX3_sum_1 ++ dktX3_sum_2
def dkwX3_sum_0 : List UInt8 := [42, 182, 0, 226, 42, 180, 0, 161, 154, 0, 59, 42, 182, 0, 167, 16, 43, 159, 0, 12, 42, 182, 0, 167]
abbrev dktX3_sum_0 : List UInt8 := dkwX3_sum_0 ++ dktX3_sum_1
theorem dksX3_sum_0 : cX3_sum.data.toList.drop 0 = dktX3_sum_0 := by decide +kernel
theorem dksX3_sum_1 : cX3_sum.data.toList.drop 24 = dktX3_sum_1 := dk_seg dksX3_sum_0 24 rfl rfl
theorem dksX3_sum_2 : cX3_sum.data.toList.drop 46 = dktX3_sum_2 := dk_seg dksX3_sum_1 22 rfl rfl
theorem dX3_sum_0 : decode cX3_sum 0 = .ok (.aload_n 0, 1) := dk_42 (dk_at dksX3_sum_0 0 rfl rfl)
theorem dX3_sum_1 : decode cX3_sum 1 = .ok (.invokevirtual 226, 3) := dk_182 0 226 (dk_at dksX3_sum_0 1 rfl rfl)
theorem dX3_sum_4 : decode cX3_sum 4 = .ok (.aload_n 0, 1) := dk_42 (dk_at dksX3_sum_0 4 rfl rfl)
theorem dX3_sum_5 : decode cX3_sum 5 = .ok (.getfield 161, 3) := dk_180 0 161 (dk_at dksX3_sum_0 5 rfl rfl)
theorem dX3_sum_8 : decode cX3_sum 8 = .ok (.ifCond .ne 59, 3) := dk_154 0 59 (dk_at dksX3_sum_0 8 rfl rfl)
theorem dX3_sum_11 : decode cX3_sum 11 = .ok (.aload_n 0, 1) := dk_42 (dk_at dksX3_sum_0 11 rfl rfl)
theorem dX3_sum_12 : decode cX3_sum 12 = .ok (.invokevirtual 167, 3) := dk_182 0 167 (dk_at dksX3_sum_0 12 rfl rfl)
theorem dX3_sum_15 : decode cX3_sum 15 = .ok (.bipush 43, 2) := dk_16 43 (dk_at dksX3_sum_0 15 rfl rfl)
theorem dX3_sum_17 : decode cX3_sum 17 = .ok (.if_icmp .eq 12, 3) := dk_159 0 12 (dk_at dksX3_sum_0 17 rfl rfl)
theorem dX3_sum_20 : decode cX3_sum 20 = .ok (.aload_n 0, 1) := dk_42 (dk_at dksX3_sum_0 20 rfl rfl)
theorem dX3_sum_21 : decode cX3_sum 21 = .ok (.invokevirtual 167, 3) := dk_182 0 167 (dk_at dksX3_sum_0 21 rfl rfl)
theorem dX3_sum_24 : decode cX3_sum 24 = .ok (.bipush 45, 2) := dk_16 45 (dk_at dksX3_sum_1 0 rfl rfl)
theorem dX3_sum_26 : decode cX3_sum 26 = .ok (.if_icmp .ne 41, 3) := dk_160 0 41 (dk_at dksX3_sum_1 2 rfl rfl)
theorem dX3_sum_29 : decode cX3_sum 29 = .ok (.aload_n 0, 1) := dk_42 (dk_at dksX3_sum_1 5 rfl rfl)
theorem dX3_sum_30 : decode cX3_sum 30 = .ok (.invokevirtual 167, 3) := dk_182 0 167 (dk_at dksX3_sum_1 6 rfl rfl)
theorem dX3_sum_33 : decode cX3_sum 33 = .ok (.bipush 43, 2) := dk_16 43 (dk_at dksX3_sum_1 9 rfl rfl)
theorem dX3_sum_35 : decode cX3_sum 35 = .ok (.if_icmp .ne 7, 3) := dk_160 0 7 (dk_at dksX3_sum_1 11 rfl rfl)
theorem dX3_sum_38 : decode cX3_sum 38 = .ok (.iconst 2, 1) := dk_5 (dk_at dksX3_sum_1 14 rfl rfl)
theorem dX3_sum_39 : decode cX3_sum 39 = .ok (.goto 4, 3) := dk_167 0 4 (dk_at dksX3_sum_1 15 rfl rfl)
theorem dX3_sum_42 : decode cX3_sum 42 = .ok (.iconst 3, 1) := dk_6 (dk_at dksX3_sum_1 18 rfl rfl)
theorem dX3_sum_43 : decode cX3_sum 43 = .ok (.istore_n 1, 1) := dk_60 (dk_at dksX3_sum_1 19 rfl rfl)
theorem dX3_sum_44 : decode cX3_sum 44 = .ok (.aload_n 0, 1) := dk_42 (dk_at dksX3_sum_1 20 rfl rfl)
theorem dX3_sum_45 : decode cX3_sum 45 = .ok (.dup, 1) := dk_89 (dk_at dksX3_sum_1 21 rfl rfl)
theorem dX3_sum_46 : decode cX3_sum 46 = .ok (.getfield 164, 3) := dk_180 0 164 (dk_at dksX3_sum_2 0 rfl rfl)
theorem dX3_sum_49 : decode cX3_sum 49 = .ok (.iconst 1, 1) := dk_4 (dk_at dksX3_sum_2 3 rfl rfl)
theorem dX3_sum_50 : decode cX3_sum 50 = .ok (.iadd, 1) := dk_96 (dk_at dksX3_sum_2 4 rfl rfl)
theorem dX3_sum_51 : decode cX3_sum 51 = .ok (.putfield 164, 3) := dk_181 0 164 (dk_at dksX3_sum_2 5 rfl rfl)
theorem dX3_sum_54 : decode cX3_sum 54 = .ok (.aload_n 0, 1) := dk_42 (dk_at dksX3_sum_2 8 rfl rfl)
theorem dX3_sum_55 : decode cX3_sum 55 = .ok (.invokevirtual 226, 3) := dk_182 0 226 (dk_at dksX3_sum_2 9 rfl rfl)
theorem dX3_sum_58 : decode cX3_sum 58 = .ok (.aload_n 0, 1) := dk_42 (dk_at dksX3_sum_2 12 rfl rfl)
theorem dX3_sum_59 : decode cX3_sum 59 = .ok (.iload_n 1, 1) := dk_27 (dk_at dksX3_sum_2 13 rfl rfl)
theorem dX3_sum_60 : decode cX3_sum 60 = .ok (.iconst 0, 1) := dk_3 (dk_at dksX3_sum_2 14 rfl rfl)
theorem dX3_sum_61 : decode cX3_sum 61 = .ok (.invokevirtual 216, 3) := dk_182 0 216 (dk_at dksX3_sum_2 15 rfl rfl)
theorem dX3_sum_64 : decode cX3_sum 64 = .ok (.goto (-60), 3) := dk_167 255 196 (dk_at dksX3_sum_2 18 rfl rfl)
theorem dX3_sum_67 : decode cX3_sum 67 = .ok (.return_, 1) := dk_177 (dk_at dksX3_sum_2 21 rfl rfl)
abbrev cX3_term : ByteArray := prog_17_method_24_code
def yX3_term : MethodName := ⟨RX3, "term", "()V"⟩
def dkwX3_term_4 : List UInt8 := [182, 0, 184, 167, 255, 167, 177]
abbrev dktX3_term_4 : List UInt8 := dkwX3_term_4 ++ []
def dkwX3_term_3 : List UInt8 := [60, 42, 89, 180, 0, 164, 4, 96, 181, 0, 164, 42, 182, 0, 223, 42, 27, 3, 182, 0, 216, 42]
abbrev dktX3_term_3 : List UInt8 := dkwX3_term_3 ++ dktX3_term_4
def dkwX3_term_2 : List UInt8 := [160, 0, 8, 16, 13, 167, 0, 19, 42, 182, 0, 167, 16, 47, 160, 0, 8, 16, 14, 167, 0, 5, 16, 15]
abbrev dktX3_term_2 : List UInt8 := dkwX3_term_2 ++ dktX3_term_3
def dkwX3_term_1 : List UInt8 := [42, 182, 0, 167, 16, 47, 159, 0, 12, 42, 182, 0, 167, 16, 37, 160, 0, 61, 42, 182, 0, 167, 16, 42]
abbrev dktX3_term_1 : List UInt8 := dkwX3_term_1 ++ dktX3_term_2
def dkwX3_term_0 : List UInt8 := [42, 182, 0, 223, 42, 182, 0, 184, 42, 180, 0, 161, 154, 0, 88, 42, 182, 0, 167, 16, 42, 159, 0, 21]
abbrev dktX3_term_0 : List UInt8 := dkwX3_term_0 ++ dktX3_term_1
theorem dksX3_term_0 : cX3_term.data.toList.drop 0 = dktX3_term_0 := by decide +kernel
theorem dksX3_term_1 : cX3_term.data.toList.drop 24 = dktX3_term_1 := dk_seg dksX3_term_0 24 rfl rfl
theorem dksX3_term_2 : cX3_term.data.toList.drop 48 = dktX3_term_2 := dk_seg dksX3_term_1 24 rfl rfl
theorem dksX3_term_3 : cX3_term.data.toList.drop 72 = dktX3_term_3 := dk_seg dksX3_term_2 24 rfl rfl
theorem dksX3_term_4 : cX3_term.data.toList.drop 94 = dktX3_term_4 := dk_seg dksX3_term_3 22 rfl rfl
theorem dX3_term_0 : decode cX3_term 0 = .ok (.aload_n 0, 1) := dk_42 (dk_at dksX3_term_0 0 rfl rfl)
theorem dX3_term_1 : decode cX3_term 1 = .ok (.invokevirtual 223, 3) := dk_182 0 223 (dk_at dksX3_term_0 1 rfl rfl)
theorem dX3_term_4 : decode cX3_term 4 = .ok (.aload_n 0, 1) := dk_42 (dk_at dksX3_term_0 4 rfl rfl)
theorem dX3_term_5 : decode cX3_term 5 = .ok (.invokevirtual 184, 3) := dk_182 0 184 (dk_at dksX3_term_0 5 rfl rfl)
theorem dX3_term_8 : decode cX3_term 8 = .ok (.aload_n 0, 1) := dk_42 (dk_at dksX3_term_0 8 rfl rfl)
theorem dX3_term_9 : decode cX3_term 9 = .ok (.getfield 161, 3) := dk_180 0 161 (dk_at dksX3_term_0 9 rfl rfl)
theorem dX3_term_12 : decode cX3_term 12 = .ok (.ifCond .ne 88, 3) := dk_154 0 88 (dk_at dksX3_term_0 12 rfl rfl)
theorem dX3_term_15 : decode cX3_term 15 = .ok (.aload_n 0, 1) := dk_42 (dk_at dksX3_term_0 15 rfl rfl)
theorem dX3_term_16 : decode cX3_term 16 = .ok (.invokevirtual 167, 3) := dk_182 0 167 (dk_at dksX3_term_0 16 rfl rfl)
theorem dX3_term_19 : decode cX3_term 19 = .ok (.bipush 42, 2) := dk_16 42 (dk_at dksX3_term_0 19 rfl rfl)
theorem dX3_term_21 : decode cX3_term 21 = .ok (.if_icmp .eq 21, 3) := dk_159 0 21 (dk_at dksX3_term_0 21 rfl rfl)
theorem dX3_term_24 : decode cX3_term 24 = .ok (.aload_n 0, 1) := dk_42 (dk_at dksX3_term_1 0 rfl rfl)
theorem dX3_term_25 : decode cX3_term 25 = .ok (.invokevirtual 167, 3) := dk_182 0 167 (dk_at dksX3_term_1 1 rfl rfl)
theorem dX3_term_28 : decode cX3_term 28 = .ok (.bipush 47, 2) := dk_16 47 (dk_at dksX3_term_1 4 rfl rfl)
theorem dX3_term_30 : decode cX3_term 30 = .ok (.if_icmp .eq 12, 3) := dk_159 0 12 (dk_at dksX3_term_1 6 rfl rfl)
theorem dX3_term_33 : decode cX3_term 33 = .ok (.aload_n 0, 1) := dk_42 (dk_at dksX3_term_1 9 rfl rfl)
theorem dX3_term_34 : decode cX3_term 34 = .ok (.invokevirtual 167, 3) := dk_182 0 167 (dk_at dksX3_term_1 10 rfl rfl)
theorem dX3_term_37 : decode cX3_term 37 = .ok (.bipush 37, 2) := dk_16 37 (dk_at dksX3_term_1 13 rfl rfl)
theorem dX3_term_39 : decode cX3_term 39 = .ok (.if_icmp .ne 61, 3) := dk_160 0 61 (dk_at dksX3_term_1 15 rfl rfl)
theorem dX3_term_42 : decode cX3_term 42 = .ok (.aload_n 0, 1) := dk_42 (dk_at dksX3_term_1 18 rfl rfl)
theorem dX3_term_43 : decode cX3_term 43 = .ok (.invokevirtual 167, 3) := dk_182 0 167 (dk_at dksX3_term_1 19 rfl rfl)
theorem dX3_term_46 : decode cX3_term 46 = .ok (.bipush 42, 2) := dk_16 42 (dk_at dksX3_term_1 22 rfl rfl)
theorem dX3_term_48 : decode cX3_term 48 = .ok (.if_icmp .ne 8, 3) := dk_160 0 8 (dk_at dksX3_term_2 0 rfl rfl)
theorem dX3_term_51 : decode cX3_term 51 = .ok (.bipush 13, 2) := dk_16 13 (dk_at dksX3_term_2 3 rfl rfl)
theorem dX3_term_53 : decode cX3_term 53 = .ok (.goto 19, 3) := dk_167 0 19 (dk_at dksX3_term_2 5 rfl rfl)
theorem dX3_term_56 : decode cX3_term 56 = .ok (.aload_n 0, 1) := dk_42 (dk_at dksX3_term_2 8 rfl rfl)
theorem dX3_term_57 : decode cX3_term 57 = .ok (.invokevirtual 167, 3) := dk_182 0 167 (dk_at dksX3_term_2 9 rfl rfl)
theorem dX3_term_60 : decode cX3_term 60 = .ok (.bipush 47, 2) := dk_16 47 (dk_at dksX3_term_2 12 rfl rfl)
theorem dX3_term_62 : decode cX3_term 62 = .ok (.if_icmp .ne 8, 3) := dk_160 0 8 (dk_at dksX3_term_2 14 rfl rfl)
theorem dX3_term_65 : decode cX3_term 65 = .ok (.bipush 14, 2) := dk_16 14 (dk_at dksX3_term_2 17 rfl rfl)
theorem dX3_term_67 : decode cX3_term 67 = .ok (.goto 5, 3) := dk_167 0 5 (dk_at dksX3_term_2 19 rfl rfl)
theorem dX3_term_70 : decode cX3_term 70 = .ok (.bipush 15, 2) := dk_16 15 (dk_at dksX3_term_2 22 rfl rfl)
theorem dX3_term_72 : decode cX3_term 72 = .ok (.istore_n 1, 1) := dk_60 (dk_at dksX3_term_3 0 rfl rfl)
theorem dX3_term_73 : decode cX3_term 73 = .ok (.aload_n 0, 1) := dk_42 (dk_at dksX3_term_3 1 rfl rfl)
theorem dX3_term_74 : decode cX3_term 74 = .ok (.dup, 1) := dk_89 (dk_at dksX3_term_3 2 rfl rfl)
theorem dX3_term_75 : decode cX3_term 75 = .ok (.getfield 164, 3) := dk_180 0 164 (dk_at dksX3_term_3 3 rfl rfl)
theorem dX3_term_78 : decode cX3_term 78 = .ok (.iconst 1, 1) := dk_4 (dk_at dksX3_term_3 6 rfl rfl)
theorem dX3_term_79 : decode cX3_term 79 = .ok (.iadd, 1) := dk_96 (dk_at dksX3_term_3 7 rfl rfl)
theorem dX3_term_80 : decode cX3_term 80 = .ok (.putfield 164, 3) := dk_181 0 164 (dk_at dksX3_term_3 8 rfl rfl)
theorem dX3_term_83 : decode cX3_term 83 = .ok (.aload_n 0, 1) := dk_42 (dk_at dksX3_term_3 11 rfl rfl)
theorem dX3_term_84 : decode cX3_term 84 = .ok (.invokevirtual 223, 3) := dk_182 0 223 (dk_at dksX3_term_3 12 rfl rfl)
theorem dX3_term_87 : decode cX3_term 87 = .ok (.aload_n 0, 1) := dk_42 (dk_at dksX3_term_3 15 rfl rfl)
theorem dX3_term_88 : decode cX3_term 88 = .ok (.iload_n 1, 1) := dk_27 (dk_at dksX3_term_3 16 rfl rfl)
theorem dX3_term_89 : decode cX3_term 89 = .ok (.iconst 0, 1) := dk_3 (dk_at dksX3_term_3 17 rfl rfl)
theorem dX3_term_90 : decode cX3_term 90 = .ok (.invokevirtual 216, 3) := dk_182 0 216 (dk_at dksX3_term_3 18 rfl rfl)
theorem dX3_term_93 : decode cX3_term 93 = .ok (.aload_n 0, 1) := dk_42 (dk_at dksX3_term_3 21 rfl rfl)
theorem dX3_term_94 : decode cX3_term 94 = .ok (.invokevirtual 184, 3) := dk_182 0 184 (dk_at dksX3_term_4 0 rfl rfl)
theorem dX3_term_97 : decode cX3_term 97 = .ok (.goto (-89), 3) := dk_167 255 167 (dk_at dksX3_term_4 3 rfl rfl)
theorem dX3_term_100 : decode cX3_term 100 = .ok (.return_, 1) := dk_177 (dk_at dksX3_term_4 6 rfl rfl)
abbrev cX3_value : ByteArray := prog_17_method_23_code
def yX3_value : MethodName := ⟨RX3, "value", "()V"⟩
def dkwX3_value_4 : List UInt8 := [181, 0, 164, 42, 4, 28, 182, 0, 216, 177]
abbrev dktX3_value_4 : List UInt8 := dkwX3_value_4 ++ []
def dkwX3_value_3 : List UInt8 := [3, 27, 182, 0, 200, 177, 42, 27, 182, 0, 213, 42, 89, 180, 0, 164, 28, 184, 0, 219, 182, 0, 175, 96]
abbrev dktX3_value_3 : List UInt8 := dkwX3_value_3 ++ dktX3_value_4
def dkwX3_value_2 : List UInt8 := [184, 0, 219, 182, 0, 187, 154, 0, 9, 132, 2, 1, 167, 255, 234, 28, 42, 180, 0, 61, 160, 0, 10, 42]
abbrev dktX3_value_2 : List UInt8 := dkwX3_value_2 ++ dktX3_value_3
def dkwX3_value_1 : List UInt8 := [27, 182, 0, 213, 42, 3, 28, 182, 0, 216, 177, 3, 61, 28, 42, 180, 0, 61, 162, 0, 20, 42, 28]
abbrev dktX3_value_1 : List UInt8 := dkwX3_value_1 ++ dktX3_value_2
def dkwX3_value_0 : List UInt8 := [42, 182, 0, 184, 42, 180, 0, 164, 60, 42, 182, 0, 204, 153, 0, 22, 42, 18, 208, 182, 0, 209, 61, 42]
abbrev dktX3_value_0 : List UInt8 := dkwX3_value_0 ++ dktX3_value_1
theorem dksX3_value_0 : cX3_value.data.toList.drop 0 = dktX3_value_0 := by decide +kernel
theorem dksX3_value_1 : cX3_value.data.toList.drop 24 = dktX3_value_1 := dk_seg dksX3_value_0 24 rfl rfl
theorem dksX3_value_2 : cX3_value.data.toList.drop 47 = dktX3_value_2 := dk_seg dksX3_value_1 23 rfl rfl
theorem dksX3_value_3 : cX3_value.data.toList.drop 71 = dktX3_value_3 := dk_seg dksX3_value_2 24 rfl rfl
theorem dksX3_value_4 : cX3_value.data.toList.drop 95 = dktX3_value_4 := dk_seg dksX3_value_3 24 rfl rfl
theorem dX3_value_0 : decode cX3_value 0 = .ok (.aload_n 0, 1) := dk_42 (dk_at dksX3_value_0 0 rfl rfl)
theorem dX3_value_1 : decode cX3_value 1 = .ok (.invokevirtual 184, 3) := dk_182 0 184 (dk_at dksX3_value_0 1 rfl rfl)
theorem dX3_value_4 : decode cX3_value 4 = .ok (.aload_n 0, 1) := dk_42 (dk_at dksX3_value_0 4 rfl rfl)
theorem dX3_value_5 : decode cX3_value 5 = .ok (.getfield 164, 3) := dk_180 0 164 (dk_at dksX3_value_0 5 rfl rfl)
theorem dX3_value_8 : decode cX3_value 8 = .ok (.istore_n 1, 1) := dk_60 (dk_at dksX3_value_0 8 rfl rfl)
theorem dX3_value_9 : decode cX3_value 9 = .ok (.aload_n 0, 1) := dk_42 (dk_at dksX3_value_0 9 rfl rfl)
theorem dX3_value_10 : decode cX3_value 10 = .ok (.invokevirtual 204, 3) := dk_182 0 204 (dk_at dksX3_value_0 10 rfl rfl)
theorem dX3_value_13 : decode cX3_value 13 = .ok (.ifCond .eq 22, 3) := dk_153 0 22 (dk_at dksX3_value_0 13 rfl rfl)
theorem dX3_value_16 : decode cX3_value 16 = .ok (.aload_n 0, 1) := dk_42 (dk_at dksX3_value_0 16 rfl rfl)
theorem dX3_value_17 : decode cX3_value 17 = .ok (.ldc 208, 2) := dk_18 208 (dk_at dksX3_value_0 17 rfl rfl)
theorem dX3_value_19 : decode cX3_value 19 = .ok (.invokevirtual 209, 3) := dk_182 0 209 (dk_at dksX3_value_0 19 rfl rfl)
theorem dX3_value_22 : decode cX3_value 22 = .ok (.istore_n 2, 1) := dk_61 (dk_at dksX3_value_0 22 rfl rfl)
theorem dX3_value_23 : decode cX3_value 23 = .ok (.aload_n 0, 1) := dk_42 (dk_at dksX3_value_0 23 rfl rfl)
theorem dX3_value_24 : decode cX3_value 24 = .ok (.iload_n 1, 1) := dk_27 (dk_at dksX3_value_1 0 rfl rfl)
theorem dX3_value_25 : decode cX3_value 25 = .ok (.invokevirtual 213, 3) := dk_182 0 213 (dk_at dksX3_value_1 1 rfl rfl)
theorem dX3_value_28 : decode cX3_value 28 = .ok (.aload_n 0, 1) := dk_42 (dk_at dksX3_value_1 4 rfl rfl)
theorem dX3_value_29 : decode cX3_value 29 = .ok (.iconst 0, 1) := dk_3 (dk_at dksX3_value_1 5 rfl rfl)
theorem dX3_value_30 : decode cX3_value 30 = .ok (.iload_n 2, 1) := dk_28 (dk_at dksX3_value_1 6 rfl rfl)
theorem dX3_value_31 : decode cX3_value 31 = .ok (.invokevirtual 216, 3) := dk_182 0 216 (dk_at dksX3_value_1 7 rfl rfl)
theorem dX3_value_34 : decode cX3_value 34 = .ok (.return_, 1) := dk_177 (dk_at dksX3_value_1 10 rfl rfl)
theorem dX3_value_35 : decode cX3_value 35 = .ok (.iconst 0, 1) := dk_3 (dk_at dksX3_value_1 11 rfl rfl)
theorem dX3_value_36 : decode cX3_value 36 = .ok (.istore_n 2, 1) := dk_61 (dk_at dksX3_value_1 12 rfl rfl)
theorem dX3_value_37 : decode cX3_value 37 = .ok (.iload_n 2, 1) := dk_28 (dk_at dksX3_value_1 13 rfl rfl)
theorem dX3_value_38 : decode cX3_value 38 = .ok (.aload_n 0, 1) := dk_42 (dk_at dksX3_value_1 14 rfl rfl)
theorem dX3_value_39 : decode cX3_value 39 = .ok (.getfield 61, 3) := dk_180 0 61 (dk_at dksX3_value_1 15 rfl rfl)
theorem dX3_value_42 : decode cX3_value 42 = .ok (.if_icmp .ge 20, 3) := dk_162 0 20 (dk_at dksX3_value_1 18 rfl rfl)
theorem dX3_value_45 : decode cX3_value 45 = .ok (.aload_n 0, 1) := dk_42 (dk_at dksX3_value_1 21 rfl rfl)
theorem dX3_value_46 : decode cX3_value 46 = .ok (.iload_n 2, 1) := dk_28 (dk_at dksX3_value_1 22 rfl rfl)
theorem dX3_value_47 : decode cX3_value 47 = .ok (.invokestatic 219, 3) := dk_184 0 219 (dk_at dksX3_value_2 0 rfl rfl)
theorem dX3_value_50 : decode cX3_value 50 = .ok (.invokevirtual 187, 3) := dk_182 0 187 (dk_at dksX3_value_2 3 rfl rfl)
theorem dX3_value_53 : decode cX3_value 53 = .ok (.ifCond .ne 9, 3) := dk_154 0 9 (dk_at dksX3_value_2 6 rfl rfl)
theorem dX3_value_56 : decode cX3_value 56 = .ok (.iinc 2 1, 3) := dk_132 2 1 (dk_at dksX3_value_2 9 rfl rfl)
theorem dX3_value_59 : decode cX3_value 59 = .ok (.goto (-22), 3) := dk_167 255 234 (dk_at dksX3_value_2 12 rfl rfl)
theorem dX3_value_62 : decode cX3_value 62 = .ok (.iload_n 2, 1) := dk_28 (dk_at dksX3_value_2 15 rfl rfl)
theorem dX3_value_63 : decode cX3_value 63 = .ok (.aload_n 0, 1) := dk_42 (dk_at dksX3_value_2 16 rfl rfl)
theorem dX3_value_64 : decode cX3_value 64 = .ok (.getfield 61, 3) := dk_180 0 61 (dk_at dksX3_value_2 17 rfl rfl)
theorem dX3_value_67 : decode cX3_value 67 = .ok (.if_icmp .ne 10, 3) := dk_160 0 10 (dk_at dksX3_value_2 20 rfl rfl)
theorem dX3_value_70 : decode cX3_value 70 = .ok (.aload_n 0, 1) := dk_42 (dk_at dksX3_value_2 23 rfl rfl)
theorem dX3_value_71 : decode cX3_value 71 = .ok (.iconst 0, 1) := dk_3 (dk_at dksX3_value_3 0 rfl rfl)
theorem dX3_value_72 : decode cX3_value 72 = .ok (.iload_n 1, 1) := dk_27 (dk_at dksX3_value_3 1 rfl rfl)
theorem dX3_value_73 : decode cX3_value 73 = .ok (.invokevirtual 200, 3) := dk_182 0 200 (dk_at dksX3_value_3 2 rfl rfl)
theorem dX3_value_76 : decode cX3_value 76 = .ok (.return_, 1) := dk_177 (dk_at dksX3_value_3 5 rfl rfl)
theorem dX3_value_77 : decode cX3_value 77 = .ok (.aload_n 0, 1) := dk_42 (dk_at dksX3_value_3 6 rfl rfl)
theorem dX3_value_78 : decode cX3_value 78 = .ok (.iload_n 1, 1) := dk_27 (dk_at dksX3_value_3 7 rfl rfl)
theorem dX3_value_79 : decode cX3_value 79 = .ok (.invokevirtual 213, 3) := dk_182 0 213 (dk_at dksX3_value_3 8 rfl rfl)
theorem dX3_value_82 : decode cX3_value 82 = .ok (.aload_n 0, 1) := dk_42 (dk_at dksX3_value_3 11 rfl rfl)
theorem dX3_value_83 : decode cX3_value 83 = .ok (.dup, 1) := dk_89 (dk_at dksX3_value_3 12 rfl rfl)
theorem dX3_value_84 : decode cX3_value 84 = .ok (.getfield 164, 3) := dk_180 0 164 (dk_at dksX3_value_3 13 rfl rfl)
theorem dX3_value_87 : decode cX3_value 87 = .ok (.iload_n 2, 1) := dk_28 (dk_at dksX3_value_3 16 rfl rfl)
theorem dX3_value_88 : decode cX3_value 88 = .ok (.invokestatic 219, 3) := dk_184 0 219 (dk_at dksX3_value_3 17 rfl rfl)
theorem dX3_value_91 : decode cX3_value 91 = .ok (.invokevirtual 175, 3) := dk_182 0 175 (dk_at dksX3_value_3 20 rfl rfl)
theorem dX3_value_94 : decode cX3_value 94 = .ok (.iadd, 1) := dk_96 (dk_at dksX3_value_3 23 rfl rfl)
theorem dX3_value_95 : decode cX3_value 95 = .ok (.putfield 164, 3) := dk_181 0 164 (dk_at dksX3_value_4 0 rfl rfl)
theorem dX3_value_98 : decode cX3_value 98 = .ok (.aload_n 0, 1) := dk_42 (dk_at dksX3_value_4 3 rfl rfl)
theorem dX3_value_99 : decode cX3_value 99 = .ok (.iconst 1, 1) := dk_4 (dk_at dksX3_value_4 4 rfl rfl)
theorem dX3_value_100 : decode cX3_value 100 = .ok (.iload_n 2, 1) := dk_28 (dk_at dksX3_value_4 5 rfl rfl)
theorem dX3_value_101 : decode cX3_value 101 = .ok (.invokevirtual 216, 3) := dk_182 0 216 (dk_at dksX3_value_4 6 rfl rfl)
theorem dX3_value_104 : decode cX3_value 104 = .ok (.return_, 1) := dk_177 (dk_at dksX3_value_4 9 rfl rfl)
abbrev cX3_isCounted : ByteArray := prog_17_method_21_code
def yX3_isCounted : MethodName := ⟨RX3, "isCounted", "(I)V"⟩
def dkwX3_isCounted_1 : List UInt8 := [181, 0, 197, 177]
abbrev dktX3_isCounted_1 : List UInt8 := dkwX3_isCounted_1 ++ []
def dkwX3_isCounted_0 : List UInt8 := [42, 180, 0, 197, 16, 60, 160, 0, 9, 42, 6, 27, 182, 0, 200, 42, 89, 180, 0, 197, 4, 96]
abbrev dktX3_isCounted_0 : List UInt8 := dkwX3_isCounted_0 ++ dktX3_isCounted_1
theorem dksX3_isCounted_0 : cX3_isCounted.data.toList.drop 0 = dktX3_isCounted_0 := by decide +kernel
theorem dksX3_isCounted_1 : cX3_isCounted.data.toList.drop 22 = dktX3_isCounted_1 := dk_seg dksX3_isCounted_0 22 rfl rfl
theorem dX3_isCounted_0 : decode cX3_isCounted 0 = .ok (.aload_n 0, 1) := dk_42 (dk_at dksX3_isCounted_0 0 rfl rfl)
theorem dX3_isCounted_1 : decode cX3_isCounted 1 = .ok (.getfield 197, 3) := dk_180 0 197 (dk_at dksX3_isCounted_0 1 rfl rfl)
theorem dX3_isCounted_4 : decode cX3_isCounted 4 = .ok (.bipush 60, 2) := dk_16 60 (dk_at dksX3_isCounted_0 4 rfl rfl)
theorem dX3_isCounted_6 : decode cX3_isCounted 6 = .ok (.if_icmp .ne 9, 3) := dk_160 0 9 (dk_at dksX3_isCounted_0 6 rfl rfl)
theorem dX3_isCounted_9 : decode cX3_isCounted 9 = .ok (.aload_n 0, 1) := dk_42 (dk_at dksX3_isCounted_0 9 rfl rfl)
theorem dX3_isCounted_10 : decode cX3_isCounted 10 = .ok (.iconst 3, 1) := dk_6 (dk_at dksX3_isCounted_0 10 rfl rfl)
theorem dX3_isCounted_11 : decode cX3_isCounted 11 = .ok (.iload_n 1, 1) := dk_27 (dk_at dksX3_isCounted_0 11 rfl rfl)
theorem dX3_isCounted_12 : decode cX3_isCounted 12 = .ok (.invokevirtual 200, 3) := dk_182 0 200 (dk_at dksX3_isCounted_0 12 rfl rfl)
theorem dX3_isCounted_15 : decode cX3_isCounted 15 = .ok (.aload_n 0, 1) := dk_42 (dk_at dksX3_isCounted_0 15 rfl rfl)
theorem dX3_isCounted_16 : decode cX3_isCounted 16 = .ok (.dup, 1) := dk_89 (dk_at dksX3_isCounted_0 16 rfl rfl)
theorem dX3_isCounted_17 : decode cX3_isCounted 17 = .ok (.getfield 197, 3) := dk_180 0 197 (dk_at dksX3_isCounted_0 17 rfl rfl)
theorem dX3_isCounted_20 : decode cX3_isCounted 20 = .ok (.iconst 1, 1) := dk_4 (dk_at dksX3_isCounted_0 20 rfl rfl)
theorem dX3_isCounted_21 : decode cX3_isCounted 21 = .ok (.iadd, 1) := dk_96 (dk_at dksX3_isCounted_0 21 rfl rfl)
theorem dX3_isCounted_22 : decode cX3_isCounted 22 = .ok (.putfield 197, 3) := dk_181 0 197 (dk_at dksX3_isCounted_1 0 rfl rfl)
theorem dX3_isCounted_25 : decode cX3_isCounted 25 = .ok (.return_, 1) := dk_177 (dk_at dksX3_isCounted_1 3 rfl rfl)
abbrev cX3_entry : ByteArray := prog_17_method_20_code
def yX3_entry : MethodName := ⟨RX3, "entry", "(II)V"⟩
def dkwX3_entry_2 : List UInt8 := [180, 0, 194, 4, 96, 181, 0, 194, 177]
abbrev dktX3_entry_2 : List UInt8 := dkwX3_entry_2 ++ []
def dkwX3_entry_1 : List UInt8 := [27, 79, 42, 180, 0, 72, 17, 1, 44, 42, 180, 0, 191, 104, 42, 180, 0, 194, 96, 28, 79, 42, 89]
abbrev dktX3_entry_1 : List UInt8 := dkwX3_entry_1 ++ dktX3_entry_2
def dkwX3_entry_0 : List UInt8 := [42, 180, 0, 161, 154, 0, 51, 42, 180, 0, 69, 17, 1, 44, 42, 180, 0, 191, 104, 42, 180, 0, 194, 96]
abbrev dktX3_entry_0 : List UInt8 := dkwX3_entry_0 ++ dktX3_entry_1
theorem dksX3_entry_0 : cX3_entry.data.toList.drop 0 = dktX3_entry_0 := by decide +kernel
theorem dksX3_entry_1 : cX3_entry.data.toList.drop 24 = dktX3_entry_1 := dk_seg dksX3_entry_0 24 rfl rfl
theorem dksX3_entry_2 : cX3_entry.data.toList.drop 47 = dktX3_entry_2 := dk_seg dksX3_entry_1 23 rfl rfl
theorem dX3_entry_0 : decode cX3_entry 0 = .ok (.aload_n 0, 1) := dk_42 (dk_at dksX3_entry_0 0 rfl rfl)
theorem dX3_entry_1 : decode cX3_entry 1 = .ok (.getfield 161, 3) := dk_180 0 161 (dk_at dksX3_entry_0 1 rfl rfl)
theorem dX3_entry_4 : decode cX3_entry 4 = .ok (.ifCond .ne 51, 3) := dk_154 0 51 (dk_at dksX3_entry_0 4 rfl rfl)
theorem dX3_entry_7 : decode cX3_entry 7 = .ok (.aload_n 0, 1) := dk_42 (dk_at dksX3_entry_0 7 rfl rfl)
theorem dX3_entry_8 : decode cX3_entry 8 = .ok (.getfield 69, 3) := dk_180 0 69 (dk_at dksX3_entry_0 8 rfl rfl)
theorem dX3_entry_11 : decode cX3_entry 11 = .ok (.sipush 300, 3) := dk_17 1 44 (dk_at dksX3_entry_0 11 rfl rfl)
theorem dX3_entry_14 : decode cX3_entry 14 = .ok (.aload_n 0, 1) := dk_42 (dk_at dksX3_entry_0 14 rfl rfl)
theorem dX3_entry_15 : decode cX3_entry 15 = .ok (.getfield 191, 3) := dk_180 0 191 (dk_at dksX3_entry_0 15 rfl rfl)
theorem dX3_entry_18 : decode cX3_entry 18 = .ok (.imul, 1) := dk_104 (dk_at dksX3_entry_0 18 rfl rfl)
theorem dX3_entry_19 : decode cX3_entry 19 = .ok (.aload_n 0, 1) := dk_42 (dk_at dksX3_entry_0 19 rfl rfl)
theorem dX3_entry_20 : decode cX3_entry 20 = .ok (.getfield 194, 3) := dk_180 0 194 (dk_at dksX3_entry_0 20 rfl rfl)
theorem dX3_entry_23 : decode cX3_entry 23 = .ok (.iadd, 1) := dk_96 (dk_at dksX3_entry_0 23 rfl rfl)
theorem dX3_entry_24 : decode cX3_entry 24 = .ok (.iload_n 1, 1) := dk_27 (dk_at dksX3_entry_1 0 rfl rfl)
theorem dX3_entry_25 : decode cX3_entry 25 = .ok (.iastore, 1) := dk_79 (dk_at dksX3_entry_1 1 rfl rfl)
theorem dX3_entry_26 : decode cX3_entry 26 = .ok (.aload_n 0, 1) := dk_42 (dk_at dksX3_entry_1 2 rfl rfl)
theorem dX3_entry_27 : decode cX3_entry 27 = .ok (.getfield 72, 3) := dk_180 0 72 (dk_at dksX3_entry_1 3 rfl rfl)
theorem dX3_entry_30 : decode cX3_entry 30 = .ok (.sipush 300, 3) := dk_17 1 44 (dk_at dksX3_entry_1 6 rfl rfl)
theorem dX3_entry_33 : decode cX3_entry 33 = .ok (.aload_n 0, 1) := dk_42 (dk_at dksX3_entry_1 9 rfl rfl)
theorem dX3_entry_34 : decode cX3_entry 34 = .ok (.getfield 191, 3) := dk_180 0 191 (dk_at dksX3_entry_1 10 rfl rfl)
theorem dX3_entry_37 : decode cX3_entry 37 = .ok (.imul, 1) := dk_104 (dk_at dksX3_entry_1 13 rfl rfl)
theorem dX3_entry_38 : decode cX3_entry 38 = .ok (.aload_n 0, 1) := dk_42 (dk_at dksX3_entry_1 14 rfl rfl)
theorem dX3_entry_39 : decode cX3_entry 39 = .ok (.getfield 194, 3) := dk_180 0 194 (dk_at dksX3_entry_1 15 rfl rfl)
theorem dX3_entry_42 : decode cX3_entry 42 = .ok (.iadd, 1) := dk_96 (dk_at dksX3_entry_1 18 rfl rfl)
theorem dX3_entry_43 : decode cX3_entry 43 = .ok (.iload_n 2, 1) := dk_28 (dk_at dksX3_entry_1 19 rfl rfl)
theorem dX3_entry_44 : decode cX3_entry 44 = .ok (.iastore, 1) := dk_79 (dk_at dksX3_entry_1 20 rfl rfl)
theorem dX3_entry_45 : decode cX3_entry 45 = .ok (.aload_n 0, 1) := dk_42 (dk_at dksX3_entry_1 21 rfl rfl)
theorem dX3_entry_46 : decode cX3_entry 46 = .ok (.dup, 1) := dk_89 (dk_at dksX3_entry_1 22 rfl rfl)
theorem dX3_entry_47 : decode cX3_entry 47 = .ok (.getfield 194, 3) := dk_180 0 194 (dk_at dksX3_entry_2 0 rfl rfl)
theorem dX3_entry_50 : decode cX3_entry 50 = .ok (.iconst 1, 1) := dk_4 (dk_at dksX3_entry_2 3 rfl rfl)
theorem dX3_entry_51 : decode cX3_entry 51 = .ok (.iadd, 1) := dk_96 (dk_at dksX3_entry_2 4 rfl rfl)
theorem dX3_entry_52 : decode cX3_entry 52 = .ok (.putfield 194, 3) := dk_181 0 194 (dk_at dksX3_entry_2 5 rfl rfl)
theorem dX3_entry_55 : decode cX3_entry 55 = .ok (.return_, 1) := dk_177 (dk_at dksX3_entry_2 8 rfl rfl)
abbrev cX3_wordOf : ByteArray := prog_17_method_13_code
def yX3_wordOf : MethodName := ⟨RX3, "wordOf", "(I)Ljava/lang/String;"⟩
def dkwX3_wordOf_3 : List UInt8 := [18, 155, 176, 18, 157, 176, 18, 159, 176]
abbrev dktX3_wordOf_3 : List UInt8 := dkwX3_wordOf_3 ++ []
def dkwX3_wordOf_2 : List UInt8 := [18, 142, 176, 18, 144, 176, 18, 146, 176, 18, 147, 176, 18, 148, 176, 18, 149, 176, 18, 151, 176, 18, 153, 176]
abbrev dktX3_wordOf_2 : List UInt8 := dkwX3_wordOf_2 ++ dktX3_wordOf_3
def dkwX3_wordOf_1 : List UInt8 := [170, 0, 0, 0, 0, 0, 85, 0, 0, 0, 0, 0, 0, 0, 9, 0, 0, 0, 55, 0, 0, 0, 58, 0, 0, 0, 61, 0, 0, 0, 64, 0, 0, 0, 67, 0, 0, 0, 70, 0, 0, 0, 73, 0, 0, 0, 76, 0, 0, 0, 79, 0, 0, 0, 82]
abbrev dktX3_wordOf_1 : List UInt8 := dkwX3_wordOf_1 ++ dktX3_wordOf_2
def dkwX3_wordOf_0 : List UInt8 := [26]
abbrev dktX3_wordOf_0 : List UInt8 := dkwX3_wordOf_0 ++ dktX3_wordOf_1
theorem dksX3_wordOf_0 : cX3_wordOf.data.toList.drop 0 = dktX3_wordOf_0 := by decide +kernel
theorem dksX3_wordOf_1 : cX3_wordOf.data.toList.drop 1 = dktX3_wordOf_1 := dk_seg dksX3_wordOf_0 1 rfl rfl
theorem dksX3_wordOf_2 : cX3_wordOf.data.toList.drop 56 = dktX3_wordOf_2 := dk_seg dksX3_wordOf_1 55 rfl rfl
theorem dksX3_wordOf_3 : cX3_wordOf.data.toList.drop 80 = dktX3_wordOf_3 := dk_seg dksX3_wordOf_2 24 rfl rfl
theorem dX3_wordOf_0 : decode cX3_wordOf 0 = .ok (.iload_n 0, 1) := dk_26 (dk_at dksX3_wordOf_0 0 rfl rfl)
theorem dX3_wordOf_1 : decode cX3_wordOf 1 = .ok (.tableswitch 85 0 9 #[55, 58, 61, 64, 67, 70, 73, 76, 79, 82], 55) := by decide +kernel
theorem dX3_wordOf_56 : decode cX3_wordOf 56 = .ok (.ldc 142, 2) := dk_18 142 (dk_at dksX3_wordOf_2 0 rfl rfl)
theorem dX3_wordOf_58 : decode cX3_wordOf 58 = .ok (.areturn, 1) := dk_176 (dk_at dksX3_wordOf_2 2 rfl rfl)
theorem dX3_wordOf_59 : decode cX3_wordOf 59 = .ok (.ldc 144, 2) := dk_18 144 (dk_at dksX3_wordOf_2 3 rfl rfl)
theorem dX3_wordOf_61 : decode cX3_wordOf 61 = .ok (.areturn, 1) := dk_176 (dk_at dksX3_wordOf_2 5 rfl rfl)
theorem dX3_wordOf_62 : decode cX3_wordOf 62 = .ok (.ldc 146, 2) := dk_18 146 (dk_at dksX3_wordOf_2 6 rfl rfl)
theorem dX3_wordOf_64 : decode cX3_wordOf 64 = .ok (.areturn, 1) := dk_176 (dk_at dksX3_wordOf_2 8 rfl rfl)
theorem dX3_wordOf_65 : decode cX3_wordOf 65 = .ok (.ldc 147, 2) := dk_18 147 (dk_at dksX3_wordOf_2 9 rfl rfl)
theorem dX3_wordOf_67 : decode cX3_wordOf 67 = .ok (.areturn, 1) := dk_176 (dk_at dksX3_wordOf_2 11 rfl rfl)
theorem dX3_wordOf_68 : decode cX3_wordOf 68 = .ok (.ldc 148, 2) := dk_18 148 (dk_at dksX3_wordOf_2 12 rfl rfl)
theorem dX3_wordOf_70 : decode cX3_wordOf 70 = .ok (.areturn, 1) := dk_176 (dk_at dksX3_wordOf_2 14 rfl rfl)
theorem dX3_wordOf_71 : decode cX3_wordOf 71 = .ok (.ldc 149, 2) := dk_18 149 (dk_at dksX3_wordOf_2 15 rfl rfl)
theorem dX3_wordOf_73 : decode cX3_wordOf 73 = .ok (.areturn, 1) := dk_176 (dk_at dksX3_wordOf_2 17 rfl rfl)
theorem dX3_wordOf_74 : decode cX3_wordOf 74 = .ok (.ldc 151, 2) := dk_18 151 (dk_at dksX3_wordOf_2 18 rfl rfl)
theorem dX3_wordOf_76 : decode cX3_wordOf 76 = .ok (.areturn, 1) := dk_176 (dk_at dksX3_wordOf_2 20 rfl rfl)
theorem dX3_wordOf_77 : decode cX3_wordOf 77 = .ok (.ldc 153, 2) := dk_18 153 (dk_at dksX3_wordOf_2 21 rfl rfl)
theorem dX3_wordOf_79 : decode cX3_wordOf 79 = .ok (.areturn, 1) := dk_176 (dk_at dksX3_wordOf_2 23 rfl rfl)
theorem dX3_wordOf_80 : decode cX3_wordOf 80 = .ok (.ldc 155, 2) := dk_18 155 (dk_at dksX3_wordOf_3 0 rfl rfl)
theorem dX3_wordOf_82 : decode cX3_wordOf 82 = .ok (.areturn, 1) := dk_176 (dk_at dksX3_wordOf_3 2 rfl rfl)
theorem dX3_wordOf_83 : decode cX3_wordOf 83 = .ok (.ldc 157, 2) := dk_18 157 (dk_at dksX3_wordOf_3 3 rfl rfl)
theorem dX3_wordOf_85 : decode cX3_wordOf 85 = .ok (.areturn, 1) := dk_176 (dk_at dksX3_wordOf_3 5 rfl rfl)
theorem dX3_wordOf_86 : decode cX3_wordOf 86 = .ok (.ldc 159, 2) := dk_18 159 (dk_at dksX3_wordOf_3 6 rfl rfl)
theorem dX3_wordOf_88 : decode cX3_wordOf 88 = .ok (.areturn, 1) := dk_176 (dk_at dksX3_wordOf_3 8 rfl rfl)
abbrev cX3_takes : ByteArray := prog_17_method_19_code
def yX3_takes : MethodName := ⟨RX3, "takes", "(Ljava/lang/String;)Z"⟩
def dkwX3_takes_1 : List UInt8 := [167, 0, 4, 3, 96, 181, 0, 164, 28, 172]
abbrev dktX3_takes_1 : List UInt8 := dkwX3_takes_1 ++ []
def dkwX3_takes_0 : List UInt8 := [42, 182, 0, 184, 42, 43, 182, 0, 187, 61, 42, 89, 180, 0, 164, 28, 153, 0, 10, 43, 182, 0, 175]
abbrev dktX3_takes_0 : List UInt8 := dkwX3_takes_0 ++ dktX3_takes_1
theorem dksX3_takes_0 : cX3_takes.data.toList.drop 0 = dktX3_takes_0 := by decide +kernel
theorem dksX3_takes_1 : cX3_takes.data.toList.drop 23 = dktX3_takes_1 := dk_seg dksX3_takes_0 23 rfl rfl
theorem dX3_takes_0 : decode cX3_takes 0 = .ok (.aload_n 0, 1) := dk_42 (dk_at dksX3_takes_0 0 rfl rfl)
theorem dX3_takes_1 : decode cX3_takes 1 = .ok (.invokevirtual 184, 3) := dk_182 0 184 (dk_at dksX3_takes_0 1 rfl rfl)
theorem dX3_takes_4 : decode cX3_takes 4 = .ok (.aload_n 0, 1) := dk_42 (dk_at dksX3_takes_0 4 rfl rfl)
theorem dX3_takes_5 : decode cX3_takes 5 = .ok (.aload_n 1, 1) := dk_43 (dk_at dksX3_takes_0 5 rfl rfl)
theorem dX3_takes_6 : decode cX3_takes 6 = .ok (.invokevirtual 187, 3) := dk_182 0 187 (dk_at dksX3_takes_0 6 rfl rfl)
theorem dX3_takes_9 : decode cX3_takes 9 = .ok (.istore_n 2, 1) := dk_61 (dk_at dksX3_takes_0 9 rfl rfl)
theorem dX3_takes_10 : decode cX3_takes 10 = .ok (.aload_n 0, 1) := dk_42 (dk_at dksX3_takes_0 10 rfl rfl)
theorem dX3_takes_11 : decode cX3_takes 11 = .ok (.dup, 1) := dk_89 (dk_at dksX3_takes_0 11 rfl rfl)
theorem dX3_takes_12 : decode cX3_takes 12 = .ok (.getfield 164, 3) := dk_180 0 164 (dk_at dksX3_takes_0 12 rfl rfl)
theorem dX3_takes_15 : decode cX3_takes 15 = .ok (.iload_n 2, 1) := dk_28 (dk_at dksX3_takes_0 15 rfl rfl)
theorem dX3_takes_16 : decode cX3_takes 16 = .ok (.ifCond .eq 10, 3) := dk_153 0 10 (dk_at dksX3_takes_0 16 rfl rfl)
theorem dX3_takes_19 : decode cX3_takes 19 = .ok (.aload_n 1, 1) := dk_43 (dk_at dksX3_takes_0 19 rfl rfl)
theorem dX3_takes_20 : decode cX3_takes 20 = .ok (.invokevirtual 175, 3) := dk_182 0 175 (dk_at dksX3_takes_0 20 rfl rfl)
theorem dX3_takes_23 : decode cX3_takes 23 = .ok (.goto 4, 3) := dk_167 0 4 (dk_at dksX3_takes_1 0 rfl rfl)
theorem dX3_takes_26 : decode cX3_takes 26 = .ok (.iconst 0, 1) := dk_3 (dk_at dksX3_takes_1 3 rfl rfl)
theorem dX3_takes_27 : decode cX3_takes 27 = .ok (.iadd, 1) := dk_96 (dk_at dksX3_takes_1 4 rfl rfl)
theorem dX3_takes_28 : decode cX3_takes 28 = .ok (.putfield 164, 3) := dk_181 0 164 (dk_at dksX3_takes_1 5 rfl rfl)
theorem dX3_takes_31 : decode cX3_takes 31 = .ok (.iload_n 2, 1) := dk_28 (dk_at dksX3_takes_1 8 rfl rfl)
theorem dX3_takes_32 : decode cX3_takes 32 = .ok (.ireturn, 1) := dk_172 (dk_at dksX3_takes_1 9 rfl rfl)
abbrev cX3_test : ByteArray := prog_17_method_31_code
def yX3_test : MethodName := ⟨RX3, "test", "()V"⟩
def dkwX3_test_8 : List UInt8 := [4, 100, 181, 0, 235, 167, 0, 5, 3, 61, 167, 255, 67, 177]
abbrev dktX3_test_8 : List UInt8 := dkwX3_test_8 ++ []
def dkwX3_test_7 : List UInt8 := [89, 180, 0, 164, 4, 96, 181, 0, 164, 42, 89, 180, 0, 232, 4, 100, 181, 0, 232, 42, 89, 180, 0, 235]
abbrev dktX3_test_7 : List UInt8 := dkwX3_test_7 ++ dktX3_test_8
def dkwX3_test_6 : List UInt8 := [16, 12, 160, 0, 54, 42, 182, 0, 167, 16, 93, 159, 0, 12, 42, 3, 42, 180, 0, 164, 182, 0, 200, 42]
abbrev dktX3_test_6 : List UInt8 := dkwX3_test_6 ++ dktX3_test_7
def dkwX3_test_5 : List UInt8 := [167, 0, 4, 5, 96, 181, 0, 164, 4, 60, 167, 0, 71, 42, 16, 11, 182, 0, 252, 42, 182, 0, 238]
abbrev dktX3_test_5 : List UInt8 := dkwX3_test_5 ++ dktX3_test_6
def dkwX3_test_4 : List UInt8 := [29, 153, 0, 8, 16, 10, 167, 0, 5, 16, 11, 182, 0, 243, 42, 89, 180, 0, 164, 29, 153, 0, 7, 6]
abbrev dktX3_test_4 : List UInt8 := dkwX3_test_4 ++ dktX3_test_5
def dkwX3_test_3 : List UInt8 := [182, 0, 252, 29, 154, 0, 8, 21, 4, 153, 0, 52, 21, 4, 153, 0, 9, 42, 16, 11, 182, 0, 252, 42]
abbrev dktX3_test_3 : List UInt8 := dkwX3_test_3 ++ dktX3_test_4
def dkwX3_test_2 : List UInt8 := [182, 0, 184, 42, 18, 255, 182, 0, 187, 62, 42, 19, 1, 1, 182, 0, 187, 54, 4, 42, 16, 10]
abbrev dktX3_test_2 : List UInt8 := dkwX3_test_2 ++ dktX3_test_3
def dkwX3_test_1 : List UInt8 := [42, 182, 0, 249, 154, 0, 7, 4, 167, 0, 4, 3, 60, 167, 255, 228, 42, 16, 9, 182, 0, 252, 42]
abbrev dktX3_test_1 : List UInt8 := dkwX3_test_1 ++ dktX3_test_2
def dkwX3_test_0 : List UInt8 := [42, 3, 181, 0, 232, 4, 60, 4, 61, 28, 153, 0, 191, 42, 180, 0, 161, 154, 0, 184, 27, 153, 0, 19]
abbrev dktX3_test_0 : List UInt8 := dkwX3_test_0 ++ dktX3_test_1
theorem dksX3_test_0 : cX3_test.data.toList.drop 0 = dktX3_test_0 := by decide +kernel
theorem dksX3_test_1 : cX3_test.data.toList.drop 24 = dktX3_test_1 := dk_seg dksX3_test_0 24 rfl rfl
theorem dksX3_test_2 : cX3_test.data.toList.drop 47 = dktX3_test_2 := dk_seg dksX3_test_1 23 rfl rfl
theorem dksX3_test_3 : cX3_test.data.toList.drop 69 = dktX3_test_3 := dk_seg dksX3_test_2 22 rfl rfl
theorem dksX3_test_4 : cX3_test.data.toList.drop 93 = dktX3_test_4 := dk_seg dksX3_test_3 24 rfl rfl
theorem dksX3_test_5 : cX3_test.data.toList.drop 117 = dktX3_test_5 := dk_seg dksX3_test_4 24 rfl rfl
theorem dksX3_test_6 : cX3_test.data.toList.drop 140 = dktX3_test_6 := dk_seg dksX3_test_5 23 rfl rfl
theorem dksX3_test_7 : cX3_test.data.toList.drop 164 = dktX3_test_7 := dk_seg dksX3_test_6 24 rfl rfl
theorem dksX3_test_8 : cX3_test.data.toList.drop 188 = dktX3_test_8 := dk_seg dksX3_test_7 24 rfl rfl
theorem dX3_test_0 : decode cX3_test 0 = .ok (.aload_n 0, 1) := dk_42 (dk_at dksX3_test_0 0 rfl rfl)
theorem dX3_test_1 : decode cX3_test 1 = .ok (.iconst 0, 1) := dk_3 (dk_at dksX3_test_0 1 rfl rfl)
theorem dX3_test_2 : decode cX3_test 2 = .ok (.putfield 232, 3) := dk_181 0 232 (dk_at dksX3_test_0 2 rfl rfl)
theorem dX3_test_5 : decode cX3_test 5 = .ok (.iconst 1, 1) := dk_4 (dk_at dksX3_test_0 5 rfl rfl)
theorem dX3_test_6 : decode cX3_test 6 = .ok (.istore_n 1, 1) := dk_60 (dk_at dksX3_test_0 6 rfl rfl)
theorem dX3_test_7 : decode cX3_test 7 = .ok (.iconst 1, 1) := dk_4 (dk_at dksX3_test_0 7 rfl rfl)
theorem dX3_test_8 : decode cX3_test 8 = .ok (.istore_n 2, 1) := dk_61 (dk_at dksX3_test_0 8 rfl rfl)
theorem dX3_test_9 : decode cX3_test 9 = .ok (.iload_n 2, 1) := dk_28 (dk_at dksX3_test_0 9 rfl rfl)
theorem dX3_test_10 : decode cX3_test 10 = .ok (.ifCond .eq 191, 3) := dk_153 0 191 (dk_at dksX3_test_0 10 rfl rfl)
theorem dX3_test_13 : decode cX3_test 13 = .ok (.aload_n 0, 1) := dk_42 (dk_at dksX3_test_0 13 rfl rfl)
theorem dX3_test_14 : decode cX3_test 14 = .ok (.getfield 161, 3) := dk_180 0 161 (dk_at dksX3_test_0 14 rfl rfl)
theorem dX3_test_17 : decode cX3_test 17 = .ok (.ifCond .ne 184, 3) := dk_154 0 184 (dk_at dksX3_test_0 17 rfl rfl)
theorem dX3_test_20 : decode cX3_test 20 = .ok (.iload_n 1, 1) := dk_27 (dk_at dksX3_test_0 20 rfl rfl)
theorem dX3_test_21 : decode cX3_test 21 = .ok (.ifCond .eq 19, 3) := dk_153 0 19 (dk_at dksX3_test_0 21 rfl rfl)
theorem dX3_test_24 : decode cX3_test 24 = .ok (.aload_n 0, 1) := dk_42 (dk_at dksX3_test_1 0 rfl rfl)
theorem dX3_test_25 : decode cX3_test 25 = .ok (.invokevirtual 249, 3) := dk_182 0 249 (dk_at dksX3_test_1 1 rfl rfl)
theorem dX3_test_28 : decode cX3_test 28 = .ok (.ifCond .ne 7, 3) := dk_154 0 7 (dk_at dksX3_test_1 4 rfl rfl)
theorem dX3_test_31 : decode cX3_test 31 = .ok (.iconst 1, 1) := dk_4 (dk_at dksX3_test_1 7 rfl rfl)
theorem dX3_test_32 : decode cX3_test 32 = .ok (.goto 4, 3) := dk_167 0 4 (dk_at dksX3_test_1 8 rfl rfl)
theorem dX3_test_35 : decode cX3_test 35 = .ok (.iconst 0, 1) := dk_3 (dk_at dksX3_test_1 11 rfl rfl)
theorem dX3_test_36 : decode cX3_test 36 = .ok (.istore_n 1, 1) := dk_60 (dk_at dksX3_test_1 12 rfl rfl)
theorem dX3_test_37 : decode cX3_test 37 = .ok (.goto (-28), 3) := dk_167 255 228 (dk_at dksX3_test_1 13 rfl rfl)
theorem dX3_test_40 : decode cX3_test 40 = .ok (.aload_n 0, 1) := dk_42 (dk_at dksX3_test_1 16 rfl rfl)
theorem dX3_test_41 : decode cX3_test 41 = .ok (.bipush 9, 2) := dk_16 9 (dk_at dksX3_test_1 17 rfl rfl)
theorem dX3_test_43 : decode cX3_test 43 = .ok (.invokevirtual 252, 3) := dk_182 0 252 (dk_at dksX3_test_1 19 rfl rfl)
theorem dX3_test_46 : decode cX3_test 46 = .ok (.aload_n 0, 1) := dk_42 (dk_at dksX3_test_1 22 rfl rfl)
theorem dX3_test_47 : decode cX3_test 47 = .ok (.invokevirtual 184, 3) := dk_182 0 184 (dk_at dksX3_test_2 0 rfl rfl)
theorem dX3_test_50 : decode cX3_test 50 = .ok (.aload_n 0, 1) := dk_42 (dk_at dksX3_test_2 3 rfl rfl)
theorem dX3_test_51 : decode cX3_test 51 = .ok (.ldc 255, 2) := dk_18 255 (dk_at dksX3_test_2 4 rfl rfl)
theorem dX3_test_53 : decode cX3_test 53 = .ok (.invokevirtual 187, 3) := dk_182 0 187 (dk_at dksX3_test_2 6 rfl rfl)
theorem dX3_test_56 : decode cX3_test 56 = .ok (.istore_n 3, 1) := dk_62 (dk_at dksX3_test_2 9 rfl rfl)
theorem dX3_test_57 : decode cX3_test 57 = .ok (.aload_n 0, 1) := dk_42 (dk_at dksX3_test_2 10 rfl rfl)
theorem dX3_test_58 : decode cX3_test 58 = .ok (.ldc_w 257, 3) := dk_19 1 1 (dk_at dksX3_test_2 11 rfl rfl)
theorem dX3_test_61 : decode cX3_test 61 = .ok (.invokevirtual 187, 3) := dk_182 0 187 (dk_at dksX3_test_2 14 rfl rfl)
theorem dX3_test_64 : decode cX3_test 64 = .ok (.istore 4, 2) := dk_54 4 (dk_at dksX3_test_2 17 rfl rfl)
theorem dX3_test_66 : decode cX3_test 66 = .ok (.aload_n 0, 1) := dk_42 (dk_at dksX3_test_2 19 rfl rfl)
theorem dX3_test_67 : decode cX3_test 67 = .ok (.bipush 10, 2) := dk_16 10 (dk_at dksX3_test_2 20 rfl rfl)
theorem dX3_test_69 : decode cX3_test 69 = .ok (.invokevirtual 252, 3) := dk_182 0 252 (dk_at dksX3_test_3 0 rfl rfl)
theorem dX3_test_72 : decode cX3_test 72 = .ok (.iload_n 3, 1) := dk_29 (dk_at dksX3_test_3 3 rfl rfl)
theorem dX3_test_73 : decode cX3_test 73 = .ok (.ifCond .ne 8, 3) := dk_154 0 8 (dk_at dksX3_test_3 4 rfl rfl)
theorem dX3_test_76 : decode cX3_test 76 = .ok (.iload 4, 2) := dk_21 4 (dk_at dksX3_test_3 7 rfl rfl)
theorem dX3_test_78 : decode cX3_test 78 = .ok (.ifCond .eq 52, 3) := dk_153 0 52 (dk_at dksX3_test_3 9 rfl rfl)
theorem dX3_test_81 : decode cX3_test 81 = .ok (.iload 4, 2) := dk_21 4 (dk_at dksX3_test_3 12 rfl rfl)
theorem dX3_test_83 : decode cX3_test 83 = .ok (.ifCond .eq 9, 3) := dk_153 0 9 (dk_at dksX3_test_3 14 rfl rfl)
theorem dX3_test_86 : decode cX3_test 86 = .ok (.aload_n 0, 1) := dk_42 (dk_at dksX3_test_3 17 rfl rfl)
theorem dX3_test_87 : decode cX3_test 87 = .ok (.bipush 11, 2) := dk_16 11 (dk_at dksX3_test_3 18 rfl rfl)
theorem dX3_test_89 : decode cX3_test 89 = .ok (.invokevirtual 252, 3) := dk_182 0 252 (dk_at dksX3_test_3 20 rfl rfl)
theorem dX3_test_92 : decode cX3_test 92 = .ok (.aload_n 0, 1) := dk_42 (dk_at dksX3_test_3 23 rfl rfl)
theorem dX3_test_93 : decode cX3_test 93 = .ok (.iload_n 3, 1) := dk_29 (dk_at dksX3_test_4 0 rfl rfl)
theorem dX3_test_94 : decode cX3_test 94 = .ok (.ifCond .eq 8, 3) := dk_153 0 8 (dk_at dksX3_test_4 1 rfl rfl)
theorem dX3_test_97 : decode cX3_test 97 = .ok (.bipush 10, 2) := dk_16 10 (dk_at dksX3_test_4 4 rfl rfl)
theorem dX3_test_99 : decode cX3_test 99 = .ok (.goto 5, 3) := dk_167 0 5 (dk_at dksX3_test_4 6 rfl rfl)
theorem dX3_test_102 : decode cX3_test 102 = .ok (.bipush 11, 2) := dk_16 11 (dk_at dksX3_test_4 9 rfl rfl)
theorem dX3_test_104 : decode cX3_test 104 = .ok (.invokevirtual 243, 3) := dk_182 0 243 (dk_at dksX3_test_4 11 rfl rfl)
theorem dX3_test_107 : decode cX3_test 107 = .ok (.aload_n 0, 1) := dk_42 (dk_at dksX3_test_4 14 rfl rfl)
theorem dX3_test_108 : decode cX3_test 108 = .ok (.dup, 1) := dk_89 (dk_at dksX3_test_4 15 rfl rfl)
theorem dX3_test_109 : decode cX3_test 109 = .ok (.getfield 164, 3) := dk_180 0 164 (dk_at dksX3_test_4 16 rfl rfl)
theorem dX3_test_112 : decode cX3_test 112 = .ok (.iload_n 3, 1) := dk_29 (dk_at dksX3_test_4 19 rfl rfl)
theorem dX3_test_113 : decode cX3_test 113 = .ok (.ifCond .eq 7, 3) := dk_153 0 7 (dk_at dksX3_test_4 20 rfl rfl)
theorem dX3_test_116 : decode cX3_test 116 = .ok (.iconst 3, 1) := dk_6 (dk_at dksX3_test_4 23 rfl rfl)
theorem dX3_test_117 : decode cX3_test 117 = .ok (.goto 4, 3) := dk_167 0 4 (dk_at dksX3_test_5 0 rfl rfl)
theorem dX3_test_120 : decode cX3_test 120 = .ok (.iconst 2, 1) := dk_5 (dk_at dksX3_test_5 3 rfl rfl)
theorem dX3_test_121 : decode cX3_test 121 = .ok (.iadd, 1) := dk_96 (dk_at dksX3_test_5 4 rfl rfl)
theorem dX3_test_122 : decode cX3_test 122 = .ok (.putfield 164, 3) := dk_181 0 164 (dk_at dksX3_test_5 5 rfl rfl)
theorem dX3_test_125 : decode cX3_test 125 = .ok (.iconst 1, 1) := dk_4 (dk_at dksX3_test_5 8 rfl rfl)
theorem dX3_test_126 : decode cX3_test 126 = .ok (.istore_n 1, 1) := dk_60 (dk_at dksX3_test_5 9 rfl rfl)
theorem dX3_test_127 : decode cX3_test 127 = .ok (.goto 71, 3) := dk_167 0 71 (dk_at dksX3_test_5 10 rfl rfl)
theorem dX3_test_130 : decode cX3_test 130 = .ok (.aload_n 0, 1) := dk_42 (dk_at dksX3_test_5 13 rfl rfl)
theorem dX3_test_131 : decode cX3_test 131 = .ok (.bipush 11, 2) := dk_16 11 (dk_at dksX3_test_5 14 rfl rfl)
theorem dX3_test_133 : decode cX3_test 133 = .ok (.invokevirtual 252, 3) := dk_182 0 252 (dk_at dksX3_test_5 16 rfl rfl)
theorem dX3_test_136 : decode cX3_test 136 = .ok (.aload_n 0, 1) := dk_42 (dk_at dksX3_test_5 19 rfl rfl)
theorem dX3_test_137 : decode cX3_test 137 = .ok (.invokevirtual 238, 3) := dk_182 0 238 (dk_at dksX3_test_5 20 rfl rfl)
theorem dX3_test_140 : decode cX3_test 140 = .ok (.bipush 12, 2) := dk_16 12 (dk_at dksX3_test_6 0 rfl rfl)
theorem dX3_test_142 : decode cX3_test 142 = .ok (.if_icmp .ne 54, 3) := dk_160 0 54 (dk_at dksX3_test_6 2 rfl rfl)
theorem dX3_test_145 : decode cX3_test 145 = .ok (.aload_n 0, 1) := dk_42 (dk_at dksX3_test_6 5 rfl rfl)
theorem dX3_test_146 : decode cX3_test 146 = .ok (.invokevirtual 167, 3) := dk_182 0 167 (dk_at dksX3_test_6 6 rfl rfl)
theorem dX3_test_149 : decode cX3_test 149 = .ok (.bipush 93, 2) := dk_16 93 (dk_at dksX3_test_6 9 rfl rfl)
theorem dX3_test_151 : decode cX3_test 151 = .ok (.if_icmp .eq 12, 3) := dk_159 0 12 (dk_at dksX3_test_6 11 rfl rfl)
theorem dX3_test_154 : decode cX3_test 154 = .ok (.aload_n 0, 1) := dk_42 (dk_at dksX3_test_6 14 rfl rfl)
theorem dX3_test_155 : decode cX3_test 155 = .ok (.iconst 0, 1) := dk_3 (dk_at dksX3_test_6 15 rfl rfl)
theorem dX3_test_156 : decode cX3_test 156 = .ok (.aload_n 0, 1) := dk_42 (dk_at dksX3_test_6 16 rfl rfl)
theorem dX3_test_157 : decode cX3_test 157 = .ok (.getfield 164, 3) := dk_180 0 164 (dk_at dksX3_test_6 17 rfl rfl)
theorem dX3_test_160 : decode cX3_test 160 = .ok (.invokevirtual 200, 3) := dk_182 0 200 (dk_at dksX3_test_6 20 rfl rfl)
theorem dX3_test_163 : decode cX3_test 163 = .ok (.aload_n 0, 1) := dk_42 (dk_at dksX3_test_6 23 rfl rfl)
theorem dX3_test_164 : decode cX3_test 164 = .ok (.dup, 1) := dk_89 (dk_at dksX3_test_7 0 rfl rfl)
theorem dX3_test_165 : decode cX3_test 165 = .ok (.getfield 164, 3) := dk_180 0 164 (dk_at dksX3_test_7 1 rfl rfl)
theorem dX3_test_168 : decode cX3_test 168 = .ok (.iconst 1, 1) := dk_4 (dk_at dksX3_test_7 4 rfl rfl)
theorem dX3_test_169 : decode cX3_test 169 = .ok (.iadd, 1) := dk_96 (dk_at dksX3_test_7 5 rfl rfl)
theorem dX3_test_170 : decode cX3_test 170 = .ok (.putfield 164, 3) := dk_181 0 164 (dk_at dksX3_test_7 6 rfl rfl)
theorem dX3_test_173 : decode cX3_test 173 = .ok (.aload_n 0, 1) := dk_42 (dk_at dksX3_test_7 9 rfl rfl)
theorem dX3_test_174 : decode cX3_test 174 = .ok (.dup, 1) := dk_89 (dk_at dksX3_test_7 10 rfl rfl)
theorem dX3_test_175 : decode cX3_test 175 = .ok (.getfield 232, 3) := dk_180 0 232 (dk_at dksX3_test_7 11 rfl rfl)
theorem dX3_test_178 : decode cX3_test 178 = .ok (.iconst 1, 1) := dk_4 (dk_at dksX3_test_7 14 rfl rfl)
theorem dX3_test_179 : decode cX3_test 179 = .ok (.isub, 1) := dk_100 (dk_at dksX3_test_7 15 rfl rfl)
theorem dX3_test_180 : decode cX3_test 180 = .ok (.putfield 232, 3) := dk_181 0 232 (dk_at dksX3_test_7 16 rfl rfl)
theorem dX3_test_183 : decode cX3_test 183 = .ok (.aload_n 0, 1) := dk_42 (dk_at dksX3_test_7 19 rfl rfl)
theorem dX3_test_184 : decode cX3_test 184 = .ok (.dup, 1) := dk_89 (dk_at dksX3_test_7 20 rfl rfl)
theorem dX3_test_185 : decode cX3_test 185 = .ok (.getfield 235, 3) := dk_180 0 235 (dk_at dksX3_test_7 21 rfl rfl)
theorem dX3_test_188 : decode cX3_test 188 = .ok (.iconst 1, 1) := dk_4 (dk_at dksX3_test_8 0 rfl rfl)
theorem dX3_test_189 : decode cX3_test 189 = .ok (.isub, 1) := dk_100 (dk_at dksX3_test_8 1 rfl rfl)
theorem dX3_test_190 : decode cX3_test 190 = .ok (.putfield 235, 3) := dk_181 0 235 (dk_at dksX3_test_8 2 rfl rfl)
theorem dX3_test_193 : decode cX3_test 193 = .ok (.goto 5, 3) := dk_167 0 5 (dk_at dksX3_test_8 5 rfl rfl)
theorem dX3_test_196 : decode cX3_test 196 = .ok (.iconst 0, 1) := dk_3 (dk_at dksX3_test_8 8 rfl rfl)
theorem dX3_test_197 : decode cX3_test 197 = .ok (.istore_n 2, 1) := dk_61 (dk_at dksX3_test_8 9 rfl rfl)
theorem dX3_test_198 : decode cX3_test 198 = .ok (.goto (-189), 3) := dk_167 255 67 (dk_at dksX3_test_8 10 rfl rfl)
theorem dX3_test_201 : decode cX3_test 201 = .ok (.return_, 1) := dk_177 (dk_at dksX3_test_8 13 rfl rfl)
abbrev cX3_fact : ByteArray := prog_17_method_30_code
def yX3_fact : MethodName := ⟨RX3, "fact", "()Z"⟩
def dkwX3_fact_2 : List UInt8 := [180, 0, 164, 4, 96, 181, 0, 164, 3, 172, 42, 182, 0, 246, 4, 172]
abbrev dktX3_fact_2 : List UInt8 := dkwX3_fact_2 ++ []
def dkwX3_fact_1 : List UInt8 := [6, 96, 181, 0, 164, 3, 172, 42, 182, 0, 167, 16, 91, 160, 0, 21, 42, 16, 12, 182, 0, 243, 42, 89]
abbrev dktX3_fact_1 : List UInt8 := dkwX3_fact_1 ++ dktX3_fact_2
def dkwX3_fact_0 : List UInt8 := [42, 182, 0, 184, 42, 18, 241, 182, 0, 187, 153, 0, 21, 42, 16, 9, 182, 0, 243, 42, 89, 180, 0, 164]
abbrev dktX3_fact_0 : List UInt8 := dkwX3_fact_0 ++ dktX3_fact_1
theorem dksX3_fact_0 : cX3_fact.data.toList.drop 0 = dktX3_fact_0 := by decide +kernel
theorem dksX3_fact_1 : cX3_fact.data.toList.drop 24 = dktX3_fact_1 := dk_seg dksX3_fact_0 24 rfl rfl
theorem dksX3_fact_2 : cX3_fact.data.toList.drop 48 = dktX3_fact_2 := dk_seg dksX3_fact_1 24 rfl rfl
theorem dX3_fact_0 : decode cX3_fact 0 = .ok (.aload_n 0, 1) := dk_42 (dk_at dksX3_fact_0 0 rfl rfl)
theorem dX3_fact_1 : decode cX3_fact 1 = .ok (.invokevirtual 184, 3) := dk_182 0 184 (dk_at dksX3_fact_0 1 rfl rfl)
theorem dX3_fact_4 : decode cX3_fact 4 = .ok (.aload_n 0, 1) := dk_42 (dk_at dksX3_fact_0 4 rfl rfl)
theorem dX3_fact_5 : decode cX3_fact 5 = .ok (.ldc 241, 2) := dk_18 241 (dk_at dksX3_fact_0 5 rfl rfl)
theorem dX3_fact_7 : decode cX3_fact 7 = .ok (.invokevirtual 187, 3) := dk_182 0 187 (dk_at dksX3_fact_0 7 rfl rfl)
theorem dX3_fact_10 : decode cX3_fact 10 = .ok (.ifCond .eq 21, 3) := dk_153 0 21 (dk_at dksX3_fact_0 10 rfl rfl)
theorem dX3_fact_13 : decode cX3_fact 13 = .ok (.aload_n 0, 1) := dk_42 (dk_at dksX3_fact_0 13 rfl rfl)
theorem dX3_fact_14 : decode cX3_fact 14 = .ok (.bipush 9, 2) := dk_16 9 (dk_at dksX3_fact_0 14 rfl rfl)
theorem dX3_fact_16 : decode cX3_fact 16 = .ok (.invokevirtual 243, 3) := dk_182 0 243 (dk_at dksX3_fact_0 16 rfl rfl)
theorem dX3_fact_19 : decode cX3_fact 19 = .ok (.aload_n 0, 1) := dk_42 (dk_at dksX3_fact_0 19 rfl rfl)
theorem dX3_fact_20 : decode cX3_fact 20 = .ok (.dup, 1) := dk_89 (dk_at dksX3_fact_0 20 rfl rfl)
theorem dX3_fact_21 : decode cX3_fact 21 = .ok (.getfield 164, 3) := dk_180 0 164 (dk_at dksX3_fact_0 21 rfl rfl)
theorem dX3_fact_24 : decode cX3_fact 24 = .ok (.iconst 3, 1) := dk_6 (dk_at dksX3_fact_1 0 rfl rfl)
theorem dX3_fact_25 : decode cX3_fact 25 = .ok (.iadd, 1) := dk_96 (dk_at dksX3_fact_1 1 rfl rfl)
theorem dX3_fact_26 : decode cX3_fact 26 = .ok (.putfield 164, 3) := dk_181 0 164 (dk_at dksX3_fact_1 2 rfl rfl)
theorem dX3_fact_29 : decode cX3_fact 29 = .ok (.iconst 0, 1) := dk_3 (dk_at dksX3_fact_1 5 rfl rfl)
theorem dX3_fact_30 : decode cX3_fact 30 = .ok (.ireturn, 1) := dk_172 (dk_at dksX3_fact_1 6 rfl rfl)
theorem dX3_fact_31 : decode cX3_fact 31 = .ok (.aload_n 0, 1) := dk_42 (dk_at dksX3_fact_1 7 rfl rfl)
theorem dX3_fact_32 : decode cX3_fact 32 = .ok (.invokevirtual 167, 3) := dk_182 0 167 (dk_at dksX3_fact_1 8 rfl rfl)
theorem dX3_fact_35 : decode cX3_fact 35 = .ok (.bipush 91, 2) := dk_16 91 (dk_at dksX3_fact_1 11 rfl rfl)
theorem dX3_fact_37 : decode cX3_fact 37 = .ok (.if_icmp .ne 21, 3) := dk_160 0 21 (dk_at dksX3_fact_1 13 rfl rfl)
theorem dX3_fact_40 : decode cX3_fact 40 = .ok (.aload_n 0, 1) := dk_42 (dk_at dksX3_fact_1 16 rfl rfl)
theorem dX3_fact_41 : decode cX3_fact 41 = .ok (.bipush 12, 2) := dk_16 12 (dk_at dksX3_fact_1 17 rfl rfl)
theorem dX3_fact_43 : decode cX3_fact 43 = .ok (.invokevirtual 243, 3) := dk_182 0 243 (dk_at dksX3_fact_1 19 rfl rfl)
theorem dX3_fact_46 : decode cX3_fact 46 = .ok (.aload_n 0, 1) := dk_42 (dk_at dksX3_fact_1 22 rfl rfl)
theorem dX3_fact_47 : decode cX3_fact 47 = .ok (.dup, 1) := dk_89 (dk_at dksX3_fact_1 23 rfl rfl)
theorem dX3_fact_48 : decode cX3_fact 48 = .ok (.getfield 164, 3) := dk_180 0 164 (dk_at dksX3_fact_2 0 rfl rfl)
theorem dX3_fact_51 : decode cX3_fact 51 = .ok (.iconst 1, 1) := dk_4 (dk_at dksX3_fact_2 3 rfl rfl)
theorem dX3_fact_52 : decode cX3_fact 52 = .ok (.iadd, 1) := dk_96 (dk_at dksX3_fact_2 4 rfl rfl)
theorem dX3_fact_53 : decode cX3_fact 53 = .ok (.putfield 164, 3) := dk_181 0 164 (dk_at dksX3_fact_2 5 rfl rfl)
theorem dX3_fact_56 : decode cX3_fact 56 = .ok (.iconst 0, 1) := dk_3 (dk_at dksX3_fact_2 8 rfl rfl)
theorem dX3_fact_57 : decode cX3_fact 57 = .ok (.ireturn, 1) := dk_172 (dk_at dksX3_fact_2 9 rfl rfl)
theorem dX3_fact_58 : decode cX3_fact 58 = .ok (.aload_n 0, 1) := dk_42 (dk_at dksX3_fact_2 10 rfl rfl)
theorem dX3_fact_59 : decode cX3_fact 59 = .ok (.invokevirtual 246, 3) := dk_182 0 246 (dk_at dksX3_fact_2 11 rfl rfl)
theorem dX3_fact_62 : decode cX3_fact 62 = .ok (.iconst 1, 1) := dk_4 (dk_at dksX3_fact_2 14 rfl rfl)
theorem dX3_fact_63 : decode cX3_fact 63 = .ok (.ireturn, 1) := dk_172 (dk_at dksX3_fact_2 15 rfl rfl)
abbrev cX3_opens : ByteArray := prog_17_method_28_code
def yX3_opens : MethodName := ⟨RX3, "opens", "(I)V"⟩
def dkwX3_opens_2 : List UInt8 := [27, 79, 42, 89, 180, 0, 232, 4, 96, 181, 0, 232, 177]
abbrev dktX3_opens_2 : List UInt8 := dkwX3_opens_2 ++ []
def dkwX3_opens_1 : List UInt8 := [180, 0, 164, 182, 0, 200, 42, 89, 180, 0, 235, 4, 96, 181, 0, 235, 42, 180, 0, 87, 42, 180, 0, 232]
abbrev dktX3_opens_1 : List UInt8 := dkwX3_opens_1 ++ dktX3_opens_2
def dkwX3_opens_0 : List UInt8 := [27, 16, 9, 159, 0, 9, 27, 16, 12, 160, 0, 31, 42, 180, 0, 235, 16, 10, 160, 0, 12, 42, 5, 42]
abbrev dktX3_opens_0 : List UInt8 := dkwX3_opens_0 ++ dktX3_opens_1
theorem dksX3_opens_0 : cX3_opens.data.toList.drop 0 = dktX3_opens_0 := by decide +kernel
theorem dksX3_opens_1 : cX3_opens.data.toList.drop 24 = dktX3_opens_1 := dk_seg dksX3_opens_0 24 rfl rfl
theorem dksX3_opens_2 : cX3_opens.data.toList.drop 48 = dktX3_opens_2 := dk_seg dksX3_opens_1 24 rfl rfl
theorem dX3_opens_0 : decode cX3_opens 0 = .ok (.iload_n 1, 1) := dk_27 (dk_at dksX3_opens_0 0 rfl rfl)
theorem dX3_opens_1 : decode cX3_opens 1 = .ok (.bipush 9, 2) := dk_16 9 (dk_at dksX3_opens_0 1 rfl rfl)
theorem dX3_opens_3 : decode cX3_opens 3 = .ok (.if_icmp .eq 9, 3) := dk_159 0 9 (dk_at dksX3_opens_0 3 rfl rfl)
theorem dX3_opens_6 : decode cX3_opens 6 = .ok (.iload_n 1, 1) := dk_27 (dk_at dksX3_opens_0 6 rfl rfl)
theorem dX3_opens_7 : decode cX3_opens 7 = .ok (.bipush 12, 2) := dk_16 12 (dk_at dksX3_opens_0 7 rfl rfl)
theorem dX3_opens_9 : decode cX3_opens 9 = .ok (.if_icmp .ne 31, 3) := dk_160 0 31 (dk_at dksX3_opens_0 9 rfl rfl)
theorem dX3_opens_12 : decode cX3_opens 12 = .ok (.aload_n 0, 1) := dk_42 (dk_at dksX3_opens_0 12 rfl rfl)
theorem dX3_opens_13 : decode cX3_opens 13 = .ok (.getfield 235, 3) := dk_180 0 235 (dk_at dksX3_opens_0 13 rfl rfl)
theorem dX3_opens_16 : decode cX3_opens 16 = .ok (.bipush 10, 2) := dk_16 10 (dk_at dksX3_opens_0 16 rfl rfl)
theorem dX3_opens_18 : decode cX3_opens 18 = .ok (.if_icmp .ne 12, 3) := dk_160 0 12 (dk_at dksX3_opens_0 18 rfl rfl)
theorem dX3_opens_21 : decode cX3_opens 21 = .ok (.aload_n 0, 1) := dk_42 (dk_at dksX3_opens_0 21 rfl rfl)
theorem dX3_opens_22 : decode cX3_opens 22 = .ok (.iconst 2, 1) := dk_5 (dk_at dksX3_opens_0 22 rfl rfl)
theorem dX3_opens_23 : decode cX3_opens 23 = .ok (.aload_n 0, 1) := dk_42 (dk_at dksX3_opens_0 23 rfl rfl)
theorem dX3_opens_24 : decode cX3_opens 24 = .ok (.getfield 164, 3) := dk_180 0 164 (dk_at dksX3_opens_1 0 rfl rfl)
theorem dX3_opens_27 : decode cX3_opens 27 = .ok (.invokevirtual 200, 3) := dk_182 0 200 (dk_at dksX3_opens_1 3 rfl rfl)
theorem dX3_opens_30 : decode cX3_opens 30 = .ok (.aload_n 0, 1) := dk_42 (dk_at dksX3_opens_1 6 rfl rfl)
theorem dX3_opens_31 : decode cX3_opens 31 = .ok (.dup, 1) := dk_89 (dk_at dksX3_opens_1 7 rfl rfl)
theorem dX3_opens_32 : decode cX3_opens 32 = .ok (.getfield 235, 3) := dk_180 0 235 (dk_at dksX3_opens_1 8 rfl rfl)
theorem dX3_opens_35 : decode cX3_opens 35 = .ok (.iconst 1, 1) := dk_4 (dk_at dksX3_opens_1 11 rfl rfl)
theorem dX3_opens_36 : decode cX3_opens 36 = .ok (.iadd, 1) := dk_96 (dk_at dksX3_opens_1 12 rfl rfl)
theorem dX3_opens_37 : decode cX3_opens 37 = .ok (.putfield 235, 3) := dk_181 0 235 (dk_at dksX3_opens_1 13 rfl rfl)
theorem dX3_opens_40 : decode cX3_opens 40 = .ok (.aload_n 0, 1) := dk_42 (dk_at dksX3_opens_1 16 rfl rfl)
theorem dX3_opens_41 : decode cX3_opens 41 = .ok (.getfield 87, 3) := dk_180 0 87 (dk_at dksX3_opens_1 17 rfl rfl)
theorem dX3_opens_44 : decode cX3_opens 44 = .ok (.aload_n 0, 1) := dk_42 (dk_at dksX3_opens_1 20 rfl rfl)
theorem dX3_opens_45 : decode cX3_opens 45 = .ok (.getfield 232, 3) := dk_180 0 232 (dk_at dksX3_opens_1 21 rfl rfl)
theorem dX3_opens_48 : decode cX3_opens 48 = .ok (.iload_n 1, 1) := dk_27 (dk_at dksX3_opens_2 0 rfl rfl)
theorem dX3_opens_49 : decode cX3_opens 49 = .ok (.iastore, 1) := dk_79 (dk_at dksX3_opens_2 1 rfl rfl)
theorem dX3_opens_50 : decode cX3_opens 50 = .ok (.aload_n 0, 1) := dk_42 (dk_at dksX3_opens_2 2 rfl rfl)
theorem dX3_opens_51 : decode cX3_opens 51 = .ok (.dup, 1) := dk_89 (dk_at dksX3_opens_2 3 rfl rfl)
theorem dX3_opens_52 : decode cX3_opens 52 = .ok (.getfield 232, 3) := dk_180 0 232 (dk_at dksX3_opens_2 4 rfl rfl)
theorem dX3_opens_55 : decode cX3_opens 55 = .ok (.iconst 1, 1) := dk_4 (dk_at dksX3_opens_2 7 rfl rfl)
theorem dX3_opens_56 : decode cX3_opens 56 = .ok (.iadd, 1) := dk_96 (dk_at dksX3_opens_2 8 rfl rfl)
theorem dX3_opens_57 : decode cX3_opens 57 = .ok (.putfield 232, 3) := dk_181 0 232 (dk_at dksX3_opens_2 9 rfl rfl)
theorem dX3_opens_60 : decode cX3_opens 60 = .ok (.return_, 1) := dk_177 (dk_at dksX3_opens_2 12 rfl rfl)
abbrev cX3_compared : ByteArray := prog_17_method_26_code
def yX3_compared : MethodName := ⟨RX3, "compared", "()V"⟩
def dkwX3_compared_6 : List UInt8 := [182, 0, 216, 177]
abbrev dktX3_compared_6 : List UInt8 := dkwX3_compared_6 ++ []
def dkwX3_compared_5 : List UInt8 := [153, 0, 7, 8, 167, 0, 18, 7, 167, 0, 14, 28, 153, 0, 8, 16, 7, 167, 0, 5, 16, 8, 3]
abbrev dktX3_compared_5 : List UInt8 := dkwX3_compared_5 ++ dktX3_compared_6
def dkwX3_compared_4 : List UInt8 := [182, 0, 229, 42, 27, 16, 61, 160, 0, 8, 16, 6, 167, 0, 32, 27, 16, 60, 160, 0, 15, 28]
abbrev dktX3_compared_4 : List UInt8 := dkwX3_compared_4 ++ dktX3_compared_5
def dkwX3_compared_3 : List UInt8 := [167, 0, 4, 3, 61, 42, 89, 180, 0, 164, 28, 153, 0, 7, 4, 167, 0, 4, 3, 96, 181, 0, 164, 42]
abbrev dktX3_compared_3 : List UInt8 := dkwX3_compared_3 ++ dktX3_compared_4
def dkwX3_compared_2 : List UInt8 := [180, 0, 164, 4, 96, 181, 0, 164, 27, 16, 61, 159, 0, 16, 42, 182, 0, 167, 16, 61, 160, 0, 7, 4]
abbrev dktX3_compared_2 : List UInt8 := dkwX3_compared_2 ++ dktX3_compared_3
def dkwX3_compared_1 : List UInt8 := [159, 0, 13, 42, 3, 42, 180, 0, 164, 182, 0, 200, 177, 42, 42, 180, 0, 164, 182, 0, 213, 42, 89]
abbrev dktX3_compared_1 : List UInt8 := dkwX3_compared_1 ++ dktX3_compared_2
def dkwX3_compared_0 : List UInt8 := [42, 182, 0, 229, 42, 182, 0, 167, 60, 27, 16, 60, 159, 0, 25, 27, 16, 61, 159, 0, 19, 27, 16, 62]
abbrev dktX3_compared_0 : List UInt8 := dkwX3_compared_0 ++ dktX3_compared_1
theorem dksX3_compared_0 : cX3_compared.data.toList.drop 0 = dktX3_compared_0 := by decide +kernel
theorem dksX3_compared_1 : cX3_compared.data.toList.drop 24 = dktX3_compared_1 := dk_seg dksX3_compared_0 24 rfl rfl
theorem dksX3_compared_2 : cX3_compared.data.toList.drop 47 = dktX3_compared_2 := dk_seg dksX3_compared_1 23 rfl rfl
theorem dksX3_compared_3 : cX3_compared.data.toList.drop 71 = dktX3_compared_3 := dk_seg dksX3_compared_2 24 rfl rfl
theorem dksX3_compared_4 : cX3_compared.data.toList.drop 95 = dktX3_compared_4 := dk_seg dksX3_compared_3 24 rfl rfl
theorem dksX3_compared_5 : cX3_compared.data.toList.drop 117 = dktX3_compared_5 := dk_seg dksX3_compared_4 22 rfl rfl
theorem dksX3_compared_6 : cX3_compared.data.toList.drop 140 = dktX3_compared_6 := dk_seg dksX3_compared_5 23 rfl rfl
theorem dX3_compared_0 : decode cX3_compared 0 = .ok (.aload_n 0, 1) := dk_42 (dk_at dksX3_compared_0 0 rfl rfl)
theorem dX3_compared_1 : decode cX3_compared 1 = .ok (.invokevirtual 229, 3) := dk_182 0 229 (dk_at dksX3_compared_0 1 rfl rfl)
theorem dX3_compared_4 : decode cX3_compared 4 = .ok (.aload_n 0, 1) := dk_42 (dk_at dksX3_compared_0 4 rfl rfl)
theorem dX3_compared_5 : decode cX3_compared 5 = .ok (.invokevirtual 167, 3) := dk_182 0 167 (dk_at dksX3_compared_0 5 rfl rfl)
theorem dX3_compared_8 : decode cX3_compared 8 = .ok (.istore_n 1, 1) := dk_60 (dk_at dksX3_compared_0 8 rfl rfl)
theorem dX3_compared_9 : decode cX3_compared 9 = .ok (.iload_n 1, 1) := dk_27 (dk_at dksX3_compared_0 9 rfl rfl)
theorem dX3_compared_10 : decode cX3_compared 10 = .ok (.bipush 60, 2) := dk_16 60 (dk_at dksX3_compared_0 10 rfl rfl)
theorem dX3_compared_12 : decode cX3_compared 12 = .ok (.if_icmp .eq 25, 3) := dk_159 0 25 (dk_at dksX3_compared_0 12 rfl rfl)
theorem dX3_compared_15 : decode cX3_compared 15 = .ok (.iload_n 1, 1) := dk_27 (dk_at dksX3_compared_0 15 rfl rfl)
theorem dX3_compared_16 : decode cX3_compared 16 = .ok (.bipush 61, 2) := dk_16 61 (dk_at dksX3_compared_0 16 rfl rfl)
theorem dX3_compared_18 : decode cX3_compared 18 = .ok (.if_icmp .eq 19, 3) := dk_159 0 19 (dk_at dksX3_compared_0 18 rfl rfl)
theorem dX3_compared_21 : decode cX3_compared 21 = .ok (.iload_n 1, 1) := dk_27 (dk_at dksX3_compared_0 21 rfl rfl)
theorem dX3_compared_22 : decode cX3_compared 22 = .ok (.bipush 62, 2) := dk_16 62 (dk_at dksX3_compared_0 22 rfl rfl)
theorem dX3_compared_24 : decode cX3_compared 24 = .ok (.if_icmp .eq 13, 3) := dk_159 0 13 (dk_at dksX3_compared_1 0 rfl rfl)
theorem dX3_compared_27 : decode cX3_compared 27 = .ok (.aload_n 0, 1) := dk_42 (dk_at dksX3_compared_1 3 rfl rfl)
theorem dX3_compared_28 : decode cX3_compared 28 = .ok (.iconst 0, 1) := dk_3 (dk_at dksX3_compared_1 4 rfl rfl)
theorem dX3_compared_29 : decode cX3_compared 29 = .ok (.aload_n 0, 1) := dk_42 (dk_at dksX3_compared_1 5 rfl rfl)
theorem dX3_compared_30 : decode cX3_compared 30 = .ok (.getfield 164, 3) := dk_180 0 164 (dk_at dksX3_compared_1 6 rfl rfl)
theorem dX3_compared_33 : decode cX3_compared 33 = .ok (.invokevirtual 200, 3) := dk_182 0 200 (dk_at dksX3_compared_1 9 rfl rfl)
theorem dX3_compared_36 : decode cX3_compared 36 = .ok (.return_, 1) := dk_177 (dk_at dksX3_compared_1 12 rfl rfl)
theorem dX3_compared_37 : decode cX3_compared 37 = .ok (.aload_n 0, 1) := dk_42 (dk_at dksX3_compared_1 13 rfl rfl)
theorem dX3_compared_38 : decode cX3_compared 38 = .ok (.aload_n 0, 1) := dk_42 (dk_at dksX3_compared_1 14 rfl rfl)
theorem dX3_compared_39 : decode cX3_compared 39 = .ok (.getfield 164, 3) := dk_180 0 164 (dk_at dksX3_compared_1 15 rfl rfl)
theorem dX3_compared_42 : decode cX3_compared 42 = .ok (.invokevirtual 213, 3) := dk_182 0 213 (dk_at dksX3_compared_1 18 rfl rfl)
theorem dX3_compared_45 : decode cX3_compared 45 = .ok (.aload_n 0, 1) := dk_42 (dk_at dksX3_compared_1 21 rfl rfl)
theorem dX3_compared_46 : decode cX3_compared 46 = .ok (.dup, 1) := dk_89 (dk_at dksX3_compared_1 22 rfl rfl)
theorem dX3_compared_47 : decode cX3_compared 47 = .ok (.getfield 164, 3) := dk_180 0 164 (dk_at dksX3_compared_2 0 rfl rfl)
theorem dX3_compared_50 : decode cX3_compared 50 = .ok (.iconst 1, 1) := dk_4 (dk_at dksX3_compared_2 3 rfl rfl)
theorem dX3_compared_51 : decode cX3_compared 51 = .ok (.iadd, 1) := dk_96 (dk_at dksX3_compared_2 4 rfl rfl)
theorem dX3_compared_52 : decode cX3_compared 52 = .ok (.putfield 164, 3) := dk_181 0 164 (dk_at dksX3_compared_2 5 rfl rfl)
theorem dX3_compared_55 : decode cX3_compared 55 = .ok (.iload_n 1, 1) := dk_27 (dk_at dksX3_compared_2 8 rfl rfl)
theorem dX3_compared_56 : decode cX3_compared 56 = .ok (.bipush 61, 2) := dk_16 61 (dk_at dksX3_compared_2 9 rfl rfl)
theorem dX3_compared_58 : decode cX3_compared 58 = .ok (.if_icmp .eq 16, 3) := dk_159 0 16 (dk_at dksX3_compared_2 11 rfl rfl)
theorem dX3_compared_61 : decode cX3_compared 61 = .ok (.aload_n 0, 1) := dk_42 (dk_at dksX3_compared_2 14 rfl rfl)
theorem dX3_compared_62 : decode cX3_compared 62 = .ok (.invokevirtual 167, 3) := dk_182 0 167 (dk_at dksX3_compared_2 15 rfl rfl)
theorem dX3_compared_65 : decode cX3_compared 65 = .ok (.bipush 61, 2) := dk_16 61 (dk_at dksX3_compared_2 18 rfl rfl)
theorem dX3_compared_67 : decode cX3_compared 67 = .ok (.if_icmp .ne 7, 3) := dk_160 0 7 (dk_at dksX3_compared_2 20 rfl rfl)
theorem dX3_compared_70 : decode cX3_compared 70 = .ok (.iconst 1, 1) := dk_4 (dk_at dksX3_compared_2 23 rfl rfl)
theorem dX3_compared_71 : decode cX3_compared 71 = .ok (.goto 4, 3) := dk_167 0 4 (dk_at dksX3_compared_3 0 rfl rfl)
theorem dX3_compared_74 : decode cX3_compared 74 = .ok (.iconst 0, 1) := dk_3 (dk_at dksX3_compared_3 3 rfl rfl)
theorem dX3_compared_75 : decode cX3_compared 75 = .ok (.istore_n 2, 1) := dk_61 (dk_at dksX3_compared_3 4 rfl rfl)
theorem dX3_compared_76 : decode cX3_compared 76 = .ok (.aload_n 0, 1) := dk_42 (dk_at dksX3_compared_3 5 rfl rfl)
theorem dX3_compared_77 : decode cX3_compared 77 = .ok (.dup, 1) := dk_89 (dk_at dksX3_compared_3 6 rfl rfl)
theorem dX3_compared_78 : decode cX3_compared 78 = .ok (.getfield 164, 3) := dk_180 0 164 (dk_at dksX3_compared_3 7 rfl rfl)
theorem dX3_compared_81 : decode cX3_compared 81 = .ok (.iload_n 2, 1) := dk_28 (dk_at dksX3_compared_3 10 rfl rfl)
theorem dX3_compared_82 : decode cX3_compared 82 = .ok (.ifCond .eq 7, 3) := dk_153 0 7 (dk_at dksX3_compared_3 11 rfl rfl)
theorem dX3_compared_85 : decode cX3_compared 85 = .ok (.iconst 1, 1) := dk_4 (dk_at dksX3_compared_3 14 rfl rfl)
theorem dX3_compared_86 : decode cX3_compared 86 = .ok (.goto 4, 3) := dk_167 0 4 (dk_at dksX3_compared_3 15 rfl rfl)
theorem dX3_compared_89 : decode cX3_compared 89 = .ok (.iconst 0, 1) := dk_3 (dk_at dksX3_compared_3 18 rfl rfl)
theorem dX3_compared_90 : decode cX3_compared 90 = .ok (.iadd, 1) := dk_96 (dk_at dksX3_compared_3 19 rfl rfl)
theorem dX3_compared_91 : decode cX3_compared 91 = .ok (.putfield 164, 3) := dk_181 0 164 (dk_at dksX3_compared_3 20 rfl rfl)
theorem dX3_compared_94 : decode cX3_compared 94 = .ok (.aload_n 0, 1) := dk_42 (dk_at dksX3_compared_3 23 rfl rfl)
theorem dX3_compared_95 : decode cX3_compared 95 = .ok (.invokevirtual 229, 3) := dk_182 0 229 (dk_at dksX3_compared_4 0 rfl rfl)
theorem dX3_compared_98 : decode cX3_compared 98 = .ok (.aload_n 0, 1) := dk_42 (dk_at dksX3_compared_4 3 rfl rfl)
theorem dX3_compared_99 : decode cX3_compared 99 = .ok (.iload_n 1, 1) := dk_27 (dk_at dksX3_compared_4 4 rfl rfl)
theorem dX3_compared_100 : decode cX3_compared 100 = .ok (.bipush 61, 2) := dk_16 61 (dk_at dksX3_compared_4 5 rfl rfl)
theorem dX3_compared_102 : decode cX3_compared 102 = .ok (.if_icmp .ne 8, 3) := dk_160 0 8 (dk_at dksX3_compared_4 7 rfl rfl)
theorem dX3_compared_105 : decode cX3_compared 105 = .ok (.bipush 6, 2) := dk_16 6 (dk_at dksX3_compared_4 10 rfl rfl)
theorem dX3_compared_107 : decode cX3_compared 107 = .ok (.goto 32, 3) := dk_167 0 32 (dk_at dksX3_compared_4 12 rfl rfl)
theorem dX3_compared_110 : decode cX3_compared 110 = .ok (.iload_n 1, 1) := dk_27 (dk_at dksX3_compared_4 15 rfl rfl)
theorem dX3_compared_111 : decode cX3_compared 111 = .ok (.bipush 60, 2) := dk_16 60 (dk_at dksX3_compared_4 16 rfl rfl)
theorem dX3_compared_113 : decode cX3_compared 113 = .ok (.if_icmp .ne 15, 3) := dk_160 0 15 (dk_at dksX3_compared_4 18 rfl rfl)
theorem dX3_compared_116 : decode cX3_compared 116 = .ok (.iload_n 2, 1) := dk_28 (dk_at dksX3_compared_4 21 rfl rfl)
theorem dX3_compared_117 : decode cX3_compared 117 = .ok (.ifCond .eq 7, 3) := dk_153 0 7 (dk_at dksX3_compared_5 0 rfl rfl)
theorem dX3_compared_120 : decode cX3_compared 120 = .ok (.iconst 5, 1) := dk_8 (dk_at dksX3_compared_5 3 rfl rfl)
theorem dX3_compared_121 : decode cX3_compared 121 = .ok (.goto 18, 3) := dk_167 0 18 (dk_at dksX3_compared_5 4 rfl rfl)
theorem dX3_compared_124 : decode cX3_compared 124 = .ok (.iconst 4, 1) := dk_7 (dk_at dksX3_compared_5 7 rfl rfl)
theorem dX3_compared_125 : decode cX3_compared 125 = .ok (.goto 14, 3) := dk_167 0 14 (dk_at dksX3_compared_5 8 rfl rfl)
theorem dX3_compared_128 : decode cX3_compared 128 = .ok (.iload_n 2, 1) := dk_28 (dk_at dksX3_compared_5 11 rfl rfl)
theorem dX3_compared_129 : decode cX3_compared 129 = .ok (.ifCond .eq 8, 3) := dk_153 0 8 (dk_at dksX3_compared_5 12 rfl rfl)
theorem dX3_compared_132 : decode cX3_compared 132 = .ok (.bipush 7, 2) := dk_16 7 (dk_at dksX3_compared_5 15 rfl rfl)
theorem dX3_compared_134 : decode cX3_compared 134 = .ok (.goto 5, 3) := dk_167 0 5 (dk_at dksX3_compared_5 17 rfl rfl)
theorem dX3_compared_137 : decode cX3_compared 137 = .ok (.bipush 8, 2) := dk_16 8 (dk_at dksX3_compared_5 20 rfl rfl)
theorem dX3_compared_139 : decode cX3_compared 139 = .ok (.iconst 0, 1) := dk_3 (dk_at dksX3_compared_5 22 rfl rfl)
theorem dX3_compared_140 : decode cX3_compared 140 = .ok (.invokevirtual 216, 3) := dk_182 0 216 (dk_at dksX3_compared_6 0 rfl rfl)
theorem dX3_compared_143 : decode cX3_compared 143 = .ok (.return_, 1) := dk_177 (dk_at dksX3_compared_6 3 rfl rfl)
abbrev cX3_answers : ByteArray := prog_17_method_29_code
def yX3_answers : MethodName := ⟨RX3, "answers", "(I)V"⟩
def dkwX3_answers_2 : List UInt8 := [100, 181, 0, 235, 167, 255, 205, 177]
abbrev dktX3_answers_2 : List UInt8 := dkwX3_answers_2 ++ []
def dkwX3_answers_1 : List UInt8 := [180, 0, 232, 4, 100, 181, 0, 232, 42, 89, 180, 0, 235, 27, 16, 9, 160, 0, 7, 4, 167, 0, 4, 3]
abbrev dktX3_answers_1 : List UInt8 := dkwX3_answers_1 ++ dktX3_answers_2
def dkwX3_answers_0 : List UInt8 := [42, 182, 0, 238, 27, 160, 0, 49, 42, 180, 0, 161, 154, 0, 42, 42, 27, 3, 182, 0, 216, 42, 89]
abbrev dktX3_answers_0 : List UInt8 := dkwX3_answers_0 ++ dktX3_answers_1
theorem dksX3_answers_0 : cX3_answers.data.toList.drop 0 = dktX3_answers_0 := by decide +kernel
theorem dksX3_answers_1 : cX3_answers.data.toList.drop 23 = dktX3_answers_1 := dk_seg dksX3_answers_0 23 rfl rfl
theorem dksX3_answers_2 : cX3_answers.data.toList.drop 47 = dktX3_answers_2 := dk_seg dksX3_answers_1 24 rfl rfl
theorem dX3_answers_0 : decode cX3_answers 0 = .ok (.aload_n 0, 1) := dk_42 (dk_at dksX3_answers_0 0 rfl rfl)
theorem dX3_answers_1 : decode cX3_answers 1 = .ok (.invokevirtual 238, 3) := dk_182 0 238 (dk_at dksX3_answers_0 1 rfl rfl)
theorem dX3_answers_4 : decode cX3_answers 4 = .ok (.iload_n 1, 1) := dk_27 (dk_at dksX3_answers_0 4 rfl rfl)
theorem dX3_answers_5 : decode cX3_answers 5 = .ok (.if_icmp .ne 49, 3) := dk_160 0 49 (dk_at dksX3_answers_0 5 rfl rfl)
theorem dX3_answers_8 : decode cX3_answers 8 = .ok (.aload_n 0, 1) := dk_42 (dk_at dksX3_answers_0 8 rfl rfl)
theorem dX3_answers_9 : decode cX3_answers 9 = .ok (.getfield 161, 3) := dk_180 0 161 (dk_at dksX3_answers_0 9 rfl rfl)
theorem dX3_answers_12 : decode cX3_answers 12 = .ok (.ifCond .ne 42, 3) := dk_154 0 42 (dk_at dksX3_answers_0 12 rfl rfl)
theorem dX3_answers_15 : decode cX3_answers 15 = .ok (.aload_n 0, 1) := dk_42 (dk_at dksX3_answers_0 15 rfl rfl)
theorem dX3_answers_16 : decode cX3_answers 16 = .ok (.iload_n 1, 1) := dk_27 (dk_at dksX3_answers_0 16 rfl rfl)
theorem dX3_answers_17 : decode cX3_answers 17 = .ok (.iconst 0, 1) := dk_3 (dk_at dksX3_answers_0 17 rfl rfl)
theorem dX3_answers_18 : decode cX3_answers 18 = .ok (.invokevirtual 216, 3) := dk_182 0 216 (dk_at dksX3_answers_0 18 rfl rfl)
theorem dX3_answers_21 : decode cX3_answers 21 = .ok (.aload_n 0, 1) := dk_42 (dk_at dksX3_answers_0 21 rfl rfl)
theorem dX3_answers_22 : decode cX3_answers 22 = .ok (.dup, 1) := dk_89 (dk_at dksX3_answers_0 22 rfl rfl)
theorem dX3_answers_23 : decode cX3_answers 23 = .ok (.getfield 232, 3) := dk_180 0 232 (dk_at dksX3_answers_1 0 rfl rfl)
theorem dX3_answers_26 : decode cX3_answers 26 = .ok (.iconst 1, 1) := dk_4 (dk_at dksX3_answers_1 3 rfl rfl)
theorem dX3_answers_27 : decode cX3_answers 27 = .ok (.isub, 1) := dk_100 (dk_at dksX3_answers_1 4 rfl rfl)
theorem dX3_answers_28 : decode cX3_answers 28 = .ok (.putfield 232, 3) := dk_181 0 232 (dk_at dksX3_answers_1 5 rfl rfl)
theorem dX3_answers_31 : decode cX3_answers 31 = .ok (.aload_n 0, 1) := dk_42 (dk_at dksX3_answers_1 8 rfl rfl)
theorem dX3_answers_32 : decode cX3_answers 32 = .ok (.dup, 1) := dk_89 (dk_at dksX3_answers_1 9 rfl rfl)
theorem dX3_answers_33 : decode cX3_answers 33 = .ok (.getfield 235, 3) := dk_180 0 235 (dk_at dksX3_answers_1 10 rfl rfl)
theorem dX3_answers_36 : decode cX3_answers 36 = .ok (.iload_n 1, 1) := dk_27 (dk_at dksX3_answers_1 13 rfl rfl)
theorem dX3_answers_37 : decode cX3_answers 37 = .ok (.bipush 9, 2) := dk_16 9 (dk_at dksX3_answers_1 14 rfl rfl)
theorem dX3_answers_39 : decode cX3_answers 39 = .ok (.if_icmp .ne 7, 3) := dk_160 0 7 (dk_at dksX3_answers_1 16 rfl rfl)
theorem dX3_answers_42 : decode cX3_answers 42 = .ok (.iconst 1, 1) := dk_4 (dk_at dksX3_answers_1 19 rfl rfl)
theorem dX3_answers_43 : decode cX3_answers 43 = .ok (.goto 4, 3) := dk_167 0 4 (dk_at dksX3_answers_1 20 rfl rfl)
theorem dX3_answers_46 : decode cX3_answers 46 = .ok (.iconst 0, 1) := dk_3 (dk_at dksX3_answers_1 23 rfl rfl)
theorem dX3_answers_47 : decode cX3_answers 47 = .ok (.isub, 1) := dk_100 (dk_at dksX3_answers_2 0 rfl rfl)
theorem dX3_answers_48 : decode cX3_answers 48 = .ok (.putfield 235, 3) := dk_181 0 235 (dk_at dksX3_answers_2 1 rfl rfl)
theorem dX3_answers_51 : decode cX3_answers 51 = .ok (.goto (-51), 3) := dk_167 255 205 (dk_at dksX3_answers_2 4 rfl rfl)
theorem dX3_answers_54 : decode cX3_answers 54 = .ok (.return_, 1) := dk_177 (dk_at dksX3_answers_2 7 rfl rfl)
abbrev cX3_top : ByteArray := prog_17_method_27_code
def yX3_top : MethodName := ⟨RX3, "top", "()I"⟩
def dkwX3_top_0 : List UInt8 := [42, 180, 0, 232, 154, 0, 7, 2, 167, 0, 14, 42, 180, 0, 87, 42, 180, 0, 232, 4, 100, 46, 172]
abbrev dktX3_top_0 : List UInt8 := dkwX3_top_0 ++ []
theorem dksX3_top_0 : cX3_top.data.toList.drop 0 = dktX3_top_0 := by decide +kernel
theorem dX3_top_0 : decode cX3_top 0 = .ok (.aload_n 0, 1) := dk_42 (dk_at dksX3_top_0 0 rfl rfl)
theorem dX3_top_1 : decode cX3_top 1 = .ok (.getfield 232, 3) := dk_180 0 232 (dk_at dksX3_top_0 1 rfl rfl)
theorem dX3_top_4 : decode cX3_top 4 = .ok (.ifCond .ne 7, 3) := dk_154 0 7 (dk_at dksX3_top_0 4 rfl rfl)
theorem dX3_top_7 : decode cX3_top 7 = .ok (.iconst (-1), 1) := dk_2 (dk_at dksX3_top_0 7 rfl rfl)
theorem dX3_top_8 : decode cX3_top 8 = .ok (.goto 14, 3) := dk_167 0 14 (dk_at dksX3_top_0 8 rfl rfl)
theorem dX3_top_11 : decode cX3_top 11 = .ok (.aload_n 0, 1) := dk_42 (dk_at dksX3_top_0 11 rfl rfl)
theorem dX3_top_12 : decode cX3_top 12 = .ok (.getfield 87, 3) := dk_180 0 87 (dk_at dksX3_top_0 12 rfl rfl)
theorem dX3_top_15 : decode cX3_top 15 = .ok (.aload_n 0, 1) := dk_42 (dk_at dksX3_top_0 15 rfl rfl)
theorem dX3_top_16 : decode cX3_top 16 = .ok (.getfield 232, 3) := dk_180 0 232 (dk_at dksX3_top_0 16 rfl rfl)
theorem dX3_top_19 : decode cX3_top 19 = .ok (.iconst 1, 1) := dk_4 (dk_at dksX3_top_0 19 rfl rfl)
theorem dX3_top_20 : decode cX3_top 20 = .ok (.isub, 1) := dk_100 (dk_at dksX3_top_0 20 rfl rfl)
theorem dX3_top_21 : decode cX3_top 21 = .ok (.iaload, 1) := dk_46 (dk_at dksX3_top_0 21 rfl rfl)
theorem dX3_top_22 : decode cX3_top 22 = .ok (.ireturn, 1) := dk_172 (dk_at dksX3_top_0 22 rfl rfl)
abbrev cX3_force : ByteArray := prog_17_method_46_code
def yX3_force : MethodName := ⟨RX3, "force", "(I)I"⟩
def dkwX3_force_1 : List UInt8 := [180, 0, 9, 16, 7, 46, 61, 42, 180, 0, 9, 16, 7, 27, 79, 28, 172]
abbrev dktX3_force_1 : List UInt8 := dkwX3_force_1 ++ []
def dkwX3_force_0 : List UInt8 := [27, 133, 20, 1, 62, 42, 180, 1, 56, 4, 100, 133, 184, 0, 131, 154, 0, 6, 16, 254, 172, 42]
abbrev dktX3_force_0 : List UInt8 := dkwX3_force_0 ++ dktX3_force_1
theorem dksX3_force_0 : cX3_force.data.toList.drop 0 = dktX3_force_0 := by decide +kernel
theorem dksX3_force_1 : cX3_force.data.toList.drop 22 = dktX3_force_1 := dk_seg dksX3_force_0 22 rfl rfl
theorem dX3_force_0 : decode cX3_force 0 = .ok (.iload_n 1, 1) := dk_27 (dk_at dksX3_force_0 0 rfl rfl)
theorem dX3_force_1 : decode cX3_force 1 = .ok (.i2l, 1) := dk_133 (dk_at dksX3_force_0 1 rfl rfl)
theorem dX3_force_2 : decode cX3_force 2 = .ok (.ldc2_w 318, 3) := dk_20 1 62 (dk_at dksX3_force_0 2 rfl rfl)
theorem dX3_force_5 : decode cX3_force 5 = .ok (.aload_n 0, 1) := dk_42 (dk_at dksX3_force_0 5 rfl rfl)
theorem dX3_force_6 : decode cX3_force 6 = .ok (.getfield 312, 3) := dk_180 1 56 (dk_at dksX3_force_0 6 rfl rfl)
theorem dX3_force_9 : decode cX3_force 9 = .ok (.iconst 1, 1) := dk_4 (dk_at dksX3_force_0 9 rfl rfl)
theorem dX3_force_10 : decode cX3_force 10 = .ok (.isub, 1) := dk_100 (dk_at dksX3_force_0 10 rfl rfl)
theorem dX3_force_11 : decode cX3_force 11 = .ok (.i2l, 1) := dk_133 (dk_at dksX3_force_0 11 rfl rfl)
theorem dX3_force_12 : decode cX3_force 12 = .ok (.invokestatic 131, 3) := dk_184 0 131 (dk_at dksX3_force_0 12 rfl rfl)
theorem dX3_force_15 : decode cX3_force 15 = .ok (.ifCond .ne 6, 3) := dk_154 0 6 (dk_at dksX3_force_0 15 rfl rfl)
theorem dX3_force_18 : decode cX3_force 18 = .ok (.bipush (-2), 2) := dk_16 254 (dk_at dksX3_force_0 18 rfl rfl)
theorem dX3_force_20 : decode cX3_force 20 = .ok (.ireturn, 1) := dk_172 (dk_at dksX3_force_0 20 rfl rfl)
theorem dX3_force_21 : decode cX3_force 21 = .ok (.aload_n 0, 1) := dk_42 (dk_at dksX3_force_0 21 rfl rfl)
theorem dX3_force_22 : decode cX3_force 22 = .ok (.getfield 9, 3) := dk_180 0 9 (dk_at dksX3_force_1 0 rfl rfl)
theorem dX3_force_25 : decode cX3_force 25 = .ok (.bipush 7, 2) := dk_16 7 (dk_at dksX3_force_1 3 rfl rfl)
theorem dX3_force_27 : decode cX3_force 27 = .ok (.iaload, 1) := dk_46 (dk_at dksX3_force_1 5 rfl rfl)
theorem dX3_force_28 : decode cX3_force 28 = .ok (.istore_n 2, 1) := dk_61 (dk_at dksX3_force_1 6 rfl rfl)
theorem dX3_force_29 : decode cX3_force 29 = .ok (.aload_n 0, 1) := dk_42 (dk_at dksX3_force_1 7 rfl rfl)
theorem dX3_force_30 : decode cX3_force 30 = .ok (.getfield 9, 3) := dk_180 0 9 (dk_at dksX3_force_1 8 rfl rfl)
theorem dX3_force_33 : decode cX3_force 33 = .ok (.bipush 7, 2) := dk_16 7 (dk_at dksX3_force_1 11 rfl rfl)
theorem dX3_force_35 : decode cX3_force 35 = .ok (.iload_n 1, 1) := dk_27 (dk_at dksX3_force_1 13 rfl rfl)
theorem dX3_force_36 : decode cX3_force 36 = .ok (.iastore, 1) := dk_79 (dk_at dksX3_force_1 14 rfl rfl)
theorem dX3_force_37 : decode cX3_force 37 = .ok (.iload_n 2, 1) := dk_28 (dk_at dksX3_force_1 15 rfl rfl)
theorem dX3_force_38 : decode cX3_force 38 = .ok (.ireturn, 1) := dk_172 (dk_at dksX3_force_1 16 rfl rfl)
abbrev cX3_strand : ByteArray := prog_17_method_56_code
def yX3_strand : MethodName := ⟨RX3, "strand", "(I)I"⟩
def dkwX3_strand_0 : List UInt8 := [42, 27, 182, 1, 91, 153, 0, 12, 42, 180, 0, 13, 27, 46, 167, 0, 4, 2, 172]
abbrev dktX3_strand_0 : List UInt8 := dkwX3_strand_0 ++ []
theorem dksX3_strand_0 : cX3_strand.data.toList.drop 0 = dktX3_strand_0 := by decide +kernel
theorem dX3_strand_0 : decode cX3_strand 0 = .ok (.aload_n 0, 1) := dk_42 (dk_at dksX3_strand_0 0 rfl rfl)
theorem dX3_strand_1 : decode cX3_strand 1 = .ok (.iload_n 1, 1) := dk_27 (dk_at dksX3_strand_0 1 rfl rfl)
theorem dX3_strand_2 : decode cX3_strand 2 = .ok (.invokevirtual 347, 3) := dk_182 1 91 (dk_at dksX3_strand_0 2 rfl rfl)
theorem dX3_strand_5 : decode cX3_strand 5 = .ok (.ifCond .eq 12, 3) := dk_153 0 12 (dk_at dksX3_strand_0 5 rfl rfl)
theorem dX3_strand_8 : decode cX3_strand 8 = .ok (.aload_n 0, 1) := dk_42 (dk_at dksX3_strand_0 8 rfl rfl)
theorem dX3_strand_9 : decode cX3_strand 9 = .ok (.getfield 13, 3) := dk_180 0 13 (dk_at dksX3_strand_0 9 rfl rfl)
theorem dX3_strand_12 : decode cX3_strand 12 = .ok (.iload_n 1, 1) := dk_27 (dk_at dksX3_strand_0 12 rfl rfl)
theorem dX3_strand_13 : decode cX3_strand 13 = .ok (.iaload, 1) := dk_46 (dk_at dksX3_strand_0 13 rfl rfl)
theorem dX3_strand_14 : decode cX3_strand 14 = .ok (.goto 4, 3) := dk_167 0 4 (dk_at dksX3_strand_0 14 rfl rfl)
theorem dX3_strand_17 : decode cX3_strand 17 = .ok (.iconst (-1), 1) := dk_2 (dk_at dksX3_strand_0 17 rfl rfl)
theorem dX3_strand_18 : decode cX3_strand 18 = .ok (.ireturn, 1) := dk_172 (dk_at dksX3_strand_0 18 rfl rfl)
abbrev cX3_isStrand : ByteArray := prog_17_method_7_code
def yX3_isStrand : MethodName := ⟨RX3, "isStrand", "(I)Z"⟩
def dkwX3_isStrand_0 : List UInt8 := [27, 133, 9, 42, 180, 0, 9, 4, 46, 4, 100, 133, 184, 0, 131, 172]
abbrev dktX3_isStrand_0 : List UInt8 := dkwX3_isStrand_0 ++ []
theorem dksX3_isStrand_0 : cX3_isStrand.data.toList.drop 0 = dktX3_isStrand_0 := by decide +kernel
theorem dX3_isStrand_0 : decode cX3_isStrand 0 = .ok (.iload_n 1, 1) := dk_27 (dk_at dksX3_isStrand_0 0 rfl rfl)
theorem dX3_isStrand_1 : decode cX3_isStrand 1 = .ok (.i2l, 1) := dk_133 (dk_at dksX3_isStrand_0 1 rfl rfl)
theorem dX3_isStrand_2 : decode cX3_isStrand 2 = .ok (.lconst 0, 1) := dk_9 (dk_at dksX3_isStrand_0 2 rfl rfl)
theorem dX3_isStrand_3 : decode cX3_isStrand 3 = .ok (.aload_n 0, 1) := dk_42 (dk_at dksX3_isStrand_0 3 rfl rfl)
theorem dX3_isStrand_4 : decode cX3_isStrand 4 = .ok (.getfield 9, 3) := dk_180 0 9 (dk_at dksX3_isStrand_0 4 rfl rfl)
theorem dX3_isStrand_7 : decode cX3_isStrand 7 = .ok (.iconst 1, 1) := dk_4 (dk_at dksX3_isStrand_0 7 rfl rfl)
theorem dX3_isStrand_8 : decode cX3_isStrand 8 = .ok (.iaload, 1) := dk_46 (dk_at dksX3_isStrand_0 8 rfl rfl)
theorem dX3_isStrand_9 : decode cX3_isStrand 9 = .ok (.iconst 1, 1) := dk_4 (dk_at dksX3_isStrand_0 9 rfl rfl)
theorem dX3_isStrand_10 : decode cX3_isStrand 10 = .ok (.isub, 1) := dk_100 (dk_at dksX3_isStrand_0 10 rfl rfl)
theorem dX3_isStrand_11 : decode cX3_isStrand 11 = .ok (.i2l, 1) := dk_133 (dk_at dksX3_isStrand_0 11 rfl rfl)
theorem dX3_isStrand_12 : decode cX3_isStrand 12 = .ok (.invokestatic 131, 3) := dk_184 0 131 (dk_at dksX3_isStrand_0 12 rfl rfl)
theorem dX3_isStrand_15 : decode cX3_isStrand 15 = .ok (.ireturn, 1) := dk_172 (dk_at dksX3_isStrand_0 15 rfl rfl)
abbrev cX3_chair : ByteArray := prog_17_method_58_code
def yX3_chair : MethodName := ⟨RX3, "chair", "(II)I"⟩
def dkwX3_chair_4 : List UInt8 := [167, 0, 8, 42, 29, 182, 1, 103, 172]
abbrev dktX3_chair_4 : List UInt8 := dkwX3_chair_4 ++ []
def dkwX3_chair_3 : List UInt8 := [42, 180, 0, 25, 27, 46, 172, 42, 180, 0, 19, 27, 46, 172, 29, 172, 29, 2, 160, 0, 7, 3]
abbrev dktX3_chair_3 : List UInt8 := dkwX3_chair_3 ++ dktX3_chair_4
def dkwX3_chair_2 : List UInt8 := [170, 0, 0, 0, 0, 42, 0, 0, 0, 0, 0, 0, 0, 2, 0, 0, 0, 26, 0, 0, 0, 33, 0, 0, 0, 40]
abbrev dktX3_chair_2 : List UInt8 := dkwX3_chair_2 ++ dktX3_chair_3
def dkwX3_chair_1 : List UInt8 := [27, 182, 1, 100, 62, 28]
abbrev dktX3_chair_1 : List UInt8 := dkwX3_chair_1 ++ dktX3_chair_2
def dkwX3_chair_0 : List UInt8 := [42, 27, 182, 1, 95, 153, 0, 15, 28, 133, 9, 20, 1, 98, 184, 0, 131, 154, 0, 6, 16, 254, 172, 42]
abbrev dktX3_chair_0 : List UInt8 := dkwX3_chair_0 ++ dktX3_chair_1
theorem dksX3_chair_0 : cX3_chair.data.toList.drop 0 = dktX3_chair_0 := by decide +kernel
theorem dksX3_chair_1 : cX3_chair.data.toList.drop 24 = dktX3_chair_1 := dk_seg dksX3_chair_0 24 rfl rfl
theorem dksX3_chair_2 : cX3_chair.data.toList.drop 30 = dktX3_chair_2 := dk_seg dksX3_chair_1 6 rfl rfl
theorem dksX3_chair_3 : cX3_chair.data.toList.drop 56 = dktX3_chair_3 := dk_seg dksX3_chair_2 26 rfl rfl
theorem dksX3_chair_4 : cX3_chair.data.toList.drop 78 = dktX3_chair_4 := dk_seg dksX3_chair_3 22 rfl rfl
theorem dX3_chair_0 : decode cX3_chair 0 = .ok (.aload_n 0, 1) := dk_42 (dk_at dksX3_chair_0 0 rfl rfl)
theorem dX3_chair_1 : decode cX3_chair 1 = .ok (.iload_n 1, 1) := dk_27 (dk_at dksX3_chair_0 1 rfl rfl)
theorem dX3_chair_2 : decode cX3_chair 2 = .ok (.invokevirtual 351, 3) := dk_182 1 95 (dk_at dksX3_chair_0 2 rfl rfl)
theorem dX3_chair_5 : decode cX3_chair 5 = .ok (.ifCond .eq 15, 3) := dk_153 0 15 (dk_at dksX3_chair_0 5 rfl rfl)
theorem dX3_chair_8 : decode cX3_chair 8 = .ok (.iload_n 2, 1) := dk_28 (dk_at dksX3_chair_0 8 rfl rfl)
theorem dX3_chair_9 : decode cX3_chair 9 = .ok (.i2l, 1) := dk_133 (dk_at dksX3_chair_0 9 rfl rfl)
theorem dX3_chair_10 : decode cX3_chair 10 = .ok (.lconst 0, 1) := dk_9 (dk_at dksX3_chair_0 10 rfl rfl)
theorem dX3_chair_11 : decode cX3_chair 11 = .ok (.ldc2_w 354, 3) := dk_20 1 98 (dk_at dksX3_chair_0 11 rfl rfl)
theorem dX3_chair_14 : decode cX3_chair 14 = .ok (.invokestatic 131, 3) := dk_184 0 131 (dk_at dksX3_chair_0 14 rfl rfl)
theorem dX3_chair_17 : decode cX3_chair 17 = .ok (.ifCond .ne 6, 3) := dk_154 0 6 (dk_at dksX3_chair_0 17 rfl rfl)
theorem dX3_chair_20 : decode cX3_chair 20 = .ok (.bipush (-2), 2) := dk_16 254 (dk_at dksX3_chair_0 20 rfl rfl)
theorem dX3_chair_22 : decode cX3_chair 22 = .ok (.ireturn, 1) := dk_172 (dk_at dksX3_chair_0 22 rfl rfl)
theorem dX3_chair_23 : decode cX3_chair 23 = .ok (.aload_n 0, 1) := dk_42 (dk_at dksX3_chair_0 23 rfl rfl)
theorem dX3_chair_24 : decode cX3_chair 24 = .ok (.iload_n 1, 1) := dk_27 (dk_at dksX3_chair_1 0 rfl rfl)
theorem dX3_chair_25 : decode cX3_chair 25 = .ok (.invokevirtual 356, 3) := dk_182 1 100 (dk_at dksX3_chair_1 1 rfl rfl)
theorem dX3_chair_28 : decode cX3_chair 28 = .ok (.istore_n 3, 1) := dk_62 (dk_at dksX3_chair_1 4 rfl rfl)
theorem dX3_chair_29 : decode cX3_chair 29 = .ok (.iload_n 2, 1) := dk_28 (dk_at dksX3_chair_1 5 rfl rfl)
theorem dX3_chair_30 : decode cX3_chair 30 = .ok (.tableswitch 42 0 2 #[26, 33, 40], 26) := by decide +kernel
theorem dX3_chair_56 : decode cX3_chair 56 = .ok (.aload_n 0, 1) := dk_42 (dk_at dksX3_chair_3 0 rfl rfl)
theorem dX3_chair_57 : decode cX3_chair 57 = .ok (.getfield 25, 3) := dk_180 0 25 (dk_at dksX3_chair_3 1 rfl rfl)
theorem dX3_chair_60 : decode cX3_chair 60 = .ok (.iload_n 1, 1) := dk_27 (dk_at dksX3_chair_3 4 rfl rfl)
theorem dX3_chair_61 : decode cX3_chair 61 = .ok (.iaload, 1) := dk_46 (dk_at dksX3_chair_3 5 rfl rfl)
theorem dX3_chair_62 : decode cX3_chair 62 = .ok (.ireturn, 1) := dk_172 (dk_at dksX3_chair_3 6 rfl rfl)
theorem dX3_chair_63 : decode cX3_chair 63 = .ok (.aload_n 0, 1) := dk_42 (dk_at dksX3_chair_3 7 rfl rfl)
theorem dX3_chair_64 : decode cX3_chair 64 = .ok (.getfield 19, 3) := dk_180 0 19 (dk_at dksX3_chair_3 8 rfl rfl)
theorem dX3_chair_67 : decode cX3_chair 67 = .ok (.iload_n 1, 1) := dk_27 (dk_at dksX3_chair_3 11 rfl rfl)
theorem dX3_chair_68 : decode cX3_chair 68 = .ok (.iaload, 1) := dk_46 (dk_at dksX3_chair_3 12 rfl rfl)
theorem dX3_chair_69 : decode cX3_chair 69 = .ok (.ireturn, 1) := dk_172 (dk_at dksX3_chair_3 13 rfl rfl)
theorem dX3_chair_70 : decode cX3_chair 70 = .ok (.iload_n 3, 1) := dk_29 (dk_at dksX3_chair_3 14 rfl rfl)
theorem dX3_chair_71 : decode cX3_chair 71 = .ok (.ireturn, 1) := dk_172 (dk_at dksX3_chair_3 15 rfl rfl)
theorem dX3_chair_72 : decode cX3_chair 72 = .ok (.iload_n 3, 1) := dk_29 (dk_at dksX3_chair_3 16 rfl rfl)
theorem dX3_chair_73 : decode cX3_chair 73 = .ok (.iconst (-1), 1) := dk_2 (dk_at dksX3_chair_3 17 rfl rfl)
theorem dX3_chair_74 : decode cX3_chair 74 = .ok (.if_icmp .ne 7, 3) := dk_160 0 7 (dk_at dksX3_chair_3 18 rfl rfl)
theorem dX3_chair_77 : decode cX3_chair 77 = .ok (.iconst 0, 1) := dk_3 (dk_at dksX3_chair_3 21 rfl rfl)
theorem dX3_chair_78 : decode cX3_chair 78 = .ok (.goto 8, 3) := dk_167 0 8 (dk_at dksX3_chair_4 0 rfl rfl)
theorem dX3_chair_81 : decode cX3_chair 81 = .ok (.aload_n 0, 1) := dk_42 (dk_at dksX3_chair_4 3 rfl rfl)
theorem dX3_chair_82 : decode cX3_chair 82 = .ok (.iload_n 3, 1) := dk_29 (dk_at dksX3_chair_4 4 rfl rfl)
theorem dX3_chair_83 : decode cX3_chair 83 = .ok (.invokevirtual 359, 3) := dk_182 1 103 (dk_at dksX3_chair_4 5 rfl rfl)
theorem dX3_chair_86 : decode cX3_chair 86 = .ok (.ireturn, 1) := dk_172 (dk_at dksX3_chair_4 8 rfl rfl)
abbrev cX3_isChair : ByteArray := prog_17_method_8_code
def yX3_isChair : MethodName := ⟨RX3, "isChair", "(I)Z"⟩
def dkwX3_isChair_0 : List UInt8 := [27, 133, 9, 42, 180, 0, 9, 5, 46, 4, 100, 133, 184, 0, 131, 172]
abbrev dktX3_isChair_0 : List UInt8 := dkwX3_isChair_0 ++ []
theorem dksX3_isChair_0 : cX3_isChair.data.toList.drop 0 = dktX3_isChair_0 := by decide +kernel
theorem dX3_isChair_0 : decode cX3_isChair 0 = .ok (.iload_n 1, 1) := dk_27 (dk_at dksX3_isChair_0 0 rfl rfl)
theorem dX3_isChair_1 : decode cX3_isChair 1 = .ok (.i2l, 1) := dk_133 (dk_at dksX3_isChair_0 1 rfl rfl)
theorem dX3_isChair_2 : decode cX3_isChair 2 = .ok (.lconst 0, 1) := dk_9 (dk_at dksX3_isChair_0 2 rfl rfl)
theorem dX3_isChair_3 : decode cX3_isChair 3 = .ok (.aload_n 0, 1) := dk_42 (dk_at dksX3_isChair_0 3 rfl rfl)
theorem dX3_isChair_4 : decode cX3_isChair 4 = .ok (.getfield 9, 3) := dk_180 0 9 (dk_at dksX3_isChair_0 4 rfl rfl)
theorem dX3_isChair_7 : decode cX3_isChair 7 = .ok (.iconst 2, 1) := dk_5 (dk_at dksX3_isChair_0 7 rfl rfl)
theorem dX3_isChair_8 : decode cX3_isChair 8 = .ok (.iaload, 1) := dk_46 (dk_at dksX3_isChair_0 8 rfl rfl)
theorem dX3_isChair_9 : decode cX3_isChair 9 = .ok (.iconst 1, 1) := dk_4 (dk_at dksX3_isChair_0 9 rfl rfl)
theorem dX3_isChair_10 : decode cX3_isChair 10 = .ok (.isub, 1) := dk_100 (dk_at dksX3_isChair_0 10 rfl rfl)
theorem dX3_isChair_11 : decode cX3_isChair 11 = .ok (.i2l, 1) := dk_133 (dk_at dksX3_isChair_0 11 rfl rfl)
theorem dX3_isChair_12 : decode cX3_isChair 12 = .ok (.invokestatic 131, 3) := dk_184 0 131 (dk_at dksX3_isChair_0 12 rfl rfl)
theorem dX3_isChair_15 : decode cX3_isChair 15 = .ok (.ireturn, 1) := dk_172 (dk_at dksX3_isChair_0 15 rfl rfl)
abbrev cX3_sitterOf : ByteArray := prog_17_method_57_code
def yX3_sitterOf : MethodName := ⟨RX3, "sitterOf", "(I)I"⟩
def dkwX3_sitterOf_1 : List UInt8 := [132, 2, 1, 167, 255, 231, 2, 172]
abbrev dktX3_sitterOf_1 : List UInt8 := dkwX3_sitterOf_1 ++ []
def dkwX3_sitterOf_0 : List UInt8 := [3, 61, 28, 42, 180, 0, 9, 6, 46, 162, 0, 21, 42, 180, 0, 28, 28, 46, 27, 160, 0, 5, 28, 172]
abbrev dktX3_sitterOf_0 : List UInt8 := dkwX3_sitterOf_0 ++ dktX3_sitterOf_1
theorem dksX3_sitterOf_0 : cX3_sitterOf.data.toList.drop 0 = dktX3_sitterOf_0 := by decide +kernel
theorem dksX3_sitterOf_1 : cX3_sitterOf.data.toList.drop 24 = dktX3_sitterOf_1 := dk_seg dksX3_sitterOf_0 24 rfl rfl
theorem dX3_sitterOf_0 : decode cX3_sitterOf 0 = .ok (.iconst 0, 1) := dk_3 (dk_at dksX3_sitterOf_0 0 rfl rfl)
theorem dX3_sitterOf_1 : decode cX3_sitterOf 1 = .ok (.istore_n 2, 1) := dk_61 (dk_at dksX3_sitterOf_0 1 rfl rfl)
theorem dX3_sitterOf_2 : decode cX3_sitterOf 2 = .ok (.iload_n 2, 1) := dk_28 (dk_at dksX3_sitterOf_0 2 rfl rfl)
theorem dX3_sitterOf_3 : decode cX3_sitterOf 3 = .ok (.aload_n 0, 1) := dk_42 (dk_at dksX3_sitterOf_0 3 rfl rfl)
theorem dX3_sitterOf_4 : decode cX3_sitterOf 4 = .ok (.getfield 9, 3) := dk_180 0 9 (dk_at dksX3_sitterOf_0 4 rfl rfl)
theorem dX3_sitterOf_7 : decode cX3_sitterOf 7 = .ok (.iconst 3, 1) := dk_6 (dk_at dksX3_sitterOf_0 7 rfl rfl)
theorem dX3_sitterOf_8 : decode cX3_sitterOf 8 = .ok (.iaload, 1) := dk_46 (dk_at dksX3_sitterOf_0 8 rfl rfl)
theorem dX3_sitterOf_9 : decode cX3_sitterOf 9 = .ok (.if_icmp .ge 21, 3) := dk_162 0 21 (dk_at dksX3_sitterOf_0 9 rfl rfl)
theorem dX3_sitterOf_12 : decode cX3_sitterOf 12 = .ok (.aload_n 0, 1) := dk_42 (dk_at dksX3_sitterOf_0 12 rfl rfl)
theorem dX3_sitterOf_13 : decode cX3_sitterOf 13 = .ok (.getfield 28, 3) := dk_180 0 28 (dk_at dksX3_sitterOf_0 13 rfl rfl)
theorem dX3_sitterOf_16 : decode cX3_sitterOf 16 = .ok (.iload_n 2, 1) := dk_28 (dk_at dksX3_sitterOf_0 16 rfl rfl)
theorem dX3_sitterOf_17 : decode cX3_sitterOf 17 = .ok (.iaload, 1) := dk_46 (dk_at dksX3_sitterOf_0 17 rfl rfl)
theorem dX3_sitterOf_18 : decode cX3_sitterOf 18 = .ok (.iload_n 1, 1) := dk_27 (dk_at dksX3_sitterOf_0 18 rfl rfl)
theorem dX3_sitterOf_19 : decode cX3_sitterOf 19 = .ok (.if_icmp .ne 5, 3) := dk_160 0 5 (dk_at dksX3_sitterOf_0 19 rfl rfl)
theorem dX3_sitterOf_22 : decode cX3_sitterOf 22 = .ok (.iload_n 2, 1) := dk_28 (dk_at dksX3_sitterOf_0 22 rfl rfl)
theorem dX3_sitterOf_23 : decode cX3_sitterOf 23 = .ok (.ireturn, 1) := dk_172 (dk_at dksX3_sitterOf_0 23 rfl rfl)
theorem dX3_sitterOf_24 : decode cX3_sitterOf 24 = .ok (.iinc 2 1, 3) := dk_132 2 1 (dk_at dksX3_sitterOf_1 0 rfl rfl)
theorem dX3_sitterOf_27 : decode cX3_sitterOf 27 = .ok (.goto (-25), 3) := dk_167 255 231 (dk_at dksX3_sitterOf_1 3 rfl rfl)
theorem dX3_sitterOf_30 : decode cX3_sitterOf 30 = .ok (.iconst (-1), 1) := dk_2 (dk_at dksX3_sitterOf_1 6 rfl rfl)
theorem dX3_sitterOf_31 : decode cX3_sitterOf 31 = .ok (.ireturn, 1) := dk_172 (dk_at dksX3_sitterOf_1 7 rfl rfl)
abbrev cX3_givesNow : ByteArray := prog_17_method_55_code
def yX3_givesNow : MethodName := ⟨RX3, "givesNow", "(I)I"⟩
def dkwX3_givesNow_0 : List UInt8 := [42, 42, 4, 182, 1, 85, 27, 182, 1, 88, 172]
abbrev dktX3_givesNow_0 : List UInt8 := dkwX3_givesNow_0 ++ []
theorem dksX3_givesNow_0 : cX3_givesNow.data.toList.drop 0 = dktX3_givesNow_0 := by decide +kernel
theorem dX3_givesNow_0 : decode cX3_givesNow 0 = .ok (.aload_n 0, 1) := dk_42 (dk_at dksX3_givesNow_0 0 rfl rfl)
theorem dX3_givesNow_1 : decode cX3_givesNow 1 = .ok (.aload_n 0, 1) := dk_42 (dk_at dksX3_givesNow_0 1 rfl rfl)
theorem dX3_givesNow_2 : decode cX3_givesNow 2 = .ok (.iconst 1, 1) := dk_4 (dk_at dksX3_givesNow_0 2 rfl rfl)
theorem dX3_givesNow_3 : decode cX3_givesNow 3 = .ok (.invokevirtual 341, 3) := dk_182 1 85 (dk_at dksX3_givesNow_0 3 rfl rfl)
theorem dX3_givesNow_6 : decode cX3_givesNow 6 = .ok (.iload_n 1, 1) := dk_27 (dk_at dksX3_givesNow_0 6 rfl rfl)
theorem dX3_givesNow_7 : decode cX3_givesNow 7 = .ok (.invokevirtual 344, 3) := dk_182 1 88 (dk_at dksX3_givesNow_0 7 rfl rfl)
theorem dX3_givesNow_10 : decode cX3_givesNow 10 = .ok (.ireturn, 1) := dk_172 (dk_at dksX3_givesNow_0 10 rfl rfl)
abbrev cX3_those : ByteArray := prog_17_method_51_code
def yX3_those : MethodName := ⟨RX3, "those", "(I)I"⟩
def dkwX3_those_1 : List UInt8 := [160, 0, 9, 4, 29, 120, 167, 0, 4, 3, 128, 61, 132, 3, 1, 167, 255, 223, 28, 172]
abbrev dktX3_those_1 : List UInt8 := dkwX3_those_1 ++ []
def dkwX3_those_0 : List UInt8 := [3, 61, 3, 62, 29, 42, 180, 0, 9, 6, 46, 162, 0, 29, 28, 42, 180, 0, 16, 29, 46, 27]
abbrev dktX3_those_0 : List UInt8 := dkwX3_those_0 ++ dktX3_those_1
theorem dksX3_those_0 : cX3_those.data.toList.drop 0 = dktX3_those_0 := by decide +kernel
theorem dksX3_those_1 : cX3_those.data.toList.drop 22 = dktX3_those_1 := dk_seg dksX3_those_0 22 rfl rfl
theorem dX3_those_0 : decode cX3_those 0 = .ok (.iconst 0, 1) := dk_3 (dk_at dksX3_those_0 0 rfl rfl)
theorem dX3_those_1 : decode cX3_those 1 = .ok (.istore_n 2, 1) := dk_61 (dk_at dksX3_those_0 1 rfl rfl)
theorem dX3_those_2 : decode cX3_those 2 = .ok (.iconst 0, 1) := dk_3 (dk_at dksX3_those_0 2 rfl rfl)
theorem dX3_those_3 : decode cX3_those 3 = .ok (.istore_n 3, 1) := dk_62 (dk_at dksX3_those_0 3 rfl rfl)
theorem dX3_those_4 : decode cX3_those 4 = .ok (.iload_n 3, 1) := dk_29 (dk_at dksX3_those_0 4 rfl rfl)
theorem dX3_those_5 : decode cX3_those 5 = .ok (.aload_n 0, 1) := dk_42 (dk_at dksX3_those_0 5 rfl rfl)
theorem dX3_those_6 : decode cX3_those 6 = .ok (.getfield 9, 3) := dk_180 0 9 (dk_at dksX3_those_0 6 rfl rfl)
theorem dX3_those_9 : decode cX3_those 9 = .ok (.iconst 3, 1) := dk_6 (dk_at dksX3_those_0 9 rfl rfl)
theorem dX3_those_10 : decode cX3_those 10 = .ok (.iaload, 1) := dk_46 (dk_at dksX3_those_0 10 rfl rfl)
theorem dX3_those_11 : decode cX3_those 11 = .ok (.if_icmp .ge 29, 3) := dk_162 0 29 (dk_at dksX3_those_0 11 rfl rfl)
theorem dX3_those_14 : decode cX3_those 14 = .ok (.iload_n 2, 1) := dk_28 (dk_at dksX3_those_0 14 rfl rfl)
theorem dX3_those_15 : decode cX3_those 15 = .ok (.aload_n 0, 1) := dk_42 (dk_at dksX3_those_0 15 rfl rfl)
theorem dX3_those_16 : decode cX3_those 16 = .ok (.getfield 16, 3) := dk_180 0 16 (dk_at dksX3_those_0 16 rfl rfl)
theorem dX3_those_19 : decode cX3_those 19 = .ok (.iload_n 3, 1) := dk_29 (dk_at dksX3_those_0 19 rfl rfl)
theorem dX3_those_20 : decode cX3_those 20 = .ok (.iaload, 1) := dk_46 (dk_at dksX3_those_0 20 rfl rfl)
theorem dX3_those_21 : decode cX3_those 21 = .ok (.iload_n 1, 1) := dk_27 (dk_at dksX3_those_0 21 rfl rfl)
theorem dX3_those_22 : decode cX3_those 22 = .ok (.if_icmp .ne 9, 3) := dk_160 0 9 (dk_at dksX3_those_1 0 rfl rfl)
theorem dX3_those_25 : decode cX3_those 25 = .ok (.iconst 1, 1) := dk_4 (dk_at dksX3_those_1 3 rfl rfl)
theorem dX3_those_26 : decode cX3_those 26 = .ok (.iload_n 3, 1) := dk_29 (dk_at dksX3_those_1 4 rfl rfl)
theorem dX3_those_27 : decode cX3_those 27 = .ok (.ishl, 1) := dk_120 (dk_at dksX3_those_1 5 rfl rfl)
theorem dX3_those_28 : decode cX3_those 28 = .ok (.goto 4, 3) := dk_167 0 4 (dk_at dksX3_those_1 6 rfl rfl)
theorem dX3_those_31 : decode cX3_those 31 = .ok (.iconst 0, 1) := dk_3 (dk_at dksX3_those_1 9 rfl rfl)
theorem dX3_those_32 : decode cX3_those 32 = .ok (.ior, 1) := dk_128 (dk_at dksX3_those_1 10 rfl rfl)
theorem dX3_those_33 : decode cX3_those 33 = .ok (.istore_n 2, 1) := dk_61 (dk_at dksX3_those_1 11 rfl rfl)
theorem dX3_those_34 : decode cX3_those 34 = .ok (.iinc 3 1, 3) := dk_132 3 1 (dk_at dksX3_those_1 12 rfl rfl)
theorem dX3_those_37 : decode cX3_those 37 = .ok (.goto (-33), 3) := dk_167 255 223 (dk_at dksX3_those_1 15 rfl rfl)
theorem dX3_those_40 : decode cX3_those 40 = .ok (.iload_n 2, 1) := dk_28 (dk_at dksX3_those_1 18 rfl rfl)
theorem dX3_those_41 : decode cX3_those 41 = .ok (.ireturn, 1) := dk_172 (dk_at dksX3_those_1 19 rfl rfl)
abbrev cX3_gives : ByteArray := prog_17_method_54_code
def yX3_gives : MethodName := ⟨RX3, "gives", "(II)I"⟩
def dkwX3_gives_2 : List UInt8 := [172]
abbrev dktX3_gives_2 : List UInt8 := dkwX3_gives_2 ++ []
def dkwX3_gives_1 : List UInt8 := [29, 46, 42, 180, 0, 22, 28, 46, 104, 42, 42, 27, 29, 182, 1, 79, 182, 1, 82, 108, 167, 0, 4, 3]
abbrev dktX3_gives_1 : List UInt8 := dkwX3_gives_1 ++ dktX3_gives_2
def dkwX3_gives_0 : List UInt8 := [42, 180, 0, 19, 42, 180, 0, 28, 28, 46, 46, 62, 27, 28, 184, 1, 76, 153, 0, 30, 42, 180, 0, 13]
abbrev dktX3_gives_0 : List UInt8 := dkwX3_gives_0 ++ dktX3_gives_1
theorem dksX3_gives_0 : cX3_gives.data.toList.drop 0 = dktX3_gives_0 := by decide +kernel
theorem dksX3_gives_1 : cX3_gives.data.toList.drop 24 = dktX3_gives_1 := dk_seg dksX3_gives_0 24 rfl rfl
theorem dksX3_gives_2 : cX3_gives.data.toList.drop 48 = dktX3_gives_2 := dk_seg dksX3_gives_1 24 rfl rfl
theorem dX3_gives_0 : decode cX3_gives 0 = .ok (.aload_n 0, 1) := dk_42 (dk_at dksX3_gives_0 0 rfl rfl)
theorem dX3_gives_1 : decode cX3_gives 1 = .ok (.getfield 19, 3) := dk_180 0 19 (dk_at dksX3_gives_0 1 rfl rfl)
theorem dX3_gives_4 : decode cX3_gives 4 = .ok (.aload_n 0, 1) := dk_42 (dk_at dksX3_gives_0 4 rfl rfl)
theorem dX3_gives_5 : decode cX3_gives 5 = .ok (.getfield 28, 3) := dk_180 0 28 (dk_at dksX3_gives_0 5 rfl rfl)
theorem dX3_gives_8 : decode cX3_gives 8 = .ok (.iload_n 2, 1) := dk_28 (dk_at dksX3_gives_0 8 rfl rfl)
theorem dX3_gives_9 : decode cX3_gives 9 = .ok (.iaload, 1) := dk_46 (dk_at dksX3_gives_0 9 rfl rfl)
theorem dX3_gives_10 : decode cX3_gives 10 = .ok (.iaload, 1) := dk_46 (dk_at dksX3_gives_0 10 rfl rfl)
theorem dX3_gives_11 : decode cX3_gives 11 = .ok (.istore_n 3, 1) := dk_62 (dk_at dksX3_gives_0 11 rfl rfl)
theorem dX3_gives_12 : decode cX3_gives 12 = .ok (.iload_n 1, 1) := dk_27 (dk_at dksX3_gives_0 12 rfl rfl)
theorem dX3_gives_13 : decode cX3_gives 13 = .ok (.iload_n 2, 1) := dk_28 (dk_at dksX3_gives_0 13 rfl rfl)
theorem dX3_gives_14 : decode cX3_gives 14 = .ok (.invokestatic 332, 3) := dk_184 1 76 (dk_at dksX3_gives_0 14 rfl rfl)
theorem dX3_gives_17 : decode cX3_gives 17 = .ok (.ifCond .eq 30, 3) := dk_153 0 30 (dk_at dksX3_gives_0 17 rfl rfl)
theorem dX3_gives_20 : decode cX3_gives 20 = .ok (.aload_n 0, 1) := dk_42 (dk_at dksX3_gives_0 20 rfl rfl)
theorem dX3_gives_21 : decode cX3_gives 21 = .ok (.getfield 13, 3) := dk_180 0 13 (dk_at dksX3_gives_0 21 rfl rfl)
theorem dX3_gives_24 : decode cX3_gives 24 = .ok (.iload_n 3, 1) := dk_29 (dk_at dksX3_gives_1 0 rfl rfl)
theorem dX3_gives_25 : decode cX3_gives 25 = .ok (.iaload, 1) := dk_46 (dk_at dksX3_gives_1 1 rfl rfl)
theorem dX3_gives_26 : decode cX3_gives 26 = .ok (.aload_n 0, 1) := dk_42 (dk_at dksX3_gives_1 2 rfl rfl)
theorem dX3_gives_27 : decode cX3_gives 27 = .ok (.getfield 22, 3) := dk_180 0 22 (dk_at dksX3_gives_1 3 rfl rfl)
theorem dX3_gives_30 : decode cX3_gives 30 = .ok (.iload_n 2, 1) := dk_28 (dk_at dksX3_gives_1 6 rfl rfl)
theorem dX3_gives_31 : decode cX3_gives 31 = .ok (.iaload, 1) := dk_46 (dk_at dksX3_gives_1 7 rfl rfl)
theorem dX3_gives_32 : decode cX3_gives 32 = .ok (.imul, 1) := dk_104 (dk_at dksX3_gives_1 8 rfl rfl)
theorem dX3_gives_33 : decode cX3_gives 33 = .ok (.aload_n 0, 1) := dk_42 (dk_at dksX3_gives_1 9 rfl rfl)
theorem dX3_gives_34 : decode cX3_gives 34 = .ok (.aload_n 0, 1) := dk_42 (dk_at dksX3_gives_1 10 rfl rfl)
theorem dX3_gives_35 : decode cX3_gives 35 = .ok (.iload_n 1, 1) := dk_27 (dk_at dksX3_gives_1 11 rfl rfl)
theorem dX3_gives_36 : decode cX3_gives 36 = .ok (.iload_n 3, 1) := dk_29 (dk_at dksX3_gives_1 12 rfl rfl)
theorem dX3_gives_37 : decode cX3_gives 37 = .ok (.invokevirtual 335, 3) := dk_182 1 79 (dk_at dksX3_gives_1 13 rfl rfl)
theorem dX3_gives_40 : decode cX3_gives 40 = .ok (.invokevirtual 338, 3) := dk_182 1 82 (dk_at dksX3_gives_1 16 rfl rfl)
theorem dX3_gives_43 : decode cX3_gives 43 = .ok (.idiv, 1) := dk_108 (dk_at dksX3_gives_1 19 rfl rfl)
theorem dX3_gives_44 : decode cX3_gives 44 = .ok (.goto 4, 3) := dk_167 0 4 (dk_at dksX3_gives_1 20 rfl rfl)
theorem dX3_gives_47 : decode cX3_gives 47 = .ok (.iconst 0, 1) := dk_3 (dk_at dksX3_gives_1 23 rfl rfl)
theorem dX3_gives_48 : decode cX3_gives 48 = .ok (.ireturn, 1) := dk_172 (dk_at dksX3_gives_2 0 rfl rfl)
abbrev cX3_has : ByteArray := prog_17_method_5_code
def yX3_has : MethodName := ⟨RX3, "has", "(II)Z"⟩
def dkwX3_has_0 : List UInt8 := [26, 27, 122, 4, 126, 4, 160, 0, 7, 4, 167, 0, 4, 3, 172]
abbrev dktX3_has_0 : List UInt8 := dkwX3_has_0 ++ []
theorem dksX3_has_0 : cX3_has.data.toList.drop 0 = dktX3_has_0 := by decide +kernel
theorem dX3_has_0 : decode cX3_has 0 = .ok (.iload_n 0, 1) := dk_26 (dk_at dksX3_has_0 0 rfl rfl)
theorem dX3_has_1 : decode cX3_has 1 = .ok (.iload_n 1, 1) := dk_27 (dk_at dksX3_has_0 1 rfl rfl)
theorem dX3_has_2 : decode cX3_has 2 = .ok (.ishr, 1) := dk_122 (dk_at dksX3_has_0 2 rfl rfl)
theorem dX3_has_3 : decode cX3_has 3 = .ok (.iconst 1, 1) := dk_4 (dk_at dksX3_has_0 3 rfl rfl)
theorem dX3_has_4 : decode cX3_has 4 = .ok (.iand, 1) := dk_126 (dk_at dksX3_has_0 4 rfl rfl)
theorem dX3_has_5 : decode cX3_has 5 = .ok (.iconst 1, 1) := dk_4 (dk_at dksX3_has_0 5 rfl rfl)
theorem dX3_has_6 : decode cX3_has 6 = .ok (.if_icmp .ne 7, 3) := dk_160 0 7 (dk_at dksX3_has_0 6 rfl rfl)
theorem dX3_has_9 : decode cX3_has 9 = .ok (.iconst 1, 1) := dk_4 (dk_at dksX3_has_0 9 rfl rfl)
theorem dX3_has_10 : decode cX3_has 10 = .ok (.goto 4, 3) := dk_167 0 4 (dk_at dksX3_has_0 10 rfl rfl)
theorem dX3_has_13 : decode cX3_has 13 = .ok (.iconst 0, 1) := dk_3 (dk_at dksX3_has_0 13 rfl rfl)
theorem dX3_has_14 : decode cX3_has 14 = .ok (.ireturn, 1) := dk_172 (dk_at dksX3_has_0 14 rfl rfl)
abbrev cX3_onStrand : ByteArray := prog_17_method_52_code
def yX3_onStrand : MethodName := ⟨RX3, "onStrand", "(II)I"⟩
def dkwX3_onStrand_2 : List UInt8 := [167, 0, 4, 3, 128, 62, 132, 4, 1, 167, 255, 206, 29, 172]
abbrev dktX3_onStrand_2 : List UInt8 := dkwX3_onStrand_2 ++ []
def dkwX3_onStrand_1 : List UInt8 := [153, 0, 26, 42, 180, 0, 19, 42, 180, 0, 28, 21, 4, 46, 46, 28, 160, 0, 10, 4, 21, 4, 120]
abbrev dktX3_onStrand_1 : List UInt8 := dkwX3_onStrand_1 ++ dktX3_onStrand_2
def dkwX3_onStrand_0 : List UInt8 := [3, 62, 3, 54, 4, 21, 4, 42, 180, 0, 9, 6, 46, 162, 0, 45, 29, 27, 21, 4, 184, 1, 76]
abbrev dktX3_onStrand_0 : List UInt8 := dkwX3_onStrand_0 ++ dktX3_onStrand_1
theorem dksX3_onStrand_0 : cX3_onStrand.data.toList.drop 0 = dktX3_onStrand_0 := by decide +kernel
theorem dksX3_onStrand_1 : cX3_onStrand.data.toList.drop 23 = dktX3_onStrand_1 := dk_seg dksX3_onStrand_0 23 rfl rfl
theorem dksX3_onStrand_2 : cX3_onStrand.data.toList.drop 46 = dktX3_onStrand_2 := dk_seg dksX3_onStrand_1 23 rfl rfl
theorem dX3_onStrand_0 : decode cX3_onStrand 0 = .ok (.iconst 0, 1) := dk_3 (dk_at dksX3_onStrand_0 0 rfl rfl)
theorem dX3_onStrand_1 : decode cX3_onStrand 1 = .ok (.istore_n 3, 1) := dk_62 (dk_at dksX3_onStrand_0 1 rfl rfl)
theorem dX3_onStrand_2 : decode cX3_onStrand 2 = .ok (.iconst 0, 1) := dk_3 (dk_at dksX3_onStrand_0 2 rfl rfl)
theorem dX3_onStrand_3 : decode cX3_onStrand 3 = .ok (.istore 4, 2) := dk_54 4 (dk_at dksX3_onStrand_0 3 rfl rfl)
theorem dX3_onStrand_5 : decode cX3_onStrand 5 = .ok (.iload 4, 2) := dk_21 4 (dk_at dksX3_onStrand_0 5 rfl rfl)
theorem dX3_onStrand_7 : decode cX3_onStrand 7 = .ok (.aload_n 0, 1) := dk_42 (dk_at dksX3_onStrand_0 7 rfl rfl)
theorem dX3_onStrand_8 : decode cX3_onStrand 8 = .ok (.getfield 9, 3) := dk_180 0 9 (dk_at dksX3_onStrand_0 8 rfl rfl)
theorem dX3_onStrand_11 : decode cX3_onStrand 11 = .ok (.iconst 3, 1) := dk_6 (dk_at dksX3_onStrand_0 11 rfl rfl)
theorem dX3_onStrand_12 : decode cX3_onStrand 12 = .ok (.iaload, 1) := dk_46 (dk_at dksX3_onStrand_0 12 rfl rfl)
theorem dX3_onStrand_13 : decode cX3_onStrand 13 = .ok (.if_icmp .ge 45, 3) := dk_162 0 45 (dk_at dksX3_onStrand_0 13 rfl rfl)
theorem dX3_onStrand_16 : decode cX3_onStrand 16 = .ok (.iload_n 3, 1) := dk_29 (dk_at dksX3_onStrand_0 16 rfl rfl)
theorem dX3_onStrand_17 : decode cX3_onStrand 17 = .ok (.iload_n 1, 1) := dk_27 (dk_at dksX3_onStrand_0 17 rfl rfl)
theorem dX3_onStrand_18 : decode cX3_onStrand 18 = .ok (.iload 4, 2) := dk_21 4 (dk_at dksX3_onStrand_0 18 rfl rfl)
theorem dX3_onStrand_20 : decode cX3_onStrand 20 = .ok (.invokestatic 332, 3) := dk_184 1 76 (dk_at dksX3_onStrand_0 20 rfl rfl)
theorem dX3_onStrand_23 : decode cX3_onStrand 23 = .ok (.ifCond .eq 26, 3) := dk_153 0 26 (dk_at dksX3_onStrand_1 0 rfl rfl)
theorem dX3_onStrand_26 : decode cX3_onStrand 26 = .ok (.aload_n 0, 1) := dk_42 (dk_at dksX3_onStrand_1 3 rfl rfl)
theorem dX3_onStrand_27 : decode cX3_onStrand 27 = .ok (.getfield 19, 3) := dk_180 0 19 (dk_at dksX3_onStrand_1 4 rfl rfl)
theorem dX3_onStrand_30 : decode cX3_onStrand 30 = .ok (.aload_n 0, 1) := dk_42 (dk_at dksX3_onStrand_1 7 rfl rfl)
theorem dX3_onStrand_31 : decode cX3_onStrand 31 = .ok (.getfield 28, 3) := dk_180 0 28 (dk_at dksX3_onStrand_1 8 rfl rfl)
theorem dX3_onStrand_34 : decode cX3_onStrand 34 = .ok (.iload 4, 2) := dk_21 4 (dk_at dksX3_onStrand_1 11 rfl rfl)
theorem dX3_onStrand_36 : decode cX3_onStrand 36 = .ok (.iaload, 1) := dk_46 (dk_at dksX3_onStrand_1 13 rfl rfl)
theorem dX3_onStrand_37 : decode cX3_onStrand 37 = .ok (.iaload, 1) := dk_46 (dk_at dksX3_onStrand_1 14 rfl rfl)
theorem dX3_onStrand_38 : decode cX3_onStrand 38 = .ok (.iload_n 2, 1) := dk_28 (dk_at dksX3_onStrand_1 15 rfl rfl)
theorem dX3_onStrand_39 : decode cX3_onStrand 39 = .ok (.if_icmp .ne 10, 3) := dk_160 0 10 (dk_at dksX3_onStrand_1 16 rfl rfl)
theorem dX3_onStrand_42 : decode cX3_onStrand 42 = .ok (.iconst 1, 1) := dk_4 (dk_at dksX3_onStrand_1 19 rfl rfl)
theorem dX3_onStrand_43 : decode cX3_onStrand 43 = .ok (.iload 4, 2) := dk_21 4 (dk_at dksX3_onStrand_1 20 rfl rfl)
theorem dX3_onStrand_45 : decode cX3_onStrand 45 = .ok (.ishl, 1) := dk_120 (dk_at dksX3_onStrand_1 22 rfl rfl)
theorem dX3_onStrand_46 : decode cX3_onStrand 46 = .ok (.goto 4, 3) := dk_167 0 4 (dk_at dksX3_onStrand_2 0 rfl rfl)
theorem dX3_onStrand_49 : decode cX3_onStrand 49 = .ok (.iconst 0, 1) := dk_3 (dk_at dksX3_onStrand_2 3 rfl rfl)
theorem dX3_onStrand_50 : decode cX3_onStrand 50 = .ok (.ior, 1) := dk_128 (dk_at dksX3_onStrand_2 4 rfl rfl)
theorem dX3_onStrand_51 : decode cX3_onStrand 51 = .ok (.istore_n 3, 1) := dk_62 (dk_at dksX3_onStrand_2 5 rfl rfl)
theorem dX3_onStrand_52 : decode cX3_onStrand 52 = .ok (.iinc 4 1, 3) := dk_132 4 1 (dk_at dksX3_onStrand_2 6 rfl rfl)
theorem dX3_onStrand_55 : decode cX3_onStrand 55 = .ok (.goto (-50), 3) := dk_167 255 206 (dk_at dksX3_onStrand_2 9 rfl rfl)
theorem dX3_onStrand_58 : decode cX3_onStrand 58 = .ok (.iload_n 3, 1) := dk_29 (dk_at dksX3_onStrand_2 12 rfl rfl)
theorem dX3_onStrand_59 : decode cX3_onStrand 59 = .ok (.ireturn, 1) := dk_172 (dk_at dksX3_onStrand_2 13 rfl rfl)
abbrev cX3_weightOf : ByteArray := prog_17_method_53_code
def yX3_weightOf : MethodName := ⟨RX3, "weightOf", "(I)I"⟩
def dkwX3_weightOf_1 : List UInt8 := [180, 0, 22, 29, 46, 167, 0, 4, 3, 96, 61, 132, 3, 1, 167, 255, 222, 28, 172]
abbrev dktX3_weightOf_1 : List UInt8 := dkwX3_weightOf_1 ++ []
def dkwX3_weightOf_0 : List UInt8 := [3, 61, 3, 62, 29, 42, 180, 0, 9, 6, 46, 162, 0, 30, 28, 27, 29, 184, 1, 76, 153, 0, 12, 42]
abbrev dktX3_weightOf_0 : List UInt8 := dkwX3_weightOf_0 ++ dktX3_weightOf_1
theorem dksX3_weightOf_0 : cX3_weightOf.data.toList.drop 0 = dktX3_weightOf_0 := by decide +kernel
theorem dksX3_weightOf_1 : cX3_weightOf.data.toList.drop 24 = dktX3_weightOf_1 := dk_seg dksX3_weightOf_0 24 rfl rfl
theorem dX3_weightOf_0 : decode cX3_weightOf 0 = .ok (.iconst 0, 1) := dk_3 (dk_at dksX3_weightOf_0 0 rfl rfl)
theorem dX3_weightOf_1 : decode cX3_weightOf 1 = .ok (.istore_n 2, 1) := dk_61 (dk_at dksX3_weightOf_0 1 rfl rfl)
theorem dX3_weightOf_2 : decode cX3_weightOf 2 = .ok (.iconst 0, 1) := dk_3 (dk_at dksX3_weightOf_0 2 rfl rfl)
theorem dX3_weightOf_3 : decode cX3_weightOf 3 = .ok (.istore_n 3, 1) := dk_62 (dk_at dksX3_weightOf_0 3 rfl rfl)
theorem dX3_weightOf_4 : decode cX3_weightOf 4 = .ok (.iload_n 3, 1) := dk_29 (dk_at dksX3_weightOf_0 4 rfl rfl)
theorem dX3_weightOf_5 : decode cX3_weightOf 5 = .ok (.aload_n 0, 1) := dk_42 (dk_at dksX3_weightOf_0 5 rfl rfl)
theorem dX3_weightOf_6 : decode cX3_weightOf 6 = .ok (.getfield 9, 3) := dk_180 0 9 (dk_at dksX3_weightOf_0 6 rfl rfl)
theorem dX3_weightOf_9 : decode cX3_weightOf 9 = .ok (.iconst 3, 1) := dk_6 (dk_at dksX3_weightOf_0 9 rfl rfl)
theorem dX3_weightOf_10 : decode cX3_weightOf 10 = .ok (.iaload, 1) := dk_46 (dk_at dksX3_weightOf_0 10 rfl rfl)
theorem dX3_weightOf_11 : decode cX3_weightOf 11 = .ok (.if_icmp .ge 30, 3) := dk_162 0 30 (dk_at dksX3_weightOf_0 11 rfl rfl)
theorem dX3_weightOf_14 : decode cX3_weightOf 14 = .ok (.iload_n 2, 1) := dk_28 (dk_at dksX3_weightOf_0 14 rfl rfl)
theorem dX3_weightOf_15 : decode cX3_weightOf 15 = .ok (.iload_n 1, 1) := dk_27 (dk_at dksX3_weightOf_0 15 rfl rfl)
theorem dX3_weightOf_16 : decode cX3_weightOf 16 = .ok (.iload_n 3, 1) := dk_29 (dk_at dksX3_weightOf_0 16 rfl rfl)
theorem dX3_weightOf_17 : decode cX3_weightOf 17 = .ok (.invokestatic 332, 3) := dk_184 1 76 (dk_at dksX3_weightOf_0 17 rfl rfl)
theorem dX3_weightOf_20 : decode cX3_weightOf 20 = .ok (.ifCond .eq 12, 3) := dk_153 0 12 (dk_at dksX3_weightOf_0 20 rfl rfl)
theorem dX3_weightOf_23 : decode cX3_weightOf 23 = .ok (.aload_n 0, 1) := dk_42 (dk_at dksX3_weightOf_0 23 rfl rfl)
theorem dX3_weightOf_24 : decode cX3_weightOf 24 = .ok (.getfield 22, 3) := dk_180 0 22 (dk_at dksX3_weightOf_1 0 rfl rfl)
theorem dX3_weightOf_27 : decode cX3_weightOf 27 = .ok (.iload_n 3, 1) := dk_29 (dk_at dksX3_weightOf_1 3 rfl rfl)
theorem dX3_weightOf_28 : decode cX3_weightOf 28 = .ok (.iaload, 1) := dk_46 (dk_at dksX3_weightOf_1 4 rfl rfl)
theorem dX3_weightOf_29 : decode cX3_weightOf 29 = .ok (.goto 4, 3) := dk_167 0 4 (dk_at dksX3_weightOf_1 5 rfl rfl)
theorem dX3_weightOf_32 : decode cX3_weightOf 32 = .ok (.iconst 0, 1) := dk_3 (dk_at dksX3_weightOf_1 8 rfl rfl)
theorem dX3_weightOf_33 : decode cX3_weightOf 33 = .ok (.iadd, 1) := dk_96 (dk_at dksX3_weightOf_1 9 rfl rfl)
theorem dX3_weightOf_34 : decode cX3_weightOf 34 = .ok (.istore_n 2, 1) := dk_61 (dk_at dksX3_weightOf_1 10 rfl rfl)
theorem dX3_weightOf_35 : decode cX3_weightOf 35 = .ok (.iinc 3 1, 3) := dk_132 3 1 (dk_at dksX3_weightOf_1 11 rfl rfl)
theorem dX3_weightOf_38 : decode cX3_weightOf 38 = .ok (.goto (-34), 3) := dk_167 255 222 (dk_at dksX3_weightOf_1 14 rfl rfl)
theorem dX3_weightOf_41 : decode cX3_weightOf 41 = .ok (.iload_n 2, 1) := dk_28 (dk_at dksX3_weightOf_1 17 rfl rfl)
theorem dX3_weightOf_42 : decode cX3_weightOf 42 = .ok (.ireturn, 1) := dk_172 (dk_at dksX3_weightOf_1 18 rfl rfl)
abbrev cX3_sitter : ByteArray := prog_17_method_59_code
def yX3_sitter : MethodName := ⟨RX3, "sitter", "(II)I"⟩
def dkwX3_sitter_2 : List UInt8 := [167, 0, 9, 42, 180, 0, 16, 27, 46, 172]
abbrev dktX3_sitter_2 : List UInt8 := dkwX3_sitter_2 ++ []
def dkwX3_sitter_1 : List UInt8 := [154, 0, 12, 42, 180, 0, 28, 27, 46, 167, 0, 23, 28, 4, 160, 0, 12, 42, 180, 0, 22, 27, 46]
abbrev dktX3_sitter_1 : List UInt8 := dkwX3_sitter_1 ++ dktX3_sitter_2
def dkwX3_sitter_0 : List UInt8 := [42, 27, 182, 1, 106, 153, 0, 15, 28, 133, 9, 20, 1, 109, 184, 0, 131, 154, 0, 5, 2, 172, 28]
abbrev dktX3_sitter_0 : List UInt8 := dkwX3_sitter_0 ++ dktX3_sitter_1
theorem dksX3_sitter_0 : cX3_sitter.data.toList.drop 0 = dktX3_sitter_0 := by decide +kernel
theorem dksX3_sitter_1 : cX3_sitter.data.toList.drop 23 = dktX3_sitter_1 := dk_seg dksX3_sitter_0 23 rfl rfl
theorem dksX3_sitter_2 : cX3_sitter.data.toList.drop 46 = dktX3_sitter_2 := dk_seg dksX3_sitter_1 23 rfl rfl
theorem dX3_sitter_0 : decode cX3_sitter 0 = .ok (.aload_n 0, 1) := dk_42 (dk_at dksX3_sitter_0 0 rfl rfl)
theorem dX3_sitter_1 : decode cX3_sitter 1 = .ok (.iload_n 1, 1) := dk_27 (dk_at dksX3_sitter_0 1 rfl rfl)
theorem dX3_sitter_2 : decode cX3_sitter 2 = .ok (.invokevirtual 362, 3) := dk_182 1 106 (dk_at dksX3_sitter_0 2 rfl rfl)
theorem dX3_sitter_5 : decode cX3_sitter 5 = .ok (.ifCond .eq 15, 3) := dk_153 0 15 (dk_at dksX3_sitter_0 5 rfl rfl)
theorem dX3_sitter_8 : decode cX3_sitter 8 = .ok (.iload_n 2, 1) := dk_28 (dk_at dksX3_sitter_0 8 rfl rfl)
theorem dX3_sitter_9 : decode cX3_sitter 9 = .ok (.i2l, 1) := dk_133 (dk_at dksX3_sitter_0 9 rfl rfl)
theorem dX3_sitter_10 : decode cX3_sitter 10 = .ok (.lconst 0, 1) := dk_9 (dk_at dksX3_sitter_0 10 rfl rfl)
theorem dX3_sitter_11 : decode cX3_sitter 11 = .ok (.ldc2_w 365, 3) := dk_20 1 109 (dk_at dksX3_sitter_0 11 rfl rfl)
theorem dX3_sitter_14 : decode cX3_sitter 14 = .ok (.invokestatic 131, 3) := dk_184 0 131 (dk_at dksX3_sitter_0 14 rfl rfl)
theorem dX3_sitter_17 : decode cX3_sitter 17 = .ok (.ifCond .ne 5, 3) := dk_154 0 5 (dk_at dksX3_sitter_0 17 rfl rfl)
theorem dX3_sitter_20 : decode cX3_sitter 20 = .ok (.iconst (-1), 1) := dk_2 (dk_at dksX3_sitter_0 20 rfl rfl)
theorem dX3_sitter_21 : decode cX3_sitter 21 = .ok (.ireturn, 1) := dk_172 (dk_at dksX3_sitter_0 21 rfl rfl)
theorem dX3_sitter_22 : decode cX3_sitter 22 = .ok (.iload_n 2, 1) := dk_28 (dk_at dksX3_sitter_0 22 rfl rfl)
theorem dX3_sitter_23 : decode cX3_sitter 23 = .ok (.ifCond .ne 12, 3) := dk_154 0 12 (dk_at dksX3_sitter_1 0 rfl rfl)
theorem dX3_sitter_26 : decode cX3_sitter 26 = .ok (.aload_n 0, 1) := dk_42 (dk_at dksX3_sitter_1 3 rfl rfl)
theorem dX3_sitter_27 : decode cX3_sitter 27 = .ok (.getfield 28, 3) := dk_180 0 28 (dk_at dksX3_sitter_1 4 rfl rfl)
theorem dX3_sitter_30 : decode cX3_sitter 30 = .ok (.iload_n 1, 1) := dk_27 (dk_at dksX3_sitter_1 7 rfl rfl)
theorem dX3_sitter_31 : decode cX3_sitter 31 = .ok (.iaload, 1) := dk_46 (dk_at dksX3_sitter_1 8 rfl rfl)
theorem dX3_sitter_32 : decode cX3_sitter 32 = .ok (.goto 23, 3) := dk_167 0 23 (dk_at dksX3_sitter_1 9 rfl rfl)
theorem dX3_sitter_35 : decode cX3_sitter 35 = .ok (.iload_n 2, 1) := dk_28 (dk_at dksX3_sitter_1 12 rfl rfl)
theorem dX3_sitter_36 : decode cX3_sitter 36 = .ok (.iconst 1, 1) := dk_4 (dk_at dksX3_sitter_1 13 rfl rfl)
theorem dX3_sitter_37 : decode cX3_sitter 37 = .ok (.if_icmp .ne 12, 3) := dk_160 0 12 (dk_at dksX3_sitter_1 14 rfl rfl)
theorem dX3_sitter_40 : decode cX3_sitter 40 = .ok (.aload_n 0, 1) := dk_42 (dk_at dksX3_sitter_1 17 rfl rfl)
theorem dX3_sitter_41 : decode cX3_sitter 41 = .ok (.getfield 22, 3) := dk_180 0 22 (dk_at dksX3_sitter_1 18 rfl rfl)
theorem dX3_sitter_44 : decode cX3_sitter 44 = .ok (.iload_n 1, 1) := dk_27 (dk_at dksX3_sitter_1 21 rfl rfl)
theorem dX3_sitter_45 : decode cX3_sitter 45 = .ok (.iaload, 1) := dk_46 (dk_at dksX3_sitter_1 22 rfl rfl)
theorem dX3_sitter_46 : decode cX3_sitter 46 = .ok (.goto 9, 3) := dk_167 0 9 (dk_at dksX3_sitter_2 0 rfl rfl)
theorem dX3_sitter_49 : decode cX3_sitter 49 = .ok (.aload_n 0, 1) := dk_42 (dk_at dksX3_sitter_2 3 rfl rfl)
theorem dX3_sitter_50 : decode cX3_sitter 50 = .ok (.getfield 16, 3) := dk_180 0 16 (dk_at dksX3_sitter_2 4 rfl rfl)
theorem dX3_sitter_53 : decode cX3_sitter 53 = .ok (.iload_n 1, 1) := dk_27 (dk_at dksX3_sitter_2 7 rfl rfl)
theorem dX3_sitter_54 : decode cX3_sitter 54 = .ok (.iaload, 1) := dk_46 (dk_at dksX3_sitter_2 8 rfl rfl)
theorem dX3_sitter_55 : decode cX3_sitter 55 = .ok (.ireturn, 1) := dk_172 (dk_at dksX3_sitter_2 9 rfl rfl)
abbrev cX3_isSitter : ByteArray := prog_17_method_9_code
def yX3_isSitter : MethodName := ⟨RX3, "isSitter", "(I)Z"⟩
def dkwX3_isSitter_0 : List UInt8 := [27, 133, 9, 42, 180, 0, 9, 6, 46, 4, 100, 133, 184, 0, 131, 172]
abbrev dktX3_isSitter_0 : List UInt8 := dkwX3_isSitter_0 ++ []
theorem dksX3_isSitter_0 : cX3_isSitter.data.toList.drop 0 = dktX3_isSitter_0 := by decide +kernel
theorem dX3_isSitter_0 : decode cX3_isSitter 0 = .ok (.iload_n 1, 1) := dk_27 (dk_at dksX3_isSitter_0 0 rfl rfl)
theorem dX3_isSitter_1 : decode cX3_isSitter 1 = .ok (.i2l, 1) := dk_133 (dk_at dksX3_isSitter_0 1 rfl rfl)
theorem dX3_isSitter_2 : decode cX3_isSitter 2 = .ok (.lconst 0, 1) := dk_9 (dk_at dksX3_isSitter_0 2 rfl rfl)
theorem dX3_isSitter_3 : decode cX3_isSitter 3 = .ok (.aload_n 0, 1) := dk_42 (dk_at dksX3_isSitter_0 3 rfl rfl)
theorem dX3_isSitter_4 : decode cX3_isSitter 4 = .ok (.getfield 9, 3) := dk_180 0 9 (dk_at dksX3_isSitter_0 4 rfl rfl)
theorem dX3_isSitter_7 : decode cX3_isSitter 7 = .ok (.iconst 3, 1) := dk_6 (dk_at dksX3_isSitter_0 7 rfl rfl)
theorem dX3_isSitter_8 : decode cX3_isSitter 8 = .ok (.iaload, 1) := dk_46 (dk_at dksX3_isSitter_0 8 rfl rfl)
theorem dX3_isSitter_9 : decode cX3_isSitter 9 = .ok (.iconst 1, 1) := dk_4 (dk_at dksX3_isSitter_0 9 rfl rfl)
theorem dX3_isSitter_10 : decode cX3_isSitter 10 = .ok (.isub, 1) := dk_100 (dk_at dksX3_isSitter_0 10 rfl rfl)
theorem dX3_isSitter_11 : decode cX3_isSitter 11 = .ok (.i2l, 1) := dk_133 (dk_at dksX3_isSitter_0 11 rfl rfl)
theorem dX3_isSitter_12 : decode cX3_isSitter 12 = .ok (.invokestatic 131, 3) := dk_184 0 131 (dk_at dksX3_isSitter_0 12 rfl rfl)
theorem dX3_isSitter_15 : decode cX3_isSitter 15 = .ok (.ireturn, 1) := dk_172 (dk_at dksX3_isSitter_0 15 rfl rfl)
abbrev cX3_undo : ByteArray := prog_17_method_69_code
def yX3_undo : MethodName := ⟨RX3, "undo", "()I"⟩
def dkwX3_undo_1 : List UInt8 := [180, 1, 43, 4, 182, 1, 144, 42, 180, 1, 43, 172]
abbrev dktX3_undo_1 : List UInt8 := dkwX3_undo_1 ++ []
def dkwX3_undo_0 : List UInt8 := [42, 180, 1, 43, 154, 0, 6, 16, 254, 172, 42, 89, 180, 1, 43, 4, 100, 181, 1, 43, 42, 42]
abbrev dktX3_undo_0 : List UInt8 := dkwX3_undo_0 ++ dktX3_undo_1
theorem dksX3_undo_0 : cX3_undo.data.toList.drop 0 = dktX3_undo_0 := by decide +kernel
theorem dksX3_undo_1 : cX3_undo.data.toList.drop 22 = dktX3_undo_1 := dk_seg dksX3_undo_0 22 rfl rfl
theorem dX3_undo_0 : decode cX3_undo 0 = .ok (.aload_n 0, 1) := dk_42 (dk_at dksX3_undo_0 0 rfl rfl)
theorem dX3_undo_1 : decode cX3_undo 1 = .ok (.getfield 299, 3) := dk_180 1 43 (dk_at dksX3_undo_0 1 rfl rfl)
theorem dX3_undo_4 : decode cX3_undo 4 = .ok (.ifCond .ne 6, 3) := dk_154 0 6 (dk_at dksX3_undo_0 4 rfl rfl)
theorem dX3_undo_7 : decode cX3_undo 7 = .ok (.bipush (-2), 2) := dk_16 254 (dk_at dksX3_undo_0 7 rfl rfl)
theorem dX3_undo_9 : decode cX3_undo 9 = .ok (.ireturn, 1) := dk_172 (dk_at dksX3_undo_0 9 rfl rfl)
theorem dX3_undo_10 : decode cX3_undo 10 = .ok (.aload_n 0, 1) := dk_42 (dk_at dksX3_undo_0 10 rfl rfl)
theorem dX3_undo_11 : decode cX3_undo 11 = .ok (.dup, 1) := dk_89 (dk_at dksX3_undo_0 11 rfl rfl)
theorem dX3_undo_12 : decode cX3_undo 12 = .ok (.getfield 299, 3) := dk_180 1 43 (dk_at dksX3_undo_0 12 rfl rfl)
theorem dX3_undo_15 : decode cX3_undo 15 = .ok (.iconst 1, 1) := dk_4 (dk_at dksX3_undo_0 15 rfl rfl)
theorem dX3_undo_16 : decode cX3_undo 16 = .ok (.isub, 1) := dk_100 (dk_at dksX3_undo_0 16 rfl rfl)
theorem dX3_undo_17 : decode cX3_undo 17 = .ok (.putfield 299, 3) := dk_181 1 43 (dk_at dksX3_undo_0 17 rfl rfl)
theorem dX3_undo_20 : decode cX3_undo 20 = .ok (.aload_n 0, 1) := dk_42 (dk_at dksX3_undo_0 20 rfl rfl)
theorem dX3_undo_21 : decode cX3_undo 21 = .ok (.aload_n 0, 1) := dk_42 (dk_at dksX3_undo_0 21 rfl rfl)
theorem dX3_undo_22 : decode cX3_undo 22 = .ok (.getfield 299, 3) := dk_180 1 43 (dk_at dksX3_undo_1 0 rfl rfl)
theorem dX3_undo_25 : decode cX3_undo 25 = .ok (.iconst 1, 1) := dk_4 (dk_at dksX3_undo_1 3 rfl rfl)
theorem dX3_undo_26 : decode cX3_undo 26 = .ok (.invokevirtual 400, 3) := dk_182 1 144 (dk_at dksX3_undo_1 4 rfl rfl)
theorem dX3_undo_29 : decode cX3_undo 29 = .ok (.aload_n 0, 1) := dk_42 (dk_at dksX3_undo_1 7 rfl rfl)
theorem dX3_undo_30 : decode cX3_undo 30 = .ok (.getfield 299, 3) := dk_180 1 43 (dk_at dksX3_undo_1 8 rfl rfl)
theorem dX3_undo_33 : decode cX3_undo 33 = .ok (.ireturn, 1) := dk_172 (dk_at dksX3_undo_1 11 rfl rfl)
abbrev cX3_movesAll : ByteArray := prog_17_method_67_code
def yX3_movesAll : MethodName := ⟨RX3, "movesAll", "(IZ)V"⟩
def dkwX3_movesAll_1 : List UInt8 := [46, 182, 1, 137, 79, 42, 42, 180, 0, 13, 182, 1, 140, 42, 42, 180, 0, 16, 182, 1, 140, 177]
abbrev dktX3_movesAll_1 : List UInt8 := dkwX3_movesAll_1 ++ []
def dkwX3_movesAll_0 : List UInt8 := [42, 16, 13, 27, 104, 181, 1, 134, 42, 28, 181, 1, 130, 42, 180, 0, 9, 7, 42, 42, 180, 0, 9, 7]
abbrev dktX3_movesAll_0 : List UInt8 := dkwX3_movesAll_0 ++ dktX3_movesAll_1
theorem dksX3_movesAll_0 : cX3_movesAll.data.toList.drop 0 = dktX3_movesAll_0 := by decide +kernel
theorem dksX3_movesAll_1 : cX3_movesAll.data.toList.drop 24 = dktX3_movesAll_1 := dk_seg dksX3_movesAll_0 24 rfl rfl
theorem dX3_movesAll_0 : decode cX3_movesAll 0 = .ok (.aload_n 0, 1) := dk_42 (dk_at dksX3_movesAll_0 0 rfl rfl)
theorem dX3_movesAll_1 : decode cX3_movesAll 1 = .ok (.bipush 13, 2) := dk_16 13 (dk_at dksX3_movesAll_0 1 rfl rfl)
theorem dX3_movesAll_3 : decode cX3_movesAll 3 = .ok (.iload_n 1, 1) := dk_27 (dk_at dksX3_movesAll_0 3 rfl rfl)
theorem dX3_movesAll_4 : decode cX3_movesAll 4 = .ok (.imul, 1) := dk_104 (dk_at dksX3_movesAll_0 4 rfl rfl)
theorem dX3_movesAll_5 : decode cX3_movesAll 5 = .ok (.putfield 390, 3) := dk_181 1 134 (dk_at dksX3_movesAll_0 5 rfl rfl)
theorem dX3_movesAll_8 : decode cX3_movesAll 8 = .ok (.aload_n 0, 1) := dk_42 (dk_at dksX3_movesAll_0 8 rfl rfl)
theorem dX3_movesAll_9 : decode cX3_movesAll 9 = .ok (.iload_n 2, 1) := dk_28 (dk_at dksX3_movesAll_0 9 rfl rfl)
theorem dX3_movesAll_10 : decode cX3_movesAll 10 = .ok (.putfield 386, 3) := dk_181 1 130 (dk_at dksX3_movesAll_0 10 rfl rfl)
theorem dX3_movesAll_13 : decode cX3_movesAll 13 = .ok (.aload_n 0, 1) := dk_42 (dk_at dksX3_movesAll_0 13 rfl rfl)
theorem dX3_movesAll_14 : decode cX3_movesAll 14 = .ok (.getfield 9, 3) := dk_180 0 9 (dk_at dksX3_movesAll_0 14 rfl rfl)
theorem dX3_movesAll_17 : decode cX3_movesAll 17 = .ok (.iconst 4, 1) := dk_7 (dk_at dksX3_movesAll_0 17 rfl rfl)
theorem dX3_movesAll_18 : decode cX3_movesAll 18 = .ok (.aload_n 0, 1) := dk_42 (dk_at dksX3_movesAll_0 18 rfl rfl)
theorem dX3_movesAll_19 : decode cX3_movesAll 19 = .ok (.aload_n 0, 1) := dk_42 (dk_at dksX3_movesAll_0 19 rfl rfl)
theorem dX3_movesAll_20 : decode cX3_movesAll 20 = .ok (.getfield 9, 3) := dk_180 0 9 (dk_at dksX3_movesAll_0 20 rfl rfl)
theorem dX3_movesAll_23 : decode cX3_movesAll 23 = .ok (.iconst 4, 1) := dk_7 (dk_at dksX3_movesAll_0 23 rfl rfl)
theorem dX3_movesAll_24 : decode cX3_movesAll 24 = .ok (.iaload, 1) := dk_46 (dk_at dksX3_movesAll_1 0 rfl rfl)
theorem dX3_movesAll_25 : decode cX3_movesAll 25 = .ok (.invokevirtual 393, 3) := dk_182 1 137 (dk_at dksX3_movesAll_1 1 rfl rfl)
theorem dX3_movesAll_28 : decode cX3_movesAll 28 = .ok (.iastore, 1) := dk_79 (dk_at dksX3_movesAll_1 4 rfl rfl)
theorem dX3_movesAll_29 : decode cX3_movesAll 29 = .ok (.aload_n 0, 1) := dk_42 (dk_at dksX3_movesAll_1 5 rfl rfl)
theorem dX3_movesAll_30 : decode cX3_movesAll 30 = .ok (.aload_n 0, 1) := dk_42 (dk_at dksX3_movesAll_1 6 rfl rfl)
theorem dX3_movesAll_31 : decode cX3_movesAll 31 = .ok (.getfield 13, 3) := dk_180 0 13 (dk_at dksX3_movesAll_1 7 rfl rfl)
theorem dX3_movesAll_34 : decode cX3_movesAll 34 = .ok (.invokevirtual 396, 3) := dk_182 1 140 (dk_at dksX3_movesAll_1 10 rfl rfl)
theorem dX3_movesAll_37 : decode cX3_movesAll 37 = .ok (.aload_n 0, 1) := dk_42 (dk_at dksX3_movesAll_1 13 rfl rfl)
theorem dX3_movesAll_38 : decode cX3_movesAll 38 = .ok (.aload_n 0, 1) := dk_42 (dk_at dksX3_movesAll_1 14 rfl rfl)
theorem dX3_movesAll_39 : decode cX3_movesAll 39 = .ok (.getfield 16, 3) := dk_180 0 16 (dk_at dksX3_movesAll_1 15 rfl rfl)
theorem dX3_movesAll_42 : decode cX3_movesAll 42 = .ok (.invokevirtual 396, 3) := dk_182 1 140 (dk_at dksX3_movesAll_1 18 rfl rfl)
theorem dX3_movesAll_45 : decode cX3_movesAll 45 = .ok (.return_, 1) := dk_177 (dk_at dksX3_movesAll_1 21 rfl rfl)
abbrev cX3_moves : ByteArray := prog_17_method_65_code
def yX3_moves : MethodName := ⟨RX3, "moves", "(I)I"⟩
def dkwX3_moves_1 : List UInt8 := [180, 0, 100, 42, 180, 1, 134, 28, 79, 42, 89, 180, 1, 134, 4, 96, 181, 1, 134, 28, 172]
abbrev dktX3_moves_1 : List UInt8 := dkwX3_moves_1 ++ []
def dkwX3_moves_0 : List UInt8 := [42, 180, 1, 130, 153, 0, 15, 42, 180, 0, 100, 42, 180, 1, 134, 46, 167, 0, 4, 27, 61, 42]
abbrev dktX3_moves_0 : List UInt8 := dkwX3_moves_0 ++ dktX3_moves_1
theorem dksX3_moves_0 : cX3_moves.data.toList.drop 0 = dktX3_moves_0 := by decide +kernel
theorem dksX3_moves_1 : cX3_moves.data.toList.drop 22 = dktX3_moves_1 := dk_seg dksX3_moves_0 22 rfl rfl
theorem dX3_moves_0 : decode cX3_moves 0 = .ok (.aload_n 0, 1) := dk_42 (dk_at dksX3_moves_0 0 rfl rfl)
theorem dX3_moves_1 : decode cX3_moves 1 = .ok (.getfield 386, 3) := dk_180 1 130 (dk_at dksX3_moves_0 1 rfl rfl)
theorem dX3_moves_4 : decode cX3_moves 4 = .ok (.ifCond .eq 15, 3) := dk_153 0 15 (dk_at dksX3_moves_0 4 rfl rfl)
theorem dX3_moves_7 : decode cX3_moves 7 = .ok (.aload_n 0, 1) := dk_42 (dk_at dksX3_moves_0 7 rfl rfl)
theorem dX3_moves_8 : decode cX3_moves 8 = .ok (.getfield 100, 3) := dk_180 0 100 (dk_at dksX3_moves_0 8 rfl rfl)
theorem dX3_moves_11 : decode cX3_moves 11 = .ok (.aload_n 0, 1) := dk_42 (dk_at dksX3_moves_0 11 rfl rfl)
theorem dX3_moves_12 : decode cX3_moves 12 = .ok (.getfield 390, 3) := dk_180 1 134 (dk_at dksX3_moves_0 12 rfl rfl)
theorem dX3_moves_15 : decode cX3_moves 15 = .ok (.iaload, 1) := dk_46 (dk_at dksX3_moves_0 15 rfl rfl)
theorem dX3_moves_16 : decode cX3_moves 16 = .ok (.goto 4, 3) := dk_167 0 4 (dk_at dksX3_moves_0 16 rfl rfl)
theorem dX3_moves_19 : decode cX3_moves 19 = .ok (.iload_n 1, 1) := dk_27 (dk_at dksX3_moves_0 19 rfl rfl)
theorem dX3_moves_20 : decode cX3_moves 20 = .ok (.istore_n 2, 1) := dk_61 (dk_at dksX3_moves_0 20 rfl rfl)
theorem dX3_moves_21 : decode cX3_moves 21 = .ok (.aload_n 0, 1) := dk_42 (dk_at dksX3_moves_0 21 rfl rfl)
theorem dX3_moves_22 : decode cX3_moves 22 = .ok (.getfield 100, 3) := dk_180 0 100 (dk_at dksX3_moves_1 0 rfl rfl)
theorem dX3_moves_25 : decode cX3_moves 25 = .ok (.aload_n 0, 1) := dk_42 (dk_at dksX3_moves_1 3 rfl rfl)
theorem dX3_moves_26 : decode cX3_moves 26 = .ok (.getfield 390, 3) := dk_180 1 134 (dk_at dksX3_moves_1 4 rfl rfl)
theorem dX3_moves_29 : decode cX3_moves 29 = .ok (.iload_n 2, 1) := dk_28 (dk_at dksX3_moves_1 7 rfl rfl)
theorem dX3_moves_30 : decode cX3_moves 30 = .ok (.iastore, 1) := dk_79 (dk_at dksX3_moves_1 8 rfl rfl)
theorem dX3_moves_31 : decode cX3_moves 31 = .ok (.aload_n 0, 1) := dk_42 (dk_at dksX3_moves_1 9 rfl rfl)
theorem dX3_moves_32 : decode cX3_moves 32 = .ok (.dup, 1) := dk_89 (dk_at dksX3_moves_1 10 rfl rfl)
theorem dX3_moves_33 : decode cX3_moves 33 = .ok (.getfield 390, 3) := dk_180 1 134 (dk_at dksX3_moves_1 11 rfl rfl)
theorem dX3_moves_36 : decode cX3_moves 36 = .ok (.iconst 1, 1) := dk_4 (dk_at dksX3_moves_1 14 rfl rfl)
theorem dX3_moves_37 : decode cX3_moves 37 = .ok (.iadd, 1) := dk_96 (dk_at dksX3_moves_1 15 rfl rfl)
theorem dX3_moves_38 : decode cX3_moves 38 = .ok (.putfield 390, 3) := dk_181 1 134 (dk_at dksX3_moves_1 16 rfl rfl)
theorem dX3_moves_41 : decode cX3_moves 41 = .ok (.iload_n 2, 1) := dk_28 (dk_at dksX3_moves_1 19 rfl rfl)
theorem dX3_moves_42 : decode cX3_moves 42 = .ok (.ireturn, 1) := dk_172 (dk_at dksX3_moves_1 20 rfl rfl)
abbrev cX3_movesRow : ByteArray := prog_17_method_66_code
def yX3_movesRow : MethodName := ⟨RX3, "movesRow", "([I)V"⟩
def dkwX3_movesRow_1 : List UInt8 := [177]
abbrev dktX3_movesRow_1 : List UInt8 := dkwX3_movesRow_1 ++ []
def dkwX3_movesRow_0 : List UInt8 := [3, 61, 28, 43, 190, 162, 0, 19, 43, 28, 42, 43, 28, 46, 182, 1, 137, 79, 132, 2, 1, 167, 255, 237]
abbrev dktX3_movesRow_0 : List UInt8 := dkwX3_movesRow_0 ++ dktX3_movesRow_1
theorem dksX3_movesRow_0 : cX3_movesRow.data.toList.drop 0 = dktX3_movesRow_0 := by decide +kernel
theorem dksX3_movesRow_1 : cX3_movesRow.data.toList.drop 24 = dktX3_movesRow_1 := dk_seg dksX3_movesRow_0 24 rfl rfl
theorem dX3_movesRow_0 : decode cX3_movesRow 0 = .ok (.iconst 0, 1) := dk_3 (dk_at dksX3_movesRow_0 0 rfl rfl)
theorem dX3_movesRow_1 : decode cX3_movesRow 1 = .ok (.istore_n 2, 1) := dk_61 (dk_at dksX3_movesRow_0 1 rfl rfl)
theorem dX3_movesRow_2 : decode cX3_movesRow 2 = .ok (.iload_n 2, 1) := dk_28 (dk_at dksX3_movesRow_0 2 rfl rfl)
theorem dX3_movesRow_3 : decode cX3_movesRow 3 = .ok (.aload_n 1, 1) := dk_43 (dk_at dksX3_movesRow_0 3 rfl rfl)
theorem dX3_movesRow_4 : decode cX3_movesRow 4 = .ok (.arraylength, 1) := dk_190 (dk_at dksX3_movesRow_0 4 rfl rfl)
theorem dX3_movesRow_5 : decode cX3_movesRow 5 = .ok (.if_icmp .ge 19, 3) := dk_162 0 19 (dk_at dksX3_movesRow_0 5 rfl rfl)
theorem dX3_movesRow_8 : decode cX3_movesRow 8 = .ok (.aload_n 1, 1) := dk_43 (dk_at dksX3_movesRow_0 8 rfl rfl)
theorem dX3_movesRow_9 : decode cX3_movesRow 9 = .ok (.iload_n 2, 1) := dk_28 (dk_at dksX3_movesRow_0 9 rfl rfl)
theorem dX3_movesRow_10 : decode cX3_movesRow 10 = .ok (.aload_n 0, 1) := dk_42 (dk_at dksX3_movesRow_0 10 rfl rfl)
theorem dX3_movesRow_11 : decode cX3_movesRow 11 = .ok (.aload_n 1, 1) := dk_43 (dk_at dksX3_movesRow_0 11 rfl rfl)
theorem dX3_movesRow_12 : decode cX3_movesRow 12 = .ok (.iload_n 2, 1) := dk_28 (dk_at dksX3_movesRow_0 12 rfl rfl)
theorem dX3_movesRow_13 : decode cX3_movesRow 13 = .ok (.iaload, 1) := dk_46 (dk_at dksX3_movesRow_0 13 rfl rfl)
theorem dX3_movesRow_14 : decode cX3_movesRow 14 = .ok (.invokevirtual 393, 3) := dk_182 1 137 (dk_at dksX3_movesRow_0 14 rfl rfl)
theorem dX3_movesRow_17 : decode cX3_movesRow 17 = .ok (.iastore, 1) := dk_79 (dk_at dksX3_movesRow_0 17 rfl rfl)
theorem dX3_movesRow_18 : decode cX3_movesRow 18 = .ok (.iinc 2 1, 3) := dk_132 2 1 (dk_at dksX3_movesRow_0 18 rfl rfl)
theorem dX3_movesRow_21 : decode cX3_movesRow 21 = .ok (.goto (-19), 3) := dk_167 255 237 (dk_at dksX3_movesRow_0 21 rfl rfl)
theorem dX3_movesRow_24 : decode cX3_movesRow 24 = .ok (.return_, 1) := dk_177 (dk_at dksX3_movesRow_1 0 rfl rfl)
abbrev cX3_minute : ByteArray := prog_17_method_70_code
def yX3_minute : MethodName := ⟨RX3, "minute", "()I"⟩
def dkwX3_minute_1 : List UInt8 := [182, 1, 151, 42, 182, 1, 127, 172]
abbrev dktX3_minute_1 : List UInt8 := dkwX3_minute_1 ++ []
def dkwX3_minute_0 : List UInt8 := [42, 182, 1, 148, 153, 0, 15, 42, 180, 0, 9, 7, 46, 17, 3, 231, 160, 0, 5, 2, 172, 42]
abbrev dktX3_minute_0 : List UInt8 := dkwX3_minute_0 ++ dktX3_minute_1
theorem dksX3_minute_0 : cX3_minute.data.toList.drop 0 = dktX3_minute_0 := by decide +kernel
theorem dksX3_minute_1 : cX3_minute.data.toList.drop 22 = dktX3_minute_1 := dk_seg dksX3_minute_0 22 rfl rfl
theorem dX3_minute_0 : decode cX3_minute 0 = .ok (.aload_n 0, 1) := dk_42 (dk_at dksX3_minute_0 0 rfl rfl)
theorem dX3_minute_1 : decode cX3_minute 1 = .ok (.invokevirtual 404, 3) := dk_182 1 148 (dk_at dksX3_minute_0 1 rfl rfl)
theorem dX3_minute_4 : decode cX3_minute 4 = .ok (.ifCond .eq 15, 3) := dk_153 0 15 (dk_at dksX3_minute_0 4 rfl rfl)
theorem dX3_minute_7 : decode cX3_minute 7 = .ok (.aload_n 0, 1) := dk_42 (dk_at dksX3_minute_0 7 rfl rfl)
theorem dX3_minute_8 : decode cX3_minute 8 = .ok (.getfield 9, 3) := dk_180 0 9 (dk_at dksX3_minute_0 8 rfl rfl)
theorem dX3_minute_11 : decode cX3_minute 11 = .ok (.iconst 4, 1) := dk_7 (dk_at dksX3_minute_0 11 rfl rfl)
theorem dX3_minute_12 : decode cX3_minute 12 = .ok (.iaload, 1) := dk_46 (dk_at dksX3_minute_0 12 rfl rfl)
theorem dX3_minute_13 : decode cX3_minute 13 = .ok (.sipush 999, 3) := dk_17 3 231 (dk_at dksX3_minute_0 13 rfl rfl)
theorem dX3_minute_16 : decode cX3_minute 16 = .ok (.if_icmp .ne 5, 3) := dk_160 0 5 (dk_at dksX3_minute_0 16 rfl rfl)
theorem dX3_minute_19 : decode cX3_minute 19 = .ok (.iconst (-1), 1) := dk_2 (dk_at dksX3_minute_0 19 rfl rfl)
theorem dX3_minute_20 : decode cX3_minute 20 = .ok (.ireturn, 1) := dk_172 (dk_at dksX3_minute_0 20 rfl rfl)
theorem dX3_minute_21 : decode cX3_minute 21 = .ok (.aload_n 0, 1) := dk_42 (dk_at dksX3_minute_0 21 rfl rfl)
theorem dX3_minute_22 : decode cX3_minute 22 = .ok (.invokevirtual 407, 3) := dk_182 1 151 (dk_at dksX3_minute_1 0 rfl rfl)
theorem dX3_minute_25 : decode cX3_minute 25 = .ok (.aload_n 0, 1) := dk_42 (dk_at dksX3_minute_1 3 rfl rfl)
theorem dX3_minute_26 : decode cX3_minute 26 = .ok (.invokevirtual 383, 3) := dk_182 1 127 (dk_at dksX3_minute_1 4 rfl rfl)
theorem dX3_minute_29 : decode cX3_minute 29 = .ok (.ireturn, 1) := dk_172 (dk_at dksX3_minute_1 7 rfl rfl)
abbrev cX3_isHall : ByteArray := prog_17_method_6_code
def yX3_isHall : MethodName := ⟨RX3, "isHall", "()Z"⟩
def dkwX3_isHall_0 : List UInt8 := [42, 180, 0, 9, 3, 46, 4, 160, 0, 7, 4, 167, 0, 4, 3, 172]
abbrev dktX3_isHall_0 : List UInt8 := dkwX3_isHall_0 ++ []
theorem dksX3_isHall_0 : cX3_isHall.data.toList.drop 0 = dktX3_isHall_0 := by decide +kernel
theorem dX3_isHall_0 : decode cX3_isHall 0 = .ok (.aload_n 0, 1) := dk_42 (dk_at dksX3_isHall_0 0 rfl rfl)
theorem dX3_isHall_1 : decode cX3_isHall 1 = .ok (.getfield 9, 3) := dk_180 0 9 (dk_at dksX3_isHall_0 1 rfl rfl)
theorem dX3_isHall_4 : decode cX3_isHall 4 = .ok (.iconst 0, 1) := dk_3 (dk_at dksX3_isHall_0 4 rfl rfl)
theorem dX3_isHall_5 : decode cX3_isHall 5 = .ok (.iaload, 1) := dk_46 (dk_at dksX3_isHall_0 5 rfl rfl)
theorem dX3_isHall_6 : decode cX3_isHall 6 = .ok (.iconst 1, 1) := dk_4 (dk_at dksX3_isHall_0 6 rfl rfl)
theorem dX3_isHall_7 : decode cX3_isHall 7 = .ok (.if_icmp .ne 7, 3) := dk_160 0 7 (dk_at dksX3_isHall_0 7 rfl rfl)
theorem dX3_isHall_10 : decode cX3_isHall 10 = .ok (.iconst 1, 1) := dk_4 (dk_at dksX3_isHall_0 10 rfl rfl)
theorem dX3_isHall_11 : decode cX3_isHall 11 = .ok (.goto 4, 3) := dk_167 0 4 (dk_at dksX3_isHall_0 11 rfl rfl)
theorem dX3_isHall_14 : decode cX3_isHall 14 = .ok (.iconst 0, 1) := dk_3 (dk_at dksX3_isHall_0 14 rfl rfl)
theorem dX3_isHall_15 : decode cX3_isHall 15 = .ok (.ireturn, 1) := dk_172 (dk_at dksX3_isHall_0 15 rfl rfl)
abbrev cX3_keepsAct : ByteArray := prog_17_method_68_code
def yX3_keepsAct : MethodName := ⟨RX3, "keepsAct", "()V"⟩
def dkwX3_keepsAct_2 : List UInt8 := [181, 1, 43, 42, 42, 180, 1, 43, 3, 182, 1, 144, 42, 89, 180, 1, 43, 4, 96, 181, 1, 43, 177]
abbrev dktX3_keepsAct_2 : List UInt8 := dkwX3_keepsAct_2 ++ []
def dkwX3_keepsAct_1 : List UInt8 := [16, 13, 100, 42, 180, 0, 100, 27, 46, 79, 132, 1, 1, 167, 255, 231, 42, 89, 180, 1, 43, 4, 100]
abbrev dktX3_keepsAct_1 : List UInt8 := dkwX3_keepsAct_1 ++ dktX3_keepsAct_2
def dkwX3_keepsAct_0 : List UInt8 := [42, 180, 1, 43, 16, 20, 160, 0, 44, 16, 13, 60, 27, 17, 1, 4, 162, 0, 24, 42, 180, 0, 100, 27]
abbrev dktX3_keepsAct_0 : List UInt8 := dkwX3_keepsAct_0 ++ dktX3_keepsAct_1
theorem dksX3_keepsAct_0 : cX3_keepsAct.data.toList.drop 0 = dktX3_keepsAct_0 := by decide +kernel
theorem dksX3_keepsAct_1 : cX3_keepsAct.data.toList.drop 24 = dktX3_keepsAct_1 := dk_seg dksX3_keepsAct_0 24 rfl rfl
theorem dksX3_keepsAct_2 : cX3_keepsAct.data.toList.drop 47 = dktX3_keepsAct_2 := dk_seg dksX3_keepsAct_1 23 rfl rfl
theorem dX3_keepsAct_0 : decode cX3_keepsAct 0 = .ok (.aload_n 0, 1) := dk_42 (dk_at dksX3_keepsAct_0 0 rfl rfl)
theorem dX3_keepsAct_1 : decode cX3_keepsAct 1 = .ok (.getfield 299, 3) := dk_180 1 43 (dk_at dksX3_keepsAct_0 1 rfl rfl)
theorem dX3_keepsAct_4 : decode cX3_keepsAct 4 = .ok (.bipush 20, 2) := dk_16 20 (dk_at dksX3_keepsAct_0 4 rfl rfl)
theorem dX3_keepsAct_6 : decode cX3_keepsAct 6 = .ok (.if_icmp .ne 44, 3) := dk_160 0 44 (dk_at dksX3_keepsAct_0 6 rfl rfl)
theorem dX3_keepsAct_9 : decode cX3_keepsAct 9 = .ok (.bipush 13, 2) := dk_16 13 (dk_at dksX3_keepsAct_0 9 rfl rfl)
theorem dX3_keepsAct_11 : decode cX3_keepsAct 11 = .ok (.istore_n 1, 1) := dk_60 (dk_at dksX3_keepsAct_0 11 rfl rfl)
theorem dX3_keepsAct_12 : decode cX3_keepsAct 12 = .ok (.iload_n 1, 1) := dk_27 (dk_at dksX3_keepsAct_0 12 rfl rfl)
theorem dX3_keepsAct_13 : decode cX3_keepsAct 13 = .ok (.sipush 260, 3) := dk_17 1 4 (dk_at dksX3_keepsAct_0 13 rfl rfl)
theorem dX3_keepsAct_16 : decode cX3_keepsAct 16 = .ok (.if_icmp .ge 24, 3) := dk_162 0 24 (dk_at dksX3_keepsAct_0 16 rfl rfl)
theorem dX3_keepsAct_19 : decode cX3_keepsAct 19 = .ok (.aload_n 0, 1) := dk_42 (dk_at dksX3_keepsAct_0 19 rfl rfl)
theorem dX3_keepsAct_20 : decode cX3_keepsAct 20 = .ok (.getfield 100, 3) := dk_180 0 100 (dk_at dksX3_keepsAct_0 20 rfl rfl)
theorem dX3_keepsAct_23 : decode cX3_keepsAct 23 = .ok (.iload_n 1, 1) := dk_27 (dk_at dksX3_keepsAct_0 23 rfl rfl)
theorem dX3_keepsAct_24 : decode cX3_keepsAct 24 = .ok (.bipush 13, 2) := dk_16 13 (dk_at dksX3_keepsAct_1 0 rfl rfl)
theorem dX3_keepsAct_26 : decode cX3_keepsAct 26 = .ok (.isub, 1) := dk_100 (dk_at dksX3_keepsAct_1 2 rfl rfl)
theorem dX3_keepsAct_27 : decode cX3_keepsAct 27 = .ok (.aload_n 0, 1) := dk_42 (dk_at dksX3_keepsAct_1 3 rfl rfl)
theorem dX3_keepsAct_28 : decode cX3_keepsAct 28 = .ok (.getfield 100, 3) := dk_180 0 100 (dk_at dksX3_keepsAct_1 4 rfl rfl)
theorem dX3_keepsAct_31 : decode cX3_keepsAct 31 = .ok (.iload_n 1, 1) := dk_27 (dk_at dksX3_keepsAct_1 7 rfl rfl)
theorem dX3_keepsAct_32 : decode cX3_keepsAct 32 = .ok (.iaload, 1) := dk_46 (dk_at dksX3_keepsAct_1 8 rfl rfl)
theorem dX3_keepsAct_33 : decode cX3_keepsAct 33 = .ok (.iastore, 1) := dk_79 (dk_at dksX3_keepsAct_1 9 rfl rfl)
theorem dX3_keepsAct_34 : decode cX3_keepsAct 34 = .ok (.iinc 1 1, 3) := dk_132 1 1 (dk_at dksX3_keepsAct_1 10 rfl rfl)
theorem dX3_keepsAct_37 : decode cX3_keepsAct 37 = .ok (.goto (-25), 3) := dk_167 255 231 (dk_at dksX3_keepsAct_1 13 rfl rfl)
theorem dX3_keepsAct_40 : decode cX3_keepsAct 40 = .ok (.aload_n 0, 1) := dk_42 (dk_at dksX3_keepsAct_1 16 rfl rfl)
theorem dX3_keepsAct_41 : decode cX3_keepsAct 41 = .ok (.dup, 1) := dk_89 (dk_at dksX3_keepsAct_1 17 rfl rfl)
theorem dX3_keepsAct_42 : decode cX3_keepsAct 42 = .ok (.getfield 299, 3) := dk_180 1 43 (dk_at dksX3_keepsAct_1 18 rfl rfl)
theorem dX3_keepsAct_45 : decode cX3_keepsAct 45 = .ok (.iconst 1, 1) := dk_4 (dk_at dksX3_keepsAct_1 21 rfl rfl)
theorem dX3_keepsAct_46 : decode cX3_keepsAct 46 = .ok (.isub, 1) := dk_100 (dk_at dksX3_keepsAct_1 22 rfl rfl)
theorem dX3_keepsAct_47 : decode cX3_keepsAct 47 = .ok (.putfield 299, 3) := dk_181 1 43 (dk_at dksX3_keepsAct_2 0 rfl rfl)
theorem dX3_keepsAct_50 : decode cX3_keepsAct 50 = .ok (.aload_n 0, 1) := dk_42 (dk_at dksX3_keepsAct_2 3 rfl rfl)
theorem dX3_keepsAct_51 : decode cX3_keepsAct 51 = .ok (.aload_n 0, 1) := dk_42 (dk_at dksX3_keepsAct_2 4 rfl rfl)
theorem dX3_keepsAct_52 : decode cX3_keepsAct 52 = .ok (.getfield 299, 3) := dk_180 1 43 (dk_at dksX3_keepsAct_2 5 rfl rfl)
theorem dX3_keepsAct_55 : decode cX3_keepsAct 55 = .ok (.iconst 0, 1) := dk_3 (dk_at dksX3_keepsAct_2 8 rfl rfl)
theorem dX3_keepsAct_56 : decode cX3_keepsAct 56 = .ok (.invokevirtual 400, 3) := dk_182 1 144 (dk_at dksX3_keepsAct_2 9 rfl rfl)
theorem dX3_keepsAct_59 : decode cX3_keepsAct 59 = .ok (.aload_n 0, 1) := dk_42 (dk_at dksX3_keepsAct_2 12 rfl rfl)
theorem dX3_keepsAct_60 : decode cX3_keepsAct 60 = .ok (.dup, 1) := dk_89 (dk_at dksX3_keepsAct_2 13 rfl rfl)
theorem dX3_keepsAct_61 : decode cX3_keepsAct 61 = .ok (.getfield 299, 3) := dk_180 1 43 (dk_at dksX3_keepsAct_2 14 rfl rfl)
theorem dX3_keepsAct_64 : decode cX3_keepsAct 64 = .ok (.iconst 1, 1) := dk_4 (dk_at dksX3_keepsAct_2 17 rfl rfl)
theorem dX3_keepsAct_65 : decode cX3_keepsAct 65 = .ok (.iadd, 1) := dk_96 (dk_at dksX3_keepsAct_2 18 rfl rfl)
theorem dX3_keepsAct_66 : decode cX3_keepsAct 66 = .ok (.putfield 299, 3) := dk_181 1 43 (dk_at dksX3_keepsAct_2 19 rfl rfl)
theorem dX3_keepsAct_69 : decode cX3_keepsAct 69 = .ok (.return_, 1) := dk_177 (dk_at dksX3_keepsAct_2 22 rfl rfl)
abbrev cX3_goes : ByteArray := prog_17_method_63_code
def yX3_goes : MethodName := ⟨RX3, "goes", "()I"⟩
def dkwX3_goes_2 : List UInt8 := [92, 46, 4, 96, 79, 42, 182, 1, 124, 172]
abbrev dktX3_goes_2 : List UInt8 := dkwX3_goes_2 ++ []
def dkwX3_goes_1 : List UInt8 := [160, 0, 7, 5, 167, 0, 8, 42, 27, 182, 1, 121, 79, 132, 1, 1, 167, 255, 218, 42, 180, 0, 9, 7]
abbrev dktX3_goes_1 : List UInt8 := dkwX3_goes_1 ++ dktX3_goes_2
def dkwX3_goes_0 : List UInt8 := [3, 60, 27, 42, 180, 0, 9, 6, 46, 162, 0, 34, 42, 180, 0, 16, 27, 42, 180, 0, 16, 27, 46, 5]
abbrev dktX3_goes_0 : List UInt8 := dkwX3_goes_0 ++ dktX3_goes_1
theorem dksX3_goes_0 : cX3_goes.data.toList.drop 0 = dktX3_goes_0 := by decide +kernel
theorem dksX3_goes_1 : cX3_goes.data.toList.drop 24 = dktX3_goes_1 := dk_seg dksX3_goes_0 24 rfl rfl
theorem dksX3_goes_2 : cX3_goes.data.toList.drop 48 = dktX3_goes_2 := dk_seg dksX3_goes_1 24 rfl rfl
theorem dX3_goes_0 : decode cX3_goes 0 = .ok (.iconst 0, 1) := dk_3 (dk_at dksX3_goes_0 0 rfl rfl)
theorem dX3_goes_1 : decode cX3_goes 1 = .ok (.istore_n 1, 1) := dk_60 (dk_at dksX3_goes_0 1 rfl rfl)
theorem dX3_goes_2 : decode cX3_goes 2 = .ok (.iload_n 1, 1) := dk_27 (dk_at dksX3_goes_0 2 rfl rfl)
theorem dX3_goes_3 : decode cX3_goes 3 = .ok (.aload_n 0, 1) := dk_42 (dk_at dksX3_goes_0 3 rfl rfl)
theorem dX3_goes_4 : decode cX3_goes 4 = .ok (.getfield 9, 3) := dk_180 0 9 (dk_at dksX3_goes_0 4 rfl rfl)
theorem dX3_goes_7 : decode cX3_goes 7 = .ok (.iconst 3, 1) := dk_6 (dk_at dksX3_goes_0 7 rfl rfl)
theorem dX3_goes_8 : decode cX3_goes 8 = .ok (.iaload, 1) := dk_46 (dk_at dksX3_goes_0 8 rfl rfl)
theorem dX3_goes_9 : decode cX3_goes 9 = .ok (.if_icmp .ge 34, 3) := dk_162 0 34 (dk_at dksX3_goes_0 9 rfl rfl)
theorem dX3_goes_12 : decode cX3_goes 12 = .ok (.aload_n 0, 1) := dk_42 (dk_at dksX3_goes_0 12 rfl rfl)
theorem dX3_goes_13 : decode cX3_goes 13 = .ok (.getfield 16, 3) := dk_180 0 16 (dk_at dksX3_goes_0 13 rfl rfl)
theorem dX3_goes_16 : decode cX3_goes 16 = .ok (.iload_n 1, 1) := dk_27 (dk_at dksX3_goes_0 16 rfl rfl)
theorem dX3_goes_17 : decode cX3_goes 17 = .ok (.aload_n 0, 1) := dk_42 (dk_at dksX3_goes_0 17 rfl rfl)
theorem dX3_goes_18 : decode cX3_goes 18 = .ok (.getfield 16, 3) := dk_180 0 16 (dk_at dksX3_goes_0 18 rfl rfl)
theorem dX3_goes_21 : decode cX3_goes 21 = .ok (.iload_n 1, 1) := dk_27 (dk_at dksX3_goes_0 21 rfl rfl)
theorem dX3_goes_22 : decode cX3_goes 22 = .ok (.iaload, 1) := dk_46 (dk_at dksX3_goes_0 22 rfl rfl)
theorem dX3_goes_23 : decode cX3_goes 23 = .ok (.iconst 2, 1) := dk_5 (dk_at dksX3_goes_0 23 rfl rfl)
theorem dX3_goes_24 : decode cX3_goes 24 = .ok (.if_icmp .ne 7, 3) := dk_160 0 7 (dk_at dksX3_goes_1 0 rfl rfl)
theorem dX3_goes_27 : decode cX3_goes 27 = .ok (.iconst 2, 1) := dk_5 (dk_at dksX3_goes_1 3 rfl rfl)
theorem dX3_goes_28 : decode cX3_goes 28 = .ok (.goto 8, 3) := dk_167 0 8 (dk_at dksX3_goes_1 4 rfl rfl)
theorem dX3_goes_31 : decode cX3_goes 31 = .ok (.aload_n 0, 1) := dk_42 (dk_at dksX3_goes_1 7 rfl rfl)
theorem dX3_goes_32 : decode cX3_goes 32 = .ok (.iload_n 1, 1) := dk_27 (dk_at dksX3_goes_1 8 rfl rfl)
theorem dX3_goes_33 : decode cX3_goes 33 = .ok (.invokevirtual 377, 3) := dk_182 1 121 (dk_at dksX3_goes_1 9 rfl rfl)
theorem dX3_goes_36 : decode cX3_goes 36 = .ok (.iastore, 1) := dk_79 (dk_at dksX3_goes_1 12 rfl rfl)
theorem dX3_goes_37 : decode cX3_goes 37 = .ok (.iinc 1 1, 3) := dk_132 1 1 (dk_at dksX3_goes_1 13 rfl rfl)
theorem dX3_goes_40 : decode cX3_goes 40 = .ok (.goto (-38), 3) := dk_167 255 218 (dk_at dksX3_goes_1 16 rfl rfl)
theorem dX3_goes_43 : decode cX3_goes 43 = .ok (.aload_n 0, 1) := dk_42 (dk_at dksX3_goes_1 19 rfl rfl)
theorem dX3_goes_44 : decode cX3_goes 44 = .ok (.getfield 9, 3) := dk_180 0 9 (dk_at dksX3_goes_1 20 rfl rfl)
theorem dX3_goes_47 : decode cX3_goes 47 = .ok (.iconst 4, 1) := dk_7 (dk_at dksX3_goes_1 23 rfl rfl)
theorem dX3_goes_48 : decode cX3_goes 48 = .ok (.dup2, 1) := dk_92 (dk_at dksX3_goes_2 0 rfl rfl)
theorem dX3_goes_49 : decode cX3_goes 49 = .ok (.iaload, 1) := dk_46 (dk_at dksX3_goes_2 1 rfl rfl)
theorem dX3_goes_50 : decode cX3_goes 50 = .ok (.iconst 1, 1) := dk_4 (dk_at dksX3_goes_2 2 rfl rfl)
theorem dX3_goes_51 : decode cX3_goes 51 = .ok (.iadd, 1) := dk_96 (dk_at dksX3_goes_2 3 rfl rfl)
theorem dX3_goes_52 : decode cX3_goes 52 = .ok (.iastore, 1) := dk_79 (dk_at dksX3_goes_2 4 rfl rfl)
theorem dX3_goes_53 : decode cX3_goes 53 = .ok (.aload_n 0, 1) := dk_42 (dk_at dksX3_goes_2 5 rfl rfl)
theorem dX3_goes_54 : decode cX3_goes 54 = .ok (.invokevirtual 380, 3) := dk_182 1 124 (dk_at dksX3_goes_2 6 rfl rfl)
theorem dX3_goes_57 : decode cX3_goes 57 = .ok (.ireturn, 1) := dk_172 (dk_at dksX3_goes_2 9 rfl rfl)
abbrev cX3_choice : ByteArray := prog_17_method_62_code
def yX3_choice : MethodName := ⟨RX3, "choice", "(I)I"⟩
def dkwX3_choice_9 : List UInt8 := [180, 0, 9, 7, 46, 133, 80, 42, 182, 1, 117, 9, 148, 158, 0, 7, 4, 167, 0, 4, 3, 172]
abbrev dktX3_choice_9 : List UInt8 := dkwX3_choice_9 ++ []
def dkwX3_choice_8 : List UInt8 := [42, 180, 0, 90, 16, 9, 42, 5, 182, 1, 85, 184, 1, 114, 133, 80, 42, 180, 0, 90, 16, 10, 42]
abbrev dktX3_choice_8 : List UInt8 := dkwX3_choice_8 ++ dktX3_choice_9
def dkwX3_choice_7 : List UInt8 := [180, 0, 90, 16, 7, 28, 184, 1, 114, 133, 80, 42, 180, 0, 90, 16, 8, 42, 28, 182, 1, 82, 133, 80]
abbrev dktX3_choice_7 : List UInt8 := dkwX3_choice_7 ++ dktX3_choice_8
def dkwX3_choice_6 : List UInt8 := [42, 180, 0, 16, 27, 46, 133, 80, 42, 180, 0, 90, 16, 6, 42, 27, 182, 1, 103, 133, 80, 42]
abbrev dktX3_choice_6 : List UInt8 := dkwX3_choice_6 ++ dktX3_choice_7
def dkwX3_choice_5 : List UInt8 := [7, 42, 180, 0, 13, 42, 180, 0, 19, 42, 180, 0, 28, 27, 46, 46, 46, 133, 80, 42, 180, 0, 90, 8]
abbrev dktX3_choice_5 : List UInt8 := dkwX3_choice_5 ++ dktX3_choice_6
def dkwX3_choice_4 : List UInt8 := [133, 80, 42, 180, 0, 90, 6, 42, 180, 0, 25, 42, 180, 0, 28, 27, 46, 46, 133, 80, 42, 180, 0, 90]
abbrev dktX3_choice_4 : List UInt8 := dkwX3_choice_4 ++ dktX3_choice_5
def dkwX3_choice_3 : List UInt8 := [42, 180, 0, 90, 4, 42, 180, 0, 28, 27, 46, 133, 80, 42, 180, 0, 90, 5, 42, 180, 0, 22, 27, 46]
abbrev dktX3_choice_3 : List UInt8 := dkwX3_choice_3 ++ dktX3_choice_4
def dkwX3_choice_2 : List UInt8 := [180, 0, 28, 27, 46, 46, 182, 1, 79, 4, 27, 120, 2, 130, 126, 61, 42, 180, 0, 90, 3, 27, 133, 80]
abbrev dktX3_choice_2 : List UInt8 := dkwX3_choice_2 ++ dktX3_choice_3
def dkwX3_choice_1 : List UInt8 := [2, 160, 0, 10, 42, 180, 0, 16, 27, 46, 172, 42, 42, 4, 182, 1, 85, 42, 180, 0, 19, 42]
abbrev dktX3_choice_1 : List UInt8 := dkwX3_choice_1 ++ dktX3_choice_2
def dkwX3_choice_0 : List UInt8 := [42, 180, 0, 97, 27, 46, 2, 159, 0, 10, 42, 180, 0, 97, 27, 46, 172, 42, 180, 0, 9, 16, 7, 46]
abbrev dktX3_choice_0 : List UInt8 := dkwX3_choice_0 ++ dktX3_choice_1
theorem dksX3_choice_0 : cX3_choice.data.toList.drop 0 = dktX3_choice_0 := by decide +kernel
theorem dksX3_choice_1 : cX3_choice.data.toList.drop 24 = dktX3_choice_1 := dk_seg dksX3_choice_0 24 rfl rfl
theorem dksX3_choice_2 : cX3_choice.data.toList.drop 46 = dktX3_choice_2 := dk_seg dksX3_choice_1 22 rfl rfl
theorem dksX3_choice_3 : cX3_choice.data.toList.drop 70 = dktX3_choice_3 := dk_seg dksX3_choice_2 24 rfl rfl
theorem dksX3_choice_4 : cX3_choice.data.toList.drop 94 = dktX3_choice_4 := dk_seg dksX3_choice_3 24 rfl rfl
theorem dksX3_choice_5 : cX3_choice.data.toList.drop 118 = dktX3_choice_5 := dk_seg dksX3_choice_4 24 rfl rfl
theorem dksX3_choice_6 : cX3_choice.data.toList.drop 142 = dktX3_choice_6 := dk_seg dksX3_choice_5 24 rfl rfl
theorem dksX3_choice_7 : cX3_choice.data.toList.drop 164 = dktX3_choice_7 := dk_seg dksX3_choice_6 22 rfl rfl
theorem dksX3_choice_8 : cX3_choice.data.toList.drop 188 = dktX3_choice_8 := dk_seg dksX3_choice_7 24 rfl rfl
theorem dksX3_choice_9 : cX3_choice.data.toList.drop 211 = dktX3_choice_9 := dk_seg dksX3_choice_8 23 rfl rfl
theorem dX3_choice_0 : decode cX3_choice 0 = .ok (.aload_n 0, 1) := dk_42 (dk_at dksX3_choice_0 0 rfl rfl)
theorem dX3_choice_1 : decode cX3_choice 1 = .ok (.getfield 97, 3) := dk_180 0 97 (dk_at dksX3_choice_0 1 rfl rfl)
theorem dX3_choice_4 : decode cX3_choice 4 = .ok (.iload_n 1, 1) := dk_27 (dk_at dksX3_choice_0 4 rfl rfl)
theorem dX3_choice_5 : decode cX3_choice 5 = .ok (.iaload, 1) := dk_46 (dk_at dksX3_choice_0 5 rfl rfl)
theorem dX3_choice_6 : decode cX3_choice 6 = .ok (.iconst (-1), 1) := dk_2 (dk_at dksX3_choice_0 6 rfl rfl)
theorem dX3_choice_7 : decode cX3_choice 7 = .ok (.if_icmp .eq 10, 3) := dk_159 0 10 (dk_at dksX3_choice_0 7 rfl rfl)
theorem dX3_choice_10 : decode cX3_choice 10 = .ok (.aload_n 0, 1) := dk_42 (dk_at dksX3_choice_0 10 rfl rfl)
theorem dX3_choice_11 : decode cX3_choice 11 = .ok (.getfield 97, 3) := dk_180 0 97 (dk_at dksX3_choice_0 11 rfl rfl)
theorem dX3_choice_14 : decode cX3_choice 14 = .ok (.iload_n 1, 1) := dk_27 (dk_at dksX3_choice_0 14 rfl rfl)
theorem dX3_choice_15 : decode cX3_choice 15 = .ok (.iaload, 1) := dk_46 (dk_at dksX3_choice_0 15 rfl rfl)
theorem dX3_choice_16 : decode cX3_choice 16 = .ok (.ireturn, 1) := dk_172 (dk_at dksX3_choice_0 16 rfl rfl)
theorem dX3_choice_17 : decode cX3_choice 17 = .ok (.aload_n 0, 1) := dk_42 (dk_at dksX3_choice_0 17 rfl rfl)
theorem dX3_choice_18 : decode cX3_choice 18 = .ok (.getfield 9, 3) := dk_180 0 9 (dk_at dksX3_choice_0 18 rfl rfl)
theorem dX3_choice_21 : decode cX3_choice 21 = .ok (.bipush 7, 2) := dk_16 7 (dk_at dksX3_choice_0 21 rfl rfl)
theorem dX3_choice_23 : decode cX3_choice 23 = .ok (.iaload, 1) := dk_46 (dk_at dksX3_choice_0 23 rfl rfl)
theorem dX3_choice_24 : decode cX3_choice 24 = .ok (.iconst (-1), 1) := dk_2 (dk_at dksX3_choice_1 0 rfl rfl)
theorem dX3_choice_25 : decode cX3_choice 25 = .ok (.if_icmp .ne 10, 3) := dk_160 0 10 (dk_at dksX3_choice_1 1 rfl rfl)
theorem dX3_choice_28 : decode cX3_choice 28 = .ok (.aload_n 0, 1) := dk_42 (dk_at dksX3_choice_1 4 rfl rfl)
theorem dX3_choice_29 : decode cX3_choice 29 = .ok (.getfield 16, 3) := dk_180 0 16 (dk_at dksX3_choice_1 5 rfl rfl)
theorem dX3_choice_32 : decode cX3_choice 32 = .ok (.iload_n 1, 1) := dk_27 (dk_at dksX3_choice_1 8 rfl rfl)
theorem dX3_choice_33 : decode cX3_choice 33 = .ok (.iaload, 1) := dk_46 (dk_at dksX3_choice_1 9 rfl rfl)
theorem dX3_choice_34 : decode cX3_choice 34 = .ok (.ireturn, 1) := dk_172 (dk_at dksX3_choice_1 10 rfl rfl)
theorem dX3_choice_35 : decode cX3_choice 35 = .ok (.aload_n 0, 1) := dk_42 (dk_at dksX3_choice_1 11 rfl rfl)
theorem dX3_choice_36 : decode cX3_choice 36 = .ok (.aload_n 0, 1) := dk_42 (dk_at dksX3_choice_1 12 rfl rfl)
theorem dX3_choice_37 : decode cX3_choice 37 = .ok (.iconst 1, 1) := dk_4 (dk_at dksX3_choice_1 13 rfl rfl)
theorem dX3_choice_38 : decode cX3_choice 38 = .ok (.invokevirtual 341, 3) := dk_182 1 85 (dk_at dksX3_choice_1 14 rfl rfl)
theorem dX3_choice_41 : decode cX3_choice 41 = .ok (.aload_n 0, 1) := dk_42 (dk_at dksX3_choice_1 17 rfl rfl)
theorem dX3_choice_42 : decode cX3_choice 42 = .ok (.getfield 19, 3) := dk_180 0 19 (dk_at dksX3_choice_1 18 rfl rfl)
theorem dX3_choice_45 : decode cX3_choice 45 = .ok (.aload_n 0, 1) := dk_42 (dk_at dksX3_choice_1 21 rfl rfl)
theorem dX3_choice_46 : decode cX3_choice 46 = .ok (.getfield 28, 3) := dk_180 0 28 (dk_at dksX3_choice_2 0 rfl rfl)
theorem dX3_choice_49 : decode cX3_choice 49 = .ok (.iload_n 1, 1) := dk_27 (dk_at dksX3_choice_2 3 rfl rfl)
theorem dX3_choice_50 : decode cX3_choice 50 = .ok (.iaload, 1) := dk_46 (dk_at dksX3_choice_2 4 rfl rfl)
theorem dX3_choice_51 : decode cX3_choice 51 = .ok (.iaload, 1) := dk_46 (dk_at dksX3_choice_2 5 rfl rfl)
theorem dX3_choice_52 : decode cX3_choice 52 = .ok (.invokevirtual 335, 3) := dk_182 1 79 (dk_at dksX3_choice_2 6 rfl rfl)
theorem dX3_choice_55 : decode cX3_choice 55 = .ok (.iconst 1, 1) := dk_4 (dk_at dksX3_choice_2 9 rfl rfl)
theorem dX3_choice_56 : decode cX3_choice 56 = .ok (.iload_n 1, 1) := dk_27 (dk_at dksX3_choice_2 10 rfl rfl)
theorem dX3_choice_57 : decode cX3_choice 57 = .ok (.ishl, 1) := dk_120 (dk_at dksX3_choice_2 11 rfl rfl)
theorem dX3_choice_58 : decode cX3_choice 58 = .ok (.iconst (-1), 1) := dk_2 (dk_at dksX3_choice_2 12 rfl rfl)
theorem dX3_choice_59 : decode cX3_choice 59 = .ok (.ixor, 1) := dk_130 (dk_at dksX3_choice_2 13 rfl rfl)
theorem dX3_choice_60 : decode cX3_choice 60 = .ok (.iand, 1) := dk_126 (dk_at dksX3_choice_2 14 rfl rfl)
theorem dX3_choice_61 : decode cX3_choice 61 = .ok (.istore_n 2, 1) := dk_61 (dk_at dksX3_choice_2 15 rfl rfl)
theorem dX3_choice_62 : decode cX3_choice 62 = .ok (.aload_n 0, 1) := dk_42 (dk_at dksX3_choice_2 16 rfl rfl)
theorem dX3_choice_63 : decode cX3_choice 63 = .ok (.getfield 90, 3) := dk_180 0 90 (dk_at dksX3_choice_2 17 rfl rfl)
theorem dX3_choice_66 : decode cX3_choice 66 = .ok (.iconst 0, 1) := dk_3 (dk_at dksX3_choice_2 20 rfl rfl)
theorem dX3_choice_67 : decode cX3_choice 67 = .ok (.iload_n 1, 1) := dk_27 (dk_at dksX3_choice_2 21 rfl rfl)
theorem dX3_choice_68 : decode cX3_choice 68 = .ok (.i2l, 1) := dk_133 (dk_at dksX3_choice_2 22 rfl rfl)
theorem dX3_choice_69 : decode cX3_choice 69 = .ok (.lastore, 1) := dk_80 (dk_at dksX3_choice_2 23 rfl rfl)
theorem dX3_choice_70 : decode cX3_choice 70 = .ok (.aload_n 0, 1) := dk_42 (dk_at dksX3_choice_3 0 rfl rfl)
theorem dX3_choice_71 : decode cX3_choice 71 = .ok (.getfield 90, 3) := dk_180 0 90 (dk_at dksX3_choice_3 1 rfl rfl)
theorem dX3_choice_74 : decode cX3_choice 74 = .ok (.iconst 1, 1) := dk_4 (dk_at dksX3_choice_3 4 rfl rfl)
theorem dX3_choice_75 : decode cX3_choice 75 = .ok (.aload_n 0, 1) := dk_42 (dk_at dksX3_choice_3 5 rfl rfl)
theorem dX3_choice_76 : decode cX3_choice 76 = .ok (.getfield 28, 3) := dk_180 0 28 (dk_at dksX3_choice_3 6 rfl rfl)
theorem dX3_choice_79 : decode cX3_choice 79 = .ok (.iload_n 1, 1) := dk_27 (dk_at dksX3_choice_3 9 rfl rfl)
theorem dX3_choice_80 : decode cX3_choice 80 = .ok (.iaload, 1) := dk_46 (dk_at dksX3_choice_3 10 rfl rfl)
theorem dX3_choice_81 : decode cX3_choice 81 = .ok (.i2l, 1) := dk_133 (dk_at dksX3_choice_3 11 rfl rfl)
theorem dX3_choice_82 : decode cX3_choice 82 = .ok (.lastore, 1) := dk_80 (dk_at dksX3_choice_3 12 rfl rfl)
theorem dX3_choice_83 : decode cX3_choice 83 = .ok (.aload_n 0, 1) := dk_42 (dk_at dksX3_choice_3 13 rfl rfl)
theorem dX3_choice_84 : decode cX3_choice 84 = .ok (.getfield 90, 3) := dk_180 0 90 (dk_at dksX3_choice_3 14 rfl rfl)
theorem dX3_choice_87 : decode cX3_choice 87 = .ok (.iconst 2, 1) := dk_5 (dk_at dksX3_choice_3 17 rfl rfl)
theorem dX3_choice_88 : decode cX3_choice 88 = .ok (.aload_n 0, 1) := dk_42 (dk_at dksX3_choice_3 18 rfl rfl)
theorem dX3_choice_89 : decode cX3_choice 89 = .ok (.getfield 22, 3) := dk_180 0 22 (dk_at dksX3_choice_3 19 rfl rfl)
theorem dX3_choice_92 : decode cX3_choice 92 = .ok (.iload_n 1, 1) := dk_27 (dk_at dksX3_choice_3 22 rfl rfl)
theorem dX3_choice_93 : decode cX3_choice 93 = .ok (.iaload, 1) := dk_46 (dk_at dksX3_choice_3 23 rfl rfl)
theorem dX3_choice_94 : decode cX3_choice 94 = .ok (.i2l, 1) := dk_133 (dk_at dksX3_choice_4 0 rfl rfl)
theorem dX3_choice_95 : decode cX3_choice 95 = .ok (.lastore, 1) := dk_80 (dk_at dksX3_choice_4 1 rfl rfl)
theorem dX3_choice_96 : decode cX3_choice 96 = .ok (.aload_n 0, 1) := dk_42 (dk_at dksX3_choice_4 2 rfl rfl)
theorem dX3_choice_97 : decode cX3_choice 97 = .ok (.getfield 90, 3) := dk_180 0 90 (dk_at dksX3_choice_4 3 rfl rfl)
theorem dX3_choice_100 : decode cX3_choice 100 = .ok (.iconst 3, 1) := dk_6 (dk_at dksX3_choice_4 6 rfl rfl)
theorem dX3_choice_101 : decode cX3_choice 101 = .ok (.aload_n 0, 1) := dk_42 (dk_at dksX3_choice_4 7 rfl rfl)
theorem dX3_choice_102 : decode cX3_choice 102 = .ok (.getfield 25, 3) := dk_180 0 25 (dk_at dksX3_choice_4 8 rfl rfl)
theorem dX3_choice_105 : decode cX3_choice 105 = .ok (.aload_n 0, 1) := dk_42 (dk_at dksX3_choice_4 11 rfl rfl)
theorem dX3_choice_106 : decode cX3_choice 106 = .ok (.getfield 28, 3) := dk_180 0 28 (dk_at dksX3_choice_4 12 rfl rfl)
theorem dX3_choice_109 : decode cX3_choice 109 = .ok (.iload_n 1, 1) := dk_27 (dk_at dksX3_choice_4 15 rfl rfl)
theorem dX3_choice_110 : decode cX3_choice 110 = .ok (.iaload, 1) := dk_46 (dk_at dksX3_choice_4 16 rfl rfl)
theorem dX3_choice_111 : decode cX3_choice 111 = .ok (.iaload, 1) := dk_46 (dk_at dksX3_choice_4 17 rfl rfl)
theorem dX3_choice_112 : decode cX3_choice 112 = .ok (.i2l, 1) := dk_133 (dk_at dksX3_choice_4 18 rfl rfl)
theorem dX3_choice_113 : decode cX3_choice 113 = .ok (.lastore, 1) := dk_80 (dk_at dksX3_choice_4 19 rfl rfl)
theorem dX3_choice_114 : decode cX3_choice 114 = .ok (.aload_n 0, 1) := dk_42 (dk_at dksX3_choice_4 20 rfl rfl)
theorem dX3_choice_115 : decode cX3_choice 115 = .ok (.getfield 90, 3) := dk_180 0 90 (dk_at dksX3_choice_4 21 rfl rfl)
theorem dX3_choice_118 : decode cX3_choice 118 = .ok (.iconst 4, 1) := dk_7 (dk_at dksX3_choice_5 0 rfl rfl)
theorem dX3_choice_119 : decode cX3_choice 119 = .ok (.aload_n 0, 1) := dk_42 (dk_at dksX3_choice_5 1 rfl rfl)
theorem dX3_choice_120 : decode cX3_choice 120 = .ok (.getfield 13, 3) := dk_180 0 13 (dk_at dksX3_choice_5 2 rfl rfl)
theorem dX3_choice_123 : decode cX3_choice 123 = .ok (.aload_n 0, 1) := dk_42 (dk_at dksX3_choice_5 5 rfl rfl)
theorem dX3_choice_124 : decode cX3_choice 124 = .ok (.getfield 19, 3) := dk_180 0 19 (dk_at dksX3_choice_5 6 rfl rfl)
theorem dX3_choice_127 : decode cX3_choice 127 = .ok (.aload_n 0, 1) := dk_42 (dk_at dksX3_choice_5 9 rfl rfl)
theorem dX3_choice_128 : decode cX3_choice 128 = .ok (.getfield 28, 3) := dk_180 0 28 (dk_at dksX3_choice_5 10 rfl rfl)
theorem dX3_choice_131 : decode cX3_choice 131 = .ok (.iload_n 1, 1) := dk_27 (dk_at dksX3_choice_5 13 rfl rfl)
theorem dX3_choice_132 : decode cX3_choice 132 = .ok (.iaload, 1) := dk_46 (dk_at dksX3_choice_5 14 rfl rfl)
theorem dX3_choice_133 : decode cX3_choice 133 = .ok (.iaload, 1) := dk_46 (dk_at dksX3_choice_5 15 rfl rfl)
theorem dX3_choice_134 : decode cX3_choice 134 = .ok (.iaload, 1) := dk_46 (dk_at dksX3_choice_5 16 rfl rfl)
theorem dX3_choice_135 : decode cX3_choice 135 = .ok (.i2l, 1) := dk_133 (dk_at dksX3_choice_5 17 rfl rfl)
theorem dX3_choice_136 : decode cX3_choice 136 = .ok (.lastore, 1) := dk_80 (dk_at dksX3_choice_5 18 rfl rfl)
theorem dX3_choice_137 : decode cX3_choice 137 = .ok (.aload_n 0, 1) := dk_42 (dk_at dksX3_choice_5 19 rfl rfl)
theorem dX3_choice_138 : decode cX3_choice 138 = .ok (.getfield 90, 3) := dk_180 0 90 (dk_at dksX3_choice_5 20 rfl rfl)
theorem dX3_choice_141 : decode cX3_choice 141 = .ok (.iconst 5, 1) := dk_8 (dk_at dksX3_choice_5 23 rfl rfl)
theorem dX3_choice_142 : decode cX3_choice 142 = .ok (.aload_n 0, 1) := dk_42 (dk_at dksX3_choice_6 0 rfl rfl)
theorem dX3_choice_143 : decode cX3_choice 143 = .ok (.getfield 16, 3) := dk_180 0 16 (dk_at dksX3_choice_6 1 rfl rfl)
theorem dX3_choice_146 : decode cX3_choice 146 = .ok (.iload_n 1, 1) := dk_27 (dk_at dksX3_choice_6 4 rfl rfl)
theorem dX3_choice_147 : decode cX3_choice 147 = .ok (.iaload, 1) := dk_46 (dk_at dksX3_choice_6 5 rfl rfl)
theorem dX3_choice_148 : decode cX3_choice 148 = .ok (.i2l, 1) := dk_133 (dk_at dksX3_choice_6 6 rfl rfl)
theorem dX3_choice_149 : decode cX3_choice 149 = .ok (.lastore, 1) := dk_80 (dk_at dksX3_choice_6 7 rfl rfl)
theorem dX3_choice_150 : decode cX3_choice 150 = .ok (.aload_n 0, 1) := dk_42 (dk_at dksX3_choice_6 8 rfl rfl)
theorem dX3_choice_151 : decode cX3_choice 151 = .ok (.getfield 90, 3) := dk_180 0 90 (dk_at dksX3_choice_6 9 rfl rfl)
theorem dX3_choice_154 : decode cX3_choice 154 = .ok (.bipush 6, 2) := dk_16 6 (dk_at dksX3_choice_6 12 rfl rfl)
theorem dX3_choice_156 : decode cX3_choice 156 = .ok (.aload_n 0, 1) := dk_42 (dk_at dksX3_choice_6 14 rfl rfl)
theorem dX3_choice_157 : decode cX3_choice 157 = .ok (.iload_n 1, 1) := dk_27 (dk_at dksX3_choice_6 15 rfl rfl)
theorem dX3_choice_158 : decode cX3_choice 158 = .ok (.invokevirtual 359, 3) := dk_182 1 103 (dk_at dksX3_choice_6 16 rfl rfl)
theorem dX3_choice_161 : decode cX3_choice 161 = .ok (.i2l, 1) := dk_133 (dk_at dksX3_choice_6 19 rfl rfl)
theorem dX3_choice_162 : decode cX3_choice 162 = .ok (.lastore, 1) := dk_80 (dk_at dksX3_choice_6 20 rfl rfl)
theorem dX3_choice_163 : decode cX3_choice 163 = .ok (.aload_n 0, 1) := dk_42 (dk_at dksX3_choice_6 21 rfl rfl)
theorem dX3_choice_164 : decode cX3_choice 164 = .ok (.getfield 90, 3) := dk_180 0 90 (dk_at dksX3_choice_7 0 rfl rfl)
theorem dX3_choice_167 : decode cX3_choice 167 = .ok (.bipush 7, 2) := dk_16 7 (dk_at dksX3_choice_7 3 rfl rfl)
theorem dX3_choice_169 : decode cX3_choice 169 = .ok (.iload_n 2, 1) := dk_28 (dk_at dksX3_choice_7 5 rfl rfl)
theorem dX3_choice_170 : decode cX3_choice 170 = .ok (.invokestatic 370, 3) := dk_184 1 114 (dk_at dksX3_choice_7 6 rfl rfl)
theorem dX3_choice_173 : decode cX3_choice 173 = .ok (.i2l, 1) := dk_133 (dk_at dksX3_choice_7 9 rfl rfl)
theorem dX3_choice_174 : decode cX3_choice 174 = .ok (.lastore, 1) := dk_80 (dk_at dksX3_choice_7 10 rfl rfl)
theorem dX3_choice_175 : decode cX3_choice 175 = .ok (.aload_n 0, 1) := dk_42 (dk_at dksX3_choice_7 11 rfl rfl)
theorem dX3_choice_176 : decode cX3_choice 176 = .ok (.getfield 90, 3) := dk_180 0 90 (dk_at dksX3_choice_7 12 rfl rfl)
theorem dX3_choice_179 : decode cX3_choice 179 = .ok (.bipush 8, 2) := dk_16 8 (dk_at dksX3_choice_7 15 rfl rfl)
theorem dX3_choice_181 : decode cX3_choice 181 = .ok (.aload_n 0, 1) := dk_42 (dk_at dksX3_choice_7 17 rfl rfl)
theorem dX3_choice_182 : decode cX3_choice 182 = .ok (.iload_n 2, 1) := dk_28 (dk_at dksX3_choice_7 18 rfl rfl)
theorem dX3_choice_183 : decode cX3_choice 183 = .ok (.invokevirtual 338, 3) := dk_182 1 82 (dk_at dksX3_choice_7 19 rfl rfl)
theorem dX3_choice_186 : decode cX3_choice 186 = .ok (.i2l, 1) := dk_133 (dk_at dksX3_choice_7 22 rfl rfl)
theorem dX3_choice_187 : decode cX3_choice 187 = .ok (.lastore, 1) := dk_80 (dk_at dksX3_choice_7 23 rfl rfl)
theorem dX3_choice_188 : decode cX3_choice 188 = .ok (.aload_n 0, 1) := dk_42 (dk_at dksX3_choice_8 0 rfl rfl)
theorem dX3_choice_189 : decode cX3_choice 189 = .ok (.getfield 90, 3) := dk_180 0 90 (dk_at dksX3_choice_8 1 rfl rfl)
theorem dX3_choice_192 : decode cX3_choice 192 = .ok (.bipush 9, 2) := dk_16 9 (dk_at dksX3_choice_8 4 rfl rfl)
theorem dX3_choice_194 : decode cX3_choice 194 = .ok (.aload_n 0, 1) := dk_42 (dk_at dksX3_choice_8 6 rfl rfl)
theorem dX3_choice_195 : decode cX3_choice 195 = .ok (.iconst 2, 1) := dk_5 (dk_at dksX3_choice_8 7 rfl rfl)
theorem dX3_choice_196 : decode cX3_choice 196 = .ok (.invokevirtual 341, 3) := dk_182 1 85 (dk_at dksX3_choice_8 8 rfl rfl)
theorem dX3_choice_199 : decode cX3_choice 199 = .ok (.invokestatic 370, 3) := dk_184 1 114 (dk_at dksX3_choice_8 11 rfl rfl)
theorem dX3_choice_202 : decode cX3_choice 202 = .ok (.i2l, 1) := dk_133 (dk_at dksX3_choice_8 14 rfl rfl)
theorem dX3_choice_203 : decode cX3_choice 203 = .ok (.lastore, 1) := dk_80 (dk_at dksX3_choice_8 15 rfl rfl)
theorem dX3_choice_204 : decode cX3_choice 204 = .ok (.aload_n 0, 1) := dk_42 (dk_at dksX3_choice_8 16 rfl rfl)
theorem dX3_choice_205 : decode cX3_choice 205 = .ok (.getfield 90, 3) := dk_180 0 90 (dk_at dksX3_choice_8 17 rfl rfl)
theorem dX3_choice_208 : decode cX3_choice 208 = .ok (.bipush 10, 2) := dk_16 10 (dk_at dksX3_choice_8 20 rfl rfl)
theorem dX3_choice_210 : decode cX3_choice 210 = .ok (.aload_n 0, 1) := dk_42 (dk_at dksX3_choice_8 22 rfl rfl)
theorem dX3_choice_211 : decode cX3_choice 211 = .ok (.getfield 9, 3) := dk_180 0 9 (dk_at dksX3_choice_9 0 rfl rfl)
theorem dX3_choice_214 : decode cX3_choice 214 = .ok (.iconst 4, 1) := dk_7 (dk_at dksX3_choice_9 3 rfl rfl)
theorem dX3_choice_215 : decode cX3_choice 215 = .ok (.iaload, 1) := dk_46 (dk_at dksX3_choice_9 4 rfl rfl)
theorem dX3_choice_216 : decode cX3_choice 216 = .ok (.i2l, 1) := dk_133 (dk_at dksX3_choice_9 5 rfl rfl)
theorem dX3_choice_217 : decode cX3_choice 217 = .ok (.lastore, 1) := dk_80 (dk_at dksX3_choice_9 6 rfl rfl)
theorem dX3_choice_218 : decode cX3_choice 218 = .ok (.aload_n 0, 1) := dk_42 (dk_at dksX3_choice_9 7 rfl rfl)
theorem dX3_choice_219 : decode cX3_choice 219 = .ok (.invokevirtual 373, 3) := dk_182 1 117 (dk_at dksX3_choice_9 8 rfl rfl)
theorem dX3_choice_222 : decode cX3_choice 222 = .ok (.lconst 0, 1) := dk_9 (dk_at dksX3_choice_9 11 rfl rfl)
theorem dX3_choice_223 : decode cX3_choice 223 = .ok (.lcmp, 1) := dk_148 (dk_at dksX3_choice_9 12 rfl rfl)
theorem dX3_choice_224 : decode cX3_choice 224 = .ok (.ifCond .le 7, 3) := dk_158 0 7 (dk_at dksX3_choice_9 13 rfl rfl)
theorem dX3_choice_227 : decode cX3_choice 227 = .ok (.iconst 1, 1) := dk_4 (dk_at dksX3_choice_9 16 rfl rfl)
theorem dX3_choice_228 : decode cX3_choice 228 = .ok (.goto 4, 3) := dk_167 0 4 (dk_at dksX3_choice_9 17 rfl rfl)
theorem dX3_choice_231 : decode cX3_choice 231 = .ok (.iconst 0, 1) := dk_3 (dk_at dksX3_choice_9 20 rfl rfl)
theorem dX3_choice_232 : decode cX3_choice 232 = .ok (.ireturn, 1) := dk_172 (dk_at dksX3_choice_9 21 rfl rfl)
abbrev cX3_bits : ByteArray := prog_17_method_4_code
def yX3_bits : MethodName := ⟨RX3, "bits", "(I)I"⟩
def dkwX3_bits_1 : List UInt8 := [27, 172]
abbrev dktX3_bits_1 : List UInt8 := dkwX3_bits_1 ++ []
def dkwX3_bits_0 : List UInt8 := [3, 60, 3, 61, 28, 16, 16, 162, 0, 17, 27, 26, 28, 122, 4, 126, 96, 60, 132, 2, 1, 167, 255, 239]
abbrev dktX3_bits_0 : List UInt8 := dkwX3_bits_0 ++ dktX3_bits_1
theorem dksX3_bits_0 : cX3_bits.data.toList.drop 0 = dktX3_bits_0 := by decide +kernel
theorem dksX3_bits_1 : cX3_bits.data.toList.drop 24 = dktX3_bits_1 := dk_seg dksX3_bits_0 24 rfl rfl
theorem dX3_bits_0 : decode cX3_bits 0 = .ok (.iconst 0, 1) := dk_3 (dk_at dksX3_bits_0 0 rfl rfl)
theorem dX3_bits_1 : decode cX3_bits 1 = .ok (.istore_n 1, 1) := dk_60 (dk_at dksX3_bits_0 1 rfl rfl)
theorem dX3_bits_2 : decode cX3_bits 2 = .ok (.iconst 0, 1) := dk_3 (dk_at dksX3_bits_0 2 rfl rfl)
theorem dX3_bits_3 : decode cX3_bits 3 = .ok (.istore_n 2, 1) := dk_61 (dk_at dksX3_bits_0 3 rfl rfl)
theorem dX3_bits_4 : decode cX3_bits 4 = .ok (.iload_n 2, 1) := dk_28 (dk_at dksX3_bits_0 4 rfl rfl)
theorem dX3_bits_5 : decode cX3_bits 5 = .ok (.bipush 16, 2) := dk_16 16 (dk_at dksX3_bits_0 5 rfl rfl)
theorem dX3_bits_7 : decode cX3_bits 7 = .ok (.if_icmp .ge 17, 3) := dk_162 0 17 (dk_at dksX3_bits_0 7 rfl rfl)
theorem dX3_bits_10 : decode cX3_bits 10 = .ok (.iload_n 1, 1) := dk_27 (dk_at dksX3_bits_0 10 rfl rfl)
theorem dX3_bits_11 : decode cX3_bits 11 = .ok (.iload_n 0, 1) := dk_26 (dk_at dksX3_bits_0 11 rfl rfl)
theorem dX3_bits_12 : decode cX3_bits 12 = .ok (.iload_n 2, 1) := dk_28 (dk_at dksX3_bits_0 12 rfl rfl)
theorem dX3_bits_13 : decode cX3_bits 13 = .ok (.ishr, 1) := dk_122 (dk_at dksX3_bits_0 13 rfl rfl)
theorem dX3_bits_14 : decode cX3_bits 14 = .ok (.iconst 1, 1) := dk_4 (dk_at dksX3_bits_0 14 rfl rfl)
theorem dX3_bits_15 : decode cX3_bits 15 = .ok (.iand, 1) := dk_126 (dk_at dksX3_bits_0 15 rfl rfl)
theorem dX3_bits_16 : decode cX3_bits 16 = .ok (.iadd, 1) := dk_96 (dk_at dksX3_bits_0 16 rfl rfl)
theorem dX3_bits_17 : decode cX3_bits 17 = .ok (.istore_n 1, 1) := dk_60 (dk_at dksX3_bits_0 17 rfl rfl)
theorem dX3_bits_18 : decode cX3_bits 18 = .ok (.iinc 2 1, 3) := dk_132 2 1 (dk_at dksX3_bits_0 18 rfl rfl)
theorem dX3_bits_21 : decode cX3_bits 21 = .ok (.goto (-17), 3) := dk_167 255 239 (dk_at dksX3_bits_0 21 rfl rfl)
theorem dX3_bits_24 : decode cX3_bits 24 = .ok (.iload_n 1, 1) := dk_27 (dk_at dksX3_bits_1 0 rfl rfl)
theorem dX3_bits_25 : decode cX3_bits 25 = .ok (.ireturn, 1) := dk_172 (dk_at dksX3_bits_1 1 rfl rfl)
abbrev cX3_wanted : ByteArray := prog_17_method_47_code
def yX3_wanted : MethodName := ⟨RX3, "wanted", "()J"⟩
def dkwX3_wanted_3 : List UInt8 := [180, 0, 78, 28, 46, 42, 180, 0, 81, 28, 46, 182, 1, 64, 173, 132, 2, 1, 167, 255, 183, 9, 173]
abbrev dktX3_wanted_3 : List UInt8 := dkwX3_wanted_3 ++ []
def dkwX3_wanted_2 : List UInt8 := [180, 0, 81, 28, 46, 42, 180, 0, 84, 28, 46, 182, 1, 64, 10, 148, 154, 0, 21, 42, 27, 42]
abbrev dktX3_wanted_2 : List UInt8 := dkwX3_wanted_2 ++ dktX3_wanted_3
def dkwX3_wanted_1 : List UInt8 := [96, 162, 0, 64, 42, 180, 0, 81, 28, 46, 42, 180, 0, 84, 28, 46, 159, 0, 25, 42, 27, 42]
abbrev dktX3_wanted_1 : List UInt8 := dkwX3_wanted_1 ++ dktX3_wanted_2
def dkwX3_wanted_0 : List UInt8 := [42, 180, 0, 9, 16, 7, 46, 60, 16, 12, 27, 104, 61, 28, 16, 12, 27, 104, 42, 180, 0, 75, 27, 46]
abbrev dktX3_wanted_0 : List UInt8 := dkwX3_wanted_0 ++ dktX3_wanted_1
theorem dksX3_wanted_0 : cX3_wanted.data.toList.drop 0 = dktX3_wanted_0 := by decide +kernel
theorem dksX3_wanted_1 : cX3_wanted.data.toList.drop 24 = dktX3_wanted_1 := dk_seg dksX3_wanted_0 24 rfl rfl
theorem dksX3_wanted_2 : cX3_wanted.data.toList.drop 46 = dktX3_wanted_2 := dk_seg dksX3_wanted_1 22 rfl rfl
theorem dksX3_wanted_3 : cX3_wanted.data.toList.drop 68 = dktX3_wanted_3 := dk_seg dksX3_wanted_2 22 rfl rfl
theorem dX3_wanted_0 : decode cX3_wanted 0 = .ok (.aload_n 0, 1) := dk_42 (dk_at dksX3_wanted_0 0 rfl rfl)
theorem dX3_wanted_1 : decode cX3_wanted 1 = .ok (.getfield 9, 3) := dk_180 0 9 (dk_at dksX3_wanted_0 1 rfl rfl)
theorem dX3_wanted_4 : decode cX3_wanted 4 = .ok (.bipush 7, 2) := dk_16 7 (dk_at dksX3_wanted_0 4 rfl rfl)
theorem dX3_wanted_6 : decode cX3_wanted 6 = .ok (.iaload, 1) := dk_46 (dk_at dksX3_wanted_0 6 rfl rfl)
theorem dX3_wanted_7 : decode cX3_wanted 7 = .ok (.istore_n 1, 1) := dk_60 (dk_at dksX3_wanted_0 7 rfl rfl)
theorem dX3_wanted_8 : decode cX3_wanted 8 = .ok (.bipush 12, 2) := dk_16 12 (dk_at dksX3_wanted_0 8 rfl rfl)
theorem dX3_wanted_10 : decode cX3_wanted 10 = .ok (.iload_n 1, 1) := dk_27 (dk_at dksX3_wanted_0 10 rfl rfl)
theorem dX3_wanted_11 : decode cX3_wanted 11 = .ok (.imul, 1) := dk_104 (dk_at dksX3_wanted_0 11 rfl rfl)
theorem dX3_wanted_12 : decode cX3_wanted 12 = .ok (.istore_n 2, 1) := dk_61 (dk_at dksX3_wanted_0 12 rfl rfl)
theorem dX3_wanted_13 : decode cX3_wanted 13 = .ok (.iload_n 2, 1) := dk_28 (dk_at dksX3_wanted_0 13 rfl rfl)
theorem dX3_wanted_14 : decode cX3_wanted 14 = .ok (.bipush 12, 2) := dk_16 12 (dk_at dksX3_wanted_0 14 rfl rfl)
theorem dX3_wanted_16 : decode cX3_wanted 16 = .ok (.iload_n 1, 1) := dk_27 (dk_at dksX3_wanted_0 16 rfl rfl)
theorem dX3_wanted_17 : decode cX3_wanted 17 = .ok (.imul, 1) := dk_104 (dk_at dksX3_wanted_0 17 rfl rfl)
theorem dX3_wanted_18 : decode cX3_wanted 18 = .ok (.aload_n 0, 1) := dk_42 (dk_at dksX3_wanted_0 18 rfl rfl)
theorem dX3_wanted_19 : decode cX3_wanted 19 = .ok (.getfield 75, 3) := dk_180 0 75 (dk_at dksX3_wanted_0 19 rfl rfl)
theorem dX3_wanted_22 : decode cX3_wanted 22 = .ok (.iload_n 1, 1) := dk_27 (dk_at dksX3_wanted_0 22 rfl rfl)
theorem dX3_wanted_23 : decode cX3_wanted 23 = .ok (.iaload, 1) := dk_46 (dk_at dksX3_wanted_0 23 rfl rfl)
theorem dX3_wanted_24 : decode cX3_wanted 24 = .ok (.iadd, 1) := dk_96 (dk_at dksX3_wanted_1 0 rfl rfl)
theorem dX3_wanted_25 : decode cX3_wanted 25 = .ok (.if_icmp .ge 64, 3) := dk_162 0 64 (dk_at dksX3_wanted_1 1 rfl rfl)
theorem dX3_wanted_28 : decode cX3_wanted 28 = .ok (.aload_n 0, 1) := dk_42 (dk_at dksX3_wanted_1 4 rfl rfl)
theorem dX3_wanted_29 : decode cX3_wanted 29 = .ok (.getfield 81, 3) := dk_180 0 81 (dk_at dksX3_wanted_1 5 rfl rfl)
theorem dX3_wanted_32 : decode cX3_wanted 32 = .ok (.iload_n 2, 1) := dk_28 (dk_at dksX3_wanted_1 8 rfl rfl)
theorem dX3_wanted_33 : decode cX3_wanted 33 = .ok (.iaload, 1) := dk_46 (dk_at dksX3_wanted_1 9 rfl rfl)
theorem dX3_wanted_34 : decode cX3_wanted 34 = .ok (.aload_n 0, 1) := dk_42 (dk_at dksX3_wanted_1 10 rfl rfl)
theorem dX3_wanted_35 : decode cX3_wanted 35 = .ok (.getfield 84, 3) := dk_180 0 84 (dk_at dksX3_wanted_1 11 rfl rfl)
theorem dX3_wanted_38 : decode cX3_wanted 38 = .ok (.iload_n 2, 1) := dk_28 (dk_at dksX3_wanted_1 14 rfl rfl)
theorem dX3_wanted_39 : decode cX3_wanted 39 = .ok (.iaload, 1) := dk_46 (dk_at dksX3_wanted_1 15 rfl rfl)
theorem dX3_wanted_40 : decode cX3_wanted 40 = .ok (.if_icmp .eq 25, 3) := dk_159 0 25 (dk_at dksX3_wanted_1 16 rfl rfl)
theorem dX3_wanted_43 : decode cX3_wanted 43 = .ok (.aload_n 0, 1) := dk_42 (dk_at dksX3_wanted_1 19 rfl rfl)
theorem dX3_wanted_44 : decode cX3_wanted 44 = .ok (.iload_n 1, 1) := dk_27 (dk_at dksX3_wanted_1 20 rfl rfl)
theorem dX3_wanted_45 : decode cX3_wanted 45 = .ok (.aload_n 0, 1) := dk_42 (dk_at dksX3_wanted_1 21 rfl rfl)
theorem dX3_wanted_46 : decode cX3_wanted 46 = .ok (.getfield 81, 3) := dk_180 0 81 (dk_at dksX3_wanted_2 0 rfl rfl)
theorem dX3_wanted_49 : decode cX3_wanted 49 = .ok (.iload_n 2, 1) := dk_28 (dk_at dksX3_wanted_2 3 rfl rfl)
theorem dX3_wanted_50 : decode cX3_wanted 50 = .ok (.iaload, 1) := dk_46 (dk_at dksX3_wanted_2 4 rfl rfl)
theorem dX3_wanted_51 : decode cX3_wanted 51 = .ok (.aload_n 0, 1) := dk_42 (dk_at dksX3_wanted_2 5 rfl rfl)
theorem dX3_wanted_52 : decode cX3_wanted 52 = .ok (.getfield 84, 3) := dk_180 0 84 (dk_at dksX3_wanted_2 6 rfl rfl)
theorem dX3_wanted_55 : decode cX3_wanted 55 = .ok (.iload_n 2, 1) := dk_28 (dk_at dksX3_wanted_2 9 rfl rfl)
theorem dX3_wanted_56 : decode cX3_wanted 56 = .ok (.iaload, 1) := dk_46 (dk_at dksX3_wanted_2 10 rfl rfl)
theorem dX3_wanted_57 : decode cX3_wanted 57 = .ok (.invokevirtual 320, 3) := dk_182 1 64 (dk_at dksX3_wanted_2 11 rfl rfl)
theorem dX3_wanted_60 : decode cX3_wanted 60 = .ok (.lconst 1, 1) := dk_10 (dk_at dksX3_wanted_2 14 rfl rfl)
theorem dX3_wanted_61 : decode cX3_wanted 61 = .ok (.lcmp, 1) := dk_148 (dk_at dksX3_wanted_2 15 rfl rfl)
theorem dX3_wanted_62 : decode cX3_wanted 62 = .ok (.ifCond .ne 21, 3) := dk_154 0 21 (dk_at dksX3_wanted_2 16 rfl rfl)
theorem dX3_wanted_65 : decode cX3_wanted 65 = .ok (.aload_n 0, 1) := dk_42 (dk_at dksX3_wanted_2 19 rfl rfl)
theorem dX3_wanted_66 : decode cX3_wanted 66 = .ok (.iload_n 1, 1) := dk_27 (dk_at dksX3_wanted_2 20 rfl rfl)
theorem dX3_wanted_67 : decode cX3_wanted 67 = .ok (.aload_n 0, 1) := dk_42 (dk_at dksX3_wanted_2 21 rfl rfl)
theorem dX3_wanted_68 : decode cX3_wanted 68 = .ok (.getfield 78, 3) := dk_180 0 78 (dk_at dksX3_wanted_3 0 rfl rfl)
theorem dX3_wanted_71 : decode cX3_wanted 71 = .ok (.iload_n 2, 1) := dk_28 (dk_at dksX3_wanted_3 3 rfl rfl)
theorem dX3_wanted_72 : decode cX3_wanted 72 = .ok (.iaload, 1) := dk_46 (dk_at dksX3_wanted_3 4 rfl rfl)
theorem dX3_wanted_73 : decode cX3_wanted 73 = .ok (.aload_n 0, 1) := dk_42 (dk_at dksX3_wanted_3 5 rfl rfl)
theorem dX3_wanted_74 : decode cX3_wanted 74 = .ok (.getfield 81, 3) := dk_180 0 81 (dk_at dksX3_wanted_3 6 rfl rfl)
theorem dX3_wanted_77 : decode cX3_wanted 77 = .ok (.iload_n 2, 1) := dk_28 (dk_at dksX3_wanted_3 9 rfl rfl)
theorem dX3_wanted_78 : decode cX3_wanted 78 = .ok (.iaload, 1) := dk_46 (dk_at dksX3_wanted_3 10 rfl rfl)
theorem dX3_wanted_79 : decode cX3_wanted 79 = .ok (.invokevirtual 320, 3) := dk_182 1 64 (dk_at dksX3_wanted_3 11 rfl rfl)
theorem dX3_wanted_82 : decode cX3_wanted 82 = .ok (.lreturn, 1) := dk_173 (dk_at dksX3_wanted_3 14 rfl rfl)
theorem dX3_wanted_83 : decode cX3_wanted 83 = .ok (.iinc 2 1, 3) := dk_132 2 1 (dk_at dksX3_wanted_3 15 rfl rfl)
theorem dX3_wanted_86 : decode cX3_wanted 86 = .ok (.goto (-73), 3) := dk_167 255 183 (dk_at dksX3_wanted_3 18 rfl rfl)
theorem dX3_wanted_89 : decode cX3_wanted 89 = .ok (.lconst 0, 1) := dk_9 (dk_at dksX3_wanted_3 21 rfl rfl)
theorem dX3_wanted_90 : decode cX3_wanted 90 = .ok (.lreturn, 1) := dk_173 (dk_at dksX3_wanted_3 22 rfl rfl)
abbrev cX3_answer : ByteArray := prog_17_method_50_code
def yX3_answer : MethodName := ⟨RX3, "answer", "(III)J"⟩
def dkwX3_answer_6 : List UInt8 := [47, 184, 1, 72, 80, 132, 5, 1, 167, 255, 112, 42, 180, 0, 94, 3, 47, 173]
abbrev dktX3_answer_6 : List UInt8 := dkwX3_answer_6 ++ []
def dkwX3_answer_5 : List UInt8 := [180, 0, 94, 21, 4, 4, 100, 21, 6, 42, 180, 0, 94, 21, 4, 4, 100, 47, 42, 180, 0, 94, 21, 4]
abbrev dktX3_answer_5 : List UInt8 := dkwX3_answer_5 ++ dktX3_answer_6
def dkwX3_answer_4 : List UInt8 := [21, 4, 4, 100, 10, 42, 180, 0, 94, 21, 4, 4, 100, 47, 101, 80, 167, 0, 36, 132, 4, 255, 42]
abbrev dktX3_answer_4 : List UInt8 := dkwX3_answer_4 ++ dktX3_answer_5
def dkwX3_answer_3 : List UInt8 := [180, 0, 90, 21, 7, 47, 80, 132, 4, 1, 167, 0, 66, 21, 6, 16, 9, 160, 0, 26, 42, 180, 0, 94]
abbrev dktX3_answer_3 : List UInt8 := dkwX3_answer_3 ++ dktX3_answer_4
def dkwX3_answer_2 : List UInt8 := [21, 6, 4, 160, 0, 34, 42, 180, 0, 94, 21, 4, 21, 6, 154, 0, 9, 21, 7, 133, 167, 0, 10, 42]
abbrev dktX3_answer_2 : List UInt8 := dkwX3_answer_2 ++ dktX3_answer_3
def dkwX3_answer_1 : List UInt8 := [46, 54, 6, 42, 180, 0, 72, 17, 1, 44, 27, 104, 21, 5, 96, 46, 54, 7, 21, 6, 153, 0, 9]
abbrev dktX3_answer_1 : List UInt8 := dkwX3_answer_1 ++ dktX3_answer_2
def dkwX3_answer_0 : List UInt8 := [3, 54, 4, 28, 54, 5, 21, 5, 29, 162, 0, 144, 42, 180, 0, 69, 17, 1, 44, 27, 104, 21, 5, 96]
abbrev dktX3_answer_0 : List UInt8 := dkwX3_answer_0 ++ dktX3_answer_1
theorem dksX3_answer_0 : cX3_answer.data.toList.drop 0 = dktX3_answer_0 := by decide +kernel
theorem dksX3_answer_1 : cX3_answer.data.toList.drop 24 = dktX3_answer_1 := dk_seg dksX3_answer_0 24 rfl rfl
theorem dksX3_answer_2 : cX3_answer.data.toList.drop 47 = dktX3_answer_2 := dk_seg dksX3_answer_1 23 rfl rfl
theorem dksX3_answer_3 : cX3_answer.data.toList.drop 71 = dktX3_answer_3 := dk_seg dksX3_answer_2 24 rfl rfl
theorem dksX3_answer_4 : cX3_answer.data.toList.drop 95 = dktX3_answer_4 := dk_seg dksX3_answer_3 24 rfl rfl
theorem dksX3_answer_5 : cX3_answer.data.toList.drop 118 = dktX3_answer_5 := dk_seg dksX3_answer_4 23 rfl rfl
theorem dksX3_answer_6 : cX3_answer.data.toList.drop 142 = dktX3_answer_6 := dk_seg dksX3_answer_5 24 rfl rfl
theorem dX3_answer_0 : decode cX3_answer 0 = .ok (.iconst 0, 1) := dk_3 (dk_at dksX3_answer_0 0 rfl rfl)
theorem dX3_answer_1 : decode cX3_answer 1 = .ok (.istore 4, 2) := dk_54 4 (dk_at dksX3_answer_0 1 rfl rfl)
theorem dX3_answer_3 : decode cX3_answer 3 = .ok (.iload_n 2, 1) := dk_28 (dk_at dksX3_answer_0 3 rfl rfl)
theorem dX3_answer_4 : decode cX3_answer 4 = .ok (.istore 5, 2) := dk_54 5 (dk_at dksX3_answer_0 4 rfl rfl)
theorem dX3_answer_6 : decode cX3_answer 6 = .ok (.iload 5, 2) := dk_21 5 (dk_at dksX3_answer_0 6 rfl rfl)
theorem dX3_answer_8 : decode cX3_answer 8 = .ok (.iload_n 3, 1) := dk_29 (dk_at dksX3_answer_0 8 rfl rfl)
theorem dX3_answer_9 : decode cX3_answer 9 = .ok (.if_icmp .ge 144, 3) := dk_162 0 144 (dk_at dksX3_answer_0 9 rfl rfl)
theorem dX3_answer_12 : decode cX3_answer 12 = .ok (.aload_n 0, 1) := dk_42 (dk_at dksX3_answer_0 12 rfl rfl)
theorem dX3_answer_13 : decode cX3_answer 13 = .ok (.getfield 69, 3) := dk_180 0 69 (dk_at dksX3_answer_0 13 rfl rfl)
theorem dX3_answer_16 : decode cX3_answer 16 = .ok (.sipush 300, 3) := dk_17 1 44 (dk_at dksX3_answer_0 16 rfl rfl)
theorem dX3_answer_19 : decode cX3_answer 19 = .ok (.iload_n 1, 1) := dk_27 (dk_at dksX3_answer_0 19 rfl rfl)
theorem dX3_answer_20 : decode cX3_answer 20 = .ok (.imul, 1) := dk_104 (dk_at dksX3_answer_0 20 rfl rfl)
theorem dX3_answer_21 : decode cX3_answer 21 = .ok (.iload 5, 2) := dk_21 5 (dk_at dksX3_answer_0 21 rfl rfl)
theorem dX3_answer_23 : decode cX3_answer 23 = .ok (.iadd, 1) := dk_96 (dk_at dksX3_answer_0 23 rfl rfl)
theorem dX3_answer_24 : decode cX3_answer 24 = .ok (.iaload, 1) := dk_46 (dk_at dksX3_answer_1 0 rfl rfl)
theorem dX3_answer_25 : decode cX3_answer 25 = .ok (.istore 6, 2) := dk_54 6 (dk_at dksX3_answer_1 1 rfl rfl)
theorem dX3_answer_27 : decode cX3_answer 27 = .ok (.aload_n 0, 1) := dk_42 (dk_at dksX3_answer_1 3 rfl rfl)
theorem dX3_answer_28 : decode cX3_answer 28 = .ok (.getfield 72, 3) := dk_180 0 72 (dk_at dksX3_answer_1 4 rfl rfl)
theorem dX3_answer_31 : decode cX3_answer 31 = .ok (.sipush 300, 3) := dk_17 1 44 (dk_at dksX3_answer_1 7 rfl rfl)
theorem dX3_answer_34 : decode cX3_answer 34 = .ok (.iload_n 1, 1) := dk_27 (dk_at dksX3_answer_1 10 rfl rfl)
theorem dX3_answer_35 : decode cX3_answer 35 = .ok (.imul, 1) := dk_104 (dk_at dksX3_answer_1 11 rfl rfl)
theorem dX3_answer_36 : decode cX3_answer 36 = .ok (.iload 5, 2) := dk_21 5 (dk_at dksX3_answer_1 12 rfl rfl)
theorem dX3_answer_38 : decode cX3_answer 38 = .ok (.iadd, 1) := dk_96 (dk_at dksX3_answer_1 14 rfl rfl)
theorem dX3_answer_39 : decode cX3_answer 39 = .ok (.iaload, 1) := dk_46 (dk_at dksX3_answer_1 15 rfl rfl)
theorem dX3_answer_40 : decode cX3_answer 40 = .ok (.istore 7, 2) := dk_54 7 (dk_at dksX3_answer_1 16 rfl rfl)
theorem dX3_answer_42 : decode cX3_answer 42 = .ok (.iload 6, 2) := dk_21 6 (dk_at dksX3_answer_1 18 rfl rfl)
theorem dX3_answer_44 : decode cX3_answer 44 = .ok (.ifCond .eq 9, 3) := dk_153 0 9 (dk_at dksX3_answer_1 20 rfl rfl)
theorem dX3_answer_47 : decode cX3_answer 47 = .ok (.iload 6, 2) := dk_21 6 (dk_at dksX3_answer_2 0 rfl rfl)
theorem dX3_answer_49 : decode cX3_answer 49 = .ok (.iconst 1, 1) := dk_4 (dk_at dksX3_answer_2 2 rfl rfl)
theorem dX3_answer_50 : decode cX3_answer 50 = .ok (.if_icmp .ne 34, 3) := dk_160 0 34 (dk_at dksX3_answer_2 3 rfl rfl)
theorem dX3_answer_53 : decode cX3_answer 53 = .ok (.aload_n 0, 1) := dk_42 (dk_at dksX3_answer_2 6 rfl rfl)
theorem dX3_answer_54 : decode cX3_answer 54 = .ok (.getfield 94, 3) := dk_180 0 94 (dk_at dksX3_answer_2 7 rfl rfl)
theorem dX3_answer_57 : decode cX3_answer 57 = .ok (.iload 4, 2) := dk_21 4 (dk_at dksX3_answer_2 10 rfl rfl)
theorem dX3_answer_59 : decode cX3_answer 59 = .ok (.iload 6, 2) := dk_21 6 (dk_at dksX3_answer_2 12 rfl rfl)
theorem dX3_answer_61 : decode cX3_answer 61 = .ok (.ifCond .ne 9, 3) := dk_154 0 9 (dk_at dksX3_answer_2 14 rfl rfl)
theorem dX3_answer_64 : decode cX3_answer 64 = .ok (.iload 7, 2) := dk_21 7 (dk_at dksX3_answer_2 17 rfl rfl)
theorem dX3_answer_66 : decode cX3_answer 66 = .ok (.i2l, 1) := dk_133 (dk_at dksX3_answer_2 19 rfl rfl)
theorem dX3_answer_67 : decode cX3_answer 67 = .ok (.goto 10, 3) := dk_167 0 10 (dk_at dksX3_answer_2 20 rfl rfl)
theorem dX3_answer_70 : decode cX3_answer 70 = .ok (.aload_n 0, 1) := dk_42 (dk_at dksX3_answer_2 23 rfl rfl)
theorem dX3_answer_71 : decode cX3_answer 71 = .ok (.getfield 90, 3) := dk_180 0 90 (dk_at dksX3_answer_3 0 rfl rfl)
theorem dX3_answer_74 : decode cX3_answer 74 = .ok (.iload 7, 2) := dk_21 7 (dk_at dksX3_answer_3 3 rfl rfl)
theorem dX3_answer_76 : decode cX3_answer 76 = .ok (.laload, 1) := dk_47 (dk_at dksX3_answer_3 5 rfl rfl)
theorem dX3_answer_77 : decode cX3_answer 77 = .ok (.lastore, 1) := dk_80 (dk_at dksX3_answer_3 6 rfl rfl)
theorem dX3_answer_78 : decode cX3_answer 78 = .ok (.iinc 4 1, 3) := dk_132 4 1 (dk_at dksX3_answer_3 7 rfl rfl)
theorem dX3_answer_81 : decode cX3_answer 81 = .ok (.goto 66, 3) := dk_167 0 66 (dk_at dksX3_answer_3 10 rfl rfl)
theorem dX3_answer_84 : decode cX3_answer 84 = .ok (.iload 6, 2) := dk_21 6 (dk_at dksX3_answer_3 13 rfl rfl)
theorem dX3_answer_86 : decode cX3_answer 86 = .ok (.bipush 9, 2) := dk_16 9 (dk_at dksX3_answer_3 15 rfl rfl)
theorem dX3_answer_88 : decode cX3_answer 88 = .ok (.if_icmp .ne 26, 3) := dk_160 0 26 (dk_at dksX3_answer_3 17 rfl rfl)
theorem dX3_answer_91 : decode cX3_answer 91 = .ok (.aload_n 0, 1) := dk_42 (dk_at dksX3_answer_3 20 rfl rfl)
theorem dX3_answer_92 : decode cX3_answer 92 = .ok (.getfield 94, 3) := dk_180 0 94 (dk_at dksX3_answer_3 21 rfl rfl)
theorem dX3_answer_95 : decode cX3_answer 95 = .ok (.iload 4, 2) := dk_21 4 (dk_at dksX3_answer_4 0 rfl rfl)
theorem dX3_answer_97 : decode cX3_answer 97 = .ok (.iconst 1, 1) := dk_4 (dk_at dksX3_answer_4 2 rfl rfl)
theorem dX3_answer_98 : decode cX3_answer 98 = .ok (.isub, 1) := dk_100 (dk_at dksX3_answer_4 3 rfl rfl)
theorem dX3_answer_99 : decode cX3_answer 99 = .ok (.lconst 1, 1) := dk_10 (dk_at dksX3_answer_4 4 rfl rfl)
theorem dX3_answer_100 : decode cX3_answer 100 = .ok (.aload_n 0, 1) := dk_42 (dk_at dksX3_answer_4 5 rfl rfl)
theorem dX3_answer_101 : decode cX3_answer 101 = .ok (.getfield 94, 3) := dk_180 0 94 (dk_at dksX3_answer_4 6 rfl rfl)
theorem dX3_answer_104 : decode cX3_answer 104 = .ok (.iload 4, 2) := dk_21 4 (dk_at dksX3_answer_4 9 rfl rfl)
theorem dX3_answer_106 : decode cX3_answer 106 = .ok (.iconst 1, 1) := dk_4 (dk_at dksX3_answer_4 11 rfl rfl)
theorem dX3_answer_107 : decode cX3_answer 107 = .ok (.isub, 1) := dk_100 (dk_at dksX3_answer_4 12 rfl rfl)
theorem dX3_answer_108 : decode cX3_answer 108 = .ok (.laload, 1) := dk_47 (dk_at dksX3_answer_4 13 rfl rfl)
theorem dX3_answer_109 : decode cX3_answer 109 = .ok (.lsub, 1) := dk_101 (dk_at dksX3_answer_4 14 rfl rfl)
theorem dX3_answer_110 : decode cX3_answer 110 = .ok (.lastore, 1) := dk_80 (dk_at dksX3_answer_4 15 rfl rfl)
theorem dX3_answer_111 : decode cX3_answer 111 = .ok (.goto 36, 3) := dk_167 0 36 (dk_at dksX3_answer_4 16 rfl rfl)
theorem dX3_answer_114 : decode cX3_answer 114 = .ok (.iinc 4 (-1), 3) := dk_132 4 255 (dk_at dksX3_answer_4 19 rfl rfl)
theorem dX3_answer_117 : decode cX3_answer 117 = .ok (.aload_n 0, 1) := dk_42 (dk_at dksX3_answer_4 22 rfl rfl)
theorem dX3_answer_118 : decode cX3_answer 118 = .ok (.getfield 94, 3) := dk_180 0 94 (dk_at dksX3_answer_5 0 rfl rfl)
theorem dX3_answer_121 : decode cX3_answer 121 = .ok (.iload 4, 2) := dk_21 4 (dk_at dksX3_answer_5 3 rfl rfl)
theorem dX3_answer_123 : decode cX3_answer 123 = .ok (.iconst 1, 1) := dk_4 (dk_at dksX3_answer_5 5 rfl rfl)
theorem dX3_answer_124 : decode cX3_answer 124 = .ok (.isub, 1) := dk_100 (dk_at dksX3_answer_5 6 rfl rfl)
theorem dX3_answer_125 : decode cX3_answer 125 = .ok (.iload 6, 2) := dk_21 6 (dk_at dksX3_answer_5 7 rfl rfl)
theorem dX3_answer_127 : decode cX3_answer 127 = .ok (.aload_n 0, 1) := dk_42 (dk_at dksX3_answer_5 9 rfl rfl)
theorem dX3_answer_128 : decode cX3_answer 128 = .ok (.getfield 94, 3) := dk_180 0 94 (dk_at dksX3_answer_5 10 rfl rfl)
theorem dX3_answer_131 : decode cX3_answer 131 = .ok (.iload 4, 2) := dk_21 4 (dk_at dksX3_answer_5 13 rfl rfl)
theorem dX3_answer_133 : decode cX3_answer 133 = .ok (.iconst 1, 1) := dk_4 (dk_at dksX3_answer_5 15 rfl rfl)
theorem dX3_answer_134 : decode cX3_answer 134 = .ok (.isub, 1) := dk_100 (dk_at dksX3_answer_5 16 rfl rfl)
theorem dX3_answer_135 : decode cX3_answer 135 = .ok (.laload, 1) := dk_47 (dk_at dksX3_answer_5 17 rfl rfl)
theorem dX3_answer_136 : decode cX3_answer 136 = .ok (.aload_n 0, 1) := dk_42 (dk_at dksX3_answer_5 18 rfl rfl)
theorem dX3_answer_137 : decode cX3_answer 137 = .ok (.getfield 94, 3) := dk_180 0 94 (dk_at dksX3_answer_5 19 rfl rfl)
theorem dX3_answer_140 : decode cX3_answer 140 = .ok (.iload 4, 2) := dk_21 4 (dk_at dksX3_answer_5 22 rfl rfl)
theorem dX3_answer_142 : decode cX3_answer 142 = .ok (.laload, 1) := dk_47 (dk_at dksX3_answer_6 0 rfl rfl)
theorem dX3_answer_143 : decode cX3_answer 143 = .ok (.invokestatic 328, 3) := dk_184 1 72 (dk_at dksX3_answer_6 1 rfl rfl)
theorem dX3_answer_146 : decode cX3_answer 146 = .ok (.lastore, 1) := dk_80 (dk_at dksX3_answer_6 4 rfl rfl)
theorem dX3_answer_147 : decode cX3_answer 147 = .ok (.iinc 5 1, 3) := dk_132 5 1 (dk_at dksX3_answer_6 5 rfl rfl)
theorem dX3_answer_150 : decode cX3_answer 150 = .ok (.goto (-144), 3) := dk_167 255 112 (dk_at dksX3_answer_6 8 rfl rfl)
theorem dX3_answer_153 : decode cX3_answer 153 = .ok (.aload_n 0, 1) := dk_42 (dk_at dksX3_answer_6 11 rfl rfl)
theorem dX3_answer_154 : decode cX3_answer 154 = .ok (.getfield 94, 3) := dk_180 0 94 (dk_at dksX3_answer_6 12 rfl rfl)
theorem dX3_answer_157 : decode cX3_answer 157 = .ok (.iconst 0, 1) := dk_3 (dk_at dksX3_answer_6 15 rfl rfl)
theorem dX3_answer_158 : decode cX3_answer 158 = .ok (.laload, 1) := dk_47 (dk_at dksX3_answer_6 16 rfl rfl)
theorem dX3_answer_159 : decode cX3_answer 159 = .ok (.lreturn, 1) := dk_173 (dk_at dksX3_answer_6 17 rfl rfl)
abbrev cX3_both : ByteArray := prog_17_method_49_code
def yX3_both : MethodName := ⟨RX3, "both", "(IJJ)J"⟩
def dkwX3_both_7 : List UInt8 := [31, 33, 129, 173]
abbrev dktX3_both_7 : List UInt8 := dkwX3_both_7 ++ []
def dkwX3_both_6 : List UInt8 := [3, 184, 1, 68, 173, 31, 33, 148, 158, 0, 7, 4, 167, 0, 4, 3, 184, 1, 68, 173, 31, 33, 127, 173]
abbrev dktX3_both_6 : List UInt8 := dkwX3_both_6 ++ dktX3_both_7
def dkwX3_both_5 : List UInt8 := [33, 148, 154, 0, 7, 4, 167, 0, 4, 3, 184, 1, 68, 173, 31, 33, 148, 155, 0, 7, 4, 167, 0, 4]
abbrev dktX3_both_5 : List UInt8 := dkwX3_both_5 ++ dktX3_both_6
def dkwX3_both_4 : List UInt8 := [167, 0, 4, 3, 184, 1, 68, 173, 31, 33, 148, 157, 0, 7, 4, 167, 0, 4, 3, 184, 1, 68, 173, 31]
abbrev dktX3_both_4 : List UInt8 := dkwX3_both_4 ++ dktX3_both_5
def dkwX3_both_3 : List UInt8 := [109, 173, 33, 9, 148, 154, 0, 7, 9, 167, 0, 6, 31, 33, 113, 173, 31, 33, 148, 156, 0, 7, 4]
abbrev dktX3_both_3 : List UInt8 := dkwX3_both_3 ++ dktX3_both_4
def dkwX3_both_2 : List UInt8 := [31, 33, 97, 173, 31, 33, 101, 173, 31, 33, 105, 173, 33, 9, 148, 154, 0, 7, 9, 167, 0, 6, 31, 33]
abbrev dktX3_both_2 : List UInt8 := dkwX3_both_2 ++ dktX3_both_3
def dkwX3_both_1 : List UInt8 := [170, 0, 0, 0, 0, 0, 190, 0, 0, 0, 2, 0, 0, 0, 15, 0, 0, 0, 71, 0, 0, 0, 75, 0, 0, 0, 111, 0, 0, 0, 126, 0, 0, 0, 141, 0, 0, 0, 156, 0, 0, 0, 171, 0, 0, 0, 190, 0, 0, 0, 186, 0, 0, 0, 190, 0, 0, 0, 190, 0, 0, 0, 79, 0, 0, 0, 83, 0, 0, 0, 97]
abbrev dktX3_both_1 : List UInt8 := dkwX3_both_1 ++ dktX3_both_2
def dkwX3_both_0 : List UInt8 := [26]
abbrev dktX3_both_0 : List UInt8 := dkwX3_both_0 ++ dktX3_both_1
theorem dksX3_both_0 : cX3_both.data.toList.drop 0 = dktX3_both_0 := by decide +kernel
theorem dksX3_both_1 : cX3_both.data.toList.drop 1 = dktX3_both_1 := dk_seg dksX3_both_0 1 rfl rfl
theorem dksX3_both_2 : cX3_both.data.toList.drop 72 = dktX3_both_2 := dk_seg dksX3_both_1 71 rfl rfl
theorem dksX3_both_3 : cX3_both.data.toList.drop 96 = dktX3_both_3 := dk_seg dksX3_both_2 24 rfl rfl
theorem dksX3_both_4 : cX3_both.data.toList.drop 119 = dktX3_both_4 := dk_seg dksX3_both_3 23 rfl rfl
theorem dksX3_both_5 : cX3_both.data.toList.drop 143 = dktX3_both_5 := dk_seg dksX3_both_4 24 rfl rfl
theorem dksX3_both_6 : cX3_both.data.toList.drop 167 = dktX3_both_6 := dk_seg dksX3_both_5 24 rfl rfl
theorem dksX3_both_7 : cX3_both.data.toList.drop 191 = dktX3_both_7 := dk_seg dksX3_both_6 24 rfl rfl
theorem dX3_both_0 : decode cX3_both 0 = .ok (.iload_n 0, 1) := dk_26 (dk_at dksX3_both_0 0 rfl rfl)
theorem dX3_both_1 : decode cX3_both 1 = .ok (.tableswitch 190 2 15 #[71, 75, 111, 126, 141, 156, 171, 190, 186, 190, 190, 79, 83, 97], 71) := by decide +kernel
theorem dX3_both_72 : decode cX3_both 72 = .ok (.lload_n 1, 1) := dk_31 (dk_at dksX3_both_2 0 rfl rfl)
theorem dX3_both_73 : decode cX3_both 73 = .ok (.lload_n 3, 1) := dk_33 (dk_at dksX3_both_2 1 rfl rfl)
theorem dX3_both_74 : decode cX3_both 74 = .ok (.ladd, 1) := dk_97 (dk_at dksX3_both_2 2 rfl rfl)
theorem dX3_both_75 : decode cX3_both 75 = .ok (.lreturn, 1) := dk_173 (dk_at dksX3_both_2 3 rfl rfl)
theorem dX3_both_76 : decode cX3_both 76 = .ok (.lload_n 1, 1) := dk_31 (dk_at dksX3_both_2 4 rfl rfl)
theorem dX3_both_77 : decode cX3_both 77 = .ok (.lload_n 3, 1) := dk_33 (dk_at dksX3_both_2 5 rfl rfl)
theorem dX3_both_78 : decode cX3_both 78 = .ok (.lsub, 1) := dk_101 (dk_at dksX3_both_2 6 rfl rfl)
theorem dX3_both_79 : decode cX3_both 79 = .ok (.lreturn, 1) := dk_173 (dk_at dksX3_both_2 7 rfl rfl)
theorem dX3_both_80 : decode cX3_both 80 = .ok (.lload_n 1, 1) := dk_31 (dk_at dksX3_both_2 8 rfl rfl)
theorem dX3_both_81 : decode cX3_both 81 = .ok (.lload_n 3, 1) := dk_33 (dk_at dksX3_both_2 9 rfl rfl)
theorem dX3_both_82 : decode cX3_both 82 = .ok (.lmul, 1) := dk_105 (dk_at dksX3_both_2 10 rfl rfl)
theorem dX3_both_83 : decode cX3_both 83 = .ok (.lreturn, 1) := dk_173 (dk_at dksX3_both_2 11 rfl rfl)
theorem dX3_both_84 : decode cX3_both 84 = .ok (.lload_n 3, 1) := dk_33 (dk_at dksX3_both_2 12 rfl rfl)
theorem dX3_both_85 : decode cX3_both 85 = .ok (.lconst 0, 1) := dk_9 (dk_at dksX3_both_2 13 rfl rfl)
theorem dX3_both_86 : decode cX3_both 86 = .ok (.lcmp, 1) := dk_148 (dk_at dksX3_both_2 14 rfl rfl)
theorem dX3_both_87 : decode cX3_both 87 = .ok (.ifCond .ne 7, 3) := dk_154 0 7 (dk_at dksX3_both_2 15 rfl rfl)
theorem dX3_both_90 : decode cX3_both 90 = .ok (.lconst 0, 1) := dk_9 (dk_at dksX3_both_2 18 rfl rfl)
theorem dX3_both_91 : decode cX3_both 91 = .ok (.goto 6, 3) := dk_167 0 6 (dk_at dksX3_both_2 19 rfl rfl)
theorem dX3_both_94 : decode cX3_both 94 = .ok (.lload_n 1, 1) := dk_31 (dk_at dksX3_both_2 22 rfl rfl)
theorem dX3_both_95 : decode cX3_both 95 = .ok (.lload_n 3, 1) := dk_33 (dk_at dksX3_both_2 23 rfl rfl)
theorem dX3_both_96 : decode cX3_both 96 = .ok (.ldiv, 1) := dk_109 (dk_at dksX3_both_3 0 rfl rfl)
theorem dX3_both_97 : decode cX3_both 97 = .ok (.lreturn, 1) := dk_173 (dk_at dksX3_both_3 1 rfl rfl)
theorem dX3_both_98 : decode cX3_both 98 = .ok (.lload_n 3, 1) := dk_33 (dk_at dksX3_both_3 2 rfl rfl)
theorem dX3_both_99 : decode cX3_both 99 = .ok (.lconst 0, 1) := dk_9 (dk_at dksX3_both_3 3 rfl rfl)
theorem dX3_both_100 : decode cX3_both 100 = .ok (.lcmp, 1) := dk_148 (dk_at dksX3_both_3 4 rfl rfl)
theorem dX3_both_101 : decode cX3_both 101 = .ok (.ifCond .ne 7, 3) := dk_154 0 7 (dk_at dksX3_both_3 5 rfl rfl)
theorem dX3_both_104 : decode cX3_both 104 = .ok (.lconst 0, 1) := dk_9 (dk_at dksX3_both_3 8 rfl rfl)
theorem dX3_both_105 : decode cX3_both 105 = .ok (.goto 6, 3) := dk_167 0 6 (dk_at dksX3_both_3 9 rfl rfl)
theorem dX3_both_108 : decode cX3_both 108 = .ok (.lload_n 1, 1) := dk_31 (dk_at dksX3_both_3 12 rfl rfl)
theorem dX3_both_109 : decode cX3_both 109 = .ok (.lload_n 3, 1) := dk_33 (dk_at dksX3_both_3 13 rfl rfl)
theorem dX3_both_110 : decode cX3_both 110 = .ok (.lrem, 1) := dk_113 (dk_at dksX3_both_3 14 rfl rfl)
theorem dX3_both_111 : decode cX3_both 111 = .ok (.lreturn, 1) := dk_173 (dk_at dksX3_both_3 15 rfl rfl)
theorem dX3_both_112 : decode cX3_both 112 = .ok (.lload_n 1, 1) := dk_31 (dk_at dksX3_both_3 16 rfl rfl)
theorem dX3_both_113 : decode cX3_both 113 = .ok (.lload_n 3, 1) := dk_33 (dk_at dksX3_both_3 17 rfl rfl)
theorem dX3_both_114 : decode cX3_both 114 = .ok (.lcmp, 1) := dk_148 (dk_at dksX3_both_3 18 rfl rfl)
theorem dX3_both_115 : decode cX3_both 115 = .ok (.ifCond .ge 7, 3) := dk_156 0 7 (dk_at dksX3_both_3 19 rfl rfl)
theorem dX3_both_118 : decode cX3_both 118 = .ok (.iconst 1, 1) := dk_4 (dk_at dksX3_both_3 22 rfl rfl)
theorem dX3_both_119 : decode cX3_both 119 = .ok (.goto 4, 3) := dk_167 0 4 (dk_at dksX3_both_4 0 rfl rfl)
theorem dX3_both_122 : decode cX3_both 122 = .ok (.iconst 0, 1) := dk_3 (dk_at dksX3_both_4 3 rfl rfl)
theorem dX3_both_123 : decode cX3_both 123 = .ok (.invokestatic 324, 3) := dk_184 1 68 (dk_at dksX3_both_4 4 rfl rfl)
theorem dX3_both_126 : decode cX3_both 126 = .ok (.lreturn, 1) := dk_173 (dk_at dksX3_both_4 7 rfl rfl)
theorem dX3_both_127 : decode cX3_both 127 = .ok (.lload_n 1, 1) := dk_31 (dk_at dksX3_both_4 8 rfl rfl)
theorem dX3_both_128 : decode cX3_both 128 = .ok (.lload_n 3, 1) := dk_33 (dk_at dksX3_both_4 9 rfl rfl)
theorem dX3_both_129 : decode cX3_both 129 = .ok (.lcmp, 1) := dk_148 (dk_at dksX3_both_4 10 rfl rfl)
theorem dX3_both_130 : decode cX3_both 130 = .ok (.ifCond .gt 7, 3) := dk_157 0 7 (dk_at dksX3_both_4 11 rfl rfl)
theorem dX3_both_133 : decode cX3_both 133 = .ok (.iconst 1, 1) := dk_4 (dk_at dksX3_both_4 14 rfl rfl)
theorem dX3_both_134 : decode cX3_both 134 = .ok (.goto 4, 3) := dk_167 0 4 (dk_at dksX3_both_4 15 rfl rfl)
theorem dX3_both_137 : decode cX3_both 137 = .ok (.iconst 0, 1) := dk_3 (dk_at dksX3_both_4 18 rfl rfl)
theorem dX3_both_138 : decode cX3_both 138 = .ok (.invokestatic 324, 3) := dk_184 1 68 (dk_at dksX3_both_4 19 rfl rfl)
theorem dX3_both_141 : decode cX3_both 141 = .ok (.lreturn, 1) := dk_173 (dk_at dksX3_both_4 22 rfl rfl)
theorem dX3_both_142 : decode cX3_both 142 = .ok (.lload_n 1, 1) := dk_31 (dk_at dksX3_both_4 23 rfl rfl)
theorem dX3_both_143 : decode cX3_both 143 = .ok (.lload_n 3, 1) := dk_33 (dk_at dksX3_both_5 0 rfl rfl)
theorem dX3_both_144 : decode cX3_both 144 = .ok (.lcmp, 1) := dk_148 (dk_at dksX3_both_5 1 rfl rfl)
theorem dX3_both_145 : decode cX3_both 145 = .ok (.ifCond .ne 7, 3) := dk_154 0 7 (dk_at dksX3_both_5 2 rfl rfl)
theorem dX3_both_148 : decode cX3_both 148 = .ok (.iconst 1, 1) := dk_4 (dk_at dksX3_both_5 5 rfl rfl)
theorem dX3_both_149 : decode cX3_both 149 = .ok (.goto 4, 3) := dk_167 0 4 (dk_at dksX3_both_5 6 rfl rfl)
theorem dX3_both_152 : decode cX3_both 152 = .ok (.iconst 0, 1) := dk_3 (dk_at dksX3_both_5 9 rfl rfl)
theorem dX3_both_153 : decode cX3_both 153 = .ok (.invokestatic 324, 3) := dk_184 1 68 (dk_at dksX3_both_5 10 rfl rfl)
theorem dX3_both_156 : decode cX3_both 156 = .ok (.lreturn, 1) := dk_173 (dk_at dksX3_both_5 13 rfl rfl)
theorem dX3_both_157 : decode cX3_both 157 = .ok (.lload_n 1, 1) := dk_31 (dk_at dksX3_both_5 14 rfl rfl)
theorem dX3_both_158 : decode cX3_both 158 = .ok (.lload_n 3, 1) := dk_33 (dk_at dksX3_both_5 15 rfl rfl)
theorem dX3_both_159 : decode cX3_both 159 = .ok (.lcmp, 1) := dk_148 (dk_at dksX3_both_5 16 rfl rfl)
theorem dX3_both_160 : decode cX3_both 160 = .ok (.ifCond .lt 7, 3) := dk_155 0 7 (dk_at dksX3_both_5 17 rfl rfl)
theorem dX3_both_163 : decode cX3_both 163 = .ok (.iconst 1, 1) := dk_4 (dk_at dksX3_both_5 20 rfl rfl)
theorem dX3_both_164 : decode cX3_both 164 = .ok (.goto 4, 3) := dk_167 0 4 (dk_at dksX3_both_5 21 rfl rfl)
theorem dX3_both_167 : decode cX3_both 167 = .ok (.iconst 0, 1) := dk_3 (dk_at dksX3_both_6 0 rfl rfl)
theorem dX3_both_168 : decode cX3_both 168 = .ok (.invokestatic 324, 3) := dk_184 1 68 (dk_at dksX3_both_6 1 rfl rfl)
theorem dX3_both_171 : decode cX3_both 171 = .ok (.lreturn, 1) := dk_173 (dk_at dksX3_both_6 4 rfl rfl)
theorem dX3_both_172 : decode cX3_both 172 = .ok (.lload_n 1, 1) := dk_31 (dk_at dksX3_both_6 5 rfl rfl)
theorem dX3_both_173 : decode cX3_both 173 = .ok (.lload_n 3, 1) := dk_33 (dk_at dksX3_both_6 6 rfl rfl)
theorem dX3_both_174 : decode cX3_both 174 = .ok (.lcmp, 1) := dk_148 (dk_at dksX3_both_6 7 rfl rfl)
theorem dX3_both_175 : decode cX3_both 175 = .ok (.ifCond .le 7, 3) := dk_158 0 7 (dk_at dksX3_both_6 8 rfl rfl)
theorem dX3_both_178 : decode cX3_both 178 = .ok (.iconst 1, 1) := dk_4 (dk_at dksX3_both_6 11 rfl rfl)
theorem dX3_both_179 : decode cX3_both 179 = .ok (.goto 4, 3) := dk_167 0 4 (dk_at dksX3_both_6 12 rfl rfl)
theorem dX3_both_182 : decode cX3_both 182 = .ok (.iconst 0, 1) := dk_3 (dk_at dksX3_both_6 15 rfl rfl)
theorem dX3_both_183 : decode cX3_both 183 = .ok (.invokestatic 324, 3) := dk_184 1 68 (dk_at dksX3_both_6 16 rfl rfl)
theorem dX3_both_186 : decode cX3_both 186 = .ok (.lreturn, 1) := dk_173 (dk_at dksX3_both_6 19 rfl rfl)
theorem dX3_both_187 : decode cX3_both 187 = .ok (.lload_n 1, 1) := dk_31 (dk_at dksX3_both_6 20 rfl rfl)
theorem dX3_both_188 : decode cX3_both 188 = .ok (.lload_n 3, 1) := dk_33 (dk_at dksX3_both_6 21 rfl rfl)
theorem dX3_both_189 : decode cX3_both 189 = .ok (.land, 1) := dk_127 (dk_at dksX3_both_6 22 rfl rfl)
theorem dX3_both_190 : decode cX3_both 190 = .ok (.lreturn, 1) := dk_173 (dk_at dksX3_both_6 23 rfl rfl)
theorem dX3_both_191 : decode cX3_both 191 = .ok (.lload_n 1, 1) := dk_31 (dk_at dksX3_both_7 0 rfl rfl)
theorem dX3_both_192 : decode cX3_both 192 = .ok (.lload_n 3, 1) := dk_33 (dk_at dksX3_both_7 1 rfl rfl)
theorem dX3_both_193 : decode cX3_both 193 = .ok (.lor, 1) := dk_129 (dk_at dksX3_both_7 2 rfl rfl)
theorem dX3_both_194 : decode cX3_both 194 = .ok (.lreturn, 1) := dk_173 (dk_at dksX3_both_7 3 rfl rfl)
abbrev cX3_truth : ByteArray := prog_17_method_48_code
def yX3_truth : MethodName := ⟨RX3, "truth", "(Z)J"⟩
def dkwX3_truth_0 : List UInt8 := [26, 153, 0, 7, 10, 167, 0, 4, 9, 173]
abbrev dktX3_truth_0 : List UInt8 := dkwX3_truth_0 ++ []
theorem dksX3_truth_0 : cX3_truth.data.toList.drop 0 = dktX3_truth_0 := by decide +kernel
theorem dX3_truth_0 : decode cX3_truth 0 = .ok (.iload_n 0, 1) := dk_26 (dk_at dksX3_truth_0 0 rfl rfl)
theorem dX3_truth_1 : decode cX3_truth 1 = .ok (.ifCond .eq 7, 3) := dk_153 0 7 (dk_at dksX3_truth_0 1 rfl rfl)
theorem dX3_truth_4 : decode cX3_truth 4 = .ok (.lconst 1, 1) := dk_10 (dk_at dksX3_truth_0 4 rfl rfl)
theorem dX3_truth_5 : decode cX3_truth 5 = .ok (.goto 4, 3) := dk_167 0 4 (dk_at dksX3_truth_0 5 rfl rfl)
theorem dX3_truth_8 : decode cX3_truth 8 = .ok (.lconst 0, 1) := dk_9 (dk_at dksX3_truth_0 8 rfl rfl)
theorem dX3_truth_9 : decode cX3_truth 9 = .ok (.lreturn, 1) := dk_173 (dk_at dksX3_truth_0 9 rfl rfl)
abbrev cX3_settles : ByteArray := prog_17_method_61_code
def yX3_settles : MethodName := ⟨RX3, "settles", "()I"⟩
def dkwX3_settles_3 : List UInt8 := [182, 1, 111, 61, 167, 255, 196, 27, 172]
abbrev dktX3_settles_3 : List UInt8 := dkwX3_settles_3 ++ []
def dkwX3_settles_2 : List UInt8 := [180, 0, 16, 29, 46, 79, 132, 3, 1, 167, 255, 219, 27, 28, 128, 60, 42, 42, 4, 182, 1, 85]
abbrev dktX3_settles_2 : List UInt8 := dkwX3_settles_2 ++ dktX3_settles_3
def dkwX3_settles_1 : List UInt8 := [46, 162, 0, 33, 42, 180, 0, 16, 29, 28, 29, 184, 1, 76, 153, 0, 7, 5, 167, 0, 9, 42]
abbrev dktX3_settles_1 : List UInt8 := dkwX3_settles_1 ++ dktX3_settles_2
def dkwX3_settles_0 : List UInt8 := [3, 60, 42, 42, 4, 182, 1, 85, 182, 1, 111, 61, 28, 153, 0, 62, 3, 62, 29, 42, 180, 0, 9, 6]
abbrev dktX3_settles_0 : List UInt8 := dkwX3_settles_0 ++ dktX3_settles_1
theorem dksX3_settles_0 : cX3_settles.data.toList.drop 0 = dktX3_settles_0 := by decide +kernel
theorem dksX3_settles_1 : cX3_settles.data.toList.drop 24 = dktX3_settles_1 := dk_seg dksX3_settles_0 24 rfl rfl
theorem dksX3_settles_2 : cX3_settles.data.toList.drop 46 = dktX3_settles_2 := dk_seg dksX3_settles_1 22 rfl rfl
theorem dksX3_settles_3 : cX3_settles.data.toList.drop 68 = dktX3_settles_3 := dk_seg dksX3_settles_2 22 rfl rfl
theorem dX3_settles_0 : decode cX3_settles 0 = .ok (.iconst 0, 1) := dk_3 (dk_at dksX3_settles_0 0 rfl rfl)
theorem dX3_settles_1 : decode cX3_settles 1 = .ok (.istore_n 1, 1) := dk_60 (dk_at dksX3_settles_0 1 rfl rfl)
theorem dX3_settles_2 : decode cX3_settles 2 = .ok (.aload_n 0, 1) := dk_42 (dk_at dksX3_settles_0 2 rfl rfl)
theorem dX3_settles_3 : decode cX3_settles 3 = .ok (.aload_n 0, 1) := dk_42 (dk_at dksX3_settles_0 3 rfl rfl)
theorem dX3_settles_4 : decode cX3_settles 4 = .ok (.iconst 1, 1) := dk_4 (dk_at dksX3_settles_0 4 rfl rfl)
theorem dX3_settles_5 : decode cX3_settles 5 = .ok (.invokevirtual 341, 3) := dk_182 1 85 (dk_at dksX3_settles_0 5 rfl rfl)
theorem dX3_settles_8 : decode cX3_settles 8 = .ok (.invokevirtual 367, 3) := dk_182 1 111 (dk_at dksX3_settles_0 8 rfl rfl)
theorem dX3_settles_11 : decode cX3_settles 11 = .ok (.istore_n 2, 1) := dk_61 (dk_at dksX3_settles_0 11 rfl rfl)
theorem dX3_settles_12 : decode cX3_settles 12 = .ok (.iload_n 2, 1) := dk_28 (dk_at dksX3_settles_0 12 rfl rfl)
theorem dX3_settles_13 : decode cX3_settles 13 = .ok (.ifCond .eq 62, 3) := dk_153 0 62 (dk_at dksX3_settles_0 13 rfl rfl)
theorem dX3_settles_16 : decode cX3_settles 16 = .ok (.iconst 0, 1) := dk_3 (dk_at dksX3_settles_0 16 rfl rfl)
theorem dX3_settles_17 : decode cX3_settles 17 = .ok (.istore_n 3, 1) := dk_62 (dk_at dksX3_settles_0 17 rfl rfl)
theorem dX3_settles_18 : decode cX3_settles 18 = .ok (.iload_n 3, 1) := dk_29 (dk_at dksX3_settles_0 18 rfl rfl)
theorem dX3_settles_19 : decode cX3_settles 19 = .ok (.aload_n 0, 1) := dk_42 (dk_at dksX3_settles_0 19 rfl rfl)
theorem dX3_settles_20 : decode cX3_settles 20 = .ok (.getfield 9, 3) := dk_180 0 9 (dk_at dksX3_settles_0 20 rfl rfl)
theorem dX3_settles_23 : decode cX3_settles 23 = .ok (.iconst 3, 1) := dk_6 (dk_at dksX3_settles_0 23 rfl rfl)
theorem dX3_settles_24 : decode cX3_settles 24 = .ok (.iaload, 1) := dk_46 (dk_at dksX3_settles_1 0 rfl rfl)
theorem dX3_settles_25 : decode cX3_settles 25 = .ok (.if_icmp .ge 33, 3) := dk_162 0 33 (dk_at dksX3_settles_1 1 rfl rfl)
theorem dX3_settles_28 : decode cX3_settles 28 = .ok (.aload_n 0, 1) := dk_42 (dk_at dksX3_settles_1 4 rfl rfl)
theorem dX3_settles_29 : decode cX3_settles 29 = .ok (.getfield 16, 3) := dk_180 0 16 (dk_at dksX3_settles_1 5 rfl rfl)
theorem dX3_settles_32 : decode cX3_settles 32 = .ok (.iload_n 3, 1) := dk_29 (dk_at dksX3_settles_1 8 rfl rfl)
theorem dX3_settles_33 : decode cX3_settles 33 = .ok (.iload_n 2, 1) := dk_28 (dk_at dksX3_settles_1 9 rfl rfl)
theorem dX3_settles_34 : decode cX3_settles 34 = .ok (.iload_n 3, 1) := dk_29 (dk_at dksX3_settles_1 10 rfl rfl)
theorem dX3_settles_35 : decode cX3_settles 35 = .ok (.invokestatic 332, 3) := dk_184 1 76 (dk_at dksX3_settles_1 11 rfl rfl)
theorem dX3_settles_38 : decode cX3_settles 38 = .ok (.ifCond .eq 7, 3) := dk_153 0 7 (dk_at dksX3_settles_1 14 rfl rfl)
theorem dX3_settles_41 : decode cX3_settles 41 = .ok (.iconst 2, 1) := dk_5 (dk_at dksX3_settles_1 17 rfl rfl)
theorem dX3_settles_42 : decode cX3_settles 42 = .ok (.goto 9, 3) := dk_167 0 9 (dk_at dksX3_settles_1 18 rfl rfl)
theorem dX3_settles_45 : decode cX3_settles 45 = .ok (.aload_n 0, 1) := dk_42 (dk_at dksX3_settles_1 21 rfl rfl)
theorem dX3_settles_46 : decode cX3_settles 46 = .ok (.getfield 16, 3) := dk_180 0 16 (dk_at dksX3_settles_2 0 rfl rfl)
theorem dX3_settles_49 : decode cX3_settles 49 = .ok (.iload_n 3, 1) := dk_29 (dk_at dksX3_settles_2 3 rfl rfl)
theorem dX3_settles_50 : decode cX3_settles 50 = .ok (.iaload, 1) := dk_46 (dk_at dksX3_settles_2 4 rfl rfl)
theorem dX3_settles_51 : decode cX3_settles 51 = .ok (.iastore, 1) := dk_79 (dk_at dksX3_settles_2 5 rfl rfl)
theorem dX3_settles_52 : decode cX3_settles 52 = .ok (.iinc 3 1, 3) := dk_132 3 1 (dk_at dksX3_settles_2 6 rfl rfl)
theorem dX3_settles_55 : decode cX3_settles 55 = .ok (.goto (-37), 3) := dk_167 255 219 (dk_at dksX3_settles_2 9 rfl rfl)
theorem dX3_settles_58 : decode cX3_settles 58 = .ok (.iload_n 1, 1) := dk_27 (dk_at dksX3_settles_2 12 rfl rfl)
theorem dX3_settles_59 : decode cX3_settles 59 = .ok (.iload_n 2, 1) := dk_28 (dk_at dksX3_settles_2 13 rfl rfl)
theorem dX3_settles_60 : decode cX3_settles 60 = .ok (.ior, 1) := dk_128 (dk_at dksX3_settles_2 14 rfl rfl)
theorem dX3_settles_61 : decode cX3_settles 61 = .ok (.istore_n 1, 1) := dk_60 (dk_at dksX3_settles_2 15 rfl rfl)
theorem dX3_settles_62 : decode cX3_settles 62 = .ok (.aload_n 0, 1) := dk_42 (dk_at dksX3_settles_2 16 rfl rfl)
theorem dX3_settles_63 : decode cX3_settles 63 = .ok (.aload_n 0, 1) := dk_42 (dk_at dksX3_settles_2 17 rfl rfl)
theorem dX3_settles_64 : decode cX3_settles 64 = .ok (.iconst 1, 1) := dk_4 (dk_at dksX3_settles_2 18 rfl rfl)
theorem dX3_settles_65 : decode cX3_settles 65 = .ok (.invokevirtual 341, 3) := dk_182 1 85 (dk_at dksX3_settles_2 19 rfl rfl)
theorem dX3_settles_68 : decode cX3_settles 68 = .ok (.invokevirtual 367, 3) := dk_182 1 111 (dk_at dksX3_settles_3 0 rfl rfl)
theorem dX3_settles_71 : decode cX3_settles 71 = .ok (.istore_n 2, 1) := dk_61 (dk_at dksX3_settles_3 3 rfl rfl)
theorem dX3_settles_72 : decode cX3_settles 72 = .ok (.goto (-60), 3) := dk_167 255 196 (dk_at dksX3_settles_3 4 rfl rfl)
theorem dX3_settles_75 : decode cX3_settles 75 = .ok (.iload_n 1, 1) := dk_27 (dk_at dksX3_settles_3 7 rfl rfl)
theorem dX3_settles_76 : decode cX3_settles 76 = .ok (.ireturn, 1) := dk_172 (dk_at dksX3_settles_3 8 rfl rfl)
abbrev cX3_dropsOf : ByteArray := prog_17_method_60_code
def yX3_dropsOf : MethodName := ⟨RX3, "dropsOf", "(I)I"⟩
def dkwX3_dropsOf_2 : List UInt8 := [167, 0, 4, 3, 128, 61, 132, 3, 1, 167, 255, 205, 28, 172]
abbrev dktX3_dropsOf_2 : List UInt8 := dkwX3_dropsOf_2 ++ []
def dkwX3_dropsOf_1 : List UInt8 := [27, 29, 182, 1, 88, 42, 180, 0, 25, 42, 180, 0, 28, 29, 46, 46, 161, 0, 9, 4, 29, 120]
abbrev dktX3_dropsOf_1 : List UInt8 := dkwX3_dropsOf_1 ++ dktX3_dropsOf_2
def dkwX3_dropsOf_0 : List UInt8 := [3, 61, 3, 62, 29, 42, 180, 0, 9, 6, 46, 162, 0, 47, 28, 27, 29, 184, 1, 76, 153, 0, 29, 42]
abbrev dktX3_dropsOf_0 : List UInt8 := dkwX3_dropsOf_0 ++ dktX3_dropsOf_1
theorem dksX3_dropsOf_0 : cX3_dropsOf.data.toList.drop 0 = dktX3_dropsOf_0 := by decide +kernel
theorem dksX3_dropsOf_1 : cX3_dropsOf.data.toList.drop 24 = dktX3_dropsOf_1 := dk_seg dksX3_dropsOf_0 24 rfl rfl
theorem dksX3_dropsOf_2 : cX3_dropsOf.data.toList.drop 46 = dktX3_dropsOf_2 := dk_seg dksX3_dropsOf_1 22 rfl rfl
theorem dX3_dropsOf_0 : decode cX3_dropsOf 0 = .ok (.iconst 0, 1) := dk_3 (dk_at dksX3_dropsOf_0 0 rfl rfl)
theorem dX3_dropsOf_1 : decode cX3_dropsOf 1 = .ok (.istore_n 2, 1) := dk_61 (dk_at dksX3_dropsOf_0 1 rfl rfl)
theorem dX3_dropsOf_2 : decode cX3_dropsOf 2 = .ok (.iconst 0, 1) := dk_3 (dk_at dksX3_dropsOf_0 2 rfl rfl)
theorem dX3_dropsOf_3 : decode cX3_dropsOf 3 = .ok (.istore_n 3, 1) := dk_62 (dk_at dksX3_dropsOf_0 3 rfl rfl)
theorem dX3_dropsOf_4 : decode cX3_dropsOf 4 = .ok (.iload_n 3, 1) := dk_29 (dk_at dksX3_dropsOf_0 4 rfl rfl)
theorem dX3_dropsOf_5 : decode cX3_dropsOf 5 = .ok (.aload_n 0, 1) := dk_42 (dk_at dksX3_dropsOf_0 5 rfl rfl)
theorem dX3_dropsOf_6 : decode cX3_dropsOf 6 = .ok (.getfield 9, 3) := dk_180 0 9 (dk_at dksX3_dropsOf_0 6 rfl rfl)
theorem dX3_dropsOf_9 : decode cX3_dropsOf 9 = .ok (.iconst 3, 1) := dk_6 (dk_at dksX3_dropsOf_0 9 rfl rfl)
theorem dX3_dropsOf_10 : decode cX3_dropsOf 10 = .ok (.iaload, 1) := dk_46 (dk_at dksX3_dropsOf_0 10 rfl rfl)
theorem dX3_dropsOf_11 : decode cX3_dropsOf 11 = .ok (.if_icmp .ge 47, 3) := dk_162 0 47 (dk_at dksX3_dropsOf_0 11 rfl rfl)
theorem dX3_dropsOf_14 : decode cX3_dropsOf 14 = .ok (.iload_n 2, 1) := dk_28 (dk_at dksX3_dropsOf_0 14 rfl rfl)
theorem dX3_dropsOf_15 : decode cX3_dropsOf 15 = .ok (.iload_n 1, 1) := dk_27 (dk_at dksX3_dropsOf_0 15 rfl rfl)
theorem dX3_dropsOf_16 : decode cX3_dropsOf 16 = .ok (.iload_n 3, 1) := dk_29 (dk_at dksX3_dropsOf_0 16 rfl rfl)
theorem dX3_dropsOf_17 : decode cX3_dropsOf 17 = .ok (.invokestatic 332, 3) := dk_184 1 76 (dk_at dksX3_dropsOf_0 17 rfl rfl)
theorem dX3_dropsOf_20 : decode cX3_dropsOf 20 = .ok (.ifCond .eq 29, 3) := dk_153 0 29 (dk_at dksX3_dropsOf_0 20 rfl rfl)
theorem dX3_dropsOf_23 : decode cX3_dropsOf 23 = .ok (.aload_n 0, 1) := dk_42 (dk_at dksX3_dropsOf_0 23 rfl rfl)
theorem dX3_dropsOf_24 : decode cX3_dropsOf 24 = .ok (.iload_n 1, 1) := dk_27 (dk_at dksX3_dropsOf_1 0 rfl rfl)
theorem dX3_dropsOf_25 : decode cX3_dropsOf 25 = .ok (.iload_n 3, 1) := dk_29 (dk_at dksX3_dropsOf_1 1 rfl rfl)
theorem dX3_dropsOf_26 : decode cX3_dropsOf 26 = .ok (.invokevirtual 344, 3) := dk_182 1 88 (dk_at dksX3_dropsOf_1 2 rfl rfl)
theorem dX3_dropsOf_29 : decode cX3_dropsOf 29 = .ok (.aload_n 0, 1) := dk_42 (dk_at dksX3_dropsOf_1 5 rfl rfl)
theorem dX3_dropsOf_30 : decode cX3_dropsOf 30 = .ok (.getfield 25, 3) := dk_180 0 25 (dk_at dksX3_dropsOf_1 6 rfl rfl)
theorem dX3_dropsOf_33 : decode cX3_dropsOf 33 = .ok (.aload_n 0, 1) := dk_42 (dk_at dksX3_dropsOf_1 9 rfl rfl)
theorem dX3_dropsOf_34 : decode cX3_dropsOf 34 = .ok (.getfield 28, 3) := dk_180 0 28 (dk_at dksX3_dropsOf_1 10 rfl rfl)
theorem dX3_dropsOf_37 : decode cX3_dropsOf 37 = .ok (.iload_n 3, 1) := dk_29 (dk_at dksX3_dropsOf_1 13 rfl rfl)
theorem dX3_dropsOf_38 : decode cX3_dropsOf 38 = .ok (.iaload, 1) := dk_46 (dk_at dksX3_dropsOf_1 14 rfl rfl)
theorem dX3_dropsOf_39 : decode cX3_dropsOf 39 = .ok (.iaload, 1) := dk_46 (dk_at dksX3_dropsOf_1 15 rfl rfl)
theorem dX3_dropsOf_40 : decode cX3_dropsOf 40 = .ok (.if_icmp .lt 9, 3) := dk_161 0 9 (dk_at dksX3_dropsOf_1 16 rfl rfl)
theorem dX3_dropsOf_43 : decode cX3_dropsOf 43 = .ok (.iconst 1, 1) := dk_4 (dk_at dksX3_dropsOf_1 19 rfl rfl)
theorem dX3_dropsOf_44 : decode cX3_dropsOf 44 = .ok (.iload_n 3, 1) := dk_29 (dk_at dksX3_dropsOf_1 20 rfl rfl)
theorem dX3_dropsOf_45 : decode cX3_dropsOf 45 = .ok (.ishl, 1) := dk_120 (dk_at dksX3_dropsOf_1 21 rfl rfl)
theorem dX3_dropsOf_46 : decode cX3_dropsOf 46 = .ok (.goto 4, 3) := dk_167 0 4 (dk_at dksX3_dropsOf_2 0 rfl rfl)
theorem dX3_dropsOf_49 : decode cX3_dropsOf 49 = .ok (.iconst 0, 1) := dk_3 (dk_at dksX3_dropsOf_2 3 rfl rfl)
theorem dX3_dropsOf_50 : decode cX3_dropsOf 50 = .ok (.ior, 1) := dk_128 (dk_at dksX3_dropsOf_2 4 rfl rfl)
theorem dX3_dropsOf_51 : decode cX3_dropsOf 51 = .ok (.istore_n 2, 1) := dk_61 (dk_at dksX3_dropsOf_2 5 rfl rfl)
theorem dX3_dropsOf_52 : decode cX3_dropsOf 52 = .ok (.iinc 3 1, 3) := dk_132 3 1 (dk_at dksX3_dropsOf_2 6 rfl rfl)
theorem dX3_dropsOf_55 : decode cX3_dropsOf 55 = .ok (.goto (-51), 3) := dk_167 255 205 (dk_at dksX3_dropsOf_2 9 rfl rfl)
theorem dX3_dropsOf_58 : decode cX3_dropsOf 58 = .ok (.iload_n 2, 1) := dk_28 (dk_at dksX3_dropsOf_2 12 rfl rfl)
theorem dX3_dropsOf_59 : decode cX3_dropsOf 59 = .ok (.ireturn, 1) := dk_172 (dk_at dksX3_dropsOf_2 13 rfl rfl)
abbrev cX3_sit : ByteArray := prog_17_method_72_code
def yX3_sit : MethodName := ⟨RX3, "sit", "(I)I"⟩
def dkwX3_sit_1 : List UInt8 := [182, 1, 124, 172]
abbrev dktX3_sit_1 : List UInt8 := dkwX3_sit_1 ++ []
def dkwX3_sit_0 : List UInt8 := [42, 27, 3, 182, 1, 154, 154, 0, 5, 2, 172, 42, 182, 1, 151, 42, 180, 0, 16, 27, 4, 79, 42]
abbrev dktX3_sit_0 : List UInt8 := dkwX3_sit_0 ++ dktX3_sit_1
theorem dksX3_sit_0 : cX3_sit.data.toList.drop 0 = dktX3_sit_0 := by decide +kernel
theorem dksX3_sit_1 : cX3_sit.data.toList.drop 23 = dktX3_sit_1 := dk_seg dksX3_sit_0 23 rfl rfl
theorem dX3_sit_0 : decode cX3_sit 0 = .ok (.aload_n 0, 1) := dk_42 (dk_at dksX3_sit_0 0 rfl rfl)
theorem dX3_sit_1 : decode cX3_sit 1 = .ok (.iload_n 1, 1) := dk_27 (dk_at dksX3_sit_0 1 rfl rfl)
theorem dX3_sit_2 : decode cX3_sit 2 = .ok (.iconst 0, 1) := dk_3 (dk_at dksX3_sit_0 2 rfl rfl)
theorem dX3_sit_3 : decode cX3_sit 3 = .ok (.invokevirtual 410, 3) := dk_182 1 154 (dk_at dksX3_sit_0 3 rfl rfl)
theorem dX3_sit_6 : decode cX3_sit 6 = .ok (.ifCond .ne 5, 3) := dk_154 0 5 (dk_at dksX3_sit_0 6 rfl rfl)
theorem dX3_sit_9 : decode cX3_sit 9 = .ok (.iconst (-1), 1) := dk_2 (dk_at dksX3_sit_0 9 rfl rfl)
theorem dX3_sit_10 : decode cX3_sit 10 = .ok (.ireturn, 1) := dk_172 (dk_at dksX3_sit_0 10 rfl rfl)
theorem dX3_sit_11 : decode cX3_sit 11 = .ok (.aload_n 0, 1) := dk_42 (dk_at dksX3_sit_0 11 rfl rfl)
theorem dX3_sit_12 : decode cX3_sit 12 = .ok (.invokevirtual 407, 3) := dk_182 1 151 (dk_at dksX3_sit_0 12 rfl rfl)
theorem dX3_sit_15 : decode cX3_sit 15 = .ok (.aload_n 0, 1) := dk_42 (dk_at dksX3_sit_0 15 rfl rfl)
theorem dX3_sit_16 : decode cX3_sit 16 = .ok (.getfield 16, 3) := dk_180 0 16 (dk_at dksX3_sit_0 16 rfl rfl)
theorem dX3_sit_19 : decode cX3_sit 19 = .ok (.iload_n 1, 1) := dk_27 (dk_at dksX3_sit_0 19 rfl rfl)
theorem dX3_sit_20 : decode cX3_sit 20 = .ok (.iconst 1, 1) := dk_4 (dk_at dksX3_sit_0 20 rfl rfl)
theorem dX3_sit_21 : decode cX3_sit 21 = .ok (.iastore, 1) := dk_79 (dk_at dksX3_sit_0 21 rfl rfl)
theorem dX3_sit_22 : decode cX3_sit 22 = .ok (.aload_n 0, 1) := dk_42 (dk_at dksX3_sit_0 22 rfl rfl)
theorem dX3_sit_23 : decode cX3_sit 23 = .ok (.invokevirtual 380, 3) := dk_182 1 124 (dk_at dksX3_sit_1 0 rfl rfl)
theorem dX3_sit_26 : decode cX3_sit 26 = .ok (.ireturn, 1) := dk_172 (dk_at dksX3_sit_1 3 rfl rfl)
abbrev cX3_isSo : ByteArray := prog_17_method_71_code
def yX3_isSo : MethodName := ⟨RX3, "isSo", "(II)Z"⟩
def dkwX3_isSo_0 : List UInt8 := [42, 27, 182, 1, 106, 153, 0, 17, 42, 180, 0, 16, 27, 46, 28, 160, 0, 7, 4, 167, 0, 4, 3, 172]
abbrev dktX3_isSo_0 : List UInt8 := dkwX3_isSo_0 ++ []
theorem dksX3_isSo_0 : cX3_isSo.data.toList.drop 0 = dktX3_isSo_0 := by decide +kernel
theorem dX3_isSo_0 : decode cX3_isSo 0 = .ok (.aload_n 0, 1) := dk_42 (dk_at dksX3_isSo_0 0 rfl rfl)
theorem dX3_isSo_1 : decode cX3_isSo 1 = .ok (.iload_n 1, 1) := dk_27 (dk_at dksX3_isSo_0 1 rfl rfl)
theorem dX3_isSo_2 : decode cX3_isSo 2 = .ok (.invokevirtual 362, 3) := dk_182 1 106 (dk_at dksX3_isSo_0 2 rfl rfl)
theorem dX3_isSo_5 : decode cX3_isSo 5 = .ok (.ifCond .eq 17, 3) := dk_153 0 17 (dk_at dksX3_isSo_0 5 rfl rfl)
theorem dX3_isSo_8 : decode cX3_isSo 8 = .ok (.aload_n 0, 1) := dk_42 (dk_at dksX3_isSo_0 8 rfl rfl)
theorem dX3_isSo_9 : decode cX3_isSo 9 = .ok (.getfield 16, 3) := dk_180 0 16 (dk_at dksX3_isSo_0 9 rfl rfl)
theorem dX3_isSo_12 : decode cX3_isSo 12 = .ok (.iload_n 1, 1) := dk_27 (dk_at dksX3_isSo_0 12 rfl rfl)
theorem dX3_isSo_13 : decode cX3_isSo 13 = .ok (.iaload, 1) := dk_46 (dk_at dksX3_isSo_0 13 rfl rfl)
theorem dX3_isSo_14 : decode cX3_isSo 14 = .ok (.iload_n 2, 1) := dk_28 (dk_at dksX3_isSo_0 14 rfl rfl)
theorem dX3_isSo_15 : decode cX3_isSo 15 = .ok (.if_icmp .ne 7, 3) := dk_160 0 7 (dk_at dksX3_isSo_0 15 rfl rfl)
theorem dX3_isSo_18 : decode cX3_isSo 18 = .ok (.iconst 1, 1) := dk_4 (dk_at dksX3_isSo_0 18 rfl rfl)
theorem dX3_isSo_19 : decode cX3_isSo 19 = .ok (.goto 4, 3) := dk_167 0 4 (dk_at dksX3_isSo_0 19 rfl rfl)
theorem dX3_isSo_22 : decode cX3_isSo 22 = .ok (.iconst 0, 1) := dk_3 (dk_at dksX3_isSo_0 22 rfl rfl)
theorem dX3_isSo_23 : decode cX3_isSo 23 = .ok (.ireturn, 1) := dk_172 (dk_at dksX3_isSo_0 23 rfl rfl)
abbrev cX3_rise : ByteArray := prog_17_method_73_code
def yX3_rise : MethodName := ⟨RX3, "rise", "(I)I"⟩
def dkwX3_rise_1 : List UInt8 := [182, 1, 124, 172]
abbrev dktX3_rise_1 : List UInt8 := dkwX3_rise_1 ++ []
def dkwX3_rise_0 : List UInt8 := [42, 27, 4, 182, 1, 154, 154, 0, 5, 2, 172, 42, 182, 1, 151, 42, 180, 0, 16, 27, 3, 79, 42]
abbrev dktX3_rise_0 : List UInt8 := dkwX3_rise_0 ++ dktX3_rise_1
theorem dksX3_rise_0 : cX3_rise.data.toList.drop 0 = dktX3_rise_0 := by decide +kernel
theorem dksX3_rise_1 : cX3_rise.data.toList.drop 23 = dktX3_rise_1 := dk_seg dksX3_rise_0 23 rfl rfl
theorem dX3_rise_0 : decode cX3_rise 0 = .ok (.aload_n 0, 1) := dk_42 (dk_at dksX3_rise_0 0 rfl rfl)
theorem dX3_rise_1 : decode cX3_rise 1 = .ok (.iload_n 1, 1) := dk_27 (dk_at dksX3_rise_0 1 rfl rfl)
theorem dX3_rise_2 : decode cX3_rise 2 = .ok (.iconst 1, 1) := dk_4 (dk_at dksX3_rise_0 2 rfl rfl)
theorem dX3_rise_3 : decode cX3_rise 3 = .ok (.invokevirtual 410, 3) := dk_182 1 154 (dk_at dksX3_rise_0 3 rfl rfl)
theorem dX3_rise_6 : decode cX3_rise 6 = .ok (.ifCond .ne 5, 3) := dk_154 0 5 (dk_at dksX3_rise_0 6 rfl rfl)
theorem dX3_rise_9 : decode cX3_rise 9 = .ok (.iconst (-1), 1) := dk_2 (dk_at dksX3_rise_0 9 rfl rfl)
theorem dX3_rise_10 : decode cX3_rise 10 = .ok (.ireturn, 1) := dk_172 (dk_at dksX3_rise_0 10 rfl rfl)
theorem dX3_rise_11 : decode cX3_rise 11 = .ok (.aload_n 0, 1) := dk_42 (dk_at dksX3_rise_0 11 rfl rfl)
theorem dX3_rise_12 : decode cX3_rise 12 = .ok (.invokevirtual 407, 3) := dk_182 1 151 (dk_at dksX3_rise_0 12 rfl rfl)
theorem dX3_rise_15 : decode cX3_rise 15 = .ok (.aload_n 0, 1) := dk_42 (dk_at dksX3_rise_0 15 rfl rfl)
theorem dX3_rise_16 : decode cX3_rise 16 = .ok (.getfield 16, 3) := dk_180 0 16 (dk_at dksX3_rise_0 16 rfl rfl)
theorem dX3_rise_19 : decode cX3_rise 19 = .ok (.iload_n 1, 1) := dk_27 (dk_at dksX3_rise_0 19 rfl rfl)
theorem dX3_rise_20 : decode cX3_rise 20 = .ok (.iconst 0, 1) := dk_3 (dk_at dksX3_rise_0 20 rfl rfl)
theorem dX3_rise_21 : decode cX3_rise 21 = .ok (.iastore, 1) := dk_79 (dk_at dksX3_rise_0 21 rfl rfl)
theorem dX3_rise_22 : decode cX3_rise 22 = .ok (.aload_n 0, 1) := dk_42 (dk_at dksX3_rise_0 22 rfl rfl)
theorem dX3_rise_23 : decode cX3_rise 23 = .ok (.invokevirtual 380, 3) := dk_182 1 124 (dk_at dksX3_rise_1 0 rfl rfl)
theorem dX3_rise_26 : decode cX3_rise 26 = .ok (.ireturn, 1) := dk_172 (dk_at dksX3_rise_1 3 rfl rfl)
abbrev cX3_help : ByteArray := prog_17_method_74_code
def yX3_help : MethodName := ⟨RX3, "help", "(I)I"⟩
def dkwX3_help_1 : List UInt8 := [182, 1, 85, 184, 1, 114, 172]
abbrev dktX3_help_1 : List UInt8 := dkwX3_help_1 ++ []
def dkwX3_help_0 : List UInt8 := [42, 27, 5, 182, 1, 154, 154, 0, 5, 2, 172, 42, 182, 1, 151, 42, 180, 0, 16, 27, 3, 79, 42, 5]
abbrev dktX3_help_0 : List UInt8 := dkwX3_help_0 ++ dktX3_help_1
theorem dksX3_help_0 : cX3_help.data.toList.drop 0 = dktX3_help_0 := by decide +kernel
theorem dksX3_help_1 : cX3_help.data.toList.drop 24 = dktX3_help_1 := dk_seg dksX3_help_0 24 rfl rfl
theorem dX3_help_0 : decode cX3_help 0 = .ok (.aload_n 0, 1) := dk_42 (dk_at dksX3_help_0 0 rfl rfl)
theorem dX3_help_1 : decode cX3_help 1 = .ok (.iload_n 1, 1) := dk_27 (dk_at dksX3_help_0 1 rfl rfl)
theorem dX3_help_2 : decode cX3_help 2 = .ok (.iconst 2, 1) := dk_5 (dk_at dksX3_help_0 2 rfl rfl)
theorem dX3_help_3 : decode cX3_help 3 = .ok (.invokevirtual 410, 3) := dk_182 1 154 (dk_at dksX3_help_0 3 rfl rfl)
theorem dX3_help_6 : decode cX3_help 6 = .ok (.ifCond .ne 5, 3) := dk_154 0 5 (dk_at dksX3_help_0 6 rfl rfl)
theorem dX3_help_9 : decode cX3_help 9 = .ok (.iconst (-1), 1) := dk_2 (dk_at dksX3_help_0 9 rfl rfl)
theorem dX3_help_10 : decode cX3_help 10 = .ok (.ireturn, 1) := dk_172 (dk_at dksX3_help_0 10 rfl rfl)
theorem dX3_help_11 : decode cX3_help 11 = .ok (.aload_n 0, 1) := dk_42 (dk_at dksX3_help_0 11 rfl rfl)
theorem dX3_help_12 : decode cX3_help 12 = .ok (.invokevirtual 407, 3) := dk_182 1 151 (dk_at dksX3_help_0 12 rfl rfl)
theorem dX3_help_15 : decode cX3_help 15 = .ok (.aload_n 0, 1) := dk_42 (dk_at dksX3_help_0 15 rfl rfl)
theorem dX3_help_16 : decode cX3_help 16 = .ok (.getfield 16, 3) := dk_180 0 16 (dk_at dksX3_help_0 16 rfl rfl)
theorem dX3_help_19 : decode cX3_help 19 = .ok (.iload_n 1, 1) := dk_27 (dk_at dksX3_help_0 19 rfl rfl)
theorem dX3_help_20 : decode cX3_help 20 = .ok (.iconst 0, 1) := dk_3 (dk_at dksX3_help_0 20 rfl rfl)
theorem dX3_help_21 : decode cX3_help 21 = .ok (.iastore, 1) := dk_79 (dk_at dksX3_help_0 21 rfl rfl)
theorem dX3_help_22 : decode cX3_help 22 = .ok (.aload_n 0, 1) := dk_42 (dk_at dksX3_help_0 22 rfl rfl)
theorem dX3_help_23 : decode cX3_help 23 = .ok (.iconst 2, 1) := dk_5 (dk_at dksX3_help_0 23 rfl rfl)
theorem dX3_help_24 : decode cX3_help 24 = .ok (.invokevirtual 341, 3) := dk_182 1 85 (dk_at dksX3_help_1 0 rfl rfl)
theorem dX3_help_27 : decode cX3_help 27 = .ok (.invokestatic 370, 3) := dk_184 1 114 (dk_at dksX3_help_1 3 rfl rfl)
theorem dX3_help_30 : decode cX3_help 30 = .ok (.ireturn, 1) := dk_172 (dk_at dksX3_help_1 6 rfl rfl)
abbrev cX3_let : ByteArray := prog_17_method_75_code
def yX3_let : MethodName := ⟨RX3, "let", "(II)I"⟩
def dkwX3_let_1 : List UInt8 := [27, 46, 28, 160, 0, 5, 2, 172, 42, 182, 1, 151, 42, 180, 0, 13, 27, 28, 79, 42, 182, 1, 124, 172]
abbrev dktX3_let_1 : List UInt8 := dkwX3_let_1 ++ []
def dkwX3_let_0 : List UInt8 := [42, 27, 182, 1, 91, 153, 0, 25, 28, 133, 9, 20, 1, 157, 184, 0, 131, 153, 0, 13, 42, 180, 0, 13]
abbrev dktX3_let_0 : List UInt8 := dkwX3_let_0 ++ dktX3_let_1
theorem dksX3_let_0 : cX3_let.data.toList.drop 0 = dktX3_let_0 := by decide +kernel
theorem dksX3_let_1 : cX3_let.data.toList.drop 24 = dktX3_let_1 := dk_seg dksX3_let_0 24 rfl rfl
theorem dX3_let_0 : decode cX3_let 0 = .ok (.aload_n 0, 1) := dk_42 (dk_at dksX3_let_0 0 rfl rfl)
theorem dX3_let_1 : decode cX3_let 1 = .ok (.iload_n 1, 1) := dk_27 (dk_at dksX3_let_0 1 rfl rfl)
theorem dX3_let_2 : decode cX3_let 2 = .ok (.invokevirtual 347, 3) := dk_182 1 91 (dk_at dksX3_let_0 2 rfl rfl)
theorem dX3_let_5 : decode cX3_let 5 = .ok (.ifCond .eq 25, 3) := dk_153 0 25 (dk_at dksX3_let_0 5 rfl rfl)
theorem dX3_let_8 : decode cX3_let 8 = .ok (.iload_n 2, 1) := dk_28 (dk_at dksX3_let_0 8 rfl rfl)
theorem dX3_let_9 : decode cX3_let 9 = .ok (.i2l, 1) := dk_133 (dk_at dksX3_let_0 9 rfl rfl)
theorem dX3_let_10 : decode cX3_let 10 = .ok (.lconst 0, 1) := dk_9 (dk_at dksX3_let_0 10 rfl rfl)
theorem dX3_let_11 : decode cX3_let 11 = .ok (.ldc2_w 413, 3) := dk_20 1 157 (dk_at dksX3_let_0 11 rfl rfl)
theorem dX3_let_14 : decode cX3_let 14 = .ok (.invokestatic 131, 3) := dk_184 0 131 (dk_at dksX3_let_0 14 rfl rfl)
theorem dX3_let_17 : decode cX3_let 17 = .ok (.ifCond .eq 13, 3) := dk_153 0 13 (dk_at dksX3_let_0 17 rfl rfl)
theorem dX3_let_20 : decode cX3_let 20 = .ok (.aload_n 0, 1) := dk_42 (dk_at dksX3_let_0 20 rfl rfl)
theorem dX3_let_21 : decode cX3_let 21 = .ok (.getfield 13, 3) := dk_180 0 13 (dk_at dksX3_let_0 21 rfl rfl)
theorem dX3_let_24 : decode cX3_let 24 = .ok (.iload_n 1, 1) := dk_27 (dk_at dksX3_let_1 0 rfl rfl)
theorem dX3_let_25 : decode cX3_let 25 = .ok (.iaload, 1) := dk_46 (dk_at dksX3_let_1 1 rfl rfl)
theorem dX3_let_26 : decode cX3_let 26 = .ok (.iload_n 2, 1) := dk_28 (dk_at dksX3_let_1 2 rfl rfl)
theorem dX3_let_27 : decode cX3_let 27 = .ok (.if_icmp .ne 5, 3) := dk_160 0 5 (dk_at dksX3_let_1 3 rfl rfl)
theorem dX3_let_30 : decode cX3_let 30 = .ok (.iconst (-1), 1) := dk_2 (dk_at dksX3_let_1 6 rfl rfl)
theorem dX3_let_31 : decode cX3_let 31 = .ok (.ireturn, 1) := dk_172 (dk_at dksX3_let_1 7 rfl rfl)
theorem dX3_let_32 : decode cX3_let 32 = .ok (.aload_n 0, 1) := dk_42 (dk_at dksX3_let_1 8 rfl rfl)
theorem dX3_let_33 : decode cX3_let 33 = .ok (.invokevirtual 407, 3) := dk_182 1 151 (dk_at dksX3_let_1 9 rfl rfl)
theorem dX3_let_36 : decode cX3_let 36 = .ok (.aload_n 0, 1) := dk_42 (dk_at dksX3_let_1 12 rfl rfl)
theorem dX3_let_37 : decode cX3_let 37 = .ok (.getfield 13, 3) := dk_180 0 13 (dk_at dksX3_let_1 13 rfl rfl)
theorem dX3_let_40 : decode cX3_let 40 = .ok (.iload_n 1, 1) := dk_27 (dk_at dksX3_let_1 16 rfl rfl)
theorem dX3_let_41 : decode cX3_let 41 = .ok (.iload_n 2, 1) := dk_28 (dk_at dksX3_let_1 17 rfl rfl)
theorem dX3_let_42 : decode cX3_let 42 = .ok (.iastore, 1) := dk_79 (dk_at dksX3_let_1 18 rfl rfl)
theorem dX3_let_43 : decode cX3_let 43 = .ok (.aload_n 0, 1) := dk_42 (dk_at dksX3_let_1 19 rfl rfl)
theorem dX3_let_44 : decode cX3_let 44 = .ok (.invokevirtual 380, 3) := dk_182 1 124 (dk_at dksX3_let_1 20 rfl rfl)
theorem dX3_let_47 : decode cX3_let 47 = .ok (.ireturn, 1) := dk_172 (dk_at dksX3_let_1 23 rfl rfl)
abbrev cX3_ahead : ByteArray := prog_17_method_78_code
def yX3_ahead : MethodName := ⟨RX3, "ahead", "(III)I"⟩
def dkwX3_ahead_4 : List UInt8 := [182, 1, 170, 21, 4, 172]
abbrev dktX3_ahead_4 : List UInt8 := dkwX3_ahead_4 ++ []
def dkwX3_ahead_3 : List UInt8 := [160, 0, 11, 42, 27, 182, 1, 103, 167, 0, 11, 42, 5, 182, 1, 85, 184, 1, 114, 54, 4, 42]
abbrev dktX3_ahead_3 : List UInt8 := dkwX3_ahead_3 ++ dktX3_ahead_4
def dkwX3_ahead_2 : List UInt8 := [182, 1, 164, 42, 28, 182, 1, 167, 29, 154, 0, 12, 42, 180, 0, 16, 27, 46, 167, 0, 24, 29, 4]
abbrev dktX3_ahead_2 : List UInt8 := dkwX3_ahead_2 ++ dktX3_ahead_3
def dkwX3_ahead_1 : List UInt8 := [42, 27, 182, 1, 106, 153, 0, 15, 28, 133, 9, 20, 1, 162, 184, 0, 131, 154, 0, 5, 2, 172, 42]
abbrev dktX3_ahead_1 : List UInt8 := dkwX3_ahead_1 ++ dktX3_ahead_2
def dkwX3_ahead_0 : List UInt8 := [42, 182, 1, 148, 153, 0, 40, 29, 133, 9, 20, 1, 109, 184, 0, 131, 153, 0, 28, 29, 5, 162, 0, 11]
abbrev dktX3_ahead_0 : List UInt8 := dkwX3_ahead_0 ++ dktX3_ahead_1
theorem dksX3_ahead_0 : cX3_ahead.data.toList.drop 0 = dktX3_ahead_0 := by decide +kernel
theorem dksX3_ahead_1 : cX3_ahead.data.toList.drop 24 = dktX3_ahead_1 := dk_seg dksX3_ahead_0 24 rfl rfl
theorem dksX3_ahead_2 : cX3_ahead.data.toList.drop 47 = dktX3_ahead_2 := dk_seg dksX3_ahead_1 23 rfl rfl
theorem dksX3_ahead_3 : cX3_ahead.data.toList.drop 70 = dktX3_ahead_3 := dk_seg dksX3_ahead_2 23 rfl rfl
theorem dksX3_ahead_4 : cX3_ahead.data.toList.drop 92 = dktX3_ahead_4 := dk_seg dksX3_ahead_3 22 rfl rfl
theorem dX3_ahead_0 : decode cX3_ahead 0 = .ok (.aload_n 0, 1) := dk_42 (dk_at dksX3_ahead_0 0 rfl rfl)
theorem dX3_ahead_1 : decode cX3_ahead 1 = .ok (.invokevirtual 404, 3) := dk_182 1 148 (dk_at dksX3_ahead_0 1 rfl rfl)
theorem dX3_ahead_4 : decode cX3_ahead 4 = .ok (.ifCond .eq 40, 3) := dk_153 0 40 (dk_at dksX3_ahead_0 4 rfl rfl)
theorem dX3_ahead_7 : decode cX3_ahead 7 = .ok (.iload_n 3, 1) := dk_29 (dk_at dksX3_ahead_0 7 rfl rfl)
theorem dX3_ahead_8 : decode cX3_ahead 8 = .ok (.i2l, 1) := dk_133 (dk_at dksX3_ahead_0 8 rfl rfl)
theorem dX3_ahead_9 : decode cX3_ahead 9 = .ok (.lconst 0, 1) := dk_9 (dk_at dksX3_ahead_0 9 rfl rfl)
theorem dX3_ahead_10 : decode cX3_ahead 10 = .ok (.ldc2_w 365, 3) := dk_20 1 109 (dk_at dksX3_ahead_0 10 rfl rfl)
theorem dX3_ahead_13 : decode cX3_ahead 13 = .ok (.invokestatic 131, 3) := dk_184 0 131 (dk_at dksX3_ahead_0 13 rfl rfl)
theorem dX3_ahead_16 : decode cX3_ahead 16 = .ok (.ifCond .eq 28, 3) := dk_153 0 28 (dk_at dksX3_ahead_0 16 rfl rfl)
theorem dX3_ahead_19 : decode cX3_ahead 19 = .ok (.iload_n 3, 1) := dk_29 (dk_at dksX3_ahead_0 19 rfl rfl)
theorem dX3_ahead_20 : decode cX3_ahead 20 = .ok (.iconst 2, 1) := dk_5 (dk_at dksX3_ahead_0 20 rfl rfl)
theorem dX3_ahead_21 : decode cX3_ahead 21 = .ok (.if_icmp .ge 11, 3) := dk_162 0 11 (dk_at dksX3_ahead_0 21 rfl rfl)
theorem dX3_ahead_24 : decode cX3_ahead 24 = .ok (.aload_n 0, 1) := dk_42 (dk_at dksX3_ahead_1 0 rfl rfl)
theorem dX3_ahead_25 : decode cX3_ahead 25 = .ok (.iload_n 1, 1) := dk_27 (dk_at dksX3_ahead_1 1 rfl rfl)
theorem dX3_ahead_26 : decode cX3_ahead 26 = .ok (.invokevirtual 362, 3) := dk_182 1 106 (dk_at dksX3_ahead_1 2 rfl rfl)
theorem dX3_ahead_29 : decode cX3_ahead 29 = .ok (.ifCond .eq 15, 3) := dk_153 0 15 (dk_at dksX3_ahead_1 5 rfl rfl)
theorem dX3_ahead_32 : decode cX3_ahead 32 = .ok (.iload_n 2, 1) := dk_28 (dk_at dksX3_ahead_1 8 rfl rfl)
theorem dX3_ahead_33 : decode cX3_ahead 33 = .ok (.i2l, 1) := dk_133 (dk_at dksX3_ahead_1 9 rfl rfl)
theorem dX3_ahead_34 : decode cX3_ahead 34 = .ok (.lconst 0, 1) := dk_9 (dk_at dksX3_ahead_1 10 rfl rfl)
theorem dX3_ahead_35 : decode cX3_ahead 35 = .ok (.ldc2_w 418, 3) := dk_20 1 162 (dk_at dksX3_ahead_1 11 rfl rfl)
theorem dX3_ahead_38 : decode cX3_ahead 38 = .ok (.invokestatic 131, 3) := dk_184 0 131 (dk_at dksX3_ahead_1 14 rfl rfl)
theorem dX3_ahead_41 : decode cX3_ahead 41 = .ok (.ifCond .ne 5, 3) := dk_154 0 5 (dk_at dksX3_ahead_1 17 rfl rfl)
theorem dX3_ahead_44 : decode cX3_ahead 44 = .ok (.iconst (-1), 1) := dk_2 (dk_at dksX3_ahead_1 20 rfl rfl)
theorem dX3_ahead_45 : decode cX3_ahead 45 = .ok (.ireturn, 1) := dk_172 (dk_at dksX3_ahead_1 21 rfl rfl)
theorem dX3_ahead_46 : decode cX3_ahead 46 = .ok (.aload_n 0, 1) := dk_42 (dk_at dksX3_ahead_1 22 rfl rfl)
theorem dX3_ahead_47 : decode cX3_ahead 47 = .ok (.invokevirtual 420, 3) := dk_182 1 164 (dk_at dksX3_ahead_2 0 rfl rfl)
theorem dX3_ahead_50 : decode cX3_ahead 50 = .ok (.aload_n 0, 1) := dk_42 (dk_at dksX3_ahead_2 3 rfl rfl)
theorem dX3_ahead_51 : decode cX3_ahead 51 = .ok (.iload_n 2, 1) := dk_28 (dk_at dksX3_ahead_2 4 rfl rfl)
theorem dX3_ahead_52 : decode cX3_ahead 52 = .ok (.invokevirtual 423, 3) := dk_182 1 167 (dk_at dksX3_ahead_2 5 rfl rfl)
theorem dX3_ahead_55 : decode cX3_ahead 55 = .ok (.iload_n 3, 1) := dk_29 (dk_at dksX3_ahead_2 8 rfl rfl)
theorem dX3_ahead_56 : decode cX3_ahead 56 = .ok (.ifCond .ne 12, 3) := dk_154 0 12 (dk_at dksX3_ahead_2 9 rfl rfl)
theorem dX3_ahead_59 : decode cX3_ahead 59 = .ok (.aload_n 0, 1) := dk_42 (dk_at dksX3_ahead_2 12 rfl rfl)
theorem dX3_ahead_60 : decode cX3_ahead 60 = .ok (.getfield 16, 3) := dk_180 0 16 (dk_at dksX3_ahead_2 13 rfl rfl)
theorem dX3_ahead_63 : decode cX3_ahead 63 = .ok (.iload_n 1, 1) := dk_27 (dk_at dksX3_ahead_2 16 rfl rfl)
theorem dX3_ahead_64 : decode cX3_ahead 64 = .ok (.iaload, 1) := dk_46 (dk_at dksX3_ahead_2 17 rfl rfl)
theorem dX3_ahead_65 : decode cX3_ahead 65 = .ok (.goto 24, 3) := dk_167 0 24 (dk_at dksX3_ahead_2 18 rfl rfl)
theorem dX3_ahead_68 : decode cX3_ahead 68 = .ok (.iload_n 3, 1) := dk_29 (dk_at dksX3_ahead_2 21 rfl rfl)
theorem dX3_ahead_69 : decode cX3_ahead 69 = .ok (.iconst 1, 1) := dk_4 (dk_at dksX3_ahead_2 22 rfl rfl)
theorem dX3_ahead_70 : decode cX3_ahead 70 = .ok (.if_icmp .ne 11, 3) := dk_160 0 11 (dk_at dksX3_ahead_3 0 rfl rfl)
theorem dX3_ahead_73 : decode cX3_ahead 73 = .ok (.aload_n 0, 1) := dk_42 (dk_at dksX3_ahead_3 3 rfl rfl)
theorem dX3_ahead_74 : decode cX3_ahead 74 = .ok (.iload_n 1, 1) := dk_27 (dk_at dksX3_ahead_3 4 rfl rfl)
theorem dX3_ahead_75 : decode cX3_ahead 75 = .ok (.invokevirtual 359, 3) := dk_182 1 103 (dk_at dksX3_ahead_3 5 rfl rfl)
theorem dX3_ahead_78 : decode cX3_ahead 78 = .ok (.goto 11, 3) := dk_167 0 11 (dk_at dksX3_ahead_3 8 rfl rfl)
theorem dX3_ahead_81 : decode cX3_ahead 81 = .ok (.aload_n 0, 1) := dk_42 (dk_at dksX3_ahead_3 11 rfl rfl)
theorem dX3_ahead_82 : decode cX3_ahead 82 = .ok (.iconst 2, 1) := dk_5 (dk_at dksX3_ahead_3 12 rfl rfl)
theorem dX3_ahead_83 : decode cX3_ahead 83 = .ok (.invokevirtual 341, 3) := dk_182 1 85 (dk_at dksX3_ahead_3 13 rfl rfl)
theorem dX3_ahead_86 : decode cX3_ahead 86 = .ok (.invokestatic 370, 3) := dk_184 1 114 (dk_at dksX3_ahead_3 16 rfl rfl)
theorem dX3_ahead_89 : decode cX3_ahead 89 = .ok (.istore 4, 2) := dk_54 4 (dk_at dksX3_ahead_3 19 rfl rfl)
theorem dX3_ahead_91 : decode cX3_ahead 91 = .ok (.aload_n 0, 1) := dk_42 (dk_at dksX3_ahead_3 21 rfl rfl)
theorem dX3_ahead_92 : decode cX3_ahead 92 = .ok (.invokevirtual 426, 3) := dk_182 1 170 (dk_at dksX3_ahead_4 0 rfl rfl)
theorem dX3_ahead_95 : decode cX3_ahead 95 = .ok (.iload 4, 2) := dk_21 4 (dk_at dksX3_ahead_4 3 rfl rfl)
theorem dX3_ahead_97 : decode cX3_ahead 97 = .ok (.ireturn, 1) := dk_172 (dk_at dksX3_ahead_4 5 rfl rfl)
abbrev cX3_keepsAll : ByteArray := prog_17_method_76_code
def yX3_keepsAll : MethodName := ⟨RX3, "keepsAll", "()V"⟩
def dkwX3_keepsAll_0 : List UInt8 := [42, 7, 3, 182, 1, 159, 177]
abbrev dktX3_keepsAll_0 : List UInt8 := dkwX3_keepsAll_0 ++ []
theorem dksX3_keepsAll_0 : cX3_keepsAll.data.toList.drop 0 = dktX3_keepsAll_0 := by decide +kernel
theorem dX3_keepsAll_0 : decode cX3_keepsAll 0 = .ok (.aload_n 0, 1) := dk_42 (dk_at dksX3_keepsAll_0 0 rfl rfl)
theorem dX3_keepsAll_1 : decode cX3_keepsAll 1 = .ok (.iconst 4, 1) := dk_7 (dk_at dksX3_keepsAll_0 1 rfl rfl)
theorem dX3_keepsAll_2 : decode cX3_keepsAll 2 = .ok (.iconst 0, 1) := dk_3 (dk_at dksX3_keepsAll_0 2 rfl rfl)
theorem dX3_keepsAll_3 : decode cX3_keepsAll 3 = .ok (.invokevirtual 415, 3) := dk_182 1 159 (dk_at dksX3_keepsAll_0 3 rfl rfl)
theorem dX3_keepsAll_6 : decode cX3_keepsAll 6 = .ok (.return_, 1) := dk_177 (dk_at dksX3_keepsAll_0 6 rfl rfl)
abbrev cX3_carriesAll : ByteArray := prog_17_method_109_code
def yX3_carriesAll : MethodName := ⟨RX3, "carriesAll", "(IZ)V"⟩
def dkwX3_carriesAll_6 : List UInt8 := [177]
abbrev dktX3_carriesAll_6 : List UInt8 := dkwX3_carriesAll_6 ++ []
def dkwX3_carriesAll_5 : List UInt8 := [42, 42, 180, 0, 37, 182, 1, 233, 42, 42, 180, 0, 40, 182, 1, 233, 42, 42, 180, 0, 100, 182, 1, 233]
abbrev dktX3_carriesAll_5 : List UInt8 := dkwX3_carriesAll_5 ++ dktX3_carriesAll_6
def dkwX3_carriesAll_4 : List UInt8 := [42, 42, 180, 0, 28, 182, 1, 233, 42, 42, 180, 0, 31, 182, 1, 233, 42, 42, 180, 0, 34, 182, 1, 233]
abbrev dktX3_carriesAll_4 : List UInt8 := dkwX3_carriesAll_4 ++ dktX3_carriesAll_5
def dkwX3_carriesAll_3 : List UInt8 := [180, 0, 103, 182, 1, 233, 42, 42, 180, 0, 103, 3, 46, 181, 1, 43, 42, 42, 180, 0, 25, 182, 1, 233]
abbrev dktX3_carriesAll_3 : List UInt8 := dkwX3_carriesAll_3 ++ dktX3_carriesAll_4
def dkwX3_carriesAll_2 : List UInt8 := [180, 0, 22, 182, 1, 233, 27, 7, 160, 0, 4, 177, 42, 180, 0, 103, 3, 42, 180, 1, 43, 79, 42, 42]
abbrev dktX3_carriesAll_2 : List UInt8 := dkwX3_carriesAll_2 ++ dktX3_carriesAll_3
def dkwX3_carriesAll_1 : List UInt8 := [180, 0, 13, 182, 1, 233, 42, 42, 180, 0, 16, 182, 1, 233, 42, 42, 180, 0, 19, 182, 1, 233, 42, 42]
abbrev dktX3_carriesAll_1 : List UInt8 := dkwX3_carriesAll_1 ++ dktX3_carriesAll_2
def dkwX3_carriesAll_0 : List UInt8 := [42, 17, 1, 144, 27, 104, 181, 1, 230, 42, 28, 181, 1, 227, 42, 42, 180, 0, 9, 182, 1, 233, 42, 42]
abbrev dktX3_carriesAll_0 : List UInt8 := dkwX3_carriesAll_0 ++ dktX3_carriesAll_1
theorem dksX3_carriesAll_0 : cX3_carriesAll.data.toList.drop 0 = dktX3_carriesAll_0 := by decide +kernel
theorem dksX3_carriesAll_1 : cX3_carriesAll.data.toList.drop 24 = dktX3_carriesAll_1 := dk_seg dksX3_carriesAll_0 24 rfl rfl
theorem dksX3_carriesAll_2 : cX3_carriesAll.data.toList.drop 48 = dktX3_carriesAll_2 := dk_seg dksX3_carriesAll_1 24 rfl rfl
theorem dksX3_carriesAll_3 : cX3_carriesAll.data.toList.drop 72 = dktX3_carriesAll_3 := dk_seg dksX3_carriesAll_2 24 rfl rfl
theorem dksX3_carriesAll_4 : cX3_carriesAll.data.toList.drop 96 = dktX3_carriesAll_4 := dk_seg dksX3_carriesAll_3 24 rfl rfl
theorem dksX3_carriesAll_5 : cX3_carriesAll.data.toList.drop 120 = dktX3_carriesAll_5 := dk_seg dksX3_carriesAll_4 24 rfl rfl
theorem dksX3_carriesAll_6 : cX3_carriesAll.data.toList.drop 144 = dktX3_carriesAll_6 := dk_seg dksX3_carriesAll_5 24 rfl rfl
theorem dX3_carriesAll_0 : decode cX3_carriesAll 0 = .ok (.aload_n 0, 1) := dk_42 (dk_at dksX3_carriesAll_0 0 rfl rfl)
theorem dX3_carriesAll_1 : decode cX3_carriesAll 1 = .ok (.sipush 400, 3) := dk_17 1 144 (dk_at dksX3_carriesAll_0 1 rfl rfl)
theorem dX3_carriesAll_4 : decode cX3_carriesAll 4 = .ok (.iload_n 1, 1) := dk_27 (dk_at dksX3_carriesAll_0 4 rfl rfl)
theorem dX3_carriesAll_5 : decode cX3_carriesAll 5 = .ok (.imul, 1) := dk_104 (dk_at dksX3_carriesAll_0 5 rfl rfl)
theorem dX3_carriesAll_6 : decode cX3_carriesAll 6 = .ok (.putfield 486, 3) := dk_181 1 230 (dk_at dksX3_carriesAll_0 6 rfl rfl)
theorem dX3_carriesAll_9 : decode cX3_carriesAll 9 = .ok (.aload_n 0, 1) := dk_42 (dk_at dksX3_carriesAll_0 9 rfl rfl)
theorem dX3_carriesAll_10 : decode cX3_carriesAll 10 = .ok (.iload_n 2, 1) := dk_28 (dk_at dksX3_carriesAll_0 10 rfl rfl)
theorem dX3_carriesAll_11 : decode cX3_carriesAll 11 = .ok (.putfield 483, 3) := dk_181 1 227 (dk_at dksX3_carriesAll_0 11 rfl rfl)
theorem dX3_carriesAll_14 : decode cX3_carriesAll 14 = .ok (.aload_n 0, 1) := dk_42 (dk_at dksX3_carriesAll_0 14 rfl rfl)
theorem dX3_carriesAll_15 : decode cX3_carriesAll 15 = .ok (.aload_n 0, 1) := dk_42 (dk_at dksX3_carriesAll_0 15 rfl rfl)
theorem dX3_carriesAll_16 : decode cX3_carriesAll 16 = .ok (.getfield 9, 3) := dk_180 0 9 (dk_at dksX3_carriesAll_0 16 rfl rfl)
theorem dX3_carriesAll_19 : decode cX3_carriesAll 19 = .ok (.invokevirtual 489, 3) := dk_182 1 233 (dk_at dksX3_carriesAll_0 19 rfl rfl)
theorem dX3_carriesAll_22 : decode cX3_carriesAll 22 = .ok (.aload_n 0, 1) := dk_42 (dk_at dksX3_carriesAll_0 22 rfl rfl)
theorem dX3_carriesAll_23 : decode cX3_carriesAll 23 = .ok (.aload_n 0, 1) := dk_42 (dk_at dksX3_carriesAll_0 23 rfl rfl)
theorem dX3_carriesAll_24 : decode cX3_carriesAll 24 = .ok (.getfield 13, 3) := dk_180 0 13 (dk_at dksX3_carriesAll_1 0 rfl rfl)
theorem dX3_carriesAll_27 : decode cX3_carriesAll 27 = .ok (.invokevirtual 489, 3) := dk_182 1 233 (dk_at dksX3_carriesAll_1 3 rfl rfl)
theorem dX3_carriesAll_30 : decode cX3_carriesAll 30 = .ok (.aload_n 0, 1) := dk_42 (dk_at dksX3_carriesAll_1 6 rfl rfl)
theorem dX3_carriesAll_31 : decode cX3_carriesAll 31 = .ok (.aload_n 0, 1) := dk_42 (dk_at dksX3_carriesAll_1 7 rfl rfl)
theorem dX3_carriesAll_32 : decode cX3_carriesAll 32 = .ok (.getfield 16, 3) := dk_180 0 16 (dk_at dksX3_carriesAll_1 8 rfl rfl)
theorem dX3_carriesAll_35 : decode cX3_carriesAll 35 = .ok (.invokevirtual 489, 3) := dk_182 1 233 (dk_at dksX3_carriesAll_1 11 rfl rfl)
theorem dX3_carriesAll_38 : decode cX3_carriesAll 38 = .ok (.aload_n 0, 1) := dk_42 (dk_at dksX3_carriesAll_1 14 rfl rfl)
theorem dX3_carriesAll_39 : decode cX3_carriesAll 39 = .ok (.aload_n 0, 1) := dk_42 (dk_at dksX3_carriesAll_1 15 rfl rfl)
theorem dX3_carriesAll_40 : decode cX3_carriesAll 40 = .ok (.getfield 19, 3) := dk_180 0 19 (dk_at dksX3_carriesAll_1 16 rfl rfl)
theorem dX3_carriesAll_43 : decode cX3_carriesAll 43 = .ok (.invokevirtual 489, 3) := dk_182 1 233 (dk_at dksX3_carriesAll_1 19 rfl rfl)
theorem dX3_carriesAll_46 : decode cX3_carriesAll 46 = .ok (.aload_n 0, 1) := dk_42 (dk_at dksX3_carriesAll_1 22 rfl rfl)
theorem dX3_carriesAll_47 : decode cX3_carriesAll 47 = .ok (.aload_n 0, 1) := dk_42 (dk_at dksX3_carriesAll_1 23 rfl rfl)
theorem dX3_carriesAll_48 : decode cX3_carriesAll 48 = .ok (.getfield 22, 3) := dk_180 0 22 (dk_at dksX3_carriesAll_2 0 rfl rfl)
theorem dX3_carriesAll_51 : decode cX3_carriesAll 51 = .ok (.invokevirtual 489, 3) := dk_182 1 233 (dk_at dksX3_carriesAll_2 3 rfl rfl)
theorem dX3_carriesAll_54 : decode cX3_carriesAll 54 = .ok (.iload_n 1, 1) := dk_27 (dk_at dksX3_carriesAll_2 6 rfl rfl)
theorem dX3_carriesAll_55 : decode cX3_carriesAll 55 = .ok (.iconst 4, 1) := dk_7 (dk_at dksX3_carriesAll_2 7 rfl rfl)
theorem dX3_carriesAll_56 : decode cX3_carriesAll 56 = .ok (.if_icmp .ne 4, 3) := dk_160 0 4 (dk_at dksX3_carriesAll_2 8 rfl rfl)
theorem dX3_carriesAll_59 : decode cX3_carriesAll 59 = .ok (.return_, 1) := dk_177 (dk_at dksX3_carriesAll_2 11 rfl rfl)
theorem dX3_carriesAll_60 : decode cX3_carriesAll 60 = .ok (.aload_n 0, 1) := dk_42 (dk_at dksX3_carriesAll_2 12 rfl rfl)
theorem dX3_carriesAll_61 : decode cX3_carriesAll 61 = .ok (.getfield 103, 3) := dk_180 0 103 (dk_at dksX3_carriesAll_2 13 rfl rfl)
theorem dX3_carriesAll_64 : decode cX3_carriesAll 64 = .ok (.iconst 0, 1) := dk_3 (dk_at dksX3_carriesAll_2 16 rfl rfl)
theorem dX3_carriesAll_65 : decode cX3_carriesAll 65 = .ok (.aload_n 0, 1) := dk_42 (dk_at dksX3_carriesAll_2 17 rfl rfl)
theorem dX3_carriesAll_66 : decode cX3_carriesAll 66 = .ok (.getfield 299, 3) := dk_180 1 43 (dk_at dksX3_carriesAll_2 18 rfl rfl)
theorem dX3_carriesAll_69 : decode cX3_carriesAll 69 = .ok (.iastore, 1) := dk_79 (dk_at dksX3_carriesAll_2 21 rfl rfl)
theorem dX3_carriesAll_70 : decode cX3_carriesAll 70 = .ok (.aload_n 0, 1) := dk_42 (dk_at dksX3_carriesAll_2 22 rfl rfl)
theorem dX3_carriesAll_71 : decode cX3_carriesAll 71 = .ok (.aload_n 0, 1) := dk_42 (dk_at dksX3_carriesAll_2 23 rfl rfl)
theorem dX3_carriesAll_72 : decode cX3_carriesAll 72 = .ok (.getfield 103, 3) := dk_180 0 103 (dk_at dksX3_carriesAll_3 0 rfl rfl)
theorem dX3_carriesAll_75 : decode cX3_carriesAll 75 = .ok (.invokevirtual 489, 3) := dk_182 1 233 (dk_at dksX3_carriesAll_3 3 rfl rfl)
theorem dX3_carriesAll_78 : decode cX3_carriesAll 78 = .ok (.aload_n 0, 1) := dk_42 (dk_at dksX3_carriesAll_3 6 rfl rfl)
theorem dX3_carriesAll_79 : decode cX3_carriesAll 79 = .ok (.aload_n 0, 1) := dk_42 (dk_at dksX3_carriesAll_3 7 rfl rfl)
theorem dX3_carriesAll_80 : decode cX3_carriesAll 80 = .ok (.getfield 103, 3) := dk_180 0 103 (dk_at dksX3_carriesAll_3 8 rfl rfl)
theorem dX3_carriesAll_83 : decode cX3_carriesAll 83 = .ok (.iconst 0, 1) := dk_3 (dk_at dksX3_carriesAll_3 11 rfl rfl)
theorem dX3_carriesAll_84 : decode cX3_carriesAll 84 = .ok (.iaload, 1) := dk_46 (dk_at dksX3_carriesAll_3 12 rfl rfl)
theorem dX3_carriesAll_85 : decode cX3_carriesAll 85 = .ok (.putfield 299, 3) := dk_181 1 43 (dk_at dksX3_carriesAll_3 13 rfl rfl)
theorem dX3_carriesAll_88 : decode cX3_carriesAll 88 = .ok (.aload_n 0, 1) := dk_42 (dk_at dksX3_carriesAll_3 16 rfl rfl)
theorem dX3_carriesAll_89 : decode cX3_carriesAll 89 = .ok (.aload_n 0, 1) := dk_42 (dk_at dksX3_carriesAll_3 17 rfl rfl)
theorem dX3_carriesAll_90 : decode cX3_carriesAll 90 = .ok (.getfield 25, 3) := dk_180 0 25 (dk_at dksX3_carriesAll_3 18 rfl rfl)
theorem dX3_carriesAll_93 : decode cX3_carriesAll 93 = .ok (.invokevirtual 489, 3) := dk_182 1 233 (dk_at dksX3_carriesAll_3 21 rfl rfl)
theorem dX3_carriesAll_96 : decode cX3_carriesAll 96 = .ok (.aload_n 0, 1) := dk_42 (dk_at dksX3_carriesAll_4 0 rfl rfl)
theorem dX3_carriesAll_97 : decode cX3_carriesAll 97 = .ok (.aload_n 0, 1) := dk_42 (dk_at dksX3_carriesAll_4 1 rfl rfl)
theorem dX3_carriesAll_98 : decode cX3_carriesAll 98 = .ok (.getfield 28, 3) := dk_180 0 28 (dk_at dksX3_carriesAll_4 2 rfl rfl)
theorem dX3_carriesAll_101 : decode cX3_carriesAll 101 = .ok (.invokevirtual 489, 3) := dk_182 1 233 (dk_at dksX3_carriesAll_4 5 rfl rfl)
theorem dX3_carriesAll_104 : decode cX3_carriesAll 104 = .ok (.aload_n 0, 1) := dk_42 (dk_at dksX3_carriesAll_4 8 rfl rfl)
theorem dX3_carriesAll_105 : decode cX3_carriesAll 105 = .ok (.aload_n 0, 1) := dk_42 (dk_at dksX3_carriesAll_4 9 rfl rfl)
theorem dX3_carriesAll_106 : decode cX3_carriesAll 106 = .ok (.getfield 31, 3) := dk_180 0 31 (dk_at dksX3_carriesAll_4 10 rfl rfl)
theorem dX3_carriesAll_109 : decode cX3_carriesAll 109 = .ok (.invokevirtual 489, 3) := dk_182 1 233 (dk_at dksX3_carriesAll_4 13 rfl rfl)
theorem dX3_carriesAll_112 : decode cX3_carriesAll 112 = .ok (.aload_n 0, 1) := dk_42 (dk_at dksX3_carriesAll_4 16 rfl rfl)
theorem dX3_carriesAll_113 : decode cX3_carriesAll 113 = .ok (.aload_n 0, 1) := dk_42 (dk_at dksX3_carriesAll_4 17 rfl rfl)
theorem dX3_carriesAll_114 : decode cX3_carriesAll 114 = .ok (.getfield 34, 3) := dk_180 0 34 (dk_at dksX3_carriesAll_4 18 rfl rfl)
theorem dX3_carriesAll_117 : decode cX3_carriesAll 117 = .ok (.invokevirtual 489, 3) := dk_182 1 233 (dk_at dksX3_carriesAll_4 21 rfl rfl)
theorem dX3_carriesAll_120 : decode cX3_carriesAll 120 = .ok (.aload_n 0, 1) := dk_42 (dk_at dksX3_carriesAll_5 0 rfl rfl)
theorem dX3_carriesAll_121 : decode cX3_carriesAll 121 = .ok (.aload_n 0, 1) := dk_42 (dk_at dksX3_carriesAll_5 1 rfl rfl)
theorem dX3_carriesAll_122 : decode cX3_carriesAll 122 = .ok (.getfield 37, 3) := dk_180 0 37 (dk_at dksX3_carriesAll_5 2 rfl rfl)
theorem dX3_carriesAll_125 : decode cX3_carriesAll 125 = .ok (.invokevirtual 489, 3) := dk_182 1 233 (dk_at dksX3_carriesAll_5 5 rfl rfl)
theorem dX3_carriesAll_128 : decode cX3_carriesAll 128 = .ok (.aload_n 0, 1) := dk_42 (dk_at dksX3_carriesAll_5 8 rfl rfl)
theorem dX3_carriesAll_129 : decode cX3_carriesAll 129 = .ok (.aload_n 0, 1) := dk_42 (dk_at dksX3_carriesAll_5 9 rfl rfl)
theorem dX3_carriesAll_130 : decode cX3_carriesAll 130 = .ok (.getfield 40, 3) := dk_180 0 40 (dk_at dksX3_carriesAll_5 10 rfl rfl)
theorem dX3_carriesAll_133 : decode cX3_carriesAll 133 = .ok (.invokevirtual 489, 3) := dk_182 1 233 (dk_at dksX3_carriesAll_5 13 rfl rfl)
theorem dX3_carriesAll_136 : decode cX3_carriesAll 136 = .ok (.aload_n 0, 1) := dk_42 (dk_at dksX3_carriesAll_5 16 rfl rfl)
theorem dX3_carriesAll_137 : decode cX3_carriesAll 137 = .ok (.aload_n 0, 1) := dk_42 (dk_at dksX3_carriesAll_5 17 rfl rfl)
theorem dX3_carriesAll_138 : decode cX3_carriesAll 138 = .ok (.getfield 100, 3) := dk_180 0 100 (dk_at dksX3_carriesAll_5 18 rfl rfl)
theorem dX3_carriesAll_141 : decode cX3_carriesAll 141 = .ok (.invokevirtual 489, 3) := dk_182 1 233 (dk_at dksX3_carriesAll_5 21 rfl rfl)
theorem dX3_carriesAll_144 : decode cX3_carriesAll 144 = .ok (.return_, 1) := dk_177 (dk_at dksX3_carriesAll_6 0 rfl rfl)
abbrev cX3_carryRow : ByteArray := prog_17_method_108_code
def yX3_carryRow : MethodName := ⟨RX3, "carryRow", "([I)V"⟩
def dkwX3_carryRow_2 : List UInt8 := [180, 1, 230, 4, 96, 181, 1, 230, 132, 2, 1, 167, 255, 203, 177]
abbrev dktX3_carryRow_2 : List UInt8 := dkwX3_carryRow_2 ++ []
def dkwX3_carryRow_1 : List UInt8 := [180, 1, 230, 46, 79, 167, 0, 15, 42, 180, 0, 122, 42, 180, 1, 230, 43, 28, 46, 79, 42, 89]
abbrev dktX3_carryRow_1 : List UInt8 := dkwX3_carryRow_1 ++ dktX3_carryRow_2
def dkwX3_carryRow_0 : List UInt8 := [3, 61, 28, 43, 190, 162, 0, 53, 42, 180, 1, 227, 153, 0, 18, 43, 28, 42, 180, 0, 122, 42]
abbrev dktX3_carryRow_0 : List UInt8 := dkwX3_carryRow_0 ++ dktX3_carryRow_1
theorem dksX3_carryRow_0 : cX3_carryRow.data.toList.drop 0 = dktX3_carryRow_0 := by decide +kernel
theorem dksX3_carryRow_1 : cX3_carryRow.data.toList.drop 22 = dktX3_carryRow_1 := dk_seg dksX3_carryRow_0 22 rfl rfl
theorem dksX3_carryRow_2 : cX3_carryRow.data.toList.drop 44 = dktX3_carryRow_2 := dk_seg dksX3_carryRow_1 22 rfl rfl
theorem dX3_carryRow_0 : decode cX3_carryRow 0 = .ok (.iconst 0, 1) := dk_3 (dk_at dksX3_carryRow_0 0 rfl rfl)
theorem dX3_carryRow_1 : decode cX3_carryRow 1 = .ok (.istore_n 2, 1) := dk_61 (dk_at dksX3_carryRow_0 1 rfl rfl)
theorem dX3_carryRow_2 : decode cX3_carryRow 2 = .ok (.iload_n 2, 1) := dk_28 (dk_at dksX3_carryRow_0 2 rfl rfl)
theorem dX3_carryRow_3 : decode cX3_carryRow 3 = .ok (.aload_n 1, 1) := dk_43 (dk_at dksX3_carryRow_0 3 rfl rfl)
theorem dX3_carryRow_4 : decode cX3_carryRow 4 = .ok (.arraylength, 1) := dk_190 (dk_at dksX3_carryRow_0 4 rfl rfl)
theorem dX3_carryRow_5 : decode cX3_carryRow 5 = .ok (.if_icmp .ge 53, 3) := dk_162 0 53 (dk_at dksX3_carryRow_0 5 rfl rfl)
theorem dX3_carryRow_8 : decode cX3_carryRow 8 = .ok (.aload_n 0, 1) := dk_42 (dk_at dksX3_carryRow_0 8 rfl rfl)
theorem dX3_carryRow_9 : decode cX3_carryRow 9 = .ok (.getfield 483, 3) := dk_180 1 227 (dk_at dksX3_carryRow_0 9 rfl rfl)
theorem dX3_carryRow_12 : decode cX3_carryRow 12 = .ok (.ifCond .eq 18, 3) := dk_153 0 18 (dk_at dksX3_carryRow_0 12 rfl rfl)
theorem dX3_carryRow_15 : decode cX3_carryRow 15 = .ok (.aload_n 1, 1) := dk_43 (dk_at dksX3_carryRow_0 15 rfl rfl)
theorem dX3_carryRow_16 : decode cX3_carryRow 16 = .ok (.iload_n 2, 1) := dk_28 (dk_at dksX3_carryRow_0 16 rfl rfl)
theorem dX3_carryRow_17 : decode cX3_carryRow 17 = .ok (.aload_n 0, 1) := dk_42 (dk_at dksX3_carryRow_0 17 rfl rfl)
theorem dX3_carryRow_18 : decode cX3_carryRow 18 = .ok (.getfield 122, 3) := dk_180 0 122 (dk_at dksX3_carryRow_0 18 rfl rfl)
theorem dX3_carryRow_21 : decode cX3_carryRow 21 = .ok (.aload_n 0, 1) := dk_42 (dk_at dksX3_carryRow_0 21 rfl rfl)
theorem dX3_carryRow_22 : decode cX3_carryRow 22 = .ok (.getfield 486, 3) := dk_180 1 230 (dk_at dksX3_carryRow_1 0 rfl rfl)
theorem dX3_carryRow_25 : decode cX3_carryRow 25 = .ok (.iaload, 1) := dk_46 (dk_at dksX3_carryRow_1 3 rfl rfl)
theorem dX3_carryRow_26 : decode cX3_carryRow 26 = .ok (.iastore, 1) := dk_79 (dk_at dksX3_carryRow_1 4 rfl rfl)
theorem dX3_carryRow_27 : decode cX3_carryRow 27 = .ok (.goto 15, 3) := dk_167 0 15 (dk_at dksX3_carryRow_1 5 rfl rfl)
theorem dX3_carryRow_30 : decode cX3_carryRow 30 = .ok (.aload_n 0, 1) := dk_42 (dk_at dksX3_carryRow_1 8 rfl rfl)
theorem dX3_carryRow_31 : decode cX3_carryRow 31 = .ok (.getfield 122, 3) := dk_180 0 122 (dk_at dksX3_carryRow_1 9 rfl rfl)
theorem dX3_carryRow_34 : decode cX3_carryRow 34 = .ok (.aload_n 0, 1) := dk_42 (dk_at dksX3_carryRow_1 12 rfl rfl)
theorem dX3_carryRow_35 : decode cX3_carryRow 35 = .ok (.getfield 486, 3) := dk_180 1 230 (dk_at dksX3_carryRow_1 13 rfl rfl)
theorem dX3_carryRow_38 : decode cX3_carryRow 38 = .ok (.aload_n 1, 1) := dk_43 (dk_at dksX3_carryRow_1 16 rfl rfl)
theorem dX3_carryRow_39 : decode cX3_carryRow 39 = .ok (.iload_n 2, 1) := dk_28 (dk_at dksX3_carryRow_1 17 rfl rfl)
theorem dX3_carryRow_40 : decode cX3_carryRow 40 = .ok (.iaload, 1) := dk_46 (dk_at dksX3_carryRow_1 18 rfl rfl)
theorem dX3_carryRow_41 : decode cX3_carryRow 41 = .ok (.iastore, 1) := dk_79 (dk_at dksX3_carryRow_1 19 rfl rfl)
theorem dX3_carryRow_42 : decode cX3_carryRow 42 = .ok (.aload_n 0, 1) := dk_42 (dk_at dksX3_carryRow_1 20 rfl rfl)
theorem dX3_carryRow_43 : decode cX3_carryRow 43 = .ok (.dup, 1) := dk_89 (dk_at dksX3_carryRow_1 21 rfl rfl)
theorem dX3_carryRow_44 : decode cX3_carryRow 44 = .ok (.getfield 486, 3) := dk_180 1 230 (dk_at dksX3_carryRow_2 0 rfl rfl)
theorem dX3_carryRow_47 : decode cX3_carryRow 47 = .ok (.iconst 1, 1) := dk_4 (dk_at dksX3_carryRow_2 3 rfl rfl)
theorem dX3_carryRow_48 : decode cX3_carryRow 48 = .ok (.iadd, 1) := dk_96 (dk_at dksX3_carryRow_2 4 rfl rfl)
theorem dX3_carryRow_49 : decode cX3_carryRow 49 = .ok (.putfield 486, 3) := dk_181 1 230 (dk_at dksX3_carryRow_2 5 rfl rfl)
theorem dX3_carryRow_52 : decode cX3_carryRow 52 = .ok (.iinc 2 1, 3) := dk_132 2 1 (dk_at dksX3_carryRow_2 8 rfl rfl)
theorem dX3_carryRow_55 : decode cX3_carryRow 55 = .ok (.goto (-53), 3) := dk_167 255 203 (dk_at dksX3_carryRow_2 11 rfl rfl)
theorem dX3_carryRow_58 : decode cX3_carryRow 58 = .ok (.return_, 1) := dk_177 (dk_at dksX3_carryRow_2 14 rfl rfl)
abbrev cX3_goFor : ByteArray := prog_17_method_64_code
def yX3_goFor : MethodName := ⟨RX3, "goFor", "(I)V"⟩
def dkwX3_goFor_0 : List UInt8 := [3, 61, 28, 27, 162, 0, 14, 42, 182, 1, 127, 87, 132, 2, 1, 167, 255, 243, 177]
abbrev dktX3_goFor_0 : List UInt8 := dkwX3_goFor_0 ++ []
theorem dksX3_goFor_0 : cX3_goFor.data.toList.drop 0 = dktX3_goFor_0 := by decide +kernel
theorem dX3_goFor_0 : decode cX3_goFor 0 = .ok (.iconst 0, 1) := dk_3 (dk_at dksX3_goFor_0 0 rfl rfl)
theorem dX3_goFor_1 : decode cX3_goFor 1 = .ok (.istore_n 2, 1) := dk_61 (dk_at dksX3_goFor_0 1 rfl rfl)
theorem dX3_goFor_2 : decode cX3_goFor 2 = .ok (.iload_n 2, 1) := dk_28 (dk_at dksX3_goFor_0 2 rfl rfl)
theorem dX3_goFor_3 : decode cX3_goFor 3 = .ok (.iload_n 1, 1) := dk_27 (dk_at dksX3_goFor_0 3 rfl rfl)
theorem dX3_goFor_4 : decode cX3_goFor 4 = .ok (.if_icmp .ge 14, 3) := dk_162 0 14 (dk_at dksX3_goFor_0 4 rfl rfl)
theorem dX3_goFor_7 : decode cX3_goFor 7 = .ok (.aload_n 0, 1) := dk_42 (dk_at dksX3_goFor_0 7 rfl rfl)
theorem dX3_goFor_8 : decode cX3_goFor 8 = .ok (.invokevirtual 383, 3) := dk_182 1 127 (dk_at dksX3_goFor_0 8 rfl rfl)
theorem dX3_goFor_11 : decode cX3_goFor 11 = .ok (.pop, 1) := dk_87 (dk_at dksX3_goFor_0 11 rfl rfl)
theorem dX3_goFor_12 : decode cX3_goFor 12 = .ok (.iinc 2 1, 3) := dk_132 2 1 (dk_at dksX3_goFor_0 12 rfl rfl)
theorem dX3_goFor_15 : decode cX3_goFor 15 = .ok (.goto (-13), 3) := dk_167 255 243 (dk_at dksX3_goFor_0 15 rfl rfl)
theorem dX3_goFor_18 : decode cX3_goFor 18 = .ok (.return_, 1) := dk_177 (dk_at dksX3_goFor_0 18 rfl rfl)
abbrev cX3_laysBack : ByteArray := prog_17_method_77_code
def yX3_laysBack : MethodName := ⟨RX3, "laysBack", "()V"⟩
def dkwX3_laysBack_0 : List UInt8 := [42, 7, 4, 182, 1, 159, 177]
abbrev dktX3_laysBack_0 : List UInt8 := dkwX3_laysBack_0 ++ []
theorem dksX3_laysBack_0 : cX3_laysBack.data.toList.drop 0 = dktX3_laysBack_0 := by decide +kernel
theorem dX3_laysBack_0 : decode cX3_laysBack 0 = .ok (.aload_n 0, 1) := dk_42 (dk_at dksX3_laysBack_0 0 rfl rfl)
theorem dX3_laysBack_1 : decode cX3_laysBack 1 = .ok (.iconst 4, 1) := dk_7 (dk_at dksX3_laysBack_0 1 rfl rfl)
theorem dX3_laysBack_2 : decode cX3_laysBack 2 = .ok (.iconst 1, 1) := dk_4 (dk_at dksX3_laysBack_0 2 rfl rfl)
theorem dX3_laysBack_3 : decode cX3_laysBack 3 = .ok (.invokevirtual 415, 3) := dk_182 1 159 (dk_at dksX3_laysBack_0 3 rfl rfl)
theorem dX3_laysBack_6 : decode cX3_laysBack 6 = .ok (.return_, 1) := dk_177 (dk_at dksX3_laysBack_0 6 rfl rfl)
abbrev cX3_falls : ByteArray := prog_17_method_79_code
def yX3_falls : MethodName := ⟨RX3, "falls", "(I)I"⟩
def dkwX3_falls_3 : List UInt8 := [167, 0, 5, 21, 4, 61, 132, 3, 1, 167, 255, 206, 42, 182, 1, 170, 28, 172]
abbrev dktX3_falls_3 : List UInt8 := dkwX3_falls_3 ++ []
def dkwX3_falls_2 : List UInt8 := [21, 4, 154, 0, 8, 16, 254, 167, 0, 20, 27, 154, 0, 14, 42, 180, 0, 9, 7, 46, 4, 100]
abbrev dktX3_falls_2 : List UInt8 := dkwX3_falls_2 ++ dktX3_falls_3
def dkwX3_falls_1 : List UInt8 := [16, 254, 61, 3, 62, 29, 17, 0, 200, 162, 0, 49, 28, 16, 254, 160, 0, 43, 42, 182, 1, 127, 54, 4]
abbrev dktX3_falls_1 : List UInt8 := dkwX3_falls_1 ++ dktX3_falls_2
def dkwX3_falls_0 : List UInt8 := [42, 182, 1, 148, 153, 0, 13, 27, 133, 9, 10, 184, 0, 131, 154, 0, 5, 2, 172, 42, 182, 1, 164]
abbrev dktX3_falls_0 : List UInt8 := dkwX3_falls_0 ++ dktX3_falls_1
theorem dksX3_falls_0 : cX3_falls.data.toList.drop 0 = dktX3_falls_0 := by decide +kernel
theorem dksX3_falls_1 : cX3_falls.data.toList.drop 23 = dktX3_falls_1 := dk_seg dksX3_falls_0 23 rfl rfl
theorem dksX3_falls_2 : cX3_falls.data.toList.drop 47 = dktX3_falls_2 := dk_seg dksX3_falls_1 24 rfl rfl
theorem dksX3_falls_3 : cX3_falls.data.toList.drop 69 = dktX3_falls_3 := dk_seg dksX3_falls_2 22 rfl rfl
theorem dX3_falls_0 : decode cX3_falls 0 = .ok (.aload_n 0, 1) := dk_42 (dk_at dksX3_falls_0 0 rfl rfl)
theorem dX3_falls_1 : decode cX3_falls 1 = .ok (.invokevirtual 404, 3) := dk_182 1 148 (dk_at dksX3_falls_0 1 rfl rfl)
theorem dX3_falls_4 : decode cX3_falls 4 = .ok (.ifCond .eq 13, 3) := dk_153 0 13 (dk_at dksX3_falls_0 4 rfl rfl)
theorem dX3_falls_7 : decode cX3_falls 7 = .ok (.iload_n 1, 1) := dk_27 (dk_at dksX3_falls_0 7 rfl rfl)
theorem dX3_falls_8 : decode cX3_falls 8 = .ok (.i2l, 1) := dk_133 (dk_at dksX3_falls_0 8 rfl rfl)
theorem dX3_falls_9 : decode cX3_falls 9 = .ok (.lconst 0, 1) := dk_9 (dk_at dksX3_falls_0 9 rfl rfl)
theorem dX3_falls_10 : decode cX3_falls 10 = .ok (.lconst 1, 1) := dk_10 (dk_at dksX3_falls_0 10 rfl rfl)
theorem dX3_falls_11 : decode cX3_falls 11 = .ok (.invokestatic 131, 3) := dk_184 0 131 (dk_at dksX3_falls_0 11 rfl rfl)
theorem dX3_falls_14 : decode cX3_falls 14 = .ok (.ifCond .ne 5, 3) := dk_154 0 5 (dk_at dksX3_falls_0 14 rfl rfl)
theorem dX3_falls_17 : decode cX3_falls 17 = .ok (.iconst (-1), 1) := dk_2 (dk_at dksX3_falls_0 17 rfl rfl)
theorem dX3_falls_18 : decode cX3_falls 18 = .ok (.ireturn, 1) := dk_172 (dk_at dksX3_falls_0 18 rfl rfl)
theorem dX3_falls_19 : decode cX3_falls 19 = .ok (.aload_n 0, 1) := dk_42 (dk_at dksX3_falls_0 19 rfl rfl)
theorem dX3_falls_20 : decode cX3_falls 20 = .ok (.invokevirtual 420, 3) := dk_182 1 164 (dk_at dksX3_falls_0 20 rfl rfl)
theorem dX3_falls_23 : decode cX3_falls 23 = .ok (.bipush (-2), 2) := dk_16 254 (dk_at dksX3_falls_1 0 rfl rfl)
theorem dX3_falls_25 : decode cX3_falls 25 = .ok (.istore_n 2, 1) := dk_61 (dk_at dksX3_falls_1 2 rfl rfl)
theorem dX3_falls_26 : decode cX3_falls 26 = .ok (.iconst 0, 1) := dk_3 (dk_at dksX3_falls_1 3 rfl rfl)
theorem dX3_falls_27 : decode cX3_falls 27 = .ok (.istore_n 3, 1) := dk_62 (dk_at dksX3_falls_1 4 rfl rfl)
theorem dX3_falls_28 : decode cX3_falls 28 = .ok (.iload_n 3, 1) := dk_29 (dk_at dksX3_falls_1 5 rfl rfl)
theorem dX3_falls_29 : decode cX3_falls 29 = .ok (.sipush 200, 3) := dk_17 0 200 (dk_at dksX3_falls_1 6 rfl rfl)
theorem dX3_falls_32 : decode cX3_falls 32 = .ok (.if_icmp .ge 49, 3) := dk_162 0 49 (dk_at dksX3_falls_1 9 rfl rfl)
theorem dX3_falls_35 : decode cX3_falls 35 = .ok (.iload_n 2, 1) := dk_28 (dk_at dksX3_falls_1 12 rfl rfl)
theorem dX3_falls_36 : decode cX3_falls 36 = .ok (.bipush (-2), 2) := dk_16 254 (dk_at dksX3_falls_1 13 rfl rfl)
theorem dX3_falls_38 : decode cX3_falls 38 = .ok (.if_icmp .ne 43, 3) := dk_160 0 43 (dk_at dksX3_falls_1 15 rfl rfl)
theorem dX3_falls_41 : decode cX3_falls 41 = .ok (.aload_n 0, 1) := dk_42 (dk_at dksX3_falls_1 18 rfl rfl)
theorem dX3_falls_42 : decode cX3_falls 42 = .ok (.invokevirtual 383, 3) := dk_182 1 127 (dk_at dksX3_falls_1 19 rfl rfl)
theorem dX3_falls_45 : decode cX3_falls 45 = .ok (.istore 4, 2) := dk_54 4 (dk_at dksX3_falls_1 22 rfl rfl)
theorem dX3_falls_47 : decode cX3_falls 47 = .ok (.iload 4, 2) := dk_21 4 (dk_at dksX3_falls_2 0 rfl rfl)
theorem dX3_falls_49 : decode cX3_falls 49 = .ok (.ifCond .ne 8, 3) := dk_154 0 8 (dk_at dksX3_falls_2 2 rfl rfl)
theorem dX3_falls_52 : decode cX3_falls 52 = .ok (.bipush (-2), 2) := dk_16 254 (dk_at dksX3_falls_2 5 rfl rfl)
theorem dX3_falls_54 : decode cX3_falls 54 = .ok (.goto 20, 3) := dk_167 0 20 (dk_at dksX3_falls_2 7 rfl rfl)
theorem dX3_falls_57 : decode cX3_falls 57 = .ok (.iload_n 1, 1) := dk_27 (dk_at dksX3_falls_2 10 rfl rfl)
theorem dX3_falls_58 : decode cX3_falls 58 = .ok (.ifCond .ne 14, 3) := dk_154 0 14 (dk_at dksX3_falls_2 11 rfl rfl)
theorem dX3_falls_61 : decode cX3_falls 61 = .ok (.aload_n 0, 1) := dk_42 (dk_at dksX3_falls_2 14 rfl rfl)
theorem dX3_falls_62 : decode cX3_falls 62 = .ok (.getfield 9, 3) := dk_180 0 9 (dk_at dksX3_falls_2 15 rfl rfl)
theorem dX3_falls_65 : decode cX3_falls 65 = .ok (.iconst 4, 1) := dk_7 (dk_at dksX3_falls_2 18 rfl rfl)
theorem dX3_falls_66 : decode cX3_falls 66 = .ok (.iaload, 1) := dk_46 (dk_at dksX3_falls_2 19 rfl rfl)
theorem dX3_falls_67 : decode cX3_falls 67 = .ok (.iconst 1, 1) := dk_4 (dk_at dksX3_falls_2 20 rfl rfl)
theorem dX3_falls_68 : decode cX3_falls 68 = .ok (.isub, 1) := dk_100 (dk_at dksX3_falls_2 21 rfl rfl)
theorem dX3_falls_69 : decode cX3_falls 69 = .ok (.goto 5, 3) := dk_167 0 5 (dk_at dksX3_falls_3 0 rfl rfl)
theorem dX3_falls_72 : decode cX3_falls 72 = .ok (.iload 4, 2) := dk_21 4 (dk_at dksX3_falls_3 3 rfl rfl)
theorem dX3_falls_74 : decode cX3_falls 74 = .ok (.istore_n 2, 1) := dk_61 (dk_at dksX3_falls_3 5 rfl rfl)
theorem dX3_falls_75 : decode cX3_falls 75 = .ok (.iinc 3 1, 3) := dk_132 3 1 (dk_at dksX3_falls_3 6 rfl rfl)
theorem dX3_falls_78 : decode cX3_falls 78 = .ok (.goto (-50), 3) := dk_167 255 206 (dk_at dksX3_falls_3 9 rfl rfl)
theorem dX3_falls_81 : decode cX3_falls 81 = .ok (.aload_n 0, 1) := dk_42 (dk_at dksX3_falls_3 12 rfl rfl)
theorem dX3_falls_82 : decode cX3_falls 82 = .ok (.invokevirtual 426, 3) := dk_182 1 170 (dk_at dksX3_falls_3 13 rfl rfl)
theorem dX3_falls_85 : decode cX3_falls 85 = .ok (.iload_n 2, 1) := dk_28 (dk_at dksX3_falls_3 16 rfl rfl)
theorem dX3_falls_86 : decode cX3_falls 86 = .ok (.ireturn, 1) := dk_172 (dk_at dksX3_falls_3 17 rfl rfl)
abbrev cX3_felled : ByteArray := prog_17_method_81_code
def yX3_felled : MethodName := ⟨RX3, "felled", "(I)I"⟩
def dkwX3_felled_0 : List UInt8 := [42, 27, 4, 182, 1, 154, 153, 0, 11, 42, 27, 182, 1, 173, 167, 0, 4, 2, 172]
abbrev dktX3_felled_0 : List UInt8 := dkwX3_felled_0 ++ []
theorem dksX3_felled_0 : cX3_felled.data.toList.drop 0 = dktX3_felled_0 := by decide +kernel
theorem dX3_felled_0 : decode cX3_felled 0 = .ok (.aload_n 0, 1) := dk_42 (dk_at dksX3_felled_0 0 rfl rfl)
theorem dX3_felled_1 : decode cX3_felled 1 = .ok (.iload_n 1, 1) := dk_27 (dk_at dksX3_felled_0 1 rfl rfl)
theorem dX3_felled_2 : decode cX3_felled 2 = .ok (.iconst 1, 1) := dk_4 (dk_at dksX3_felled_0 2 rfl rfl)
theorem dX3_felled_3 : decode cX3_felled 3 = .ok (.invokevirtual 410, 3) := dk_182 1 154 (dk_at dksX3_felled_0 3 rfl rfl)
theorem dX3_felled_6 : decode cX3_felled 6 = .ok (.ifCond .eq 11, 3) := dk_153 0 11 (dk_at dksX3_felled_0 6 rfl rfl)
theorem dX3_felled_9 : decode cX3_felled 9 = .ok (.aload_n 0, 1) := dk_42 (dk_at dksX3_felled_0 9 rfl rfl)
theorem dX3_felled_10 : decode cX3_felled 10 = .ok (.iload_n 1, 1) := dk_27 (dk_at dksX3_felled_0 10 rfl rfl)
theorem dX3_felled_11 : decode cX3_felled 11 = .ok (.invokevirtual 429, 3) := dk_182 1 173 (dk_at dksX3_felled_0 11 rfl rfl)
theorem dX3_felled_14 : decode cX3_felled 14 = .ok (.goto 4, 3) := dk_167 0 4 (dk_at dksX3_felled_0 14 rfl rfl)
theorem dX3_felled_17 : decode cX3_felled 17 = .ok (.iconst (-1), 1) := dk_2 (dk_at dksX3_felled_0 17 rfl rfl)
theorem dX3_felled_18 : decode cX3_felled 18 = .ok (.ireturn, 1) := dk_172 (dk_at dksX3_felled_0 18 rfl rfl)
abbrev cX3_felledBy : ByteArray := prog_17_method_80_code
def yX3_felledBy : MethodName := ⟨RX3, "felledBy", "(I)I"⟩
def dkwX3_felledBy_0 : List UInt8 := [42, 182, 1, 164, 42, 180, 0, 16, 27, 3, 79, 42, 182, 1, 124, 61, 42, 182, 1, 170, 28, 172]
abbrev dktX3_felledBy_0 : List UInt8 := dkwX3_felledBy_0 ++ []
theorem dksX3_felledBy_0 : cX3_felledBy.data.toList.drop 0 = dktX3_felledBy_0 := by decide +kernel
theorem dX3_felledBy_0 : decode cX3_felledBy 0 = .ok (.aload_n 0, 1) := dk_42 (dk_at dksX3_felledBy_0 0 rfl rfl)
theorem dX3_felledBy_1 : decode cX3_felledBy 1 = .ok (.invokevirtual 420, 3) := dk_182 1 164 (dk_at dksX3_felledBy_0 1 rfl rfl)
theorem dX3_felledBy_4 : decode cX3_felledBy 4 = .ok (.aload_n 0, 1) := dk_42 (dk_at dksX3_felledBy_0 4 rfl rfl)
theorem dX3_felledBy_5 : decode cX3_felledBy 5 = .ok (.getfield 16, 3) := dk_180 0 16 (dk_at dksX3_felledBy_0 5 rfl rfl)
theorem dX3_felledBy_8 : decode cX3_felledBy 8 = .ok (.iload_n 1, 1) := dk_27 (dk_at dksX3_felledBy_0 8 rfl rfl)
theorem dX3_felledBy_9 : decode cX3_felledBy 9 = .ok (.iconst 0, 1) := dk_3 (dk_at dksX3_felledBy_0 9 rfl rfl)
theorem dX3_felledBy_10 : decode cX3_felledBy 10 = .ok (.iastore, 1) := dk_79 (dk_at dksX3_felledBy_0 10 rfl rfl)
theorem dX3_felledBy_11 : decode cX3_felledBy 11 = .ok (.aload_n 0, 1) := dk_42 (dk_at dksX3_felledBy_0 11 rfl rfl)
theorem dX3_felledBy_12 : decode cX3_felledBy 12 = .ok (.invokevirtual 380, 3) := dk_182 1 124 (dk_at dksX3_felledBy_0 12 rfl rfl)
theorem dX3_felledBy_15 : decode cX3_felledBy 15 = .ok (.istore_n 2, 1) := dk_61 (dk_at dksX3_felledBy_0 15 rfl rfl)
theorem dX3_felledBy_16 : decode cX3_felledBy 16 = .ok (.aload_n 0, 1) := dk_42 (dk_at dksX3_felledBy_0 16 rfl rfl)
theorem dX3_felledBy_17 : decode cX3_felledBy 17 = .ok (.invokevirtual 426, 3) := dk_182 1 170 (dk_at dksX3_felledBy_0 17 rfl rfl)
theorem dX3_felledBy_20 : decode cX3_felledBy 20 = .ok (.iload_n 2, 1) := dk_28 (dk_at dksX3_felledBy_0 20 rfl rfl)
theorem dX3_felledBy_21 : decode cX3_felledBy 21 = .ok (.ireturn, 1) := dk_172 (dk_at dksX3_felledBy_0 21 rfl rfl)
abbrev cX3_tall : ByteArray := prog_17_method_82_code
def yX3_tall : MethodName := ⟨RX3, "tall", "(I)I"⟩
def dkwX3_tall_3 : List UInt8 := [182, 1, 173, 184, 1, 114, 62, 132, 4, 1, 167, 255, 205, 27, 154, 0, 7, 28, 167, 0, 4, 29, 172]
abbrev dktX3_tall_3 : List UInt8 := dkwX3_tall_3 ++ []
def dkwX3_tall_2 : List UInt8 := [160, 0, 29, 42, 21, 4, 182, 1, 173, 184, 1, 114, 29, 164, 0, 16, 21, 4, 61, 42, 21, 4]
abbrev dktX3_tall_2 : List UInt8 := dkwX3_tall_2 ++ dktX3_tall_3
def dkwX3_tall_1 : List UInt8 := [62, 3, 54, 4, 21, 4, 42, 180, 0, 9, 6, 46, 162, 0, 46, 42, 180, 0, 16, 21, 4, 46, 4]
abbrev dktX3_tall_1 : List UInt8 := dkwX3_tall_1 ++ dktX3_tall_2
def dkwX3_tall_0 : List UInt8 := [42, 182, 1, 148, 153, 0, 13, 27, 133, 9, 10, 184, 0, 131, 154, 0, 5, 2, 172, 16, 254, 61, 16, 254]
abbrev dktX3_tall_0 : List UInt8 := dkwX3_tall_0 ++ dktX3_tall_1
theorem dksX3_tall_0 : cX3_tall.data.toList.drop 0 = dktX3_tall_0 := by decide +kernel
theorem dksX3_tall_1 : cX3_tall.data.toList.drop 24 = dktX3_tall_1 := dk_seg dksX3_tall_0 24 rfl rfl
theorem dksX3_tall_2 : cX3_tall.data.toList.drop 47 = dktX3_tall_2 := dk_seg dksX3_tall_1 23 rfl rfl
theorem dksX3_tall_3 : cX3_tall.data.toList.drop 69 = dktX3_tall_3 := dk_seg dksX3_tall_2 22 rfl rfl
theorem dX3_tall_0 : decode cX3_tall 0 = .ok (.aload_n 0, 1) := dk_42 (dk_at dksX3_tall_0 0 rfl rfl)
theorem dX3_tall_1 : decode cX3_tall 1 = .ok (.invokevirtual 404, 3) := dk_182 1 148 (dk_at dksX3_tall_0 1 rfl rfl)
theorem dX3_tall_4 : decode cX3_tall 4 = .ok (.ifCond .eq 13, 3) := dk_153 0 13 (dk_at dksX3_tall_0 4 rfl rfl)
theorem dX3_tall_7 : decode cX3_tall 7 = .ok (.iload_n 1, 1) := dk_27 (dk_at dksX3_tall_0 7 rfl rfl)
theorem dX3_tall_8 : decode cX3_tall 8 = .ok (.i2l, 1) := dk_133 (dk_at dksX3_tall_0 8 rfl rfl)
theorem dX3_tall_9 : decode cX3_tall 9 = .ok (.lconst 0, 1) := dk_9 (dk_at dksX3_tall_0 9 rfl rfl)
theorem dX3_tall_10 : decode cX3_tall 10 = .ok (.lconst 1, 1) := dk_10 (dk_at dksX3_tall_0 10 rfl rfl)
theorem dX3_tall_11 : decode cX3_tall 11 = .ok (.invokestatic 131, 3) := dk_184 0 131 (dk_at dksX3_tall_0 11 rfl rfl)
theorem dX3_tall_14 : decode cX3_tall 14 = .ok (.ifCond .ne 5, 3) := dk_154 0 5 (dk_at dksX3_tall_0 14 rfl rfl)
theorem dX3_tall_17 : decode cX3_tall 17 = .ok (.iconst (-1), 1) := dk_2 (dk_at dksX3_tall_0 17 rfl rfl)
theorem dX3_tall_18 : decode cX3_tall 18 = .ok (.ireturn, 1) := dk_172 (dk_at dksX3_tall_0 18 rfl rfl)
theorem dX3_tall_19 : decode cX3_tall 19 = .ok (.bipush (-2), 2) := dk_16 254 (dk_at dksX3_tall_0 19 rfl rfl)
theorem dX3_tall_21 : decode cX3_tall 21 = .ok (.istore_n 2, 1) := dk_61 (dk_at dksX3_tall_0 21 rfl rfl)
theorem dX3_tall_22 : decode cX3_tall 22 = .ok (.bipush (-2), 2) := dk_16 254 (dk_at dksX3_tall_0 22 rfl rfl)
theorem dX3_tall_24 : decode cX3_tall 24 = .ok (.istore_n 3, 1) := dk_62 (dk_at dksX3_tall_1 0 rfl rfl)
theorem dX3_tall_25 : decode cX3_tall 25 = .ok (.iconst 0, 1) := dk_3 (dk_at dksX3_tall_1 1 rfl rfl)
theorem dX3_tall_26 : decode cX3_tall 26 = .ok (.istore 4, 2) := dk_54 4 (dk_at dksX3_tall_1 2 rfl rfl)
theorem dX3_tall_28 : decode cX3_tall 28 = .ok (.iload 4, 2) := dk_21 4 (dk_at dksX3_tall_1 4 rfl rfl)
theorem dX3_tall_30 : decode cX3_tall 30 = .ok (.aload_n 0, 1) := dk_42 (dk_at dksX3_tall_1 6 rfl rfl)
theorem dX3_tall_31 : decode cX3_tall 31 = .ok (.getfield 9, 3) := dk_180 0 9 (dk_at dksX3_tall_1 7 rfl rfl)
theorem dX3_tall_34 : decode cX3_tall 34 = .ok (.iconst 3, 1) := dk_6 (dk_at dksX3_tall_1 10 rfl rfl)
theorem dX3_tall_35 : decode cX3_tall 35 = .ok (.iaload, 1) := dk_46 (dk_at dksX3_tall_1 11 rfl rfl)
theorem dX3_tall_36 : decode cX3_tall 36 = .ok (.if_icmp .ge 46, 3) := dk_162 0 46 (dk_at dksX3_tall_1 12 rfl rfl)
theorem dX3_tall_39 : decode cX3_tall 39 = .ok (.aload_n 0, 1) := dk_42 (dk_at dksX3_tall_1 15 rfl rfl)
theorem dX3_tall_40 : decode cX3_tall 40 = .ok (.getfield 16, 3) := dk_180 0 16 (dk_at dksX3_tall_1 16 rfl rfl)
theorem dX3_tall_43 : decode cX3_tall 43 = .ok (.iload 4, 2) := dk_21 4 (dk_at dksX3_tall_1 19 rfl rfl)
theorem dX3_tall_45 : decode cX3_tall 45 = .ok (.iaload, 1) := dk_46 (dk_at dksX3_tall_1 21 rfl rfl)
theorem dX3_tall_46 : decode cX3_tall 46 = .ok (.iconst 1, 1) := dk_4 (dk_at dksX3_tall_1 22 rfl rfl)
theorem dX3_tall_47 : decode cX3_tall 47 = .ok (.if_icmp .ne 29, 3) := dk_160 0 29 (dk_at dksX3_tall_2 0 rfl rfl)
theorem dX3_tall_50 : decode cX3_tall 50 = .ok (.aload_n 0, 1) := dk_42 (dk_at dksX3_tall_2 3 rfl rfl)
theorem dX3_tall_51 : decode cX3_tall 51 = .ok (.iload 4, 2) := dk_21 4 (dk_at dksX3_tall_2 4 rfl rfl)
theorem dX3_tall_53 : decode cX3_tall 53 = .ok (.invokevirtual 429, 3) := dk_182 1 173 (dk_at dksX3_tall_2 6 rfl rfl)
theorem dX3_tall_56 : decode cX3_tall 56 = .ok (.invokestatic 370, 3) := dk_184 1 114 (dk_at dksX3_tall_2 9 rfl rfl)
theorem dX3_tall_59 : decode cX3_tall 59 = .ok (.iload_n 3, 1) := dk_29 (dk_at dksX3_tall_2 12 rfl rfl)
theorem dX3_tall_60 : decode cX3_tall 60 = .ok (.if_icmp .le 16, 3) := dk_164 0 16 (dk_at dksX3_tall_2 13 rfl rfl)
theorem dX3_tall_63 : decode cX3_tall 63 = .ok (.iload 4, 2) := dk_21 4 (dk_at dksX3_tall_2 16 rfl rfl)
theorem dX3_tall_65 : decode cX3_tall 65 = .ok (.istore_n 2, 1) := dk_61 (dk_at dksX3_tall_2 18 rfl rfl)
theorem dX3_tall_66 : decode cX3_tall 66 = .ok (.aload_n 0, 1) := dk_42 (dk_at dksX3_tall_2 19 rfl rfl)
theorem dX3_tall_67 : decode cX3_tall 67 = .ok (.iload 4, 2) := dk_21 4 (dk_at dksX3_tall_2 20 rfl rfl)
theorem dX3_tall_69 : decode cX3_tall 69 = .ok (.invokevirtual 429, 3) := dk_182 1 173 (dk_at dksX3_tall_3 0 rfl rfl)
theorem dX3_tall_72 : decode cX3_tall 72 = .ok (.invokestatic 370, 3) := dk_184 1 114 (dk_at dksX3_tall_3 3 rfl rfl)
theorem dX3_tall_75 : decode cX3_tall 75 = .ok (.istore_n 3, 1) := dk_62 (dk_at dksX3_tall_3 6 rfl rfl)
theorem dX3_tall_76 : decode cX3_tall 76 = .ok (.iinc 4 1, 3) := dk_132 4 1 (dk_at dksX3_tall_3 7 rfl rfl)
theorem dX3_tall_79 : decode cX3_tall 79 = .ok (.goto (-51), 3) := dk_167 255 205 (dk_at dksX3_tall_3 10 rfl rfl)
theorem dX3_tall_82 : decode cX3_tall 82 = .ok (.iload_n 1, 1) := dk_27 (dk_at dksX3_tall_3 13 rfl rfl)
theorem dX3_tall_83 : decode cX3_tall 83 = .ok (.ifCond .ne 7, 3) := dk_154 0 7 (dk_at dksX3_tall_3 14 rfl rfl)
theorem dX3_tall_86 : decode cX3_tall 86 = .ok (.iload_n 2, 1) := dk_28 (dk_at dksX3_tall_3 17 rfl rfl)
theorem dX3_tall_87 : decode cX3_tall 87 = .ok (.goto 4, 3) := dk_167 0 4 (dk_at dksX3_tall_3 18 rfl rfl)
theorem dX3_tall_90 : decode cX3_tall 90 = .ok (.iload_n 3, 1) := dk_29 (dk_at dksX3_tall_3 21 rfl rfl)
theorem dX3_tall_91 : decode cX3_tall 91 = .ok (.ireturn, 1) := dk_172 (dk_at dksX3_tall_3 22 rfl rfl)
abbrev cX3_ease : ByteArray := prog_17_method_83_code
def yX3_ease : MethodName := ⟨RX3, "ease", "(I)I"⟩
def dkwX3_ease_4 : List UInt8 := [184, 1, 114, 167, 0, 5, 21, 4, 172]
abbrev dktX3_ease_4 : List UInt8 := dkwX3_ease_4 ++ []
def dkwX3_ease_3 : List UInt8 := [182, 1, 111, 154, 0, 7, 21, 5, 54, 4, 132, 5, 1, 167, 255, 210, 27, 154, 0, 11, 21, 4]
abbrev dktX3_ease_3 : List UInt8 := dkwX3_ease_3 ++ dktX3_ease_4
def dkwX3_ease_2 : List UInt8 := [126, 154, 0, 31, 21, 5, 184, 1, 114, 21, 4, 184, 1, 114, 164, 0, 18, 42, 29, 21, 5, 128]
abbrev dktX3_ease_2 : List UInt8 := dkwX3_ease_2 ++ dktX3_ease_3
def dkwX3_ease_1 : List UInt8 := [61, 42, 4, 182, 1, 85, 62, 3, 54, 4, 3, 54, 5, 21, 5, 28, 163, 0, 46, 21, 5, 28, 2, 130]
abbrev dktX3_ease_1 : List UInt8 := dkwX3_ease_1 ++ dktX3_ease_2
def dkwX3_ease_0 : List UInt8 := [42, 182, 1, 148, 153, 0, 13, 27, 133, 9, 10, 184, 0, 131, 154, 0, 5, 2, 172, 42, 3, 182, 1, 85]
abbrev dktX3_ease_0 : List UInt8 := dkwX3_ease_0 ++ dktX3_ease_1
theorem dksX3_ease_0 : cX3_ease.data.toList.drop 0 = dktX3_ease_0 := by decide +kernel
theorem dksX3_ease_1 : cX3_ease.data.toList.drop 24 = dktX3_ease_1 := dk_seg dksX3_ease_0 24 rfl rfl
theorem dksX3_ease_2 : cX3_ease.data.toList.drop 48 = dktX3_ease_2 := dk_seg dksX3_ease_1 24 rfl rfl
theorem dksX3_ease_3 : cX3_ease.data.toList.drop 70 = dktX3_ease_3 := dk_seg dksX3_ease_2 22 rfl rfl
theorem dksX3_ease_4 : cX3_ease.data.toList.drop 92 = dktX3_ease_4 := dk_seg dksX3_ease_3 22 rfl rfl
theorem dX3_ease_0 : decode cX3_ease 0 = .ok (.aload_n 0, 1) := dk_42 (dk_at dksX3_ease_0 0 rfl rfl)
theorem dX3_ease_1 : decode cX3_ease 1 = .ok (.invokevirtual 404, 3) := dk_182 1 148 (dk_at dksX3_ease_0 1 rfl rfl)
theorem dX3_ease_4 : decode cX3_ease 4 = .ok (.ifCond .eq 13, 3) := dk_153 0 13 (dk_at dksX3_ease_0 4 rfl rfl)
theorem dX3_ease_7 : decode cX3_ease 7 = .ok (.iload_n 1, 1) := dk_27 (dk_at dksX3_ease_0 7 rfl rfl)
theorem dX3_ease_8 : decode cX3_ease 8 = .ok (.i2l, 1) := dk_133 (dk_at dksX3_ease_0 8 rfl rfl)
theorem dX3_ease_9 : decode cX3_ease 9 = .ok (.lconst 0, 1) := dk_9 (dk_at dksX3_ease_0 9 rfl rfl)
theorem dX3_ease_10 : decode cX3_ease 10 = .ok (.lconst 1, 1) := dk_10 (dk_at dksX3_ease_0 10 rfl rfl)
theorem dX3_ease_11 : decode cX3_ease 11 = .ok (.invokestatic 131, 3) := dk_184 0 131 (dk_at dksX3_ease_0 11 rfl rfl)
theorem dX3_ease_14 : decode cX3_ease 14 = .ok (.ifCond .ne 5, 3) := dk_154 0 5 (dk_at dksX3_ease_0 14 rfl rfl)
theorem dX3_ease_17 : decode cX3_ease 17 = .ok (.iconst (-1), 1) := dk_2 (dk_at dksX3_ease_0 17 rfl rfl)
theorem dX3_ease_18 : decode cX3_ease 18 = .ok (.ireturn, 1) := dk_172 (dk_at dksX3_ease_0 18 rfl rfl)
theorem dX3_ease_19 : decode cX3_ease 19 = .ok (.aload_n 0, 1) := dk_42 (dk_at dksX3_ease_0 19 rfl rfl)
theorem dX3_ease_20 : decode cX3_ease 20 = .ok (.iconst 0, 1) := dk_3 (dk_at dksX3_ease_0 20 rfl rfl)
theorem dX3_ease_21 : decode cX3_ease 21 = .ok (.invokevirtual 341, 3) := dk_182 1 85 (dk_at dksX3_ease_0 21 rfl rfl)
theorem dX3_ease_24 : decode cX3_ease 24 = .ok (.istore_n 2, 1) := dk_61 (dk_at dksX3_ease_1 0 rfl rfl)
theorem dX3_ease_25 : decode cX3_ease 25 = .ok (.aload_n 0, 1) := dk_42 (dk_at dksX3_ease_1 1 rfl rfl)
theorem dX3_ease_26 : decode cX3_ease 26 = .ok (.iconst 1, 1) := dk_4 (dk_at dksX3_ease_1 2 rfl rfl)
theorem dX3_ease_27 : decode cX3_ease 27 = .ok (.invokevirtual 341, 3) := dk_182 1 85 (dk_at dksX3_ease_1 3 rfl rfl)
theorem dX3_ease_30 : decode cX3_ease 30 = .ok (.istore_n 3, 1) := dk_62 (dk_at dksX3_ease_1 6 rfl rfl)
theorem dX3_ease_31 : decode cX3_ease 31 = .ok (.iconst 0, 1) := dk_3 (dk_at dksX3_ease_1 7 rfl rfl)
theorem dX3_ease_32 : decode cX3_ease 32 = .ok (.istore 4, 2) := dk_54 4 (dk_at dksX3_ease_1 8 rfl rfl)
theorem dX3_ease_34 : decode cX3_ease 34 = .ok (.iconst 0, 1) := dk_3 (dk_at dksX3_ease_1 10 rfl rfl)
theorem dX3_ease_35 : decode cX3_ease 35 = .ok (.istore 5, 2) := dk_54 5 (dk_at dksX3_ease_1 11 rfl rfl)
theorem dX3_ease_37 : decode cX3_ease 37 = .ok (.iload 5, 2) := dk_21 5 (dk_at dksX3_ease_1 13 rfl rfl)
theorem dX3_ease_39 : decode cX3_ease 39 = .ok (.iload_n 2, 1) := dk_28 (dk_at dksX3_ease_1 15 rfl rfl)
theorem dX3_ease_40 : decode cX3_ease 40 = .ok (.if_icmp .gt 46, 3) := dk_163 0 46 (dk_at dksX3_ease_1 16 rfl rfl)
theorem dX3_ease_43 : decode cX3_ease 43 = .ok (.iload 5, 2) := dk_21 5 (dk_at dksX3_ease_1 19 rfl rfl)
theorem dX3_ease_45 : decode cX3_ease 45 = .ok (.iload_n 2, 1) := dk_28 (dk_at dksX3_ease_1 21 rfl rfl)
theorem dX3_ease_46 : decode cX3_ease 46 = .ok (.iconst (-1), 1) := dk_2 (dk_at dksX3_ease_1 22 rfl rfl)
theorem dX3_ease_47 : decode cX3_ease 47 = .ok (.ixor, 1) := dk_130 (dk_at dksX3_ease_1 23 rfl rfl)
theorem dX3_ease_48 : decode cX3_ease 48 = .ok (.iand, 1) := dk_126 (dk_at dksX3_ease_2 0 rfl rfl)
theorem dX3_ease_49 : decode cX3_ease 49 = .ok (.ifCond .ne 31, 3) := dk_154 0 31 (dk_at dksX3_ease_2 1 rfl rfl)
theorem dX3_ease_52 : decode cX3_ease 52 = .ok (.iload 5, 2) := dk_21 5 (dk_at dksX3_ease_2 4 rfl rfl)
theorem dX3_ease_54 : decode cX3_ease 54 = .ok (.invokestatic 370, 3) := dk_184 1 114 (dk_at dksX3_ease_2 6 rfl rfl)
theorem dX3_ease_57 : decode cX3_ease 57 = .ok (.iload 4, 2) := dk_21 4 (dk_at dksX3_ease_2 9 rfl rfl)
theorem dX3_ease_59 : decode cX3_ease 59 = .ok (.invokestatic 370, 3) := dk_184 1 114 (dk_at dksX3_ease_2 11 rfl rfl)
theorem dX3_ease_62 : decode cX3_ease 62 = .ok (.if_icmp .le 18, 3) := dk_164 0 18 (dk_at dksX3_ease_2 14 rfl rfl)
theorem dX3_ease_65 : decode cX3_ease 65 = .ok (.aload_n 0, 1) := dk_42 (dk_at dksX3_ease_2 17 rfl rfl)
theorem dX3_ease_66 : decode cX3_ease 66 = .ok (.iload_n 3, 1) := dk_29 (dk_at dksX3_ease_2 18 rfl rfl)
theorem dX3_ease_67 : decode cX3_ease 67 = .ok (.iload 5, 2) := dk_21 5 (dk_at dksX3_ease_2 19 rfl rfl)
theorem dX3_ease_69 : decode cX3_ease 69 = .ok (.ior, 1) := dk_128 (dk_at dksX3_ease_2 21 rfl rfl)
theorem dX3_ease_70 : decode cX3_ease 70 = .ok (.invokevirtual 367, 3) := dk_182 1 111 (dk_at dksX3_ease_3 0 rfl rfl)
theorem dX3_ease_73 : decode cX3_ease 73 = .ok (.ifCond .ne 7, 3) := dk_154 0 7 (dk_at dksX3_ease_3 3 rfl rfl)
theorem dX3_ease_76 : decode cX3_ease 76 = .ok (.iload 5, 2) := dk_21 5 (dk_at dksX3_ease_3 6 rfl rfl)
theorem dX3_ease_78 : decode cX3_ease 78 = .ok (.istore 4, 2) := dk_54 4 (dk_at dksX3_ease_3 8 rfl rfl)
theorem dX3_ease_80 : decode cX3_ease 80 = .ok (.iinc 5 1, 3) := dk_132 5 1 (dk_at dksX3_ease_3 10 rfl rfl)
theorem dX3_ease_83 : decode cX3_ease 83 = .ok (.goto (-46), 3) := dk_167 255 210 (dk_at dksX3_ease_3 13 rfl rfl)
theorem dX3_ease_86 : decode cX3_ease 86 = .ok (.iload_n 1, 1) := dk_27 (dk_at dksX3_ease_3 16 rfl rfl)
theorem dX3_ease_87 : decode cX3_ease 87 = .ok (.ifCond .ne 11, 3) := dk_154 0 11 (dk_at dksX3_ease_3 17 rfl rfl)
theorem dX3_ease_90 : decode cX3_ease 90 = .ok (.iload 4, 2) := dk_21 4 (dk_at dksX3_ease_3 20 rfl rfl)
theorem dX3_ease_92 : decode cX3_ease 92 = .ok (.invokestatic 370, 3) := dk_184 1 114 (dk_at dksX3_ease_4 0 rfl rfl)
theorem dX3_ease_95 : decode cX3_ease 95 = .ok (.goto 5, 3) := dk_167 0 5 (dk_at dksX3_ease_4 3 rfl rfl)
theorem dX3_ease_98 : decode cX3_ease 98 = .ok (.iload 4, 2) := dk_21 4 (dk_at dksX3_ease_4 6 rfl rfl)
theorem dX3_ease_100 : decode cX3_ease 100 = .ok (.ireturn, 1) := dk_172 (dk_at dksX3_ease_4 8 rfl rfl)
abbrev cX3_way : ByteArray := prog_17_method_85_code
def yX3_way : MethodName := ⟨RX3, "way", "(I)I"⟩
def dkwX3_way_5 : List UInt8 := [167, 255, 231, 29, 154, 0, 7, 2, 167, 0, 8, 42, 29, 182, 1, 178, 172]
abbrev dktX3_way_5 : List UInt8 := dkwX3_way_5 ++ []
def dkwX3_way_4 : List UInt8 := [162, 0, 25, 29, 153, 0, 21, 29, 4, 42, 29, 182, 1, 178, 120, 2, 130, 126, 62, 132, 4, 1]
abbrev dktX3_way_4 : List UInt8 := dkwX3_way_4 ++ dktX3_way_5
def dkwX3_way_3 : List UInt8 := [167, 255, 216, 42, 180, 0, 106, 28, 51, 154, 0, 6, 16, 254, 172, 28, 62, 3, 54, 4, 21, 4, 27]
abbrev dktX3_way_3 : List UInt8 := dkwX3_way_3 ++ dktX3_way_4
def dkwX3_way_2 : List UInt8 := [29, 153, 0, 12, 42, 29, 182, 1, 178, 2, 159, 0, 7, 4, 167, 0, 4, 3, 84, 132, 3, 1]
abbrev dktX3_way_2 : List UInt8 := dkwX3_way_2 ++ dktX3_way_3
def dkwX3_way_1 : List UInt8 := [182, 1, 85, 61, 3, 62, 29, 28, 163, 0, 41, 29, 28, 2, 130, 126, 154, 0, 27, 42, 180, 0, 106, 29]
abbrev dktX3_way_1 : List UInt8 := dkwX3_way_1 ++ dktX3_way_2
def dkwX3_way_0 : List UInt8 := [42, 182, 1, 148, 153, 0, 15, 27, 133, 9, 20, 1, 176, 184, 0, 131, 154, 0, 6, 16, 253, 172, 42, 4]
abbrev dktX3_way_0 : List UInt8 := dkwX3_way_0 ++ dktX3_way_1
theorem dksX3_way_0 : cX3_way.data.toList.drop 0 = dktX3_way_0 := by decide +kernel
theorem dksX3_way_1 : cX3_way.data.toList.drop 24 = dktX3_way_1 := dk_seg dksX3_way_0 24 rfl rfl
theorem dksX3_way_2 : cX3_way.data.toList.drop 48 = dktX3_way_2 := dk_seg dksX3_way_1 24 rfl rfl
theorem dksX3_way_3 : cX3_way.data.toList.drop 70 = dktX3_way_3 := dk_seg dksX3_way_2 22 rfl rfl
theorem dksX3_way_4 : cX3_way.data.toList.drop 93 = dktX3_way_4 := dk_seg dksX3_way_3 23 rfl rfl
theorem dksX3_way_5 : cX3_way.data.toList.drop 115 = dktX3_way_5 := dk_seg dksX3_way_4 22 rfl rfl
theorem dX3_way_0 : decode cX3_way 0 = .ok (.aload_n 0, 1) := dk_42 (dk_at dksX3_way_0 0 rfl rfl)
theorem dX3_way_1 : decode cX3_way 1 = .ok (.invokevirtual 404, 3) := dk_182 1 148 (dk_at dksX3_way_0 1 rfl rfl)
theorem dX3_way_4 : decode cX3_way 4 = .ok (.ifCond .eq 15, 3) := dk_153 0 15 (dk_at dksX3_way_0 4 rfl rfl)
theorem dX3_way_7 : decode cX3_way 7 = .ok (.iload_n 1, 1) := dk_27 (dk_at dksX3_way_0 7 rfl rfl)
theorem dX3_way_8 : decode cX3_way 8 = .ok (.i2l, 1) := dk_133 (dk_at dksX3_way_0 8 rfl rfl)
theorem dX3_way_9 : decode cX3_way 9 = .ok (.lconst 0, 1) := dk_9 (dk_at dksX3_way_0 9 rfl rfl)
theorem dX3_way_10 : decode cX3_way 10 = .ok (.ldc2_w 432, 3) := dk_20 1 176 (dk_at dksX3_way_0 10 rfl rfl)
theorem dX3_way_13 : decode cX3_way 13 = .ok (.invokestatic 131, 3) := dk_184 0 131 (dk_at dksX3_way_0 13 rfl rfl)
theorem dX3_way_16 : decode cX3_way 16 = .ok (.ifCond .ne 6, 3) := dk_154 0 6 (dk_at dksX3_way_0 16 rfl rfl)
theorem dX3_way_19 : decode cX3_way 19 = .ok (.bipush (-3), 2) := dk_16 253 (dk_at dksX3_way_0 19 rfl rfl)
theorem dX3_way_21 : decode cX3_way 21 = .ok (.ireturn, 1) := dk_172 (dk_at dksX3_way_0 21 rfl rfl)
theorem dX3_way_22 : decode cX3_way 22 = .ok (.aload_n 0, 1) := dk_42 (dk_at dksX3_way_0 22 rfl rfl)
theorem dX3_way_23 : decode cX3_way 23 = .ok (.iconst 1, 1) := dk_4 (dk_at dksX3_way_0 23 rfl rfl)
theorem dX3_way_24 : decode cX3_way 24 = .ok (.invokevirtual 341, 3) := dk_182 1 85 (dk_at dksX3_way_1 0 rfl rfl)
theorem dX3_way_27 : decode cX3_way 27 = .ok (.istore_n 2, 1) := dk_61 (dk_at dksX3_way_1 3 rfl rfl)
theorem dX3_way_28 : decode cX3_way 28 = .ok (.iconst 0, 1) := dk_3 (dk_at dksX3_way_1 4 rfl rfl)
theorem dX3_way_29 : decode cX3_way 29 = .ok (.istore_n 3, 1) := dk_62 (dk_at dksX3_way_1 5 rfl rfl)
theorem dX3_way_30 : decode cX3_way 30 = .ok (.iload_n 3, 1) := dk_29 (dk_at dksX3_way_1 6 rfl rfl)
theorem dX3_way_31 : decode cX3_way 31 = .ok (.iload_n 2, 1) := dk_28 (dk_at dksX3_way_1 7 rfl rfl)
theorem dX3_way_32 : decode cX3_way 32 = .ok (.if_icmp .gt 41, 3) := dk_163 0 41 (dk_at dksX3_way_1 8 rfl rfl)
theorem dX3_way_35 : decode cX3_way 35 = .ok (.iload_n 3, 1) := dk_29 (dk_at dksX3_way_1 11 rfl rfl)
theorem dX3_way_36 : decode cX3_way 36 = .ok (.iload_n 2, 1) := dk_28 (dk_at dksX3_way_1 12 rfl rfl)
theorem dX3_way_37 : decode cX3_way 37 = .ok (.iconst (-1), 1) := dk_2 (dk_at dksX3_way_1 13 rfl rfl)
theorem dX3_way_38 : decode cX3_way 38 = .ok (.ixor, 1) := dk_130 (dk_at dksX3_way_1 14 rfl rfl)
theorem dX3_way_39 : decode cX3_way 39 = .ok (.iand, 1) := dk_126 (dk_at dksX3_way_1 15 rfl rfl)
theorem dX3_way_40 : decode cX3_way 40 = .ok (.ifCond .ne 27, 3) := dk_154 0 27 (dk_at dksX3_way_1 16 rfl rfl)
theorem dX3_way_43 : decode cX3_way 43 = .ok (.aload_n 0, 1) := dk_42 (dk_at dksX3_way_1 19 rfl rfl)
theorem dX3_way_44 : decode cX3_way 44 = .ok (.getfield 106, 3) := dk_180 0 106 (dk_at dksX3_way_1 20 rfl rfl)
theorem dX3_way_47 : decode cX3_way 47 = .ok (.iload_n 3, 1) := dk_29 (dk_at dksX3_way_1 23 rfl rfl)
theorem dX3_way_48 : decode cX3_way 48 = .ok (.iload_n 3, 1) := dk_29 (dk_at dksX3_way_2 0 rfl rfl)
theorem dX3_way_49 : decode cX3_way 49 = .ok (.ifCond .eq 12, 3) := dk_153 0 12 (dk_at dksX3_way_2 1 rfl rfl)
theorem dX3_way_52 : decode cX3_way 52 = .ok (.aload_n 0, 1) := dk_42 (dk_at dksX3_way_2 4 rfl rfl)
theorem dX3_way_53 : decode cX3_way 53 = .ok (.iload_n 3, 1) := dk_29 (dk_at dksX3_way_2 5 rfl rfl)
theorem dX3_way_54 : decode cX3_way 54 = .ok (.invokevirtual 434, 3) := dk_182 1 178 (dk_at dksX3_way_2 6 rfl rfl)
theorem dX3_way_57 : decode cX3_way 57 = .ok (.iconst (-1), 1) := dk_2 (dk_at dksX3_way_2 9 rfl rfl)
theorem dX3_way_58 : decode cX3_way 58 = .ok (.if_icmp .eq 7, 3) := dk_159 0 7 (dk_at dksX3_way_2 10 rfl rfl)
theorem dX3_way_61 : decode cX3_way 61 = .ok (.iconst 1, 1) := dk_4 (dk_at dksX3_way_2 13 rfl rfl)
theorem dX3_way_62 : decode cX3_way 62 = .ok (.goto 4, 3) := dk_167 0 4 (dk_at dksX3_way_2 14 rfl rfl)
theorem dX3_way_65 : decode cX3_way 65 = .ok (.iconst 0, 1) := dk_3 (dk_at dksX3_way_2 17 rfl rfl)
theorem dX3_way_66 : decode cX3_way 66 = .ok (.bastore, 1) := dk_84 (dk_at dksX3_way_2 18 rfl rfl)
theorem dX3_way_67 : decode cX3_way 67 = .ok (.iinc 3 1, 3) := dk_132 3 1 (dk_at dksX3_way_2 19 rfl rfl)
theorem dX3_way_70 : decode cX3_way 70 = .ok (.goto (-40), 3) := dk_167 255 216 (dk_at dksX3_way_3 0 rfl rfl)
theorem dX3_way_73 : decode cX3_way 73 = .ok (.aload_n 0, 1) := dk_42 (dk_at dksX3_way_3 3 rfl rfl)
theorem dX3_way_74 : decode cX3_way 74 = .ok (.getfield 106, 3) := dk_180 0 106 (dk_at dksX3_way_3 4 rfl rfl)
theorem dX3_way_77 : decode cX3_way 77 = .ok (.iload_n 2, 1) := dk_28 (dk_at dksX3_way_3 7 rfl rfl)
theorem dX3_way_78 : decode cX3_way 78 = .ok (.baload, 1) := dk_51 (dk_at dksX3_way_3 8 rfl rfl)
theorem dX3_way_79 : decode cX3_way 79 = .ok (.ifCond .ne 6, 3) := dk_154 0 6 (dk_at dksX3_way_3 9 rfl rfl)
theorem dX3_way_82 : decode cX3_way 82 = .ok (.bipush (-2), 2) := dk_16 254 (dk_at dksX3_way_3 12 rfl rfl)
theorem dX3_way_84 : decode cX3_way 84 = .ok (.ireturn, 1) := dk_172 (dk_at dksX3_way_3 14 rfl rfl)
theorem dX3_way_85 : decode cX3_way 85 = .ok (.iload_n 2, 1) := dk_28 (dk_at dksX3_way_3 15 rfl rfl)
theorem dX3_way_86 : decode cX3_way 86 = .ok (.istore_n 3, 1) := dk_62 (dk_at dksX3_way_3 16 rfl rfl)
theorem dX3_way_87 : decode cX3_way 87 = .ok (.iconst 0, 1) := dk_3 (dk_at dksX3_way_3 17 rfl rfl)
theorem dX3_way_88 : decode cX3_way 88 = .ok (.istore 4, 2) := dk_54 4 (dk_at dksX3_way_3 18 rfl rfl)
theorem dX3_way_90 : decode cX3_way 90 = .ok (.iload 4, 2) := dk_21 4 (dk_at dksX3_way_3 20 rfl rfl)
theorem dX3_way_92 : decode cX3_way 92 = .ok (.iload_n 1, 1) := dk_27 (dk_at dksX3_way_3 22 rfl rfl)
theorem dX3_way_93 : decode cX3_way 93 = .ok (.if_icmp .ge 25, 3) := dk_162 0 25 (dk_at dksX3_way_4 0 rfl rfl)
theorem dX3_way_96 : decode cX3_way 96 = .ok (.iload_n 3, 1) := dk_29 (dk_at dksX3_way_4 3 rfl rfl)
theorem dX3_way_97 : decode cX3_way 97 = .ok (.ifCond .eq 21, 3) := dk_153 0 21 (dk_at dksX3_way_4 4 rfl rfl)
theorem dX3_way_100 : decode cX3_way 100 = .ok (.iload_n 3, 1) := dk_29 (dk_at dksX3_way_4 7 rfl rfl)
theorem dX3_way_101 : decode cX3_way 101 = .ok (.iconst 1, 1) := dk_4 (dk_at dksX3_way_4 8 rfl rfl)
theorem dX3_way_102 : decode cX3_way 102 = .ok (.aload_n 0, 1) := dk_42 (dk_at dksX3_way_4 9 rfl rfl)
theorem dX3_way_103 : decode cX3_way 103 = .ok (.iload_n 3, 1) := dk_29 (dk_at dksX3_way_4 10 rfl rfl)
theorem dX3_way_104 : decode cX3_way 104 = .ok (.invokevirtual 434, 3) := dk_182 1 178 (dk_at dksX3_way_4 11 rfl rfl)
theorem dX3_way_107 : decode cX3_way 107 = .ok (.ishl, 1) := dk_120 (dk_at dksX3_way_4 14 rfl rfl)
theorem dX3_way_108 : decode cX3_way 108 = .ok (.iconst (-1), 1) := dk_2 (dk_at dksX3_way_4 15 rfl rfl)
theorem dX3_way_109 : decode cX3_way 109 = .ok (.ixor, 1) := dk_130 (dk_at dksX3_way_4 16 rfl rfl)
theorem dX3_way_110 : decode cX3_way 110 = .ok (.iand, 1) := dk_126 (dk_at dksX3_way_4 17 rfl rfl)
theorem dX3_way_111 : decode cX3_way 111 = .ok (.istore_n 3, 1) := dk_62 (dk_at dksX3_way_4 18 rfl rfl)
theorem dX3_way_112 : decode cX3_way 112 = .ok (.iinc 4 1, 3) := dk_132 4 1 (dk_at dksX3_way_4 19 rfl rfl)
theorem dX3_way_115 : decode cX3_way 115 = .ok (.goto (-25), 3) := dk_167 255 231 (dk_at dksX3_way_5 0 rfl rfl)
theorem dX3_way_118 : decode cX3_way 118 = .ok (.iload_n 3, 1) := dk_29 (dk_at dksX3_way_5 3 rfl rfl)
theorem dX3_way_119 : decode cX3_way 119 = .ok (.ifCond .ne 7, 3) := dk_154 0 7 (dk_at dksX3_way_5 4 rfl rfl)
theorem dX3_way_122 : decode cX3_way 122 = .ok (.iconst (-1), 1) := dk_2 (dk_at dksX3_way_5 7 rfl rfl)
theorem dX3_way_123 : decode cX3_way 123 = .ok (.goto 8, 3) := dk_167 0 8 (dk_at dksX3_way_5 8 rfl rfl)
theorem dX3_way_126 : decode cX3_way 126 = .ok (.aload_n 0, 1) := dk_42 (dk_at dksX3_way_5 11 rfl rfl)
theorem dX3_way_127 : decode cX3_way 127 = .ok (.iload_n 3, 1) := dk_29 (dk_at dksX3_way_5 12 rfl rfl)
theorem dX3_way_128 : decode cX3_way 128 = .ok (.invokevirtual 434, 3) := dk_182 1 178 (dk_at dksX3_way_5 13 rfl rfl)
theorem dX3_way_131 : decode cX3_way 131 = .ok (.ireturn, 1) := dk_172 (dk_at dksX3_way_5 16 rfl rfl)
abbrev cX3_nextOf : ByteArray := prog_17_method_84_code
def yX3_nextOf : MethodName := ⟨RX3, "nextOf", "(I)I"⟩
def dkwX3_nextOf_2 : List UInt8 := [172, 132, 2, 1, 167, 255, 208, 2, 172]
abbrev dktX3_nextOf_2 : List UInt8 := dkwX3_nextOf_2 ++ []
def dkwX3_nextOf_1 : List UInt8 := [184, 1, 76, 153, 0, 22, 42, 29, 182, 1, 111, 154, 0, 14, 42, 180, 0, 106, 29, 51, 153, 0, 5, 28]
abbrev dktX3_nextOf_1 : List UInt8 := dkwX3_nextOf_1 ++ dktX3_nextOf_2
def dkwX3_nextOf_0 : List UInt8 := [3, 61, 28, 42, 180, 0, 9, 6, 46, 162, 0, 44, 27, 4, 28, 120, 2, 130, 126, 62, 27, 28]
abbrev dktX3_nextOf_0 : List UInt8 := dkwX3_nextOf_0 ++ dktX3_nextOf_1
theorem dksX3_nextOf_0 : cX3_nextOf.data.toList.drop 0 = dktX3_nextOf_0 := by decide +kernel
theorem dksX3_nextOf_1 : cX3_nextOf.data.toList.drop 22 = dktX3_nextOf_1 := dk_seg dksX3_nextOf_0 22 rfl rfl
theorem dksX3_nextOf_2 : cX3_nextOf.data.toList.drop 46 = dktX3_nextOf_2 := dk_seg dksX3_nextOf_1 24 rfl rfl
theorem dX3_nextOf_0 : decode cX3_nextOf 0 = .ok (.iconst 0, 1) := dk_3 (dk_at dksX3_nextOf_0 0 rfl rfl)
theorem dX3_nextOf_1 : decode cX3_nextOf 1 = .ok (.istore_n 2, 1) := dk_61 (dk_at dksX3_nextOf_0 1 rfl rfl)
theorem dX3_nextOf_2 : decode cX3_nextOf 2 = .ok (.iload_n 2, 1) := dk_28 (dk_at dksX3_nextOf_0 2 rfl rfl)
theorem dX3_nextOf_3 : decode cX3_nextOf 3 = .ok (.aload_n 0, 1) := dk_42 (dk_at dksX3_nextOf_0 3 rfl rfl)
theorem dX3_nextOf_4 : decode cX3_nextOf 4 = .ok (.getfield 9, 3) := dk_180 0 9 (dk_at dksX3_nextOf_0 4 rfl rfl)
theorem dX3_nextOf_7 : decode cX3_nextOf 7 = .ok (.iconst 3, 1) := dk_6 (dk_at dksX3_nextOf_0 7 rfl rfl)
theorem dX3_nextOf_8 : decode cX3_nextOf 8 = .ok (.iaload, 1) := dk_46 (dk_at dksX3_nextOf_0 8 rfl rfl)
theorem dX3_nextOf_9 : decode cX3_nextOf 9 = .ok (.if_icmp .ge 44, 3) := dk_162 0 44 (dk_at dksX3_nextOf_0 9 rfl rfl)
theorem dX3_nextOf_12 : decode cX3_nextOf 12 = .ok (.iload_n 1, 1) := dk_27 (dk_at dksX3_nextOf_0 12 rfl rfl)
theorem dX3_nextOf_13 : decode cX3_nextOf 13 = .ok (.iconst 1, 1) := dk_4 (dk_at dksX3_nextOf_0 13 rfl rfl)
theorem dX3_nextOf_14 : decode cX3_nextOf 14 = .ok (.iload_n 2, 1) := dk_28 (dk_at dksX3_nextOf_0 14 rfl rfl)
theorem dX3_nextOf_15 : decode cX3_nextOf 15 = .ok (.ishl, 1) := dk_120 (dk_at dksX3_nextOf_0 15 rfl rfl)
theorem dX3_nextOf_16 : decode cX3_nextOf 16 = .ok (.iconst (-1), 1) := dk_2 (dk_at dksX3_nextOf_0 16 rfl rfl)
theorem dX3_nextOf_17 : decode cX3_nextOf 17 = .ok (.ixor, 1) := dk_130 (dk_at dksX3_nextOf_0 17 rfl rfl)
theorem dX3_nextOf_18 : decode cX3_nextOf 18 = .ok (.iand, 1) := dk_126 (dk_at dksX3_nextOf_0 18 rfl rfl)
theorem dX3_nextOf_19 : decode cX3_nextOf 19 = .ok (.istore_n 3, 1) := dk_62 (dk_at dksX3_nextOf_0 19 rfl rfl)
theorem dX3_nextOf_20 : decode cX3_nextOf 20 = .ok (.iload_n 1, 1) := dk_27 (dk_at dksX3_nextOf_0 20 rfl rfl)
theorem dX3_nextOf_21 : decode cX3_nextOf 21 = .ok (.iload_n 2, 1) := dk_28 (dk_at dksX3_nextOf_0 21 rfl rfl)
theorem dX3_nextOf_22 : decode cX3_nextOf 22 = .ok (.invokestatic 332, 3) := dk_184 1 76 (dk_at dksX3_nextOf_1 0 rfl rfl)
theorem dX3_nextOf_25 : decode cX3_nextOf 25 = .ok (.ifCond .eq 22, 3) := dk_153 0 22 (dk_at dksX3_nextOf_1 3 rfl rfl)
theorem dX3_nextOf_28 : decode cX3_nextOf 28 = .ok (.aload_n 0, 1) := dk_42 (dk_at dksX3_nextOf_1 6 rfl rfl)
theorem dX3_nextOf_29 : decode cX3_nextOf 29 = .ok (.iload_n 3, 1) := dk_29 (dk_at dksX3_nextOf_1 7 rfl rfl)
theorem dX3_nextOf_30 : decode cX3_nextOf 30 = .ok (.invokevirtual 367, 3) := dk_182 1 111 (dk_at dksX3_nextOf_1 8 rfl rfl)
theorem dX3_nextOf_33 : decode cX3_nextOf 33 = .ok (.ifCond .ne 14, 3) := dk_154 0 14 (dk_at dksX3_nextOf_1 11 rfl rfl)
theorem dX3_nextOf_36 : decode cX3_nextOf 36 = .ok (.aload_n 0, 1) := dk_42 (dk_at dksX3_nextOf_1 14 rfl rfl)
theorem dX3_nextOf_37 : decode cX3_nextOf 37 = .ok (.getfield 106, 3) := dk_180 0 106 (dk_at dksX3_nextOf_1 15 rfl rfl)
theorem dX3_nextOf_40 : decode cX3_nextOf 40 = .ok (.iload_n 3, 1) := dk_29 (dk_at dksX3_nextOf_1 18 rfl rfl)
theorem dX3_nextOf_41 : decode cX3_nextOf 41 = .ok (.baload, 1) := dk_51 (dk_at dksX3_nextOf_1 19 rfl rfl)
theorem dX3_nextOf_42 : decode cX3_nextOf 42 = .ok (.ifCond .eq 5, 3) := dk_153 0 5 (dk_at dksX3_nextOf_1 20 rfl rfl)
theorem dX3_nextOf_45 : decode cX3_nextOf 45 = .ok (.iload_n 2, 1) := dk_28 (dk_at dksX3_nextOf_1 23 rfl rfl)
theorem dX3_nextOf_46 : decode cX3_nextOf 46 = .ok (.ireturn, 1) := dk_172 (dk_at dksX3_nextOf_2 0 rfl rfl)
theorem dX3_nextOf_47 : decode cX3_nextOf 47 = .ok (.iinc 2 1, 3) := dk_132 2 1 (dk_at dksX3_nextOf_2 1 rfl rfl)
theorem dX3_nextOf_50 : decode cX3_nextOf 50 = .ok (.goto (-48), 3) := dk_167 255 208 (dk_at dksX3_nextOf_2 4 rfl rfl)
theorem dX3_nextOf_53 : decode cX3_nextOf 53 = .ok (.iconst (-1), 1) := dk_2 (dk_at dksX3_nextOf_2 7 rfl rfl)
theorem dX3_nextOf_54 : decode cX3_nextOf 54 = .ok (.ireturn, 1) := dk_172 (dk_at dksX3_nextOf_2 8 rfl rfl)
abbrev cX3_most : ByteArray := prog_17_method_86_code
def yX3_most : MethodName := ⟨RX3, "most", "(I)I"⟩
def dkwX3_most_3 : List UInt8 := [180, 0, 13, 27, 28, 79, 21, 4, 172]
abbrev dktX3_most_3 : List UInt8 := dkwX3_most_3 ++ []
def dkwX3_most_2 : List UInt8 := [182, 1, 111, 154, 0, 8, 21, 5, 167, 0, 5, 21, 4, 54, 4, 132, 5, 1, 167, 255, 221, 42]
abbrev dktX3_most_2 : List UInt8 := dkwX3_most_2 ++ dktX3_most_3
def dkwX3_most_1 : List UInt8 := [16, 254, 54, 4, 3, 54, 5, 21, 5, 16, 99, 163, 0, 34, 42, 180, 0, 13, 27, 21, 5, 79, 42, 29]
abbrev dktX3_most_1 : List UInt8 := dkwX3_most_1 ++ dktX3_most_2
def dkwX3_most_0 : List UInt8 := [42, 27, 182, 1, 91, 154, 0, 5, 2, 172, 42, 180, 0, 13, 27, 46, 61, 42, 4, 182, 1, 85, 62]
abbrev dktX3_most_0 : List UInt8 := dkwX3_most_0 ++ dktX3_most_1
theorem dksX3_most_0 : cX3_most.data.toList.drop 0 = dktX3_most_0 := by decide +kernel
theorem dksX3_most_1 : cX3_most.data.toList.drop 23 = dktX3_most_1 := dk_seg dksX3_most_0 23 rfl rfl
theorem dksX3_most_2 : cX3_most.data.toList.drop 47 = dktX3_most_2 := dk_seg dksX3_most_1 24 rfl rfl
theorem dksX3_most_3 : cX3_most.data.toList.drop 69 = dktX3_most_3 := dk_seg dksX3_most_2 22 rfl rfl
theorem dX3_most_0 : decode cX3_most 0 = .ok (.aload_n 0, 1) := dk_42 (dk_at dksX3_most_0 0 rfl rfl)
theorem dX3_most_1 : decode cX3_most 1 = .ok (.iload_n 1, 1) := dk_27 (dk_at dksX3_most_0 1 rfl rfl)
theorem dX3_most_2 : decode cX3_most 2 = .ok (.invokevirtual 347, 3) := dk_182 1 91 (dk_at dksX3_most_0 2 rfl rfl)
theorem dX3_most_5 : decode cX3_most 5 = .ok (.ifCond .ne 5, 3) := dk_154 0 5 (dk_at dksX3_most_0 5 rfl rfl)
theorem dX3_most_8 : decode cX3_most 8 = .ok (.iconst (-1), 1) := dk_2 (dk_at dksX3_most_0 8 rfl rfl)
theorem dX3_most_9 : decode cX3_most 9 = .ok (.ireturn, 1) := dk_172 (dk_at dksX3_most_0 9 rfl rfl)
theorem dX3_most_10 : decode cX3_most 10 = .ok (.aload_n 0, 1) := dk_42 (dk_at dksX3_most_0 10 rfl rfl)
theorem dX3_most_11 : decode cX3_most 11 = .ok (.getfield 13, 3) := dk_180 0 13 (dk_at dksX3_most_0 11 rfl rfl)
theorem dX3_most_14 : decode cX3_most 14 = .ok (.iload_n 1, 1) := dk_27 (dk_at dksX3_most_0 14 rfl rfl)
theorem dX3_most_15 : decode cX3_most 15 = .ok (.iaload, 1) := dk_46 (dk_at dksX3_most_0 15 rfl rfl)
theorem dX3_most_16 : decode cX3_most 16 = .ok (.istore_n 2, 1) := dk_61 (dk_at dksX3_most_0 16 rfl rfl)
theorem dX3_most_17 : decode cX3_most 17 = .ok (.aload_n 0, 1) := dk_42 (dk_at dksX3_most_0 17 rfl rfl)
theorem dX3_most_18 : decode cX3_most 18 = .ok (.iconst 1, 1) := dk_4 (dk_at dksX3_most_0 18 rfl rfl)
theorem dX3_most_19 : decode cX3_most 19 = .ok (.invokevirtual 341, 3) := dk_182 1 85 (dk_at dksX3_most_0 19 rfl rfl)
theorem dX3_most_22 : decode cX3_most 22 = .ok (.istore_n 3, 1) := dk_62 (dk_at dksX3_most_0 22 rfl rfl)
theorem dX3_most_23 : decode cX3_most 23 = .ok (.bipush (-2), 2) := dk_16 254 (dk_at dksX3_most_1 0 rfl rfl)
theorem dX3_most_25 : decode cX3_most 25 = .ok (.istore 4, 2) := dk_54 4 (dk_at dksX3_most_1 2 rfl rfl)
theorem dX3_most_27 : decode cX3_most 27 = .ok (.iconst 0, 1) := dk_3 (dk_at dksX3_most_1 4 rfl rfl)
theorem dX3_most_28 : decode cX3_most 28 = .ok (.istore 5, 2) := dk_54 5 (dk_at dksX3_most_1 5 rfl rfl)
theorem dX3_most_30 : decode cX3_most 30 = .ok (.iload 5, 2) := dk_21 5 (dk_at dksX3_most_1 7 rfl rfl)
theorem dX3_most_32 : decode cX3_most 32 = .ok (.bipush 99, 2) := dk_16 99 (dk_at dksX3_most_1 9 rfl rfl)
theorem dX3_most_34 : decode cX3_most 34 = .ok (.if_icmp .gt 34, 3) := dk_163 0 34 (dk_at dksX3_most_1 11 rfl rfl)
theorem dX3_most_37 : decode cX3_most 37 = .ok (.aload_n 0, 1) := dk_42 (dk_at dksX3_most_1 14 rfl rfl)
theorem dX3_most_38 : decode cX3_most 38 = .ok (.getfield 13, 3) := dk_180 0 13 (dk_at dksX3_most_1 15 rfl rfl)
theorem dX3_most_41 : decode cX3_most 41 = .ok (.iload_n 1, 1) := dk_27 (dk_at dksX3_most_1 18 rfl rfl)
theorem dX3_most_42 : decode cX3_most 42 = .ok (.iload 5, 2) := dk_21 5 (dk_at dksX3_most_1 19 rfl rfl)
theorem dX3_most_44 : decode cX3_most 44 = .ok (.iastore, 1) := dk_79 (dk_at dksX3_most_1 21 rfl rfl)
theorem dX3_most_45 : decode cX3_most 45 = .ok (.aload_n 0, 1) := dk_42 (dk_at dksX3_most_1 22 rfl rfl)
theorem dX3_most_46 : decode cX3_most 46 = .ok (.iload_n 3, 1) := dk_29 (dk_at dksX3_most_1 23 rfl rfl)
theorem dX3_most_47 : decode cX3_most 47 = .ok (.invokevirtual 367, 3) := dk_182 1 111 (dk_at dksX3_most_2 0 rfl rfl)
theorem dX3_most_50 : decode cX3_most 50 = .ok (.ifCond .ne 8, 3) := dk_154 0 8 (dk_at dksX3_most_2 3 rfl rfl)
theorem dX3_most_53 : decode cX3_most 53 = .ok (.iload 5, 2) := dk_21 5 (dk_at dksX3_most_2 6 rfl rfl)
theorem dX3_most_55 : decode cX3_most 55 = .ok (.goto 5, 3) := dk_167 0 5 (dk_at dksX3_most_2 8 rfl rfl)
theorem dX3_most_58 : decode cX3_most 58 = .ok (.iload 4, 2) := dk_21 4 (dk_at dksX3_most_2 11 rfl rfl)
theorem dX3_most_60 : decode cX3_most 60 = .ok (.istore 4, 2) := dk_54 4 (dk_at dksX3_most_2 13 rfl rfl)
theorem dX3_most_62 : decode cX3_most 62 = .ok (.iinc 5 1, 3) := dk_132 5 1 (dk_at dksX3_most_2 15 rfl rfl)
theorem dX3_most_65 : decode cX3_most 65 = .ok (.goto (-35), 3) := dk_167 255 221 (dk_at dksX3_most_2 18 rfl rfl)
theorem dX3_most_68 : decode cX3_most 68 = .ok (.aload_n 0, 1) := dk_42 (dk_at dksX3_most_2 21 rfl rfl)
theorem dX3_most_69 : decode cX3_most 69 = .ok (.getfield 13, 3) := dk_180 0 13 (dk_at dksX3_most_3 0 rfl rfl)
theorem dX3_most_72 : decode cX3_most 72 = .ok (.iload_n 1, 1) := dk_27 (dk_at dksX3_most_3 3 rfl rfl)
theorem dX3_most_73 : decode cX3_most 73 = .ok (.iload_n 2, 1) := dk_28 (dk_at dksX3_most_3 4 rfl rfl)
theorem dX3_most_74 : decode cX3_most 74 = .ok (.iastore, 1) := dk_79 (dk_at dksX3_most_3 5 rfl rfl)
theorem dX3_most_75 : decode cX3_most 75 = .ok (.iload 4, 2) := dk_21 4 (dk_at dksX3_most_3 6 rfl rfl)
theorem dX3_most_77 : decode cX3_most 77 = .ok (.ireturn, 1) := dk_172 (dk_at dksX3_most_3 8 rfl rfl)
abbrev cX3_heavy : ByteArray := prog_17_method_87_code
def yX3_heavy : MethodName := ⟨RX3, "heavy", "(II)I"⟩
def dkwX3_heavy_5 : List UInt8 := [167, 0, 5, 21, 6, 172]
abbrev dktX3_heavy_5 : List UInt8 := dkwX3_heavy_5 ++ []
def dkwX3_heavy_4 : List UInt8 := [54, 6, 132, 5, 1, 132, 7, 1, 167, 255, 212, 42, 180, 0, 22, 27, 29, 79, 28, 154, 0, 8, 21, 5]
abbrev dktX3_heavy_4 : List UInt8 := dkwX3_heavy_4 ++ dktX3_heavy_5
def dkwX3_heavy_3 : List UInt8 := [21, 7, 79, 42, 21, 4, 182, 1, 111, 154, 0, 20, 21, 5, 154, 0, 8, 21, 7, 167, 0, 5, 21, 6]
abbrev dktX3_heavy_3 : List UInt8 := dkwX3_heavy_3 ++ dktX3_heavy_4
def dkwX3_heavy_2 : List UInt8 := [54, 4, 3, 54, 5, 16, 254, 54, 6, 4, 54, 7, 21, 7, 16, 20, 163, 0, 43, 42, 180, 0, 22, 27]
abbrev dktX3_heavy_2 : List UInt8 := dkwX3_heavy_2 ++ dktX3_heavy_3
def dkwX3_heavy_1 : List UInt8 := [184, 0, 131, 154, 0, 5, 2, 172, 42, 180, 0, 22, 27, 46, 62, 42, 4, 182, 1, 85, 4, 27, 120, 128]
abbrev dktX3_heavy_1 : List UInt8 := dkwX3_heavy_1 ++ dktX3_heavy_2
def dkwX3_heavy_0 : List UInt8 := [42, 27, 182, 1, 106, 153, 0, 23, 42, 180, 0, 16, 27, 46, 5, 159, 0, 13, 28, 133, 9, 10]
abbrev dktX3_heavy_0 : List UInt8 := dkwX3_heavy_0 ++ dktX3_heavy_1
theorem dksX3_heavy_0 : cX3_heavy.data.toList.drop 0 = dktX3_heavy_0 := by decide +kernel
theorem dksX3_heavy_1 : cX3_heavy.data.toList.drop 22 = dktX3_heavy_1 := dk_seg dksX3_heavy_0 22 rfl rfl
theorem dksX3_heavy_2 : cX3_heavy.data.toList.drop 46 = dktX3_heavy_2 := dk_seg dksX3_heavy_1 24 rfl rfl
theorem dksX3_heavy_3 : cX3_heavy.data.toList.drop 70 = dktX3_heavy_3 := dk_seg dksX3_heavy_2 24 rfl rfl
theorem dksX3_heavy_4 : cX3_heavy.data.toList.drop 94 = dktX3_heavy_4 := dk_seg dksX3_heavy_3 24 rfl rfl
theorem dksX3_heavy_5 : cX3_heavy.data.toList.drop 118 = dktX3_heavy_5 := dk_seg dksX3_heavy_4 24 rfl rfl
theorem dX3_heavy_0 : decode cX3_heavy 0 = .ok (.aload_n 0, 1) := dk_42 (dk_at dksX3_heavy_0 0 rfl rfl)
theorem dX3_heavy_1 : decode cX3_heavy 1 = .ok (.iload_n 1, 1) := dk_27 (dk_at dksX3_heavy_0 1 rfl rfl)
theorem dX3_heavy_2 : decode cX3_heavy 2 = .ok (.invokevirtual 362, 3) := dk_182 1 106 (dk_at dksX3_heavy_0 2 rfl rfl)
theorem dX3_heavy_5 : decode cX3_heavy 5 = .ok (.ifCond .eq 23, 3) := dk_153 0 23 (dk_at dksX3_heavy_0 5 rfl rfl)
theorem dX3_heavy_8 : decode cX3_heavy 8 = .ok (.aload_n 0, 1) := dk_42 (dk_at dksX3_heavy_0 8 rfl rfl)
theorem dX3_heavy_9 : decode cX3_heavy 9 = .ok (.getfield 16, 3) := dk_180 0 16 (dk_at dksX3_heavy_0 9 rfl rfl)
theorem dX3_heavy_12 : decode cX3_heavy 12 = .ok (.iload_n 1, 1) := dk_27 (dk_at dksX3_heavy_0 12 rfl rfl)
theorem dX3_heavy_13 : decode cX3_heavy 13 = .ok (.iaload, 1) := dk_46 (dk_at dksX3_heavy_0 13 rfl rfl)
theorem dX3_heavy_14 : decode cX3_heavy 14 = .ok (.iconst 2, 1) := dk_5 (dk_at dksX3_heavy_0 14 rfl rfl)
theorem dX3_heavy_15 : decode cX3_heavy 15 = .ok (.if_icmp .eq 13, 3) := dk_159 0 13 (dk_at dksX3_heavy_0 15 rfl rfl)
theorem dX3_heavy_18 : decode cX3_heavy 18 = .ok (.iload_n 2, 1) := dk_28 (dk_at dksX3_heavy_0 18 rfl rfl)
theorem dX3_heavy_19 : decode cX3_heavy 19 = .ok (.i2l, 1) := dk_133 (dk_at dksX3_heavy_0 19 rfl rfl)
theorem dX3_heavy_20 : decode cX3_heavy 20 = .ok (.lconst 0, 1) := dk_9 (dk_at dksX3_heavy_0 20 rfl rfl)
theorem dX3_heavy_21 : decode cX3_heavy 21 = .ok (.lconst 1, 1) := dk_10 (dk_at dksX3_heavy_0 21 rfl rfl)
theorem dX3_heavy_22 : decode cX3_heavy 22 = .ok (.invokestatic 131, 3) := dk_184 0 131 (dk_at dksX3_heavy_1 0 rfl rfl)
theorem dX3_heavy_25 : decode cX3_heavy 25 = .ok (.ifCond .ne 5, 3) := dk_154 0 5 (dk_at dksX3_heavy_1 3 rfl rfl)
theorem dX3_heavy_28 : decode cX3_heavy 28 = .ok (.iconst (-1), 1) := dk_2 (dk_at dksX3_heavy_1 6 rfl rfl)
theorem dX3_heavy_29 : decode cX3_heavy 29 = .ok (.ireturn, 1) := dk_172 (dk_at dksX3_heavy_1 7 rfl rfl)
theorem dX3_heavy_30 : decode cX3_heavy 30 = .ok (.aload_n 0, 1) := dk_42 (dk_at dksX3_heavy_1 8 rfl rfl)
theorem dX3_heavy_31 : decode cX3_heavy 31 = .ok (.getfield 22, 3) := dk_180 0 22 (dk_at dksX3_heavy_1 9 rfl rfl)
theorem dX3_heavy_34 : decode cX3_heavy 34 = .ok (.iload_n 1, 1) := dk_27 (dk_at dksX3_heavy_1 12 rfl rfl)
theorem dX3_heavy_35 : decode cX3_heavy 35 = .ok (.iaload, 1) := dk_46 (dk_at dksX3_heavy_1 13 rfl rfl)
theorem dX3_heavy_36 : decode cX3_heavy 36 = .ok (.istore_n 3, 1) := dk_62 (dk_at dksX3_heavy_1 14 rfl rfl)
theorem dX3_heavy_37 : decode cX3_heavy 37 = .ok (.aload_n 0, 1) := dk_42 (dk_at dksX3_heavy_1 15 rfl rfl)
theorem dX3_heavy_38 : decode cX3_heavy 38 = .ok (.iconst 1, 1) := dk_4 (dk_at dksX3_heavy_1 16 rfl rfl)
theorem dX3_heavy_39 : decode cX3_heavy 39 = .ok (.invokevirtual 341, 3) := dk_182 1 85 (dk_at dksX3_heavy_1 17 rfl rfl)
theorem dX3_heavy_42 : decode cX3_heavy 42 = .ok (.iconst 1, 1) := dk_4 (dk_at dksX3_heavy_1 20 rfl rfl)
theorem dX3_heavy_43 : decode cX3_heavy 43 = .ok (.iload_n 1, 1) := dk_27 (dk_at dksX3_heavy_1 21 rfl rfl)
theorem dX3_heavy_44 : decode cX3_heavy 44 = .ok (.ishl, 1) := dk_120 (dk_at dksX3_heavy_1 22 rfl rfl)
theorem dX3_heavy_45 : decode cX3_heavy 45 = .ok (.ior, 1) := dk_128 (dk_at dksX3_heavy_1 23 rfl rfl)
theorem dX3_heavy_46 : decode cX3_heavy 46 = .ok (.istore 4, 2) := dk_54 4 (dk_at dksX3_heavy_2 0 rfl rfl)
theorem dX3_heavy_48 : decode cX3_heavy 48 = .ok (.iconst 0, 1) := dk_3 (dk_at dksX3_heavy_2 2 rfl rfl)
theorem dX3_heavy_49 : decode cX3_heavy 49 = .ok (.istore 5, 2) := dk_54 5 (dk_at dksX3_heavy_2 3 rfl rfl)
theorem dX3_heavy_51 : decode cX3_heavy 51 = .ok (.bipush (-2), 2) := dk_16 254 (dk_at dksX3_heavy_2 5 rfl rfl)
theorem dX3_heavy_53 : decode cX3_heavy 53 = .ok (.istore 6, 2) := dk_54 6 (dk_at dksX3_heavy_2 7 rfl rfl)
theorem dX3_heavy_55 : decode cX3_heavy 55 = .ok (.iconst 1, 1) := dk_4 (dk_at dksX3_heavy_2 9 rfl rfl)
theorem dX3_heavy_56 : decode cX3_heavy 56 = .ok (.istore 7, 2) := dk_54 7 (dk_at dksX3_heavy_2 10 rfl rfl)
theorem dX3_heavy_58 : decode cX3_heavy 58 = .ok (.iload 7, 2) := dk_21 7 (dk_at dksX3_heavy_2 12 rfl rfl)
theorem dX3_heavy_60 : decode cX3_heavy 60 = .ok (.bipush 20, 2) := dk_16 20 (dk_at dksX3_heavy_2 14 rfl rfl)
theorem dX3_heavy_62 : decode cX3_heavy 62 = .ok (.if_icmp .gt 43, 3) := dk_163 0 43 (dk_at dksX3_heavy_2 16 rfl rfl)
theorem dX3_heavy_65 : decode cX3_heavy 65 = .ok (.aload_n 0, 1) := dk_42 (dk_at dksX3_heavy_2 19 rfl rfl)
theorem dX3_heavy_66 : decode cX3_heavy 66 = .ok (.getfield 22, 3) := dk_180 0 22 (dk_at dksX3_heavy_2 20 rfl rfl)
theorem dX3_heavy_69 : decode cX3_heavy 69 = .ok (.iload_n 1, 1) := dk_27 (dk_at dksX3_heavy_2 23 rfl rfl)
theorem dX3_heavy_70 : decode cX3_heavy 70 = .ok (.iload 7, 2) := dk_21 7 (dk_at dksX3_heavy_3 0 rfl rfl)
theorem dX3_heavy_72 : decode cX3_heavy 72 = .ok (.iastore, 1) := dk_79 (dk_at dksX3_heavy_3 2 rfl rfl)
theorem dX3_heavy_73 : decode cX3_heavy 73 = .ok (.aload_n 0, 1) := dk_42 (dk_at dksX3_heavy_3 3 rfl rfl)
theorem dX3_heavy_74 : decode cX3_heavy 74 = .ok (.iload 4, 2) := dk_21 4 (dk_at dksX3_heavy_3 4 rfl rfl)
theorem dX3_heavy_76 : decode cX3_heavy 76 = .ok (.invokevirtual 367, 3) := dk_182 1 111 (dk_at dksX3_heavy_3 6 rfl rfl)
theorem dX3_heavy_79 : decode cX3_heavy 79 = .ok (.ifCond .ne 20, 3) := dk_154 0 20 (dk_at dksX3_heavy_3 9 rfl rfl)
theorem dX3_heavy_82 : decode cX3_heavy 82 = .ok (.iload 5, 2) := dk_21 5 (dk_at dksX3_heavy_3 12 rfl rfl)
theorem dX3_heavy_84 : decode cX3_heavy 84 = .ok (.ifCond .ne 8, 3) := dk_154 0 8 (dk_at dksX3_heavy_3 14 rfl rfl)
theorem dX3_heavy_87 : decode cX3_heavy 87 = .ok (.iload 7, 2) := dk_21 7 (dk_at dksX3_heavy_3 17 rfl rfl)
theorem dX3_heavy_89 : decode cX3_heavy 89 = .ok (.goto 5, 3) := dk_167 0 5 (dk_at dksX3_heavy_3 19 rfl rfl)
theorem dX3_heavy_92 : decode cX3_heavy 92 = .ok (.iload 6, 2) := dk_21 6 (dk_at dksX3_heavy_3 22 rfl rfl)
theorem dX3_heavy_94 : decode cX3_heavy 94 = .ok (.istore 6, 2) := dk_54 6 (dk_at dksX3_heavy_4 0 rfl rfl)
theorem dX3_heavy_96 : decode cX3_heavy 96 = .ok (.iinc 5 1, 3) := dk_132 5 1 (dk_at dksX3_heavy_4 2 rfl rfl)
theorem dX3_heavy_99 : decode cX3_heavy 99 = .ok (.iinc 7 1, 3) := dk_132 7 1 (dk_at dksX3_heavy_4 5 rfl rfl)
theorem dX3_heavy_102 : decode cX3_heavy 102 = .ok (.goto (-44), 3) := dk_167 255 212 (dk_at dksX3_heavy_4 8 rfl rfl)
theorem dX3_heavy_105 : decode cX3_heavy 105 = .ok (.aload_n 0, 1) := dk_42 (dk_at dksX3_heavy_4 11 rfl rfl)
theorem dX3_heavy_106 : decode cX3_heavy 106 = .ok (.getfield 22, 3) := dk_180 0 22 (dk_at dksX3_heavy_4 12 rfl rfl)
theorem dX3_heavy_109 : decode cX3_heavy 109 = .ok (.iload_n 1, 1) := dk_27 (dk_at dksX3_heavy_4 15 rfl rfl)
theorem dX3_heavy_110 : decode cX3_heavy 110 = .ok (.iload_n 3, 1) := dk_29 (dk_at dksX3_heavy_4 16 rfl rfl)
theorem dX3_heavy_111 : decode cX3_heavy 111 = .ok (.iastore, 1) := dk_79 (dk_at dksX3_heavy_4 17 rfl rfl)
theorem dX3_heavy_112 : decode cX3_heavy 112 = .ok (.iload_n 2, 1) := dk_28 (dk_at dksX3_heavy_4 18 rfl rfl)
theorem dX3_heavy_113 : decode cX3_heavy 113 = .ok (.ifCond .ne 8, 3) := dk_154 0 8 (dk_at dksX3_heavy_4 19 rfl rfl)
theorem dX3_heavy_116 : decode cX3_heavy 116 = .ok (.iload 5, 2) := dk_21 5 (dk_at dksX3_heavy_4 22 rfl rfl)
theorem dX3_heavy_118 : decode cX3_heavy 118 = .ok (.goto 5, 3) := dk_167 0 5 (dk_at dksX3_heavy_5 0 rfl rfl)
theorem dX3_heavy_121 : decode cX3_heavy 121 = .ok (.iload 6, 2) := dk_21 6 (dk_at dksX3_heavy_5 3 rfl rfl)
theorem dX3_heavy_123 : decode cX3_heavy 123 = .ok (.ireturn, 1) := dk_172 (dk_at dksX3_heavy_5 5 rfl rfl)
abbrev cX3_rests : ByteArray := prog_17_method_90_code
def yX3_rests : MethodName := ⟨RX3, "rests", "(IIII)I"⟩
def dkwX3_rests_8 : List UInt8 := [112, 172]
abbrev dktX3_rests_8 : List UInt8 := dkwX3_rests_8 ++ []
def dkwX3_rests_7 : List UInt8 := [160, 0, 8, 16, 254, 167, 0, 20, 21, 4, 4, 160, 0, 10, 21, 6, 5, 108, 167, 0, 7, 21, 6, 5]
abbrev dktX3_rests_7 : List UInt8 := dkwX3_rests_7 ++ dktX3_rests_8
def dkwX3_rests_6 : List UInt8 := [21, 6, 54, 6, 132, 5, 1, 132, 7, 1, 167, 255, 192, 21, 4, 154, 0, 6, 21, 5, 172, 21, 6, 2]
abbrev dktX3_rests_6 : List UInt8 := dkwX3_rests_6 ++ dktX3_rests_7
def dkwX3_rests_5 : List UInt8 := [4, 130, 46, 42, 180, 0, 113, 21, 7, 46, 163, 0, 20, 21, 5, 154, 0, 8, 21, 7, 167, 0, 5]
abbrev dktX3_rests_5 : List UInt8 := dkwX3_rests_5 ++ dktX3_rests_6
def dkwX3_rests_4 : List UInt8 := [180, 0, 110, 21, 7, 5, 130, 46, 42, 180, 0, 110, 21, 7, 46, 163, 0, 39, 42, 180, 0, 113, 21, 7]
abbrev dktX3_rests_4 : List UInt8 := dkwX3_rests_4 ++ dktX3_rests_5
def dkwX3_rests_3 : List UInt8 := [42, 27, 28, 29, 182, 1, 186, 3, 54, 5, 2, 54, 6, 3, 54, 7, 21, 7, 7, 162, 0, 64, 42]
abbrev dktX3_rests_3 : List UInt8 := dkwX3_rests_3 ++ dktX3_rests_4
def dkwX3_rests_2 : List UInt8 := [20, 1, 184, 184, 0, 131, 153, 0, 16, 21, 4, 133, 9, 20, 1, 109, 184, 0, 131, 154, 0, 5, 2, 172]
abbrev dktX3_rests_2 : List UInt8 := dkwX3_rests_2 ++ dktX3_rests_3
def dkwX3_rests_1 : List UInt8 := [180, 0, 16, 27, 46, 5, 159, 0, 38, 42, 180, 0, 16, 28, 46, 5, 159, 0, 28, 29, 133, 10]
abbrev dktX3_rests_1 : List UInt8 := dkwX3_rests_1 ++ dktX3_rests_2
def dkwX3_rests_0 : List UInt8 := [42, 27, 182, 1, 106, 153, 0, 61, 42, 28, 182, 1, 106, 153, 0, 53, 27, 28, 159, 0, 48, 42]
abbrev dktX3_rests_0 : List UInt8 := dkwX3_rests_0 ++ dktX3_rests_1
theorem dksX3_rests_0 : cX3_rests.data.toList.drop 0 = dktX3_rests_0 := by decide +kernel
theorem dksX3_rests_1 : cX3_rests.data.toList.drop 22 = dktX3_rests_1 := dk_seg dksX3_rests_0 22 rfl rfl
theorem dksX3_rests_2 : cX3_rests.data.toList.drop 44 = dktX3_rests_2 := dk_seg dksX3_rests_1 22 rfl rfl
theorem dksX3_rests_3 : cX3_rests.data.toList.drop 68 = dktX3_rests_3 := dk_seg dksX3_rests_2 24 rfl rfl
theorem dksX3_rests_4 : cX3_rests.data.toList.drop 91 = dktX3_rests_4 := dk_seg dksX3_rests_3 23 rfl rfl
theorem dksX3_rests_5 : cX3_rests.data.toList.drop 115 = dktX3_rests_5 := dk_seg dksX3_rests_4 24 rfl rfl
theorem dksX3_rests_6 : cX3_rests.data.toList.drop 138 = dktX3_rests_6 := dk_seg dksX3_rests_5 23 rfl rfl
theorem dksX3_rests_7 : cX3_rests.data.toList.drop 162 = dktX3_rests_7 := dk_seg dksX3_rests_6 24 rfl rfl
theorem dksX3_rests_8 : cX3_rests.data.toList.drop 186 = dktX3_rests_8 := dk_seg dksX3_rests_7 24 rfl rfl
theorem dX3_rests_0 : decode cX3_rests 0 = .ok (.aload_n 0, 1) := dk_42 (dk_at dksX3_rests_0 0 rfl rfl)
theorem dX3_rests_1 : decode cX3_rests 1 = .ok (.iload_n 1, 1) := dk_27 (dk_at dksX3_rests_0 1 rfl rfl)
theorem dX3_rests_2 : decode cX3_rests 2 = .ok (.invokevirtual 362, 3) := dk_182 1 106 (dk_at dksX3_rests_0 2 rfl rfl)
theorem dX3_rests_5 : decode cX3_rests 5 = .ok (.ifCond .eq 61, 3) := dk_153 0 61 (dk_at dksX3_rests_0 5 rfl rfl)
theorem dX3_rests_8 : decode cX3_rests 8 = .ok (.aload_n 0, 1) := dk_42 (dk_at dksX3_rests_0 8 rfl rfl)
theorem dX3_rests_9 : decode cX3_rests 9 = .ok (.iload_n 2, 1) := dk_28 (dk_at dksX3_rests_0 9 rfl rfl)
theorem dX3_rests_10 : decode cX3_rests 10 = .ok (.invokevirtual 362, 3) := dk_182 1 106 (dk_at dksX3_rests_0 10 rfl rfl)
theorem dX3_rests_13 : decode cX3_rests 13 = .ok (.ifCond .eq 53, 3) := dk_153 0 53 (dk_at dksX3_rests_0 13 rfl rfl)
theorem dX3_rests_16 : decode cX3_rests 16 = .ok (.iload_n 1, 1) := dk_27 (dk_at dksX3_rests_0 16 rfl rfl)
theorem dX3_rests_17 : decode cX3_rests 17 = .ok (.iload_n 2, 1) := dk_28 (dk_at dksX3_rests_0 17 rfl rfl)
theorem dX3_rests_18 : decode cX3_rests 18 = .ok (.if_icmp .eq 48, 3) := dk_159 0 48 (dk_at dksX3_rests_0 18 rfl rfl)
theorem dX3_rests_21 : decode cX3_rests 21 = .ok (.aload_n 0, 1) := dk_42 (dk_at dksX3_rests_0 21 rfl rfl)
theorem dX3_rests_22 : decode cX3_rests 22 = .ok (.getfield 16, 3) := dk_180 0 16 (dk_at dksX3_rests_1 0 rfl rfl)
theorem dX3_rests_25 : decode cX3_rests 25 = .ok (.iload_n 1, 1) := dk_27 (dk_at dksX3_rests_1 3 rfl rfl)
theorem dX3_rests_26 : decode cX3_rests 26 = .ok (.iaload, 1) := dk_46 (dk_at dksX3_rests_1 4 rfl rfl)
theorem dX3_rests_27 : decode cX3_rests 27 = .ok (.iconst 2, 1) := dk_5 (dk_at dksX3_rests_1 5 rfl rfl)
theorem dX3_rests_28 : decode cX3_rests 28 = .ok (.if_icmp .eq 38, 3) := dk_159 0 38 (dk_at dksX3_rests_1 6 rfl rfl)
theorem dX3_rests_31 : decode cX3_rests 31 = .ok (.aload_n 0, 1) := dk_42 (dk_at dksX3_rests_1 9 rfl rfl)
theorem dX3_rests_32 : decode cX3_rests 32 = .ok (.getfield 16, 3) := dk_180 0 16 (dk_at dksX3_rests_1 10 rfl rfl)
theorem dX3_rests_35 : decode cX3_rests 35 = .ok (.iload_n 2, 1) := dk_28 (dk_at dksX3_rests_1 13 rfl rfl)
theorem dX3_rests_36 : decode cX3_rests 36 = .ok (.iaload, 1) := dk_46 (dk_at dksX3_rests_1 14 rfl rfl)
theorem dX3_rests_37 : decode cX3_rests 37 = .ok (.iconst 2, 1) := dk_5 (dk_at dksX3_rests_1 15 rfl rfl)
theorem dX3_rests_38 : decode cX3_rests 38 = .ok (.if_icmp .eq 28, 3) := dk_159 0 28 (dk_at dksX3_rests_1 16 rfl rfl)
theorem dX3_rests_41 : decode cX3_rests 41 = .ok (.iload_n 3, 1) := dk_29 (dk_at dksX3_rests_1 19 rfl rfl)
theorem dX3_rests_42 : decode cX3_rests 42 = .ok (.i2l, 1) := dk_133 (dk_at dksX3_rests_1 20 rfl rfl)
theorem dX3_rests_43 : decode cX3_rests 43 = .ok (.lconst 1, 1) := dk_10 (dk_at dksX3_rests_1 21 rfl rfl)
theorem dX3_rests_44 : decode cX3_rests 44 = .ok (.ldc2_w 440, 3) := dk_20 1 184 (dk_at dksX3_rests_2 0 rfl rfl)
theorem dX3_rests_47 : decode cX3_rests 47 = .ok (.invokestatic 131, 3) := dk_184 0 131 (dk_at dksX3_rests_2 3 rfl rfl)
theorem dX3_rests_50 : decode cX3_rests 50 = .ok (.ifCond .eq 16, 3) := dk_153 0 16 (dk_at dksX3_rests_2 6 rfl rfl)
theorem dX3_rests_53 : decode cX3_rests 53 = .ok (.iload 4, 2) := dk_21 4 (dk_at dksX3_rests_2 9 rfl rfl)
theorem dX3_rests_55 : decode cX3_rests 55 = .ok (.i2l, 1) := dk_133 (dk_at dksX3_rests_2 11 rfl rfl)
theorem dX3_rests_56 : decode cX3_rests 56 = .ok (.lconst 0, 1) := dk_9 (dk_at dksX3_rests_2 12 rfl rfl)
theorem dX3_rests_57 : decode cX3_rests 57 = .ok (.ldc2_w 365, 3) := dk_20 1 109 (dk_at dksX3_rests_2 13 rfl rfl)
theorem dX3_rests_60 : decode cX3_rests 60 = .ok (.invokestatic 131, 3) := dk_184 0 131 (dk_at dksX3_rests_2 16 rfl rfl)
theorem dX3_rests_63 : decode cX3_rests 63 = .ok (.ifCond .ne 5, 3) := dk_154 0 5 (dk_at dksX3_rests_2 19 rfl rfl)
theorem dX3_rests_66 : decode cX3_rests 66 = .ok (.iconst (-1), 1) := dk_2 (dk_at dksX3_rests_2 22 rfl rfl)
theorem dX3_rests_67 : decode cX3_rests 67 = .ok (.ireturn, 1) := dk_172 (dk_at dksX3_rests_2 23 rfl rfl)
theorem dX3_rests_68 : decode cX3_rests 68 = .ok (.aload_n 0, 1) := dk_42 (dk_at dksX3_rests_3 0 rfl rfl)
theorem dX3_rests_69 : decode cX3_rests 69 = .ok (.iload_n 1, 1) := dk_27 (dk_at dksX3_rests_3 1 rfl rfl)
theorem dX3_rests_70 : decode cX3_rests 70 = .ok (.iload_n 2, 1) := dk_28 (dk_at dksX3_rests_3 2 rfl rfl)
theorem dX3_rests_71 : decode cX3_rests 71 = .ok (.iload_n 3, 1) := dk_29 (dk_at dksX3_rests_3 3 rfl rfl)
theorem dX3_rests_72 : decode cX3_rests 72 = .ok (.invokevirtual 442, 3) := dk_182 1 186 (dk_at dksX3_rests_3 4 rfl rfl)
theorem dX3_rests_75 : decode cX3_rests 75 = .ok (.iconst 0, 1) := dk_3 (dk_at dksX3_rests_3 7 rfl rfl)
theorem dX3_rests_76 : decode cX3_rests 76 = .ok (.istore 5, 2) := dk_54 5 (dk_at dksX3_rests_3 8 rfl rfl)
theorem dX3_rests_78 : decode cX3_rests 78 = .ok (.iconst (-1), 1) := dk_2 (dk_at dksX3_rests_3 10 rfl rfl)
theorem dX3_rests_79 : decode cX3_rests 79 = .ok (.istore 6, 2) := dk_54 6 (dk_at dksX3_rests_3 11 rfl rfl)
theorem dX3_rests_81 : decode cX3_rests 81 = .ok (.iconst 0, 1) := dk_3 (dk_at dksX3_rests_3 13 rfl rfl)
theorem dX3_rests_82 : decode cX3_rests 82 = .ok (.istore 7, 2) := dk_54 7 (dk_at dksX3_rests_3 14 rfl rfl)
theorem dX3_rests_84 : decode cX3_rests 84 = .ok (.iload 7, 2) := dk_21 7 (dk_at dksX3_rests_3 16 rfl rfl)
theorem dX3_rests_86 : decode cX3_rests 86 = .ok (.iconst 4, 1) := dk_7 (dk_at dksX3_rests_3 18 rfl rfl)
theorem dX3_rests_87 : decode cX3_rests 87 = .ok (.if_icmp .ge 64, 3) := dk_162 0 64 (dk_at dksX3_rests_3 19 rfl rfl)
theorem dX3_rests_90 : decode cX3_rests 90 = .ok (.aload_n 0, 1) := dk_42 (dk_at dksX3_rests_3 22 rfl rfl)
theorem dX3_rests_91 : decode cX3_rests 91 = .ok (.getfield 110, 3) := dk_180 0 110 (dk_at dksX3_rests_4 0 rfl rfl)
theorem dX3_rests_94 : decode cX3_rests 94 = .ok (.iload 7, 2) := dk_21 7 (dk_at dksX3_rests_4 3 rfl rfl)
theorem dX3_rests_96 : decode cX3_rests 96 = .ok (.iconst 2, 1) := dk_5 (dk_at dksX3_rests_4 5 rfl rfl)
theorem dX3_rests_97 : decode cX3_rests 97 = .ok (.ixor, 1) := dk_130 (dk_at dksX3_rests_4 6 rfl rfl)
theorem dX3_rests_98 : decode cX3_rests 98 = .ok (.iaload, 1) := dk_46 (dk_at dksX3_rests_4 7 rfl rfl)
theorem dX3_rests_99 : decode cX3_rests 99 = .ok (.aload_n 0, 1) := dk_42 (dk_at dksX3_rests_4 8 rfl rfl)
theorem dX3_rests_100 : decode cX3_rests 100 = .ok (.getfield 110, 3) := dk_180 0 110 (dk_at dksX3_rests_4 9 rfl rfl)
theorem dX3_rests_103 : decode cX3_rests 103 = .ok (.iload 7, 2) := dk_21 7 (dk_at dksX3_rests_4 12 rfl rfl)
theorem dX3_rests_105 : decode cX3_rests 105 = .ok (.iaload, 1) := dk_46 (dk_at dksX3_rests_4 14 rfl rfl)
theorem dX3_rests_106 : decode cX3_rests 106 = .ok (.if_icmp .gt 39, 3) := dk_163 0 39 (dk_at dksX3_rests_4 15 rfl rfl)
theorem dX3_rests_109 : decode cX3_rests 109 = .ok (.aload_n 0, 1) := dk_42 (dk_at dksX3_rests_4 18 rfl rfl)
theorem dX3_rests_110 : decode cX3_rests 110 = .ok (.getfield 113, 3) := dk_180 0 113 (dk_at dksX3_rests_4 19 rfl rfl)
theorem dX3_rests_113 : decode cX3_rests 113 = .ok (.iload 7, 2) := dk_21 7 (dk_at dksX3_rests_4 22 rfl rfl)
theorem dX3_rests_115 : decode cX3_rests 115 = .ok (.iconst 1, 1) := dk_4 (dk_at dksX3_rests_5 0 rfl rfl)
theorem dX3_rests_116 : decode cX3_rests 116 = .ok (.ixor, 1) := dk_130 (dk_at dksX3_rests_5 1 rfl rfl)
theorem dX3_rests_117 : decode cX3_rests 117 = .ok (.iaload, 1) := dk_46 (dk_at dksX3_rests_5 2 rfl rfl)
theorem dX3_rests_118 : decode cX3_rests 118 = .ok (.aload_n 0, 1) := dk_42 (dk_at dksX3_rests_5 3 rfl rfl)
theorem dX3_rests_119 : decode cX3_rests 119 = .ok (.getfield 113, 3) := dk_180 0 113 (dk_at dksX3_rests_5 4 rfl rfl)
theorem dX3_rests_122 : decode cX3_rests 122 = .ok (.iload 7, 2) := dk_21 7 (dk_at dksX3_rests_5 7 rfl rfl)
theorem dX3_rests_124 : decode cX3_rests 124 = .ok (.iaload, 1) := dk_46 (dk_at dksX3_rests_5 9 rfl rfl)
theorem dX3_rests_125 : decode cX3_rests 125 = .ok (.if_icmp .gt 20, 3) := dk_163 0 20 (dk_at dksX3_rests_5 10 rfl rfl)
theorem dX3_rests_128 : decode cX3_rests 128 = .ok (.iload 5, 2) := dk_21 5 (dk_at dksX3_rests_5 13 rfl rfl)
theorem dX3_rests_130 : decode cX3_rests 130 = .ok (.ifCond .ne 8, 3) := dk_154 0 8 (dk_at dksX3_rests_5 15 rfl rfl)
theorem dX3_rests_133 : decode cX3_rests 133 = .ok (.iload 7, 2) := dk_21 7 (dk_at dksX3_rests_5 18 rfl rfl)
theorem dX3_rests_135 : decode cX3_rests 135 = .ok (.goto 5, 3) := dk_167 0 5 (dk_at dksX3_rests_5 20 rfl rfl)
theorem dX3_rests_138 : decode cX3_rests 138 = .ok (.iload 6, 2) := dk_21 6 (dk_at dksX3_rests_6 0 rfl rfl)
theorem dX3_rests_140 : decode cX3_rests 140 = .ok (.istore 6, 2) := dk_54 6 (dk_at dksX3_rests_6 2 rfl rfl)
theorem dX3_rests_142 : decode cX3_rests 142 = .ok (.iinc 5 1, 3) := dk_132 5 1 (dk_at dksX3_rests_6 4 rfl rfl)
theorem dX3_rests_145 : decode cX3_rests 145 = .ok (.iinc 7 1, 3) := dk_132 7 1 (dk_at dksX3_rests_6 7 rfl rfl)
theorem dX3_rests_148 : decode cX3_rests 148 = .ok (.goto (-64), 3) := dk_167 255 192 (dk_at dksX3_rests_6 10 rfl rfl)
theorem dX3_rests_151 : decode cX3_rests 151 = .ok (.iload 4, 2) := dk_21 4 (dk_at dksX3_rests_6 13 rfl rfl)
theorem dX3_rests_153 : decode cX3_rests 153 = .ok (.ifCond .ne 6, 3) := dk_154 0 6 (dk_at dksX3_rests_6 15 rfl rfl)
theorem dX3_rests_156 : decode cX3_rests 156 = .ok (.iload 5, 2) := dk_21 5 (dk_at dksX3_rests_6 18 rfl rfl)
theorem dX3_rests_158 : decode cX3_rests 158 = .ok (.ireturn, 1) := dk_172 (dk_at dksX3_rests_6 20 rfl rfl)
theorem dX3_rests_159 : decode cX3_rests 159 = .ok (.iload 6, 2) := dk_21 6 (dk_at dksX3_rests_6 21 rfl rfl)
theorem dX3_rests_161 : decode cX3_rests 161 = .ok (.iconst (-1), 1) := dk_2 (dk_at dksX3_rests_6 23 rfl rfl)
theorem dX3_rests_162 : decode cX3_rests 162 = .ok (.if_icmp .ne 8, 3) := dk_160 0 8 (dk_at dksX3_rests_7 0 rfl rfl)
theorem dX3_rests_165 : decode cX3_rests 165 = .ok (.bipush (-2), 2) := dk_16 254 (dk_at dksX3_rests_7 3 rfl rfl)
theorem dX3_rests_167 : decode cX3_rests 167 = .ok (.goto 20, 3) := dk_167 0 20 (dk_at dksX3_rests_7 5 rfl rfl)
theorem dX3_rests_170 : decode cX3_rests 170 = .ok (.iload 4, 2) := dk_21 4 (dk_at dksX3_rests_7 8 rfl rfl)
theorem dX3_rests_172 : decode cX3_rests 172 = .ok (.iconst 1, 1) := dk_4 (dk_at dksX3_rests_7 10 rfl rfl)
theorem dX3_rests_173 : decode cX3_rests 173 = .ok (.if_icmp .ne 10, 3) := dk_160 0 10 (dk_at dksX3_rests_7 11 rfl rfl)
theorem dX3_rests_176 : decode cX3_rests 176 = .ok (.iload 6, 2) := dk_21 6 (dk_at dksX3_rests_7 14 rfl rfl)
theorem dX3_rests_178 : decode cX3_rests 178 = .ok (.iconst 2, 1) := dk_5 (dk_at dksX3_rests_7 16 rfl rfl)
theorem dX3_rests_179 : decode cX3_rests 179 = .ok (.idiv, 1) := dk_108 (dk_at dksX3_rests_7 17 rfl rfl)
theorem dX3_rests_180 : decode cX3_rests 180 = .ok (.goto 7, 3) := dk_167 0 7 (dk_at dksX3_rests_7 18 rfl rfl)
theorem dX3_rests_183 : decode cX3_rests 183 = .ok (.iload 6, 2) := dk_21 6 (dk_at dksX3_rests_7 21 rfl rfl)
theorem dX3_rests_185 : decode cX3_rests 185 = .ok (.iconst 2, 1) := dk_5 (dk_at dksX3_rests_7 23 rfl rfl)
theorem dX3_rests_186 : decode cX3_rests 186 = .ok (.irem, 1) := dk_112 (dk_at dksX3_rests_8 0 rfl rfl)
theorem dX3_rests_187 : decode cX3_rests 187 = .ok (.ireturn, 1) := dk_172 (dk_at dksX3_rests_8 1 rfl rfl)
abbrev cX3_laysWays : ByteArray := prog_17_method_89_code
def yX3_laysWays : MethodName := ⟨RX3, "laysWays", "(III)V"⟩
def dkwX3_laysWays_7 : List UInt8 := [79, 42, 180, 0, 97, 28, 2, 79, 177]
abbrev dktX3_laysWays_7 : List UInt8 := dkwX3_laysWays_7 ++ []
def dkwX3_laysWays_6 : List UInt8 := [16, 10, 167, 0, 4, 3, 100, 79, 42, 182, 1, 170, 132, 4, 1, 167, 255, 105, 42, 180, 0, 97, 27, 2]
abbrev dktX3_laysWays_6 : List UInt8 := dkwX3_laysWays_6 ++ dktX3_laysWays_7
def dkwX3_laysWays_5 : List UInt8 := [167, 0, 4, 3, 100, 79, 42, 180, 0, 113, 21, 4, 92, 46, 42, 180, 0, 16, 28, 46, 5, 160, 0, 8]
abbrev dktX3_laysWays_5 : List UInt8 := dkwX3_laysWays_5 ++ dktX3_laysWays_6
def dkwX3_laysWays_4 : List UInt8 := [167, 255, 212, 42, 180, 0, 110, 21, 4, 92, 46, 42, 180, 0, 16, 27, 46, 5, 160, 0, 8, 16, 10]
abbrev dktX3_laysWays_4 : List UInt8 := dkwX3_laysWays_4 ++ dktX3_laysWays_5
def dkwX3_laysWays_3 : List UInt8 := [27, 182, 1, 181, 96, 79, 42, 180, 0, 113, 21, 4, 92, 46, 42, 28, 182, 1, 181, 96, 79, 132, 5, 1]
abbrev dktX3_laysWays_3 : List UInt8 := dkwX3_laysWays_3 ++ dktX3_laysWays_4
def dkwX3_laysWays_2 : List UInt8 := [79, 3, 54, 5, 21, 5, 29, 162, 0, 44, 42, 182, 1, 127, 87, 42, 180, 0, 110, 21, 4, 92, 46, 42]
abbrev dktX3_laysWays_2 : List UInt8 := dkwX3_laysWays_2 ++ dktX3_laysWays_3
def dkwX3_laysWays_1 : List UInt8 := [180, 0, 97, 28, 21, 4, 5, 112, 79, 42, 180, 0, 110, 21, 4, 3, 79, 42, 180, 0, 113, 21, 4, 3]
abbrev dktX3_laysWays_1 : List UInt8 := dkwX3_laysWays_1 ++ dktX3_laysWays_2
def dkwX3_laysWays_0 : List UInt8 := [42, 182, 1, 164, 3, 54, 4, 21, 4, 7, 162, 0, 151, 42, 180, 0, 97, 27, 21, 4, 5, 108, 79, 42]
abbrev dktX3_laysWays_0 : List UInt8 := dkwX3_laysWays_0 ++ dktX3_laysWays_1
theorem dksX3_laysWays_0 : cX3_laysWays.data.toList.drop 0 = dktX3_laysWays_0 := by decide +kernel
theorem dksX3_laysWays_1 : cX3_laysWays.data.toList.drop 24 = dktX3_laysWays_1 := dk_seg dksX3_laysWays_0 24 rfl rfl
theorem dksX3_laysWays_2 : cX3_laysWays.data.toList.drop 48 = dktX3_laysWays_2 := dk_seg dksX3_laysWays_1 24 rfl rfl
theorem dksX3_laysWays_3 : cX3_laysWays.data.toList.drop 72 = dktX3_laysWays_3 := dk_seg dksX3_laysWays_2 24 rfl rfl
theorem dksX3_laysWays_4 : cX3_laysWays.data.toList.drop 96 = dktX3_laysWays_4 := dk_seg dksX3_laysWays_3 24 rfl rfl
theorem dksX3_laysWays_5 : cX3_laysWays.data.toList.drop 119 = dktX3_laysWays_5 := dk_seg dksX3_laysWays_4 23 rfl rfl
theorem dksX3_laysWays_6 : cX3_laysWays.data.toList.drop 143 = dktX3_laysWays_6 := dk_seg dksX3_laysWays_5 24 rfl rfl
theorem dksX3_laysWays_7 : cX3_laysWays.data.toList.drop 167 = dktX3_laysWays_7 := dk_seg dksX3_laysWays_6 24 rfl rfl
theorem dX3_laysWays_0 : decode cX3_laysWays 0 = .ok (.aload_n 0, 1) := dk_42 (dk_at dksX3_laysWays_0 0 rfl rfl)
theorem dX3_laysWays_1 : decode cX3_laysWays 1 = .ok (.invokevirtual 420, 3) := dk_182 1 164 (dk_at dksX3_laysWays_0 1 rfl rfl)
theorem dX3_laysWays_4 : decode cX3_laysWays 4 = .ok (.iconst 0, 1) := dk_3 (dk_at dksX3_laysWays_0 4 rfl rfl)
theorem dX3_laysWays_5 : decode cX3_laysWays 5 = .ok (.istore 4, 2) := dk_54 4 (dk_at dksX3_laysWays_0 5 rfl rfl)
theorem dX3_laysWays_7 : decode cX3_laysWays 7 = .ok (.iload 4, 2) := dk_21 4 (dk_at dksX3_laysWays_0 7 rfl rfl)
theorem dX3_laysWays_9 : decode cX3_laysWays 9 = .ok (.iconst 4, 1) := dk_7 (dk_at dksX3_laysWays_0 9 rfl rfl)
theorem dX3_laysWays_10 : decode cX3_laysWays 10 = .ok (.if_icmp .ge 151, 3) := dk_162 0 151 (dk_at dksX3_laysWays_0 10 rfl rfl)
theorem dX3_laysWays_13 : decode cX3_laysWays 13 = .ok (.aload_n 0, 1) := dk_42 (dk_at dksX3_laysWays_0 13 rfl rfl)
theorem dX3_laysWays_14 : decode cX3_laysWays 14 = .ok (.getfield 97, 3) := dk_180 0 97 (dk_at dksX3_laysWays_0 14 rfl rfl)
theorem dX3_laysWays_17 : decode cX3_laysWays 17 = .ok (.iload_n 1, 1) := dk_27 (dk_at dksX3_laysWays_0 17 rfl rfl)
theorem dX3_laysWays_18 : decode cX3_laysWays 18 = .ok (.iload 4, 2) := dk_21 4 (dk_at dksX3_laysWays_0 18 rfl rfl)
theorem dX3_laysWays_20 : decode cX3_laysWays 20 = .ok (.iconst 2, 1) := dk_5 (dk_at dksX3_laysWays_0 20 rfl rfl)
theorem dX3_laysWays_21 : decode cX3_laysWays 21 = .ok (.idiv, 1) := dk_108 (dk_at dksX3_laysWays_0 21 rfl rfl)
theorem dX3_laysWays_22 : decode cX3_laysWays 22 = .ok (.iastore, 1) := dk_79 (dk_at dksX3_laysWays_0 22 rfl rfl)
theorem dX3_laysWays_23 : decode cX3_laysWays 23 = .ok (.aload_n 0, 1) := dk_42 (dk_at dksX3_laysWays_0 23 rfl rfl)
theorem dX3_laysWays_24 : decode cX3_laysWays 24 = .ok (.getfield 97, 3) := dk_180 0 97 (dk_at dksX3_laysWays_1 0 rfl rfl)
theorem dX3_laysWays_27 : decode cX3_laysWays 27 = .ok (.iload_n 2, 1) := dk_28 (dk_at dksX3_laysWays_1 3 rfl rfl)
theorem dX3_laysWays_28 : decode cX3_laysWays 28 = .ok (.iload 4, 2) := dk_21 4 (dk_at dksX3_laysWays_1 4 rfl rfl)
theorem dX3_laysWays_30 : decode cX3_laysWays 30 = .ok (.iconst 2, 1) := dk_5 (dk_at dksX3_laysWays_1 6 rfl rfl)
theorem dX3_laysWays_31 : decode cX3_laysWays 31 = .ok (.irem, 1) := dk_112 (dk_at dksX3_laysWays_1 7 rfl rfl)
theorem dX3_laysWays_32 : decode cX3_laysWays 32 = .ok (.iastore, 1) := dk_79 (dk_at dksX3_laysWays_1 8 rfl rfl)
theorem dX3_laysWays_33 : decode cX3_laysWays 33 = .ok (.aload_n 0, 1) := dk_42 (dk_at dksX3_laysWays_1 9 rfl rfl)
theorem dX3_laysWays_34 : decode cX3_laysWays 34 = .ok (.getfield 110, 3) := dk_180 0 110 (dk_at dksX3_laysWays_1 10 rfl rfl)
theorem dX3_laysWays_37 : decode cX3_laysWays 37 = .ok (.iload 4, 2) := dk_21 4 (dk_at dksX3_laysWays_1 13 rfl rfl)
theorem dX3_laysWays_39 : decode cX3_laysWays 39 = .ok (.iconst 0, 1) := dk_3 (dk_at dksX3_laysWays_1 15 rfl rfl)
theorem dX3_laysWays_40 : decode cX3_laysWays 40 = .ok (.iastore, 1) := dk_79 (dk_at dksX3_laysWays_1 16 rfl rfl)
theorem dX3_laysWays_41 : decode cX3_laysWays 41 = .ok (.aload_n 0, 1) := dk_42 (dk_at dksX3_laysWays_1 17 rfl rfl)
theorem dX3_laysWays_42 : decode cX3_laysWays 42 = .ok (.getfield 113, 3) := dk_180 0 113 (dk_at dksX3_laysWays_1 18 rfl rfl)
theorem dX3_laysWays_45 : decode cX3_laysWays 45 = .ok (.iload 4, 2) := dk_21 4 (dk_at dksX3_laysWays_1 21 rfl rfl)
theorem dX3_laysWays_47 : decode cX3_laysWays 47 = .ok (.iconst 0, 1) := dk_3 (dk_at dksX3_laysWays_1 23 rfl rfl)
theorem dX3_laysWays_48 : decode cX3_laysWays 48 = .ok (.iastore, 1) := dk_79 (dk_at dksX3_laysWays_2 0 rfl rfl)
theorem dX3_laysWays_49 : decode cX3_laysWays 49 = .ok (.iconst 0, 1) := dk_3 (dk_at dksX3_laysWays_2 1 rfl rfl)
theorem dX3_laysWays_50 : decode cX3_laysWays 50 = .ok (.istore 5, 2) := dk_54 5 (dk_at dksX3_laysWays_2 2 rfl rfl)
theorem dX3_laysWays_52 : decode cX3_laysWays 52 = .ok (.iload 5, 2) := dk_21 5 (dk_at dksX3_laysWays_2 4 rfl rfl)
theorem dX3_laysWays_54 : decode cX3_laysWays 54 = .ok (.iload_n 3, 1) := dk_29 (dk_at dksX3_laysWays_2 6 rfl rfl)
theorem dX3_laysWays_55 : decode cX3_laysWays 55 = .ok (.if_icmp .ge 44, 3) := dk_162 0 44 (dk_at dksX3_laysWays_2 7 rfl rfl)
theorem dX3_laysWays_58 : decode cX3_laysWays 58 = .ok (.aload_n 0, 1) := dk_42 (dk_at dksX3_laysWays_2 10 rfl rfl)
theorem dX3_laysWays_59 : decode cX3_laysWays 59 = .ok (.invokevirtual 383, 3) := dk_182 1 127 (dk_at dksX3_laysWays_2 11 rfl rfl)
theorem dX3_laysWays_62 : decode cX3_laysWays 62 = .ok (.pop, 1) := dk_87 (dk_at dksX3_laysWays_2 14 rfl rfl)
theorem dX3_laysWays_63 : decode cX3_laysWays 63 = .ok (.aload_n 0, 1) := dk_42 (dk_at dksX3_laysWays_2 15 rfl rfl)
theorem dX3_laysWays_64 : decode cX3_laysWays 64 = .ok (.getfield 110, 3) := dk_180 0 110 (dk_at dksX3_laysWays_2 16 rfl rfl)
theorem dX3_laysWays_67 : decode cX3_laysWays 67 = .ok (.iload 4, 2) := dk_21 4 (dk_at dksX3_laysWays_2 19 rfl rfl)
theorem dX3_laysWays_69 : decode cX3_laysWays 69 = .ok (.dup2, 1) := dk_92 (dk_at dksX3_laysWays_2 21 rfl rfl)
theorem dX3_laysWays_70 : decode cX3_laysWays 70 = .ok (.iaload, 1) := dk_46 (dk_at dksX3_laysWays_2 22 rfl rfl)
theorem dX3_laysWays_71 : decode cX3_laysWays 71 = .ok (.aload_n 0, 1) := dk_42 (dk_at dksX3_laysWays_2 23 rfl rfl)
theorem dX3_laysWays_72 : decode cX3_laysWays 72 = .ok (.iload_n 1, 1) := dk_27 (dk_at dksX3_laysWays_3 0 rfl rfl)
theorem dX3_laysWays_73 : decode cX3_laysWays 73 = .ok (.invokevirtual 437, 3) := dk_182 1 181 (dk_at dksX3_laysWays_3 1 rfl rfl)
theorem dX3_laysWays_76 : decode cX3_laysWays 76 = .ok (.iadd, 1) := dk_96 (dk_at dksX3_laysWays_3 4 rfl rfl)
theorem dX3_laysWays_77 : decode cX3_laysWays 77 = .ok (.iastore, 1) := dk_79 (dk_at dksX3_laysWays_3 5 rfl rfl)
theorem dX3_laysWays_78 : decode cX3_laysWays 78 = .ok (.aload_n 0, 1) := dk_42 (dk_at dksX3_laysWays_3 6 rfl rfl)
theorem dX3_laysWays_79 : decode cX3_laysWays 79 = .ok (.getfield 113, 3) := dk_180 0 113 (dk_at dksX3_laysWays_3 7 rfl rfl)
theorem dX3_laysWays_82 : decode cX3_laysWays 82 = .ok (.iload 4, 2) := dk_21 4 (dk_at dksX3_laysWays_3 10 rfl rfl)
theorem dX3_laysWays_84 : decode cX3_laysWays 84 = .ok (.dup2, 1) := dk_92 (dk_at dksX3_laysWays_3 12 rfl rfl)
theorem dX3_laysWays_85 : decode cX3_laysWays 85 = .ok (.iaload, 1) := dk_46 (dk_at dksX3_laysWays_3 13 rfl rfl)
theorem dX3_laysWays_86 : decode cX3_laysWays 86 = .ok (.aload_n 0, 1) := dk_42 (dk_at dksX3_laysWays_3 14 rfl rfl)
theorem dX3_laysWays_87 : decode cX3_laysWays 87 = .ok (.iload_n 2, 1) := dk_28 (dk_at dksX3_laysWays_3 15 rfl rfl)
theorem dX3_laysWays_88 : decode cX3_laysWays 88 = .ok (.invokevirtual 437, 3) := dk_182 1 181 (dk_at dksX3_laysWays_3 16 rfl rfl)
theorem dX3_laysWays_91 : decode cX3_laysWays 91 = .ok (.iadd, 1) := dk_96 (dk_at dksX3_laysWays_3 19 rfl rfl)
theorem dX3_laysWays_92 : decode cX3_laysWays 92 = .ok (.iastore, 1) := dk_79 (dk_at dksX3_laysWays_3 20 rfl rfl)
theorem dX3_laysWays_93 : decode cX3_laysWays 93 = .ok (.iinc 5 1, 3) := dk_132 5 1 (dk_at dksX3_laysWays_3 21 rfl rfl)
theorem dX3_laysWays_96 : decode cX3_laysWays 96 = .ok (.goto (-44), 3) := dk_167 255 212 (dk_at dksX3_laysWays_4 0 rfl rfl)
theorem dX3_laysWays_99 : decode cX3_laysWays 99 = .ok (.aload_n 0, 1) := dk_42 (dk_at dksX3_laysWays_4 3 rfl rfl)
theorem dX3_laysWays_100 : decode cX3_laysWays 100 = .ok (.getfield 110, 3) := dk_180 0 110 (dk_at dksX3_laysWays_4 4 rfl rfl)
theorem dX3_laysWays_103 : decode cX3_laysWays 103 = .ok (.iload 4, 2) := dk_21 4 (dk_at dksX3_laysWays_4 7 rfl rfl)
theorem dX3_laysWays_105 : decode cX3_laysWays 105 = .ok (.dup2, 1) := dk_92 (dk_at dksX3_laysWays_4 9 rfl rfl)
theorem dX3_laysWays_106 : decode cX3_laysWays 106 = .ok (.iaload, 1) := dk_46 (dk_at dksX3_laysWays_4 10 rfl rfl)
theorem dX3_laysWays_107 : decode cX3_laysWays 107 = .ok (.aload_n 0, 1) := dk_42 (dk_at dksX3_laysWays_4 11 rfl rfl)
theorem dX3_laysWays_108 : decode cX3_laysWays 108 = .ok (.getfield 16, 3) := dk_180 0 16 (dk_at dksX3_laysWays_4 12 rfl rfl)
theorem dX3_laysWays_111 : decode cX3_laysWays 111 = .ok (.iload_n 1, 1) := dk_27 (dk_at dksX3_laysWays_4 15 rfl rfl)
theorem dX3_laysWays_112 : decode cX3_laysWays 112 = .ok (.iaload, 1) := dk_46 (dk_at dksX3_laysWays_4 16 rfl rfl)
theorem dX3_laysWays_113 : decode cX3_laysWays 113 = .ok (.iconst 2, 1) := dk_5 (dk_at dksX3_laysWays_4 17 rfl rfl)
theorem dX3_laysWays_114 : decode cX3_laysWays 114 = .ok (.if_icmp .ne 8, 3) := dk_160 0 8 (dk_at dksX3_laysWays_4 18 rfl rfl)
theorem dX3_laysWays_117 : decode cX3_laysWays 117 = .ok (.bipush 10, 2) := dk_16 10 (dk_at dksX3_laysWays_4 21 rfl rfl)
theorem dX3_laysWays_119 : decode cX3_laysWays 119 = .ok (.goto 4, 3) := dk_167 0 4 (dk_at dksX3_laysWays_5 0 rfl rfl)
theorem dX3_laysWays_122 : decode cX3_laysWays 122 = .ok (.iconst 0, 1) := dk_3 (dk_at dksX3_laysWays_5 3 rfl rfl)
theorem dX3_laysWays_123 : decode cX3_laysWays 123 = .ok (.isub, 1) := dk_100 (dk_at dksX3_laysWays_5 4 rfl rfl)
theorem dX3_laysWays_124 : decode cX3_laysWays 124 = .ok (.iastore, 1) := dk_79 (dk_at dksX3_laysWays_5 5 rfl rfl)
theorem dX3_laysWays_125 : decode cX3_laysWays 125 = .ok (.aload_n 0, 1) := dk_42 (dk_at dksX3_laysWays_5 6 rfl rfl)
theorem dX3_laysWays_126 : decode cX3_laysWays 126 = .ok (.getfield 113, 3) := dk_180 0 113 (dk_at dksX3_laysWays_5 7 rfl rfl)
theorem dX3_laysWays_129 : decode cX3_laysWays 129 = .ok (.iload 4, 2) := dk_21 4 (dk_at dksX3_laysWays_5 10 rfl rfl)
theorem dX3_laysWays_131 : decode cX3_laysWays 131 = .ok (.dup2, 1) := dk_92 (dk_at dksX3_laysWays_5 12 rfl rfl)
theorem dX3_laysWays_132 : decode cX3_laysWays 132 = .ok (.iaload, 1) := dk_46 (dk_at dksX3_laysWays_5 13 rfl rfl)
theorem dX3_laysWays_133 : decode cX3_laysWays 133 = .ok (.aload_n 0, 1) := dk_42 (dk_at dksX3_laysWays_5 14 rfl rfl)
theorem dX3_laysWays_134 : decode cX3_laysWays 134 = .ok (.getfield 16, 3) := dk_180 0 16 (dk_at dksX3_laysWays_5 15 rfl rfl)
theorem dX3_laysWays_137 : decode cX3_laysWays 137 = .ok (.iload_n 2, 1) := dk_28 (dk_at dksX3_laysWays_5 18 rfl rfl)
theorem dX3_laysWays_138 : decode cX3_laysWays 138 = .ok (.iaload, 1) := dk_46 (dk_at dksX3_laysWays_5 19 rfl rfl)
theorem dX3_laysWays_139 : decode cX3_laysWays 139 = .ok (.iconst 2, 1) := dk_5 (dk_at dksX3_laysWays_5 20 rfl rfl)
theorem dX3_laysWays_140 : decode cX3_laysWays 140 = .ok (.if_icmp .ne 8, 3) := dk_160 0 8 (dk_at dksX3_laysWays_5 21 rfl rfl)
theorem dX3_laysWays_143 : decode cX3_laysWays 143 = .ok (.bipush 10, 2) := dk_16 10 (dk_at dksX3_laysWays_6 0 rfl rfl)
theorem dX3_laysWays_145 : decode cX3_laysWays 145 = .ok (.goto 4, 3) := dk_167 0 4 (dk_at dksX3_laysWays_6 2 rfl rfl)
theorem dX3_laysWays_148 : decode cX3_laysWays 148 = .ok (.iconst 0, 1) := dk_3 (dk_at dksX3_laysWays_6 5 rfl rfl)
theorem dX3_laysWays_149 : decode cX3_laysWays 149 = .ok (.isub, 1) := dk_100 (dk_at dksX3_laysWays_6 6 rfl rfl)
theorem dX3_laysWays_150 : decode cX3_laysWays 150 = .ok (.iastore, 1) := dk_79 (dk_at dksX3_laysWays_6 7 rfl rfl)
theorem dX3_laysWays_151 : decode cX3_laysWays 151 = .ok (.aload_n 0, 1) := dk_42 (dk_at dksX3_laysWays_6 8 rfl rfl)
theorem dX3_laysWays_152 : decode cX3_laysWays 152 = .ok (.invokevirtual 426, 3) := dk_182 1 170 (dk_at dksX3_laysWays_6 9 rfl rfl)
theorem dX3_laysWays_155 : decode cX3_laysWays 155 = .ok (.iinc 4 1, 3) := dk_132 4 1 (dk_at dksX3_laysWays_6 12 rfl rfl)
theorem dX3_laysWays_158 : decode cX3_laysWays 158 = .ok (.goto (-151), 3) := dk_167 255 105 (dk_at dksX3_laysWays_6 15 rfl rfl)
theorem dX3_laysWays_161 : decode cX3_laysWays 161 = .ok (.aload_n 0, 1) := dk_42 (dk_at dksX3_laysWays_6 18 rfl rfl)
theorem dX3_laysWays_162 : decode cX3_laysWays 162 = .ok (.getfield 97, 3) := dk_180 0 97 (dk_at dksX3_laysWays_6 19 rfl rfl)
theorem dX3_laysWays_165 : decode cX3_laysWays 165 = .ok (.iload_n 1, 1) := dk_27 (dk_at dksX3_laysWays_6 22 rfl rfl)
theorem dX3_laysWays_166 : decode cX3_laysWays 166 = .ok (.iconst (-1), 1) := dk_2 (dk_at dksX3_laysWays_6 23 rfl rfl)
theorem dX3_laysWays_167 : decode cX3_laysWays 167 = .ok (.iastore, 1) := dk_79 (dk_at dksX3_laysWays_7 0 rfl rfl)
theorem dX3_laysWays_168 : decode cX3_laysWays 168 = .ok (.aload_n 0, 1) := dk_42 (dk_at dksX3_laysWays_7 1 rfl rfl)
theorem dX3_laysWays_169 : decode cX3_laysWays 169 = .ok (.getfield 97, 3) := dk_180 0 97 (dk_at dksX3_laysWays_7 2 rfl rfl)
theorem dX3_laysWays_172 : decode cX3_laysWays 172 = .ok (.iload_n 2, 1) := dk_28 (dk_at dksX3_laysWays_7 5 rfl rfl)
theorem dX3_laysWays_173 : decode cX3_laysWays 173 = .ok (.iconst (-1), 1) := dk_2 (dk_at dksX3_laysWays_7 6 rfl rfl)
theorem dX3_laysWays_174 : decode cX3_laysWays 174 = .ok (.iastore, 1) := dk_79 (dk_at dksX3_laysWays_7 7 rfl rfl)
theorem dX3_laysWays_175 : decode cX3_laysWays 175 = .ok (.return_, 1) := dk_177 (dk_at dksX3_laysWays_7 8 rfl rfl)
abbrev cX3_earns : ByteArray := prog_17_method_88_code
def yX3_earns : MethodName := ⟨RX3, "earns", "(I)I"⟩
def dkwX3_earns_1 : List UInt8 := [172]
abbrev dktX3_earns_1 : List UInt8 := dkwX3_earns_1 ++ []
def dkwX3_earns_0 : List UInt8 := [42, 180, 0, 16, 27, 46, 4, 160, 0, 16, 4, 42, 27, 182, 1, 103, 16, 10, 108, 96, 167, 0, 4, 3]
abbrev dktX3_earns_0 : List UInt8 := dkwX3_earns_0 ++ dktX3_earns_1
theorem dksX3_earns_0 : cX3_earns.data.toList.drop 0 = dktX3_earns_0 := by decide +kernel
theorem dksX3_earns_1 : cX3_earns.data.toList.drop 24 = dktX3_earns_1 := dk_seg dksX3_earns_0 24 rfl rfl
theorem dX3_earns_0 : decode cX3_earns 0 = .ok (.aload_n 0, 1) := dk_42 (dk_at dksX3_earns_0 0 rfl rfl)
theorem dX3_earns_1 : decode cX3_earns 1 = .ok (.getfield 16, 3) := dk_180 0 16 (dk_at dksX3_earns_0 1 rfl rfl)
theorem dX3_earns_4 : decode cX3_earns 4 = .ok (.iload_n 1, 1) := dk_27 (dk_at dksX3_earns_0 4 rfl rfl)
theorem dX3_earns_5 : decode cX3_earns 5 = .ok (.iaload, 1) := dk_46 (dk_at dksX3_earns_0 5 rfl rfl)
theorem dX3_earns_6 : decode cX3_earns 6 = .ok (.iconst 1, 1) := dk_4 (dk_at dksX3_earns_0 6 rfl rfl)
theorem dX3_earns_7 : decode cX3_earns 7 = .ok (.if_icmp .ne 16, 3) := dk_160 0 16 (dk_at dksX3_earns_0 7 rfl rfl)
theorem dX3_earns_10 : decode cX3_earns 10 = .ok (.iconst 1, 1) := dk_4 (dk_at dksX3_earns_0 10 rfl rfl)
theorem dX3_earns_11 : decode cX3_earns 11 = .ok (.aload_n 0, 1) := dk_42 (dk_at dksX3_earns_0 11 rfl rfl)
theorem dX3_earns_12 : decode cX3_earns 12 = .ok (.iload_n 1, 1) := dk_27 (dk_at dksX3_earns_0 12 rfl rfl)
theorem dX3_earns_13 : decode cX3_earns 13 = .ok (.invokevirtual 359, 3) := dk_182 1 103 (dk_at dksX3_earns_0 13 rfl rfl)
theorem dX3_earns_16 : decode cX3_earns 16 = .ok (.bipush 10, 2) := dk_16 10 (dk_at dksX3_earns_0 16 rfl rfl)
theorem dX3_earns_18 : decode cX3_earns 18 = .ok (.idiv, 1) := dk_108 (dk_at dksX3_earns_0 18 rfl rfl)
theorem dX3_earns_19 : decode cX3_earns 19 = .ok (.iadd, 1) := dk_96 (dk_at dksX3_earns_0 19 rfl rfl)
theorem dX3_earns_20 : decode cX3_earns 20 = .ok (.goto 4, 3) := dk_167 0 4 (dk_at dksX3_earns_0 20 rfl rfl)
theorem dX3_earns_23 : decode cX3_earns 23 = .ok (.iconst 0, 1) := dk_3 (dk_at dksX3_earns_0 23 rfl rfl)
theorem dX3_earns_24 : decode cX3_earns 24 = .ok (.ireturn, 1) := dk_172 (dk_at dksX3_earns_1 0 rfl rfl)
abbrev cX3_ring : ByteArray := prog_17_method_93_code
def yX3_ring : MethodName := ⟨RX3, "ring", "(I)I"⟩
def dkwX3_ring_3 : List UInt8 := [167, 0, 6, 29, 28, 100, 172, 132, 3, 1, 167, 255, 219, 132, 2, 1, 167, 255, 203, 16, 254, 172]
abbrev dktX3_ring_3 : List UInt8 := dkwX3_ring_3 ++ []
def dkwX3_ring_2 : List UInt8 := [163, 0, 37, 42, 28, 29, 182, 1, 193, 153, 0, 22, 27, 154, 0, 14, 42, 180, 0, 9, 7, 46, 28, 96]
abbrev dktX3_ring_2 : List UInt8 := dkwX3_ring_2 ++ dktX3_ring_3
def dkwX3_ring_1 : List UInt8 := [182, 1, 190, 42, 182, 1, 170, 3, 61, 28, 16, 60, 162, 0, 53, 28, 4, 96, 62, 29, 16, 60]
abbrev dktX3_ring_1 : List UInt8 := dkwX3_ring_1 ++ dktX3_ring_2
def dkwX3_ring_0 : List UInt8 := [42, 182, 1, 148, 153, 0, 13, 27, 133, 9, 10, 184, 0, 131, 154, 0, 5, 2, 172, 42, 182, 1, 164, 42]
abbrev dktX3_ring_0 : List UInt8 := dkwX3_ring_0 ++ dktX3_ring_1
theorem dksX3_ring_0 : cX3_ring.data.toList.drop 0 = dktX3_ring_0 := by decide +kernel
theorem dksX3_ring_1 : cX3_ring.data.toList.drop 24 = dktX3_ring_1 := dk_seg dksX3_ring_0 24 rfl rfl
theorem dksX3_ring_2 : cX3_ring.data.toList.drop 46 = dktX3_ring_2 := dk_seg dksX3_ring_1 22 rfl rfl
theorem dksX3_ring_3 : cX3_ring.data.toList.drop 70 = dktX3_ring_3 := dk_seg dksX3_ring_2 24 rfl rfl
theorem dX3_ring_0 : decode cX3_ring 0 = .ok (.aload_n 0, 1) := dk_42 (dk_at dksX3_ring_0 0 rfl rfl)
theorem dX3_ring_1 : decode cX3_ring 1 = .ok (.invokevirtual 404, 3) := dk_182 1 148 (dk_at dksX3_ring_0 1 rfl rfl)
theorem dX3_ring_4 : decode cX3_ring 4 = .ok (.ifCond .eq 13, 3) := dk_153 0 13 (dk_at dksX3_ring_0 4 rfl rfl)
theorem dX3_ring_7 : decode cX3_ring 7 = .ok (.iload_n 1, 1) := dk_27 (dk_at dksX3_ring_0 7 rfl rfl)
theorem dX3_ring_8 : decode cX3_ring 8 = .ok (.i2l, 1) := dk_133 (dk_at dksX3_ring_0 8 rfl rfl)
theorem dX3_ring_9 : decode cX3_ring 9 = .ok (.lconst 0, 1) := dk_9 (dk_at dksX3_ring_0 9 rfl rfl)
theorem dX3_ring_10 : decode cX3_ring 10 = .ok (.lconst 1, 1) := dk_10 (dk_at dksX3_ring_0 10 rfl rfl)
theorem dX3_ring_11 : decode cX3_ring 11 = .ok (.invokestatic 131, 3) := dk_184 0 131 (dk_at dksX3_ring_0 11 rfl rfl)
theorem dX3_ring_14 : decode cX3_ring 14 = .ok (.ifCond .ne 5, 3) := dk_154 0 5 (dk_at dksX3_ring_0 14 rfl rfl)
theorem dX3_ring_17 : decode cX3_ring 17 = .ok (.iconst (-1), 1) := dk_2 (dk_at dksX3_ring_0 17 rfl rfl)
theorem dX3_ring_18 : decode cX3_ring 18 = .ok (.ireturn, 1) := dk_172 (dk_at dksX3_ring_0 18 rfl rfl)
theorem dX3_ring_19 : decode cX3_ring 19 = .ok (.aload_n 0, 1) := dk_42 (dk_at dksX3_ring_0 19 rfl rfl)
theorem dX3_ring_20 : decode cX3_ring 20 = .ok (.invokevirtual 420, 3) := dk_182 1 164 (dk_at dksX3_ring_0 20 rfl rfl)
theorem dX3_ring_23 : decode cX3_ring 23 = .ok (.aload_n 0, 1) := dk_42 (dk_at dksX3_ring_0 23 rfl rfl)
theorem dX3_ring_24 : decode cX3_ring 24 = .ok (.invokevirtual 446, 3) := dk_182 1 190 (dk_at dksX3_ring_1 0 rfl rfl)
theorem dX3_ring_27 : decode cX3_ring 27 = .ok (.aload_n 0, 1) := dk_42 (dk_at dksX3_ring_1 3 rfl rfl)
theorem dX3_ring_28 : decode cX3_ring 28 = .ok (.invokevirtual 426, 3) := dk_182 1 170 (dk_at dksX3_ring_1 4 rfl rfl)
theorem dX3_ring_31 : decode cX3_ring 31 = .ok (.iconst 0, 1) := dk_3 (dk_at dksX3_ring_1 7 rfl rfl)
theorem dX3_ring_32 : decode cX3_ring 32 = .ok (.istore_n 2, 1) := dk_61 (dk_at dksX3_ring_1 8 rfl rfl)
theorem dX3_ring_33 : decode cX3_ring 33 = .ok (.iload_n 2, 1) := dk_28 (dk_at dksX3_ring_1 9 rfl rfl)
theorem dX3_ring_34 : decode cX3_ring 34 = .ok (.bipush 60, 2) := dk_16 60 (dk_at dksX3_ring_1 10 rfl rfl)
theorem dX3_ring_36 : decode cX3_ring 36 = .ok (.if_icmp .ge 53, 3) := dk_162 0 53 (dk_at dksX3_ring_1 12 rfl rfl)
theorem dX3_ring_39 : decode cX3_ring 39 = .ok (.iload_n 2, 1) := dk_28 (dk_at dksX3_ring_1 15 rfl rfl)
theorem dX3_ring_40 : decode cX3_ring 40 = .ok (.iconst 1, 1) := dk_4 (dk_at dksX3_ring_1 16 rfl rfl)
theorem dX3_ring_41 : decode cX3_ring 41 = .ok (.iadd, 1) := dk_96 (dk_at dksX3_ring_1 17 rfl rfl)
theorem dX3_ring_42 : decode cX3_ring 42 = .ok (.istore_n 3, 1) := dk_62 (dk_at dksX3_ring_1 18 rfl rfl)
theorem dX3_ring_43 : decode cX3_ring 43 = .ok (.iload_n 3, 1) := dk_29 (dk_at dksX3_ring_1 19 rfl rfl)
theorem dX3_ring_44 : decode cX3_ring 44 = .ok (.bipush 60, 2) := dk_16 60 (dk_at dksX3_ring_1 20 rfl rfl)
theorem dX3_ring_46 : decode cX3_ring 46 = .ok (.if_icmp .gt 37, 3) := dk_163 0 37 (dk_at dksX3_ring_2 0 rfl rfl)
theorem dX3_ring_49 : decode cX3_ring 49 = .ok (.aload_n 0, 1) := dk_42 (dk_at dksX3_ring_2 3 rfl rfl)
theorem dX3_ring_50 : decode cX3_ring 50 = .ok (.iload_n 2, 1) := dk_28 (dk_at dksX3_ring_2 4 rfl rfl)
theorem dX3_ring_51 : decode cX3_ring 51 = .ok (.iload_n 3, 1) := dk_29 (dk_at dksX3_ring_2 5 rfl rfl)
theorem dX3_ring_52 : decode cX3_ring 52 = .ok (.invokevirtual 449, 3) := dk_182 1 193 (dk_at dksX3_ring_2 6 rfl rfl)
theorem dX3_ring_55 : decode cX3_ring 55 = .ok (.ifCond .eq 22, 3) := dk_153 0 22 (dk_at dksX3_ring_2 9 rfl rfl)
theorem dX3_ring_58 : decode cX3_ring 58 = .ok (.iload_n 1, 1) := dk_27 (dk_at dksX3_ring_2 12 rfl rfl)
theorem dX3_ring_59 : decode cX3_ring 59 = .ok (.ifCond .ne 14, 3) := dk_154 0 14 (dk_at dksX3_ring_2 13 rfl rfl)
theorem dX3_ring_62 : decode cX3_ring 62 = .ok (.aload_n 0, 1) := dk_42 (dk_at dksX3_ring_2 16 rfl rfl)
theorem dX3_ring_63 : decode cX3_ring 63 = .ok (.getfield 9, 3) := dk_180 0 9 (dk_at dksX3_ring_2 17 rfl rfl)
theorem dX3_ring_66 : decode cX3_ring 66 = .ok (.iconst 4, 1) := dk_7 (dk_at dksX3_ring_2 20 rfl rfl)
theorem dX3_ring_67 : decode cX3_ring 67 = .ok (.iaload, 1) := dk_46 (dk_at dksX3_ring_2 21 rfl rfl)
theorem dX3_ring_68 : decode cX3_ring 68 = .ok (.iload_n 2, 1) := dk_28 (dk_at dksX3_ring_2 22 rfl rfl)
theorem dX3_ring_69 : decode cX3_ring 69 = .ok (.iadd, 1) := dk_96 (dk_at dksX3_ring_2 23 rfl rfl)
theorem dX3_ring_70 : decode cX3_ring 70 = .ok (.goto 6, 3) := dk_167 0 6 (dk_at dksX3_ring_3 0 rfl rfl)
theorem dX3_ring_73 : decode cX3_ring 73 = .ok (.iload_n 3, 1) := dk_29 (dk_at dksX3_ring_3 3 rfl rfl)
theorem dX3_ring_74 : decode cX3_ring 74 = .ok (.iload_n 2, 1) := dk_28 (dk_at dksX3_ring_3 4 rfl rfl)
theorem dX3_ring_75 : decode cX3_ring 75 = .ok (.isub, 1) := dk_100 (dk_at dksX3_ring_3 5 rfl rfl)
theorem dX3_ring_76 : decode cX3_ring 76 = .ok (.ireturn, 1) := dk_172 (dk_at dksX3_ring_3 6 rfl rfl)
theorem dX3_ring_77 : decode cX3_ring 77 = .ok (.iinc 3 1, 3) := dk_132 3 1 (dk_at dksX3_ring_3 7 rfl rfl)
theorem dX3_ring_80 : decode cX3_ring 80 = .ok (.goto (-37), 3) := dk_167 255 219 (dk_at dksX3_ring_3 10 rfl rfl)
theorem dX3_ring_83 : decode cX3_ring 83 = .ok (.iinc 2 1, 3) := dk_132 2 1 (dk_at dksX3_ring_3 13 rfl rfl)
theorem dX3_ring_86 : decode cX3_ring 86 = .ok (.goto (-53), 3) := dk_167 255 203 (dk_at dksX3_ring_3 16 rfl rfl)
theorem dX3_ring_89 : decode cX3_ring 89 = .ok (.bipush (-2), 2) := dk_16 254 (dk_at dksX3_ring_3 19 rfl rfl)
theorem dX3_ring_91 : decode cX3_ring 91 = .ok (.ireturn, 1) := dk_172 (dk_at dksX3_ring_3 21 rfl rfl)
abbrev cX3_laysAll : ByteArray := prog_17_method_91_code
def yX3_laysAll : MethodName := ⟨RX3, "laysAll", "()V"⟩
def dkwX3_laysAll_2 : List UInt8 := [167, 255, 211, 177]
abbrev dktX3_laysAll_2 : List UInt8 := dkwX3_laysAll_2 ++ []
def dkwX3_laysAll_1 : List UInt8 := [28, 96, 42, 180, 0, 16, 28, 46, 79, 132, 2, 1, 167, 255, 230, 42, 182, 1, 127, 87, 132, 1, 1]
abbrev dktX3_laysAll_1 : List UInt8 := dkwX3_laysAll_1 ++ dktX3_laysAll_2
def dkwX3_laysAll_0 : List UInt8 := [3, 60, 27, 16, 60, 163, 0, 45, 3, 61, 28, 16, 8, 162, 0, 26, 42, 180, 0, 116, 16, 8, 27, 104]
abbrev dktX3_laysAll_0 : List UInt8 := dkwX3_laysAll_0 ++ dktX3_laysAll_1
theorem dksX3_laysAll_0 : cX3_laysAll.data.toList.drop 0 = dktX3_laysAll_0 := by decide +kernel
theorem dksX3_laysAll_1 : cX3_laysAll.data.toList.drop 24 = dktX3_laysAll_1 := dk_seg dksX3_laysAll_0 24 rfl rfl
theorem dksX3_laysAll_2 : cX3_laysAll.data.toList.drop 47 = dktX3_laysAll_2 := dk_seg dksX3_laysAll_1 23 rfl rfl
theorem dX3_laysAll_0 : decode cX3_laysAll 0 = .ok (.iconst 0, 1) := dk_3 (dk_at dksX3_laysAll_0 0 rfl rfl)
theorem dX3_laysAll_1 : decode cX3_laysAll 1 = .ok (.istore_n 1, 1) := dk_60 (dk_at dksX3_laysAll_0 1 rfl rfl)
theorem dX3_laysAll_2 : decode cX3_laysAll 2 = .ok (.iload_n 1, 1) := dk_27 (dk_at dksX3_laysAll_0 2 rfl rfl)
theorem dX3_laysAll_3 : decode cX3_laysAll 3 = .ok (.bipush 60, 2) := dk_16 60 (dk_at dksX3_laysAll_0 3 rfl rfl)
theorem dX3_laysAll_5 : decode cX3_laysAll 5 = .ok (.if_icmp .gt 45, 3) := dk_163 0 45 (dk_at dksX3_laysAll_0 5 rfl rfl)
theorem dX3_laysAll_8 : decode cX3_laysAll 8 = .ok (.iconst 0, 1) := dk_3 (dk_at dksX3_laysAll_0 8 rfl rfl)
theorem dX3_laysAll_9 : decode cX3_laysAll 9 = .ok (.istore_n 2, 1) := dk_61 (dk_at dksX3_laysAll_0 9 rfl rfl)
theorem dX3_laysAll_10 : decode cX3_laysAll 10 = .ok (.iload_n 2, 1) := dk_28 (dk_at dksX3_laysAll_0 10 rfl rfl)
theorem dX3_laysAll_11 : decode cX3_laysAll 11 = .ok (.bipush 8, 2) := dk_16 8 (dk_at dksX3_laysAll_0 11 rfl rfl)
theorem dX3_laysAll_13 : decode cX3_laysAll 13 = .ok (.if_icmp .ge 26, 3) := dk_162 0 26 (dk_at dksX3_laysAll_0 13 rfl rfl)
theorem dX3_laysAll_16 : decode cX3_laysAll 16 = .ok (.aload_n 0, 1) := dk_42 (dk_at dksX3_laysAll_0 16 rfl rfl)
theorem dX3_laysAll_17 : decode cX3_laysAll 17 = .ok (.getfield 116, 3) := dk_180 0 116 (dk_at dksX3_laysAll_0 17 rfl rfl)
theorem dX3_laysAll_20 : decode cX3_laysAll 20 = .ok (.bipush 8, 2) := dk_16 8 (dk_at dksX3_laysAll_0 20 rfl rfl)
theorem dX3_laysAll_22 : decode cX3_laysAll 22 = .ok (.iload_n 1, 1) := dk_27 (dk_at dksX3_laysAll_0 22 rfl rfl)
theorem dX3_laysAll_23 : decode cX3_laysAll 23 = .ok (.imul, 1) := dk_104 (dk_at dksX3_laysAll_0 23 rfl rfl)
theorem dX3_laysAll_24 : decode cX3_laysAll 24 = .ok (.iload_n 2, 1) := dk_28 (dk_at dksX3_laysAll_1 0 rfl rfl)
theorem dX3_laysAll_25 : decode cX3_laysAll 25 = .ok (.iadd, 1) := dk_96 (dk_at dksX3_laysAll_1 1 rfl rfl)
theorem dX3_laysAll_26 : decode cX3_laysAll 26 = .ok (.aload_n 0, 1) := dk_42 (dk_at dksX3_laysAll_1 2 rfl rfl)
theorem dX3_laysAll_27 : decode cX3_laysAll 27 = .ok (.getfield 16, 3) := dk_180 0 16 (dk_at dksX3_laysAll_1 3 rfl rfl)
theorem dX3_laysAll_30 : decode cX3_laysAll 30 = .ok (.iload_n 2, 1) := dk_28 (dk_at dksX3_laysAll_1 6 rfl rfl)
theorem dX3_laysAll_31 : decode cX3_laysAll 31 = .ok (.iaload, 1) := dk_46 (dk_at dksX3_laysAll_1 7 rfl rfl)
theorem dX3_laysAll_32 : decode cX3_laysAll 32 = .ok (.iastore, 1) := dk_79 (dk_at dksX3_laysAll_1 8 rfl rfl)
theorem dX3_laysAll_33 : decode cX3_laysAll 33 = .ok (.iinc 2 1, 3) := dk_132 2 1 (dk_at dksX3_laysAll_1 9 rfl rfl)
theorem dX3_laysAll_36 : decode cX3_laysAll 36 = .ok (.goto (-26), 3) := dk_167 255 230 (dk_at dksX3_laysAll_1 12 rfl rfl)
theorem dX3_laysAll_39 : decode cX3_laysAll 39 = .ok (.aload_n 0, 1) := dk_42 (dk_at dksX3_laysAll_1 15 rfl rfl)
theorem dX3_laysAll_40 : decode cX3_laysAll 40 = .ok (.invokevirtual 383, 3) := dk_182 1 127 (dk_at dksX3_laysAll_1 16 rfl rfl)
theorem dX3_laysAll_43 : decode cX3_laysAll 43 = .ok (.pop, 1) := dk_87 (dk_at dksX3_laysAll_1 19 rfl rfl)
theorem dX3_laysAll_44 : decode cX3_laysAll 44 = .ok (.iinc 1 1, 3) := dk_132 1 1 (dk_at dksX3_laysAll_1 20 rfl rfl)
theorem dX3_laysAll_47 : decode cX3_laysAll 47 = .ok (.goto (-45), 3) := dk_167 255 211 (dk_at dksX3_laysAll_2 0 rfl rfl)
theorem dX3_laysAll_50 : decode cX3_laysAll 50 = .ok (.return_, 1) := dk_177 (dk_at dksX3_laysAll_2 3 rfl rfl)
abbrev cX3_isAlike : ByteArray := prog_17_method_92_code
def yX3_isAlike : MethodName := ⟨RX3, "isAlike", "(II)Z"⟩
def dkwX3_isAlike_1 : List UInt8 := [180, 0, 116, 16, 8, 28, 104, 29, 96, 46, 159, 0, 5, 3, 172, 132, 3, 1, 167, 255, 216, 4, 172]
abbrev dktX3_isAlike_1 : List UInt8 := dkwX3_isAlike_1 ++ []
def dkwX3_isAlike_0 : List UInt8 := [3, 62, 29, 42, 180, 0, 9, 6, 46, 162, 0, 36, 42, 180, 0, 116, 16, 8, 27, 104, 29, 96, 46, 42]
abbrev dktX3_isAlike_0 : List UInt8 := dkwX3_isAlike_0 ++ dktX3_isAlike_1
theorem dksX3_isAlike_0 : cX3_isAlike.data.toList.drop 0 = dktX3_isAlike_0 := by decide +kernel
theorem dksX3_isAlike_1 : cX3_isAlike.data.toList.drop 24 = dktX3_isAlike_1 := dk_seg dksX3_isAlike_0 24 rfl rfl
theorem dX3_isAlike_0 : decode cX3_isAlike 0 = .ok (.iconst 0, 1) := dk_3 (dk_at dksX3_isAlike_0 0 rfl rfl)
theorem dX3_isAlike_1 : decode cX3_isAlike 1 = .ok (.istore_n 3, 1) := dk_62 (dk_at dksX3_isAlike_0 1 rfl rfl)
theorem dX3_isAlike_2 : decode cX3_isAlike 2 = .ok (.iload_n 3, 1) := dk_29 (dk_at dksX3_isAlike_0 2 rfl rfl)
theorem dX3_isAlike_3 : decode cX3_isAlike 3 = .ok (.aload_n 0, 1) := dk_42 (dk_at dksX3_isAlike_0 3 rfl rfl)
theorem dX3_isAlike_4 : decode cX3_isAlike 4 = .ok (.getfield 9, 3) := dk_180 0 9 (dk_at dksX3_isAlike_0 4 rfl rfl)
theorem dX3_isAlike_7 : decode cX3_isAlike 7 = .ok (.iconst 3, 1) := dk_6 (dk_at dksX3_isAlike_0 7 rfl rfl)
theorem dX3_isAlike_8 : decode cX3_isAlike 8 = .ok (.iaload, 1) := dk_46 (dk_at dksX3_isAlike_0 8 rfl rfl)
theorem dX3_isAlike_9 : decode cX3_isAlike 9 = .ok (.if_icmp .ge 36, 3) := dk_162 0 36 (dk_at dksX3_isAlike_0 9 rfl rfl)
theorem dX3_isAlike_12 : decode cX3_isAlike 12 = .ok (.aload_n 0, 1) := dk_42 (dk_at dksX3_isAlike_0 12 rfl rfl)
theorem dX3_isAlike_13 : decode cX3_isAlike 13 = .ok (.getfield 116, 3) := dk_180 0 116 (dk_at dksX3_isAlike_0 13 rfl rfl)
theorem dX3_isAlike_16 : decode cX3_isAlike 16 = .ok (.bipush 8, 2) := dk_16 8 (dk_at dksX3_isAlike_0 16 rfl rfl)
theorem dX3_isAlike_18 : decode cX3_isAlike 18 = .ok (.iload_n 1, 1) := dk_27 (dk_at dksX3_isAlike_0 18 rfl rfl)
theorem dX3_isAlike_19 : decode cX3_isAlike 19 = .ok (.imul, 1) := dk_104 (dk_at dksX3_isAlike_0 19 rfl rfl)
theorem dX3_isAlike_20 : decode cX3_isAlike 20 = .ok (.iload_n 3, 1) := dk_29 (dk_at dksX3_isAlike_0 20 rfl rfl)
theorem dX3_isAlike_21 : decode cX3_isAlike 21 = .ok (.iadd, 1) := dk_96 (dk_at dksX3_isAlike_0 21 rfl rfl)
theorem dX3_isAlike_22 : decode cX3_isAlike 22 = .ok (.iaload, 1) := dk_46 (dk_at dksX3_isAlike_0 22 rfl rfl)
theorem dX3_isAlike_23 : decode cX3_isAlike 23 = .ok (.aload_n 0, 1) := dk_42 (dk_at dksX3_isAlike_0 23 rfl rfl)
theorem dX3_isAlike_24 : decode cX3_isAlike 24 = .ok (.getfield 116, 3) := dk_180 0 116 (dk_at dksX3_isAlike_1 0 rfl rfl)
theorem dX3_isAlike_27 : decode cX3_isAlike 27 = .ok (.bipush 8, 2) := dk_16 8 (dk_at dksX3_isAlike_1 3 rfl rfl)
theorem dX3_isAlike_29 : decode cX3_isAlike 29 = .ok (.iload_n 2, 1) := dk_28 (dk_at dksX3_isAlike_1 5 rfl rfl)
theorem dX3_isAlike_30 : decode cX3_isAlike 30 = .ok (.imul, 1) := dk_104 (dk_at dksX3_isAlike_1 6 rfl rfl)
theorem dX3_isAlike_31 : decode cX3_isAlike 31 = .ok (.iload_n 3, 1) := dk_29 (dk_at dksX3_isAlike_1 7 rfl rfl)
theorem dX3_isAlike_32 : decode cX3_isAlike 32 = .ok (.iadd, 1) := dk_96 (dk_at dksX3_isAlike_1 8 rfl rfl)
theorem dX3_isAlike_33 : decode cX3_isAlike 33 = .ok (.iaload, 1) := dk_46 (dk_at dksX3_isAlike_1 9 rfl rfl)
theorem dX3_isAlike_34 : decode cX3_isAlike 34 = .ok (.if_icmp .eq 5, 3) := dk_159 0 5 (dk_at dksX3_isAlike_1 10 rfl rfl)
theorem dX3_isAlike_37 : decode cX3_isAlike 37 = .ok (.iconst 0, 1) := dk_3 (dk_at dksX3_isAlike_1 13 rfl rfl)
theorem dX3_isAlike_38 : decode cX3_isAlike 38 = .ok (.ireturn, 1) := dk_172 (dk_at dksX3_isAlike_1 14 rfl rfl)
theorem dX3_isAlike_39 : decode cX3_isAlike 39 = .ok (.iinc 3 1, 3) := dk_132 3 1 (dk_at dksX3_isAlike_1 15 rfl rfl)
theorem dX3_isAlike_42 : decode cX3_isAlike 42 = .ok (.goto (-40), 3) := dk_167 255 216 (dk_at dksX3_isAlike_1 18 rfl rfl)
theorem dX3_isAlike_45 : decode cX3_isAlike 45 = .ok (.iconst 1, 1) := dk_4 (dk_at dksX3_isAlike_1 21 rfl rfl)
theorem dX3_isAlike_46 : decode cX3_isAlike 46 = .ok (.ireturn, 1) := dk_172 (dk_at dksX3_isAlike_1 22 rfl rfl)
abbrev cX3_pence : ByteArray := prog_17_method_95_code
def yX3_pence : MethodName := ⟨RX3, "pence", "(II)I"⟩
def dkwX3_pence_5 : List UInt8 := [132, 7, 1, 167, 255, 186, 21, 6, 29, 108, 21, 5, 21, 4, 162, 0, 7, 4, 167, 0, 4, 3, 96, 172]
abbrev dktX3_pence_5 : List UInt8 := dkwX3_pence_5 ++ []
def dkwX3_pence_4 : List UInt8 := [21, 9, 157, 0, 14, 21, 9, 154, 0, 13, 21, 7, 28, 162, 0, 7, 4, 167, 0, 4, 3, 96, 54, 5]
abbrev dktX3_pence_4 : List UInt8 := dkwX3_pence_4 ++ dktX3_pence_5
def dkwX3_pence_3 : List UInt8 := [54, 8, 21, 4, 21, 8, 29, 108, 100, 54, 4, 21, 8, 29, 112, 21, 6, 29, 112, 100, 54, 9, 21, 5]
abbrev dktX3_pence_3 : List UInt8 := dkwX3_pence_3 ++ dktX3_pence_4
def dkwX3_pence_2 : List UInt8 := [54, 6, 3, 54, 7, 21, 7, 42, 180, 0, 9, 6, 46, 162, 0, 65, 27, 42, 21, 7, 182, 1, 103, 104]
abbrev dktX3_pence_2 : List UInt8 := dkwX3_pence_2 ++ dktX3_pence_3
def dkwX3_pence_1 : List UInt8 := [182, 1, 198, 62, 29, 154, 0, 5, 3, 172, 27, 54, 4, 3, 54, 5, 27, 42, 28, 182, 1, 103, 104]
abbrev dktX3_pence_1 : List UInt8 := dkwX3_pence_1 ++ dktX3_pence_2
def dkwX3_pence_0 : List UInt8 := [42, 28, 182, 1, 106, 153, 0, 15, 27, 133, 9, 20, 1, 196, 184, 0, 131, 154, 0, 5, 2, 172, 42]
abbrev dktX3_pence_0 : List UInt8 := dkwX3_pence_0 ++ dktX3_pence_1
theorem dksX3_pence_0 : cX3_pence.data.toList.drop 0 = dktX3_pence_0 := by decide +kernel
theorem dksX3_pence_1 : cX3_pence.data.toList.drop 23 = dktX3_pence_1 := dk_seg dksX3_pence_0 23 rfl rfl
theorem dksX3_pence_2 : cX3_pence.data.toList.drop 46 = dktX3_pence_2 := dk_seg dksX3_pence_1 23 rfl rfl
theorem dksX3_pence_3 : cX3_pence.data.toList.drop 70 = dktX3_pence_3 := dk_seg dksX3_pence_2 24 rfl rfl
theorem dksX3_pence_4 : cX3_pence.data.toList.drop 94 = dktX3_pence_4 := dk_seg dksX3_pence_3 24 rfl rfl
theorem dksX3_pence_5 : cX3_pence.data.toList.drop 118 = dktX3_pence_5 := dk_seg dksX3_pence_4 24 rfl rfl
theorem dX3_pence_0 : decode cX3_pence 0 = .ok (.aload_n 0, 1) := dk_42 (dk_at dksX3_pence_0 0 rfl rfl)
theorem dX3_pence_1 : decode cX3_pence 1 = .ok (.iload_n 2, 1) := dk_28 (dk_at dksX3_pence_0 1 rfl rfl)
theorem dX3_pence_2 : decode cX3_pence 2 = .ok (.invokevirtual 362, 3) := dk_182 1 106 (dk_at dksX3_pence_0 2 rfl rfl)
theorem dX3_pence_5 : decode cX3_pence 5 = .ok (.ifCond .eq 15, 3) := dk_153 0 15 (dk_at dksX3_pence_0 5 rfl rfl)
theorem dX3_pence_8 : decode cX3_pence 8 = .ok (.iload_n 1, 1) := dk_27 (dk_at dksX3_pence_0 8 rfl rfl)
theorem dX3_pence_9 : decode cX3_pence 9 = .ok (.i2l, 1) := dk_133 (dk_at dksX3_pence_0 9 rfl rfl)
theorem dX3_pence_10 : decode cX3_pence 10 = .ok (.lconst 0, 1) := dk_9 (dk_at dksX3_pence_0 10 rfl rfl)
theorem dX3_pence_11 : decode cX3_pence 11 = .ok (.ldc2_w 452, 3) := dk_20 1 196 (dk_at dksX3_pence_0 11 rfl rfl)
theorem dX3_pence_14 : decode cX3_pence 14 = .ok (.invokestatic 131, 3) := dk_184 0 131 (dk_at dksX3_pence_0 14 rfl rfl)
theorem dX3_pence_17 : decode cX3_pence 17 = .ok (.ifCond .ne 5, 3) := dk_154 0 5 (dk_at dksX3_pence_0 17 rfl rfl)
theorem dX3_pence_20 : decode cX3_pence 20 = .ok (.iconst (-1), 1) := dk_2 (dk_at dksX3_pence_0 20 rfl rfl)
theorem dX3_pence_21 : decode cX3_pence 21 = .ok (.ireturn, 1) := dk_172 (dk_at dksX3_pence_0 21 rfl rfl)
theorem dX3_pence_22 : decode cX3_pence 22 = .ok (.aload_n 0, 1) := dk_42 (dk_at dksX3_pence_0 22 rfl rfl)
theorem dX3_pence_23 : decode cX3_pence 23 = .ok (.invokevirtual 454, 3) := dk_182 1 198 (dk_at dksX3_pence_1 0 rfl rfl)
theorem dX3_pence_26 : decode cX3_pence 26 = .ok (.istore_n 3, 1) := dk_62 (dk_at dksX3_pence_1 3 rfl rfl)
theorem dX3_pence_27 : decode cX3_pence 27 = .ok (.iload_n 3, 1) := dk_29 (dk_at dksX3_pence_1 4 rfl rfl)
theorem dX3_pence_28 : decode cX3_pence 28 = .ok (.ifCond .ne 5, 3) := dk_154 0 5 (dk_at dksX3_pence_1 5 rfl rfl)
theorem dX3_pence_31 : decode cX3_pence 31 = .ok (.iconst 0, 1) := dk_3 (dk_at dksX3_pence_1 8 rfl rfl)
theorem dX3_pence_32 : decode cX3_pence 32 = .ok (.ireturn, 1) := dk_172 (dk_at dksX3_pence_1 9 rfl rfl)
theorem dX3_pence_33 : decode cX3_pence 33 = .ok (.iload_n 1, 1) := dk_27 (dk_at dksX3_pence_1 10 rfl rfl)
theorem dX3_pence_34 : decode cX3_pence 34 = .ok (.istore 4, 2) := dk_54 4 (dk_at dksX3_pence_1 11 rfl rfl)
theorem dX3_pence_36 : decode cX3_pence 36 = .ok (.iconst 0, 1) := dk_3 (dk_at dksX3_pence_1 13 rfl rfl)
theorem dX3_pence_37 : decode cX3_pence 37 = .ok (.istore 5, 2) := dk_54 5 (dk_at dksX3_pence_1 14 rfl rfl)
theorem dX3_pence_39 : decode cX3_pence 39 = .ok (.iload_n 1, 1) := dk_27 (dk_at dksX3_pence_1 16 rfl rfl)
theorem dX3_pence_40 : decode cX3_pence 40 = .ok (.aload_n 0, 1) := dk_42 (dk_at dksX3_pence_1 17 rfl rfl)
theorem dX3_pence_41 : decode cX3_pence 41 = .ok (.iload_n 2, 1) := dk_28 (dk_at dksX3_pence_1 18 rfl rfl)
theorem dX3_pence_42 : decode cX3_pence 42 = .ok (.invokevirtual 359, 3) := dk_182 1 103 (dk_at dksX3_pence_1 19 rfl rfl)
theorem dX3_pence_45 : decode cX3_pence 45 = .ok (.imul, 1) := dk_104 (dk_at dksX3_pence_1 22 rfl rfl)
theorem dX3_pence_46 : decode cX3_pence 46 = .ok (.istore 6, 2) := dk_54 6 (dk_at dksX3_pence_2 0 rfl rfl)
theorem dX3_pence_48 : decode cX3_pence 48 = .ok (.iconst 0, 1) := dk_3 (dk_at dksX3_pence_2 2 rfl rfl)
theorem dX3_pence_49 : decode cX3_pence 49 = .ok (.istore 7, 2) := dk_54 7 (dk_at dksX3_pence_2 3 rfl rfl)
theorem dX3_pence_51 : decode cX3_pence 51 = .ok (.iload 7, 2) := dk_21 7 (dk_at dksX3_pence_2 5 rfl rfl)
theorem dX3_pence_53 : decode cX3_pence 53 = .ok (.aload_n 0, 1) := dk_42 (dk_at dksX3_pence_2 7 rfl rfl)
theorem dX3_pence_54 : decode cX3_pence 54 = .ok (.getfield 9, 3) := dk_180 0 9 (dk_at dksX3_pence_2 8 rfl rfl)
theorem dX3_pence_57 : decode cX3_pence 57 = .ok (.iconst 3, 1) := dk_6 (dk_at dksX3_pence_2 11 rfl rfl)
theorem dX3_pence_58 : decode cX3_pence 58 = .ok (.iaload, 1) := dk_46 (dk_at dksX3_pence_2 12 rfl rfl)
theorem dX3_pence_59 : decode cX3_pence 59 = .ok (.if_icmp .ge 65, 3) := dk_162 0 65 (dk_at dksX3_pence_2 13 rfl rfl)
theorem dX3_pence_62 : decode cX3_pence 62 = .ok (.iload_n 1, 1) := dk_27 (dk_at dksX3_pence_2 16 rfl rfl)
theorem dX3_pence_63 : decode cX3_pence 63 = .ok (.aload_n 0, 1) := dk_42 (dk_at dksX3_pence_2 17 rfl rfl)
theorem dX3_pence_64 : decode cX3_pence 64 = .ok (.iload 7, 2) := dk_21 7 (dk_at dksX3_pence_2 18 rfl rfl)
theorem dX3_pence_66 : decode cX3_pence 66 = .ok (.invokevirtual 359, 3) := dk_182 1 103 (dk_at dksX3_pence_2 20 rfl rfl)
theorem dX3_pence_69 : decode cX3_pence 69 = .ok (.imul, 1) := dk_104 (dk_at dksX3_pence_2 23 rfl rfl)
theorem dX3_pence_70 : decode cX3_pence 70 = .ok (.istore 8, 2) := dk_54 8 (dk_at dksX3_pence_3 0 rfl rfl)
theorem dX3_pence_72 : decode cX3_pence 72 = .ok (.iload 4, 2) := dk_21 4 (dk_at dksX3_pence_3 2 rfl rfl)
theorem dX3_pence_74 : decode cX3_pence 74 = .ok (.iload 8, 2) := dk_21 8 (dk_at dksX3_pence_3 4 rfl rfl)
theorem dX3_pence_76 : decode cX3_pence 76 = .ok (.iload_n 3, 1) := dk_29 (dk_at dksX3_pence_3 6 rfl rfl)
theorem dX3_pence_77 : decode cX3_pence 77 = .ok (.idiv, 1) := dk_108 (dk_at dksX3_pence_3 7 rfl rfl)
theorem dX3_pence_78 : decode cX3_pence 78 = .ok (.isub, 1) := dk_100 (dk_at dksX3_pence_3 8 rfl rfl)
theorem dX3_pence_79 : decode cX3_pence 79 = .ok (.istore 4, 2) := dk_54 4 (dk_at dksX3_pence_3 9 rfl rfl)
theorem dX3_pence_81 : decode cX3_pence 81 = .ok (.iload 8, 2) := dk_21 8 (dk_at dksX3_pence_3 11 rfl rfl)
theorem dX3_pence_83 : decode cX3_pence 83 = .ok (.iload_n 3, 1) := dk_29 (dk_at dksX3_pence_3 13 rfl rfl)
theorem dX3_pence_84 : decode cX3_pence 84 = .ok (.irem, 1) := dk_112 (dk_at dksX3_pence_3 14 rfl rfl)
theorem dX3_pence_85 : decode cX3_pence 85 = .ok (.iload 6, 2) := dk_21 6 (dk_at dksX3_pence_3 15 rfl rfl)
theorem dX3_pence_87 : decode cX3_pence 87 = .ok (.iload_n 3, 1) := dk_29 (dk_at dksX3_pence_3 17 rfl rfl)
theorem dX3_pence_88 : decode cX3_pence 88 = .ok (.irem, 1) := dk_112 (dk_at dksX3_pence_3 18 rfl rfl)
theorem dX3_pence_89 : decode cX3_pence 89 = .ok (.isub, 1) := dk_100 (dk_at dksX3_pence_3 19 rfl rfl)
theorem dX3_pence_90 : decode cX3_pence 90 = .ok (.istore 9, 2) := dk_54 9 (dk_at dksX3_pence_3 20 rfl rfl)
theorem dX3_pence_92 : decode cX3_pence 92 = .ok (.iload 5, 2) := dk_21 5 (dk_at dksX3_pence_3 22 rfl rfl)
theorem dX3_pence_94 : decode cX3_pence 94 = .ok (.iload 9, 2) := dk_21 9 (dk_at dksX3_pence_4 0 rfl rfl)
theorem dX3_pence_96 : decode cX3_pence 96 = .ok (.ifCond .gt 14, 3) := dk_157 0 14 (dk_at dksX3_pence_4 2 rfl rfl)
theorem dX3_pence_99 : decode cX3_pence 99 = .ok (.iload 9, 2) := dk_21 9 (dk_at dksX3_pence_4 5 rfl rfl)
theorem dX3_pence_101 : decode cX3_pence 101 = .ok (.ifCond .ne 13, 3) := dk_154 0 13 (dk_at dksX3_pence_4 7 rfl rfl)
theorem dX3_pence_104 : decode cX3_pence 104 = .ok (.iload 7, 2) := dk_21 7 (dk_at dksX3_pence_4 10 rfl rfl)
theorem dX3_pence_106 : decode cX3_pence 106 = .ok (.iload_n 2, 1) := dk_28 (dk_at dksX3_pence_4 12 rfl rfl)
theorem dX3_pence_107 : decode cX3_pence 107 = .ok (.if_icmp .ge 7, 3) := dk_162 0 7 (dk_at dksX3_pence_4 13 rfl rfl)
theorem dX3_pence_110 : decode cX3_pence 110 = .ok (.iconst 1, 1) := dk_4 (dk_at dksX3_pence_4 16 rfl rfl)
theorem dX3_pence_111 : decode cX3_pence 111 = .ok (.goto 4, 3) := dk_167 0 4 (dk_at dksX3_pence_4 17 rfl rfl)
theorem dX3_pence_114 : decode cX3_pence 114 = .ok (.iconst 0, 1) := dk_3 (dk_at dksX3_pence_4 20 rfl rfl)
theorem dX3_pence_115 : decode cX3_pence 115 = .ok (.iadd, 1) := dk_96 (dk_at dksX3_pence_4 21 rfl rfl)
theorem dX3_pence_116 : decode cX3_pence 116 = .ok (.istore 5, 2) := dk_54 5 (dk_at dksX3_pence_4 22 rfl rfl)
theorem dX3_pence_118 : decode cX3_pence 118 = .ok (.iinc 7 1, 3) := dk_132 7 1 (dk_at dksX3_pence_5 0 rfl rfl)
theorem dX3_pence_121 : decode cX3_pence 121 = .ok (.goto (-70), 3) := dk_167 255 186 (dk_at dksX3_pence_5 3 rfl rfl)
theorem dX3_pence_124 : decode cX3_pence 124 = .ok (.iload 6, 2) := dk_21 6 (dk_at dksX3_pence_5 6 rfl rfl)
theorem dX3_pence_126 : decode cX3_pence 126 = .ok (.iload_n 3, 1) := dk_29 (dk_at dksX3_pence_5 8 rfl rfl)
theorem dX3_pence_127 : decode cX3_pence 127 = .ok (.idiv, 1) := dk_108 (dk_at dksX3_pence_5 9 rfl rfl)
theorem dX3_pence_128 : decode cX3_pence 128 = .ok (.iload 5, 2) := dk_21 5 (dk_at dksX3_pence_5 10 rfl rfl)
theorem dX3_pence_130 : decode cX3_pence 130 = .ok (.iload 4, 2) := dk_21 4 (dk_at dksX3_pence_5 12 rfl rfl)
theorem dX3_pence_132 : decode cX3_pence 132 = .ok (.if_icmp .ge 7, 3) := dk_162 0 7 (dk_at dksX3_pence_5 14 rfl rfl)
theorem dX3_pence_135 : decode cX3_pence 135 = .ok (.iconst 1, 1) := dk_4 (dk_at dksX3_pence_5 17 rfl rfl)
theorem dX3_pence_136 : decode cX3_pence 136 = .ok (.goto 4, 3) := dk_167 0 4 (dk_at dksX3_pence_5 18 rfl rfl)
theorem dX3_pence_139 : decode cX3_pence 139 = .ok (.iconst 0, 1) := dk_3 (dk_at dksX3_pence_5 21 rfl rfl)
theorem dX3_pence_140 : decode cX3_pence 140 = .ok (.iadd, 1) := dk_96 (dk_at dksX3_pence_5 22 rfl rfl)
theorem dX3_pence_141 : decode cX3_pence 141 = .ok (.ireturn, 1) := dk_172 (dk_at dksX3_pence_5 23 rfl rfl)
abbrev cX3_allGive : ByteArray := prog_17_method_94_code
def yX3_allGive : MethodName := ⟨RX3, "allGive", "()I"⟩
def dkwX3_allGive_1 : List UInt8 := [132, 2, 1, 167, 255, 235, 27, 172]
abbrev dktX3_allGive_1 : List UInt8 := dkwX3_allGive_1 ++ []
def dkwX3_allGive_0 : List UInt8 := [3, 60, 3, 61, 28, 42, 180, 0, 9, 6, 46, 162, 0, 17, 27, 42, 28, 182, 1, 103, 96, 60]
abbrev dktX3_allGive_0 : List UInt8 := dkwX3_allGive_0 ++ dktX3_allGive_1
theorem dksX3_allGive_0 : cX3_allGive.data.toList.drop 0 = dktX3_allGive_0 := by decide +kernel
theorem dksX3_allGive_1 : cX3_allGive.data.toList.drop 22 = dktX3_allGive_1 := dk_seg dksX3_allGive_0 22 rfl rfl
theorem dX3_allGive_0 : decode cX3_allGive 0 = .ok (.iconst 0, 1) := dk_3 (dk_at dksX3_allGive_0 0 rfl rfl)
theorem dX3_allGive_1 : decode cX3_allGive 1 = .ok (.istore_n 1, 1) := dk_60 (dk_at dksX3_allGive_0 1 rfl rfl)
theorem dX3_allGive_2 : decode cX3_allGive 2 = .ok (.iconst 0, 1) := dk_3 (dk_at dksX3_allGive_0 2 rfl rfl)
theorem dX3_allGive_3 : decode cX3_allGive 3 = .ok (.istore_n 2, 1) := dk_61 (dk_at dksX3_allGive_0 3 rfl rfl)
theorem dX3_allGive_4 : decode cX3_allGive 4 = .ok (.iload_n 2, 1) := dk_28 (dk_at dksX3_allGive_0 4 rfl rfl)
theorem dX3_allGive_5 : decode cX3_allGive 5 = .ok (.aload_n 0, 1) := dk_42 (dk_at dksX3_allGive_0 5 rfl rfl)
theorem dX3_allGive_6 : decode cX3_allGive 6 = .ok (.getfield 9, 3) := dk_180 0 9 (dk_at dksX3_allGive_0 6 rfl rfl)
theorem dX3_allGive_9 : decode cX3_allGive 9 = .ok (.iconst 3, 1) := dk_6 (dk_at dksX3_allGive_0 9 rfl rfl)
theorem dX3_allGive_10 : decode cX3_allGive 10 = .ok (.iaload, 1) := dk_46 (dk_at dksX3_allGive_0 10 rfl rfl)
theorem dX3_allGive_11 : decode cX3_allGive 11 = .ok (.if_icmp .ge 17, 3) := dk_162 0 17 (dk_at dksX3_allGive_0 11 rfl rfl)
theorem dX3_allGive_14 : decode cX3_allGive 14 = .ok (.iload_n 1, 1) := dk_27 (dk_at dksX3_allGive_0 14 rfl rfl)
theorem dX3_allGive_15 : decode cX3_allGive 15 = .ok (.aload_n 0, 1) := dk_42 (dk_at dksX3_allGive_0 15 rfl rfl)
theorem dX3_allGive_16 : decode cX3_allGive 16 = .ok (.iload_n 2, 1) := dk_28 (dk_at dksX3_allGive_0 16 rfl rfl)
theorem dX3_allGive_17 : decode cX3_allGive 17 = .ok (.invokevirtual 359, 3) := dk_182 1 103 (dk_at dksX3_allGive_0 17 rfl rfl)
theorem dX3_allGive_20 : decode cX3_allGive 20 = .ok (.iadd, 1) := dk_96 (dk_at dksX3_allGive_0 20 rfl rfl)
theorem dX3_allGive_21 : decode cX3_allGive 21 = .ok (.istore_n 1, 1) := dk_60 (dk_at dksX3_allGive_0 21 rfl rfl)
theorem dX3_allGive_22 : decode cX3_allGive 22 = .ok (.iinc 2 1, 3) := dk_132 2 1 (dk_at dksX3_allGive_1 0 rfl rfl)
theorem dX3_allGive_25 : decode cX3_allGive 25 = .ok (.goto (-21), 3) := dk_167 255 235 (dk_at dksX3_allGive_1 3 rfl rfl)
theorem dX3_allGive_28 : decode cX3_allGive 28 = .ok (.iload_n 1, 1) := dk_27 (dk_at dksX3_allGive_1 6 rfl rfl)
theorem dX3_allGive_29 : decode cX3_allGive 29 = .ok (.ireturn, 1) := dk_172 (dk_at dksX3_allGive_1 7 rfl rfl)
abbrev cX3_note : ByteArray := prog_17_method_96_code
def yX3_note : MethodName := ⟨RX3, "note", "(III)I"⟩
def dkwX3_note_4 : List UInt8 := [96, 79, 21, 4, 4, 96, 172]
abbrev dktX3_note_4 : List UInt8 := dkwX3_note_4 ++ []
def dkwX3_note_3 : List UInt8 := [42, 180, 0, 34, 21, 4, 28, 79, 42, 180, 0, 37, 21, 4, 29, 79, 42, 180, 0, 9, 8, 92, 46, 4]
abbrev dktX3_note_3 : List UInt8 := dkwX3_note_3 ++ dktX3_note_4
def dkwX3_note_2 : List UInt8 := [184, 0, 131, 153, 0, 10, 21, 4, 16, 10, 160, 0, 6, 16, 254, 172, 42, 180, 0, 31, 21, 4, 27, 79]
abbrev dktX3_note_2 : List UInt8 := dkwX3_note_2 ++ dktX3_note_3
def dkwX3_note_1 : List UInt8 := [9, 20, 1, 201, 184, 0, 131, 153, 0, 30, 42, 28, 182, 1, 106, 153, 0, 22, 29, 133, 9, 20, 1, 109]
abbrev dktX3_note_1 : List UInt8 := dkwX3_note_1 ++ dktX3_note_2
def dkwX3_note_0 : List UInt8 := [27, 2, 160, 0, 12, 42, 180, 0, 9, 8, 3, 79, 3, 172, 42, 180, 0, 9, 8, 46, 54, 4, 27, 133]
abbrev dktX3_note_0 : List UInt8 := dkwX3_note_0 ++ dktX3_note_1
theorem dksX3_note_0 : cX3_note.data.toList.drop 0 = dktX3_note_0 := by decide +kernel
theorem dksX3_note_1 : cX3_note.data.toList.drop 24 = dktX3_note_1 := dk_seg dksX3_note_0 24 rfl rfl
theorem dksX3_note_2 : cX3_note.data.toList.drop 48 = dktX3_note_2 := dk_seg dksX3_note_1 24 rfl rfl
theorem dksX3_note_3 : cX3_note.data.toList.drop 72 = dktX3_note_3 := dk_seg dksX3_note_2 24 rfl rfl
theorem dksX3_note_4 : cX3_note.data.toList.drop 96 = dktX3_note_4 := dk_seg dksX3_note_3 24 rfl rfl
theorem dX3_note_0 : decode cX3_note 0 = .ok (.iload_n 1, 1) := dk_27 (dk_at dksX3_note_0 0 rfl rfl)
theorem dX3_note_1 : decode cX3_note 1 = .ok (.iconst (-1), 1) := dk_2 (dk_at dksX3_note_0 1 rfl rfl)
theorem dX3_note_2 : decode cX3_note 2 = .ok (.if_icmp .ne 12, 3) := dk_160 0 12 (dk_at dksX3_note_0 2 rfl rfl)
theorem dX3_note_5 : decode cX3_note 5 = .ok (.aload_n 0, 1) := dk_42 (dk_at dksX3_note_0 5 rfl rfl)
theorem dX3_note_6 : decode cX3_note 6 = .ok (.getfield 9, 3) := dk_180 0 9 (dk_at dksX3_note_0 6 rfl rfl)
theorem dX3_note_9 : decode cX3_note 9 = .ok (.iconst 5, 1) := dk_8 (dk_at dksX3_note_0 9 rfl rfl)
theorem dX3_note_10 : decode cX3_note 10 = .ok (.iconst 0, 1) := dk_3 (dk_at dksX3_note_0 10 rfl rfl)
theorem dX3_note_11 : decode cX3_note 11 = .ok (.iastore, 1) := dk_79 (dk_at dksX3_note_0 11 rfl rfl)
theorem dX3_note_12 : decode cX3_note 12 = .ok (.iconst 0, 1) := dk_3 (dk_at dksX3_note_0 12 rfl rfl)
theorem dX3_note_13 : decode cX3_note 13 = .ok (.ireturn, 1) := dk_172 (dk_at dksX3_note_0 13 rfl rfl)
theorem dX3_note_14 : decode cX3_note 14 = .ok (.aload_n 0, 1) := dk_42 (dk_at dksX3_note_0 14 rfl rfl)
theorem dX3_note_15 : decode cX3_note 15 = .ok (.getfield 9, 3) := dk_180 0 9 (dk_at dksX3_note_0 15 rfl rfl)
theorem dX3_note_18 : decode cX3_note 18 = .ok (.iconst 5, 1) := dk_8 (dk_at dksX3_note_0 18 rfl rfl)
theorem dX3_note_19 : decode cX3_note 19 = .ok (.iaload, 1) := dk_46 (dk_at dksX3_note_0 19 rfl rfl)
theorem dX3_note_20 : decode cX3_note 20 = .ok (.istore 4, 2) := dk_54 4 (dk_at dksX3_note_0 20 rfl rfl)
theorem dX3_note_22 : decode cX3_note 22 = .ok (.iload_n 1, 1) := dk_27 (dk_at dksX3_note_0 22 rfl rfl)
theorem dX3_note_23 : decode cX3_note 23 = .ok (.i2l, 1) := dk_133 (dk_at dksX3_note_0 23 rfl rfl)
theorem dX3_note_24 : decode cX3_note 24 = .ok (.lconst 0, 1) := dk_9 (dk_at dksX3_note_1 0 rfl rfl)
theorem dX3_note_25 : decode cX3_note 25 = .ok (.ldc2_w 457, 3) := dk_20 1 201 (dk_at dksX3_note_1 1 rfl rfl)
theorem dX3_note_28 : decode cX3_note 28 = .ok (.invokestatic 131, 3) := dk_184 0 131 (dk_at dksX3_note_1 4 rfl rfl)
theorem dX3_note_31 : decode cX3_note 31 = .ok (.ifCond .eq 30, 3) := dk_153 0 30 (dk_at dksX3_note_1 7 rfl rfl)
theorem dX3_note_34 : decode cX3_note 34 = .ok (.aload_n 0, 1) := dk_42 (dk_at dksX3_note_1 10 rfl rfl)
theorem dX3_note_35 : decode cX3_note 35 = .ok (.iload_n 2, 1) := dk_28 (dk_at dksX3_note_1 11 rfl rfl)
theorem dX3_note_36 : decode cX3_note 36 = .ok (.invokevirtual 362, 3) := dk_182 1 106 (dk_at dksX3_note_1 12 rfl rfl)
theorem dX3_note_39 : decode cX3_note 39 = .ok (.ifCond .eq 22, 3) := dk_153 0 22 (dk_at dksX3_note_1 15 rfl rfl)
theorem dX3_note_42 : decode cX3_note 42 = .ok (.iload_n 3, 1) := dk_29 (dk_at dksX3_note_1 18 rfl rfl)
theorem dX3_note_43 : decode cX3_note 43 = .ok (.i2l, 1) := dk_133 (dk_at dksX3_note_1 19 rfl rfl)
theorem dX3_note_44 : decode cX3_note 44 = .ok (.lconst 0, 1) := dk_9 (dk_at dksX3_note_1 20 rfl rfl)
theorem dX3_note_45 : decode cX3_note 45 = .ok (.ldc2_w 365, 3) := dk_20 1 109 (dk_at dksX3_note_1 21 rfl rfl)
theorem dX3_note_48 : decode cX3_note 48 = .ok (.invokestatic 131, 3) := dk_184 0 131 (dk_at dksX3_note_2 0 rfl rfl)
theorem dX3_note_51 : decode cX3_note 51 = .ok (.ifCond .eq 10, 3) := dk_153 0 10 (dk_at dksX3_note_2 3 rfl rfl)
theorem dX3_note_54 : decode cX3_note 54 = .ok (.iload 4, 2) := dk_21 4 (dk_at dksX3_note_2 6 rfl rfl)
theorem dX3_note_56 : decode cX3_note 56 = .ok (.bipush 10, 2) := dk_16 10 (dk_at dksX3_note_2 8 rfl rfl)
theorem dX3_note_58 : decode cX3_note 58 = .ok (.if_icmp .ne 6, 3) := dk_160 0 6 (dk_at dksX3_note_2 10 rfl rfl)
theorem dX3_note_61 : decode cX3_note 61 = .ok (.bipush (-2), 2) := dk_16 254 (dk_at dksX3_note_2 13 rfl rfl)
theorem dX3_note_63 : decode cX3_note 63 = .ok (.ireturn, 1) := dk_172 (dk_at dksX3_note_2 15 rfl rfl)
theorem dX3_note_64 : decode cX3_note 64 = .ok (.aload_n 0, 1) := dk_42 (dk_at dksX3_note_2 16 rfl rfl)
theorem dX3_note_65 : decode cX3_note 65 = .ok (.getfield 31, 3) := dk_180 0 31 (dk_at dksX3_note_2 17 rfl rfl)
theorem dX3_note_68 : decode cX3_note 68 = .ok (.iload 4, 2) := dk_21 4 (dk_at dksX3_note_2 20 rfl rfl)
theorem dX3_note_70 : decode cX3_note 70 = .ok (.iload_n 1, 1) := dk_27 (dk_at dksX3_note_2 22 rfl rfl)
theorem dX3_note_71 : decode cX3_note 71 = .ok (.iastore, 1) := dk_79 (dk_at dksX3_note_2 23 rfl rfl)
theorem dX3_note_72 : decode cX3_note 72 = .ok (.aload_n 0, 1) := dk_42 (dk_at dksX3_note_3 0 rfl rfl)
theorem dX3_note_73 : decode cX3_note 73 = .ok (.getfield 34, 3) := dk_180 0 34 (dk_at dksX3_note_3 1 rfl rfl)
theorem dX3_note_76 : decode cX3_note 76 = .ok (.iload 4, 2) := dk_21 4 (dk_at dksX3_note_3 4 rfl rfl)
theorem dX3_note_78 : decode cX3_note 78 = .ok (.iload_n 2, 1) := dk_28 (dk_at dksX3_note_3 6 rfl rfl)
theorem dX3_note_79 : decode cX3_note 79 = .ok (.iastore, 1) := dk_79 (dk_at dksX3_note_3 7 rfl rfl)
theorem dX3_note_80 : decode cX3_note 80 = .ok (.aload_n 0, 1) := dk_42 (dk_at dksX3_note_3 8 rfl rfl)
theorem dX3_note_81 : decode cX3_note 81 = .ok (.getfield 37, 3) := dk_180 0 37 (dk_at dksX3_note_3 9 rfl rfl)
theorem dX3_note_84 : decode cX3_note 84 = .ok (.iload 4, 2) := dk_21 4 (dk_at dksX3_note_3 12 rfl rfl)
theorem dX3_note_86 : decode cX3_note 86 = .ok (.iload_n 3, 1) := dk_29 (dk_at dksX3_note_3 14 rfl rfl)
theorem dX3_note_87 : decode cX3_note 87 = .ok (.iastore, 1) := dk_79 (dk_at dksX3_note_3 15 rfl rfl)
theorem dX3_note_88 : decode cX3_note 88 = .ok (.aload_n 0, 1) := dk_42 (dk_at dksX3_note_3 16 rfl rfl)
theorem dX3_note_89 : decode cX3_note 89 = .ok (.getfield 9, 3) := dk_180 0 9 (dk_at dksX3_note_3 17 rfl rfl)
theorem dX3_note_92 : decode cX3_note 92 = .ok (.iconst 5, 1) := dk_8 (dk_at dksX3_note_3 20 rfl rfl)
theorem dX3_note_93 : decode cX3_note 93 = .ok (.dup2, 1) := dk_92 (dk_at dksX3_note_3 21 rfl rfl)
theorem dX3_note_94 : decode cX3_note 94 = .ok (.iaload, 1) := dk_46 (dk_at dksX3_note_3 22 rfl rfl)
theorem dX3_note_95 : decode cX3_note 95 = .ok (.iconst 1, 1) := dk_4 (dk_at dksX3_note_3 23 rfl rfl)
theorem dX3_note_96 : decode cX3_note 96 = .ok (.iadd, 1) := dk_96 (dk_at dksX3_note_4 0 rfl rfl)
theorem dX3_note_97 : decode cX3_note 97 = .ok (.iastore, 1) := dk_79 (dk_at dksX3_note_4 1 rfl rfl)
theorem dX3_note_98 : decode cX3_note 98 = .ok (.iload 4, 2) := dk_21 4 (dk_at dksX3_note_4 2 rfl rfl)
theorem dX3_note_100 : decode cX3_note 100 = .ok (.iconst 1, 1) := dk_4 (dk_at dksX3_note_4 4 rfl rfl)
theorem dX3_note_101 : decode cX3_note 101 = .ok (.iadd, 1) := dk_96 (dk_at dksX3_note_4 5 rfl rfl)
theorem dX3_note_102 : decode cX3_note 102 = .ok (.ireturn, 1) := dk_172 (dk_at dksX3_note_4 6 rfl rfl)
abbrev cX3_ruled : ByteArray := prog_17_method_99_code
def yX3_ruled : MethodName := ⟨RX3, "ruled", "(I)I"⟩
def dkwX3_ruled_3 : List UInt8 := [154, 0, 7, 28, 167, 0, 4, 29, 172]
abbrev dktX3_ruled_3 : List UInt8 := dkwX3_ruled_3 ++ []
def dkwX3_ruled_2 : List UInt8 := [153, 0, 17, 28, 154, 0, 8, 21, 4, 167, 0, 4, 29, 62, 132, 2, 1, 132, 4, 1, 167, 255, 221, 27]
abbrev dktX3_ruled_2 : List UInt8 := dkwX3_ruled_2 ++ dktX3_ruled_3
def dkwX3_ruled_1 : List UInt8 := [3, 61, 16, 254, 62, 2, 54, 4, 21, 4, 42, 180, 1, 56, 162, 0, 32, 42, 21, 4, 182, 1, 206]
abbrev dktX3_ruled_1 : List UInt8 := dkwX3_ruled_1 ++ dktX3_ruled_2
def dkwX3_ruled_0 : List UInt8 := [42, 182, 1, 148, 153, 0, 13, 27, 133, 9, 10, 184, 0, 131, 154, 0, 6, 16, 253, 172, 42, 182, 1, 164]
abbrev dktX3_ruled_0 : List UInt8 := dkwX3_ruled_0 ++ dktX3_ruled_1
theorem dksX3_ruled_0 : cX3_ruled.data.toList.drop 0 = dktX3_ruled_0 := by decide +kernel
theorem dksX3_ruled_1 : cX3_ruled.data.toList.drop 24 = dktX3_ruled_1 := dk_seg dksX3_ruled_0 24 rfl rfl
theorem dksX3_ruled_2 : cX3_ruled.data.toList.drop 47 = dktX3_ruled_2 := dk_seg dksX3_ruled_1 23 rfl rfl
theorem dksX3_ruled_3 : cX3_ruled.data.toList.drop 71 = dktX3_ruled_3 := dk_seg dksX3_ruled_2 24 rfl rfl
theorem dX3_ruled_0 : decode cX3_ruled 0 = .ok (.aload_n 0, 1) := dk_42 (dk_at dksX3_ruled_0 0 rfl rfl)
theorem dX3_ruled_1 : decode cX3_ruled 1 = .ok (.invokevirtual 404, 3) := dk_182 1 148 (dk_at dksX3_ruled_0 1 rfl rfl)
theorem dX3_ruled_4 : decode cX3_ruled 4 = .ok (.ifCond .eq 13, 3) := dk_153 0 13 (dk_at dksX3_ruled_0 4 rfl rfl)
theorem dX3_ruled_7 : decode cX3_ruled 7 = .ok (.iload_n 1, 1) := dk_27 (dk_at dksX3_ruled_0 7 rfl rfl)
theorem dX3_ruled_8 : decode cX3_ruled 8 = .ok (.i2l, 1) := dk_133 (dk_at dksX3_ruled_0 8 rfl rfl)
theorem dX3_ruled_9 : decode cX3_ruled 9 = .ok (.lconst 0, 1) := dk_9 (dk_at dksX3_ruled_0 9 rfl rfl)
theorem dX3_ruled_10 : decode cX3_ruled 10 = .ok (.lconst 1, 1) := dk_10 (dk_at dksX3_ruled_0 10 rfl rfl)
theorem dX3_ruled_11 : decode cX3_ruled 11 = .ok (.invokestatic 131, 3) := dk_184 0 131 (dk_at dksX3_ruled_0 11 rfl rfl)
theorem dX3_ruled_14 : decode cX3_ruled 14 = .ok (.ifCond .ne 6, 3) := dk_154 0 6 (dk_at dksX3_ruled_0 14 rfl rfl)
theorem dX3_ruled_17 : decode cX3_ruled 17 = .ok (.bipush (-3), 2) := dk_16 253 (dk_at dksX3_ruled_0 17 rfl rfl)
theorem dX3_ruled_19 : decode cX3_ruled 19 = .ok (.ireturn, 1) := dk_172 (dk_at dksX3_ruled_0 19 rfl rfl)
theorem dX3_ruled_20 : decode cX3_ruled 20 = .ok (.aload_n 0, 1) := dk_42 (dk_at dksX3_ruled_0 20 rfl rfl)
theorem dX3_ruled_21 : decode cX3_ruled 21 = .ok (.invokevirtual 420, 3) := dk_182 1 164 (dk_at dksX3_ruled_0 21 rfl rfl)
theorem dX3_ruled_24 : decode cX3_ruled 24 = .ok (.iconst 0, 1) := dk_3 (dk_at dksX3_ruled_1 0 rfl rfl)
theorem dX3_ruled_25 : decode cX3_ruled 25 = .ok (.istore_n 2, 1) := dk_61 (dk_at dksX3_ruled_1 1 rfl rfl)
theorem dX3_ruled_26 : decode cX3_ruled 26 = .ok (.bipush (-2), 2) := dk_16 254 (dk_at dksX3_ruled_1 2 rfl rfl)
theorem dX3_ruled_28 : decode cX3_ruled 28 = .ok (.istore_n 3, 1) := dk_62 (dk_at dksX3_ruled_1 4 rfl rfl)
theorem dX3_ruled_29 : decode cX3_ruled 29 = .ok (.iconst (-1), 1) := dk_2 (dk_at dksX3_ruled_1 5 rfl rfl)
theorem dX3_ruled_30 : decode cX3_ruled 30 = .ok (.istore 4, 2) := dk_54 4 (dk_at dksX3_ruled_1 6 rfl rfl)
theorem dX3_ruled_32 : decode cX3_ruled 32 = .ok (.iload 4, 2) := dk_21 4 (dk_at dksX3_ruled_1 8 rfl rfl)
theorem dX3_ruled_34 : decode cX3_ruled 34 = .ok (.aload_n 0, 1) := dk_42 (dk_at dksX3_ruled_1 10 rfl rfl)
theorem dX3_ruled_35 : decode cX3_ruled 35 = .ok (.getfield 312, 3) := dk_180 1 56 (dk_at dksX3_ruled_1 11 rfl rfl)
theorem dX3_ruled_38 : decode cX3_ruled 38 = .ok (.if_icmp .ge 32, 3) := dk_162 0 32 (dk_at dksX3_ruled_1 14 rfl rfl)
theorem dX3_ruled_41 : decode cX3_ruled 41 = .ok (.aload_n 0, 1) := dk_42 (dk_at dksX3_ruled_1 17 rfl rfl)
theorem dX3_ruled_42 : decode cX3_ruled 42 = .ok (.iload 4, 2) := dk_21 4 (dk_at dksX3_ruled_1 18 rfl rfl)
theorem dX3_ruled_44 : decode cX3_ruled 44 = .ok (.invokevirtual 462, 3) := dk_182 1 206 (dk_at dksX3_ruled_1 20 rfl rfl)
theorem dX3_ruled_47 : decode cX3_ruled 47 = .ok (.ifCond .eq 17, 3) := dk_153 0 17 (dk_at dksX3_ruled_2 0 rfl rfl)
theorem dX3_ruled_50 : decode cX3_ruled 50 = .ok (.iload_n 2, 1) := dk_28 (dk_at dksX3_ruled_2 3 rfl rfl)
theorem dX3_ruled_51 : decode cX3_ruled 51 = .ok (.ifCond .ne 8, 3) := dk_154 0 8 (dk_at dksX3_ruled_2 4 rfl rfl)
theorem dX3_ruled_54 : decode cX3_ruled 54 = .ok (.iload 4, 2) := dk_21 4 (dk_at dksX3_ruled_2 7 rfl rfl)
theorem dX3_ruled_56 : decode cX3_ruled 56 = .ok (.goto 4, 3) := dk_167 0 4 (dk_at dksX3_ruled_2 9 rfl rfl)
theorem dX3_ruled_59 : decode cX3_ruled 59 = .ok (.iload_n 3, 1) := dk_29 (dk_at dksX3_ruled_2 12 rfl rfl)
theorem dX3_ruled_60 : decode cX3_ruled 60 = .ok (.istore_n 3, 1) := dk_62 (dk_at dksX3_ruled_2 13 rfl rfl)
theorem dX3_ruled_61 : decode cX3_ruled 61 = .ok (.iinc 2 1, 3) := dk_132 2 1 (dk_at dksX3_ruled_2 14 rfl rfl)
theorem dX3_ruled_64 : decode cX3_ruled 64 = .ok (.iinc 4 1, 3) := dk_132 4 1 (dk_at dksX3_ruled_2 17 rfl rfl)
theorem dX3_ruled_67 : decode cX3_ruled 67 = .ok (.goto (-35), 3) := dk_167 255 221 (dk_at dksX3_ruled_2 20 rfl rfl)
theorem dX3_ruled_70 : decode cX3_ruled 70 = .ok (.iload_n 1, 1) := dk_27 (dk_at dksX3_ruled_2 23 rfl rfl)
theorem dX3_ruled_71 : decode cX3_ruled 71 = .ok (.ifCond .ne 7, 3) := dk_154 0 7 (dk_at dksX3_ruled_3 0 rfl rfl)
theorem dX3_ruled_74 : decode cX3_ruled 74 = .ok (.iload_n 2, 1) := dk_28 (dk_at dksX3_ruled_3 3 rfl rfl)
theorem dX3_ruled_75 : decode cX3_ruled 75 = .ok (.goto 4, 3) := dk_167 0 4 (dk_at dksX3_ruled_3 4 rfl rfl)
theorem dX3_ruled_78 : decode cX3_ruled 78 = .ok (.iload_n 3, 1) := dk_29 (dk_at dksX3_ruled_3 7 rfl rfl)
theorem dX3_ruled_79 : decode cX3_ruled 79 = .ok (.ireturn, 1) := dk_172 (dk_at dksX3_ruled_3 8 rfl rfl)
abbrev cX3_couldRule : ByteArray := prog_17_method_98_code
def yX3_couldRule : MethodName := ⟨RX3, "couldRule", "(I)Z"⟩
def dkwX3_couldRule_0 : List UInt8 := [42, 180, 0, 9, 16, 7, 27, 79, 42, 182, 1, 40, 42, 182, 1, 203, 172]
abbrev dktX3_couldRule_0 : List UInt8 := dkwX3_couldRule_0 ++ []
theorem dksX3_couldRule_0 : cX3_couldRule.data.toList.drop 0 = dktX3_couldRule_0 := by decide +kernel
theorem dX3_couldRule_0 : decode cX3_couldRule 0 = .ok (.aload_n 0, 1) := dk_42 (dk_at dksX3_couldRule_0 0 rfl rfl)
theorem dX3_couldRule_1 : decode cX3_couldRule 1 = .ok (.getfield 9, 3) := dk_180 0 9 (dk_at dksX3_couldRule_0 1 rfl rfl)
theorem dX3_couldRule_4 : decode cX3_couldRule 4 = .ok (.bipush 7, 2) := dk_16 7 (dk_at dksX3_couldRule_0 4 rfl rfl)
theorem dX3_couldRule_6 : decode cX3_couldRule 6 = .ok (.iload_n 1, 1) := dk_27 (dk_at dksX3_couldRule_0 6 rfl rfl)
theorem dX3_couldRule_7 : decode cX3_couldRule 7 = .ok (.iastore, 1) := dk_79 (dk_at dksX3_couldRule_0 7 rfl rfl)
theorem dX3_couldRule_8 : decode cX3_couldRule 8 = .ok (.aload_n 0, 1) := dk_42 (dk_at dksX3_couldRule_0 8 rfl rfl)
theorem dX3_couldRule_9 : decode cX3_couldRule 9 = .ok (.invokevirtual 296, 3) := dk_182 1 40 (dk_at dksX3_couldRule_0 9 rfl rfl)
theorem dX3_couldRule_12 : decode cX3_couldRule 12 = .ok (.aload_n 0, 1) := dk_42 (dk_at dksX3_couldRule_0 12 rfl rfl)
theorem dX3_couldRule_13 : decode cX3_couldRule 13 = .ok (.invokevirtual 459, 3) := dk_182 1 203 (dk_at dksX3_couldRule_0 13 rfl rfl)
theorem dX3_couldRule_16 : decode cX3_couldRule 16 = .ok (.ireturn, 1) := dk_172 (dk_at dksX3_couldRule_0 16 rfl rfl)
abbrev cX3_doNotesFit : ByteArray := prog_17_method_97_code
def yX3_doNotesFit : MethodName := ⟨RX3, "doNotesFit", "()Z"⟩
def dkwX3_doNotesFit_2 : List UInt8 := [159, 0, 5, 3, 172, 132, 1, 1, 167, 255, 211, 4, 172]
abbrev dktX3_doNotesFit_2 : List UInt8 := dkwX3_doNotesFit_2 ++ []
def dkwX3_doNotesFit_1 : List UInt8 := [16, 8, 42, 180, 0, 31, 27, 46, 104, 42, 180, 0, 34, 27, 46, 96, 46, 42, 180, 0, 37, 27, 46]
abbrev dktX3_doNotesFit_1 : List UInt8 := dkwX3_doNotesFit_1 ++ dktX3_doNotesFit_2
def dkwX3_doNotesFit_0 : List UInt8 := [42, 182, 1, 190, 42, 182, 1, 170, 3, 60, 27, 42, 180, 0, 9, 8, 46, 162, 0, 41, 42, 180, 0, 116]
abbrev dktX3_doNotesFit_0 : List UInt8 := dkwX3_doNotesFit_0 ++ dktX3_doNotesFit_1
theorem dksX3_doNotesFit_0 : cX3_doNotesFit.data.toList.drop 0 = dktX3_doNotesFit_0 := by decide +kernel
theorem dksX3_doNotesFit_1 : cX3_doNotesFit.data.toList.drop 24 = dktX3_doNotesFit_1 := dk_seg dksX3_doNotesFit_0 24 rfl rfl
theorem dksX3_doNotesFit_2 : cX3_doNotesFit.data.toList.drop 47 = dktX3_doNotesFit_2 := dk_seg dksX3_doNotesFit_1 23 rfl rfl
theorem dX3_doNotesFit_0 : decode cX3_doNotesFit 0 = .ok (.aload_n 0, 1) := dk_42 (dk_at dksX3_doNotesFit_0 0 rfl rfl)
theorem dX3_doNotesFit_1 : decode cX3_doNotesFit 1 = .ok (.invokevirtual 446, 3) := dk_182 1 190 (dk_at dksX3_doNotesFit_0 1 rfl rfl)
theorem dX3_doNotesFit_4 : decode cX3_doNotesFit 4 = .ok (.aload_n 0, 1) := dk_42 (dk_at dksX3_doNotesFit_0 4 rfl rfl)
theorem dX3_doNotesFit_5 : decode cX3_doNotesFit 5 = .ok (.invokevirtual 426, 3) := dk_182 1 170 (dk_at dksX3_doNotesFit_0 5 rfl rfl)
theorem dX3_doNotesFit_8 : decode cX3_doNotesFit 8 = .ok (.iconst 0, 1) := dk_3 (dk_at dksX3_doNotesFit_0 8 rfl rfl)
theorem dX3_doNotesFit_9 : decode cX3_doNotesFit 9 = .ok (.istore_n 1, 1) := dk_60 (dk_at dksX3_doNotesFit_0 9 rfl rfl)
theorem dX3_doNotesFit_10 : decode cX3_doNotesFit 10 = .ok (.iload_n 1, 1) := dk_27 (dk_at dksX3_doNotesFit_0 10 rfl rfl)
theorem dX3_doNotesFit_11 : decode cX3_doNotesFit 11 = .ok (.aload_n 0, 1) := dk_42 (dk_at dksX3_doNotesFit_0 11 rfl rfl)
theorem dX3_doNotesFit_12 : decode cX3_doNotesFit 12 = .ok (.getfield 9, 3) := dk_180 0 9 (dk_at dksX3_doNotesFit_0 12 rfl rfl)
theorem dX3_doNotesFit_15 : decode cX3_doNotesFit 15 = .ok (.iconst 5, 1) := dk_8 (dk_at dksX3_doNotesFit_0 15 rfl rfl)
theorem dX3_doNotesFit_16 : decode cX3_doNotesFit 16 = .ok (.iaload, 1) := dk_46 (dk_at dksX3_doNotesFit_0 16 rfl rfl)
theorem dX3_doNotesFit_17 : decode cX3_doNotesFit 17 = .ok (.if_icmp .ge 41, 3) := dk_162 0 41 (dk_at dksX3_doNotesFit_0 17 rfl rfl)
theorem dX3_doNotesFit_20 : decode cX3_doNotesFit 20 = .ok (.aload_n 0, 1) := dk_42 (dk_at dksX3_doNotesFit_0 20 rfl rfl)
theorem dX3_doNotesFit_21 : decode cX3_doNotesFit 21 = .ok (.getfield 116, 3) := dk_180 0 116 (dk_at dksX3_doNotesFit_0 21 rfl rfl)
theorem dX3_doNotesFit_24 : decode cX3_doNotesFit 24 = .ok (.bipush 8, 2) := dk_16 8 (dk_at dksX3_doNotesFit_1 0 rfl rfl)
theorem dX3_doNotesFit_26 : decode cX3_doNotesFit 26 = .ok (.aload_n 0, 1) := dk_42 (dk_at dksX3_doNotesFit_1 2 rfl rfl)
theorem dX3_doNotesFit_27 : decode cX3_doNotesFit 27 = .ok (.getfield 31, 3) := dk_180 0 31 (dk_at dksX3_doNotesFit_1 3 rfl rfl)
theorem dX3_doNotesFit_30 : decode cX3_doNotesFit 30 = .ok (.iload_n 1, 1) := dk_27 (dk_at dksX3_doNotesFit_1 6 rfl rfl)
theorem dX3_doNotesFit_31 : decode cX3_doNotesFit 31 = .ok (.iaload, 1) := dk_46 (dk_at dksX3_doNotesFit_1 7 rfl rfl)
theorem dX3_doNotesFit_32 : decode cX3_doNotesFit 32 = .ok (.imul, 1) := dk_104 (dk_at dksX3_doNotesFit_1 8 rfl rfl)
theorem dX3_doNotesFit_33 : decode cX3_doNotesFit 33 = .ok (.aload_n 0, 1) := dk_42 (dk_at dksX3_doNotesFit_1 9 rfl rfl)
theorem dX3_doNotesFit_34 : decode cX3_doNotesFit 34 = .ok (.getfield 34, 3) := dk_180 0 34 (dk_at dksX3_doNotesFit_1 10 rfl rfl)
theorem dX3_doNotesFit_37 : decode cX3_doNotesFit 37 = .ok (.iload_n 1, 1) := dk_27 (dk_at dksX3_doNotesFit_1 13 rfl rfl)
theorem dX3_doNotesFit_38 : decode cX3_doNotesFit 38 = .ok (.iaload, 1) := dk_46 (dk_at dksX3_doNotesFit_1 14 rfl rfl)
theorem dX3_doNotesFit_39 : decode cX3_doNotesFit 39 = .ok (.iadd, 1) := dk_96 (dk_at dksX3_doNotesFit_1 15 rfl rfl)
theorem dX3_doNotesFit_40 : decode cX3_doNotesFit 40 = .ok (.iaload, 1) := dk_46 (dk_at dksX3_doNotesFit_1 16 rfl rfl)
theorem dX3_doNotesFit_41 : decode cX3_doNotesFit 41 = .ok (.aload_n 0, 1) := dk_42 (dk_at dksX3_doNotesFit_1 17 rfl rfl)
theorem dX3_doNotesFit_42 : decode cX3_doNotesFit 42 = .ok (.getfield 37, 3) := dk_180 0 37 (dk_at dksX3_doNotesFit_1 18 rfl rfl)
theorem dX3_doNotesFit_45 : decode cX3_doNotesFit 45 = .ok (.iload_n 1, 1) := dk_27 (dk_at dksX3_doNotesFit_1 21 rfl rfl)
theorem dX3_doNotesFit_46 : decode cX3_doNotesFit 46 = .ok (.iaload, 1) := dk_46 (dk_at dksX3_doNotesFit_1 22 rfl rfl)
theorem dX3_doNotesFit_47 : decode cX3_doNotesFit 47 = .ok (.if_icmp .eq 5, 3) := dk_159 0 5 (dk_at dksX3_doNotesFit_2 0 rfl rfl)
theorem dX3_doNotesFit_50 : decode cX3_doNotesFit 50 = .ok (.iconst 0, 1) := dk_3 (dk_at dksX3_doNotesFit_2 3 rfl rfl)
theorem dX3_doNotesFit_51 : decode cX3_doNotesFit 51 = .ok (.ireturn, 1) := dk_172 (dk_at dksX3_doNotesFit_2 4 rfl rfl)
theorem dX3_doNotesFit_52 : decode cX3_doNotesFit 52 = .ok (.iinc 1 1, 3) := dk_132 1 1 (dk_at dksX3_doNotesFit_2 5 rfl rfl)
theorem dX3_doNotesFit_55 : decode cX3_doNotesFit 55 = .ok (.goto (-45), 3) := dk_167 255 211 (dk_at dksX3_doNotesFit_2 8 rfl rfl)
theorem dX3_doNotesFit_58 : decode cX3_doNotesFit 58 = .ok (.iconst 1, 1) := dk_4 (dk_at dksX3_doNotesFit_2 11 rfl rfl)
theorem dX3_doNotesFit_59 : decode cX3_doNotesFit 59 = .ok (.ireturn, 1) := dk_172 (dk_at dksX3_doNotesFit_2 12 rfl rfl)
abbrev cX3_strung : ByteArray := prog_17_method_100_code
def yX3_strung : MethodName := ⟨RX3, "strung", "(I)I"⟩
def dkwX3_strung_2 : List UInt8 := [29, 120, 167, 0, 4, 3, 128, 61, 132, 3, 1, 167, 255, 215, 28, 172]
abbrev dktX3_strung_2 : List UInt8 := dkwX3_strung_2 ++ []
def dkwX3_strung_1 : List UInt8 := [46, 162, 0, 37, 42, 182, 1, 40, 42, 180, 0, 19, 27, 29, 79, 28, 42, 182, 1, 203, 153, 0, 9, 4]
abbrev dktX3_strung_1 : List UInt8 := dkwX3_strung_1 ++ dktX3_strung_2
def dkwX3_strung_0 : List UInt8 := [42, 27, 182, 1, 95, 154, 0, 5, 2, 172, 42, 182, 1, 164, 3, 61, 3, 62, 29, 42, 180, 0, 9, 4]
abbrev dktX3_strung_0 : List UInt8 := dkwX3_strung_0 ++ dktX3_strung_1
theorem dksX3_strung_0 : cX3_strung.data.toList.drop 0 = dktX3_strung_0 := by decide +kernel
theorem dksX3_strung_1 : cX3_strung.data.toList.drop 24 = dktX3_strung_1 := dk_seg dksX3_strung_0 24 rfl rfl
theorem dksX3_strung_2 : cX3_strung.data.toList.drop 48 = dktX3_strung_2 := dk_seg dksX3_strung_1 24 rfl rfl
theorem dX3_strung_0 : decode cX3_strung 0 = .ok (.aload_n 0, 1) := dk_42 (dk_at dksX3_strung_0 0 rfl rfl)
theorem dX3_strung_1 : decode cX3_strung 1 = .ok (.iload_n 1, 1) := dk_27 (dk_at dksX3_strung_0 1 rfl rfl)
theorem dX3_strung_2 : decode cX3_strung 2 = .ok (.invokevirtual 351, 3) := dk_182 1 95 (dk_at dksX3_strung_0 2 rfl rfl)
theorem dX3_strung_5 : decode cX3_strung 5 = .ok (.ifCond .ne 5, 3) := dk_154 0 5 (dk_at dksX3_strung_0 5 rfl rfl)
theorem dX3_strung_8 : decode cX3_strung 8 = .ok (.iconst (-1), 1) := dk_2 (dk_at dksX3_strung_0 8 rfl rfl)
theorem dX3_strung_9 : decode cX3_strung 9 = .ok (.ireturn, 1) := dk_172 (dk_at dksX3_strung_0 9 rfl rfl)
theorem dX3_strung_10 : decode cX3_strung 10 = .ok (.aload_n 0, 1) := dk_42 (dk_at dksX3_strung_0 10 rfl rfl)
theorem dX3_strung_11 : decode cX3_strung 11 = .ok (.invokevirtual 420, 3) := dk_182 1 164 (dk_at dksX3_strung_0 11 rfl rfl)
theorem dX3_strung_14 : decode cX3_strung 14 = .ok (.iconst 0, 1) := dk_3 (dk_at dksX3_strung_0 14 rfl rfl)
theorem dX3_strung_15 : decode cX3_strung 15 = .ok (.istore_n 2, 1) := dk_61 (dk_at dksX3_strung_0 15 rfl rfl)
theorem dX3_strung_16 : decode cX3_strung 16 = .ok (.iconst 0, 1) := dk_3 (dk_at dksX3_strung_0 16 rfl rfl)
theorem dX3_strung_17 : decode cX3_strung 17 = .ok (.istore_n 3, 1) := dk_62 (dk_at dksX3_strung_0 17 rfl rfl)
theorem dX3_strung_18 : decode cX3_strung 18 = .ok (.iload_n 3, 1) := dk_29 (dk_at dksX3_strung_0 18 rfl rfl)
theorem dX3_strung_19 : decode cX3_strung 19 = .ok (.aload_n 0, 1) := dk_42 (dk_at dksX3_strung_0 19 rfl rfl)
theorem dX3_strung_20 : decode cX3_strung 20 = .ok (.getfield 9, 3) := dk_180 0 9 (dk_at dksX3_strung_0 20 rfl rfl)
theorem dX3_strung_23 : decode cX3_strung 23 = .ok (.iconst 1, 1) := dk_4 (dk_at dksX3_strung_0 23 rfl rfl)
theorem dX3_strung_24 : decode cX3_strung 24 = .ok (.iaload, 1) := dk_46 (dk_at dksX3_strung_1 0 rfl rfl)
theorem dX3_strung_25 : decode cX3_strung 25 = .ok (.if_icmp .ge 37, 3) := dk_162 0 37 (dk_at dksX3_strung_1 1 rfl rfl)
theorem dX3_strung_28 : decode cX3_strung 28 = .ok (.aload_n 0, 1) := dk_42 (dk_at dksX3_strung_1 4 rfl rfl)
theorem dX3_strung_29 : decode cX3_strung 29 = .ok (.invokevirtual 296, 3) := dk_182 1 40 (dk_at dksX3_strung_1 5 rfl rfl)
theorem dX3_strung_32 : decode cX3_strung 32 = .ok (.aload_n 0, 1) := dk_42 (dk_at dksX3_strung_1 8 rfl rfl)
theorem dX3_strung_33 : decode cX3_strung 33 = .ok (.getfield 19, 3) := dk_180 0 19 (dk_at dksX3_strung_1 9 rfl rfl)
theorem dX3_strung_36 : decode cX3_strung 36 = .ok (.iload_n 1, 1) := dk_27 (dk_at dksX3_strung_1 12 rfl rfl)
theorem dX3_strung_37 : decode cX3_strung 37 = .ok (.iload_n 3, 1) := dk_29 (dk_at dksX3_strung_1 13 rfl rfl)
theorem dX3_strung_38 : decode cX3_strung 38 = .ok (.iastore, 1) := dk_79 (dk_at dksX3_strung_1 14 rfl rfl)
theorem dX3_strung_39 : decode cX3_strung 39 = .ok (.iload_n 2, 1) := dk_28 (dk_at dksX3_strung_1 15 rfl rfl)
theorem dX3_strung_40 : decode cX3_strung 40 = .ok (.aload_n 0, 1) := dk_42 (dk_at dksX3_strung_1 16 rfl rfl)
theorem dX3_strung_41 : decode cX3_strung 41 = .ok (.invokevirtual 459, 3) := dk_182 1 203 (dk_at dksX3_strung_1 17 rfl rfl)
theorem dX3_strung_44 : decode cX3_strung 44 = .ok (.ifCond .eq 9, 3) := dk_153 0 9 (dk_at dksX3_strung_1 20 rfl rfl)
theorem dX3_strung_47 : decode cX3_strung 47 = .ok (.iconst 1, 1) := dk_4 (dk_at dksX3_strung_1 23 rfl rfl)
theorem dX3_strung_48 : decode cX3_strung 48 = .ok (.iload_n 3, 1) := dk_29 (dk_at dksX3_strung_2 0 rfl rfl)
theorem dX3_strung_49 : decode cX3_strung 49 = .ok (.ishl, 1) := dk_120 (dk_at dksX3_strung_2 1 rfl rfl)
theorem dX3_strung_50 : decode cX3_strung 50 = .ok (.goto 4, 3) := dk_167 0 4 (dk_at dksX3_strung_2 2 rfl rfl)
theorem dX3_strung_53 : decode cX3_strung 53 = .ok (.iconst 0, 1) := dk_3 (dk_at dksX3_strung_2 5 rfl rfl)
theorem dX3_strung_54 : decode cX3_strung 54 = .ok (.ior, 1) := dk_128 (dk_at dksX3_strung_2 6 rfl rfl)
theorem dX3_strung_55 : decode cX3_strung 55 = .ok (.istore_n 2, 1) := dk_61 (dk_at dksX3_strung_2 7 rfl rfl)
theorem dX3_strung_56 : decode cX3_strung 56 = .ok (.iinc 3 1, 3) := dk_132 3 1 (dk_at dksX3_strung_2 8 rfl rfl)
theorem dX3_strung_59 : decode cX3_strung 59 = .ok (.goto (-41), 3) := dk_167 255 215 (dk_at dksX3_strung_2 11 rfl rfl)
theorem dX3_strung_62 : decode cX3_strung 62 = .ok (.iload_n 2, 1) := dk_28 (dk_at dksX3_strung_2 14 rfl rfl)
theorem dX3_strung_63 : decode cX3_strung 63 = .ok (.ireturn, 1) := dk_172 (dk_at dksX3_strung_2 15 rfl rfl)
abbrev cX3_look : ByteArray := prog_17_method_102_code
def yX3_look : MethodName := ⟨RX3, "look", "(II)I"⟩
def dkwX3_look_8 : List UInt8 := [172]
abbrev dktX3_look_8 : List UInt8 := dkwX3_look_8 ++ []
def dkwX3_look_7 : List UInt8 := [54, 4, 132, 5, 1, 167, 255, 216, 28, 154, 0, 8, 21, 4, 167, 0, 10, 42, 21, 4, 29, 182, 1, 209]
abbrev dktX3_look_7 : List UInt8 := dkwX3_look_7 ++ dktX3_look_8
def dkwX3_look_6 : List UInt8 := [42, 21, 5, 29, 182, 1, 209, 42, 21, 4, 29, 182, 1, 209, 162, 0, 8, 21, 5, 167, 0, 5, 21, 4]
abbrev dktX3_look_6 : List UInt8 := dkwX3_look_6 ++ dktX3_look_7
def dkwX3_look_5 : List UInt8 := [46, 154, 0, 6, 16, 254, 172, 3, 54, 4, 4, 54, 5, 21, 5, 42, 180, 0, 9, 6, 46, 162, 0, 35]
abbrev dktX3_look_5 : List UInt8 := dkwX3_look_5 ++ dktX3_look_6
def dkwX3_look_4 : List UInt8 := [132, 5, 1, 167, 255, 222, 132, 3, 1, 132, 4, 1, 167, 255, 192, 29, 153, 0, 12, 42, 180, 0, 9, 6]
abbrev dktX3_look_4 : List UInt8 := dkwX3_look_4 ++ dktX3_look_5
def dkwX3_look_3 : List UInt8 := [180, 0, 119, 16, 8, 29, 104, 21, 5, 96, 42, 180, 0, 116, 16, 8, 27, 104, 21, 5, 96, 46, 79]
abbrev dktX3_look_3 : List UInt8 := dkwX3_look_3 ++ dktX3_look_4
def dkwX3_look_2 : List UInt8 := [162, 0, 61, 42, 21, 4, 182, 1, 206, 153, 0, 46, 3, 54, 5, 21, 5, 16, 8, 162, 0, 33, 42]
abbrev dktX3_look_2 : List UInt8 := dkwX3_look_2 ++ dktX3_look_3
def dkwX3_look_1 : List UInt8 := [184, 0, 131, 154, 0, 5, 2, 172, 42, 182, 1, 164, 3, 62, 2, 54, 4, 21, 4, 42, 180, 1, 56]
abbrev dktX3_look_1 : List UInt8 := dkwX3_look_1 ++ dktX3_look_2
def dkwX3_look_0 : List UInt8 := [42, 182, 1, 148, 153, 0, 25, 27, 133, 9, 20, 1, 201, 184, 0, 131, 153, 0, 13, 28, 133, 9, 10]
abbrev dktX3_look_0 : List UInt8 := dkwX3_look_0 ++ dktX3_look_1
theorem dksX3_look_0 : cX3_look.data.toList.drop 0 = dktX3_look_0 := by decide +kernel
theorem dksX3_look_1 : cX3_look.data.toList.drop 23 = dktX3_look_1 := dk_seg dksX3_look_0 23 rfl rfl
theorem dksX3_look_2 : cX3_look.data.toList.drop 46 = dktX3_look_2 := dk_seg dksX3_look_1 23 rfl rfl
theorem dksX3_look_3 : cX3_look.data.toList.drop 69 = dktX3_look_3 := dk_seg dksX3_look_2 23 rfl rfl
theorem dksX3_look_4 : cX3_look.data.toList.drop 92 = dktX3_look_4 := dk_seg dksX3_look_3 23 rfl rfl
theorem dksX3_look_5 : cX3_look.data.toList.drop 116 = dktX3_look_5 := dk_seg dksX3_look_4 24 rfl rfl
theorem dksX3_look_6 : cX3_look.data.toList.drop 140 = dktX3_look_6 := dk_seg dksX3_look_5 24 rfl rfl
theorem dksX3_look_7 : cX3_look.data.toList.drop 164 = dktX3_look_7 := dk_seg dksX3_look_6 24 rfl rfl
theorem dksX3_look_8 : cX3_look.data.toList.drop 188 = dktX3_look_8 := dk_seg dksX3_look_7 24 rfl rfl
theorem dX3_look_0 : decode cX3_look 0 = .ok (.aload_n 0, 1) := dk_42 (dk_at dksX3_look_0 0 rfl rfl)
theorem dX3_look_1 : decode cX3_look 1 = .ok (.invokevirtual 404, 3) := dk_182 1 148 (dk_at dksX3_look_0 1 rfl rfl)
theorem dX3_look_4 : decode cX3_look 4 = .ok (.ifCond .eq 25, 3) := dk_153 0 25 (dk_at dksX3_look_0 4 rfl rfl)
theorem dX3_look_7 : decode cX3_look 7 = .ok (.iload_n 1, 1) := dk_27 (dk_at dksX3_look_0 7 rfl rfl)
theorem dX3_look_8 : decode cX3_look 8 = .ok (.i2l, 1) := dk_133 (dk_at dksX3_look_0 8 rfl rfl)
theorem dX3_look_9 : decode cX3_look 9 = .ok (.lconst 0, 1) := dk_9 (dk_at dksX3_look_0 9 rfl rfl)
theorem dX3_look_10 : decode cX3_look 10 = .ok (.ldc2_w 457, 3) := dk_20 1 201 (dk_at dksX3_look_0 10 rfl rfl)
theorem dX3_look_13 : decode cX3_look 13 = .ok (.invokestatic 131, 3) := dk_184 0 131 (dk_at dksX3_look_0 13 rfl rfl)
theorem dX3_look_16 : decode cX3_look 16 = .ok (.ifCond .eq 13, 3) := dk_153 0 13 (dk_at dksX3_look_0 16 rfl rfl)
theorem dX3_look_19 : decode cX3_look 19 = .ok (.iload_n 2, 1) := dk_28 (dk_at dksX3_look_0 19 rfl rfl)
theorem dX3_look_20 : decode cX3_look 20 = .ok (.i2l, 1) := dk_133 (dk_at dksX3_look_0 20 rfl rfl)
theorem dX3_look_21 : decode cX3_look 21 = .ok (.lconst 0, 1) := dk_9 (dk_at dksX3_look_0 21 rfl rfl)
theorem dX3_look_22 : decode cX3_look 22 = .ok (.lconst 1, 1) := dk_10 (dk_at dksX3_look_0 22 rfl rfl)
theorem dX3_look_23 : decode cX3_look 23 = .ok (.invokestatic 131, 3) := dk_184 0 131 (dk_at dksX3_look_1 0 rfl rfl)
theorem dX3_look_26 : decode cX3_look 26 = .ok (.ifCond .ne 5, 3) := dk_154 0 5 (dk_at dksX3_look_1 3 rfl rfl)
theorem dX3_look_29 : decode cX3_look 29 = .ok (.iconst (-1), 1) := dk_2 (dk_at dksX3_look_1 6 rfl rfl)
theorem dX3_look_30 : decode cX3_look 30 = .ok (.ireturn, 1) := dk_172 (dk_at dksX3_look_1 7 rfl rfl)
theorem dX3_look_31 : decode cX3_look 31 = .ok (.aload_n 0, 1) := dk_42 (dk_at dksX3_look_1 8 rfl rfl)
theorem dX3_look_32 : decode cX3_look 32 = .ok (.invokevirtual 420, 3) := dk_182 1 164 (dk_at dksX3_look_1 9 rfl rfl)
theorem dX3_look_35 : decode cX3_look 35 = .ok (.iconst 0, 1) := dk_3 (dk_at dksX3_look_1 12 rfl rfl)
theorem dX3_look_36 : decode cX3_look 36 = .ok (.istore_n 3, 1) := dk_62 (dk_at dksX3_look_1 13 rfl rfl)
theorem dX3_look_37 : decode cX3_look 37 = .ok (.iconst (-1), 1) := dk_2 (dk_at dksX3_look_1 14 rfl rfl)
theorem dX3_look_38 : decode cX3_look 38 = .ok (.istore 4, 2) := dk_54 4 (dk_at dksX3_look_1 15 rfl rfl)
theorem dX3_look_40 : decode cX3_look 40 = .ok (.iload 4, 2) := dk_21 4 (dk_at dksX3_look_1 17 rfl rfl)
theorem dX3_look_42 : decode cX3_look 42 = .ok (.aload_n 0, 1) := dk_42 (dk_at dksX3_look_1 19 rfl rfl)
theorem dX3_look_43 : decode cX3_look 43 = .ok (.getfield 312, 3) := dk_180 1 56 (dk_at dksX3_look_1 20 rfl rfl)
theorem dX3_look_46 : decode cX3_look 46 = .ok (.if_icmp .ge 61, 3) := dk_162 0 61 (dk_at dksX3_look_2 0 rfl rfl)
theorem dX3_look_49 : decode cX3_look 49 = .ok (.aload_n 0, 1) := dk_42 (dk_at dksX3_look_2 3 rfl rfl)
theorem dX3_look_50 : decode cX3_look 50 = .ok (.iload 4, 2) := dk_21 4 (dk_at dksX3_look_2 4 rfl rfl)
theorem dX3_look_52 : decode cX3_look 52 = .ok (.invokevirtual 462, 3) := dk_182 1 206 (dk_at dksX3_look_2 6 rfl rfl)
theorem dX3_look_55 : decode cX3_look 55 = .ok (.ifCond .eq 46, 3) := dk_153 0 46 (dk_at dksX3_look_2 9 rfl rfl)
theorem dX3_look_58 : decode cX3_look 58 = .ok (.iconst 0, 1) := dk_3 (dk_at dksX3_look_2 12 rfl rfl)
theorem dX3_look_59 : decode cX3_look 59 = .ok (.istore 5, 2) := dk_54 5 (dk_at dksX3_look_2 13 rfl rfl)
theorem dX3_look_61 : decode cX3_look 61 = .ok (.iload 5, 2) := dk_21 5 (dk_at dksX3_look_2 15 rfl rfl)
theorem dX3_look_63 : decode cX3_look 63 = .ok (.bipush 8, 2) := dk_16 8 (dk_at dksX3_look_2 17 rfl rfl)
theorem dX3_look_65 : decode cX3_look 65 = .ok (.if_icmp .ge 33, 3) := dk_162 0 33 (dk_at dksX3_look_2 19 rfl rfl)
theorem dX3_look_68 : decode cX3_look 68 = .ok (.aload_n 0, 1) := dk_42 (dk_at dksX3_look_2 22 rfl rfl)
theorem dX3_look_69 : decode cX3_look 69 = .ok (.getfield 119, 3) := dk_180 0 119 (dk_at dksX3_look_3 0 rfl rfl)
theorem dX3_look_72 : decode cX3_look 72 = .ok (.bipush 8, 2) := dk_16 8 (dk_at dksX3_look_3 3 rfl rfl)
theorem dX3_look_74 : decode cX3_look 74 = .ok (.iload_n 3, 1) := dk_29 (dk_at dksX3_look_3 5 rfl rfl)
theorem dX3_look_75 : decode cX3_look 75 = .ok (.imul, 1) := dk_104 (dk_at dksX3_look_3 6 rfl rfl)
theorem dX3_look_76 : decode cX3_look 76 = .ok (.iload 5, 2) := dk_21 5 (dk_at dksX3_look_3 7 rfl rfl)
theorem dX3_look_78 : decode cX3_look 78 = .ok (.iadd, 1) := dk_96 (dk_at dksX3_look_3 9 rfl rfl)
theorem dX3_look_79 : decode cX3_look 79 = .ok (.aload_n 0, 1) := dk_42 (dk_at dksX3_look_3 10 rfl rfl)
theorem dX3_look_80 : decode cX3_look 80 = .ok (.getfield 116, 3) := dk_180 0 116 (dk_at dksX3_look_3 11 rfl rfl)
theorem dX3_look_83 : decode cX3_look 83 = .ok (.bipush 8, 2) := dk_16 8 (dk_at dksX3_look_3 14 rfl rfl)
theorem dX3_look_85 : decode cX3_look 85 = .ok (.iload_n 1, 1) := dk_27 (dk_at dksX3_look_3 16 rfl rfl)
theorem dX3_look_86 : decode cX3_look 86 = .ok (.imul, 1) := dk_104 (dk_at dksX3_look_3 17 rfl rfl)
theorem dX3_look_87 : decode cX3_look 87 = .ok (.iload 5, 2) := dk_21 5 (dk_at dksX3_look_3 18 rfl rfl)
theorem dX3_look_89 : decode cX3_look 89 = .ok (.iadd, 1) := dk_96 (dk_at dksX3_look_3 20 rfl rfl)
theorem dX3_look_90 : decode cX3_look 90 = .ok (.iaload, 1) := dk_46 (dk_at dksX3_look_3 21 rfl rfl)
theorem dX3_look_91 : decode cX3_look 91 = .ok (.iastore, 1) := dk_79 (dk_at dksX3_look_3 22 rfl rfl)
theorem dX3_look_92 : decode cX3_look 92 = .ok (.iinc 5 1, 3) := dk_132 5 1 (dk_at dksX3_look_4 0 rfl rfl)
theorem dX3_look_95 : decode cX3_look 95 = .ok (.goto (-34), 3) := dk_167 255 222 (dk_at dksX3_look_4 3 rfl rfl)
theorem dX3_look_98 : decode cX3_look 98 = .ok (.iinc 3 1, 3) := dk_132 3 1 (dk_at dksX3_look_4 6 rfl rfl)
theorem dX3_look_101 : decode cX3_look 101 = .ok (.iinc 4 1, 3) := dk_132 4 1 (dk_at dksX3_look_4 9 rfl rfl)
theorem dX3_look_104 : decode cX3_look 104 = .ok (.goto (-64), 3) := dk_167 255 192 (dk_at dksX3_look_4 12 rfl rfl)
theorem dX3_look_107 : decode cX3_look 107 = .ok (.iload_n 3, 1) := dk_29 (dk_at dksX3_look_4 15 rfl rfl)
theorem dX3_look_108 : decode cX3_look 108 = .ok (.ifCond .eq 12, 3) := dk_153 0 12 (dk_at dksX3_look_4 16 rfl rfl)
theorem dX3_look_111 : decode cX3_look 111 = .ok (.aload_n 0, 1) := dk_42 (dk_at dksX3_look_4 19 rfl rfl)
theorem dX3_look_112 : decode cX3_look 112 = .ok (.getfield 9, 3) := dk_180 0 9 (dk_at dksX3_look_4 20 rfl rfl)
theorem dX3_look_115 : decode cX3_look 115 = .ok (.iconst 3, 1) := dk_6 (dk_at dksX3_look_4 23 rfl rfl)
theorem dX3_look_116 : decode cX3_look 116 = .ok (.iaload, 1) := dk_46 (dk_at dksX3_look_5 0 rfl rfl)
theorem dX3_look_117 : decode cX3_look 117 = .ok (.ifCond .ne 6, 3) := dk_154 0 6 (dk_at dksX3_look_5 1 rfl rfl)
theorem dX3_look_120 : decode cX3_look 120 = .ok (.bipush (-2), 2) := dk_16 254 (dk_at dksX3_look_5 4 rfl rfl)
theorem dX3_look_122 : decode cX3_look 122 = .ok (.ireturn, 1) := dk_172 (dk_at dksX3_look_5 6 rfl rfl)
theorem dX3_look_123 : decode cX3_look 123 = .ok (.iconst 0, 1) := dk_3 (dk_at dksX3_look_5 7 rfl rfl)
theorem dX3_look_124 : decode cX3_look 124 = .ok (.istore 4, 2) := dk_54 4 (dk_at dksX3_look_5 8 rfl rfl)
theorem dX3_look_126 : decode cX3_look 126 = .ok (.iconst 1, 1) := dk_4 (dk_at dksX3_look_5 10 rfl rfl)
theorem dX3_look_127 : decode cX3_look 127 = .ok (.istore 5, 2) := dk_54 5 (dk_at dksX3_look_5 11 rfl rfl)
theorem dX3_look_129 : decode cX3_look 129 = .ok (.iload 5, 2) := dk_21 5 (dk_at dksX3_look_5 13 rfl rfl)
theorem dX3_look_131 : decode cX3_look 131 = .ok (.aload_n 0, 1) := dk_42 (dk_at dksX3_look_5 15 rfl rfl)
theorem dX3_look_132 : decode cX3_look 132 = .ok (.getfield 9, 3) := dk_180 0 9 (dk_at dksX3_look_5 16 rfl rfl)
theorem dX3_look_135 : decode cX3_look 135 = .ok (.iconst 3, 1) := dk_6 (dk_at dksX3_look_5 19 rfl rfl)
theorem dX3_look_136 : decode cX3_look 136 = .ok (.iaload, 1) := dk_46 (dk_at dksX3_look_5 20 rfl rfl)
theorem dX3_look_137 : decode cX3_look 137 = .ok (.if_icmp .ge 35, 3) := dk_162 0 35 (dk_at dksX3_look_5 21 rfl rfl)
theorem dX3_look_140 : decode cX3_look 140 = .ok (.aload_n 0, 1) := dk_42 (dk_at dksX3_look_6 0 rfl rfl)
theorem dX3_look_141 : decode cX3_look 141 = .ok (.iload 5, 2) := dk_21 5 (dk_at dksX3_look_6 1 rfl rfl)
theorem dX3_look_143 : decode cX3_look 143 = .ok (.iload_n 3, 1) := dk_29 (dk_at dksX3_look_6 3 rfl rfl)
theorem dX3_look_144 : decode cX3_look 144 = .ok (.invokevirtual 465, 3) := dk_182 1 209 (dk_at dksX3_look_6 4 rfl rfl)
theorem dX3_look_147 : decode cX3_look 147 = .ok (.aload_n 0, 1) := dk_42 (dk_at dksX3_look_6 7 rfl rfl)
theorem dX3_look_148 : decode cX3_look 148 = .ok (.iload 4, 2) := dk_21 4 (dk_at dksX3_look_6 8 rfl rfl)
theorem dX3_look_150 : decode cX3_look 150 = .ok (.iload_n 3, 1) := dk_29 (dk_at dksX3_look_6 10 rfl rfl)
theorem dX3_look_151 : decode cX3_look 151 = .ok (.invokevirtual 465, 3) := dk_182 1 209 (dk_at dksX3_look_6 11 rfl rfl)
theorem dX3_look_154 : decode cX3_look 154 = .ok (.if_icmp .ge 8, 3) := dk_162 0 8 (dk_at dksX3_look_6 14 rfl rfl)
theorem dX3_look_157 : decode cX3_look 157 = .ok (.iload 5, 2) := dk_21 5 (dk_at dksX3_look_6 17 rfl rfl)
theorem dX3_look_159 : decode cX3_look 159 = .ok (.goto 5, 3) := dk_167 0 5 (dk_at dksX3_look_6 19 rfl rfl)
theorem dX3_look_162 : decode cX3_look 162 = .ok (.iload 4, 2) := dk_21 4 (dk_at dksX3_look_6 22 rfl rfl)
theorem dX3_look_164 : decode cX3_look 164 = .ok (.istore 4, 2) := dk_54 4 (dk_at dksX3_look_7 0 rfl rfl)
theorem dX3_look_166 : decode cX3_look 166 = .ok (.iinc 5 1, 3) := dk_132 5 1 (dk_at dksX3_look_7 2 rfl rfl)
theorem dX3_look_169 : decode cX3_look 169 = .ok (.goto (-40), 3) := dk_167 255 216 (dk_at dksX3_look_7 5 rfl rfl)
theorem dX3_look_172 : decode cX3_look 172 = .ok (.iload_n 2, 1) := dk_28 (dk_at dksX3_look_7 8 rfl rfl)
theorem dX3_look_173 : decode cX3_look 173 = .ok (.ifCond .ne 8, 3) := dk_154 0 8 (dk_at dksX3_look_7 9 rfl rfl)
theorem dX3_look_176 : decode cX3_look 176 = .ok (.iload 4, 2) := dk_21 4 (dk_at dksX3_look_7 12 rfl rfl)
theorem dX3_look_178 : decode cX3_look 178 = .ok (.goto 10, 3) := dk_167 0 10 (dk_at dksX3_look_7 14 rfl rfl)
theorem dX3_look_181 : decode cX3_look 181 = .ok (.aload_n 0, 1) := dk_42 (dk_at dksX3_look_7 17 rfl rfl)
theorem dX3_look_182 : decode cX3_look 182 = .ok (.iload 4, 2) := dk_21 4 (dk_at dksX3_look_7 18 rfl rfl)
theorem dX3_look_184 : decode cX3_look 184 = .ok (.iload_n 3, 1) := dk_29 (dk_at dksX3_look_7 20 rfl rfl)
theorem dX3_look_185 : decode cX3_look 185 = .ok (.invokevirtual 465, 3) := dk_182 1 209 (dk_at dksX3_look_7 21 rfl rfl)
theorem dX3_look_188 : decode cX3_look 188 = .ok (.ireturn, 1) := dk_172 (dk_at dksX3_look_8 0 rfl rfl)
abbrev cX3_mostAlike : ByteArray := prog_17_method_101_code
def yX3_mostAlike : MethodName := ⟨RX3, "mostAlike", "(II)I"⟩
def dkwX3_mostAlike_3 : List UInt8 := [164, 0, 8, 21, 5, 167, 0, 4, 29, 62, 132, 4, 1, 167, 255, 179, 29, 172]
abbrev dktX3_mostAlike_3 : List UInt8 := dkwX3_mostAlike_3 ++ []
def dkwX3_mostAlike_2 : List UInt8 := [96, 46, 160, 0, 7, 4, 167, 0, 4, 3, 96, 54, 5, 132, 6, 1, 167, 255, 210, 21, 5, 29]
abbrev dktX3_mostAlike_2 : List UInt8 := dkwX3_mostAlike_2 ++ dktX3_mostAlike_3
def dkwX3_mostAlike_1 : List UInt8 := [21, 5, 42, 180, 0, 119, 16, 8, 21, 6, 104, 27, 96, 46, 42, 180, 0, 119, 16, 8, 21, 4, 104, 27]
abbrev dktX3_mostAlike_1 : List UInt8 := dkwX3_mostAlike_1 ++ dktX3_mostAlike_2
def dkwX3_mostAlike_0 : List UInt8 := [3, 62, 3, 54, 4, 21, 4, 28, 162, 0, 77, 3, 54, 5, 3, 54, 6, 21, 6, 28, 162, 0, 46]
abbrev dktX3_mostAlike_0 : List UInt8 := dkwX3_mostAlike_0 ++ dktX3_mostAlike_1
theorem dksX3_mostAlike_0 : cX3_mostAlike.data.toList.drop 0 = dktX3_mostAlike_0 := by decide +kernel
theorem dksX3_mostAlike_1 : cX3_mostAlike.data.toList.drop 23 = dktX3_mostAlike_1 := dk_seg dksX3_mostAlike_0 23 rfl rfl
theorem dksX3_mostAlike_2 : cX3_mostAlike.data.toList.drop 47 = dktX3_mostAlike_2 := dk_seg dksX3_mostAlike_1 24 rfl rfl
theorem dksX3_mostAlike_3 : cX3_mostAlike.data.toList.drop 69 = dktX3_mostAlike_3 := dk_seg dksX3_mostAlike_2 22 rfl rfl
theorem dX3_mostAlike_0 : decode cX3_mostAlike 0 = .ok (.iconst 0, 1) := dk_3 (dk_at dksX3_mostAlike_0 0 rfl rfl)
theorem dX3_mostAlike_1 : decode cX3_mostAlike 1 = .ok (.istore_n 3, 1) := dk_62 (dk_at dksX3_mostAlike_0 1 rfl rfl)
theorem dX3_mostAlike_2 : decode cX3_mostAlike 2 = .ok (.iconst 0, 1) := dk_3 (dk_at dksX3_mostAlike_0 2 rfl rfl)
theorem dX3_mostAlike_3 : decode cX3_mostAlike 3 = .ok (.istore 4, 2) := dk_54 4 (dk_at dksX3_mostAlike_0 3 rfl rfl)
theorem dX3_mostAlike_5 : decode cX3_mostAlike 5 = .ok (.iload 4, 2) := dk_21 4 (dk_at dksX3_mostAlike_0 5 rfl rfl)
theorem dX3_mostAlike_7 : decode cX3_mostAlike 7 = .ok (.iload_n 2, 1) := dk_28 (dk_at dksX3_mostAlike_0 7 rfl rfl)
theorem dX3_mostAlike_8 : decode cX3_mostAlike 8 = .ok (.if_icmp .ge 77, 3) := dk_162 0 77 (dk_at dksX3_mostAlike_0 8 rfl rfl)
theorem dX3_mostAlike_11 : decode cX3_mostAlike 11 = .ok (.iconst 0, 1) := dk_3 (dk_at dksX3_mostAlike_0 11 rfl rfl)
theorem dX3_mostAlike_12 : decode cX3_mostAlike 12 = .ok (.istore 5, 2) := dk_54 5 (dk_at dksX3_mostAlike_0 12 rfl rfl)
theorem dX3_mostAlike_14 : decode cX3_mostAlike 14 = .ok (.iconst 0, 1) := dk_3 (dk_at dksX3_mostAlike_0 14 rfl rfl)
theorem dX3_mostAlike_15 : decode cX3_mostAlike 15 = .ok (.istore 6, 2) := dk_54 6 (dk_at dksX3_mostAlike_0 15 rfl rfl)
theorem dX3_mostAlike_17 : decode cX3_mostAlike 17 = .ok (.iload 6, 2) := dk_21 6 (dk_at dksX3_mostAlike_0 17 rfl rfl)
theorem dX3_mostAlike_19 : decode cX3_mostAlike 19 = .ok (.iload_n 2, 1) := dk_28 (dk_at dksX3_mostAlike_0 19 rfl rfl)
theorem dX3_mostAlike_20 : decode cX3_mostAlike 20 = .ok (.if_icmp .ge 46, 3) := dk_162 0 46 (dk_at dksX3_mostAlike_0 20 rfl rfl)
theorem dX3_mostAlike_23 : decode cX3_mostAlike 23 = .ok (.iload 5, 2) := dk_21 5 (dk_at dksX3_mostAlike_1 0 rfl rfl)
theorem dX3_mostAlike_25 : decode cX3_mostAlike 25 = .ok (.aload_n 0, 1) := dk_42 (dk_at dksX3_mostAlike_1 2 rfl rfl)
theorem dX3_mostAlike_26 : decode cX3_mostAlike 26 = .ok (.getfield 119, 3) := dk_180 0 119 (dk_at dksX3_mostAlike_1 3 rfl rfl)
theorem dX3_mostAlike_29 : decode cX3_mostAlike 29 = .ok (.bipush 8, 2) := dk_16 8 (dk_at dksX3_mostAlike_1 6 rfl rfl)
theorem dX3_mostAlike_31 : decode cX3_mostAlike 31 = .ok (.iload 6, 2) := dk_21 6 (dk_at dksX3_mostAlike_1 8 rfl rfl)
theorem dX3_mostAlike_33 : decode cX3_mostAlike 33 = .ok (.imul, 1) := dk_104 (dk_at dksX3_mostAlike_1 10 rfl rfl)
theorem dX3_mostAlike_34 : decode cX3_mostAlike 34 = .ok (.iload_n 1, 1) := dk_27 (dk_at dksX3_mostAlike_1 11 rfl rfl)
theorem dX3_mostAlike_35 : decode cX3_mostAlike 35 = .ok (.iadd, 1) := dk_96 (dk_at dksX3_mostAlike_1 12 rfl rfl)
theorem dX3_mostAlike_36 : decode cX3_mostAlike 36 = .ok (.iaload, 1) := dk_46 (dk_at dksX3_mostAlike_1 13 rfl rfl)
theorem dX3_mostAlike_37 : decode cX3_mostAlike 37 = .ok (.aload_n 0, 1) := dk_42 (dk_at dksX3_mostAlike_1 14 rfl rfl)
theorem dX3_mostAlike_38 : decode cX3_mostAlike 38 = .ok (.getfield 119, 3) := dk_180 0 119 (dk_at dksX3_mostAlike_1 15 rfl rfl)
theorem dX3_mostAlike_41 : decode cX3_mostAlike 41 = .ok (.bipush 8, 2) := dk_16 8 (dk_at dksX3_mostAlike_1 18 rfl rfl)
theorem dX3_mostAlike_43 : decode cX3_mostAlike 43 = .ok (.iload 4, 2) := dk_21 4 (dk_at dksX3_mostAlike_1 20 rfl rfl)
theorem dX3_mostAlike_45 : decode cX3_mostAlike 45 = .ok (.imul, 1) := dk_104 (dk_at dksX3_mostAlike_1 22 rfl rfl)
theorem dX3_mostAlike_46 : decode cX3_mostAlike 46 = .ok (.iload_n 1, 1) := dk_27 (dk_at dksX3_mostAlike_1 23 rfl rfl)
theorem dX3_mostAlike_47 : decode cX3_mostAlike 47 = .ok (.iadd, 1) := dk_96 (dk_at dksX3_mostAlike_2 0 rfl rfl)
theorem dX3_mostAlike_48 : decode cX3_mostAlike 48 = .ok (.iaload, 1) := dk_46 (dk_at dksX3_mostAlike_2 1 rfl rfl)
theorem dX3_mostAlike_49 : decode cX3_mostAlike 49 = .ok (.if_icmp .ne 7, 3) := dk_160 0 7 (dk_at dksX3_mostAlike_2 2 rfl rfl)
theorem dX3_mostAlike_52 : decode cX3_mostAlike 52 = .ok (.iconst 1, 1) := dk_4 (dk_at dksX3_mostAlike_2 5 rfl rfl)
theorem dX3_mostAlike_53 : decode cX3_mostAlike 53 = .ok (.goto 4, 3) := dk_167 0 4 (dk_at dksX3_mostAlike_2 6 rfl rfl)
theorem dX3_mostAlike_56 : decode cX3_mostAlike 56 = .ok (.iconst 0, 1) := dk_3 (dk_at dksX3_mostAlike_2 9 rfl rfl)
theorem dX3_mostAlike_57 : decode cX3_mostAlike 57 = .ok (.iadd, 1) := dk_96 (dk_at dksX3_mostAlike_2 10 rfl rfl)
theorem dX3_mostAlike_58 : decode cX3_mostAlike 58 = .ok (.istore 5, 2) := dk_54 5 (dk_at dksX3_mostAlike_2 11 rfl rfl)
theorem dX3_mostAlike_60 : decode cX3_mostAlike 60 = .ok (.iinc 6 1, 3) := dk_132 6 1 (dk_at dksX3_mostAlike_2 13 rfl rfl)
theorem dX3_mostAlike_63 : decode cX3_mostAlike 63 = .ok (.goto (-46), 3) := dk_167 255 210 (dk_at dksX3_mostAlike_2 16 rfl rfl)
theorem dX3_mostAlike_66 : decode cX3_mostAlike 66 = .ok (.iload 5, 2) := dk_21 5 (dk_at dksX3_mostAlike_2 19 rfl rfl)
theorem dX3_mostAlike_68 : decode cX3_mostAlike 68 = .ok (.iload_n 3, 1) := dk_29 (dk_at dksX3_mostAlike_2 21 rfl rfl)
theorem dX3_mostAlike_69 : decode cX3_mostAlike 69 = .ok (.if_icmp .le 8, 3) := dk_164 0 8 (dk_at dksX3_mostAlike_3 0 rfl rfl)
theorem dX3_mostAlike_72 : decode cX3_mostAlike 72 = .ok (.iload 5, 2) := dk_21 5 (dk_at dksX3_mostAlike_3 3 rfl rfl)
theorem dX3_mostAlike_74 : decode cX3_mostAlike 74 = .ok (.goto 4, 3) := dk_167 0 4 (dk_at dksX3_mostAlike_3 5 rfl rfl)
theorem dX3_mostAlike_77 : decode cX3_mostAlike 77 = .ok (.iload_n 3, 1) := dk_29 (dk_at dksX3_mostAlike_3 8 rfl rfl)
theorem dX3_mostAlike_78 : decode cX3_mostAlike 78 = .ok (.istore_n 3, 1) := dk_62 (dk_at dksX3_mostAlike_3 9 rfl rfl)
theorem dX3_mostAlike_79 : decode cX3_mostAlike 79 = .ok (.iinc 4 1, 3) := dk_132 4 1 (dk_at dksX3_mostAlike_3 10 rfl rfl)
theorem dX3_mostAlike_82 : decode cX3_mostAlike 82 = .ok (.goto (-77), 3) := dk_167 255 179 (dk_at dksX3_mostAlike_3 13 rfl rfl)
theorem dX3_mostAlike_85 : decode cX3_mostAlike 85 = .ok (.iload_n 3, 1) := dk_29 (dk_at dksX3_mostAlike_3 16 rfl rfl)
theorem dX3_mostAlike_86 : decode cX3_mostAlike 86 = .ok (.ireturn, 1) := dk_172 (dk_at dksX3_mostAlike_3 17 rfl rfl)
abbrev cX3_seed : ByteArray := prog_17_method_103_code
def yX3_seed : MethodName := ⟨RX3, "seed", "(I)I"⟩
def dkwX3_seed_0 : List UInt8 := [27, 156, 0, 5, 2, 172, 42, 180, 0, 9, 16, 6, 46, 61, 42, 180, 0, 9, 16, 6, 27, 79, 28, 172]
abbrev dktX3_seed_0 : List UInt8 := dkwX3_seed_0 ++ []
theorem dksX3_seed_0 : cX3_seed.data.toList.drop 0 = dktX3_seed_0 := by decide +kernel
theorem dX3_seed_0 : decode cX3_seed 0 = .ok (.iload_n 1, 1) := dk_27 (dk_at dksX3_seed_0 0 rfl rfl)
theorem dX3_seed_1 : decode cX3_seed 1 = .ok (.ifCond .ge 5, 3) := dk_156 0 5 (dk_at dksX3_seed_0 1 rfl rfl)
theorem dX3_seed_4 : decode cX3_seed 4 = .ok (.iconst (-1), 1) := dk_2 (dk_at dksX3_seed_0 4 rfl rfl)
theorem dX3_seed_5 : decode cX3_seed 5 = .ok (.ireturn, 1) := dk_172 (dk_at dksX3_seed_0 5 rfl rfl)
theorem dX3_seed_6 : decode cX3_seed 6 = .ok (.aload_n 0, 1) := dk_42 (dk_at dksX3_seed_0 6 rfl rfl)
theorem dX3_seed_7 : decode cX3_seed 7 = .ok (.getfield 9, 3) := dk_180 0 9 (dk_at dksX3_seed_0 7 rfl rfl)
theorem dX3_seed_10 : decode cX3_seed 10 = .ok (.bipush 6, 2) := dk_16 6 (dk_at dksX3_seed_0 10 rfl rfl)
theorem dX3_seed_12 : decode cX3_seed 12 = .ok (.iaload, 1) := dk_46 (dk_at dksX3_seed_0 12 rfl rfl)
theorem dX3_seed_13 : decode cX3_seed 13 = .ok (.istore_n 2, 1) := dk_61 (dk_at dksX3_seed_0 13 rfl rfl)
theorem dX3_seed_14 : decode cX3_seed 14 = .ok (.aload_n 0, 1) := dk_42 (dk_at dksX3_seed_0 14 rfl rfl)
theorem dX3_seed_15 : decode cX3_seed 15 = .ok (.getfield 9, 3) := dk_180 0 9 (dk_at dksX3_seed_0 15 rfl rfl)
theorem dX3_seed_18 : decode cX3_seed 18 = .ok (.bipush 6, 2) := dk_16 6 (dk_at dksX3_seed_0 18 rfl rfl)
theorem dX3_seed_20 : decode cX3_seed 20 = .ok (.iload_n 1, 1) := dk_27 (dk_at dksX3_seed_0 20 rfl rfl)
theorem dX3_seed_21 : decode cX3_seed 21 = .ok (.iastore, 1) := dk_79 (dk_at dksX3_seed_0 21 rfl rfl)
theorem dX3_seed_22 : decode cX3_seed 22 = .ok (.iload_n 2, 1) := dk_28 (dk_at dksX3_seed_0 22 rfl rfl)
theorem dX3_seed_23 : decode cX3_seed 23 = .ok (.ireturn, 1) := dk_172 (dk_at dksX3_seed_0 23 rfl rfl)
abbrev cX3_toasts : ByteArray := prog_17_method_106_code
def yX3_toasts : MethodName := ⟨RX3, "toasts", "(IIII)I"⟩
def dkwX3_toasts_8 : List UInt8 := [167, 255, 150, 42, 180, 0, 9, 16, 6, 21, 5, 79, 21, 7, 172]
abbrev dktX3_toasts_8 : List UInt8 := dkwX3_toasts_8 ++ []
def dkwX3_toasts_7 : List UInt8 := [184, 1, 114, 96, 54, 7, 42, 180, 0, 9, 16, 6, 46, 54, 6, 42, 182, 1, 170, 132, 8, 1]
abbrev dktX3_toasts_7 : List UInt8 := dkwX3_toasts_7 ++ dktX3_toasts_8
def dkwX3_toasts_6 : List UInt8 := [132, 9, 1, 167, 255, 209, 21, 7, 42, 21, 4, 154, 0, 7, 5, 167, 0, 4, 4, 182, 1, 85]
abbrev dktX3_toasts_6 : List UInt8 := dkwX3_toasts_6 ++ dktX3_toasts_7
def dkwX3_toasts_5 : List UInt8 := [46, 158, 0, 17, 42, 42, 42, 180, 0, 9, 6, 46, 182, 1, 221, 182, 1, 224, 42, 182, 1, 127, 87]
abbrev dktX3_toasts_5 : List UInt8 := dkwX3_toasts_5 ++ dktX3_toasts_6
def dkwX3_toasts_4 : List UInt8 := [3, 54, 9, 21, 9, 28, 162, 0, 47, 42, 16, 100, 182, 1, 221, 29, 162, 0, 26, 42, 180, 0, 9, 6]
abbrev dktX3_toasts_4 : List UInt8 := dkwX3_toasts_4 ++ dktX3_toasts_5
def dkwX3_toasts_3 : List UInt8 := [54, 7, 42, 182, 1, 164, 3, 54, 8, 21, 8, 27, 162, 0, 106, 42, 180, 0, 9, 16, 6, 21, 6, 79]
abbrev dktX3_toasts_3 : List UInt8 := dkwX3_toasts_3 ++ dktX3_toasts_4
def dkwX3_toasts_2 : List UInt8 := [9, 10, 184, 0, 131, 154, 0, 5, 2, 172, 42, 180, 0, 9, 16, 6, 46, 54, 5, 21, 5, 54, 6, 3]
abbrev dktX3_toasts_2 : List UInt8 := dkwX3_toasts_2 ++ dktX3_toasts_3
def dkwX3_toasts_1 : List UInt8 := [20, 1, 201, 184, 0, 131, 153, 0, 26, 29, 133, 9, 20, 1, 162, 184, 0, 131, 153, 0, 14, 21, 4, 133]
abbrev dktX3_toasts_1 : List UInt8 := dkwX3_toasts_1 ++ dktX3_toasts_2
def dkwX3_toasts_0 : List UInt8 := [42, 182, 1, 148, 153, 0, 50, 27, 133, 10, 20, 1, 219, 184, 0, 131, 153, 0, 38, 28, 133, 10]
abbrev dktX3_toasts_0 : List UInt8 := dkwX3_toasts_0 ++ dktX3_toasts_1
theorem dksX3_toasts_0 : cX3_toasts.data.toList.drop 0 = dktX3_toasts_0 := by decide +kernel
theorem dksX3_toasts_1 : cX3_toasts.data.toList.drop 22 = dktX3_toasts_1 := dk_seg dksX3_toasts_0 22 rfl rfl
theorem dksX3_toasts_2 : cX3_toasts.data.toList.drop 46 = dktX3_toasts_2 := dk_seg dksX3_toasts_1 24 rfl rfl
theorem dksX3_toasts_3 : cX3_toasts.data.toList.drop 70 = dktX3_toasts_3 := dk_seg dksX3_toasts_2 24 rfl rfl
theorem dksX3_toasts_4 : cX3_toasts.data.toList.drop 94 = dktX3_toasts_4 := dk_seg dksX3_toasts_3 24 rfl rfl
theorem dksX3_toasts_5 : cX3_toasts.data.toList.drop 118 = dktX3_toasts_5 := dk_seg dksX3_toasts_4 24 rfl rfl
theorem dksX3_toasts_6 : cX3_toasts.data.toList.drop 141 = dktX3_toasts_6 := dk_seg dksX3_toasts_5 23 rfl rfl
theorem dksX3_toasts_7 : cX3_toasts.data.toList.drop 163 = dktX3_toasts_7 := dk_seg dksX3_toasts_6 22 rfl rfl
theorem dksX3_toasts_8 : cX3_toasts.data.toList.drop 185 = dktX3_toasts_8 := dk_seg dksX3_toasts_7 22 rfl rfl
theorem dX3_toasts_0 : decode cX3_toasts 0 = .ok (.aload_n 0, 1) := dk_42 (dk_at dksX3_toasts_0 0 rfl rfl)
theorem dX3_toasts_1 : decode cX3_toasts 1 = .ok (.invokevirtual 404, 3) := dk_182 1 148 (dk_at dksX3_toasts_0 1 rfl rfl)
theorem dX3_toasts_4 : decode cX3_toasts 4 = .ok (.ifCond .eq 50, 3) := dk_153 0 50 (dk_at dksX3_toasts_0 4 rfl rfl)
theorem dX3_toasts_7 : decode cX3_toasts 7 = .ok (.iload_n 1, 1) := dk_27 (dk_at dksX3_toasts_0 7 rfl rfl)
theorem dX3_toasts_8 : decode cX3_toasts 8 = .ok (.i2l, 1) := dk_133 (dk_at dksX3_toasts_0 8 rfl rfl)
theorem dX3_toasts_9 : decode cX3_toasts 9 = .ok (.lconst 1, 1) := dk_10 (dk_at dksX3_toasts_0 9 rfl rfl)
theorem dX3_toasts_10 : decode cX3_toasts 10 = .ok (.ldc2_w 475, 3) := dk_20 1 219 (dk_at dksX3_toasts_0 10 rfl rfl)
theorem dX3_toasts_13 : decode cX3_toasts 13 = .ok (.invokestatic 131, 3) := dk_184 0 131 (dk_at dksX3_toasts_0 13 rfl rfl)
theorem dX3_toasts_16 : decode cX3_toasts 16 = .ok (.ifCond .eq 38, 3) := dk_153 0 38 (dk_at dksX3_toasts_0 16 rfl rfl)
theorem dX3_toasts_19 : decode cX3_toasts 19 = .ok (.iload_n 2, 1) := dk_28 (dk_at dksX3_toasts_0 19 rfl rfl)
theorem dX3_toasts_20 : decode cX3_toasts 20 = .ok (.i2l, 1) := dk_133 (dk_at dksX3_toasts_0 20 rfl rfl)
theorem dX3_toasts_21 : decode cX3_toasts 21 = .ok (.lconst 1, 1) := dk_10 (dk_at dksX3_toasts_0 21 rfl rfl)
theorem dX3_toasts_22 : decode cX3_toasts 22 = .ok (.ldc2_w 457, 3) := dk_20 1 201 (dk_at dksX3_toasts_1 0 rfl rfl)
theorem dX3_toasts_25 : decode cX3_toasts 25 = .ok (.invokestatic 131, 3) := dk_184 0 131 (dk_at dksX3_toasts_1 3 rfl rfl)
theorem dX3_toasts_28 : decode cX3_toasts 28 = .ok (.ifCond .eq 26, 3) := dk_153 0 26 (dk_at dksX3_toasts_1 6 rfl rfl)
theorem dX3_toasts_31 : decode cX3_toasts 31 = .ok (.iload_n 3, 1) := dk_29 (dk_at dksX3_toasts_1 9 rfl rfl)
theorem dX3_toasts_32 : decode cX3_toasts 32 = .ok (.i2l, 1) := dk_133 (dk_at dksX3_toasts_1 10 rfl rfl)
theorem dX3_toasts_33 : decode cX3_toasts 33 = .ok (.lconst 0, 1) := dk_9 (dk_at dksX3_toasts_1 11 rfl rfl)
theorem dX3_toasts_34 : decode cX3_toasts 34 = .ok (.ldc2_w 418, 3) := dk_20 1 162 (dk_at dksX3_toasts_1 12 rfl rfl)
theorem dX3_toasts_37 : decode cX3_toasts 37 = .ok (.invokestatic 131, 3) := dk_184 0 131 (dk_at dksX3_toasts_1 15 rfl rfl)
theorem dX3_toasts_40 : decode cX3_toasts 40 = .ok (.ifCond .eq 14, 3) := dk_153 0 14 (dk_at dksX3_toasts_1 18 rfl rfl)
theorem dX3_toasts_43 : decode cX3_toasts 43 = .ok (.iload 4, 2) := dk_21 4 (dk_at dksX3_toasts_1 21 rfl rfl)
theorem dX3_toasts_45 : decode cX3_toasts 45 = .ok (.i2l, 1) := dk_133 (dk_at dksX3_toasts_1 23 rfl rfl)
theorem dX3_toasts_46 : decode cX3_toasts 46 = .ok (.lconst 0, 1) := dk_9 (dk_at dksX3_toasts_2 0 rfl rfl)
theorem dX3_toasts_47 : decode cX3_toasts 47 = .ok (.lconst 1, 1) := dk_10 (dk_at dksX3_toasts_2 1 rfl rfl)
theorem dX3_toasts_48 : decode cX3_toasts 48 = .ok (.invokestatic 131, 3) := dk_184 0 131 (dk_at dksX3_toasts_2 2 rfl rfl)
theorem dX3_toasts_51 : decode cX3_toasts 51 = .ok (.ifCond .ne 5, 3) := dk_154 0 5 (dk_at dksX3_toasts_2 5 rfl rfl)
theorem dX3_toasts_54 : decode cX3_toasts 54 = .ok (.iconst (-1), 1) := dk_2 (dk_at dksX3_toasts_2 8 rfl rfl)
theorem dX3_toasts_55 : decode cX3_toasts 55 = .ok (.ireturn, 1) := dk_172 (dk_at dksX3_toasts_2 9 rfl rfl)
theorem dX3_toasts_56 : decode cX3_toasts 56 = .ok (.aload_n 0, 1) := dk_42 (dk_at dksX3_toasts_2 10 rfl rfl)
theorem dX3_toasts_57 : decode cX3_toasts 57 = .ok (.getfield 9, 3) := dk_180 0 9 (dk_at dksX3_toasts_2 11 rfl rfl)
theorem dX3_toasts_60 : decode cX3_toasts 60 = .ok (.bipush 6, 2) := dk_16 6 (dk_at dksX3_toasts_2 14 rfl rfl)
theorem dX3_toasts_62 : decode cX3_toasts 62 = .ok (.iaload, 1) := dk_46 (dk_at dksX3_toasts_2 16 rfl rfl)
theorem dX3_toasts_63 : decode cX3_toasts 63 = .ok (.istore 5, 2) := dk_54 5 (dk_at dksX3_toasts_2 17 rfl rfl)
theorem dX3_toasts_65 : decode cX3_toasts 65 = .ok (.iload 5, 2) := dk_21 5 (dk_at dksX3_toasts_2 19 rfl rfl)
theorem dX3_toasts_67 : decode cX3_toasts 67 = .ok (.istore 6, 2) := dk_54 6 (dk_at dksX3_toasts_2 21 rfl rfl)
theorem dX3_toasts_69 : decode cX3_toasts 69 = .ok (.iconst 0, 1) := dk_3 (dk_at dksX3_toasts_2 23 rfl rfl)
theorem dX3_toasts_70 : decode cX3_toasts 70 = .ok (.istore 7, 2) := dk_54 7 (dk_at dksX3_toasts_3 0 rfl rfl)
theorem dX3_toasts_72 : decode cX3_toasts 72 = .ok (.aload_n 0, 1) := dk_42 (dk_at dksX3_toasts_3 2 rfl rfl)
theorem dX3_toasts_73 : decode cX3_toasts 73 = .ok (.invokevirtual 420, 3) := dk_182 1 164 (dk_at dksX3_toasts_3 3 rfl rfl)
theorem dX3_toasts_76 : decode cX3_toasts 76 = .ok (.iconst 0, 1) := dk_3 (dk_at dksX3_toasts_3 6 rfl rfl)
theorem dX3_toasts_77 : decode cX3_toasts 77 = .ok (.istore 8, 2) := dk_54 8 (dk_at dksX3_toasts_3 7 rfl rfl)
theorem dX3_toasts_79 : decode cX3_toasts 79 = .ok (.iload 8, 2) := dk_21 8 (dk_at dksX3_toasts_3 9 rfl rfl)
theorem dX3_toasts_81 : decode cX3_toasts 81 = .ok (.iload_n 1, 1) := dk_27 (dk_at dksX3_toasts_3 11 rfl rfl)
theorem dX3_toasts_82 : decode cX3_toasts 82 = .ok (.if_icmp .ge 106, 3) := dk_162 0 106 (dk_at dksX3_toasts_3 12 rfl rfl)
theorem dX3_toasts_85 : decode cX3_toasts 85 = .ok (.aload_n 0, 1) := dk_42 (dk_at dksX3_toasts_3 15 rfl rfl)
theorem dX3_toasts_86 : decode cX3_toasts 86 = .ok (.getfield 9, 3) := dk_180 0 9 (dk_at dksX3_toasts_3 16 rfl rfl)
theorem dX3_toasts_89 : decode cX3_toasts 89 = .ok (.bipush 6, 2) := dk_16 6 (dk_at dksX3_toasts_3 19 rfl rfl)
theorem dX3_toasts_91 : decode cX3_toasts 91 = .ok (.iload 6, 2) := dk_21 6 (dk_at dksX3_toasts_3 21 rfl rfl)
theorem dX3_toasts_93 : decode cX3_toasts 93 = .ok (.iastore, 1) := dk_79 (dk_at dksX3_toasts_3 23 rfl rfl)
theorem dX3_toasts_94 : decode cX3_toasts 94 = .ok (.iconst 0, 1) := dk_3 (dk_at dksX3_toasts_4 0 rfl rfl)
theorem dX3_toasts_95 : decode cX3_toasts 95 = .ok (.istore 9, 2) := dk_54 9 (dk_at dksX3_toasts_4 1 rfl rfl)
theorem dX3_toasts_97 : decode cX3_toasts 97 = .ok (.iload 9, 2) := dk_21 9 (dk_at dksX3_toasts_4 3 rfl rfl)
theorem dX3_toasts_99 : decode cX3_toasts 99 = .ok (.iload_n 2, 1) := dk_28 (dk_at dksX3_toasts_4 5 rfl rfl)
theorem dX3_toasts_100 : decode cX3_toasts 100 = .ok (.if_icmp .ge 47, 3) := dk_162 0 47 (dk_at dksX3_toasts_4 6 rfl rfl)
theorem dX3_toasts_103 : decode cX3_toasts 103 = .ok (.aload_n 0, 1) := dk_42 (dk_at dksX3_toasts_4 9 rfl rfl)
theorem dX3_toasts_104 : decode cX3_toasts 104 = .ok (.bipush 100, 2) := dk_16 100 (dk_at dksX3_toasts_4 10 rfl rfl)
theorem dX3_toasts_106 : decode cX3_toasts 106 = .ok (.invokevirtual 477, 3) := dk_182 1 221 (dk_at dksX3_toasts_4 12 rfl rfl)
theorem dX3_toasts_109 : decode cX3_toasts 109 = .ok (.iload_n 3, 1) := dk_29 (dk_at dksX3_toasts_4 15 rfl rfl)
theorem dX3_toasts_110 : decode cX3_toasts 110 = .ok (.if_icmp .ge 26, 3) := dk_162 0 26 (dk_at dksX3_toasts_4 16 rfl rfl)
theorem dX3_toasts_113 : decode cX3_toasts 113 = .ok (.aload_n 0, 1) := dk_42 (dk_at dksX3_toasts_4 19 rfl rfl)
theorem dX3_toasts_114 : decode cX3_toasts 114 = .ok (.getfield 9, 3) := dk_180 0 9 (dk_at dksX3_toasts_4 20 rfl rfl)
theorem dX3_toasts_117 : decode cX3_toasts 117 = .ok (.iconst 3, 1) := dk_6 (dk_at dksX3_toasts_4 23 rfl rfl)
theorem dX3_toasts_118 : decode cX3_toasts 118 = .ok (.iaload, 1) := dk_46 (dk_at dksX3_toasts_5 0 rfl rfl)
theorem dX3_toasts_119 : decode cX3_toasts 119 = .ok (.ifCond .le 17, 3) := dk_158 0 17 (dk_at dksX3_toasts_5 1 rfl rfl)
theorem dX3_toasts_122 : decode cX3_toasts 122 = .ok (.aload_n 0, 1) := dk_42 (dk_at dksX3_toasts_5 4 rfl rfl)
theorem dX3_toasts_123 : decode cX3_toasts 123 = .ok (.aload_n 0, 1) := dk_42 (dk_at dksX3_toasts_5 5 rfl rfl)
theorem dX3_toasts_124 : decode cX3_toasts 124 = .ok (.aload_n 0, 1) := dk_42 (dk_at dksX3_toasts_5 6 rfl rfl)
theorem dX3_toasts_125 : decode cX3_toasts 125 = .ok (.getfield 9, 3) := dk_180 0 9 (dk_at dksX3_toasts_5 7 rfl rfl)
theorem dX3_toasts_128 : decode cX3_toasts 128 = .ok (.iconst 3, 1) := dk_6 (dk_at dksX3_toasts_5 10 rfl rfl)
theorem dX3_toasts_129 : decode cX3_toasts 129 = .ok (.iaload, 1) := dk_46 (dk_at dksX3_toasts_5 11 rfl rfl)
theorem dX3_toasts_130 : decode cX3_toasts 130 = .ok (.invokevirtual 477, 3) := dk_182 1 221 (dk_at dksX3_toasts_5 12 rfl rfl)
theorem dX3_toasts_133 : decode cX3_toasts 133 = .ok (.invokevirtual 480, 3) := dk_182 1 224 (dk_at dksX3_toasts_5 15 rfl rfl)
theorem dX3_toasts_136 : decode cX3_toasts 136 = .ok (.aload_n 0, 1) := dk_42 (dk_at dksX3_toasts_5 18 rfl rfl)
theorem dX3_toasts_137 : decode cX3_toasts 137 = .ok (.invokevirtual 383, 3) := dk_182 1 127 (dk_at dksX3_toasts_5 19 rfl rfl)
theorem dX3_toasts_140 : decode cX3_toasts 140 = .ok (.pop, 1) := dk_87 (dk_at dksX3_toasts_5 22 rfl rfl)
theorem dX3_toasts_141 : decode cX3_toasts 141 = .ok (.iinc 9 1, 3) := dk_132 9 1 (dk_at dksX3_toasts_6 0 rfl rfl)
theorem dX3_toasts_144 : decode cX3_toasts 144 = .ok (.goto (-47), 3) := dk_167 255 209 (dk_at dksX3_toasts_6 3 rfl rfl)
theorem dX3_toasts_147 : decode cX3_toasts 147 = .ok (.iload 7, 2) := dk_21 7 (dk_at dksX3_toasts_6 6 rfl rfl)
theorem dX3_toasts_149 : decode cX3_toasts 149 = .ok (.aload_n 0, 1) := dk_42 (dk_at dksX3_toasts_6 8 rfl rfl)
theorem dX3_toasts_150 : decode cX3_toasts 150 = .ok (.iload 4, 2) := dk_21 4 (dk_at dksX3_toasts_6 9 rfl rfl)
theorem dX3_toasts_152 : decode cX3_toasts 152 = .ok (.ifCond .ne 7, 3) := dk_154 0 7 (dk_at dksX3_toasts_6 11 rfl rfl)
theorem dX3_toasts_155 : decode cX3_toasts 155 = .ok (.iconst 2, 1) := dk_5 (dk_at dksX3_toasts_6 14 rfl rfl)
theorem dX3_toasts_156 : decode cX3_toasts 156 = .ok (.goto 4, 3) := dk_167 0 4 (dk_at dksX3_toasts_6 15 rfl rfl)
theorem dX3_toasts_159 : decode cX3_toasts 159 = .ok (.iconst 1, 1) := dk_4 (dk_at dksX3_toasts_6 18 rfl rfl)
theorem dX3_toasts_160 : decode cX3_toasts 160 = .ok (.invokevirtual 341, 3) := dk_182 1 85 (dk_at dksX3_toasts_6 19 rfl rfl)
theorem dX3_toasts_163 : decode cX3_toasts 163 = .ok (.invokestatic 370, 3) := dk_184 1 114 (dk_at dksX3_toasts_7 0 rfl rfl)
theorem dX3_toasts_166 : decode cX3_toasts 166 = .ok (.iadd, 1) := dk_96 (dk_at dksX3_toasts_7 3 rfl rfl)
theorem dX3_toasts_167 : decode cX3_toasts 167 = .ok (.istore 7, 2) := dk_54 7 (dk_at dksX3_toasts_7 4 rfl rfl)
theorem dX3_toasts_169 : decode cX3_toasts 169 = .ok (.aload_n 0, 1) := dk_42 (dk_at dksX3_toasts_7 6 rfl rfl)
theorem dX3_toasts_170 : decode cX3_toasts 170 = .ok (.getfield 9, 3) := dk_180 0 9 (dk_at dksX3_toasts_7 7 rfl rfl)
theorem dX3_toasts_173 : decode cX3_toasts 173 = .ok (.bipush 6, 2) := dk_16 6 (dk_at dksX3_toasts_7 10 rfl rfl)
theorem dX3_toasts_175 : decode cX3_toasts 175 = .ok (.iaload, 1) := dk_46 (dk_at dksX3_toasts_7 12 rfl rfl)
theorem dX3_toasts_176 : decode cX3_toasts 176 = .ok (.istore 6, 2) := dk_54 6 (dk_at dksX3_toasts_7 13 rfl rfl)
theorem dX3_toasts_178 : decode cX3_toasts 178 = .ok (.aload_n 0, 1) := dk_42 (dk_at dksX3_toasts_7 15 rfl rfl)
theorem dX3_toasts_179 : decode cX3_toasts 179 = .ok (.invokevirtual 426, 3) := dk_182 1 170 (dk_at dksX3_toasts_7 16 rfl rfl)
theorem dX3_toasts_182 : decode cX3_toasts 182 = .ok (.iinc 8 1, 3) := dk_132 8 1 (dk_at dksX3_toasts_7 19 rfl rfl)
theorem dX3_toasts_185 : decode cX3_toasts 185 = .ok (.goto (-106), 3) := dk_167 255 150 (dk_at dksX3_toasts_8 0 rfl rfl)
theorem dX3_toasts_188 : decode cX3_toasts 188 = .ok (.aload_n 0, 1) := dk_42 (dk_at dksX3_toasts_8 3 rfl rfl)
theorem dX3_toasts_189 : decode cX3_toasts 189 = .ok (.getfield 9, 3) := dk_180 0 9 (dk_at dksX3_toasts_8 4 rfl rfl)
theorem dX3_toasts_192 : decode cX3_toasts 192 = .ok (.bipush 6, 2) := dk_16 6 (dk_at dksX3_toasts_8 7 rfl rfl)
theorem dX3_toasts_194 : decode cX3_toasts 194 = .ok (.iload 5, 2) := dk_21 5 (dk_at dksX3_toasts_8 9 rfl rfl)
theorem dX3_toasts_196 : decode cX3_toasts 196 = .ok (.iastore, 1) := dk_79 (dk_at dksX3_toasts_8 11 rfl rfl)
theorem dX3_toasts_197 : decode cX3_toasts 197 = .ok (.iload 7, 2) := dk_21 7 (dk_at dksX3_toasts_8 12 rfl rfl)
theorem dX3_toasts_199 : decode cX3_toasts 199 = .ok (.ireturn, 1) := dk_172 (dk_at dksX3_toasts_8 14 rfl rfl)
abbrev cX3_draws : ByteArray := prog_17_method_104_code
def yX3_draws : MethodName := ⟨RX3, "draws", "(I)I"⟩
def dkwX3_draws_1 : List UInt8 := [20, 1, 216, 113, 136, 79, 42, 180, 0, 9, 16, 6, 46, 19, 1, 218, 108, 27, 112, 172]
abbrev dktX3_draws_1 : List UInt8 := dkwX3_draws_1 ++ []
def dkwX3_draws_0 : List UInt8 := [42, 180, 0, 9, 16, 6, 42, 180, 0, 9, 16, 6, 46, 133, 20, 1, 212, 105, 20, 1, 214, 97]
abbrev dktX3_draws_0 : List UInt8 := dkwX3_draws_0 ++ dktX3_draws_1
theorem dksX3_draws_0 : cX3_draws.data.toList.drop 0 = dktX3_draws_0 := by decide +kernel
theorem dksX3_draws_1 : cX3_draws.data.toList.drop 22 = dktX3_draws_1 := dk_seg dksX3_draws_0 22 rfl rfl
theorem dX3_draws_0 : decode cX3_draws 0 = .ok (.aload_n 0, 1) := dk_42 (dk_at dksX3_draws_0 0 rfl rfl)
theorem dX3_draws_1 : decode cX3_draws 1 = .ok (.getfield 9, 3) := dk_180 0 9 (dk_at dksX3_draws_0 1 rfl rfl)
theorem dX3_draws_4 : decode cX3_draws 4 = .ok (.bipush 6, 2) := dk_16 6 (dk_at dksX3_draws_0 4 rfl rfl)
theorem dX3_draws_6 : decode cX3_draws 6 = .ok (.aload_n 0, 1) := dk_42 (dk_at dksX3_draws_0 6 rfl rfl)
theorem dX3_draws_7 : decode cX3_draws 7 = .ok (.getfield 9, 3) := dk_180 0 9 (dk_at dksX3_draws_0 7 rfl rfl)
theorem dX3_draws_10 : decode cX3_draws 10 = .ok (.bipush 6, 2) := dk_16 6 (dk_at dksX3_draws_0 10 rfl rfl)
theorem dX3_draws_12 : decode cX3_draws 12 = .ok (.iaload, 1) := dk_46 (dk_at dksX3_draws_0 12 rfl rfl)
theorem dX3_draws_13 : decode cX3_draws 13 = .ok (.i2l, 1) := dk_133 (dk_at dksX3_draws_0 13 rfl rfl)
theorem dX3_draws_14 : decode cX3_draws 14 = .ok (.ldc2_w 468, 3) := dk_20 1 212 (dk_at dksX3_draws_0 14 rfl rfl)
theorem dX3_draws_17 : decode cX3_draws 17 = .ok (.lmul, 1) := dk_105 (dk_at dksX3_draws_0 17 rfl rfl)
theorem dX3_draws_18 : decode cX3_draws 18 = .ok (.ldc2_w 470, 3) := dk_20 1 214 (dk_at dksX3_draws_0 18 rfl rfl)
theorem dX3_draws_21 : decode cX3_draws 21 = .ok (.ladd, 1) := dk_97 (dk_at dksX3_draws_0 21 rfl rfl)
theorem dX3_draws_22 : decode cX3_draws 22 = .ok (.ldc2_w 472, 3) := dk_20 1 216 (dk_at dksX3_draws_1 0 rfl rfl)
theorem dX3_draws_25 : decode cX3_draws 25 = .ok (.lrem, 1) := dk_113 (dk_at dksX3_draws_1 3 rfl rfl)
theorem dX3_draws_26 : decode cX3_draws 26 = .ok (.l2i, 1) := dk_136 (dk_at dksX3_draws_1 4 rfl rfl)
theorem dX3_draws_27 : decode cX3_draws 27 = .ok (.iastore, 1) := dk_79 (dk_at dksX3_draws_1 5 rfl rfl)
theorem dX3_draws_28 : decode cX3_draws 28 = .ok (.aload_n 0, 1) := dk_42 (dk_at dksX3_draws_1 6 rfl rfl)
theorem dX3_draws_29 : decode cX3_draws 29 = .ok (.getfield 9, 3) := dk_180 0 9 (dk_at dksX3_draws_1 7 rfl rfl)
theorem dX3_draws_32 : decode cX3_draws 32 = .ok (.bipush 6, 2) := dk_16 6 (dk_at dksX3_draws_1 10 rfl rfl)
theorem dX3_draws_34 : decode cX3_draws 34 = .ok (.iaload, 1) := dk_46 (dk_at dksX3_draws_1 12 rfl rfl)
theorem dX3_draws_35 : decode cX3_draws 35 = .ok (.ldc_w 474, 3) := dk_19 1 218 (dk_at dksX3_draws_1 13 rfl rfl)
theorem dX3_draws_38 : decode cX3_draws 38 = .ok (.idiv, 1) := dk_108 (dk_at dksX3_draws_1 16 rfl rfl)
theorem dX3_draws_39 : decode cX3_draws 39 = .ok (.iload_n 1, 1) := dk_27 (dk_at dksX3_draws_1 17 rfl rfl)
theorem dX3_draws_40 : decode cX3_draws 40 = .ok (.irem, 1) := dk_112 (dk_at dksX3_draws_1 18 rfl rfl)
theorem dX3_draws_41 : decode cX3_draws 41 = .ok (.ireturn, 1) := dk_172 (dk_at dksX3_draws_1 19 rfl rfl)
abbrev cX3_toastOf : ByteArray := prog_17_method_105_code
def yX3_toastOf : MethodName := ⟨RX3, "toastOf", "(I)V"⟩
def dkwX3_toastOf_1 : List UInt8 := [27, 46, 100, 79, 42, 182, 1, 124, 87, 177]
abbrev dktX3_toastOf_1 : List UInt8 := dkwX3_toastOf_1 ++ []
def dkwX3_toastOf_0 : List UInt8 := [42, 180, 0, 16, 27, 42, 180, 0, 16, 27, 46, 5, 160, 0, 7, 5, 167, 0, 11, 4, 42, 180, 0, 16]
abbrev dktX3_toastOf_0 : List UInt8 := dkwX3_toastOf_0 ++ dktX3_toastOf_1
theorem dksX3_toastOf_0 : cX3_toastOf.data.toList.drop 0 = dktX3_toastOf_0 := by decide +kernel
theorem dksX3_toastOf_1 : cX3_toastOf.data.toList.drop 24 = dktX3_toastOf_1 := dk_seg dksX3_toastOf_0 24 rfl rfl
theorem dX3_toastOf_0 : decode cX3_toastOf 0 = .ok (.aload_n 0, 1) := dk_42 (dk_at dksX3_toastOf_0 0 rfl rfl)
theorem dX3_toastOf_1 : decode cX3_toastOf 1 = .ok (.getfield 16, 3) := dk_180 0 16 (dk_at dksX3_toastOf_0 1 rfl rfl)
theorem dX3_toastOf_4 : decode cX3_toastOf 4 = .ok (.iload_n 1, 1) := dk_27 (dk_at dksX3_toastOf_0 4 rfl rfl)
theorem dX3_toastOf_5 : decode cX3_toastOf 5 = .ok (.aload_n 0, 1) := dk_42 (dk_at dksX3_toastOf_0 5 rfl rfl)
theorem dX3_toastOf_6 : decode cX3_toastOf 6 = .ok (.getfield 16, 3) := dk_180 0 16 (dk_at dksX3_toastOf_0 6 rfl rfl)
theorem dX3_toastOf_9 : decode cX3_toastOf 9 = .ok (.iload_n 1, 1) := dk_27 (dk_at dksX3_toastOf_0 9 rfl rfl)
theorem dX3_toastOf_10 : decode cX3_toastOf 10 = .ok (.iaload, 1) := dk_46 (dk_at dksX3_toastOf_0 10 rfl rfl)
theorem dX3_toastOf_11 : decode cX3_toastOf 11 = .ok (.iconst 2, 1) := dk_5 (dk_at dksX3_toastOf_0 11 rfl rfl)
theorem dX3_toastOf_12 : decode cX3_toastOf 12 = .ok (.if_icmp .ne 7, 3) := dk_160 0 7 (dk_at dksX3_toastOf_0 12 rfl rfl)
theorem dX3_toastOf_15 : decode cX3_toastOf 15 = .ok (.iconst 2, 1) := dk_5 (dk_at dksX3_toastOf_0 15 rfl rfl)
theorem dX3_toastOf_16 : decode cX3_toastOf 16 = .ok (.goto 11, 3) := dk_167 0 11 (dk_at dksX3_toastOf_0 16 rfl rfl)
theorem dX3_toastOf_19 : decode cX3_toastOf 19 = .ok (.iconst 1, 1) := dk_4 (dk_at dksX3_toastOf_0 19 rfl rfl)
theorem dX3_toastOf_20 : decode cX3_toastOf 20 = .ok (.aload_n 0, 1) := dk_42 (dk_at dksX3_toastOf_0 20 rfl rfl)
theorem dX3_toastOf_21 : decode cX3_toastOf 21 = .ok (.getfield 16, 3) := dk_180 0 16 (dk_at dksX3_toastOf_0 21 rfl rfl)
theorem dX3_toastOf_24 : decode cX3_toastOf 24 = .ok (.iload_n 1, 1) := dk_27 (dk_at dksX3_toastOf_1 0 rfl rfl)
theorem dX3_toastOf_25 : decode cX3_toastOf 25 = .ok (.iaload, 1) := dk_46 (dk_at dksX3_toastOf_1 1 rfl rfl)
theorem dX3_toastOf_26 : decode cX3_toastOf 26 = .ok (.isub, 1) := dk_100 (dk_at dksX3_toastOf_1 2 rfl rfl)
theorem dX3_toastOf_27 : decode cX3_toastOf 27 = .ok (.iastore, 1) := dk_79 (dk_at dksX3_toastOf_1 3 rfl rfl)
theorem dX3_toastOf_28 : decode cX3_toastOf 28 = .ok (.aload_n 0, 1) := dk_42 (dk_at dksX3_toastOf_1 4 rfl rfl)
theorem dX3_toastOf_29 : decode cX3_toastOf 29 = .ok (.invokevirtual 380, 3) := dk_182 1 124 (dk_at dksX3_toastOf_1 5 rfl rfl)
theorem dX3_toastOf_32 : decode cX3_toastOf 32 = .ok (.pop, 1) := dk_87 (dk_at dksX3_toastOf_1 8 rfl rfl)
theorem dX3_toastOf_33 : decode cX3_toastOf 33 = .ok (.return_, 1) := dk_177 (dk_at dksX3_toastOf_1 9 rfl rfl)
abbrev cX3_count : ByteArray := prog_17_method_107_code
def yX3_count : MethodName := ⟨RX3, "count", "(I)I"⟩
def dkwX3_count_5 : List UInt8 := [42, 180, 0, 9, 16, 6, 46, 172, 42, 180, 0, 135, 172, 2, 172]
abbrev dktX3_count_5 : List UInt8 := dkwX3_count_5 ++ []
def dkwX3_count_4 : List UInt8 := [172, 42, 5, 182, 1, 85, 172, 42, 182, 1, 198, 172, 42, 180, 0, 9, 8, 46, 172, 42, 180, 1, 43, 172]
abbrev dktX3_count_4 : List UInt8 := dkwX3_count_4 ++ dktX3_count_5
def dkwX3_count_3 : List UInt8 := [180, 1, 56, 172, 42, 180, 0, 9, 16, 7, 46, 172, 42, 180, 0, 9, 7, 46, 172, 42, 4, 182, 1, 85]
abbrev dktX3_count_3 : List UInt8 := dkwX3_count_3 ++ dktX3_count_4
def dkwX3_count_2 : List UInt8 := [42, 180, 0, 9, 4, 46, 172, 42, 180, 0, 9, 5, 46, 172, 42, 180, 0, 9, 6, 46, 172, 42]
abbrev dktX3_count_2 : List UInt8 := dkwX3_count_2 ++ dktX3_count_3
def dkwX3_count_1 : List UInt8 := [170, 0, 0, 0, 0, 0, 150, 0, 0, 0, 0, 0, 0, 0, 12, 0, 0, 0, 67, 0, 0, 0, 74, 0, 0, 0, 81, 0, 0, 0, 88, 0, 0, 0, 93, 0, 0, 0, 101, 0, 0, 0, 108, 0, 0, 0, 114, 0, 0, 0, 120, 0, 0, 0, 125, 0, 0, 0, 132, 0, 0, 0, 137, 0, 0, 0, 145]
abbrev dktX3_count_1 : List UInt8 := dkwX3_count_1 ++ dktX3_count_2
def dkwX3_count_0 : List UInt8 := [27]
abbrev dktX3_count_0 : List UInt8 := dkwX3_count_0 ++ dktX3_count_1
theorem dksX3_count_0 : cX3_count.data.toList.drop 0 = dktX3_count_0 := by decide +kernel
theorem dksX3_count_1 : cX3_count.data.toList.drop 1 = dktX3_count_1 := dk_seg dksX3_count_0 1 rfl rfl
theorem dksX3_count_2 : cX3_count.data.toList.drop 68 = dktX3_count_2 := dk_seg dksX3_count_1 67 rfl rfl
theorem dksX3_count_3 : cX3_count.data.toList.drop 90 = dktX3_count_3 := dk_seg dksX3_count_2 22 rfl rfl
theorem dksX3_count_4 : cX3_count.data.toList.drop 114 = dktX3_count_4 := dk_seg dksX3_count_3 24 rfl rfl
theorem dksX3_count_5 : cX3_count.data.toList.drop 138 = dktX3_count_5 := dk_seg dksX3_count_4 24 rfl rfl
theorem dX3_count_0 : decode cX3_count 0 = .ok (.iload_n 1, 1) := dk_27 (dk_at dksX3_count_0 0 rfl rfl)
theorem dX3_count_1 : decode cX3_count 1 = .ok (.tableswitch 150 0 12 #[67, 74, 81, 88, 93, 101, 108, 114, 120, 125, 132, 137, 145], 67) := by decide +kernel
theorem dX3_count_68 : decode cX3_count 68 = .ok (.aload_n 0, 1) := dk_42 (dk_at dksX3_count_2 0 rfl rfl)
theorem dX3_count_69 : decode cX3_count 69 = .ok (.getfield 9, 3) := dk_180 0 9 (dk_at dksX3_count_2 1 rfl rfl)
theorem dX3_count_72 : decode cX3_count 72 = .ok (.iconst 1, 1) := dk_4 (dk_at dksX3_count_2 4 rfl rfl)
theorem dX3_count_73 : decode cX3_count 73 = .ok (.iaload, 1) := dk_46 (dk_at dksX3_count_2 5 rfl rfl)
theorem dX3_count_74 : decode cX3_count 74 = .ok (.ireturn, 1) := dk_172 (dk_at dksX3_count_2 6 rfl rfl)
theorem dX3_count_75 : decode cX3_count 75 = .ok (.aload_n 0, 1) := dk_42 (dk_at dksX3_count_2 7 rfl rfl)
theorem dX3_count_76 : decode cX3_count 76 = .ok (.getfield 9, 3) := dk_180 0 9 (dk_at dksX3_count_2 8 rfl rfl)
theorem dX3_count_79 : decode cX3_count 79 = .ok (.iconst 2, 1) := dk_5 (dk_at dksX3_count_2 11 rfl rfl)
theorem dX3_count_80 : decode cX3_count 80 = .ok (.iaload, 1) := dk_46 (dk_at dksX3_count_2 12 rfl rfl)
theorem dX3_count_81 : decode cX3_count 81 = .ok (.ireturn, 1) := dk_172 (dk_at dksX3_count_2 13 rfl rfl)
theorem dX3_count_82 : decode cX3_count 82 = .ok (.aload_n 0, 1) := dk_42 (dk_at dksX3_count_2 14 rfl rfl)
theorem dX3_count_83 : decode cX3_count 83 = .ok (.getfield 9, 3) := dk_180 0 9 (dk_at dksX3_count_2 15 rfl rfl)
theorem dX3_count_86 : decode cX3_count 86 = .ok (.iconst 3, 1) := dk_6 (dk_at dksX3_count_2 18 rfl rfl)
theorem dX3_count_87 : decode cX3_count 87 = .ok (.iaload, 1) := dk_46 (dk_at dksX3_count_2 19 rfl rfl)
theorem dX3_count_88 : decode cX3_count 88 = .ok (.ireturn, 1) := dk_172 (dk_at dksX3_count_2 20 rfl rfl)
theorem dX3_count_89 : decode cX3_count 89 = .ok (.aload_n 0, 1) := dk_42 (dk_at dksX3_count_2 21 rfl rfl)
theorem dX3_count_90 : decode cX3_count 90 = .ok (.getfield 312, 3) := dk_180 1 56 (dk_at dksX3_count_3 0 rfl rfl)
theorem dX3_count_93 : decode cX3_count 93 = .ok (.ireturn, 1) := dk_172 (dk_at dksX3_count_3 3 rfl rfl)
theorem dX3_count_94 : decode cX3_count 94 = .ok (.aload_n 0, 1) := dk_42 (dk_at dksX3_count_3 4 rfl rfl)
theorem dX3_count_95 : decode cX3_count 95 = .ok (.getfield 9, 3) := dk_180 0 9 (dk_at dksX3_count_3 5 rfl rfl)
theorem dX3_count_98 : decode cX3_count 98 = .ok (.bipush 7, 2) := dk_16 7 (dk_at dksX3_count_3 8 rfl rfl)
theorem dX3_count_100 : decode cX3_count 100 = .ok (.iaload, 1) := dk_46 (dk_at dksX3_count_3 10 rfl rfl)
theorem dX3_count_101 : decode cX3_count 101 = .ok (.ireturn, 1) := dk_172 (dk_at dksX3_count_3 11 rfl rfl)
theorem dX3_count_102 : decode cX3_count 102 = .ok (.aload_n 0, 1) := dk_42 (dk_at dksX3_count_3 12 rfl rfl)
theorem dX3_count_103 : decode cX3_count 103 = .ok (.getfield 9, 3) := dk_180 0 9 (dk_at dksX3_count_3 13 rfl rfl)
theorem dX3_count_106 : decode cX3_count 106 = .ok (.iconst 4, 1) := dk_7 (dk_at dksX3_count_3 16 rfl rfl)
theorem dX3_count_107 : decode cX3_count 107 = .ok (.iaload, 1) := dk_46 (dk_at dksX3_count_3 17 rfl rfl)
theorem dX3_count_108 : decode cX3_count 108 = .ok (.ireturn, 1) := dk_172 (dk_at dksX3_count_3 18 rfl rfl)
theorem dX3_count_109 : decode cX3_count 109 = .ok (.aload_n 0, 1) := dk_42 (dk_at dksX3_count_3 19 rfl rfl)
theorem dX3_count_110 : decode cX3_count 110 = .ok (.iconst 1, 1) := dk_4 (dk_at dksX3_count_3 20 rfl rfl)
theorem dX3_count_111 : decode cX3_count 111 = .ok (.invokevirtual 341, 3) := dk_182 1 85 (dk_at dksX3_count_3 21 rfl rfl)
theorem dX3_count_114 : decode cX3_count 114 = .ok (.ireturn, 1) := dk_172 (dk_at dksX3_count_4 0 rfl rfl)
theorem dX3_count_115 : decode cX3_count 115 = .ok (.aload_n 0, 1) := dk_42 (dk_at dksX3_count_4 1 rfl rfl)
theorem dX3_count_116 : decode cX3_count 116 = .ok (.iconst 2, 1) := dk_5 (dk_at dksX3_count_4 2 rfl rfl)
theorem dX3_count_117 : decode cX3_count 117 = .ok (.invokevirtual 341, 3) := dk_182 1 85 (dk_at dksX3_count_4 3 rfl rfl)
theorem dX3_count_120 : decode cX3_count 120 = .ok (.ireturn, 1) := dk_172 (dk_at dksX3_count_4 6 rfl rfl)
theorem dX3_count_121 : decode cX3_count 121 = .ok (.aload_n 0, 1) := dk_42 (dk_at dksX3_count_4 7 rfl rfl)
theorem dX3_count_122 : decode cX3_count 122 = .ok (.invokevirtual 454, 3) := dk_182 1 198 (dk_at dksX3_count_4 8 rfl rfl)
theorem dX3_count_125 : decode cX3_count 125 = .ok (.ireturn, 1) := dk_172 (dk_at dksX3_count_4 11 rfl rfl)
theorem dX3_count_126 : decode cX3_count 126 = .ok (.aload_n 0, 1) := dk_42 (dk_at dksX3_count_4 12 rfl rfl)
theorem dX3_count_127 : decode cX3_count 127 = .ok (.getfield 9, 3) := dk_180 0 9 (dk_at dksX3_count_4 13 rfl rfl)
theorem dX3_count_130 : decode cX3_count 130 = .ok (.iconst 5, 1) := dk_8 (dk_at dksX3_count_4 16 rfl rfl)
theorem dX3_count_131 : decode cX3_count 131 = .ok (.iaload, 1) := dk_46 (dk_at dksX3_count_4 17 rfl rfl)
theorem dX3_count_132 : decode cX3_count 132 = .ok (.ireturn, 1) := dk_172 (dk_at dksX3_count_4 18 rfl rfl)
theorem dX3_count_133 : decode cX3_count 133 = .ok (.aload_n 0, 1) := dk_42 (dk_at dksX3_count_4 19 rfl rfl)
theorem dX3_count_134 : decode cX3_count 134 = .ok (.getfield 299, 3) := dk_180 1 43 (dk_at dksX3_count_4 20 rfl rfl)
theorem dX3_count_137 : decode cX3_count 137 = .ok (.ireturn, 1) := dk_172 (dk_at dksX3_count_4 23 rfl rfl)
theorem dX3_count_138 : decode cX3_count 138 = .ok (.aload_n 0, 1) := dk_42 (dk_at dksX3_count_5 0 rfl rfl)
theorem dX3_count_139 : decode cX3_count 139 = .ok (.getfield 9, 3) := dk_180 0 9 (dk_at dksX3_count_5 1 rfl rfl)
theorem dX3_count_142 : decode cX3_count 142 = .ok (.bipush 6, 2) := dk_16 6 (dk_at dksX3_count_5 4 rfl rfl)
theorem dX3_count_144 : decode cX3_count 144 = .ok (.iaload, 1) := dk_46 (dk_at dksX3_count_5 6 rfl rfl)
theorem dX3_count_145 : decode cX3_count 145 = .ok (.ireturn, 1) := dk_172 (dk_at dksX3_count_5 7 rfl rfl)
theorem dX3_count_146 : decode cX3_count 146 = .ok (.aload_n 0, 1) := dk_42 (dk_at dksX3_count_5 8 rfl rfl)
theorem dX3_count_147 : decode cX3_count 147 = .ok (.getfield 135, 3) := dk_180 0 135 (dk_at dksX3_count_5 9 rfl rfl)
theorem dX3_count_150 : decode cX3_count 150 = .ok (.ireturn, 1) := dk_172 (dk_at dksX3_count_5 12 rfl rfl)
theorem dX3_count_151 : decode cX3_count 151 = .ok (.iconst (-1), 1) := dk_2 (dk_at dksX3_count_5 13 rfl rfl)
theorem dX3_count_152 : decode cX3_count 152 = .ok (.ireturn, 1) := dk_172 (dk_at dksX3_count_5 14 rfl rfl)
abbrev cX3_image : ByteArray := prog_17_method_110_code
def yX3_image : MethodName := ⟨RX3, "image", "(I)I"⟩
def dkwX3_image_1 : List UInt8 := [182, 1, 159, 42, 180, 0, 9, 7, 46, 172]
abbrev dktX3_image_1 : List UInt8 := dkwX3_image_1 ++ []
def dkwX3_image_0 : List UInt8 := [27, 133, 9, 20, 1, 98, 184, 0, 131, 154, 0, 5, 2, 172, 42, 180, 0, 125, 27, 4, 84, 42, 27, 3]
abbrev dktX3_image_0 : List UInt8 := dkwX3_image_0 ++ dktX3_image_1
theorem dksX3_image_0 : cX3_image.data.toList.drop 0 = dktX3_image_0 := by decide +kernel
theorem dksX3_image_1 : cX3_image.data.toList.drop 24 = dktX3_image_1 := dk_seg dksX3_image_0 24 rfl rfl
theorem dX3_image_0 : decode cX3_image 0 = .ok (.iload_n 1, 1) := dk_27 (dk_at dksX3_image_0 0 rfl rfl)
theorem dX3_image_1 : decode cX3_image 1 = .ok (.i2l, 1) := dk_133 (dk_at dksX3_image_0 1 rfl rfl)
theorem dX3_image_2 : decode cX3_image 2 = .ok (.lconst 0, 1) := dk_9 (dk_at dksX3_image_0 2 rfl rfl)
theorem dX3_image_3 : decode cX3_image 3 = .ok (.ldc2_w 354, 3) := dk_20 1 98 (dk_at dksX3_image_0 3 rfl rfl)
theorem dX3_image_6 : decode cX3_image 6 = .ok (.invokestatic 131, 3) := dk_184 0 131 (dk_at dksX3_image_0 6 rfl rfl)
theorem dX3_image_9 : decode cX3_image 9 = .ok (.ifCond .ne 5, 3) := dk_154 0 5 (dk_at dksX3_image_0 9 rfl rfl)
theorem dX3_image_12 : decode cX3_image 12 = .ok (.iconst (-1), 1) := dk_2 (dk_at dksX3_image_0 12 rfl rfl)
theorem dX3_image_13 : decode cX3_image 13 = .ok (.ireturn, 1) := dk_172 (dk_at dksX3_image_0 13 rfl rfl)
theorem dX3_image_14 : decode cX3_image 14 = .ok (.aload_n 0, 1) := dk_42 (dk_at dksX3_image_0 14 rfl rfl)
theorem dX3_image_15 : decode cX3_image 15 = .ok (.getfield 125, 3) := dk_180 0 125 (dk_at dksX3_image_0 15 rfl rfl)
theorem dX3_image_18 : decode cX3_image 18 = .ok (.iload_n 1, 1) := dk_27 (dk_at dksX3_image_0 18 rfl rfl)
theorem dX3_image_19 : decode cX3_image 19 = .ok (.iconst 1, 1) := dk_4 (dk_at dksX3_image_0 19 rfl rfl)
theorem dX3_image_20 : decode cX3_image 20 = .ok (.bastore, 1) := dk_84 (dk_at dksX3_image_0 20 rfl rfl)
theorem dX3_image_21 : decode cX3_image 21 = .ok (.aload_n 0, 1) := dk_42 (dk_at dksX3_image_0 21 rfl rfl)
theorem dX3_image_22 : decode cX3_image 22 = .ok (.iload_n 1, 1) := dk_27 (dk_at dksX3_image_0 22 rfl rfl)
theorem dX3_image_23 : decode cX3_image 23 = .ok (.iconst 0, 1) := dk_3 (dk_at dksX3_image_0 23 rfl rfl)
theorem dX3_image_24 : decode cX3_image 24 = .ok (.invokevirtual 415, 3) := dk_182 1 159 (dk_at dksX3_image_1 0 rfl rfl)
theorem dX3_image_27 : decode cX3_image 27 = .ok (.aload_n 0, 1) := dk_42 (dk_at dksX3_image_1 3 rfl rfl)
theorem dX3_image_28 : decode cX3_image 28 = .ok (.getfield 9, 3) := dk_180 0 9 (dk_at dksX3_image_1 4 rfl rfl)
theorem dX3_image_31 : decode cX3_image 31 = .ok (.iconst 4, 1) := dk_7 (dk_at dksX3_image_1 7 rfl rfl)
theorem dX3_image_32 : decode cX3_image 32 = .ok (.iaload, 1) := dk_46 (dk_at dksX3_image_1 8 rfl rfl)
theorem dX3_image_33 : decode cX3_image 33 = .ok (.ireturn, 1) := dk_172 (dk_at dksX3_image_1 9 rfl rfl)
abbrev cX3_back : ByteArray := prog_17_method_111_code
def yX3_back : MethodName := ⟨RX3, "back", "(I)I"⟩
def dkwX3_back_1 : List UInt8 := [27, 4, 182, 1, 159, 42, 180, 0, 9, 7, 46, 172]
abbrev dktX3_back_1 : List UInt8 := dkwX3_back_1 ++ []
def dkwX3_back_0 : List UInt8 := [27, 133, 9, 20, 1, 98, 184, 0, 131, 153, 0, 12, 42, 180, 0, 125, 27, 51, 154, 0, 5, 2, 172, 42]
abbrev dktX3_back_0 : List UInt8 := dkwX3_back_0 ++ dktX3_back_1
theorem dksX3_back_0 : cX3_back.data.toList.drop 0 = dktX3_back_0 := by decide +kernel
theorem dksX3_back_1 : cX3_back.data.toList.drop 24 = dktX3_back_1 := dk_seg dksX3_back_0 24 rfl rfl
theorem dX3_back_0 : decode cX3_back 0 = .ok (.iload_n 1, 1) := dk_27 (dk_at dksX3_back_0 0 rfl rfl)
theorem dX3_back_1 : decode cX3_back 1 = .ok (.i2l, 1) := dk_133 (dk_at dksX3_back_0 1 rfl rfl)
theorem dX3_back_2 : decode cX3_back 2 = .ok (.lconst 0, 1) := dk_9 (dk_at dksX3_back_0 2 rfl rfl)
theorem dX3_back_3 : decode cX3_back 3 = .ok (.ldc2_w 354, 3) := dk_20 1 98 (dk_at dksX3_back_0 3 rfl rfl)
theorem dX3_back_6 : decode cX3_back 6 = .ok (.invokestatic 131, 3) := dk_184 0 131 (dk_at dksX3_back_0 6 rfl rfl)
theorem dX3_back_9 : decode cX3_back 9 = .ok (.ifCond .eq 12, 3) := dk_153 0 12 (dk_at dksX3_back_0 9 rfl rfl)
theorem dX3_back_12 : decode cX3_back 12 = .ok (.aload_n 0, 1) := dk_42 (dk_at dksX3_back_0 12 rfl rfl)
theorem dX3_back_13 : decode cX3_back 13 = .ok (.getfield 125, 3) := dk_180 0 125 (dk_at dksX3_back_0 13 rfl rfl)
theorem dX3_back_16 : decode cX3_back 16 = .ok (.iload_n 1, 1) := dk_27 (dk_at dksX3_back_0 16 rfl rfl)
theorem dX3_back_17 : decode cX3_back 17 = .ok (.baload, 1) := dk_51 (dk_at dksX3_back_0 17 rfl rfl)
theorem dX3_back_18 : decode cX3_back 18 = .ok (.ifCond .ne 5, 3) := dk_154 0 5 (dk_at dksX3_back_0 18 rfl rfl)
theorem dX3_back_21 : decode cX3_back 21 = .ok (.iconst (-1), 1) := dk_2 (dk_at dksX3_back_0 21 rfl rfl)
theorem dX3_back_22 : decode cX3_back 22 = .ok (.ireturn, 1) := dk_172 (dk_at dksX3_back_0 22 rfl rfl)
theorem dX3_back_23 : decode cX3_back 23 = .ok (.aload_n 0, 1) := dk_42 (dk_at dksX3_back_0 23 rfl rfl)
theorem dX3_back_24 : decode cX3_back 24 = .ok (.iload_n 1, 1) := dk_27 (dk_at dksX3_back_1 0 rfl rfl)
theorem dX3_back_25 : decode cX3_back 25 = .ok (.iconst 1, 1) := dk_4 (dk_at dksX3_back_1 1 rfl rfl)
theorem dX3_back_26 : decode cX3_back 26 = .ok (.invokevirtual 415, 3) := dk_182 1 159 (dk_at dksX3_back_1 2 rfl rfl)
theorem dX3_back_29 : decode cX3_back 29 = .ok (.aload_n 0, 1) := dk_42 (dk_at dksX3_back_1 5 rfl rfl)
theorem dX3_back_30 : decode cX3_back 30 = .ok (.getfield 9, 3) := dk_180 0 9 (dk_at dksX3_back_1 6 rfl rfl)
theorem dX3_back_33 : decode cX3_back 33 = .ok (.iconst 4, 1) := dk_7 (dk_at dksX3_back_1 9 rfl rfl)
theorem dX3_back_34 : decode cX3_back 34 = .ok (.iaload, 1) := dk_46 (dk_at dksX3_back_1 10 rfl rfl)
theorem dX3_back_35 : decode cX3_back 35 = .ok (.ireturn, 1) := dk_172 (dk_at dksX3_back_1 11 rfl rfl)
theorem q123 : (Jvm.Cond.initialized "ChairCaneModel") ∈ lw_all := lw_g (lw_at lw_m1 7 rfl) rfl
theorem q1111 : (Jvm.Cond.instantiable "ChairCaneModel" (53 : Nat)) ∈ lw_all := lw_g (lw_at lw_m5 35 rfl) rfl
theorem q1113 : (Jvm.Cond.instanceMethod ({ cls := "ChairCaneModel", name := "<init>", desc := "()V" } : Jvm.MethodName)) ∈ lw_all := lw_g (lw_at lw_m5 37 rfl) rfl
theorem q1114 : (Jvm.Cond.code ({ cls := "ChairCaneModel", name := "<init>", desc := "()V" } : Jvm.MethodName) prog_17_method_1_code (1 : Nat) (Option.none : Option Jvm.ClassFile.FieldType)) ∈ lw_all := lw_g (lw_at lw_m5 38 rfl) rfl
theorem q1115 : (Jvm.Cond.methodLink "ChairCaneModel" (3 : Nat) ({ cls := "java/lang/Object", name := "<init>", desc := "()V" } : Jvm.MethodName)) ∈ lw_all := lw_g (lw_at lw_m5 39 rfl) rfl
theorem q1116 : (Jvm.Cond.fieldLink "ChairCaneModel" (9 : Nat) "ChairCaneModel" "scalar" "[I") ∈ lw_all := lw_g (lw_at lw_m5 40 rfl) rfl
theorem q1117 : (Jvm.Cond.fieldLink "ChairCaneModel" (13 : Nat) "ChairCaneModel" "cane" "[I") ∈ lw_all := lw_g (lw_at lw_m5 41 rfl) rfl
theorem q1118 : (Jvm.Cond.fieldLink "ChairCaneModel" (16 : Nat) "ChairCaneModel" "is" "[I") ∈ lw_all := lw_g (lw_at lw_m5 42 rfl) rfl
theorem q1119 : (Jvm.Cond.fieldLink "ChairCaneModel" (19 : Nat) "ChairCaneModel" "strandOf" "[I") ∈ lw_all := lw_g (lw_at lw_m5 43 rfl) rfl
theorem q1120 : (Jvm.Cond.fieldLink "ChairCaneModel" (22 : Nat) "ChairCaneModel" "weight" "[I") ∈ lw_all := lw_g (lw_at lw_m5 44 rfl) rfl
theorem q1121 : (Jvm.Cond.fieldLink "ChairCaneModel" (25 : Nat) "ChairCaneModel" "height" "[I") ∈ lw_all := lw_g (lw_at lw_m5 45 rfl) rfl
theorem q1122 : (Jvm.Cond.fieldLink "ChairCaneModel" (28 : Nat) "ChairCaneModel" "chairOf" "[I") ∈ lw_all := lw_g (lw_at lw_m5 46 rfl) rfl
theorem q1123 : (Jvm.Cond.fieldLink "ChairCaneModel" (31 : Nat) "ChairCaneModel" "noteMinute" "[I") ∈ lw_all := lw_g (lw_at lw_m5 47 rfl) rfl
theorem q1124 : (Jvm.Cond.fieldLink "ChairCaneModel" (34 : Nat) "ChairCaneModel" "noteWho" "[I") ∈ lw_all := lw_g (lw_at lw_m5 48 rfl) rfl
theorem q1125 : (Jvm.Cond.fieldLink "ChairCaneModel" (37 : Nat) "ChairCaneModel" "noteIs" "[I") ∈ lw_all := lw_g (lw_at lw_m5 49 rfl) rfl
theorem q1126 : (Jvm.Cond.fieldLink "ChairCaneModel" (40 : Nat) "ChairCaneModel" "toldCane" "[I") ∈ lw_all := lw_g (lw_at lw_m5 50 rfl) rfl
theorem q1127 : (Jvm.Cond.fieldLink "ChairCaneModel" (43 : Nat) "ChairCaneModel" "newScalar" "[I") ∈ lw_all := lw_g (lw_at lw_m5 51 rfl) rfl
theorem q1128 : (Jvm.Cond.fieldLink "ChairCaneModel" (46 : Nat) "ChairCaneModel" "newCane" "[I") ∈ lw_all := lw_g (lw_at lw_m5 52 rfl) rfl
theorem q1129 : (Jvm.Cond.fieldLink "ChairCaneModel" (49 : Nat) "ChairCaneModel" "newHeight" "[I") ∈ lw_all := lw_g (lw_at lw_m5 53 rfl) rfl
theorem q1130 : (Jvm.Cond.fieldLink "ChairCaneModel" (52 : Nat) "ChairCaneModel" "newStrand" "[I") ∈ lw_all := lw_g (lw_at lw_m5 54 rfl) rfl
theorem q1131 : (Jvm.Cond.fieldLink "ChairCaneModel" (55 : Nat) "ChairCaneModel" "newChair" "[I") ∈ lw_all := lw_g (lw_at lw_m5 55 rfl) rfl
theorem q1132 : (Jvm.Cond.fieldLink "ChairCaneModel" (58 : Nat) "ChairCaneModel" "newWeight" "[I") ∈ lw_all := lw_g (lw_at lw_m5 56 rfl) rfl
theorem q1133 : (Jvm.Cond.fieldLink "ChairCaneModel" (135 : Nat) "ChairCaneModel" "taped" "I") ∈ lw_all := lw_g (lw_at lw_m5 57 rfl) rfl
theorem q1134 : (Jvm.Cond.fieldLink "ChairCaneModel" (164 : Nat) "ChairCaneModel" "p" "I") ∈ lw_all := lw_g (lw_at lw_m5 58 rfl) rfl
theorem q1135 : (Jvm.Cond.fieldLink "ChairCaneModel" (161 : Nat) "ChairCaneModel" "fault" "I") ∈ lw_all := lw_g (lw_at lw_m5 59 rfl) rfl
theorem q1136 : (Jvm.Cond.fieldLink "ChairCaneModel" (191 : Nat) "ChairCaneModel" "slot" "I") ∈ lw_all := lw_g (lw_at lw_m5 60 rfl) rfl
theorem q1137 : (Jvm.Cond.fieldLink "ChairCaneModel" (312 : Nat) "ChairCaneModel" "rules" "I") ∈ lw_all := lw_g (lw_at lw_m5 61 rfl) rfl
theorem q1138 : (Jvm.Cond.fieldLink "ChairCaneModel" (194 : Nat) "ChairCaneModel" "entries" "I") ∈ lw_all := lw_g (lw_at lw_m5 62 rfl) rfl
theorem q1139 : (Jvm.Cond.fieldLink "ChairCaneModel" (235 : Nat) "ChairCaneModel" "deep" "I") ∈ lw_all := lw_g (lw_at lw_m5 63 rfl) rfl
theorem q1140 : (Jvm.Cond.fieldLink "ChairCaneModel" (197 : Nat) "ChairCaneModel" "counted" "I") ∈ lw_all := lw_g (lw_at lw_m5 64 rfl) rfl
theorem q1141 : (Jvm.Cond.fieldLink "ChairCaneModel" (232 : Nat) "ChairCaneModel" "opened" "I") ∈ lw_all := lw_g (lw_at lw_m5 65 rfl) rfl
theorem q1142 : (Jvm.Cond.fieldLink "ChairCaneModel" (61 : Nat) "ChairCaneModel" "words" "I") ∈ lw_all := lw_g (lw_at lw_m5 66 rfl) rfl
theorem q1143 : (Jvm.Cond.fieldLink "ChairCaneModel" (65 : Nat) "ChairCaneModel" "tape" "[B") ∈ lw_all := lw_g (lw_at lw_m5 67 rfl) rfl
theorem q1144 : (Jvm.Cond.fieldLink "ChairCaneModel" (69 : Nat) "ChairCaneModel" "sort" "[I") ∈ lw_all := lw_g (lw_at lw_m5 68 rfl) rfl
theorem q1145 : (Jvm.Cond.fieldLink "ChairCaneModel" (72 : Nat) "ChairCaneModel" "number" "[I") ∈ lw_all := lw_g (lw_at lw_m5 69 rfl) rfl
theorem q1146 : (Jvm.Cond.fieldLink "ChairCaneModel" (75 : Nat) "ChairCaneModel" "clauses" "[I") ∈ lw_all := lw_g (lw_at lw_m5 70 rfl) rfl
theorem q1147 : (Jvm.Cond.fieldLink "ChairCaneModel" (78 : Nat) "ChairCaneModel" "sumAt" "[I") ∈ lw_all := lw_g (lw_at lw_m5 71 rfl) rfl
theorem q1148 : (Jvm.Cond.fieldLink "ChairCaneModel" (81 : Nat) "ChairCaneModel" "testAt" "[I") ∈ lw_all := lw_g (lw_at lw_m5 72 rfl) rfl
theorem q1149 : (Jvm.Cond.fieldLink "ChairCaneModel" (84 : Nat) "ChairCaneModel" "endAt" "[I") ∈ lw_all := lw_g (lw_at lw_m5 73 rfl) rfl
theorem q1150 : (Jvm.Cond.fieldLink "ChairCaneModel" (87 : Nat) "ChairCaneModel" "open" "[I") ∈ lw_all := lw_g (lw_at lw_m5 74 rfl) rfl
theorem q1151 : (Jvm.Cond.fieldLink "ChairCaneModel" (90 : Nat) "ChairCaneModel" "asked" "[J") ∈ lw_all := lw_g (lw_at lw_m5 75 rfl) rfl
theorem q1152 : (Jvm.Cond.fieldLink "ChairCaneModel" (94 : Nat) "ChairCaneModel" "stack" "[J") ∈ lw_all := lw_g (lw_at lw_m5 76 rfl) rfl
theorem q1153 : (Jvm.Cond.fieldLink "ChairCaneModel" (97 : Nat) "ChairCaneModel" "must" "[I") ∈ lw_all := lw_g (lw_at lw_m5 77 rfl) rfl
theorem q1154 : (Jvm.Cond.fieldLink "ChairCaneModel" (100 : Nat) "ChairCaneModel" "past" "[I") ∈ lw_all := lw_g (lw_at lw_m5 78 rfl) rfl
theorem q1155 : (Jvm.Cond.fieldLink "ChairCaneModel" (103 : Nat) "ChairCaneModel" "pastOf" "[I") ∈ lw_all := lw_g (lw_at lw_m5 79 rfl) rfl
theorem q1156 : (Jvm.Cond.fieldLink "ChairCaneModel" (299 : Nat) "ChairCaneModel" "pastMany" "I") ∈ lw_all := lw_g (lw_at lw_m5 80 rfl) rfl
theorem q1157 : (Jvm.Cond.fieldLink "ChairCaneModel" (390 : Nat) "ChairCaneModel" "pastAt" "I") ∈ lw_all := lw_g (lw_at lw_m5 81 rfl) rfl
theorem q1158 : (Jvm.Cond.fieldLink "ChairCaneModel" (386 : Nat) "ChairCaneModel" "takesBack" "Z") ∈ lw_all := lw_g (lw_at lw_m5 82 rfl) rfl
theorem q1159 : (Jvm.Cond.fieldLink "ChairCaneModel" (106 : Nat) "ChairCaneModel" "canRise" "[Z") ∈ lw_all := lw_g (lw_at lw_m5 83 rfl) rfl
theorem q1160 : (Jvm.Cond.fieldLink "ChairCaneModel" (110 : Nat) "ChairCaneModel" "firstHas" "[I") ∈ lw_all := lw_g (lw_at lw_m5 84 rfl) rfl
theorem q1161 : (Jvm.Cond.fieldLink "ChairCaneModel" (113 : Nat) "ChairCaneModel" "secondHas" "[I") ∈ lw_all := lw_g (lw_at lw_m5 85 rfl) rfl
theorem q1162 : (Jvm.Cond.fieldLink "ChairCaneModel" (116 : Nat) "ChairCaneModel" "lay" "[I") ∈ lw_all := lw_g (lw_at lw_m5 86 rfl) rfl
theorem q1163 : (Jvm.Cond.fieldLink "ChairCaneModel" (119 : Nat) "ChairCaneModel" "shows" "[I") ∈ lw_all := lw_g (lw_at lw_m5 87 rfl) rfl
theorem q1164 : (Jvm.Cond.fieldLink "ChairCaneModel" (122 : Nat) "ChairCaneModel" "images" "[I") ∈ lw_all := lw_g (lw_at lw_m5 88 rfl) rfl
theorem q1165 : (Jvm.Cond.fieldLink "ChairCaneModel" (125 : Nat) "ChairCaneModel" "isMade" "[Z") ∈ lw_all := lw_g (lw_at lw_m5 89 rfl) rfl
theorem q1166 : (Jvm.Cond.fieldLink "ChairCaneModel" (486 : Nat) "ChairCaneModel" "imageAt" "I") ∈ lw_all := lw_g (lw_at lw_m5 90 rfl) rfl
theorem q1167 : (Jvm.Cond.fieldLink "ChairCaneModel" (483 : Nat) "ChairCaneModel" "goesBack" "Z") ∈ lw_all := lw_g (lw_at lw_m5 91 rfl) rfl
theorem q1168 : (Jvm.Cond.lays "ChairCaneModel" "ChairCaneModel" "thrown" "I") ∈ lw_all := lw_g (lw_at lw_m5 92 rfl) rfl
theorem q1169 : (Jvm.Cond.soleField "ChairCaneModel" "thrown") ∈ lw_all := lw_g (lw_at lw_m5 93 rfl) rfl
theorem q1170 : (Jvm.Cond.laysFinal "ChairCaneModel" "ChairCaneModel" "scalar" "[I") ∈ lw_all := lw_g (lw_at lw_m5 94 rfl) rfl
theorem q1171 : (Jvm.Cond.soleField "ChairCaneModel" "scalar") ∈ lw_all := lw_g (lw_at lw_m5 95 rfl) rfl
theorem q1172 : (Jvm.Cond.laysFinal "ChairCaneModel" "ChairCaneModel" "cane" "[I") ∈ lw_all := lw_g (lw_at lw_m5 96 rfl) rfl
theorem q1173 : (Jvm.Cond.soleField "ChairCaneModel" "cane") ∈ lw_all := lw_g (lw_at lw_m5 97 rfl) rfl
theorem q1174 : (Jvm.Cond.laysFinal "ChairCaneModel" "ChairCaneModel" "is" "[I") ∈ lw_all := lw_g (lw_at lw_m5 98 rfl) rfl
theorem q1175 : (Jvm.Cond.soleField "ChairCaneModel" "is") ∈ lw_all := lw_g (lw_at lw_m5 99 rfl) rfl
theorem q1176 : (Jvm.Cond.laysFinal "ChairCaneModel" "ChairCaneModel" "strandOf" "[I") ∈ lw_all := lw_g (lw_at lw_m5 100 rfl) rfl
theorem q1177 : (Jvm.Cond.soleField "ChairCaneModel" "strandOf") ∈ lw_all := lw_g (lw_at lw_m5 101 rfl) rfl
theorem q1178 : (Jvm.Cond.laysFinal "ChairCaneModel" "ChairCaneModel" "weight" "[I") ∈ lw_all := lw_g (lw_at lw_m5 102 rfl) rfl
theorem q1179 : (Jvm.Cond.soleField "ChairCaneModel" "weight") ∈ lw_all := lw_g (lw_at lw_m5 103 rfl) rfl
theorem q1180 : (Jvm.Cond.laysFinal "ChairCaneModel" "ChairCaneModel" "height" "[I") ∈ lw_all := lw_g (lw_at lw_m5 104 rfl) rfl
theorem q1181 : (Jvm.Cond.soleField "ChairCaneModel" "height") ∈ lw_all := lw_g (lw_at lw_m5 105 rfl) rfl
theorem q1182 : (Jvm.Cond.laysFinal "ChairCaneModel" "ChairCaneModel" "chairOf" "[I") ∈ lw_all := lw_g (lw_at lw_m5 106 rfl) rfl
theorem q1183 : (Jvm.Cond.soleField "ChairCaneModel" "chairOf") ∈ lw_all := lw_g (lw_at lw_m5 107 rfl) rfl
theorem q1184 : (Jvm.Cond.laysFinal "ChairCaneModel" "ChairCaneModel" "noteMinute" "[I") ∈ lw_all := lw_g (lw_at lw_m5 108 rfl) rfl
theorem q1185 : (Jvm.Cond.soleField "ChairCaneModel" "noteMinute") ∈ lw_all := lw_g (lw_at lw_m5 109 rfl) rfl
theorem q1186 : (Jvm.Cond.laysFinal "ChairCaneModel" "ChairCaneModel" "noteWho" "[I") ∈ lw_all := lw_g (lw_at lw_m5 110 rfl) rfl
theorem q1187 : (Jvm.Cond.soleField "ChairCaneModel" "noteWho") ∈ lw_all := lw_g (lw_at lw_m5 111 rfl) rfl
theorem q1188 : (Jvm.Cond.laysFinal "ChairCaneModel" "ChairCaneModel" "noteIs" "[I") ∈ lw_all := lw_g (lw_at lw_m5 112 rfl) rfl
theorem q1189 : (Jvm.Cond.soleField "ChairCaneModel" "noteIs") ∈ lw_all := lw_g (lw_at lw_m5 113 rfl) rfl
theorem q1190 : (Jvm.Cond.laysFinal "ChairCaneModel" "ChairCaneModel" "toldCane" "[I") ∈ lw_all := lw_g (lw_at lw_m5 114 rfl) rfl
theorem q1191 : (Jvm.Cond.soleField "ChairCaneModel" "toldCane") ∈ lw_all := lw_g (lw_at lw_m5 115 rfl) rfl
theorem q1192 : (Jvm.Cond.laysFinal "ChairCaneModel" "ChairCaneModel" "newScalar" "[I") ∈ lw_all := lw_g (lw_at lw_m5 116 rfl) rfl
theorem q1193 : (Jvm.Cond.soleField "ChairCaneModel" "newScalar") ∈ lw_all := lw_g (lw_at lw_m5 117 rfl) rfl
theorem q1194 : (Jvm.Cond.laysFinal "ChairCaneModel" "ChairCaneModel" "newCane" "[I") ∈ lw_all := lw_g (lw_at lw_m5 118 rfl) rfl
theorem q1195 : (Jvm.Cond.soleField "ChairCaneModel" "newCane") ∈ lw_all := lw_g (lw_at lw_m5 119 rfl) rfl
theorem q1196 : (Jvm.Cond.laysFinal "ChairCaneModel" "ChairCaneModel" "newHeight" "[I") ∈ lw_all := lw_g (lw_at lw_m5 120 rfl) rfl
theorem q1197 : (Jvm.Cond.soleField "ChairCaneModel" "newHeight") ∈ lw_all := lw_g (lw_at lw_m5 121 rfl) rfl
theorem q1198 : (Jvm.Cond.laysFinal "ChairCaneModel" "ChairCaneModel" "newStrand" "[I") ∈ lw_all := lw_g (lw_at lw_m5 122 rfl) rfl
theorem q1199 : (Jvm.Cond.soleField "ChairCaneModel" "newStrand") ∈ lw_all := lw_g (lw_at lw_m5 123 rfl) rfl
theorem q1200 : (Jvm.Cond.laysFinal "ChairCaneModel" "ChairCaneModel" "newChair" "[I") ∈ lw_all := lw_g (lw_at lw_m5 124 rfl) rfl
theorem q1201 : (Jvm.Cond.soleField "ChairCaneModel" "newChair") ∈ lw_all := lw_g (lw_at lw_m5 125 rfl) rfl
theorem q1202 : (Jvm.Cond.laysFinal "ChairCaneModel" "ChairCaneModel" "newWeight" "[I") ∈ lw_all := lw_g (lw_at lw_m5 126 rfl) rfl
theorem q1203 : (Jvm.Cond.soleField "ChairCaneModel" "newWeight") ∈ lw_all := lw_g (lw_at lw_m5 127 rfl) rfl
theorem q1204 : (Jvm.Cond.lays "ChairCaneModel" "ChairCaneModel" "taped" "I") ∈ lw_all := lw_g (lw_at lw_m5 128 rfl) rfl
theorem q1205 : (Jvm.Cond.soleField "ChairCaneModel" "taped") ∈ lw_all := lw_g (lw_at lw_m5 129 rfl) rfl
theorem q1206 : (Jvm.Cond.lays "ChairCaneModel" "ChairCaneModel" "p" "I") ∈ lw_all := lw_g (lw_at lw_m5 130 rfl) rfl
theorem q1207 : (Jvm.Cond.soleField "ChairCaneModel" "p") ∈ lw_all := lw_g (lw_at lw_m5 131 rfl) rfl
theorem q1208 : (Jvm.Cond.lays "ChairCaneModel" "ChairCaneModel" "fault" "I") ∈ lw_all := lw_g (lw_at lw_m5 132 rfl) rfl
theorem q1209 : (Jvm.Cond.soleField "ChairCaneModel" "fault") ∈ lw_all := lw_g (lw_at lw_m5 133 rfl) rfl
theorem q1210 : (Jvm.Cond.lays "ChairCaneModel" "ChairCaneModel" "slot" "I") ∈ lw_all := lw_g (lw_at lw_m5 134 rfl) rfl
theorem q1211 : (Jvm.Cond.soleField "ChairCaneModel" "slot") ∈ lw_all := lw_g (lw_at lw_m5 135 rfl) rfl
theorem q1212 : (Jvm.Cond.lays "ChairCaneModel" "ChairCaneModel" "rules" "I") ∈ lw_all := lw_g (lw_at lw_m5 136 rfl) rfl
theorem q1213 : (Jvm.Cond.soleField "ChairCaneModel" "rules") ∈ lw_all := lw_g (lw_at lw_m5 137 rfl) rfl
theorem q1214 : (Jvm.Cond.lays "ChairCaneModel" "ChairCaneModel" "entries" "I") ∈ lw_all := lw_g (lw_at lw_m5 138 rfl) rfl
theorem q1215 : (Jvm.Cond.soleField "ChairCaneModel" "entries") ∈ lw_all := lw_g (lw_at lw_m5 139 rfl) rfl
theorem q1216 : (Jvm.Cond.lays "ChairCaneModel" "ChairCaneModel" "deep" "I") ∈ lw_all := lw_g (lw_at lw_m5 140 rfl) rfl
theorem q1217 : (Jvm.Cond.soleField "ChairCaneModel" "deep") ∈ lw_all := lw_g (lw_at lw_m5 141 rfl) rfl
theorem q1218 : (Jvm.Cond.lays "ChairCaneModel" "ChairCaneModel" "counted" "I") ∈ lw_all := lw_g (lw_at lw_m5 142 rfl) rfl
theorem q1219 : (Jvm.Cond.soleField "ChairCaneModel" "counted") ∈ lw_all := lw_g (lw_at lw_m5 143 rfl) rfl
theorem q1220 : (Jvm.Cond.lays "ChairCaneModel" "ChairCaneModel" "opened" "I") ∈ lw_all := lw_g (lw_at lw_m5 144 rfl) rfl
theorem q1221 : (Jvm.Cond.soleField "ChairCaneModel" "opened") ∈ lw_all := lw_g (lw_at lw_m5 145 rfl) rfl
theorem q1222 : (Jvm.Cond.lays "ChairCaneModel" "ChairCaneModel" "words" "I") ∈ lw_all := lw_g (lw_at lw_m5 146 rfl) rfl
theorem q1223 : (Jvm.Cond.soleField "ChairCaneModel" "words") ∈ lw_all := lw_g (lw_at lw_m5 147 rfl) rfl
theorem q1224 : (Jvm.Cond.laysFinal "ChairCaneModel" "ChairCaneModel" "tape" "[B") ∈ lw_all := lw_g (lw_at lw_m5 148 rfl) rfl
theorem q1225 : (Jvm.Cond.soleField "ChairCaneModel" "tape") ∈ lw_all := lw_g (lw_at lw_m5 149 rfl) rfl
theorem q1226 : (Jvm.Cond.laysFinal "ChairCaneModel" "ChairCaneModel" "sort" "[I") ∈ lw_all := lw_g (lw_at lw_m5 150 rfl) rfl
theorem q1227 : (Jvm.Cond.soleField "ChairCaneModel" "sort") ∈ lw_all := lw_g (lw_at lw_m5 151 rfl) rfl
theorem q1228 : (Jvm.Cond.laysFinal "ChairCaneModel" "ChairCaneModel" "number" "[I") ∈ lw_all := lw_g (lw_at lw_m5 152 rfl) rfl
theorem q1229 : (Jvm.Cond.soleField "ChairCaneModel" "number") ∈ lw_all := lw_g (lw_at lw_m5 153 rfl) rfl
theorem q1230 : (Jvm.Cond.laysFinal "ChairCaneModel" "ChairCaneModel" "clauses" "[I") ∈ lw_all := lw_g (lw_at lw_m5 154 rfl) rfl
theorem q1231 : (Jvm.Cond.soleField "ChairCaneModel" "clauses") ∈ lw_all := lw_g (lw_at lw_m5 155 rfl) rfl
theorem q1232 : (Jvm.Cond.laysFinal "ChairCaneModel" "ChairCaneModel" "sumAt" "[I") ∈ lw_all := lw_g (lw_at lw_m5 156 rfl) rfl
theorem q1233 : (Jvm.Cond.soleField "ChairCaneModel" "sumAt") ∈ lw_all := lw_g (lw_at lw_m5 157 rfl) rfl
theorem q1234 : (Jvm.Cond.laysFinal "ChairCaneModel" "ChairCaneModel" "testAt" "[I") ∈ lw_all := lw_g (lw_at lw_m5 158 rfl) rfl
theorem q1235 : (Jvm.Cond.soleField "ChairCaneModel" "testAt") ∈ lw_all := lw_g (lw_at lw_m5 159 rfl) rfl
theorem q1236 : (Jvm.Cond.laysFinal "ChairCaneModel" "ChairCaneModel" "endAt" "[I") ∈ lw_all := lw_g (lw_at lw_m5 160 rfl) rfl
theorem q1237 : (Jvm.Cond.soleField "ChairCaneModel" "endAt") ∈ lw_all := lw_g (lw_at lw_m5 161 rfl) rfl
theorem q1238 : (Jvm.Cond.laysFinal "ChairCaneModel" "ChairCaneModel" "open" "[I") ∈ lw_all := lw_g (lw_at lw_m5 162 rfl) rfl
theorem q1239 : (Jvm.Cond.soleField "ChairCaneModel" "open") ∈ lw_all := lw_g (lw_at lw_m5 163 rfl) rfl
theorem q1240 : (Jvm.Cond.laysFinal "ChairCaneModel" "ChairCaneModel" "asked" "[J") ∈ lw_all := lw_g (lw_at lw_m5 164 rfl) rfl
theorem q1241 : (Jvm.Cond.soleField "ChairCaneModel" "asked") ∈ lw_all := lw_g (lw_at lw_m5 165 rfl) rfl
theorem q1242 : (Jvm.Cond.laysFinal "ChairCaneModel" "ChairCaneModel" "stack" "[J") ∈ lw_all := lw_g (lw_at lw_m5 166 rfl) rfl
theorem q1243 : (Jvm.Cond.soleField "ChairCaneModel" "stack") ∈ lw_all := lw_g (lw_at lw_m5 167 rfl) rfl
theorem q1244 : (Jvm.Cond.laysFinal "ChairCaneModel" "ChairCaneModel" "must" "[I") ∈ lw_all := lw_g (lw_at lw_m5 168 rfl) rfl
theorem q1245 : (Jvm.Cond.soleField "ChairCaneModel" "must") ∈ lw_all := lw_g (lw_at lw_m5 169 rfl) rfl
theorem q1246 : (Jvm.Cond.laysFinal "ChairCaneModel" "ChairCaneModel" "past" "[I") ∈ lw_all := lw_g (lw_at lw_m5 170 rfl) rfl
theorem q1247 : (Jvm.Cond.soleField "ChairCaneModel" "past") ∈ lw_all := lw_g (lw_at lw_m5 171 rfl) rfl
theorem q1248 : (Jvm.Cond.laysFinal "ChairCaneModel" "ChairCaneModel" "pastOf" "[I") ∈ lw_all := lw_g (lw_at lw_m5 172 rfl) rfl
theorem q1249 : (Jvm.Cond.soleField "ChairCaneModel" "pastOf") ∈ lw_all := lw_g (lw_at lw_m5 173 rfl) rfl
theorem q1250 : (Jvm.Cond.lays "ChairCaneModel" "ChairCaneModel" "pastMany" "I") ∈ lw_all := lw_g (lw_at lw_m5 174 rfl) rfl
theorem q1251 : (Jvm.Cond.soleField "ChairCaneModel" "pastMany") ∈ lw_all := lw_g (lw_at lw_m5 175 rfl) rfl
theorem q1252 : (Jvm.Cond.lays "ChairCaneModel" "ChairCaneModel" "pastAt" "I") ∈ lw_all := lw_g (lw_at lw_m5 176 rfl) rfl
theorem q1253 : (Jvm.Cond.soleField "ChairCaneModel" "pastAt") ∈ lw_all := lw_g (lw_at lw_m5 177 rfl) rfl
theorem q1254 : (Jvm.Cond.lays "ChairCaneModel" "ChairCaneModel" "takesBack" "Z") ∈ lw_all := lw_g (lw_at lw_m5 178 rfl) rfl
theorem q1255 : (Jvm.Cond.soleField "ChairCaneModel" "takesBack") ∈ lw_all := lw_g (lw_at lw_m5 179 rfl) rfl
theorem q1256 : (Jvm.Cond.laysFinal "ChairCaneModel" "ChairCaneModel" "canRise" "[Z") ∈ lw_all := lw_g (lw_at lw_m5 180 rfl) rfl
theorem q1257 : (Jvm.Cond.soleField "ChairCaneModel" "canRise") ∈ lw_all := lw_g (lw_at lw_m5 181 rfl) rfl
theorem q1258 : (Jvm.Cond.laysFinal "ChairCaneModel" "ChairCaneModel" "firstHas" "[I") ∈ lw_all := lw_g (lw_at lw_m5 182 rfl) rfl
theorem q1259 : (Jvm.Cond.soleField "ChairCaneModel" "firstHas") ∈ lw_all := lw_g (lw_at lw_m5 183 rfl) rfl
theorem q1260 : (Jvm.Cond.laysFinal "ChairCaneModel" "ChairCaneModel" "secondHas" "[I") ∈ lw_all := lw_g (lw_at lw_m5 184 rfl) rfl
theorem q1261 : (Jvm.Cond.soleField "ChairCaneModel" "secondHas") ∈ lw_all := lw_g (lw_at lw_m5 185 rfl) rfl
theorem q1262 : (Jvm.Cond.laysFinal "ChairCaneModel" "ChairCaneModel" "lay" "[I") ∈ lw_all := lw_g (lw_at lw_m5 186 rfl) rfl
theorem q1263 : (Jvm.Cond.soleField "ChairCaneModel" "lay") ∈ lw_all := lw_g (lw_at lw_m5 187 rfl) rfl
theorem q1264 : (Jvm.Cond.laysFinal "ChairCaneModel" "ChairCaneModel" "shows" "[I") ∈ lw_all := lw_g (lw_at lw_m5 188 rfl) rfl
theorem q1265 : (Jvm.Cond.soleField "ChairCaneModel" "shows") ∈ lw_all := lw_g (lw_at lw_m5 189 rfl) rfl
theorem q1266 : (Jvm.Cond.laysFinal "ChairCaneModel" "ChairCaneModel" "images" "[I") ∈ lw_all := lw_g (lw_at lw_m5 190 rfl) rfl
theorem q1267 : (Jvm.Cond.soleField "ChairCaneModel" "images") ∈ lw_all := lw_g (lw_at lw_m5 191 rfl) rfl
theorem q1268 : (Jvm.Cond.laysFinal "ChairCaneModel" "ChairCaneModel" "isMade" "[Z") ∈ lw_all := lw_g (lw_at lw_m5 192 rfl) rfl
theorem q1269 : (Jvm.Cond.soleField "ChairCaneModel" "isMade") ∈ lw_all := lw_g (lw_at lw_m5 193 rfl) rfl
theorem q1270 : (Jvm.Cond.lays "ChairCaneModel" "ChairCaneModel" "imageAt" "I") ∈ lw_all := lw_g (lw_at lw_m5 194 rfl) rfl
theorem q1271 : (Jvm.Cond.soleField "ChairCaneModel" "imageAt") ∈ lw_all := lw_g (lw_at lw_m5 195 rfl) rfl
theorem q1272 : (Jvm.Cond.lays "ChairCaneModel" "ChairCaneModel" "goesBack" "Z") ∈ lw_all := lw_g (lw_at lw_m5 196 rfl) rfl
theorem q1273 : (Jvm.Cond.soleField "ChairCaneModel" "goesBack") ∈ lw_all := lw_g (lw_at lw_m5 197 rfl) rfl
theorem q1274 : (Jvm.Cond.superclass "ChairCaneModel" "java/lang/Object") ∈ lw_all := lw_g (lw_at lw_m5 198 rfl) rfl
theorem q1276 : (Jvm.Cond.instanceMethod ({ cls := "ChairCaneModel", name := "feed", desc := "(IIIII)I" } : Jvm.MethodName)) ∈ lw_all := lw_g (lw_at lw_m5 200 rfl) rfl
theorem q1277 : (Jvm.Cond.selects "ChairCaneModel" ({ cls := "ChairCaneModel", name := "feed", desc := "(IIIII)I" } : Jvm.MethodName) ({ cls := "ChairCaneModel", name := "feed", desc := "(IIIII)I" } : Jvm.MethodName)) ∈ lw_all := lw_g (lw_at lw_m5 201 rfl) rfl
theorem q1278 : (Jvm.Cond.code ({ cls := "ChairCaneModel", name := "feed", desc := "(IIIII)I" } : Jvm.MethodName) prog_17_method_10_code (6 : Nat) (Option.some Jvm.ClassFile.FieldType.int)) ∈ lw_all := lw_g (lw_at lw_m5 202 rfl) rfl
theorem q1279 : (Jvm.Cond.methodLink "ChairCaneModel" (138 : Nat) ({ cls := "ChairCaneModel", name := "put", desc := "(I)V" } : Jvm.MethodName)) ∈ lw_all := lw_g (lw_at lw_m5 203 rfl) rfl
theorem q1280 : (Jvm.Cond.privateMethod ({ cls := "ChairCaneModel", name := "put", desc := "(I)V" } : Jvm.MethodName)) ∈ lw_tbl := lw_at lw_m5 204 rfl
theorem q1281 : (Jvm.Cond.instanceMethod ({ cls := "ChairCaneModel", name := "put", desc := "(I)V" } : Jvm.MethodName)) ∈ lw_all := lw_g (lw_at lw_m5 205 rfl) rfl
theorem q1282 : (Jvm.Cond.code ({ cls := "ChairCaneModel", name := "put", desc := "(I)V" } : Jvm.MethodName) prog_17_method_11_code (3 : Nat) (Option.none : Option Jvm.ClassFile.FieldType)) ∈ lw_all := lw_g (lw_at lw_m5 206 rfl) rfl
theorem q1284 : (Jvm.Cond.instanceMethod ({ cls := "ChairCaneModel", name := "end", desc := "(I)I" } : Jvm.MethodName)) ∈ lw_all := lw_g (lw_at lw_m5 208 rfl) rfl
theorem q1285 : (Jvm.Cond.selects "ChairCaneModel" ({ cls := "ChairCaneModel", name := "end", desc := "(I)I" } : Jvm.MethodName) ({ cls := "ChairCaneModel", name := "end", desc := "(I)I" } : Jvm.MethodName)) ∈ lw_all := lw_g (lw_at lw_m5 209 rfl) rfl
theorem q1286 : (Jvm.Cond.code ({ cls := "ChairCaneModel", name := "end", desc := "(I)I" } : Jvm.MethodName) prog_17_method_12_code (2 : Nat) (Option.some Jvm.ClassFile.FieldType.int)) ∈ lw_all := lw_g (lw_at lw_m5 210 rfl) rfl
theorem q1288 : (Jvm.Cond.instanceMethod ({ cls := "ChairCaneModel", name := "hall", desc := "()I" } : Jvm.MethodName)) ∈ lw_all := lw_g (lw_at lw_m5 212 rfl) rfl
theorem q1289 : (Jvm.Cond.selects "ChairCaneModel" ({ cls := "ChairCaneModel", name := "hall", desc := "()I" } : Jvm.MethodName) ({ cls := "ChairCaneModel", name := "hall", desc := "()I" } : Jvm.MethodName)) ∈ lw_all := lw_g (lw_at lw_m5 213 rfl) rfl
theorem q1290 : (Jvm.Cond.code ({ cls := "ChairCaneModel", name := "hall", desc := "()I" } : Jvm.MethodName) prog_17_method_43_code (2 : Nat) (Option.some Jvm.ClassFile.FieldType.int)) ∈ lw_all := lw_g (lw_at lw_m5 214 rfl) rfl
theorem q1291 : (Jvm.Cond.methodLink "ChairCaneModel" (293 : Nat) ({ cls := "ChairCaneModel", name := "readsAll", desc := "()V" } : Jvm.MethodName)) ∈ lw_all := lw_g (lw_at lw_m5 215 rfl) rfl
theorem q1292 : (Jvm.Cond.privateMethod ({ cls := "ChairCaneModel", name := "readsAll", desc := "()V" } : Jvm.MethodName)) ∈ lw_tbl := lw_at lw_m5 216 rfl
theorem q1293 : (Jvm.Cond.instanceMethod ({ cls := "ChairCaneModel", name := "readsAll", desc := "()V" } : Jvm.MethodName)) ∈ lw_all := lw_g (lw_at lw_m5 217 rfl) rfl
theorem q1294 : (Jvm.Cond.code ({ cls := "ChairCaneModel", name := "readsAll", desc := "()V" } : Jvm.MethodName) prog_17_method_41_code (3 : Nat) (Option.none : Option Jvm.ClassFile.FieldType)) ∈ lw_all := lw_g (lw_at lw_m5 218 rfl) rfl
theorem q1295 : (Jvm.Cond.methodLink "ChairCaneModel" (280 : Nat) ({ cls := "ChairCaneModel", name := "starts", desc := "()V" } : Jvm.MethodName)) ∈ lw_all := lw_g (lw_at lw_m5 219 rfl) rfl
theorem q1296 : (Jvm.Cond.privateMethod ({ cls := "ChairCaneModel", name := "starts", desc := "()V" } : Jvm.MethodName)) ∈ lw_tbl := lw_at lw_m5 220 rfl
theorem q1297 : (Jvm.Cond.instanceMethod ({ cls := "ChairCaneModel", name := "starts", desc := "()V" } : Jvm.MethodName)) ∈ lw_all := lw_g (lw_at lw_m5 221 rfl) rfl
theorem q1298 : (Jvm.Cond.code ({ cls := "ChairCaneModel", name := "starts", desc := "()V" } : Jvm.MethodName) prog_17_method_40_code (1 : Nat) (Option.none : Option Jvm.ClassFile.FieldType)) ∈ lw_all := lw_g (lw_at lw_m5 222 rfl) rfl
theorem q1299 : (Jvm.Cond.methodLink "ChairCaneModel" (283 : Nat) ({ cls := "ChairCaneModel", name := "hallClause", desc := "(I)V" } : Jvm.MethodName)) ∈ lw_all := lw_g (lw_at lw_m5 223 rfl) rfl
theorem q1300 : (Jvm.Cond.privateMethod ({ cls := "ChairCaneModel", name := "hallClause", desc := "(I)V" } : Jvm.MethodName)) ∈ lw_tbl := lw_at lw_m5 224 rfl
theorem q1301 : (Jvm.Cond.instanceMethod ({ cls := "ChairCaneModel", name := "hallClause", desc := "(I)V" } : Jvm.MethodName)) ∈ lw_all := lw_g (lw_at lw_m5 225 rfl) rfl
theorem q1302 : (Jvm.Cond.code ({ cls := "ChairCaneModel", name := "hallClause", desc := "(I)V" } : Jvm.MethodName) prog_17_method_37_code (4 : Nat) (Option.none : Option Jvm.ClassFile.FieldType)) ∈ lw_all := lw_g (lw_at lw_m5 226 rfl) rfl
theorem q1303 : (Jvm.Cond.methodLink "ChairCaneModel" (184 : Nat) ({ cls := "ChairCaneModel", name := "blanks", desc := "()V" } : Jvm.MethodName)) ∈ lw_all := lw_g (lw_at lw_m5 227 rfl) rfl
theorem q1304 : (Jvm.Cond.privateMethod ({ cls := "ChairCaneModel", name := "blanks", desc := "()V" } : Jvm.MethodName)) ∈ lw_tbl := lw_at lw_m5 228 rfl
theorem q1305 : (Jvm.Cond.instanceMethod ({ cls := "ChairCaneModel", name := "blanks", desc := "()V" } : Jvm.MethodName)) ∈ lw_all := lw_g (lw_at lw_m5 229 rfl) rfl
theorem q1306 : (Jvm.Cond.code ({ cls := "ChairCaneModel", name := "blanks", desc := "()V" } : Jvm.MethodName) prog_17_method_16_code (1 : Nat) (Option.none : Option Jvm.ClassFile.FieldType)) ∈ lw_all := lw_g (lw_at lw_m5 230 rfl) rfl
theorem q1307 : (Jvm.Cond.methodLink "ChairCaneModel" (167 : Nat) ({ cls := "ChairCaneModel", name := "sign", desc := "()I" } : Jvm.MethodName)) ∈ lw_all := lw_g (lw_at lw_m5 231 rfl) rfl
theorem q1308 : (Jvm.Cond.privateMethod ({ cls := "ChairCaneModel", name := "sign", desc := "()I" } : Jvm.MethodName)) ∈ lw_tbl := lw_at lw_m5 232 rfl
theorem q1309 : (Jvm.Cond.instanceMethod ({ cls := "ChairCaneModel", name := "sign", desc := "()I" } : Jvm.MethodName)) ∈ lw_all := lw_g (lw_at lw_m5 233 rfl) rfl
theorem q1310 : (Jvm.Cond.code ({ cls := "ChairCaneModel", name := "sign", desc := "()I" } : Jvm.MethodName) prog_17_method_15_code (1 : Nat) (Option.some Jvm.ClassFile.FieldType.int)) ∈ lw_all := lw_g (lw_at lw_m5 234 rfl) rfl
theorem q1311 : (Jvm.Cond.methodLink "ChairCaneModel" (270 : Nat) ({ cls := "ChairCaneModel", name := "hallWord", desc := "(I)Ljava/lang/String;" } : Jvm.MethodName)) ∈ lw_all := lw_g (lw_at lw_m5 235 rfl) rfl
theorem q1312 : (Jvm.Cond.static ({ cls := "ChairCaneModel", name := "hallWord", desc := "(I)Ljava/lang/String;" } : Jvm.MethodName)) ∈ lw_all := lw_g (lw_at lw_m5 236 rfl) rfl
theorem q1313 : (Jvm.Cond.code ({ cls := "ChairCaneModel", name := "hallWord", desc := "(I)Ljava/lang/String;" } : Jvm.MethodName) prog_17_method_33_code (1 : Nat) (Option.some (Jvm.ClassFile.FieldType.object "java/lang/String"))) ∈ lw_all := lw_g (lw_at lw_m5 237 rfl) rfl
theorem q1314 : (Jvm.Cond.stringRef "ChairCaneModel" (259 : Nat) "hall") ∈ lw_tbl := lw_at lw_m5 238 rfl
theorem q1315 : (Jvm.Cond.stringRef "ChairCaneModel" (261 : Nat) "strand") ∈ lw_tbl := lw_at lw_m5 239 rfl
theorem q1316 : (Jvm.Cond.stringRef "ChairCaneModel" (144 : Nat) "chair") ∈ lw_tbl := lw_at lw_m6 0 rfl
theorem q1317 : (Jvm.Cond.stringRef "ChairCaneModel" (142 : Nat) "sitter") ∈ lw_tbl := lw_at lw_m6 1 rfl
theorem q1318 : (Jvm.Cond.methodLink "ChairCaneModel" (187 : Nat) ({ cls := "ChairCaneModel", name := "stood", desc := "(Ljava/lang/String;)Z" } : Jvm.MethodName)) ∈ lw_all := lw_g (lw_at lw_m6 2 rfl) rfl
theorem q1319 : (Jvm.Cond.privateMethod ({ cls := "ChairCaneModel", name := "stood", desc := "(Ljava/lang/String;)Z" } : Jvm.MethodName)) ∈ lw_tbl := lw_at lw_m6 3 rfl
theorem q1320 : (Jvm.Cond.instanceMethod ({ cls := "ChairCaneModel", name := "stood", desc := "(Ljava/lang/String;)Z" } : Jvm.MethodName)) ∈ lw_all := lw_g (lw_at lw_m6 4 rfl) rfl
theorem q1321 : (Jvm.Cond.code ({ cls := "ChairCaneModel", name := "stood", desc := "(Ljava/lang/String;)Z" } : Jvm.MethodName) prog_17_method_18_code (5 : Nat) (Option.some Jvm.ClassFile.FieldType.boolean)) ∈ lw_all := lw_g (lw_at lw_m6 5 rfl) rfl
theorem q1322 : (Jvm.Cond.methodLink "ChairCaneModel" (175 : Nat) ({ cls := "java/lang/String", name := "length", desc := "()I" } : Jvm.MethodName)) ∈ lw_all := lw_g (lw_at lw_m6 6 rfl) rfl
theorem q1323 : (Jvm.Cond.methodLink "ChairCaneModel" (180 : Nat) ({ cls := "java/lang/String", name := "charAt", desc := "(I)C" } : Jvm.MethodName)) ∈ lw_all := lw_g (lw_at lw_m6 7 rfl) rfl
theorem q1324 : (Jvm.Cond.methodLink "ChairCaneModel" (200 : Nat) ({ cls := "ChairCaneModel", name := "fails", desc := "(II)V" } : Jvm.MethodName)) ∈ lw_all := lw_g (lw_at lw_m6 8 rfl) rfl
theorem q1325 : (Jvm.Cond.privateMethod ({ cls := "ChairCaneModel", name := "fails", desc := "(II)V" } : Jvm.MethodName)) ∈ lw_tbl := lw_at lw_m6 9 rfl
theorem q1326 : (Jvm.Cond.instanceMethod ({ cls := "ChairCaneModel", name := "fails", desc := "(II)V" } : Jvm.MethodName)) ∈ lw_all := lw_g (lw_at lw_m6 10 rfl) rfl
theorem q1327 : (Jvm.Cond.code ({ cls := "ChairCaneModel", name := "fails", desc := "(II)V" } : Jvm.MethodName) prog_17_method_14_code (3 : Nat) (Option.none : Option Jvm.ClassFile.FieldType)) ∈ lw_all := lw_g (lw_at lw_m6 11 rfl) rfl
theorem q1328 : (Jvm.Cond.methodLink "ChairCaneModel" (273 : Nat) ({ cls := "ChairCaneModel", name := "isFull", desc := "(II)Z" } : Jvm.MethodName)) ∈ lw_all := lw_g (lw_at lw_m6 12 rfl) rfl
theorem q1329 : (Jvm.Cond.privateMethod ({ cls := "ChairCaneModel", name := "isFull", desc := "(II)Z" } : Jvm.MethodName)) ∈ lw_tbl := lw_at lw_m6 13 rfl
theorem q1330 : (Jvm.Cond.instanceMethod ({ cls := "ChairCaneModel", name := "isFull", desc := "(II)Z" } : Jvm.MethodName)) ∈ lw_all := lw_g (lw_at lw_m6 14 rfl) rfl
theorem q1331 : (Jvm.Cond.code ({ cls := "ChairCaneModel", name := "isFull", desc := "(II)Z" } : Jvm.MethodName) prog_17_method_36_code (3 : Nat) (Option.some Jvm.ClassFile.FieldType.boolean)) ∈ lw_all := lw_g (lw_at lw_m6 15 rfl) rfl
theorem q1332 : (Jvm.Cond.methodLink "ChairCaneModel" (277 : Nat) ({ cls := "ChairCaneModel", name := "hallPart", desc := "(I)V" } : Jvm.MethodName)) ∈ lw_all := lw_g (lw_at lw_m6 16 rfl) rfl
theorem q1333 : (Jvm.Cond.privateMethod ({ cls := "ChairCaneModel", name := "hallPart", desc := "(I)V" } : Jvm.MethodName)) ∈ lw_tbl := lw_at lw_m6 17 rfl
theorem q1334 : (Jvm.Cond.instanceMethod ({ cls := "ChairCaneModel", name := "hallPart", desc := "(I)V" } : Jvm.MethodName)) ∈ lw_all := lw_g (lw_at lw_m6 18 rfl) rfl
theorem q1335 : (Jvm.Cond.code ({ cls := "ChairCaneModel", name := "hallPart", desc := "(I)V" } : Jvm.MethodName) prog_17_method_35_code (3 : Nat) (Option.none : Option Jvm.ClassFile.FieldType)) ∈ lw_all := lw_g (lw_at lw_m6 19 rfl) rfl
theorem q1336 : (Jvm.Cond.methodLink "ChairCaneModel" (263 : Nat) ({ cls := "ChairCaneModel", name := "amount", desc := "(II)I" } : Jvm.MethodName)) ∈ lw_all := lw_g (lw_at lw_m6 20 rfl) rfl
theorem q1337 : (Jvm.Cond.privateMethod ({ cls := "ChairCaneModel", name := "amount", desc := "(II)I" } : Jvm.MethodName)) ∈ lw_tbl := lw_at lw_m6 21 rfl
theorem q1338 : (Jvm.Cond.instanceMethod ({ cls := "ChairCaneModel", name := "amount", desc := "(II)I" } : Jvm.MethodName)) ∈ lw_all := lw_g (lw_at lw_m6 22 rfl) rfl
theorem q1339 : (Jvm.Cond.code ({ cls := "ChairCaneModel", name := "amount", desc := "(II)I" } : Jvm.MethodName) prog_17_method_32_code (5 : Nat) (Option.some Jvm.ClassFile.FieldType.int)) ∈ lw_all := lw_g (lw_at lw_m6 23 rfl) rfl
theorem q1340 : (Jvm.Cond.constant "ChairCaneModel" (208 : Nat) (99999 : Int32)) ∈ lw_all := lw_g (lw_at lw_m6 24 rfl) rfl
theorem q1341 : (Jvm.Cond.methodLink "ChairCaneModel" (209 : Nat) ({ cls := "ChairCaneModel", name := "digits", desc := "(I)I" } : Jvm.MethodName)) ∈ lw_all := lw_g (lw_at lw_m6 25 rfl) rfl
theorem q1342 : (Jvm.Cond.privateMethod ({ cls := "ChairCaneModel", name := "digits", desc := "(I)I" } : Jvm.MethodName)) ∈ lw_tbl := lw_at lw_m6 26 rfl
theorem q1343 : (Jvm.Cond.instanceMethod ({ cls := "ChairCaneModel", name := "digits", desc := "(I)I" } : Jvm.MethodName)) ∈ lw_all := lw_g (lw_at lw_m6 27 rfl) rfl
theorem q1344 : (Jvm.Cond.code ({ cls := "ChairCaneModel", name := "digits", desc := "(I)I" } : Jvm.MethodName) prog_17_method_22_code (4 : Nat) (Option.some Jvm.ClassFile.FieldType.int)) ∈ lw_all := lw_g (lw_at lw_m6 28 rfl) rfl
theorem q1345 : (Jvm.Cond.methodLink "ChairCaneModel" (204 : Nat) ({ cls := "ChairCaneModel", name := "isDigit", desc := "()Z" } : Jvm.MethodName)) ∈ lw_all := lw_g (lw_at lw_m6 29 rfl) rfl
theorem q1346 : (Jvm.Cond.privateMethod ({ cls := "ChairCaneModel", name := "isDigit", desc := "()Z" } : Jvm.MethodName)) ∈ lw_tbl := lw_at lw_m6 30 rfl
theorem q1347 : (Jvm.Cond.instanceMethod ({ cls := "ChairCaneModel", name := "isDigit", desc := "()Z" } : Jvm.MethodName)) ∈ lw_all := lw_g (lw_at lw_m6 31 rfl) rfl
theorem q1348 : (Jvm.Cond.code ({ cls := "ChairCaneModel", name := "isDigit", desc := "()Z" } : Jvm.MethodName) prog_17_method_17_code (1 : Nat) (Option.some Jvm.ClassFile.FieldType.boolean)) ∈ lw_all := lw_g (lw_at lw_m6 32 rfl) rfl
theorem q1349 : (Jvm.Cond.constantLong "ChairCaneModel" (171 : Nat) (48 : Int64)) ∈ lw_all := lw_g (lw_at lw_m6 33 rfl) rfl
theorem q1350 : (Jvm.Cond.constantLong "ChairCaneModel" (173 : Nat) (57 : Int64)) ∈ lw_all := lw_g (lw_at lw_m6 34 rfl) rfl
theorem q1351 : (Jvm.Cond.methodLink "ChairCaneModel" (131 : Nat) ({ cls := "ChairCaneModel", name := "in", desc := "(JJJ)Z" } : Jvm.MethodName)) ∈ lw_all := lw_g (lw_at lw_m6 35 rfl) rfl
theorem q1352 : (Jvm.Cond.static ({ cls := "ChairCaneModel", name := "in", desc := "(JJJ)Z" } : Jvm.MethodName)) ∈ lw_all := lw_g (lw_at lw_m6 36 rfl) rfl
theorem q1353 : (Jvm.Cond.code ({ cls := "ChairCaneModel", name := "in", desc := "(JJJ)Z" } : Jvm.MethodName) prog_17_method_3_code (6 : Nat) (Option.some Jvm.ClassFile.FieldType.boolean)) ∈ lw_all := lw_g (lw_at lw_m6 37 rfl) rfl
theorem q1354 : (Jvm.Cond.methodLink "ChairCaneModel" (267 : Nat) ({ cls := "ChairCaneModel", name := "sitterPart", desc := "()V" } : Jvm.MethodName)) ∈ lw_all := lw_g (lw_at lw_m6 38 rfl) rfl
theorem q1355 : (Jvm.Cond.privateMethod ({ cls := "ChairCaneModel", name := "sitterPart", desc := "()V" } : Jvm.MethodName)) ∈ lw_tbl := lw_at lw_m6 39 rfl
theorem q1356 : (Jvm.Cond.instanceMethod ({ cls := "ChairCaneModel", name := "sitterPart", desc := "()V" } : Jvm.MethodName)) ∈ lw_all := lw_g (lw_at lw_m6 40 rfl) rfl
theorem q1357 : (Jvm.Cond.code ({ cls := "ChairCaneModel", name := "sitterPart", desc := "()V" } : Jvm.MethodName) prog_17_method_34_code (5 : Nat) (Option.none : Option Jvm.ClassFile.FieldType)) ∈ lw_all := lw_g (lw_at lw_m6 41 rfl) rfl
theorem q1358 : (Jvm.Cond.methodLink "ChairCaneModel" (286 : Nat) ({ cls := "ChairCaneModel", name := "goesOn", desc := "()Z" } : Jvm.MethodName)) ∈ lw_all := lw_g (lw_at lw_m6 42 rfl) rfl
theorem q1359 : (Jvm.Cond.privateMethod ({ cls := "ChairCaneModel", name := "goesOn", desc := "()Z" } : Jvm.MethodName)) ∈ lw_tbl := lw_at lw_m6 43 rfl
theorem q1360 : (Jvm.Cond.instanceMethod ({ cls := "ChairCaneModel", name := "goesOn", desc := "()Z" } : Jvm.MethodName)) ∈ lw_all := lw_g (lw_at lw_m6 44 rfl) rfl
theorem q1361 : (Jvm.Cond.code ({ cls := "ChairCaneModel", name := "goesOn", desc := "()Z" } : Jvm.MethodName) prog_17_method_39_code (2 : Nat) (Option.some Jvm.ClassFile.FieldType.boolean)) ∈ lw_all := lw_g (lw_at lw_m6 45 rfl) rfl
theorem q1362 : (Jvm.Cond.methodLink "ChairCaneModel" (289 : Nat) ({ cls := "ChairCaneModel", name := "copies", desc := "([I[I)V" } : Jvm.MethodName)) ∈ lw_all := lw_g (lw_at lw_m6 46 rfl) rfl
theorem q1363 : (Jvm.Cond.static ({ cls := "ChairCaneModel", name := "copies", desc := "([I[I)V" } : Jvm.MethodName)) ∈ lw_all := lw_g (lw_at lw_m6 47 rfl) rfl
theorem q1364 : (Jvm.Cond.code ({ cls := "ChairCaneModel", name := "copies", desc := "([I[I)V" } : Jvm.MethodName) prog_17_method_38_code (3 : Nat) (Option.none : Option Jvm.ClassFile.FieldType)) ∈ lw_all := lw_g (lw_at lw_m6 48 rfl) rfl
theorem q1365 : (Jvm.Cond.methodLink "ChairCaneModel" (296 : Nat) ({ cls := "ChairCaneModel", name := "begins", desc := "()V" } : Jvm.MethodName)) ∈ lw_all := lw_g (lw_at lw_m6 49 rfl) rfl
theorem q1366 : (Jvm.Cond.privateMethod ({ cls := "ChairCaneModel", name := "begins", desc := "()V" } : Jvm.MethodName)) ∈ lw_tbl := lw_at lw_m6 50 rfl
theorem q1367 : (Jvm.Cond.instanceMethod ({ cls := "ChairCaneModel", name := "begins", desc := "()V" } : Jvm.MethodName)) ∈ lw_all := lw_g (lw_at lw_m6 51 rfl) rfl
theorem q1368 : (Jvm.Cond.code ({ cls := "ChairCaneModel", name := "begins", desc := "()V" } : Jvm.MethodName) prog_17_method_42_code (2 : Nat) (Option.none : Option Jvm.ClassFile.FieldType)) ∈ lw_all := lw_g (lw_at lw_m6 52 rfl) rfl
theorem q1370 : (Jvm.Cond.instanceMethod ({ cls := "ChairCaneModel", name := "rule", desc := "()I" } : Jvm.MethodName)) ∈ lw_all := lw_g (lw_at lw_m6 54 rfl) rfl
theorem q1371 : (Jvm.Cond.selects "ChairCaneModel" ({ cls := "ChairCaneModel", name := "rule", desc := "()I" } : Jvm.MethodName) ({ cls := "ChairCaneModel", name := "rule", desc := "()I" } : Jvm.MethodName)) ∈ lw_all := lw_g (lw_at lw_m6 55 rfl) rfl
theorem q1372 : (Jvm.Cond.code ({ cls := "ChairCaneModel", name := "rule", desc := "()I" } : Jvm.MethodName) prog_17_method_45_code (3 : Nat) (Option.some Jvm.ClassFile.FieldType.int)) ∈ lw_all := lw_g (lw_at lw_m6 56 rfl) rfl
theorem q1373 : (Jvm.Cond.methodLink "ChairCaneModel" (315 : Nat) ({ cls := "ChairCaneModel", name := "ruleClause", desc := "(I)V" } : Jvm.MethodName)) ∈ lw_all := lw_g (lw_at lw_m6 57 rfl) rfl
theorem q1374 : (Jvm.Cond.privateMethod ({ cls := "ChairCaneModel", name := "ruleClause", desc := "(I)V" } : Jvm.MethodName)) ∈ lw_tbl := lw_at lw_m6 58 rfl
theorem q1375 : (Jvm.Cond.instanceMethod ({ cls := "ChairCaneModel", name := "ruleClause", desc := "(I)V" } : Jvm.MethodName)) ∈ lw_all := lw_g (lw_at lw_m6 59 rfl) rfl
theorem q1376 : (Jvm.Cond.code ({ cls := "ChairCaneModel", name := "ruleClause", desc := "(I)V" } : Jvm.MethodName) prog_17_method_44_code (4 : Nat) (Option.none : Option Jvm.ClassFile.FieldType)) ∈ lw_all := lw_g (lw_at lw_m6 60 rfl) rfl
theorem q1377 : (Jvm.Cond.stringRef "ChairCaneModel" (302 : Nat) "sit") ∈ lw_tbl := lw_at lw_m6 61 rfl
theorem q1378 : (Jvm.Cond.methodLink "ChairCaneModel" (229 : Nat) ({ cls := "ChairCaneModel", name := "sum", desc := "()V" } : Jvm.MethodName)) ∈ lw_all := lw_g (lw_at lw_m6 62 rfl) rfl
theorem q1379 : (Jvm.Cond.privateMethod ({ cls := "ChairCaneModel", name := "sum", desc := "()V" } : Jvm.MethodName)) ∈ lw_tbl := lw_at lw_m6 63 rfl
theorem q1380 : (Jvm.Cond.instanceMethod ({ cls := "ChairCaneModel", name := "sum", desc := "()V" } : Jvm.MethodName)) ∈ lw_all := lw_g (lw_at lw_m6 64 rfl) rfl
theorem q1381 : (Jvm.Cond.code ({ cls := "ChairCaneModel", name := "sum", desc := "()V" } : Jvm.MethodName) prog_17_method_25_code (2 : Nat) (Option.none : Option Jvm.ClassFile.FieldType)) ∈ lw_all := lw_g (lw_at lw_m6 65 rfl) rfl
theorem q1382 : (Jvm.Cond.methodLink "ChairCaneModel" (226 : Nat) ({ cls := "ChairCaneModel", name := "term", desc := "()V" } : Jvm.MethodName)) ∈ lw_all := lw_g (lw_at lw_m6 66 rfl) rfl
theorem q1383 : (Jvm.Cond.privateMethod ({ cls := "ChairCaneModel", name := "term", desc := "()V" } : Jvm.MethodName)) ∈ lw_tbl := lw_at lw_m6 67 rfl
theorem q1384 : (Jvm.Cond.instanceMethod ({ cls := "ChairCaneModel", name := "term", desc := "()V" } : Jvm.MethodName)) ∈ lw_all := lw_g (lw_at lw_m6 68 rfl) rfl
theorem q1385 : (Jvm.Cond.code ({ cls := "ChairCaneModel", name := "term", desc := "()V" } : Jvm.MethodName) prog_17_method_24_code (2 : Nat) (Option.none : Option Jvm.ClassFile.FieldType)) ∈ lw_all := lw_g (lw_at lw_m6 69 rfl) rfl
theorem q1386 : (Jvm.Cond.methodLink "ChairCaneModel" (223 : Nat) ({ cls := "ChairCaneModel", name := "value", desc := "()V" } : Jvm.MethodName)) ∈ lw_all := lw_g (lw_at lw_m6 70 rfl) rfl
theorem q1387 : (Jvm.Cond.privateMethod ({ cls := "ChairCaneModel", name := "value", desc := "()V" } : Jvm.MethodName)) ∈ lw_tbl := lw_at lw_m6 71 rfl
theorem q1388 : (Jvm.Cond.instanceMethod ({ cls := "ChairCaneModel", name := "value", desc := "()V" } : Jvm.MethodName)) ∈ lw_all := lw_g (lw_at lw_m6 72 rfl) rfl
theorem q1389 : (Jvm.Cond.code ({ cls := "ChairCaneModel", name := "value", desc := "()V" } : Jvm.MethodName) prog_17_method_23_code (3 : Nat) (Option.none : Option Jvm.ClassFile.FieldType)) ∈ lw_all := lw_g (lw_at lw_m6 73 rfl) rfl
theorem q1390 : (Jvm.Cond.methodLink "ChairCaneModel" (213 : Nat) ({ cls := "ChairCaneModel", name := "isCounted", desc := "(I)V" } : Jvm.MethodName)) ∈ lw_all := lw_g (lw_at lw_m6 74 rfl) rfl
theorem q1391 : (Jvm.Cond.privateMethod ({ cls := "ChairCaneModel", name := "isCounted", desc := "(I)V" } : Jvm.MethodName)) ∈ lw_tbl := lw_at lw_m6 75 rfl
theorem q1392 : (Jvm.Cond.instanceMethod ({ cls := "ChairCaneModel", name := "isCounted", desc := "(I)V" } : Jvm.MethodName)) ∈ lw_all := lw_g (lw_at lw_m6 76 rfl) rfl
theorem q1393 : (Jvm.Cond.code ({ cls := "ChairCaneModel", name := "isCounted", desc := "(I)V" } : Jvm.MethodName) prog_17_method_21_code (2 : Nat) (Option.none : Option Jvm.ClassFile.FieldType)) ∈ lw_all := lw_g (lw_at lw_m6 77 rfl) rfl
theorem q1394 : (Jvm.Cond.methodLink "ChairCaneModel" (216 : Nat) ({ cls := "ChairCaneModel", name := "entry", desc := "(II)V" } : Jvm.MethodName)) ∈ lw_all := lw_g (lw_at lw_m6 78 rfl) rfl
theorem q1395 : (Jvm.Cond.privateMethod ({ cls := "ChairCaneModel", name := "entry", desc := "(II)V" } : Jvm.MethodName)) ∈ lw_tbl := lw_at lw_m6 79 rfl
theorem q1396 : (Jvm.Cond.instanceMethod ({ cls := "ChairCaneModel", name := "entry", desc := "(II)V" } : Jvm.MethodName)) ∈ lw_all := lw_g (lw_at lw_m6 80 rfl) rfl
theorem q1397 : (Jvm.Cond.code ({ cls := "ChairCaneModel", name := "entry", desc := "(II)V" } : Jvm.MethodName) prog_17_method_20_code (3 : Nat) (Option.none : Option Jvm.ClassFile.FieldType)) ∈ lw_all := lw_g (lw_at lw_m6 81 rfl) rfl
theorem q1398 : (Jvm.Cond.methodLink "ChairCaneModel" (219 : Nat) ({ cls := "ChairCaneModel", name := "wordOf", desc := "(I)Ljava/lang/String;" } : Jvm.MethodName)) ∈ lw_all := lw_g (lw_at lw_m6 82 rfl) rfl
theorem q1399 : (Jvm.Cond.static ({ cls := "ChairCaneModel", name := "wordOf", desc := "(I)Ljava/lang/String;" } : Jvm.MethodName)) ∈ lw_all := lw_g (lw_at lw_m6 83 rfl) rfl
theorem q1400 : (Jvm.Cond.code ({ cls := "ChairCaneModel", name := "wordOf", desc := "(I)Ljava/lang/String;" } : Jvm.MethodName) prog_17_method_13_code (1 : Nat) (Option.some (Jvm.ClassFile.FieldType.object "java/lang/String"))) ∈ lw_all := lw_g (lw_at lw_m6 84 rfl) rfl
theorem q1401 : (Jvm.Cond.stringRef "ChairCaneModel" (146 : Nat) "weight") ∈ lw_tbl := lw_at lw_m6 85 rfl
theorem q1402 : (Jvm.Cond.stringRef "ChairCaneModel" (147 : Nat) "height") ∈ lw_tbl := lw_at lw_m6 86 rfl
theorem q1403 : (Jvm.Cond.stringRef "ChairCaneModel" (148 : Nat) "cane") ∈ lw_tbl := lw_at lw_m6 87 rfl
theorem q1404 : (Jvm.Cond.stringRef "ChairCaneModel" (149 : Nat) "sits") ∈ lw_tbl := lw_at lw_m6 88 rfl
theorem q1405 : (Jvm.Cond.stringRef "ChairCaneModel" (151 : Nat) "give") ∈ lw_tbl := lw_at lw_m6 89 rfl
theorem q1406 : (Jvm.Cond.stringRef "ChairCaneModel" (153 : Nat) "others") ∈ lw_tbl := lw_at lw_m6 90 rfl
theorem q1407 : (Jvm.Cond.stringRef "ChairCaneModel" (155 : Nat) "press") ∈ lw_tbl := lw_at lw_m6 91 rfl
theorem q1408 : (Jvm.Cond.stringRef "ChairCaneModel" (157 : Nat) "dropped") ∈ lw_tbl := lw_at lw_m6 92 rfl
theorem q1409 : (Jvm.Cond.stringRef "ChairCaneModel" (159 : Nat) "minute") ∈ lw_tbl := lw_at lw_m6 93 rfl
theorem q1410 : (Jvm.Cond.stringRef "ChairCaneModel" (304 : Nat) "if") ∈ lw_tbl := lw_at lw_m6 94 rfl
theorem q1411 : (Jvm.Cond.methodLink "ChairCaneModel" (306 : Nat) ({ cls := "ChairCaneModel", name := "takes", desc := "(Ljava/lang/String;)Z" } : Jvm.MethodName)) ∈ lw_all := lw_g (lw_at lw_m6 95 rfl) rfl
theorem q1412 : (Jvm.Cond.privateMethod ({ cls := "ChairCaneModel", name := "takes", desc := "(Ljava/lang/String;)Z" } : Jvm.MethodName)) ∈ lw_tbl := lw_at lw_m6 96 rfl
theorem q1413 : (Jvm.Cond.instanceMethod ({ cls := "ChairCaneModel", name := "takes", desc := "(Ljava/lang/String;)Z" } : Jvm.MethodName)) ∈ lw_all := lw_g (lw_at lw_m6 97 rfl) rfl
theorem q1414 : (Jvm.Cond.code ({ cls := "ChairCaneModel", name := "takes", desc := "(Ljava/lang/String;)Z" } : Jvm.MethodName) prog_17_method_19_code (3 : Nat) (Option.some Jvm.ClassFile.FieldType.boolean)) ∈ lw_all := lw_g (lw_at lw_m6 98 rfl) rfl
theorem q1415 : (Jvm.Cond.methodLink "ChairCaneModel" (309 : Nat) ({ cls := "ChairCaneModel", name := "test", desc := "()V" } : Jvm.MethodName)) ∈ lw_all := lw_g (lw_at lw_m6 99 rfl) rfl
theorem q1416 : (Jvm.Cond.privateMethod ({ cls := "ChairCaneModel", name := "test", desc := "()V" } : Jvm.MethodName)) ∈ lw_tbl := lw_at lw_m6 100 rfl
theorem q1417 : (Jvm.Cond.instanceMethod ({ cls := "ChairCaneModel", name := "test", desc := "()V" } : Jvm.MethodName)) ∈ lw_all := lw_g (lw_at lw_m6 101 rfl) rfl
theorem q1418 : (Jvm.Cond.code ({ cls := "ChairCaneModel", name := "test", desc := "()V" } : Jvm.MethodName) prog_17_method_31_code (5 : Nat) (Option.none : Option Jvm.ClassFile.FieldType)) ∈ lw_all := lw_g (lw_at lw_m6 102 rfl) rfl
theorem q1419 : (Jvm.Cond.methodLink "ChairCaneModel" (249 : Nat) ({ cls := "ChairCaneModel", name := "fact", desc := "()Z" } : Jvm.MethodName)) ∈ lw_all := lw_g (lw_at lw_m6 103 rfl) rfl
theorem q1420 : (Jvm.Cond.privateMethod ({ cls := "ChairCaneModel", name := "fact", desc := "()Z" } : Jvm.MethodName)) ∈ lw_tbl := lw_at lw_m6 104 rfl
theorem q1421 : (Jvm.Cond.instanceMethod ({ cls := "ChairCaneModel", name := "fact", desc := "()Z" } : Jvm.MethodName)) ∈ lw_all := lw_g (lw_at lw_m6 105 rfl) rfl
theorem q1422 : (Jvm.Cond.code ({ cls := "ChairCaneModel", name := "fact", desc := "()Z" } : Jvm.MethodName) prog_17_method_30_code (1 : Nat) (Option.some Jvm.ClassFile.FieldType.boolean)) ∈ lw_all := lw_g (lw_at lw_m6 106 rfl) rfl
theorem q1423 : (Jvm.Cond.stringRef "ChairCaneModel" (241 : Nat) "not") ∈ lw_tbl := lw_at lw_m6 107 rfl
theorem q1424 : (Jvm.Cond.methodLink "ChairCaneModel" (243 : Nat) ({ cls := "ChairCaneModel", name := "opens", desc := "(I)V" } : Jvm.MethodName)) ∈ lw_all := lw_g (lw_at lw_m6 108 rfl) rfl
theorem q1425 : (Jvm.Cond.privateMethod ({ cls := "ChairCaneModel", name := "opens", desc := "(I)V" } : Jvm.MethodName)) ∈ lw_tbl := lw_at lw_m6 109 rfl
theorem q1426 : (Jvm.Cond.instanceMethod ({ cls := "ChairCaneModel", name := "opens", desc := "(I)V" } : Jvm.MethodName)) ∈ lw_all := lw_g (lw_at lw_m6 110 rfl) rfl
theorem q1427 : (Jvm.Cond.code ({ cls := "ChairCaneModel", name := "opens", desc := "(I)V" } : Jvm.MethodName) prog_17_method_28_code (2 : Nat) (Option.none : Option Jvm.ClassFile.FieldType)) ∈ lw_all := lw_g (lw_at lw_m6 111 rfl) rfl
theorem q1428 : (Jvm.Cond.methodLink "ChairCaneModel" (246 : Nat) ({ cls := "ChairCaneModel", name := "compared", desc := "()V" } : Jvm.MethodName)) ∈ lw_all := lw_g (lw_at lw_m6 112 rfl) rfl
theorem q1429 : (Jvm.Cond.privateMethod ({ cls := "ChairCaneModel", name := "compared", desc := "()V" } : Jvm.MethodName)) ∈ lw_tbl := lw_at lw_m6 113 rfl
theorem q1430 : (Jvm.Cond.instanceMethod ({ cls := "ChairCaneModel", name := "compared", desc := "()V" } : Jvm.MethodName)) ∈ lw_all := lw_g (lw_at lw_m6 114 rfl) rfl
theorem q1431 : (Jvm.Cond.code ({ cls := "ChairCaneModel", name := "compared", desc := "()V" } : Jvm.MethodName) prog_17_method_26_code (3 : Nat) (Option.none : Option Jvm.ClassFile.FieldType)) ∈ lw_all := lw_g (lw_at lw_m6 115 rfl) rfl
theorem q1432 : (Jvm.Cond.methodLink "ChairCaneModel" (252 : Nat) ({ cls := "ChairCaneModel", name := "answers", desc := "(I)V" } : Jvm.MethodName)) ∈ lw_all := lw_g (lw_at lw_m6 116 rfl) rfl
theorem q1433 : (Jvm.Cond.privateMethod ({ cls := "ChairCaneModel", name := "answers", desc := "(I)V" } : Jvm.MethodName)) ∈ lw_tbl := lw_at lw_m6 117 rfl
theorem q1434 : (Jvm.Cond.instanceMethod ({ cls := "ChairCaneModel", name := "answers", desc := "(I)V" } : Jvm.MethodName)) ∈ lw_all := lw_g (lw_at lw_m6 118 rfl) rfl
theorem q1435 : (Jvm.Cond.code ({ cls := "ChairCaneModel", name := "answers", desc := "(I)V" } : Jvm.MethodName) prog_17_method_29_code (2 : Nat) (Option.none : Option Jvm.ClassFile.FieldType)) ∈ lw_all := lw_g (lw_at lw_m6 119 rfl) rfl
theorem q1436 : (Jvm.Cond.methodLink "ChairCaneModel" (238 : Nat) ({ cls := "ChairCaneModel", name := "top", desc := "()I" } : Jvm.MethodName)) ∈ lw_all := lw_g (lw_at lw_m6 120 rfl) rfl
theorem q1437 : (Jvm.Cond.privateMethod ({ cls := "ChairCaneModel", name := "top", desc := "()I" } : Jvm.MethodName)) ∈ lw_tbl := lw_at lw_m6 121 rfl
theorem q1438 : (Jvm.Cond.instanceMethod ({ cls := "ChairCaneModel", name := "top", desc := "()I" } : Jvm.MethodName)) ∈ lw_all := lw_g (lw_at lw_m6 122 rfl) rfl
theorem q1439 : (Jvm.Cond.code ({ cls := "ChairCaneModel", name := "top", desc := "()I" } : Jvm.MethodName) prog_17_method_27_code (1 : Nat) (Option.some Jvm.ClassFile.FieldType.int)) ∈ lw_all := lw_g (lw_at lw_m6 123 rfl) rfl
theorem q1440 : (Jvm.Cond.stringRef "ChairCaneModel" (255 : Nat) "and") ∈ lw_tbl := lw_at lw_m6 124 rfl
theorem q1441 : (Jvm.Cond.stringRef "ChairCaneModel" (257 : Nat) "or") ∈ lw_tbl := lw_at lw_m6 125 rfl
theorem q1443 : (Jvm.Cond.instanceMethod ({ cls := "ChairCaneModel", name := "force", desc := "(I)I" } : Jvm.MethodName)) ∈ lw_all := lw_g (lw_at lw_m6 127 rfl) rfl
theorem q1444 : (Jvm.Cond.selects "ChairCaneModel" ({ cls := "ChairCaneModel", name := "force", desc := "(I)I" } : Jvm.MethodName) ({ cls := "ChairCaneModel", name := "force", desc := "(I)I" } : Jvm.MethodName)) ∈ lw_all := lw_g (lw_at lw_m6 128 rfl) rfl
theorem q1445 : (Jvm.Cond.code ({ cls := "ChairCaneModel", name := "force", desc := "(I)I" } : Jvm.MethodName) prog_17_method_46_code (3 : Nat) (Option.some Jvm.ClassFile.FieldType.int)) ∈ lw_all := lw_g (lw_at lw_m6 129 rfl) rfl
theorem q1446 : (Jvm.Cond.constantLong "ChairCaneModel" (318 : Nat) (-1 : Int64)) ∈ lw_all := lw_g (lw_at lw_m6 130 rfl) rfl
theorem q1448 : (Jvm.Cond.instanceMethod ({ cls := "ChairCaneModel", name := "strand", desc := "(I)I" } : Jvm.MethodName)) ∈ lw_all := lw_g (lw_at lw_m6 132 rfl) rfl
theorem q1449 : (Jvm.Cond.selects "ChairCaneModel" ({ cls := "ChairCaneModel", name := "strand", desc := "(I)I" } : Jvm.MethodName) ({ cls := "ChairCaneModel", name := "strand", desc := "(I)I" } : Jvm.MethodName)) ∈ lw_all := lw_g (lw_at lw_m6 133 rfl) rfl
theorem q1450 : (Jvm.Cond.code ({ cls := "ChairCaneModel", name := "strand", desc := "(I)I" } : Jvm.MethodName) prog_17_method_56_code (2 : Nat) (Option.some Jvm.ClassFile.FieldType.int)) ∈ lw_all := lw_g (lw_at lw_m6 134 rfl) rfl
theorem q1451 : (Jvm.Cond.methodLink "ChairCaneModel" (347 : Nat) ({ cls := "ChairCaneModel", name := "isStrand", desc := "(I)Z" } : Jvm.MethodName)) ∈ lw_all := lw_g (lw_at lw_m6 135 rfl) rfl
theorem q1452 : (Jvm.Cond.privateMethod ({ cls := "ChairCaneModel", name := "isStrand", desc := "(I)Z" } : Jvm.MethodName)) ∈ lw_tbl := lw_at lw_m6 136 rfl
theorem q1453 : (Jvm.Cond.instanceMethod ({ cls := "ChairCaneModel", name := "isStrand", desc := "(I)Z" } : Jvm.MethodName)) ∈ lw_all := lw_g (lw_at lw_m6 137 rfl) rfl
theorem q1454 : (Jvm.Cond.code ({ cls := "ChairCaneModel", name := "isStrand", desc := "(I)Z" } : Jvm.MethodName) prog_17_method_7_code (2 : Nat) (Option.some Jvm.ClassFile.FieldType.boolean)) ∈ lw_all := lw_g (lw_at lw_m6 138 rfl) rfl
theorem q1456 : (Jvm.Cond.instanceMethod ({ cls := "ChairCaneModel", name := "chair", desc := "(II)I" } : Jvm.MethodName)) ∈ lw_all := lw_g (lw_at lw_m6 140 rfl) rfl
theorem q1457 : (Jvm.Cond.selects "ChairCaneModel" ({ cls := "ChairCaneModel", name := "chair", desc := "(II)I" } : Jvm.MethodName) ({ cls := "ChairCaneModel", name := "chair", desc := "(II)I" } : Jvm.MethodName)) ∈ lw_all := lw_g (lw_at lw_m6 141 rfl) rfl
theorem q1458 : (Jvm.Cond.code ({ cls := "ChairCaneModel", name := "chair", desc := "(II)I" } : Jvm.MethodName) prog_17_method_58_code (4 : Nat) (Option.some Jvm.ClassFile.FieldType.int)) ∈ lw_all := lw_g (lw_at lw_m6 142 rfl) rfl
theorem q1459 : (Jvm.Cond.methodLink "ChairCaneModel" (351 : Nat) ({ cls := "ChairCaneModel", name := "isChair", desc := "(I)Z" } : Jvm.MethodName)) ∈ lw_all := lw_g (lw_at lw_m6 143 rfl) rfl
theorem q1460 : (Jvm.Cond.privateMethod ({ cls := "ChairCaneModel", name := "isChair", desc := "(I)Z" } : Jvm.MethodName)) ∈ lw_tbl := lw_at lw_m6 144 rfl
theorem q1461 : (Jvm.Cond.instanceMethod ({ cls := "ChairCaneModel", name := "isChair", desc := "(I)Z" } : Jvm.MethodName)) ∈ lw_all := lw_g (lw_at lw_m6 145 rfl) rfl
theorem q1462 : (Jvm.Cond.code ({ cls := "ChairCaneModel", name := "isChair", desc := "(I)Z" } : Jvm.MethodName) prog_17_method_8_code (2 : Nat) (Option.some Jvm.ClassFile.FieldType.boolean)) ∈ lw_all := lw_g (lw_at lw_m6 146 rfl) rfl
theorem q1463 : (Jvm.Cond.constantLong "ChairCaneModel" (354 : Nat) (3 : Int64)) ∈ lw_all := lw_g (lw_at lw_m6 147 rfl) rfl
theorem q1464 : (Jvm.Cond.methodLink "ChairCaneModel" (356 : Nat) ({ cls := "ChairCaneModel", name := "sitterOf", desc := "(I)I" } : Jvm.MethodName)) ∈ lw_all := lw_g (lw_at lw_m6 148 rfl) rfl
theorem q1465 : (Jvm.Cond.privateMethod ({ cls := "ChairCaneModel", name := "sitterOf", desc := "(I)I" } : Jvm.MethodName)) ∈ lw_tbl := lw_at lw_m6 149 rfl
theorem q1466 : (Jvm.Cond.instanceMethod ({ cls := "ChairCaneModel", name := "sitterOf", desc := "(I)I" } : Jvm.MethodName)) ∈ lw_all := lw_g (lw_at lw_m6 150 rfl) rfl
theorem q1467 : (Jvm.Cond.code ({ cls := "ChairCaneModel", name := "sitterOf", desc := "(I)I" } : Jvm.MethodName) prog_17_method_57_code (3 : Nat) (Option.some Jvm.ClassFile.FieldType.int)) ∈ lw_all := lw_g (lw_at lw_m6 151 rfl) rfl
theorem q1468 : (Jvm.Cond.methodLink "ChairCaneModel" (359 : Nat) ({ cls := "ChairCaneModel", name := "givesNow", desc := "(I)I" } : Jvm.MethodName)) ∈ lw_all := lw_g (lw_at lw_m6 152 rfl) rfl
theorem q1469 : (Jvm.Cond.privateMethod ({ cls := "ChairCaneModel", name := "givesNow", desc := "(I)I" } : Jvm.MethodName)) ∈ lw_tbl := lw_at lw_m6 153 rfl
theorem q1470 : (Jvm.Cond.instanceMethod ({ cls := "ChairCaneModel", name := "givesNow", desc := "(I)I" } : Jvm.MethodName)) ∈ lw_all := lw_g (lw_at lw_m6 154 rfl) rfl
theorem q1471 : (Jvm.Cond.code ({ cls := "ChairCaneModel", name := "givesNow", desc := "(I)I" } : Jvm.MethodName) prog_17_method_55_code (2 : Nat) (Option.some Jvm.ClassFile.FieldType.int)) ∈ lw_all := lw_g (lw_at lw_m6 155 rfl) rfl
theorem q1472 : (Jvm.Cond.methodLink "ChairCaneModel" (341 : Nat) ({ cls := "ChairCaneModel", name := "those", desc := "(I)I" } : Jvm.MethodName)) ∈ lw_all := lw_g (lw_at lw_m6 156 rfl) rfl
theorem q1473 : (Jvm.Cond.privateMethod ({ cls := "ChairCaneModel", name := "those", desc := "(I)I" } : Jvm.MethodName)) ∈ lw_tbl := lw_at lw_m6 157 rfl
theorem q1474 : (Jvm.Cond.instanceMethod ({ cls := "ChairCaneModel", name := "those", desc := "(I)I" } : Jvm.MethodName)) ∈ lw_all := lw_g (lw_at lw_m6 158 rfl) rfl
theorem q1475 : (Jvm.Cond.code ({ cls := "ChairCaneModel", name := "those", desc := "(I)I" } : Jvm.MethodName) prog_17_method_51_code (4 : Nat) (Option.some Jvm.ClassFile.FieldType.int)) ∈ lw_all := lw_g (lw_at lw_m6 159 rfl) rfl
theorem q1476 : (Jvm.Cond.methodLink "ChairCaneModel" (344 : Nat) ({ cls := "ChairCaneModel", name := "gives", desc := "(II)I" } : Jvm.MethodName)) ∈ lw_all := lw_g (lw_at lw_m6 160 rfl) rfl
theorem q1477 : (Jvm.Cond.privateMethod ({ cls := "ChairCaneModel", name := "gives", desc := "(II)I" } : Jvm.MethodName)) ∈ lw_tbl := lw_at lw_m6 161 rfl
theorem q1478 : (Jvm.Cond.instanceMethod ({ cls := "ChairCaneModel", name := "gives", desc := "(II)I" } : Jvm.MethodName)) ∈ lw_all := lw_g (lw_at lw_m6 162 rfl) rfl
theorem q1479 : (Jvm.Cond.code ({ cls := "ChairCaneModel", name := "gives", desc := "(II)I" } : Jvm.MethodName) prog_17_method_54_code (4 : Nat) (Option.some Jvm.ClassFile.FieldType.int)) ∈ lw_all := lw_g (lw_at lw_m6 163 rfl) rfl
theorem q1480 : (Jvm.Cond.methodLink "ChairCaneModel" (332 : Nat) ({ cls := "ChairCaneModel", name := "has", desc := "(II)Z" } : Jvm.MethodName)) ∈ lw_all := lw_g (lw_at lw_m6 164 rfl) rfl
theorem q1481 : (Jvm.Cond.static ({ cls := "ChairCaneModel", name := "has", desc := "(II)Z" } : Jvm.MethodName)) ∈ lw_all := lw_g (lw_at lw_m6 165 rfl) rfl
theorem q1482 : (Jvm.Cond.code ({ cls := "ChairCaneModel", name := "has", desc := "(II)Z" } : Jvm.MethodName) prog_17_method_5_code (2 : Nat) (Option.some Jvm.ClassFile.FieldType.boolean)) ∈ lw_all := lw_g (lw_at lw_m6 166 rfl) rfl
theorem q1483 : (Jvm.Cond.methodLink "ChairCaneModel" (335 : Nat) ({ cls := "ChairCaneModel", name := "onStrand", desc := "(II)I" } : Jvm.MethodName)) ∈ lw_all := lw_g (lw_at lw_m6 167 rfl) rfl
theorem q1484 : (Jvm.Cond.privateMethod ({ cls := "ChairCaneModel", name := "onStrand", desc := "(II)I" } : Jvm.MethodName)) ∈ lw_tbl := lw_at lw_m6 168 rfl
theorem q1485 : (Jvm.Cond.instanceMethod ({ cls := "ChairCaneModel", name := "onStrand", desc := "(II)I" } : Jvm.MethodName)) ∈ lw_all := lw_g (lw_at lw_m6 169 rfl) rfl
theorem q1486 : (Jvm.Cond.code ({ cls := "ChairCaneModel", name := "onStrand", desc := "(II)I" } : Jvm.MethodName) prog_17_method_52_code (5 : Nat) (Option.some Jvm.ClassFile.FieldType.int)) ∈ lw_all := lw_g (lw_at lw_m6 170 rfl) rfl
theorem q1487 : (Jvm.Cond.methodLink "ChairCaneModel" (338 : Nat) ({ cls := "ChairCaneModel", name := "weightOf", desc := "(I)I" } : Jvm.MethodName)) ∈ lw_all := lw_g (lw_at lw_m6 171 rfl) rfl
theorem q1488 : (Jvm.Cond.privateMethod ({ cls := "ChairCaneModel", name := "weightOf", desc := "(I)I" } : Jvm.MethodName)) ∈ lw_tbl := lw_at lw_m6 172 rfl
theorem q1489 : (Jvm.Cond.instanceMethod ({ cls := "ChairCaneModel", name := "weightOf", desc := "(I)I" } : Jvm.MethodName)) ∈ lw_all := lw_g (lw_at lw_m6 173 rfl) rfl
theorem q1490 : (Jvm.Cond.code ({ cls := "ChairCaneModel", name := "weightOf", desc := "(I)I" } : Jvm.MethodName) prog_17_method_53_code (4 : Nat) (Option.some Jvm.ClassFile.FieldType.int)) ∈ lw_all := lw_g (lw_at lw_m6 174 rfl) rfl
theorem q1492 : (Jvm.Cond.instanceMethod ({ cls := "ChairCaneModel", name := "sitter", desc := "(II)I" } : Jvm.MethodName)) ∈ lw_all := lw_g (lw_at lw_m6 176 rfl) rfl
theorem q1493 : (Jvm.Cond.selects "ChairCaneModel" ({ cls := "ChairCaneModel", name := "sitter", desc := "(II)I" } : Jvm.MethodName) ({ cls := "ChairCaneModel", name := "sitter", desc := "(II)I" } : Jvm.MethodName)) ∈ lw_all := lw_g (lw_at lw_m6 177 rfl) rfl
theorem q1494 : (Jvm.Cond.code ({ cls := "ChairCaneModel", name := "sitter", desc := "(II)I" } : Jvm.MethodName) prog_17_method_59_code (3 : Nat) (Option.some Jvm.ClassFile.FieldType.int)) ∈ lw_all := lw_g (lw_at lw_m6 178 rfl) rfl
theorem q1495 : (Jvm.Cond.methodLink "ChairCaneModel" (362 : Nat) ({ cls := "ChairCaneModel", name := "isSitter", desc := "(I)Z" } : Jvm.MethodName)) ∈ lw_all := lw_g (lw_at lw_m6 179 rfl) rfl
theorem q1496 : (Jvm.Cond.privateMethod ({ cls := "ChairCaneModel", name := "isSitter", desc := "(I)Z" } : Jvm.MethodName)) ∈ lw_tbl := lw_at lw_m6 180 rfl
theorem q1497 : (Jvm.Cond.instanceMethod ({ cls := "ChairCaneModel", name := "isSitter", desc := "(I)Z" } : Jvm.MethodName)) ∈ lw_all := lw_g (lw_at lw_m6 181 rfl) rfl
theorem q1498 : (Jvm.Cond.code ({ cls := "ChairCaneModel", name := "isSitter", desc := "(I)Z" } : Jvm.MethodName) prog_17_method_9_code (2 : Nat) (Option.some Jvm.ClassFile.FieldType.boolean)) ∈ lw_all := lw_g (lw_at lw_m6 182 rfl) rfl
theorem q1499 : (Jvm.Cond.constantLong "ChairCaneModel" (365 : Nat) (2 : Int64)) ∈ lw_all := lw_g (lw_at lw_m6 183 rfl) rfl
theorem q1501 : (Jvm.Cond.instanceMethod ({ cls := "ChairCaneModel", name := "undo", desc := "()I" } : Jvm.MethodName)) ∈ lw_all := lw_g (lw_at lw_m6 185 rfl) rfl
theorem q1502 : (Jvm.Cond.selects "ChairCaneModel" ({ cls := "ChairCaneModel", name := "undo", desc := "()I" } : Jvm.MethodName) ({ cls := "ChairCaneModel", name := "undo", desc := "()I" } : Jvm.MethodName)) ∈ lw_all := lw_g (lw_at lw_m6 186 rfl) rfl
theorem q1503 : (Jvm.Cond.code ({ cls := "ChairCaneModel", name := "undo", desc := "()I" } : Jvm.MethodName) prog_17_method_69_code (1 : Nat) (Option.some Jvm.ClassFile.FieldType.int)) ∈ lw_all := lw_g (lw_at lw_m6 187 rfl) rfl
theorem q1504 : (Jvm.Cond.methodLink "ChairCaneModel" (400 : Nat) ({ cls := "ChairCaneModel", name := "movesAll", desc := "(IZ)V" } : Jvm.MethodName)) ∈ lw_all := lw_g (lw_at lw_m6 188 rfl) rfl
theorem q1505 : (Jvm.Cond.privateMethod ({ cls := "ChairCaneModel", name := "movesAll", desc := "(IZ)V" } : Jvm.MethodName)) ∈ lw_tbl := lw_at lw_m6 189 rfl
theorem q1506 : (Jvm.Cond.instanceMethod ({ cls := "ChairCaneModel", name := "movesAll", desc := "(IZ)V" } : Jvm.MethodName)) ∈ lw_all := lw_g (lw_at lw_m6 190 rfl) rfl
theorem q1507 : (Jvm.Cond.code ({ cls := "ChairCaneModel", name := "movesAll", desc := "(IZ)V" } : Jvm.MethodName) prog_17_method_67_code (3 : Nat) (Option.none : Option Jvm.ClassFile.FieldType)) ∈ lw_all := lw_g (lw_at lw_m6 191 rfl) rfl
theorem q1508 : (Jvm.Cond.methodLink "ChairCaneModel" (393 : Nat) ({ cls := "ChairCaneModel", name := "moves", desc := "(I)I" } : Jvm.MethodName)) ∈ lw_all := lw_g (lw_at lw_m6 192 rfl) rfl
theorem q1509 : (Jvm.Cond.privateMethod ({ cls := "ChairCaneModel", name := "moves", desc := "(I)I" } : Jvm.MethodName)) ∈ lw_tbl := lw_at lw_m6 193 rfl
theorem q1510 : (Jvm.Cond.instanceMethod ({ cls := "ChairCaneModel", name := "moves", desc := "(I)I" } : Jvm.MethodName)) ∈ lw_all := lw_g (lw_at lw_m6 194 rfl) rfl
theorem q1511 : (Jvm.Cond.code ({ cls := "ChairCaneModel", name := "moves", desc := "(I)I" } : Jvm.MethodName) prog_17_method_65_code (3 : Nat) (Option.some Jvm.ClassFile.FieldType.int)) ∈ lw_all := lw_g (lw_at lw_m6 195 rfl) rfl
theorem q1512 : (Jvm.Cond.methodLink "ChairCaneModel" (396 : Nat) ({ cls := "ChairCaneModel", name := "movesRow", desc := "([I)V" } : Jvm.MethodName)) ∈ lw_all := lw_g (lw_at lw_m6 196 rfl) rfl
theorem q1513 : (Jvm.Cond.privateMethod ({ cls := "ChairCaneModel", name := "movesRow", desc := "([I)V" } : Jvm.MethodName)) ∈ lw_tbl := lw_at lw_m6 197 rfl
theorem q1514 : (Jvm.Cond.instanceMethod ({ cls := "ChairCaneModel", name := "movesRow", desc := "([I)V" } : Jvm.MethodName)) ∈ lw_all := lw_g (lw_at lw_m6 198 rfl) rfl
theorem q1515 : (Jvm.Cond.code ({ cls := "ChairCaneModel", name := "movesRow", desc := "([I)V" } : Jvm.MethodName) prog_17_method_66_code (3 : Nat) (Option.none : Option Jvm.ClassFile.FieldType)) ∈ lw_all := lw_g (lw_at lw_m6 199 rfl) rfl
theorem q1517 : (Jvm.Cond.instanceMethod ({ cls := "ChairCaneModel", name := "minute", desc := "()I" } : Jvm.MethodName)) ∈ lw_all := lw_g (lw_at lw_m6 201 rfl) rfl
theorem q1518 : (Jvm.Cond.selects "ChairCaneModel" ({ cls := "ChairCaneModel", name := "minute", desc := "()I" } : Jvm.MethodName) ({ cls := "ChairCaneModel", name := "minute", desc := "()I" } : Jvm.MethodName)) ∈ lw_all := lw_g (lw_at lw_m6 202 rfl) rfl
theorem q1519 : (Jvm.Cond.code ({ cls := "ChairCaneModel", name := "minute", desc := "()I" } : Jvm.MethodName) prog_17_method_70_code (1 : Nat) (Option.some Jvm.ClassFile.FieldType.int)) ∈ lw_all := lw_g (lw_at lw_m6 203 rfl) rfl
theorem q1520 : (Jvm.Cond.methodLink "ChairCaneModel" (404 : Nat) ({ cls := "ChairCaneModel", name := "isHall", desc := "()Z" } : Jvm.MethodName)) ∈ lw_all := lw_g (lw_at lw_m6 204 rfl) rfl
theorem q1521 : (Jvm.Cond.privateMethod ({ cls := "ChairCaneModel", name := "isHall", desc := "()Z" } : Jvm.MethodName)) ∈ lw_tbl := lw_at lw_m6 205 rfl
theorem q1522 : (Jvm.Cond.instanceMethod ({ cls := "ChairCaneModel", name := "isHall", desc := "()Z" } : Jvm.MethodName)) ∈ lw_all := lw_g (lw_at lw_m6 206 rfl) rfl
theorem q1523 : (Jvm.Cond.code ({ cls := "ChairCaneModel", name := "isHall", desc := "()Z" } : Jvm.MethodName) prog_17_method_6_code (1 : Nat) (Option.some Jvm.ClassFile.FieldType.boolean)) ∈ lw_all := lw_g (lw_at lw_m6 207 rfl) rfl
theorem q1524 : (Jvm.Cond.methodLink "ChairCaneModel" (407 : Nat) ({ cls := "ChairCaneModel", name := "keepsAct", desc := "()V" } : Jvm.MethodName)) ∈ lw_all := lw_g (lw_at lw_m6 208 rfl) rfl
theorem q1525 : (Jvm.Cond.privateMethod ({ cls := "ChairCaneModel", name := "keepsAct", desc := "()V" } : Jvm.MethodName)) ∈ lw_tbl := lw_at lw_m6 209 rfl
theorem q1526 : (Jvm.Cond.instanceMethod ({ cls := "ChairCaneModel", name := "keepsAct", desc := "()V" } : Jvm.MethodName)) ∈ lw_all := lw_g (lw_at lw_m6 210 rfl) rfl
theorem q1527 : (Jvm.Cond.code ({ cls := "ChairCaneModel", name := "keepsAct", desc := "()V" } : Jvm.MethodName) prog_17_method_68_code (2 : Nat) (Option.none : Option Jvm.ClassFile.FieldType)) ∈ lw_all := lw_g (lw_at lw_m6 211 rfl) rfl
theorem q1528 : (Jvm.Cond.methodLink "ChairCaneModel" (383 : Nat) ({ cls := "ChairCaneModel", name := "goes", desc := "()I" } : Jvm.MethodName)) ∈ lw_all := lw_g (lw_at lw_m6 212 rfl) rfl
theorem q1529 : (Jvm.Cond.privateMethod ({ cls := "ChairCaneModel", name := "goes", desc := "()I" } : Jvm.MethodName)) ∈ lw_tbl := lw_at lw_m6 213 rfl
theorem q1530 : (Jvm.Cond.instanceMethod ({ cls := "ChairCaneModel", name := "goes", desc := "()I" } : Jvm.MethodName)) ∈ lw_all := lw_g (lw_at lw_m6 214 rfl) rfl
theorem q1531 : (Jvm.Cond.code ({ cls := "ChairCaneModel", name := "goes", desc := "()I" } : Jvm.MethodName) prog_17_method_63_code (2 : Nat) (Option.some Jvm.ClassFile.FieldType.int)) ∈ lw_all := lw_g (lw_at lw_m6 215 rfl) rfl
theorem q1532 : (Jvm.Cond.methodLink "ChairCaneModel" (377 : Nat) ({ cls := "ChairCaneModel", name := "choice", desc := "(I)I" } : Jvm.MethodName)) ∈ lw_all := lw_g (lw_at lw_m6 216 rfl) rfl
theorem q1533 : (Jvm.Cond.privateMethod ({ cls := "ChairCaneModel", name := "choice", desc := "(I)I" } : Jvm.MethodName)) ∈ lw_tbl := lw_at lw_m6 217 rfl
theorem q1534 : (Jvm.Cond.instanceMethod ({ cls := "ChairCaneModel", name := "choice", desc := "(I)I" } : Jvm.MethodName)) ∈ lw_all := lw_g (lw_at lw_m6 218 rfl) rfl
theorem q1535 : (Jvm.Cond.code ({ cls := "ChairCaneModel", name := "choice", desc := "(I)I" } : Jvm.MethodName) prog_17_method_62_code (3 : Nat) (Option.some Jvm.ClassFile.FieldType.int)) ∈ lw_all := lw_g (lw_at lw_m6 219 rfl) rfl
theorem q1536 : (Jvm.Cond.methodLink "ChairCaneModel" (370 : Nat) ({ cls := "ChairCaneModel", name := "bits", desc := "(I)I" } : Jvm.MethodName)) ∈ lw_all := lw_g (lw_at lw_m6 220 rfl) rfl
theorem q1537 : (Jvm.Cond.static ({ cls := "ChairCaneModel", name := "bits", desc := "(I)I" } : Jvm.MethodName)) ∈ lw_all := lw_g (lw_at lw_m6 221 rfl) rfl
theorem q1538 : (Jvm.Cond.code ({ cls := "ChairCaneModel", name := "bits", desc := "(I)I" } : Jvm.MethodName) prog_17_method_4_code (3 : Nat) (Option.some Jvm.ClassFile.FieldType.int)) ∈ lw_all := lw_g (lw_at lw_m6 222 rfl) rfl
theorem q1539 : (Jvm.Cond.methodLink "ChairCaneModel" (373 : Nat) ({ cls := "ChairCaneModel", name := "wanted", desc := "()J" } : Jvm.MethodName)) ∈ lw_all := lw_g (lw_at lw_m6 223 rfl) rfl
theorem q1540 : (Jvm.Cond.privateMethod ({ cls := "ChairCaneModel", name := "wanted", desc := "()J" } : Jvm.MethodName)) ∈ lw_tbl := lw_at lw_m6 224 rfl
theorem q1541 : (Jvm.Cond.instanceMethod ({ cls := "ChairCaneModel", name := "wanted", desc := "()J" } : Jvm.MethodName)) ∈ lw_all := lw_g (lw_at lw_m6 225 rfl) rfl
theorem q1542 : (Jvm.Cond.code ({ cls := "ChairCaneModel", name := "wanted", desc := "()J" } : Jvm.MethodName) prog_17_method_47_code (3 : Nat) (Option.some Jvm.ClassFile.FieldType.long)) ∈ lw_all := lw_g (lw_at lw_m6 226 rfl) rfl
theorem q1543 : (Jvm.Cond.methodLink "ChairCaneModel" (320 : Nat) ({ cls := "ChairCaneModel", name := "answer", desc := "(III)J" } : Jvm.MethodName)) ∈ lw_all := lw_g (lw_at lw_m6 227 rfl) rfl
theorem q1544 : (Jvm.Cond.privateMethod ({ cls := "ChairCaneModel", name := "answer", desc := "(III)J" } : Jvm.MethodName)) ∈ lw_tbl := lw_at lw_m6 228 rfl
theorem q1545 : (Jvm.Cond.instanceMethod ({ cls := "ChairCaneModel", name := "answer", desc := "(III)J" } : Jvm.MethodName)) ∈ lw_all := lw_g (lw_at lw_m6 229 rfl) rfl
theorem q1546 : (Jvm.Cond.code ({ cls := "ChairCaneModel", name := "answer", desc := "(III)J" } : Jvm.MethodName) prog_17_method_50_code (8 : Nat) (Option.some Jvm.ClassFile.FieldType.long)) ∈ lw_all := lw_g (lw_at lw_m6 230 rfl) rfl
theorem q1547 : (Jvm.Cond.methodLink "ChairCaneModel" (328 : Nat) ({ cls := "ChairCaneModel", name := "both", desc := "(IJJ)J" } : Jvm.MethodName)) ∈ lw_all := lw_g (lw_at lw_m6 231 rfl) rfl
theorem q1548 : (Jvm.Cond.static ({ cls := "ChairCaneModel", name := "both", desc := "(IJJ)J" } : Jvm.MethodName)) ∈ lw_all := lw_g (lw_at lw_m6 232 rfl) rfl
theorem q1549 : (Jvm.Cond.code ({ cls := "ChairCaneModel", name := "both", desc := "(IJJ)J" } : Jvm.MethodName) prog_17_method_49_code (5 : Nat) (Option.some Jvm.ClassFile.FieldType.long)) ∈ lw_all := lw_g (lw_at lw_m6 233 rfl) rfl
theorem q1550 : (Jvm.Cond.methodLink "ChairCaneModel" (324 : Nat) ({ cls := "ChairCaneModel", name := "truth", desc := "(Z)J" } : Jvm.MethodName)) ∈ lw_all := lw_g (lw_at lw_m6 234 rfl) rfl
theorem q1551 : (Jvm.Cond.static ({ cls := "ChairCaneModel", name := "truth", desc := "(Z)J" } : Jvm.MethodName)) ∈ lw_all := lw_g (lw_at lw_m6 235 rfl) rfl
theorem q1552 : (Jvm.Cond.code ({ cls := "ChairCaneModel", name := "truth", desc := "(Z)J" } : Jvm.MethodName) prog_17_method_48_code (1 : Nat) (Option.some Jvm.ClassFile.FieldType.long)) ∈ lw_all := lw_g (lw_at lw_m6 236 rfl) rfl
theorem q1553 : (Jvm.Cond.methodLink "ChairCaneModel" (380 : Nat) ({ cls := "ChairCaneModel", name := "settles", desc := "()I" } : Jvm.MethodName)) ∈ lw_all := lw_g (lw_at lw_m6 237 rfl) rfl
theorem q1554 : (Jvm.Cond.privateMethod ({ cls := "ChairCaneModel", name := "settles", desc := "()I" } : Jvm.MethodName)) ∈ lw_tbl := lw_at lw_m6 238 rfl
theorem q1555 : (Jvm.Cond.instanceMethod ({ cls := "ChairCaneModel", name := "settles", desc := "()I" } : Jvm.MethodName)) ∈ lw_all := lw_g (lw_at lw_m6 239 rfl) rfl
theorem q1556 : (Jvm.Cond.code ({ cls := "ChairCaneModel", name := "settles", desc := "()I" } : Jvm.MethodName) prog_17_method_61_code (4 : Nat) (Option.some Jvm.ClassFile.FieldType.int)) ∈ lw_all := lw_g (lw_at lw_m7 0 rfl) rfl
theorem q1557 : (Jvm.Cond.methodLink "ChairCaneModel" (367 : Nat) ({ cls := "ChairCaneModel", name := "dropsOf", desc := "(I)I" } : Jvm.MethodName)) ∈ lw_all := lw_g (lw_at lw_m7 1 rfl) rfl
theorem q1558 : (Jvm.Cond.privateMethod ({ cls := "ChairCaneModel", name := "dropsOf", desc := "(I)I" } : Jvm.MethodName)) ∈ lw_tbl := lw_at lw_m7 2 rfl
theorem q1559 : (Jvm.Cond.instanceMethod ({ cls := "ChairCaneModel", name := "dropsOf", desc := "(I)I" } : Jvm.MethodName)) ∈ lw_all := lw_g (lw_at lw_m7 3 rfl) rfl
theorem q1560 : (Jvm.Cond.code ({ cls := "ChairCaneModel", name := "dropsOf", desc := "(I)I" } : Jvm.MethodName) prog_17_method_60_code (4 : Nat) (Option.some Jvm.ClassFile.FieldType.int)) ∈ lw_all := lw_g (lw_at lw_m7 4 rfl) rfl
theorem q1562 : (Jvm.Cond.instanceMethod ({ cls := "ChairCaneModel", name := "sit", desc := "(I)I" } : Jvm.MethodName)) ∈ lw_all := lw_g (lw_at lw_m7 6 rfl) rfl
theorem q1563 : (Jvm.Cond.selects "ChairCaneModel" ({ cls := "ChairCaneModel", name := "sit", desc := "(I)I" } : Jvm.MethodName) ({ cls := "ChairCaneModel", name := "sit", desc := "(I)I" } : Jvm.MethodName)) ∈ lw_all := lw_g (lw_at lw_m7 7 rfl) rfl
theorem q1564 : (Jvm.Cond.code ({ cls := "ChairCaneModel", name := "sit", desc := "(I)I" } : Jvm.MethodName) prog_17_method_72_code (2 : Nat) (Option.some Jvm.ClassFile.FieldType.int)) ∈ lw_all := lw_g (lw_at lw_m7 8 rfl) rfl
theorem q1565 : (Jvm.Cond.methodLink "ChairCaneModel" (410 : Nat) ({ cls := "ChairCaneModel", name := "isSo", desc := "(II)Z" } : Jvm.MethodName)) ∈ lw_all := lw_g (lw_at lw_m7 9 rfl) rfl
theorem q1566 : (Jvm.Cond.privateMethod ({ cls := "ChairCaneModel", name := "isSo", desc := "(II)Z" } : Jvm.MethodName)) ∈ lw_tbl := lw_at lw_m7 10 rfl
theorem q1567 : (Jvm.Cond.instanceMethod ({ cls := "ChairCaneModel", name := "isSo", desc := "(II)Z" } : Jvm.MethodName)) ∈ lw_all := lw_g (lw_at lw_m7 11 rfl) rfl
theorem q1568 : (Jvm.Cond.code ({ cls := "ChairCaneModel", name := "isSo", desc := "(II)Z" } : Jvm.MethodName) prog_17_method_71_code (3 : Nat) (Option.some Jvm.ClassFile.FieldType.boolean)) ∈ lw_all := lw_g (lw_at lw_m7 12 rfl) rfl
theorem q1570 : (Jvm.Cond.instanceMethod ({ cls := "ChairCaneModel", name := "rise", desc := "(I)I" } : Jvm.MethodName)) ∈ lw_all := lw_g (lw_at lw_m7 14 rfl) rfl
theorem q1571 : (Jvm.Cond.selects "ChairCaneModel" ({ cls := "ChairCaneModel", name := "rise", desc := "(I)I" } : Jvm.MethodName) ({ cls := "ChairCaneModel", name := "rise", desc := "(I)I" } : Jvm.MethodName)) ∈ lw_all := lw_g (lw_at lw_m7 15 rfl) rfl
theorem q1572 : (Jvm.Cond.code ({ cls := "ChairCaneModel", name := "rise", desc := "(I)I" } : Jvm.MethodName) prog_17_method_73_code (2 : Nat) (Option.some Jvm.ClassFile.FieldType.int)) ∈ lw_all := lw_g (lw_at lw_m7 16 rfl) rfl
theorem q1574 : (Jvm.Cond.instanceMethod ({ cls := "ChairCaneModel", name := "help", desc := "(I)I" } : Jvm.MethodName)) ∈ lw_all := lw_g (lw_at lw_m7 18 rfl) rfl
theorem q1575 : (Jvm.Cond.selects "ChairCaneModel" ({ cls := "ChairCaneModel", name := "help", desc := "(I)I" } : Jvm.MethodName) ({ cls := "ChairCaneModel", name := "help", desc := "(I)I" } : Jvm.MethodName)) ∈ lw_all := lw_g (lw_at lw_m7 19 rfl) rfl
theorem q1576 : (Jvm.Cond.code ({ cls := "ChairCaneModel", name := "help", desc := "(I)I" } : Jvm.MethodName) prog_17_method_74_code (2 : Nat) (Option.some Jvm.ClassFile.FieldType.int)) ∈ lw_all := lw_g (lw_at lw_m7 20 rfl) rfl
theorem q1578 : (Jvm.Cond.instanceMethod ({ cls := "ChairCaneModel", name := "let", desc := "(II)I" } : Jvm.MethodName)) ∈ lw_all := lw_g (lw_at lw_m7 22 rfl) rfl
theorem q1579 : (Jvm.Cond.selects "ChairCaneModel" ({ cls := "ChairCaneModel", name := "let", desc := "(II)I" } : Jvm.MethodName) ({ cls := "ChairCaneModel", name := "let", desc := "(II)I" } : Jvm.MethodName)) ∈ lw_all := lw_g (lw_at lw_m7 23 rfl) rfl
theorem q1580 : (Jvm.Cond.code ({ cls := "ChairCaneModel", name := "let", desc := "(II)I" } : Jvm.MethodName) prog_17_method_75_code (3 : Nat) (Option.some Jvm.ClassFile.FieldType.int)) ∈ lw_all := lw_g (lw_at lw_m7 24 rfl) rfl
theorem q1581 : (Jvm.Cond.constantLong "ChairCaneModel" (413 : Nat) (99 : Int64)) ∈ lw_all := lw_g (lw_at lw_m7 25 rfl) rfl
theorem q1583 : (Jvm.Cond.instanceMethod ({ cls := "ChairCaneModel", name := "ahead", desc := "(III)I" } : Jvm.MethodName)) ∈ lw_all := lw_g (lw_at lw_m7 27 rfl) rfl
theorem q1584 : (Jvm.Cond.selects "ChairCaneModel" ({ cls := "ChairCaneModel", name := "ahead", desc := "(III)I" } : Jvm.MethodName) ({ cls := "ChairCaneModel", name := "ahead", desc := "(III)I" } : Jvm.MethodName)) ∈ lw_all := lw_g (lw_at lw_m7 28 rfl) rfl
theorem q1585 : (Jvm.Cond.code ({ cls := "ChairCaneModel", name := "ahead", desc := "(III)I" } : Jvm.MethodName) prog_17_method_78_code (5 : Nat) (Option.some Jvm.ClassFile.FieldType.int)) ∈ lw_all := lw_g (lw_at lw_m7 29 rfl) rfl
theorem q1586 : (Jvm.Cond.constantLong "ChairCaneModel" (418 : Nat) (100 : Int64)) ∈ lw_all := lw_g (lw_at lw_m7 30 rfl) rfl
theorem q1587 : (Jvm.Cond.methodLink "ChairCaneModel" (420 : Nat) ({ cls := "ChairCaneModel", name := "keepsAll", desc := "()V" } : Jvm.MethodName)) ∈ lw_all := lw_g (lw_at lw_m7 31 rfl) rfl
theorem q1588 : (Jvm.Cond.privateMethod ({ cls := "ChairCaneModel", name := "keepsAll", desc := "()V" } : Jvm.MethodName)) ∈ lw_tbl := lw_at lw_m7 32 rfl
theorem q1589 : (Jvm.Cond.instanceMethod ({ cls := "ChairCaneModel", name := "keepsAll", desc := "()V" } : Jvm.MethodName)) ∈ lw_all := lw_g (lw_at lw_m7 33 rfl) rfl
theorem q1590 : (Jvm.Cond.code ({ cls := "ChairCaneModel", name := "keepsAll", desc := "()V" } : Jvm.MethodName) prog_17_method_76_code (1 : Nat) (Option.none : Option Jvm.ClassFile.FieldType)) ∈ lw_all := lw_g (lw_at lw_m7 34 rfl) rfl
theorem q1591 : (Jvm.Cond.methodLink "ChairCaneModel" (415 : Nat) ({ cls := "ChairCaneModel", name := "carriesAll", desc := "(IZ)V" } : Jvm.MethodName)) ∈ lw_all := lw_g (lw_at lw_m7 35 rfl) rfl
theorem q1592 : (Jvm.Cond.privateMethod ({ cls := "ChairCaneModel", name := "carriesAll", desc := "(IZ)V" } : Jvm.MethodName)) ∈ lw_tbl := lw_at lw_m7 36 rfl
theorem q1593 : (Jvm.Cond.instanceMethod ({ cls := "ChairCaneModel", name := "carriesAll", desc := "(IZ)V" } : Jvm.MethodName)) ∈ lw_all := lw_g (lw_at lw_m7 37 rfl) rfl
theorem q1594 : (Jvm.Cond.code ({ cls := "ChairCaneModel", name := "carriesAll", desc := "(IZ)V" } : Jvm.MethodName) prog_17_method_109_code (3 : Nat) (Option.none : Option Jvm.ClassFile.FieldType)) ∈ lw_all := lw_g (lw_at lw_m7 38 rfl) rfl
theorem q1595 : (Jvm.Cond.methodLink "ChairCaneModel" (489 : Nat) ({ cls := "ChairCaneModel", name := "carryRow", desc := "([I)V" } : Jvm.MethodName)) ∈ lw_all := lw_g (lw_at lw_m7 39 rfl) rfl
theorem q1596 : (Jvm.Cond.privateMethod ({ cls := "ChairCaneModel", name := "carryRow", desc := "([I)V" } : Jvm.MethodName)) ∈ lw_tbl := lw_at lw_m7 40 rfl
theorem q1597 : (Jvm.Cond.instanceMethod ({ cls := "ChairCaneModel", name := "carryRow", desc := "([I)V" } : Jvm.MethodName)) ∈ lw_all := lw_g (lw_at lw_m7 41 rfl) rfl
theorem q1598 : (Jvm.Cond.code ({ cls := "ChairCaneModel", name := "carryRow", desc := "([I)V" } : Jvm.MethodName) prog_17_method_108_code (3 : Nat) (Option.none : Option Jvm.ClassFile.FieldType)) ∈ lw_all := lw_g (lw_at lw_m7 42 rfl) rfl
theorem q1599 : (Jvm.Cond.methodLink "ChairCaneModel" (423 : Nat) ({ cls := "ChairCaneModel", name := "goFor", desc := "(I)V" } : Jvm.MethodName)) ∈ lw_all := lw_g (lw_at lw_m7 43 rfl) rfl
theorem q1600 : (Jvm.Cond.privateMethod ({ cls := "ChairCaneModel", name := "goFor", desc := "(I)V" } : Jvm.MethodName)) ∈ lw_tbl := lw_at lw_m7 44 rfl
theorem q1601 : (Jvm.Cond.instanceMethod ({ cls := "ChairCaneModel", name := "goFor", desc := "(I)V" } : Jvm.MethodName)) ∈ lw_all := lw_g (lw_at lw_m7 45 rfl) rfl
theorem q1602 : (Jvm.Cond.code ({ cls := "ChairCaneModel", name := "goFor", desc := "(I)V" } : Jvm.MethodName) prog_17_method_64_code (3 : Nat) (Option.none : Option Jvm.ClassFile.FieldType)) ∈ lw_all := lw_g (lw_at lw_m7 46 rfl) rfl
theorem q1603 : (Jvm.Cond.methodLink "ChairCaneModel" (426 : Nat) ({ cls := "ChairCaneModel", name := "laysBack", desc := "()V" } : Jvm.MethodName)) ∈ lw_all := lw_g (lw_at lw_m7 47 rfl) rfl
theorem q1604 : (Jvm.Cond.privateMethod ({ cls := "ChairCaneModel", name := "laysBack", desc := "()V" } : Jvm.MethodName)) ∈ lw_tbl := lw_at lw_m7 48 rfl
theorem q1605 : (Jvm.Cond.instanceMethod ({ cls := "ChairCaneModel", name := "laysBack", desc := "()V" } : Jvm.MethodName)) ∈ lw_all := lw_g (lw_at lw_m7 49 rfl) rfl
theorem q1606 : (Jvm.Cond.code ({ cls := "ChairCaneModel", name := "laysBack", desc := "()V" } : Jvm.MethodName) prog_17_method_77_code (1 : Nat) (Option.none : Option Jvm.ClassFile.FieldType)) ∈ lw_all := lw_g (lw_at lw_m7 50 rfl) rfl
theorem q1608 : (Jvm.Cond.instanceMethod ({ cls := "ChairCaneModel", name := "falls", desc := "(I)I" } : Jvm.MethodName)) ∈ lw_all := lw_g (lw_at lw_m7 52 rfl) rfl
theorem q1609 : (Jvm.Cond.selects "ChairCaneModel" ({ cls := "ChairCaneModel", name := "falls", desc := "(I)I" } : Jvm.MethodName) ({ cls := "ChairCaneModel", name := "falls", desc := "(I)I" } : Jvm.MethodName)) ∈ lw_all := lw_g (lw_at lw_m7 53 rfl) rfl
theorem q1610 : (Jvm.Cond.code ({ cls := "ChairCaneModel", name := "falls", desc := "(I)I" } : Jvm.MethodName) prog_17_method_79_code (5 : Nat) (Option.some Jvm.ClassFile.FieldType.int)) ∈ lw_all := lw_g (lw_at lw_m7 54 rfl) rfl
theorem q1612 : (Jvm.Cond.instanceMethod ({ cls := "ChairCaneModel", name := "felled", desc := "(I)I" } : Jvm.MethodName)) ∈ lw_all := lw_g (lw_at lw_m7 56 rfl) rfl
theorem q1613 : (Jvm.Cond.selects "ChairCaneModel" ({ cls := "ChairCaneModel", name := "felled", desc := "(I)I" } : Jvm.MethodName) ({ cls := "ChairCaneModel", name := "felled", desc := "(I)I" } : Jvm.MethodName)) ∈ lw_all := lw_g (lw_at lw_m7 57 rfl) rfl
theorem q1614 : (Jvm.Cond.code ({ cls := "ChairCaneModel", name := "felled", desc := "(I)I" } : Jvm.MethodName) prog_17_method_81_code (2 : Nat) (Option.some Jvm.ClassFile.FieldType.int)) ∈ lw_all := lw_g (lw_at lw_m7 58 rfl) rfl
theorem q1615 : (Jvm.Cond.methodLink "ChairCaneModel" (429 : Nat) ({ cls := "ChairCaneModel", name := "felledBy", desc := "(I)I" } : Jvm.MethodName)) ∈ lw_all := lw_g (lw_at lw_m7 59 rfl) rfl
theorem q1616 : (Jvm.Cond.privateMethod ({ cls := "ChairCaneModel", name := "felledBy", desc := "(I)I" } : Jvm.MethodName)) ∈ lw_tbl := lw_at lw_m7 60 rfl
theorem q1617 : (Jvm.Cond.instanceMethod ({ cls := "ChairCaneModel", name := "felledBy", desc := "(I)I" } : Jvm.MethodName)) ∈ lw_all := lw_g (lw_at lw_m7 61 rfl) rfl
theorem q1618 : (Jvm.Cond.code ({ cls := "ChairCaneModel", name := "felledBy", desc := "(I)I" } : Jvm.MethodName) prog_17_method_80_code (3 : Nat) (Option.some Jvm.ClassFile.FieldType.int)) ∈ lw_all := lw_g (lw_at lw_m7 62 rfl) rfl
theorem q1620 : (Jvm.Cond.instanceMethod ({ cls := "ChairCaneModel", name := "tall", desc := "(I)I" } : Jvm.MethodName)) ∈ lw_all := lw_g (lw_at lw_m7 64 rfl) rfl
theorem q1621 : (Jvm.Cond.selects "ChairCaneModel" ({ cls := "ChairCaneModel", name := "tall", desc := "(I)I" } : Jvm.MethodName) ({ cls := "ChairCaneModel", name := "tall", desc := "(I)I" } : Jvm.MethodName)) ∈ lw_all := lw_g (lw_at lw_m7 65 rfl) rfl
theorem q1622 : (Jvm.Cond.code ({ cls := "ChairCaneModel", name := "tall", desc := "(I)I" } : Jvm.MethodName) prog_17_method_82_code (5 : Nat) (Option.some Jvm.ClassFile.FieldType.int)) ∈ lw_all := lw_g (lw_at lw_m7 66 rfl) rfl
theorem q1624 : (Jvm.Cond.instanceMethod ({ cls := "ChairCaneModel", name := "ease", desc := "(I)I" } : Jvm.MethodName)) ∈ lw_all := lw_g (lw_at lw_m7 68 rfl) rfl
theorem q1625 : (Jvm.Cond.selects "ChairCaneModel" ({ cls := "ChairCaneModel", name := "ease", desc := "(I)I" } : Jvm.MethodName) ({ cls := "ChairCaneModel", name := "ease", desc := "(I)I" } : Jvm.MethodName)) ∈ lw_all := lw_g (lw_at lw_m7 69 rfl) rfl
theorem q1626 : (Jvm.Cond.code ({ cls := "ChairCaneModel", name := "ease", desc := "(I)I" } : Jvm.MethodName) prog_17_method_83_code (6 : Nat) (Option.some Jvm.ClassFile.FieldType.int)) ∈ lw_all := lw_g (lw_at lw_m7 70 rfl) rfl
theorem q1628 : (Jvm.Cond.instanceMethod ({ cls := "ChairCaneModel", name := "way", desc := "(I)I" } : Jvm.MethodName)) ∈ lw_all := lw_g (lw_at lw_m7 72 rfl) rfl
theorem q1629 : (Jvm.Cond.selects "ChairCaneModel" ({ cls := "ChairCaneModel", name := "way", desc := "(I)I" } : Jvm.MethodName) ({ cls := "ChairCaneModel", name := "way", desc := "(I)I" } : Jvm.MethodName)) ∈ lw_all := lw_g (lw_at lw_m7 73 rfl) rfl
theorem q1630 : (Jvm.Cond.code ({ cls := "ChairCaneModel", name := "way", desc := "(I)I" } : Jvm.MethodName) prog_17_method_85_code (5 : Nat) (Option.some Jvm.ClassFile.FieldType.int)) ∈ lw_all := lw_g (lw_at lw_m7 74 rfl) rfl
theorem q1631 : (Jvm.Cond.constantLong "ChairCaneModel" (432 : Nat) (7 : Int64)) ∈ lw_all := lw_g (lw_at lw_m7 75 rfl) rfl
theorem q1632 : (Jvm.Cond.methodLink "ChairCaneModel" (434 : Nat) ({ cls := "ChairCaneModel", name := "nextOf", desc := "(I)I" } : Jvm.MethodName)) ∈ lw_all := lw_g (lw_at lw_m7 76 rfl) rfl
theorem q1633 : (Jvm.Cond.privateMethod ({ cls := "ChairCaneModel", name := "nextOf", desc := "(I)I" } : Jvm.MethodName)) ∈ lw_tbl := lw_at lw_m7 77 rfl
theorem q1634 : (Jvm.Cond.instanceMethod ({ cls := "ChairCaneModel", name := "nextOf", desc := "(I)I" } : Jvm.MethodName)) ∈ lw_all := lw_g (lw_at lw_m7 78 rfl) rfl
theorem q1635 : (Jvm.Cond.code ({ cls := "ChairCaneModel", name := "nextOf", desc := "(I)I" } : Jvm.MethodName) prog_17_method_84_code (4 : Nat) (Option.some Jvm.ClassFile.FieldType.int)) ∈ lw_all := lw_g (lw_at lw_m7 79 rfl) rfl
theorem q1637 : (Jvm.Cond.instanceMethod ({ cls := "ChairCaneModel", name := "most", desc := "(I)I" } : Jvm.MethodName)) ∈ lw_all := lw_g (lw_at lw_m7 81 rfl) rfl
theorem q1638 : (Jvm.Cond.selects "ChairCaneModel" ({ cls := "ChairCaneModel", name := "most", desc := "(I)I" } : Jvm.MethodName) ({ cls := "ChairCaneModel", name := "most", desc := "(I)I" } : Jvm.MethodName)) ∈ lw_all := lw_g (lw_at lw_m7 82 rfl) rfl
theorem q1639 : (Jvm.Cond.code ({ cls := "ChairCaneModel", name := "most", desc := "(I)I" } : Jvm.MethodName) prog_17_method_86_code (6 : Nat) (Option.some Jvm.ClassFile.FieldType.int)) ∈ lw_all := lw_g (lw_at lw_m7 83 rfl) rfl
theorem q1641 : (Jvm.Cond.instanceMethod ({ cls := "ChairCaneModel", name := "heavy", desc := "(II)I" } : Jvm.MethodName)) ∈ lw_all := lw_g (lw_at lw_m7 85 rfl) rfl
theorem q1642 : (Jvm.Cond.selects "ChairCaneModel" ({ cls := "ChairCaneModel", name := "heavy", desc := "(II)I" } : Jvm.MethodName) ({ cls := "ChairCaneModel", name := "heavy", desc := "(II)I" } : Jvm.MethodName)) ∈ lw_all := lw_g (lw_at lw_m7 86 rfl) rfl
theorem q1643 : (Jvm.Cond.code ({ cls := "ChairCaneModel", name := "heavy", desc := "(II)I" } : Jvm.MethodName) prog_17_method_87_code (8 : Nat) (Option.some Jvm.ClassFile.FieldType.int)) ∈ lw_all := lw_g (lw_at lw_m7 87 rfl) rfl
theorem q1645 : (Jvm.Cond.instanceMethod ({ cls := "ChairCaneModel", name := "rests", desc := "(IIII)I" } : Jvm.MethodName)) ∈ lw_all := lw_g (lw_at lw_m7 89 rfl) rfl
theorem q1646 : (Jvm.Cond.selects "ChairCaneModel" ({ cls := "ChairCaneModel", name := "rests", desc := "(IIII)I" } : Jvm.MethodName) ({ cls := "ChairCaneModel", name := "rests", desc := "(IIII)I" } : Jvm.MethodName)) ∈ lw_all := lw_g (lw_at lw_m7 90 rfl) rfl
theorem q1647 : (Jvm.Cond.code ({ cls := "ChairCaneModel", name := "rests", desc := "(IIII)I" } : Jvm.MethodName) prog_17_method_90_code (8 : Nat) (Option.some Jvm.ClassFile.FieldType.int)) ∈ lw_all := lw_g (lw_at lw_m7 91 rfl) rfl
theorem q1648 : (Jvm.Cond.constantLong "ChairCaneModel" (440 : Nat) (20 : Int64)) ∈ lw_all := lw_g (lw_at lw_m7 92 rfl) rfl
theorem q1649 : (Jvm.Cond.methodLink "ChairCaneModel" (442 : Nat) ({ cls := "ChairCaneModel", name := "laysWays", desc := "(III)V" } : Jvm.MethodName)) ∈ lw_all := lw_g (lw_at lw_m7 93 rfl) rfl
theorem q1650 : (Jvm.Cond.privateMethod ({ cls := "ChairCaneModel", name := "laysWays", desc := "(III)V" } : Jvm.MethodName)) ∈ lw_tbl := lw_at lw_m7 94 rfl
theorem q1651 : (Jvm.Cond.instanceMethod ({ cls := "ChairCaneModel", name := "laysWays", desc := "(III)V" } : Jvm.MethodName)) ∈ lw_all := lw_g (lw_at lw_m7 95 rfl) rfl
theorem q1652 : (Jvm.Cond.code ({ cls := "ChairCaneModel", name := "laysWays", desc := "(III)V" } : Jvm.MethodName) prog_17_method_89_code (6 : Nat) (Option.none : Option Jvm.ClassFile.FieldType)) ∈ lw_all := lw_g (lw_at lw_m7 96 rfl) rfl
theorem q1653 : (Jvm.Cond.methodLink "ChairCaneModel" (437 : Nat) ({ cls := "ChairCaneModel", name := "earns", desc := "(I)I" } : Jvm.MethodName)) ∈ lw_all := lw_g (lw_at lw_m7 97 rfl) rfl
theorem q1654 : (Jvm.Cond.privateMethod ({ cls := "ChairCaneModel", name := "earns", desc := "(I)I" } : Jvm.MethodName)) ∈ lw_tbl := lw_at lw_m7 98 rfl
theorem q1655 : (Jvm.Cond.instanceMethod ({ cls := "ChairCaneModel", name := "earns", desc := "(I)I" } : Jvm.MethodName)) ∈ lw_all := lw_g (lw_at lw_m7 99 rfl) rfl
theorem q1656 : (Jvm.Cond.code ({ cls := "ChairCaneModel", name := "earns", desc := "(I)I" } : Jvm.MethodName) prog_17_method_88_code (2 : Nat) (Option.some Jvm.ClassFile.FieldType.int)) ∈ lw_all := lw_g (lw_at lw_m7 100 rfl) rfl
theorem q1658 : (Jvm.Cond.instanceMethod ({ cls := "ChairCaneModel", name := "ring", desc := "(I)I" } : Jvm.MethodName)) ∈ lw_all := lw_g (lw_at lw_m7 102 rfl) rfl
theorem q1659 : (Jvm.Cond.selects "ChairCaneModel" ({ cls := "ChairCaneModel", name := "ring", desc := "(I)I" } : Jvm.MethodName) ({ cls := "ChairCaneModel", name := "ring", desc := "(I)I" } : Jvm.MethodName)) ∈ lw_all := lw_g (lw_at lw_m7 103 rfl) rfl
theorem q1660 : (Jvm.Cond.code ({ cls := "ChairCaneModel", name := "ring", desc := "(I)I" } : Jvm.MethodName) prog_17_method_93_code (4 : Nat) (Option.some Jvm.ClassFile.FieldType.int)) ∈ lw_all := lw_g (lw_at lw_m7 104 rfl) rfl
theorem q1661 : (Jvm.Cond.methodLink "ChairCaneModel" (446 : Nat) ({ cls := "ChairCaneModel", name := "laysAll", desc := "()V" } : Jvm.MethodName)) ∈ lw_all := lw_g (lw_at lw_m7 105 rfl) rfl
theorem q1662 : (Jvm.Cond.privateMethod ({ cls := "ChairCaneModel", name := "laysAll", desc := "()V" } : Jvm.MethodName)) ∈ lw_tbl := lw_at lw_m7 106 rfl
theorem q1663 : (Jvm.Cond.instanceMethod ({ cls := "ChairCaneModel", name := "laysAll", desc := "()V" } : Jvm.MethodName)) ∈ lw_all := lw_g (lw_at lw_m7 107 rfl) rfl
theorem q1664 : (Jvm.Cond.code ({ cls := "ChairCaneModel", name := "laysAll", desc := "()V" } : Jvm.MethodName) prog_17_method_91_code (3 : Nat) (Option.none : Option Jvm.ClassFile.FieldType)) ∈ lw_all := lw_g (lw_at lw_m7 108 rfl) rfl
theorem q1665 : (Jvm.Cond.methodLink "ChairCaneModel" (449 : Nat) ({ cls := "ChairCaneModel", name := "isAlike", desc := "(II)Z" } : Jvm.MethodName)) ∈ lw_all := lw_g (lw_at lw_m7 109 rfl) rfl
theorem q1666 : (Jvm.Cond.privateMethod ({ cls := "ChairCaneModel", name := "isAlike", desc := "(II)Z" } : Jvm.MethodName)) ∈ lw_tbl := lw_at lw_m7 110 rfl
theorem q1667 : (Jvm.Cond.instanceMethod ({ cls := "ChairCaneModel", name := "isAlike", desc := "(II)Z" } : Jvm.MethodName)) ∈ lw_all := lw_g (lw_at lw_m7 111 rfl) rfl
theorem q1668 : (Jvm.Cond.code ({ cls := "ChairCaneModel", name := "isAlike", desc := "(II)Z" } : Jvm.MethodName) prog_17_method_92_code (4 : Nat) (Option.some Jvm.ClassFile.FieldType.boolean)) ∈ lw_all := lw_g (lw_at lw_m7 112 rfl) rfl
theorem q1670 : (Jvm.Cond.instanceMethod ({ cls := "ChairCaneModel", name := "pence", desc := "(II)I" } : Jvm.MethodName)) ∈ lw_all := lw_g (lw_at lw_m7 114 rfl) rfl
theorem q1671 : (Jvm.Cond.selects "ChairCaneModel" ({ cls := "ChairCaneModel", name := "pence", desc := "(II)I" } : Jvm.MethodName) ({ cls := "ChairCaneModel", name := "pence", desc := "(II)I" } : Jvm.MethodName)) ∈ lw_all := lw_g (lw_at lw_m7 115 rfl) rfl
theorem q1672 : (Jvm.Cond.code ({ cls := "ChairCaneModel", name := "pence", desc := "(II)I" } : Jvm.MethodName) prog_17_method_95_code (10 : Nat) (Option.some Jvm.ClassFile.FieldType.int)) ∈ lw_all := lw_g (lw_at lw_m7 116 rfl) rfl
theorem q1673 : (Jvm.Cond.constantLong "ChairCaneModel" (452 : Nat) (9999 : Int64)) ∈ lw_all := lw_g (lw_at lw_m7 117 rfl) rfl
theorem q1674 : (Jvm.Cond.methodLink "ChairCaneModel" (454 : Nat) ({ cls := "ChairCaneModel", name := "allGive", desc := "()I" } : Jvm.MethodName)) ∈ lw_all := lw_g (lw_at lw_m7 118 rfl) rfl
theorem q1675 : (Jvm.Cond.privateMethod ({ cls := "ChairCaneModel", name := "allGive", desc := "()I" } : Jvm.MethodName)) ∈ lw_tbl := lw_at lw_m7 119 rfl
theorem q1676 : (Jvm.Cond.instanceMethod ({ cls := "ChairCaneModel", name := "allGive", desc := "()I" } : Jvm.MethodName)) ∈ lw_all := lw_g (lw_at lw_m7 120 rfl) rfl
theorem q1677 : (Jvm.Cond.code ({ cls := "ChairCaneModel", name := "allGive", desc := "()I" } : Jvm.MethodName) prog_17_method_94_code (3 : Nat) (Option.some Jvm.ClassFile.FieldType.int)) ∈ lw_all := lw_g (lw_at lw_m7 121 rfl) rfl
theorem q1679 : (Jvm.Cond.instanceMethod ({ cls := "ChairCaneModel", name := "note", desc := "(III)I" } : Jvm.MethodName)) ∈ lw_all := lw_g (lw_at lw_m7 123 rfl) rfl
theorem q1680 : (Jvm.Cond.selects "ChairCaneModel" ({ cls := "ChairCaneModel", name := "note", desc := "(III)I" } : Jvm.MethodName) ({ cls := "ChairCaneModel", name := "note", desc := "(III)I" } : Jvm.MethodName)) ∈ lw_all := lw_g (lw_at lw_m7 124 rfl) rfl
theorem q1681 : (Jvm.Cond.code ({ cls := "ChairCaneModel", name := "note", desc := "(III)I" } : Jvm.MethodName) prog_17_method_96_code (5 : Nat) (Option.some Jvm.ClassFile.FieldType.int)) ∈ lw_all := lw_g (lw_at lw_m7 125 rfl) rfl
theorem q1682 : (Jvm.Cond.constantLong "ChairCaneModel" (457 : Nat) (60 : Int64)) ∈ lw_all := lw_g (lw_at lw_m7 126 rfl) rfl
theorem q1684 : (Jvm.Cond.instanceMethod ({ cls := "ChairCaneModel", name := "ruled", desc := "(I)I" } : Jvm.MethodName)) ∈ lw_all := lw_g (lw_at lw_m7 128 rfl) rfl
theorem q1685 : (Jvm.Cond.selects "ChairCaneModel" ({ cls := "ChairCaneModel", name := "ruled", desc := "(I)I" } : Jvm.MethodName) ({ cls := "ChairCaneModel", name := "ruled", desc := "(I)I" } : Jvm.MethodName)) ∈ lw_all := lw_g (lw_at lw_m7 129 rfl) rfl
theorem q1686 : (Jvm.Cond.code ({ cls := "ChairCaneModel", name := "ruled", desc := "(I)I" } : Jvm.MethodName) prog_17_method_99_code (5 : Nat) (Option.some Jvm.ClassFile.FieldType.int)) ∈ lw_all := lw_g (lw_at lw_m7 130 rfl) rfl
theorem q1687 : (Jvm.Cond.methodLink "ChairCaneModel" (462 : Nat) ({ cls := "ChairCaneModel", name := "couldRule", desc := "(I)Z" } : Jvm.MethodName)) ∈ lw_all := lw_g (lw_at lw_m7 131 rfl) rfl
theorem q1688 : (Jvm.Cond.privateMethod ({ cls := "ChairCaneModel", name := "couldRule", desc := "(I)Z" } : Jvm.MethodName)) ∈ lw_tbl := lw_at lw_m7 132 rfl
theorem q1689 : (Jvm.Cond.instanceMethod ({ cls := "ChairCaneModel", name := "couldRule", desc := "(I)Z" } : Jvm.MethodName)) ∈ lw_all := lw_g (lw_at lw_m7 133 rfl) rfl
theorem q1690 : (Jvm.Cond.code ({ cls := "ChairCaneModel", name := "couldRule", desc := "(I)Z" } : Jvm.MethodName) prog_17_method_98_code (2 : Nat) (Option.some Jvm.ClassFile.FieldType.boolean)) ∈ lw_all := lw_g (lw_at lw_m7 134 rfl) rfl
theorem q1691 : (Jvm.Cond.methodLink "ChairCaneModel" (459 : Nat) ({ cls := "ChairCaneModel", name := "doNotesFit", desc := "()Z" } : Jvm.MethodName)) ∈ lw_all := lw_g (lw_at lw_m7 135 rfl) rfl
theorem q1692 : (Jvm.Cond.privateMethod ({ cls := "ChairCaneModel", name := "doNotesFit", desc := "()Z" } : Jvm.MethodName)) ∈ lw_tbl := lw_at lw_m7 136 rfl
theorem q1693 : (Jvm.Cond.instanceMethod ({ cls := "ChairCaneModel", name := "doNotesFit", desc := "()Z" } : Jvm.MethodName)) ∈ lw_all := lw_g (lw_at lw_m7 137 rfl) rfl
theorem q1694 : (Jvm.Cond.code ({ cls := "ChairCaneModel", name := "doNotesFit", desc := "()Z" } : Jvm.MethodName) prog_17_method_97_code (2 : Nat) (Option.some Jvm.ClassFile.FieldType.boolean)) ∈ lw_all := lw_g (lw_at lw_m7 138 rfl) rfl
theorem q1696 : (Jvm.Cond.instanceMethod ({ cls := "ChairCaneModel", name := "strung", desc := "(I)I" } : Jvm.MethodName)) ∈ lw_all := lw_g (lw_at lw_m7 140 rfl) rfl
theorem q1697 : (Jvm.Cond.selects "ChairCaneModel" ({ cls := "ChairCaneModel", name := "strung", desc := "(I)I" } : Jvm.MethodName) ({ cls := "ChairCaneModel", name := "strung", desc := "(I)I" } : Jvm.MethodName)) ∈ lw_all := lw_g (lw_at lw_m7 141 rfl) rfl
theorem q1698 : (Jvm.Cond.code ({ cls := "ChairCaneModel", name := "strung", desc := "(I)I" } : Jvm.MethodName) prog_17_method_100_code (4 : Nat) (Option.some Jvm.ClassFile.FieldType.int)) ∈ lw_all := lw_g (lw_at lw_m7 142 rfl) rfl
theorem q1700 : (Jvm.Cond.instanceMethod ({ cls := "ChairCaneModel", name := "look", desc := "(II)I" } : Jvm.MethodName)) ∈ lw_all := lw_g (lw_at lw_m7 144 rfl) rfl
theorem q1701 : (Jvm.Cond.selects "ChairCaneModel" ({ cls := "ChairCaneModel", name := "look", desc := "(II)I" } : Jvm.MethodName) ({ cls := "ChairCaneModel", name := "look", desc := "(II)I" } : Jvm.MethodName)) ∈ lw_all := lw_g (lw_at lw_m7 145 rfl) rfl
theorem q1702 : (Jvm.Cond.code ({ cls := "ChairCaneModel", name := "look", desc := "(II)I" } : Jvm.MethodName) prog_17_method_102_code (6 : Nat) (Option.some Jvm.ClassFile.FieldType.int)) ∈ lw_all := lw_g (lw_at lw_m7 146 rfl) rfl
theorem q1703 : (Jvm.Cond.methodLink "ChairCaneModel" (465 : Nat) ({ cls := "ChairCaneModel", name := "mostAlike", desc := "(II)I" } : Jvm.MethodName)) ∈ lw_all := lw_g (lw_at lw_m7 147 rfl) rfl
theorem q1704 : (Jvm.Cond.privateMethod ({ cls := "ChairCaneModel", name := "mostAlike", desc := "(II)I" } : Jvm.MethodName)) ∈ lw_tbl := lw_at lw_m7 148 rfl
theorem q1705 : (Jvm.Cond.instanceMethod ({ cls := "ChairCaneModel", name := "mostAlike", desc := "(II)I" } : Jvm.MethodName)) ∈ lw_all := lw_g (lw_at lw_m7 149 rfl) rfl
theorem q1706 : (Jvm.Cond.code ({ cls := "ChairCaneModel", name := "mostAlike", desc := "(II)I" } : Jvm.MethodName) prog_17_method_101_code (7 : Nat) (Option.some Jvm.ClassFile.FieldType.int)) ∈ lw_all := lw_g (lw_at lw_m7 150 rfl) rfl
theorem q1708 : (Jvm.Cond.instanceMethod ({ cls := "ChairCaneModel", name := "seed", desc := "(I)I" } : Jvm.MethodName)) ∈ lw_all := lw_g (lw_at lw_m7 152 rfl) rfl
theorem q1709 : (Jvm.Cond.selects "ChairCaneModel" ({ cls := "ChairCaneModel", name := "seed", desc := "(I)I" } : Jvm.MethodName) ({ cls := "ChairCaneModel", name := "seed", desc := "(I)I" } : Jvm.MethodName)) ∈ lw_all := lw_g (lw_at lw_m7 153 rfl) rfl
theorem q1710 : (Jvm.Cond.code ({ cls := "ChairCaneModel", name := "seed", desc := "(I)I" } : Jvm.MethodName) prog_17_method_103_code (3 : Nat) (Option.some Jvm.ClassFile.FieldType.int)) ∈ lw_all := lw_g (lw_at lw_m7 154 rfl) rfl
theorem q1712 : (Jvm.Cond.instanceMethod ({ cls := "ChairCaneModel", name := "toasts", desc := "(IIII)I" } : Jvm.MethodName)) ∈ lw_all := lw_g (lw_at lw_m7 156 rfl) rfl
theorem q1713 : (Jvm.Cond.selects "ChairCaneModel" ({ cls := "ChairCaneModel", name := "toasts", desc := "(IIII)I" } : Jvm.MethodName) ({ cls := "ChairCaneModel", name := "toasts", desc := "(IIII)I" } : Jvm.MethodName)) ∈ lw_all := lw_g (lw_at lw_m7 157 rfl) rfl
theorem q1714 : (Jvm.Cond.code ({ cls := "ChairCaneModel", name := "toasts", desc := "(IIII)I" } : Jvm.MethodName) prog_17_method_106_code (10 : Nat) (Option.some Jvm.ClassFile.FieldType.int)) ∈ lw_all := lw_g (lw_at lw_m7 158 rfl) rfl
theorem q1715 : (Jvm.Cond.constantLong "ChairCaneModel" (475 : Nat) (10 : Int64)) ∈ lw_all := lw_g (lw_at lw_m7 159 rfl) rfl
theorem q1716 : (Jvm.Cond.methodLink "ChairCaneModel" (477 : Nat) ({ cls := "ChairCaneModel", name := "draws", desc := "(I)I" } : Jvm.MethodName)) ∈ lw_all := lw_g (lw_at lw_m7 160 rfl) rfl
theorem q1717 : (Jvm.Cond.privateMethod ({ cls := "ChairCaneModel", name := "draws", desc := "(I)I" } : Jvm.MethodName)) ∈ lw_tbl := lw_at lw_m7 161 rfl
theorem q1718 : (Jvm.Cond.instanceMethod ({ cls := "ChairCaneModel", name := "draws", desc := "(I)I" } : Jvm.MethodName)) ∈ lw_all := lw_g (lw_at lw_m7 162 rfl) rfl
theorem q1719 : (Jvm.Cond.code ({ cls := "ChairCaneModel", name := "draws", desc := "(I)I" } : Jvm.MethodName) prog_17_method_104_code (2 : Nat) (Option.some Jvm.ClassFile.FieldType.int)) ∈ lw_all := lw_g (lw_at lw_m7 163 rfl) rfl
theorem q1720 : (Jvm.Cond.constantLong "ChairCaneModel" (468 : Nat) (1103515245 : Int64)) ∈ lw_all := lw_g (lw_at lw_m7 164 rfl) rfl
theorem q1721 : (Jvm.Cond.constantLong "ChairCaneModel" (470 : Nat) (12345 : Int64)) ∈ lw_all := lw_g (lw_at lw_m7 165 rfl) rfl
theorem q1722 : (Jvm.Cond.constantLong "ChairCaneModel" (472 : Nat) (2147483648 : Int64)) ∈ lw_all := lw_g (lw_at lw_m7 166 rfl) rfl
theorem q1723 : (Jvm.Cond.constant "ChairCaneModel" (474 : Nat) (65536 : Int32)) ∈ lw_all := lw_g (lw_at lw_m7 167 rfl) rfl
theorem q1724 : (Jvm.Cond.methodLink "ChairCaneModel" (480 : Nat) ({ cls := "ChairCaneModel", name := "toastOf", desc := "(I)V" } : Jvm.MethodName)) ∈ lw_all := lw_g (lw_at lw_m7 168 rfl) rfl
theorem q1725 : (Jvm.Cond.privateMethod ({ cls := "ChairCaneModel", name := "toastOf", desc := "(I)V" } : Jvm.MethodName)) ∈ lw_tbl := lw_at lw_m7 169 rfl
theorem q1726 : (Jvm.Cond.instanceMethod ({ cls := "ChairCaneModel", name := "toastOf", desc := "(I)V" } : Jvm.MethodName)) ∈ lw_all := lw_g (lw_at lw_m7 170 rfl) rfl
theorem q1727 : (Jvm.Cond.code ({ cls := "ChairCaneModel", name := "toastOf", desc := "(I)V" } : Jvm.MethodName) prog_17_method_105_code (2 : Nat) (Option.none : Option Jvm.ClassFile.FieldType)) ∈ lw_all := lw_g (lw_at lw_m7 171 rfl) rfl
theorem q1729 : (Jvm.Cond.instanceMethod ({ cls := "ChairCaneModel", name := "count", desc := "(I)I" } : Jvm.MethodName)) ∈ lw_all := lw_g (lw_at lw_m7 173 rfl) rfl
theorem q1730 : (Jvm.Cond.selects "ChairCaneModel" ({ cls := "ChairCaneModel", name := "count", desc := "(I)I" } : Jvm.MethodName) ({ cls := "ChairCaneModel", name := "count", desc := "(I)I" } : Jvm.MethodName)) ∈ lw_all := lw_g (lw_at lw_m7 174 rfl) rfl
theorem q1731 : (Jvm.Cond.code ({ cls := "ChairCaneModel", name := "count", desc := "(I)I" } : Jvm.MethodName) prog_17_method_107_code (2 : Nat) (Option.some Jvm.ClassFile.FieldType.int)) ∈ lw_all := lw_g (lw_at lw_m7 175 rfl) rfl
theorem q1733 : (Jvm.Cond.instanceMethod ({ cls := "ChairCaneModel", name := "image", desc := "(I)I" } : Jvm.MethodName)) ∈ lw_all := lw_g (lw_at lw_m7 177 rfl) rfl
theorem q1734 : (Jvm.Cond.selects "ChairCaneModel" ({ cls := "ChairCaneModel", name := "image", desc := "(I)I" } : Jvm.MethodName) ({ cls := "ChairCaneModel", name := "image", desc := "(I)I" } : Jvm.MethodName)) ∈ lw_all := lw_g (lw_at lw_m7 178 rfl) rfl
theorem q1735 : (Jvm.Cond.code ({ cls := "ChairCaneModel", name := "image", desc := "(I)I" } : Jvm.MethodName) prog_17_method_110_code (2 : Nat) (Option.some Jvm.ClassFile.FieldType.int)) ∈ lw_all := lw_g (lw_at lw_m7 179 rfl) rfl
theorem q1737 : (Jvm.Cond.instanceMethod ({ cls := "ChairCaneModel", name := "back", desc := "(I)I" } : Jvm.MethodName)) ∈ lw_all := lw_g (lw_at lw_m7 181 rfl) rfl
theorem q1738 : (Jvm.Cond.selects "ChairCaneModel" ({ cls := "ChairCaneModel", name := "back", desc := "(I)I" } : Jvm.MethodName) ({ cls := "ChairCaneModel", name := "back", desc := "(I)I" } : Jvm.MethodName)) ∈ lw_all := lw_g (lw_at lw_m7 182 rfl) rfl
theorem q1739 : (Jvm.Cond.code ({ cls := "ChairCaneModel", name := "back", desc := "(I)I" } : Jvm.MethodName) prog_17_method_111_code (2 : Nat) (Option.some Jvm.ClassFile.FieldType.int)) ∈ lw_all := lw_g (lw_at lw_m7 183 rfl) rfl
theorem in_X3 : ∀ w ∈ wsX30, w ∈ lw_all := lw_in wsX30 [1168, 1170, 1172, 1174, 1176, 1178, 1180, 1182, 1184, 1186, 1188, 1190, 1192, 1194, 1196, 1198, 1200, 1202, 1204, 1206, 1208, 1210, 1212, 1214, 1216, 1218, 1220, 1222, 1224, 1226, 1228, 1230, 1232, 1234, 1236, 1238, 1240, 1242, 1244, 1246, 1248, 1250, 1252, 1254, 1256, 1258, 1260, 1262, 1264, 1266, 1268, 1270, 1272] (by decide +kernel) (by decide +kernel)
