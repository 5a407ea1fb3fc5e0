/-! the law's own entry -/
set_option maxRecDepth 100000
abbrev cL_law : ByteArray := code
def dkwL_law_43 : List UInt8 := [132, 3, 6, 167, 251, 169, 4, 172]
abbrev dktL_law_43 : List UInt8 := dkwL_law_43 ++ []
def dkwL_law_42 : List UInt8 := [43, 42, 29, 4, 96, 46, 182, 0, 151, 44, 42, 29, 4, 96, 46, 182, 0, 154, 159, 0, 5, 3, 172]
abbrev dktL_law_42 : List UInt8 := dkwL_law_42 ++ dktL_law_43
def dkwL_law_41 : List UInt8 := [172, 43, 42, 29, 4, 96, 46, 182, 0, 147, 44, 42, 29, 4, 96, 46, 182, 0, 150, 159, 0, 28, 3, 172]
abbrev dktL_law_41 : List UInt8 := dkwL_law_41 ++ dktL_law_42
def dkwL_law_40 : List UInt8 := [3, 172, 43, 42, 29, 4, 96, 46, 182, 0, 143, 44, 42, 29, 4, 96, 46, 182, 0, 146, 159, 0, 51, 3]
abbrev dktL_law_40 : List UInt8 := dkwL_law_40 ++ dktL_law_41
def dkwL_law_39 : List UInt8 := [4, 96, 46, 42, 29, 5, 96, 46, 42, 29, 6, 96, 46, 42, 29, 7, 96, 46, 182, 0, 142, 159, 0, 74]
abbrev dktL_law_39 : List UInt8 := dkwL_law_39 ++ dktL_law_40
def dkwL_law_38 : List UInt8 := [4, 96, 46, 42, 29, 5, 96, 46, 42, 29, 6, 96, 46, 42, 29, 7, 96, 46, 182, 0, 139, 44, 42, 29]
abbrev dktL_law_38 : List UInt8 := dkwL_law_38 ++ dktL_law_39
def dkwL_law_37 : List UInt8 := [29, 4, 96, 46, 182, 0, 135, 44, 42, 29, 4, 96, 46, 182, 0, 138, 159, 0, 127, 3, 172, 43, 42, 29]
abbrev dktL_law_37 : List UInt8 := dkwL_law_37 ++ dktL_law_38
def dkwL_law_36 : List UInt8 := [182, 0, 131, 44, 42, 29, 4, 96, 46, 42, 29, 5, 96, 46, 182, 0, 134, 159, 0, 150, 3, 172, 43, 42]
abbrev dktL_law_36 : List UInt8 := dkwL_law_36 ++ dktL_law_37
def dkwL_law_35 : List UInt8 := [4, 96, 46, 182, 0, 130, 159, 0, 183, 3, 172, 43, 42, 29, 4, 96, 46, 42, 29, 5, 96, 46]
abbrev dktL_law_35 : List UInt8 := dkwL_law_35 ++ dktL_law_36
def dkwL_law_34 : List UInt8 := [29, 6, 96, 46, 182, 0, 126, 159, 0, 206, 3, 172, 43, 42, 29, 4, 96, 46, 182, 0, 127, 44, 42, 29]
abbrev dktL_law_34 : List UInt8 := dkwL_law_34 ++ dktL_law_35
def dkwL_law_33 : List UInt8 := [29, 5, 96, 46, 42, 29, 6, 96, 46, 182, 0, 123, 44, 42, 29, 4, 96, 46, 42, 29, 5, 96, 46, 42]
abbrev dktL_law_33 : List UInt8 := dkwL_law_33 ++ dktL_law_34
def dkwL_law_32 : List UInt8 := [29, 4, 96, 46, 42, 29, 5, 96, 46, 182, 0, 122, 159, 0, 249, 3, 172, 43, 42, 29, 4, 96, 46, 42]
abbrev dktL_law_32 : List UInt8 := dkwL_law_32 ++ dktL_law_33
def dkwL_law_31 : List UInt8 := [182, 0, 118, 159, 1, 26, 3, 172, 43, 42, 29, 4, 96, 46, 42, 29, 5, 96, 46, 182, 0, 119, 44, 42]
abbrev dktL_law_31 : List UInt8 := dkwL_law_31 ++ dktL_law_32
def dkwL_law_30 : List UInt8 := [182, 0, 114, 159, 1, 49, 3, 172, 43, 42, 29, 4, 96, 46, 182, 0, 115, 44, 42, 29, 4, 96, 46]
abbrev dktL_law_30 : List UInt8 := dkwL_law_30 ++ dktL_law_31
def dkwL_law_29 : List UInt8 := [182, 0, 110, 44, 42, 29, 4, 96, 46, 42, 29, 5, 96, 46, 42, 29, 6, 96, 46, 42, 29, 7, 96, 46]
abbrev dktL_law_29 : List UInt8 := dkwL_law_29 ++ dktL_law_30
def dkwL_law_28 : List UInt8 := [172, 43, 42, 29, 4, 96, 46, 42, 29, 5, 96, 46, 42, 29, 6, 96, 46, 42, 29, 7, 96, 46]
abbrev dktL_law_28 : List UInt8 := dkwL_law_28 ++ dktL_law_29
def dkwL_law_27 : List UInt8 := [3, 172, 43, 42, 29, 4, 96, 46, 182, 0, 106, 44, 42, 29, 4, 96, 46, 182, 0, 109, 159, 1, 102, 3]
abbrev dktL_law_27 : List UInt8 := dkwL_law_27 ++ dktL_law_28
def dkwL_law_26 : List UInt8 := [29, 5, 96, 46, 182, 0, 102, 44, 42, 29, 4, 96, 46, 42, 29, 5, 96, 46, 182, 0, 105, 159, 1, 125]
abbrev dktL_law_26 : List UInt8 := dkwL_law_26 ++ dktL_law_27
def dkwL_law_25 : List UInt8 := [182, 0, 98, 44, 42, 29, 4, 96, 46, 182, 0, 101, 159, 1, 158, 3, 172, 43, 42, 29, 4, 96, 46, 42]
abbrev dktL_law_25 : List UInt8 := dkwL_law_25 ++ dktL_law_26
def dkwL_law_24 : List UInt8 := [182, 0, 94, 44, 42, 29, 4, 96, 46, 182, 0, 97, 159, 1, 181, 3, 172, 43, 42, 29, 4, 96, 46]
abbrev dktL_law_24 : List UInt8 := dkwL_law_24 ++ dktL_law_25
def dkwL_law_23 : List UInt8 := [182, 0, 90, 44, 42, 29, 4, 96, 46, 182, 0, 93, 159, 1, 204, 3, 172, 43, 42, 29, 4, 96, 46]
abbrev dktL_law_23 : List UInt8 := dkwL_law_23 ++ dktL_law_24
def dkwL_law_22 : List UInt8 := [182, 0, 86, 44, 42, 29, 4, 96, 46, 182, 0, 89, 159, 1, 227, 3, 172, 43, 42, 29, 4, 96, 46]
abbrev dktL_law_22 : List UInt8 := dkwL_law_22 ++ dktL_law_23
def dkwL_law_21 : List UInt8 := [182, 0, 82, 44, 42, 29, 4, 96, 46, 182, 0, 85, 159, 1, 250, 3, 172, 43, 42, 29, 4, 96, 46]
abbrev dktL_law_21 : List UInt8 := dkwL_law_21 ++ dktL_law_22
def dkwL_law_20 : List UInt8 := [182, 0, 78, 44, 42, 29, 4, 96, 46, 182, 0, 81, 159, 2, 17, 3, 172, 43, 42, 29, 4, 96, 46]
abbrev dktL_law_20 : List UInt8 := dkwL_law_20 ++ dktL_law_21
def dkwL_law_19 : List UInt8 := [5, 96, 46, 42, 29, 6, 96, 46, 182, 0, 77, 159, 2, 40, 3, 172, 43, 42, 29, 4, 96, 46]
abbrev dktL_law_19 : List UInt8 := dkwL_law_19 ++ dktL_law_20
def dkwL_law_18 : List UInt8 := [4, 96, 46, 42, 29, 5, 96, 46, 42, 29, 6, 96, 46, 182, 0, 73, 44, 42, 29, 4, 96, 46, 42, 29]
abbrev dktL_law_18 : List UInt8 := dkwL_law_18 ++ dktL_law_19
def dkwL_law_17 : List UInt8 := [182, 0, 68, 159, 2, 96, 3, 172, 43, 182, 0, 69, 44, 182, 0, 72, 159, 2, 83, 3, 172, 43, 42, 29]
abbrev dktL_law_17 : List UInt8 := dkwL_law_17 ++ dktL_law_18
def dkwL_law_16 : List UInt8 := [4, 96, 46, 42, 29, 5, 96, 46, 182, 0, 65, 44, 42, 29, 4, 96, 46, 42, 29, 5, 96, 46]
abbrev dktL_law_16 : List UInt8 := dkwL_law_16 ++ dktL_law_17
def dkwL_law_15 : List UInt8 := [29, 4, 96, 46, 182, 0, 61, 44, 42, 29, 4, 96, 46, 182, 0, 64, 159, 2, 129, 3, 172, 43, 42, 29]
abbrev dktL_law_15 : List UInt8 := dkwL_law_15 ++ dktL_law_16
def dkwL_law_14 : List UInt8 := [42, 29, 4, 96, 46, 182, 0, 57, 44, 42, 29, 4, 96, 46, 182, 0, 60, 159, 2, 152, 3, 172, 43, 42]
abbrev dktL_law_14 : List UInt8 := dkwL_law_14 ++ dktL_law_15
def dkwL_law_13 : List UInt8 := [43, 42, 29, 4, 96, 46, 182, 0, 53, 44, 42, 29, 4, 96, 46, 182, 0, 56, 159, 2, 175, 3, 172, 43]
abbrev dktL_law_13 : List UInt8 := dkwL_law_13 ++ dktL_law_14
def dkwL_law_12 : List UInt8 := [5, 96, 46, 182, 0, 48, 159, 2, 211, 3, 172, 43, 182, 0, 49, 44, 182, 0, 52, 159, 2, 198, 3, 172]
abbrev dktL_law_12 : List UInt8 := dkwL_law_12 ++ dktL_law_13
def dkwL_law_11 : List UInt8 := [3, 172, 43, 42, 29, 4, 96, 46, 42, 29, 5, 96, 46, 182, 0, 45, 44, 42, 29, 4, 96, 46, 42, 29]
abbrev dktL_law_11 : List UInt8 := dkwL_law_11 ++ dktL_law_12
def dkwL_law_10 : List UInt8 := [29, 5, 96, 46, 182, 0, 40, 44, 42, 29, 4, 96, 46, 42, 29, 5, 96, 46, 182, 0, 44, 159, 2, 244]
abbrev dktL_law_10 : List UInt8 := dkwL_law_10 ++ dktL_law_11
def dkwL_law_9 : List UInt8 := [182, 0, 36, 44, 42, 29, 4, 96, 46, 182, 0, 39, 159, 3, 21, 3, 172, 43, 42, 29, 4, 96, 46, 42]
abbrev dktL_law_9 : List UInt8 := dkwL_law_9 ++ dktL_law_10
def dkwL_law_8 : List UInt8 := [182, 0, 32, 44, 42, 29, 4, 96, 46, 182, 0, 35, 159, 3, 44, 3, 172, 43, 42, 29, 4, 96, 46]
abbrev dktL_law_8 : List UInt8 := dkwL_law_8 ++ dktL_law_9
def dkwL_law_7 : List UInt8 := [159, 3, 80, 3, 172, 43, 182, 0, 28, 44, 182, 0, 31, 159, 3, 67, 3, 172, 43, 42, 29, 4, 96, 46]
abbrev dktL_law_7 : List UInt8 := dkwL_law_7 ++ dktL_law_8
def dkwL_law_6 : List UInt8 := [44, 42, 29, 4, 96, 46, 182, 0, 22, 159, 3, 93, 3, 172, 43, 182, 0, 23, 44, 182, 0, 27]
abbrev dktL_law_6 : List UInt8 := dkwL_law_6 ++ dktL_law_7
def dkwL_law_5 : List UInt8 := [96, 46, 42, 29, 8, 96, 46, 182, 0, 17, 159, 3, 116, 3, 172, 43, 42, 29, 4, 96, 46, 182, 0, 18]
abbrev dktL_law_5 : List UInt8 := dkwL_law_5 ++ dktL_law_6
def dkwL_law_4 : List UInt8 := [96, 46, 182, 0, 13, 44, 42, 29, 4, 96, 46, 42, 29, 5, 96, 46, 42, 29, 6, 96, 46, 42, 29, 7]
abbrev dktL_law_4 : List UInt8 := dkwL_law_4 ++ dktL_law_5
def dkwL_law_3 : List UInt8 := [43, 42, 29, 4, 96, 46, 42, 29, 5, 96, 46, 42, 29, 6, 96, 46, 42, 29, 7, 96, 46, 42, 29, 8]
abbrev dktL_law_3 : List UInt8 := dkwL_law_3 ++ dktL_law_4
def dkwL_law_2 : List UInt8 := [170, 0, 0, 0, 0, 4, 69, 0, 0, 0, 0, 0, 0, 0, 33, 0, 0, 0, 151, 0, 0, 0, 214, 0, 0, 0, 237, 0, 0, 0, 250, 0, 0, 1, 7, 0, 0, 1, 30, 0, 0, 1, 53, 0, 0, 1, 86, 0, 0, 1, 119, 0, 0, 1, 132, 0, 0, 1, 155, 0, 0, 1, 178, 0, 0, 1, 201, 0, 0, 1, 234, 0, 0, 1, 247, 0, 0, 2, 34, 0, 0, 2, 57, 0, 0, 2, 80, 0, 0, 2, 103, 0, 0, 2, 126, 0, 0, 2, 149, 0, 0, 2, 172, 0, 0, 2, 205, 0, 0, 2, 228, 0, 0, 3, 25, 0, 0, 3, 48, 0, 0, 3, 81, 0, 0, 3, 124, 0, 0, 3, 147, 0, 0, 3, 180, 0, 0, 3, 203, 0, 0, 4, 0, 0, 0, 4, 23, 0, 0, 4, 46]
abbrev dktL_law_2 : List UInt8 := dkwL_law_2 ++ dktL_law_3
def dkwL_law_1 : List UInt8 := [163, 4, 84, 42, 29, 46, 16, 63, 126]
abbrev dktL_law_1 : List UInt8 := dkwL_law_1 ++ dktL_law_2
def dkwL_law_0 : List UInt8 := [187, 0, 7, 89, 183, 0, 9, 76, 187, 0, 10, 89, 183, 0, 12, 77, 3, 62, 29, 42, 190, 16, 6, 100]
abbrev dktL_law_0 : List UInt8 := dkwL_law_0 ++ dktL_law_1
theorem dksL_law_0 : cL_law.data.toList.drop 0 = dktL_law_0 := by decide +kernel
theorem dksL_law_1 : cL_law.data.toList.drop 24 = dktL_law_1 := dk_seg dksL_law_0 24 rfl rfl
theorem dksL_law_2 : cL_law.data.toList.drop 33 = dktL_law_2 := dk_seg dksL_law_1 9 rfl rfl
theorem dksL_law_3 : cL_law.data.toList.drop 184 = dktL_law_3 := dk_seg dksL_law_2 151 rfl rfl
theorem dksL_law_4 : cL_law.data.toList.drop 208 = dktL_law_4 := dk_seg dksL_law_3 24 rfl rfl
theorem dksL_law_5 : cL_law.data.toList.drop 232 = dktL_law_5 := dk_seg dksL_law_4 24 rfl rfl
theorem dksL_law_6 : cL_law.data.toList.drop 256 = dktL_law_6 := dk_seg dksL_law_5 24 rfl rfl
theorem dksL_law_7 : cL_law.data.toList.drop 278 = dktL_law_7 := dk_seg dksL_law_6 22 rfl rfl
theorem dksL_law_8 : cL_law.data.toList.drop 302 = dktL_law_8 := dk_seg dksL_law_7 24 rfl rfl
theorem dksL_law_9 : cL_law.data.toList.drop 325 = dktL_law_9 := dk_seg dksL_law_8 23 rfl rfl
theorem dksL_law_10 : cL_law.data.toList.drop 349 = dktL_law_10 := dk_seg dksL_law_9 24 rfl rfl
theorem dksL_law_11 : cL_law.data.toList.drop 373 = dktL_law_11 := dk_seg dksL_law_10 24 rfl rfl
theorem dksL_law_12 : cL_law.data.toList.drop 397 = dktL_law_12 := dk_seg dksL_law_11 24 rfl rfl
theorem dksL_law_13 : cL_law.data.toList.drop 421 = dktL_law_13 := dk_seg dksL_law_12 24 rfl rfl
theorem dksL_law_14 : cL_law.data.toList.drop 445 = dktL_law_14 := dk_seg dksL_law_13 24 rfl rfl
theorem dksL_law_15 : cL_law.data.toList.drop 469 = dktL_law_15 := dk_seg dksL_law_14 24 rfl rfl
theorem dksL_law_16 : cL_law.data.toList.drop 493 = dktL_law_16 := dk_seg dksL_law_15 24 rfl rfl
theorem dksL_law_17 : cL_law.data.toList.drop 515 = dktL_law_17 := dk_seg dksL_law_16 22 rfl rfl
theorem dksL_law_18 : cL_law.data.toList.drop 539 = dktL_law_18 := dk_seg dksL_law_17 24 rfl rfl
theorem dksL_law_19 : cL_law.data.toList.drop 563 = dktL_law_19 := dk_seg dksL_law_18 24 rfl rfl
theorem dksL_law_20 : cL_law.data.toList.drop 585 = dktL_law_20 := dk_seg dksL_law_19 22 rfl rfl
theorem dksL_law_21 : cL_law.data.toList.drop 608 = dktL_law_21 := dk_seg dksL_law_20 23 rfl rfl
theorem dksL_law_22 : cL_law.data.toList.drop 631 = dktL_law_22 := dk_seg dksL_law_21 23 rfl rfl
theorem dksL_law_23 : cL_law.data.toList.drop 654 = dktL_law_23 := dk_seg dksL_law_22 23 rfl rfl
theorem dksL_law_24 : cL_law.data.toList.drop 677 = dktL_law_24 := dk_seg dksL_law_23 23 rfl rfl
theorem dksL_law_25 : cL_law.data.toList.drop 700 = dktL_law_25 := dk_seg dksL_law_24 23 rfl rfl
theorem dksL_law_26 : cL_law.data.toList.drop 724 = dktL_law_26 := dk_seg dksL_law_25 24 rfl rfl
theorem dksL_law_27 : cL_law.data.toList.drop 748 = dktL_law_27 := dk_seg dksL_law_26 24 rfl rfl
theorem dksL_law_28 : cL_law.data.toList.drop 772 = dktL_law_28 := dk_seg dksL_law_27 24 rfl rfl
theorem dksL_law_29 : cL_law.data.toList.drop 794 = dktL_law_29 := dk_seg dksL_law_28 22 rfl rfl
theorem dksL_law_30 : cL_law.data.toList.drop 818 = dktL_law_30 := dk_seg dksL_law_29 24 rfl rfl
theorem dksL_law_31 : cL_law.data.toList.drop 841 = dktL_law_31 := dk_seg dksL_law_30 23 rfl rfl
theorem dksL_law_32 : cL_law.data.toList.drop 865 = dktL_law_32 := dk_seg dksL_law_31 24 rfl rfl
theorem dksL_law_33 : cL_law.data.toList.drop 889 = dktL_law_33 := dk_seg dksL_law_32 24 rfl rfl
theorem dksL_law_34 : cL_law.data.toList.drop 913 = dktL_law_34 := dk_seg dksL_law_33 24 rfl rfl
theorem dksL_law_35 : cL_law.data.toList.drop 937 = dktL_law_35 := dk_seg dksL_law_34 24 rfl rfl
theorem dksL_law_36 : cL_law.data.toList.drop 959 = dktL_law_36 := dk_seg dksL_law_35 22 rfl rfl
theorem dksL_law_37 : cL_law.data.toList.drop 983 = dktL_law_37 := dk_seg dksL_law_36 24 rfl rfl
theorem dksL_law_38 : cL_law.data.toList.drop 1007 = dktL_law_38 := dk_seg dksL_law_37 24 rfl rfl
theorem dksL_law_39 : cL_law.data.toList.drop 1031 = dktL_law_39 := dk_seg dksL_law_38 24 rfl rfl
theorem dksL_law_40 : cL_law.data.toList.drop 1055 = dktL_law_40 := dk_seg dksL_law_39 24 rfl rfl
theorem dksL_law_41 : cL_law.data.toList.drop 1079 = dktL_law_41 := dk_seg dksL_law_40 24 rfl rfl
theorem dksL_law_42 : cL_law.data.toList.drop 1103 = dktL_law_42 := dk_seg dksL_law_41 24 rfl rfl
theorem dksL_law_43 : cL_law.data.toList.drop 1126 = dktL_law_43 := dk_seg dksL_law_42 23 rfl rfl
theorem dL_law_0 : decode cL_law 0 = .ok (.new 7, 3) := dk_187 0 7 (dk_at dksL_law_0 0 rfl rfl)
theorem dL_law_3 : decode cL_law 3 = .ok (.dup, 1) := dk_89 (dk_at dksL_law_0 3 rfl rfl)
theorem dL_law_4 : decode cL_law 4 = .ok (.invokespecial 9, 3) := dk_183 0 9 (dk_at dksL_law_0 4 rfl rfl)
theorem dL_law_7 : decode cL_law 7 = .ok (.astore_n 1, 1) := dk_76 (dk_at dksL_law_0 7 rfl rfl)
theorem dL_law_8 : decode cL_law 8 = .ok (.new 10, 3) := dk_187 0 10 (dk_at dksL_law_0 8 rfl rfl)
theorem dL_law_11 : decode cL_law 11 = .ok (.dup, 1) := dk_89 (dk_at dksL_law_0 11 rfl rfl)
theorem dL_law_12 : decode cL_law 12 = .ok (.invokespecial 12, 3) := dk_183 0 12 (dk_at dksL_law_0 12 rfl rfl)
theorem dL_law_15 : decode cL_law 15 = .ok (.astore_n 2, 1) := dk_77 (dk_at dksL_law_0 15 rfl rfl)
theorem dL_law_16 : decode cL_law 16 = .ok (.iconst 0, 1) := dk_3 (dk_at dksL_law_0 16 rfl rfl)
theorem dL_law_17 : decode cL_law 17 = .ok (.istore_n 3, 1) := dk_62 (dk_at dksL_law_0 17 rfl rfl)
theorem dL_law_18 : decode cL_law 18 = .ok (.iload_n 3, 1) := dk_29 (dk_at dksL_law_0 18 rfl rfl)
theorem dL_law_19 : decode cL_law 19 = .ok (.aload_n 0, 1) := dk_42 (dk_at dksL_law_0 19 rfl rfl)
theorem dL_law_20 : decode cL_law 20 = .ok (.arraylength, 1) := dk_190 (dk_at dksL_law_0 20 rfl rfl)
theorem dL_law_21 : decode cL_law 21 = .ok (.bipush 6, 2) := dk_16 6 (dk_at dksL_law_0 21 rfl rfl)
theorem dL_law_23 : decode cL_law 23 = .ok (.isub, 1) := dk_100 (dk_at dksL_law_0 23 rfl rfl)
theorem dL_law_24 : decode cL_law 24 = .ok (.if_icmp .gt 1108, 3) := dk_163 4 84 (dk_at dksL_law_1 0 rfl rfl)
theorem dL_law_27 : decode cL_law 27 = .ok (.aload_n 0, 1) := dk_42 (dk_at dksL_law_1 3 rfl rfl)
theorem dL_law_28 : decode cL_law 28 = .ok (.iload_n 3, 1) := dk_29 (dk_at dksL_law_1 4 rfl rfl)
theorem dL_law_29 : decode cL_law 29 = .ok (.iaload, 1) := dk_46 (dk_at dksL_law_1 5 rfl rfl)
theorem dL_law_30 : decode cL_law 30 = .ok (.bipush 63, 2) := dk_16 63 (dk_at dksL_law_1 6 rfl rfl)
theorem dL_law_32 : decode cL_law 32 = .ok (.iand, 1) := dk_126 (dk_at dksL_law_1 8 rfl rfl)
theorem dL_law_33 : decode cL_law 33 = .ok (.tableswitch 1093 0 33 #[151, 214, 237, 250, 263, 286, 309, 342, 375, 388, 411, 434, 457, 490, 503, 546, 569, 592, 615, 638, 661, 684, 717, 740, 793, 816, 849, 892, 915, 948, 971, 1024, 1047, 1070], 151) := by decide +kernel
theorem dL_law_184 : decode cL_law 184 = .ok (.aload_n 1, 1) := dk_43 (dk_at dksL_law_3 0 rfl rfl)
theorem dL_law_185 : decode cL_law 185 = .ok (.aload_n 0, 1) := dk_42 (dk_at dksL_law_3 1 rfl rfl)
theorem dL_law_186 : decode cL_law 186 = .ok (.iload_n 3, 1) := dk_29 (dk_at dksL_law_3 2 rfl rfl)
theorem dL_law_187 : decode cL_law 187 = .ok (.iconst 1, 1) := dk_4 (dk_at dksL_law_3 3 rfl rfl)
theorem dL_law_188 : decode cL_law 188 = .ok (.iadd, 1) := dk_96 (dk_at dksL_law_3 4 rfl rfl)
theorem dL_law_189 : decode cL_law 189 = .ok (.iaload, 1) := dk_46 (dk_at dksL_law_3 5 rfl rfl)
theorem dL_law_190 : decode cL_law 190 = .ok (.aload_n 0, 1) := dk_42 (dk_at dksL_law_3 6 rfl rfl)
theorem dL_law_191 : decode cL_law 191 = .ok (.iload_n 3, 1) := dk_29 (dk_at dksL_law_3 7 rfl rfl)
theorem dL_law_192 : decode cL_law 192 = .ok (.iconst 2, 1) := dk_5 (dk_at dksL_law_3 8 rfl rfl)
theorem dL_law_193 : decode cL_law 193 = .ok (.iadd, 1) := dk_96 (dk_at dksL_law_3 9 rfl rfl)
theorem dL_law_194 : decode cL_law 194 = .ok (.iaload, 1) := dk_46 (dk_at dksL_law_3 10 rfl rfl)
theorem dL_law_195 : decode cL_law 195 = .ok (.aload_n 0, 1) := dk_42 (dk_at dksL_law_3 11 rfl rfl)
theorem dL_law_196 : decode cL_law 196 = .ok (.iload_n 3, 1) := dk_29 (dk_at dksL_law_3 12 rfl rfl)
theorem dL_law_197 : decode cL_law 197 = .ok (.iconst 3, 1) := dk_6 (dk_at dksL_law_3 13 rfl rfl)
theorem dL_law_198 : decode cL_law 198 = .ok (.iadd, 1) := dk_96 (dk_at dksL_law_3 14 rfl rfl)
theorem dL_law_199 : decode cL_law 199 = .ok (.iaload, 1) := dk_46 (dk_at dksL_law_3 15 rfl rfl)
theorem dL_law_200 : decode cL_law 200 = .ok (.aload_n 0, 1) := dk_42 (dk_at dksL_law_3 16 rfl rfl)
theorem dL_law_201 : decode cL_law 201 = .ok (.iload_n 3, 1) := dk_29 (dk_at dksL_law_3 17 rfl rfl)
theorem dL_law_202 : decode cL_law 202 = .ok (.iconst 4, 1) := dk_7 (dk_at dksL_law_3 18 rfl rfl)
theorem dL_law_203 : decode cL_law 203 = .ok (.iadd, 1) := dk_96 (dk_at dksL_law_3 19 rfl rfl)
theorem dL_law_204 : decode cL_law 204 = .ok (.iaload, 1) := dk_46 (dk_at dksL_law_3 20 rfl rfl)
theorem dL_law_205 : decode cL_law 205 = .ok (.aload_n 0, 1) := dk_42 (dk_at dksL_law_3 21 rfl rfl)
theorem dL_law_206 : decode cL_law 206 = .ok (.iload_n 3, 1) := dk_29 (dk_at dksL_law_3 22 rfl rfl)
theorem dL_law_207 : decode cL_law 207 = .ok (.iconst 5, 1) := dk_8 (dk_at dksL_law_3 23 rfl rfl)
theorem dL_law_208 : decode cL_law 208 = .ok (.iadd, 1) := dk_96 (dk_at dksL_law_4 0 rfl rfl)
theorem dL_law_209 : decode cL_law 209 = .ok (.iaload, 1) := dk_46 (dk_at dksL_law_4 1 rfl rfl)
theorem dL_law_210 : decode cL_law 210 = .ok (.invokevirtual 13, 3) := dk_182 0 13 (dk_at dksL_law_4 2 rfl rfl)
theorem dL_law_213 : decode cL_law 213 = .ok (.aload_n 2, 1) := dk_44 (dk_at dksL_law_4 5 rfl rfl)
theorem dL_law_214 : decode cL_law 214 = .ok (.aload_n 0, 1) := dk_42 (dk_at dksL_law_4 6 rfl rfl)
theorem dL_law_215 : decode cL_law 215 = .ok (.iload_n 3, 1) := dk_29 (dk_at dksL_law_4 7 rfl rfl)
theorem dL_law_216 : decode cL_law 216 = .ok (.iconst 1, 1) := dk_4 (dk_at dksL_law_4 8 rfl rfl)
theorem dL_law_217 : decode cL_law 217 = .ok (.iadd, 1) := dk_96 (dk_at dksL_law_4 9 rfl rfl)
theorem dL_law_218 : decode cL_law 218 = .ok (.iaload, 1) := dk_46 (dk_at dksL_law_4 10 rfl rfl)
theorem dL_law_219 : decode cL_law 219 = .ok (.aload_n 0, 1) := dk_42 (dk_at dksL_law_4 11 rfl rfl)
theorem dL_law_220 : decode cL_law 220 = .ok (.iload_n 3, 1) := dk_29 (dk_at dksL_law_4 12 rfl rfl)
theorem dL_law_221 : decode cL_law 221 = .ok (.iconst 2, 1) := dk_5 (dk_at dksL_law_4 13 rfl rfl)
theorem dL_law_222 : decode cL_law 222 = .ok (.iadd, 1) := dk_96 (dk_at dksL_law_4 14 rfl rfl)
theorem dL_law_223 : decode cL_law 223 = .ok (.iaload, 1) := dk_46 (dk_at dksL_law_4 15 rfl rfl)
theorem dL_law_224 : decode cL_law 224 = .ok (.aload_n 0, 1) := dk_42 (dk_at dksL_law_4 16 rfl rfl)
theorem dL_law_225 : decode cL_law 225 = .ok (.iload_n 3, 1) := dk_29 (dk_at dksL_law_4 17 rfl rfl)
theorem dL_law_226 : decode cL_law 226 = .ok (.iconst 3, 1) := dk_6 (dk_at dksL_law_4 18 rfl rfl)
theorem dL_law_227 : decode cL_law 227 = .ok (.iadd, 1) := dk_96 (dk_at dksL_law_4 19 rfl rfl)
theorem dL_law_228 : decode cL_law 228 = .ok (.iaload, 1) := dk_46 (dk_at dksL_law_4 20 rfl rfl)
theorem dL_law_229 : decode cL_law 229 = .ok (.aload_n 0, 1) := dk_42 (dk_at dksL_law_4 21 rfl rfl)
theorem dL_law_230 : decode cL_law 230 = .ok (.iload_n 3, 1) := dk_29 (dk_at dksL_law_4 22 rfl rfl)
theorem dL_law_231 : decode cL_law 231 = .ok (.iconst 4, 1) := dk_7 (dk_at dksL_law_4 23 rfl rfl)
theorem dL_law_232 : decode cL_law 232 = .ok (.iadd, 1) := dk_96 (dk_at dksL_law_5 0 rfl rfl)
theorem dL_law_233 : decode cL_law 233 = .ok (.iaload, 1) := dk_46 (dk_at dksL_law_5 1 rfl rfl)
theorem dL_law_234 : decode cL_law 234 = .ok (.aload_n 0, 1) := dk_42 (dk_at dksL_law_5 2 rfl rfl)
theorem dL_law_235 : decode cL_law 235 = .ok (.iload_n 3, 1) := dk_29 (dk_at dksL_law_5 3 rfl rfl)
theorem dL_law_236 : decode cL_law 236 = .ok (.iconst 5, 1) := dk_8 (dk_at dksL_law_5 4 rfl rfl)
theorem dL_law_237 : decode cL_law 237 = .ok (.iadd, 1) := dk_96 (dk_at dksL_law_5 5 rfl rfl)
theorem dL_law_238 : decode cL_law 238 = .ok (.iaload, 1) := dk_46 (dk_at dksL_law_5 6 rfl rfl)
theorem dL_law_239 : decode cL_law 239 = .ok (.invokevirtual 17, 3) := dk_182 0 17 (dk_at dksL_law_5 7 rfl rfl)
theorem dL_law_242 : decode cL_law 242 = .ok (.if_icmp .eq 884, 3) := dk_159 3 116 (dk_at dksL_law_5 10 rfl rfl)
theorem dL_law_245 : decode cL_law 245 = .ok (.iconst 0, 1) := dk_3 (dk_at dksL_law_5 13 rfl rfl)
theorem dL_law_246 : decode cL_law 246 = .ok (.ireturn, 1) := dk_172 (dk_at dksL_law_5 14 rfl rfl)
theorem dL_law_247 : decode cL_law 247 = .ok (.aload_n 1, 1) := dk_43 (dk_at dksL_law_5 15 rfl rfl)
theorem dL_law_248 : decode cL_law 248 = .ok (.aload_n 0, 1) := dk_42 (dk_at dksL_law_5 16 rfl rfl)
theorem dL_law_249 : decode cL_law 249 = .ok (.iload_n 3, 1) := dk_29 (dk_at dksL_law_5 17 rfl rfl)
theorem dL_law_250 : decode cL_law 250 = .ok (.iconst 1, 1) := dk_4 (dk_at dksL_law_5 18 rfl rfl)
theorem dL_law_251 : decode cL_law 251 = .ok (.iadd, 1) := dk_96 (dk_at dksL_law_5 19 rfl rfl)
theorem dL_law_252 : decode cL_law 252 = .ok (.iaload, 1) := dk_46 (dk_at dksL_law_5 20 rfl rfl)
theorem dL_law_253 : decode cL_law 253 = .ok (.invokevirtual 18, 3) := dk_182 0 18 (dk_at dksL_law_5 21 rfl rfl)
theorem dL_law_256 : decode cL_law 256 = .ok (.aload_n 2, 1) := dk_44 (dk_at dksL_law_6 0 rfl rfl)
theorem dL_law_257 : decode cL_law 257 = .ok (.aload_n 0, 1) := dk_42 (dk_at dksL_law_6 1 rfl rfl)
theorem dL_law_258 : decode cL_law 258 = .ok (.iload_n 3, 1) := dk_29 (dk_at dksL_law_6 2 rfl rfl)
theorem dL_law_259 : decode cL_law 259 = .ok (.iconst 1, 1) := dk_4 (dk_at dksL_law_6 3 rfl rfl)
theorem dL_law_260 : decode cL_law 260 = .ok (.iadd, 1) := dk_96 (dk_at dksL_law_6 4 rfl rfl)
theorem dL_law_261 : decode cL_law 261 = .ok (.iaload, 1) := dk_46 (dk_at dksL_law_6 5 rfl rfl)
theorem dL_law_262 : decode cL_law 262 = .ok (.invokevirtual 22, 3) := dk_182 0 22 (dk_at dksL_law_6 6 rfl rfl)
theorem dL_law_265 : decode cL_law 265 = .ok (.if_icmp .eq 861, 3) := dk_159 3 93 (dk_at dksL_law_6 9 rfl rfl)
theorem dL_law_268 : decode cL_law 268 = .ok (.iconst 0, 1) := dk_3 (dk_at dksL_law_6 12 rfl rfl)
theorem dL_law_269 : decode cL_law 269 = .ok (.ireturn, 1) := dk_172 (dk_at dksL_law_6 13 rfl rfl)
theorem dL_law_270 : decode cL_law 270 = .ok (.aload_n 1, 1) := dk_43 (dk_at dksL_law_6 14 rfl rfl)
theorem dL_law_271 : decode cL_law 271 = .ok (.invokevirtual 23, 3) := dk_182 0 23 (dk_at dksL_law_6 15 rfl rfl)
theorem dL_law_274 : decode cL_law 274 = .ok (.aload_n 2, 1) := dk_44 (dk_at dksL_law_6 18 rfl rfl)
theorem dL_law_275 : decode cL_law 275 = .ok (.invokevirtual 27, 3) := dk_182 0 27 (dk_at dksL_law_6 19 rfl rfl)
theorem dL_law_278 : decode cL_law 278 = .ok (.if_icmp .eq 848, 3) := dk_159 3 80 (dk_at dksL_law_7 0 rfl rfl)
theorem dL_law_281 : decode cL_law 281 = .ok (.iconst 0, 1) := dk_3 (dk_at dksL_law_7 3 rfl rfl)
theorem dL_law_282 : decode cL_law 282 = .ok (.ireturn, 1) := dk_172 (dk_at dksL_law_7 4 rfl rfl)
theorem dL_law_283 : decode cL_law 283 = .ok (.aload_n 1, 1) := dk_43 (dk_at dksL_law_7 5 rfl rfl)
theorem dL_law_284 : decode cL_law 284 = .ok (.invokevirtual 28, 3) := dk_182 0 28 (dk_at dksL_law_7 6 rfl rfl)
theorem dL_law_287 : decode cL_law 287 = .ok (.aload_n 2, 1) := dk_44 (dk_at dksL_law_7 9 rfl rfl)
theorem dL_law_288 : decode cL_law 288 = .ok (.invokevirtual 31, 3) := dk_182 0 31 (dk_at dksL_law_7 10 rfl rfl)
theorem dL_law_291 : decode cL_law 291 = .ok (.if_icmp .eq 835, 3) := dk_159 3 67 (dk_at dksL_law_7 13 rfl rfl)
theorem dL_law_294 : decode cL_law 294 = .ok (.iconst 0, 1) := dk_3 (dk_at dksL_law_7 16 rfl rfl)
theorem dL_law_295 : decode cL_law 295 = .ok (.ireturn, 1) := dk_172 (dk_at dksL_law_7 17 rfl rfl)
theorem dL_law_296 : decode cL_law 296 = .ok (.aload_n 1, 1) := dk_43 (dk_at dksL_law_7 18 rfl rfl)
theorem dL_law_297 : decode cL_law 297 = .ok (.aload_n 0, 1) := dk_42 (dk_at dksL_law_7 19 rfl rfl)
theorem dL_law_298 : decode cL_law 298 = .ok (.iload_n 3, 1) := dk_29 (dk_at dksL_law_7 20 rfl rfl)
theorem dL_law_299 : decode cL_law 299 = .ok (.iconst 1, 1) := dk_4 (dk_at dksL_law_7 21 rfl rfl)
theorem dL_law_300 : decode cL_law 300 = .ok (.iadd, 1) := dk_96 (dk_at dksL_law_7 22 rfl rfl)
theorem dL_law_301 : decode cL_law 301 = .ok (.iaload, 1) := dk_46 (dk_at dksL_law_7 23 rfl rfl)
theorem dL_law_302 : decode cL_law 302 = .ok (.invokevirtual 32, 3) := dk_182 0 32 (dk_at dksL_law_8 0 rfl rfl)
theorem dL_law_305 : decode cL_law 305 = .ok (.aload_n 2, 1) := dk_44 (dk_at dksL_law_8 3 rfl rfl)
theorem dL_law_306 : decode cL_law 306 = .ok (.aload_n 0, 1) := dk_42 (dk_at dksL_law_8 4 rfl rfl)
theorem dL_law_307 : decode cL_law 307 = .ok (.iload_n 3, 1) := dk_29 (dk_at dksL_law_8 5 rfl rfl)
theorem dL_law_308 : decode cL_law 308 = .ok (.iconst 1, 1) := dk_4 (dk_at dksL_law_8 6 rfl rfl)
theorem dL_law_309 : decode cL_law 309 = .ok (.iadd, 1) := dk_96 (dk_at dksL_law_8 7 rfl rfl)
theorem dL_law_310 : decode cL_law 310 = .ok (.iaload, 1) := dk_46 (dk_at dksL_law_8 8 rfl rfl)
theorem dL_law_311 : decode cL_law 311 = .ok (.invokevirtual 35, 3) := dk_182 0 35 (dk_at dksL_law_8 9 rfl rfl)
theorem dL_law_314 : decode cL_law 314 = .ok (.if_icmp .eq 812, 3) := dk_159 3 44 (dk_at dksL_law_8 12 rfl rfl)
theorem dL_law_317 : decode cL_law 317 = .ok (.iconst 0, 1) := dk_3 (dk_at dksL_law_8 15 rfl rfl)
theorem dL_law_318 : decode cL_law 318 = .ok (.ireturn, 1) := dk_172 (dk_at dksL_law_8 16 rfl rfl)
theorem dL_law_319 : decode cL_law 319 = .ok (.aload_n 1, 1) := dk_43 (dk_at dksL_law_8 17 rfl rfl)
theorem dL_law_320 : decode cL_law 320 = .ok (.aload_n 0, 1) := dk_42 (dk_at dksL_law_8 18 rfl rfl)
theorem dL_law_321 : decode cL_law 321 = .ok (.iload_n 3, 1) := dk_29 (dk_at dksL_law_8 19 rfl rfl)
theorem dL_law_322 : decode cL_law 322 = .ok (.iconst 1, 1) := dk_4 (dk_at dksL_law_8 20 rfl rfl)
theorem dL_law_323 : decode cL_law 323 = .ok (.iadd, 1) := dk_96 (dk_at dksL_law_8 21 rfl rfl)
theorem dL_law_324 : decode cL_law 324 = .ok (.iaload, 1) := dk_46 (dk_at dksL_law_8 22 rfl rfl)
theorem dL_law_325 : decode cL_law 325 = .ok (.invokevirtual 36, 3) := dk_182 0 36 (dk_at dksL_law_9 0 rfl rfl)
theorem dL_law_328 : decode cL_law 328 = .ok (.aload_n 2, 1) := dk_44 (dk_at dksL_law_9 3 rfl rfl)
theorem dL_law_329 : decode cL_law 329 = .ok (.aload_n 0, 1) := dk_42 (dk_at dksL_law_9 4 rfl rfl)
theorem dL_law_330 : decode cL_law 330 = .ok (.iload_n 3, 1) := dk_29 (dk_at dksL_law_9 5 rfl rfl)
theorem dL_law_331 : decode cL_law 331 = .ok (.iconst 1, 1) := dk_4 (dk_at dksL_law_9 6 rfl rfl)
theorem dL_law_332 : decode cL_law 332 = .ok (.iadd, 1) := dk_96 (dk_at dksL_law_9 7 rfl rfl)
theorem dL_law_333 : decode cL_law 333 = .ok (.iaload, 1) := dk_46 (dk_at dksL_law_9 8 rfl rfl)
theorem dL_law_334 : decode cL_law 334 = .ok (.invokevirtual 39, 3) := dk_182 0 39 (dk_at dksL_law_9 9 rfl rfl)
theorem dL_law_337 : decode cL_law 337 = .ok (.if_icmp .eq 789, 3) := dk_159 3 21 (dk_at dksL_law_9 12 rfl rfl)
theorem dL_law_340 : decode cL_law 340 = .ok (.iconst 0, 1) := dk_3 (dk_at dksL_law_9 15 rfl rfl)
theorem dL_law_341 : decode cL_law 341 = .ok (.ireturn, 1) := dk_172 (dk_at dksL_law_9 16 rfl rfl)
theorem dL_law_342 : decode cL_law 342 = .ok (.aload_n 1, 1) := dk_43 (dk_at dksL_law_9 17 rfl rfl)
theorem dL_law_343 : decode cL_law 343 = .ok (.aload_n 0, 1) := dk_42 (dk_at dksL_law_9 18 rfl rfl)
theorem dL_law_344 : decode cL_law 344 = .ok (.iload_n 3, 1) := dk_29 (dk_at dksL_law_9 19 rfl rfl)
theorem dL_law_345 : decode cL_law 345 = .ok (.iconst 1, 1) := dk_4 (dk_at dksL_law_9 20 rfl rfl)
theorem dL_law_346 : decode cL_law 346 = .ok (.iadd, 1) := dk_96 (dk_at dksL_law_9 21 rfl rfl)
theorem dL_law_347 : decode cL_law 347 = .ok (.iaload, 1) := dk_46 (dk_at dksL_law_9 22 rfl rfl)
theorem dL_law_348 : decode cL_law 348 = .ok (.aload_n 0, 1) := dk_42 (dk_at dksL_law_9 23 rfl rfl)
theorem dL_law_349 : decode cL_law 349 = .ok (.iload_n 3, 1) := dk_29 (dk_at dksL_law_10 0 rfl rfl)
theorem dL_law_350 : decode cL_law 350 = .ok (.iconst 2, 1) := dk_5 (dk_at dksL_law_10 1 rfl rfl)
theorem dL_law_351 : decode cL_law 351 = .ok (.iadd, 1) := dk_96 (dk_at dksL_law_10 2 rfl rfl)
theorem dL_law_352 : decode cL_law 352 = .ok (.iaload, 1) := dk_46 (dk_at dksL_law_10 3 rfl rfl)
theorem dL_law_353 : decode cL_law 353 = .ok (.invokevirtual 40, 3) := dk_182 0 40 (dk_at dksL_law_10 4 rfl rfl)
theorem dL_law_356 : decode cL_law 356 = .ok (.aload_n 2, 1) := dk_44 (dk_at dksL_law_10 7 rfl rfl)
theorem dL_law_357 : decode cL_law 357 = .ok (.aload_n 0, 1) := dk_42 (dk_at dksL_law_10 8 rfl rfl)
theorem dL_law_358 : decode cL_law 358 = .ok (.iload_n 3, 1) := dk_29 (dk_at dksL_law_10 9 rfl rfl)
theorem dL_law_359 : decode cL_law 359 = .ok (.iconst 1, 1) := dk_4 (dk_at dksL_law_10 10 rfl rfl)
theorem dL_law_360 : decode cL_law 360 = .ok (.iadd, 1) := dk_96 (dk_at dksL_law_10 11 rfl rfl)
theorem dL_law_361 : decode cL_law 361 = .ok (.iaload, 1) := dk_46 (dk_at dksL_law_10 12 rfl rfl)
theorem dL_law_362 : decode cL_law 362 = .ok (.aload_n 0, 1) := dk_42 (dk_at dksL_law_10 13 rfl rfl)
theorem dL_law_363 : decode cL_law 363 = .ok (.iload_n 3, 1) := dk_29 (dk_at dksL_law_10 14 rfl rfl)
theorem dL_law_364 : decode cL_law 364 = .ok (.iconst 2, 1) := dk_5 (dk_at dksL_law_10 15 rfl rfl)
theorem dL_law_365 : decode cL_law 365 = .ok (.iadd, 1) := dk_96 (dk_at dksL_law_10 16 rfl rfl)
theorem dL_law_366 : decode cL_law 366 = .ok (.iaload, 1) := dk_46 (dk_at dksL_law_10 17 rfl rfl)
theorem dL_law_367 : decode cL_law 367 = .ok (.invokevirtual 44, 3) := dk_182 0 44 (dk_at dksL_law_10 18 rfl rfl)
theorem dL_law_370 : decode cL_law 370 = .ok (.if_icmp .eq 756, 3) := dk_159 2 244 (dk_at dksL_law_10 21 rfl rfl)
theorem dL_law_373 : decode cL_law 373 = .ok (.iconst 0, 1) := dk_3 (dk_at dksL_law_11 0 rfl rfl)
theorem dL_law_374 : decode cL_law 374 = .ok (.ireturn, 1) := dk_172 (dk_at dksL_law_11 1 rfl rfl)
theorem dL_law_375 : decode cL_law 375 = .ok (.aload_n 1, 1) := dk_43 (dk_at dksL_law_11 2 rfl rfl)
theorem dL_law_376 : decode cL_law 376 = .ok (.aload_n 0, 1) := dk_42 (dk_at dksL_law_11 3 rfl rfl)
theorem dL_law_377 : decode cL_law 377 = .ok (.iload_n 3, 1) := dk_29 (dk_at dksL_law_11 4 rfl rfl)
theorem dL_law_378 : decode cL_law 378 = .ok (.iconst 1, 1) := dk_4 (dk_at dksL_law_11 5 rfl rfl)
theorem dL_law_379 : decode cL_law 379 = .ok (.iadd, 1) := dk_96 (dk_at dksL_law_11 6 rfl rfl)
theorem dL_law_380 : decode cL_law 380 = .ok (.iaload, 1) := dk_46 (dk_at dksL_law_11 7 rfl rfl)
theorem dL_law_381 : decode cL_law 381 = .ok (.aload_n 0, 1) := dk_42 (dk_at dksL_law_11 8 rfl rfl)
theorem dL_law_382 : decode cL_law 382 = .ok (.iload_n 3, 1) := dk_29 (dk_at dksL_law_11 9 rfl rfl)
theorem dL_law_383 : decode cL_law 383 = .ok (.iconst 2, 1) := dk_5 (dk_at dksL_law_11 10 rfl rfl)
theorem dL_law_384 : decode cL_law 384 = .ok (.iadd, 1) := dk_96 (dk_at dksL_law_11 11 rfl rfl)
theorem dL_law_385 : decode cL_law 385 = .ok (.iaload, 1) := dk_46 (dk_at dksL_law_11 12 rfl rfl)
theorem dL_law_386 : decode cL_law 386 = .ok (.invokevirtual 45, 3) := dk_182 0 45 (dk_at dksL_law_11 13 rfl rfl)
theorem dL_law_389 : decode cL_law 389 = .ok (.aload_n 2, 1) := dk_44 (dk_at dksL_law_11 16 rfl rfl)
theorem dL_law_390 : decode cL_law 390 = .ok (.aload_n 0, 1) := dk_42 (dk_at dksL_law_11 17 rfl rfl)
theorem dL_law_391 : decode cL_law 391 = .ok (.iload_n 3, 1) := dk_29 (dk_at dksL_law_11 18 rfl rfl)
theorem dL_law_392 : decode cL_law 392 = .ok (.iconst 1, 1) := dk_4 (dk_at dksL_law_11 19 rfl rfl)
theorem dL_law_393 : decode cL_law 393 = .ok (.iadd, 1) := dk_96 (dk_at dksL_law_11 20 rfl rfl)
theorem dL_law_394 : decode cL_law 394 = .ok (.iaload, 1) := dk_46 (dk_at dksL_law_11 21 rfl rfl)
theorem dL_law_395 : decode cL_law 395 = .ok (.aload_n 0, 1) := dk_42 (dk_at dksL_law_11 22 rfl rfl)
theorem dL_law_396 : decode cL_law 396 = .ok (.iload_n 3, 1) := dk_29 (dk_at dksL_law_11 23 rfl rfl)
theorem dL_law_397 : decode cL_law 397 = .ok (.iconst 2, 1) := dk_5 (dk_at dksL_law_12 0 rfl rfl)
theorem dL_law_398 : decode cL_law 398 = .ok (.iadd, 1) := dk_96 (dk_at dksL_law_12 1 rfl rfl)
theorem dL_law_399 : decode cL_law 399 = .ok (.iaload, 1) := dk_46 (dk_at dksL_law_12 2 rfl rfl)
theorem dL_law_400 : decode cL_law 400 = .ok (.invokevirtual 48, 3) := dk_182 0 48 (dk_at dksL_law_12 3 rfl rfl)
theorem dL_law_403 : decode cL_law 403 = .ok (.if_icmp .eq 723, 3) := dk_159 2 211 (dk_at dksL_law_12 6 rfl rfl)
theorem dL_law_406 : decode cL_law 406 = .ok (.iconst 0, 1) := dk_3 (dk_at dksL_law_12 9 rfl rfl)
theorem dL_law_407 : decode cL_law 407 = .ok (.ireturn, 1) := dk_172 (dk_at dksL_law_12 10 rfl rfl)
theorem dL_law_408 : decode cL_law 408 = .ok (.aload_n 1, 1) := dk_43 (dk_at dksL_law_12 11 rfl rfl)
theorem dL_law_409 : decode cL_law 409 = .ok (.invokevirtual 49, 3) := dk_182 0 49 (dk_at dksL_law_12 12 rfl rfl)
theorem dL_law_412 : decode cL_law 412 = .ok (.aload_n 2, 1) := dk_44 (dk_at dksL_law_12 15 rfl rfl)
theorem dL_law_413 : decode cL_law 413 = .ok (.invokevirtual 52, 3) := dk_182 0 52 (dk_at dksL_law_12 16 rfl rfl)
theorem dL_law_416 : decode cL_law 416 = .ok (.if_icmp .eq 710, 3) := dk_159 2 198 (dk_at dksL_law_12 19 rfl rfl)
theorem dL_law_419 : decode cL_law 419 = .ok (.iconst 0, 1) := dk_3 (dk_at dksL_law_12 22 rfl rfl)
theorem dL_law_420 : decode cL_law 420 = .ok (.ireturn, 1) := dk_172 (dk_at dksL_law_12 23 rfl rfl)
theorem dL_law_421 : decode cL_law 421 = .ok (.aload_n 1, 1) := dk_43 (dk_at dksL_law_13 0 rfl rfl)
theorem dL_law_422 : decode cL_law 422 = .ok (.aload_n 0, 1) := dk_42 (dk_at dksL_law_13 1 rfl rfl)
theorem dL_law_423 : decode cL_law 423 = .ok (.iload_n 3, 1) := dk_29 (dk_at dksL_law_13 2 rfl rfl)
theorem dL_law_424 : decode cL_law 424 = .ok (.iconst 1, 1) := dk_4 (dk_at dksL_law_13 3 rfl rfl)
theorem dL_law_425 : decode cL_law 425 = .ok (.iadd, 1) := dk_96 (dk_at dksL_law_13 4 rfl rfl)
theorem dL_law_426 : decode cL_law 426 = .ok (.iaload, 1) := dk_46 (dk_at dksL_law_13 5 rfl rfl)
theorem dL_law_427 : decode cL_law 427 = .ok (.invokevirtual 53, 3) := dk_182 0 53 (dk_at dksL_law_13 6 rfl rfl)
theorem dL_law_430 : decode cL_law 430 = .ok (.aload_n 2, 1) := dk_44 (dk_at dksL_law_13 9 rfl rfl)
theorem dL_law_431 : decode cL_law 431 = .ok (.aload_n 0, 1) := dk_42 (dk_at dksL_law_13 10 rfl rfl)
theorem dL_law_432 : decode cL_law 432 = .ok (.iload_n 3, 1) := dk_29 (dk_at dksL_law_13 11 rfl rfl)
theorem dL_law_433 : decode cL_law 433 = .ok (.iconst 1, 1) := dk_4 (dk_at dksL_law_13 12 rfl rfl)
theorem dL_law_434 : decode cL_law 434 = .ok (.iadd, 1) := dk_96 (dk_at dksL_law_13 13 rfl rfl)
theorem dL_law_435 : decode cL_law 435 = .ok (.iaload, 1) := dk_46 (dk_at dksL_law_13 14 rfl rfl)
theorem dL_law_436 : decode cL_law 436 = .ok (.invokevirtual 56, 3) := dk_182 0 56 (dk_at dksL_law_13 15 rfl rfl)
theorem dL_law_439 : decode cL_law 439 = .ok (.if_icmp .eq 687, 3) := dk_159 2 175 (dk_at dksL_law_13 18 rfl rfl)
theorem dL_law_442 : decode cL_law 442 = .ok (.iconst 0, 1) := dk_3 (dk_at dksL_law_13 21 rfl rfl)
theorem dL_law_443 : decode cL_law 443 = .ok (.ireturn, 1) := dk_172 (dk_at dksL_law_13 22 rfl rfl)
theorem dL_law_444 : decode cL_law 444 = .ok (.aload_n 1, 1) := dk_43 (dk_at dksL_law_13 23 rfl rfl)
theorem dL_law_445 : decode cL_law 445 = .ok (.aload_n 0, 1) := dk_42 (dk_at dksL_law_14 0 rfl rfl)
theorem dL_law_446 : decode cL_law 446 = .ok (.iload_n 3, 1) := dk_29 (dk_at dksL_law_14 1 rfl rfl)
theorem dL_law_447 : decode cL_law 447 = .ok (.iconst 1, 1) := dk_4 (dk_at dksL_law_14 2 rfl rfl)
theorem dL_law_448 : decode cL_law 448 = .ok (.iadd, 1) := dk_96 (dk_at dksL_law_14 3 rfl rfl)
theorem dL_law_449 : decode cL_law 449 = .ok (.iaload, 1) := dk_46 (dk_at dksL_law_14 4 rfl rfl)
theorem dL_law_450 : decode cL_law 450 = .ok (.invokevirtual 57, 3) := dk_182 0 57 (dk_at dksL_law_14 5 rfl rfl)
theorem dL_law_453 : decode cL_law 453 = .ok (.aload_n 2, 1) := dk_44 (dk_at dksL_law_14 8 rfl rfl)
theorem dL_law_454 : decode cL_law 454 = .ok (.aload_n 0, 1) := dk_42 (dk_at dksL_law_14 9 rfl rfl)
theorem dL_law_455 : decode cL_law 455 = .ok (.iload_n 3, 1) := dk_29 (dk_at dksL_law_14 10 rfl rfl)
theorem dL_law_456 : decode cL_law 456 = .ok (.iconst 1, 1) := dk_4 (dk_at dksL_law_14 11 rfl rfl)
theorem dL_law_457 : decode cL_law 457 = .ok (.iadd, 1) := dk_96 (dk_at dksL_law_14 12 rfl rfl)
theorem dL_law_458 : decode cL_law 458 = .ok (.iaload, 1) := dk_46 (dk_at dksL_law_14 13 rfl rfl)
theorem dL_law_459 : decode cL_law 459 = .ok (.invokevirtual 60, 3) := dk_182 0 60 (dk_at dksL_law_14 14 rfl rfl)
theorem dL_law_462 : decode cL_law 462 = .ok (.if_icmp .eq 664, 3) := dk_159 2 152 (dk_at dksL_law_14 17 rfl rfl)
theorem dL_law_465 : decode cL_law 465 = .ok (.iconst 0, 1) := dk_3 (dk_at dksL_law_14 20 rfl rfl)
theorem dL_law_466 : decode cL_law 466 = .ok (.ireturn, 1) := dk_172 (dk_at dksL_law_14 21 rfl rfl)
theorem dL_law_467 : decode cL_law 467 = .ok (.aload_n 1, 1) := dk_43 (dk_at dksL_law_14 22 rfl rfl)
theorem dL_law_468 : decode cL_law 468 = .ok (.aload_n 0, 1) := dk_42 (dk_at dksL_law_14 23 rfl rfl)
theorem dL_law_469 : decode cL_law 469 = .ok (.iload_n 3, 1) := dk_29 (dk_at dksL_law_15 0 rfl rfl)
theorem dL_law_470 : decode cL_law 470 = .ok (.iconst 1, 1) := dk_4 (dk_at dksL_law_15 1 rfl rfl)
theorem dL_law_471 : decode cL_law 471 = .ok (.iadd, 1) := dk_96 (dk_at dksL_law_15 2 rfl rfl)
theorem dL_law_472 : decode cL_law 472 = .ok (.iaload, 1) := dk_46 (dk_at dksL_law_15 3 rfl rfl)
theorem dL_law_473 : decode cL_law 473 = .ok (.invokevirtual 61, 3) := dk_182 0 61 (dk_at dksL_law_15 4 rfl rfl)
theorem dL_law_476 : decode cL_law 476 = .ok (.aload_n 2, 1) := dk_44 (dk_at dksL_law_15 7 rfl rfl)
theorem dL_law_477 : decode cL_law 477 = .ok (.aload_n 0, 1) := dk_42 (dk_at dksL_law_15 8 rfl rfl)
theorem dL_law_478 : decode cL_law 478 = .ok (.iload_n 3, 1) := dk_29 (dk_at dksL_law_15 9 rfl rfl)
theorem dL_law_479 : decode cL_law 479 = .ok (.iconst 1, 1) := dk_4 (dk_at dksL_law_15 10 rfl rfl)
theorem dL_law_480 : decode cL_law 480 = .ok (.iadd, 1) := dk_96 (dk_at dksL_law_15 11 rfl rfl)
theorem dL_law_481 : decode cL_law 481 = .ok (.iaload, 1) := dk_46 (dk_at dksL_law_15 12 rfl rfl)
theorem dL_law_482 : decode cL_law 482 = .ok (.invokevirtual 64, 3) := dk_182 0 64 (dk_at dksL_law_15 13 rfl rfl)
theorem dL_law_485 : decode cL_law 485 = .ok (.if_icmp .eq 641, 3) := dk_159 2 129 (dk_at dksL_law_15 16 rfl rfl)
theorem dL_law_488 : decode cL_law 488 = .ok (.iconst 0, 1) := dk_3 (dk_at dksL_law_15 19 rfl rfl)
theorem dL_law_489 : decode cL_law 489 = .ok (.ireturn, 1) := dk_172 (dk_at dksL_law_15 20 rfl rfl)
theorem dL_law_490 : decode cL_law 490 = .ok (.aload_n 1, 1) := dk_43 (dk_at dksL_law_15 21 rfl rfl)
theorem dL_law_491 : decode cL_law 491 = .ok (.aload_n 0, 1) := dk_42 (dk_at dksL_law_15 22 rfl rfl)
theorem dL_law_492 : decode cL_law 492 = .ok (.iload_n 3, 1) := dk_29 (dk_at dksL_law_15 23 rfl rfl)
theorem dL_law_493 : decode cL_law 493 = .ok (.iconst 1, 1) := dk_4 (dk_at dksL_law_16 0 rfl rfl)
theorem dL_law_494 : decode cL_law 494 = .ok (.iadd, 1) := dk_96 (dk_at dksL_law_16 1 rfl rfl)
theorem dL_law_495 : decode cL_law 495 = .ok (.iaload, 1) := dk_46 (dk_at dksL_law_16 2 rfl rfl)
theorem dL_law_496 : decode cL_law 496 = .ok (.aload_n 0, 1) := dk_42 (dk_at dksL_law_16 3 rfl rfl)
theorem dL_law_497 : decode cL_law 497 = .ok (.iload_n 3, 1) := dk_29 (dk_at dksL_law_16 4 rfl rfl)
theorem dL_law_498 : decode cL_law 498 = .ok (.iconst 2, 1) := dk_5 (dk_at dksL_law_16 5 rfl rfl)
theorem dL_law_499 : decode cL_law 499 = .ok (.iadd, 1) := dk_96 (dk_at dksL_law_16 6 rfl rfl)
theorem dL_law_500 : decode cL_law 500 = .ok (.iaload, 1) := dk_46 (dk_at dksL_law_16 7 rfl rfl)
theorem dL_law_501 : decode cL_law 501 = .ok (.invokevirtual 65, 3) := dk_182 0 65 (dk_at dksL_law_16 8 rfl rfl)
theorem dL_law_504 : decode cL_law 504 = .ok (.aload_n 2, 1) := dk_44 (dk_at dksL_law_16 11 rfl rfl)
theorem dL_law_505 : decode cL_law 505 = .ok (.aload_n 0, 1) := dk_42 (dk_at dksL_law_16 12 rfl rfl)
theorem dL_law_506 : decode cL_law 506 = .ok (.iload_n 3, 1) := dk_29 (dk_at dksL_law_16 13 rfl rfl)
theorem dL_law_507 : decode cL_law 507 = .ok (.iconst 1, 1) := dk_4 (dk_at dksL_law_16 14 rfl rfl)
theorem dL_law_508 : decode cL_law 508 = .ok (.iadd, 1) := dk_96 (dk_at dksL_law_16 15 rfl rfl)
theorem dL_law_509 : decode cL_law 509 = .ok (.iaload, 1) := dk_46 (dk_at dksL_law_16 16 rfl rfl)
theorem dL_law_510 : decode cL_law 510 = .ok (.aload_n 0, 1) := dk_42 (dk_at dksL_law_16 17 rfl rfl)
theorem dL_law_511 : decode cL_law 511 = .ok (.iload_n 3, 1) := dk_29 (dk_at dksL_law_16 18 rfl rfl)
theorem dL_law_512 : decode cL_law 512 = .ok (.iconst 2, 1) := dk_5 (dk_at dksL_law_16 19 rfl rfl)
theorem dL_law_513 : decode cL_law 513 = .ok (.iadd, 1) := dk_96 (dk_at dksL_law_16 20 rfl rfl)
theorem dL_law_514 : decode cL_law 514 = .ok (.iaload, 1) := dk_46 (dk_at dksL_law_16 21 rfl rfl)
theorem dL_law_515 : decode cL_law 515 = .ok (.invokevirtual 68, 3) := dk_182 0 68 (dk_at dksL_law_17 0 rfl rfl)
theorem dL_law_518 : decode cL_law 518 = .ok (.if_icmp .eq 608, 3) := dk_159 2 96 (dk_at dksL_law_17 3 rfl rfl)
theorem dL_law_521 : decode cL_law 521 = .ok (.iconst 0, 1) := dk_3 (dk_at dksL_law_17 6 rfl rfl)
theorem dL_law_522 : decode cL_law 522 = .ok (.ireturn, 1) := dk_172 (dk_at dksL_law_17 7 rfl rfl)
theorem dL_law_523 : decode cL_law 523 = .ok (.aload_n 1, 1) := dk_43 (dk_at dksL_law_17 8 rfl rfl)
theorem dL_law_524 : decode cL_law 524 = .ok (.invokevirtual 69, 3) := dk_182 0 69 (dk_at dksL_law_17 9 rfl rfl)
theorem dL_law_527 : decode cL_law 527 = .ok (.aload_n 2, 1) := dk_44 (dk_at dksL_law_17 12 rfl rfl)
theorem dL_law_528 : decode cL_law 528 = .ok (.invokevirtual 72, 3) := dk_182 0 72 (dk_at dksL_law_17 13 rfl rfl)
theorem dL_law_531 : decode cL_law 531 = .ok (.if_icmp .eq 595, 3) := dk_159 2 83 (dk_at dksL_law_17 16 rfl rfl)
theorem dL_law_534 : decode cL_law 534 = .ok (.iconst 0, 1) := dk_3 (dk_at dksL_law_17 19 rfl rfl)
theorem dL_law_535 : decode cL_law 535 = .ok (.ireturn, 1) := dk_172 (dk_at dksL_law_17 20 rfl rfl)
theorem dL_law_536 : decode cL_law 536 = .ok (.aload_n 1, 1) := dk_43 (dk_at dksL_law_17 21 rfl rfl)
theorem dL_law_537 : decode cL_law 537 = .ok (.aload_n 0, 1) := dk_42 (dk_at dksL_law_17 22 rfl rfl)
theorem dL_law_538 : decode cL_law 538 = .ok (.iload_n 3, 1) := dk_29 (dk_at dksL_law_17 23 rfl rfl)
theorem dL_law_539 : decode cL_law 539 = .ok (.iconst 1, 1) := dk_4 (dk_at dksL_law_18 0 rfl rfl)
theorem dL_law_540 : decode cL_law 540 = .ok (.iadd, 1) := dk_96 (dk_at dksL_law_18 1 rfl rfl)
theorem dL_law_541 : decode cL_law 541 = .ok (.iaload, 1) := dk_46 (dk_at dksL_law_18 2 rfl rfl)
theorem dL_law_542 : decode cL_law 542 = .ok (.aload_n 0, 1) := dk_42 (dk_at dksL_law_18 3 rfl rfl)
theorem dL_law_543 : decode cL_law 543 = .ok (.iload_n 3, 1) := dk_29 (dk_at dksL_law_18 4 rfl rfl)
theorem dL_law_544 : decode cL_law 544 = .ok (.iconst 2, 1) := dk_5 (dk_at dksL_law_18 5 rfl rfl)
theorem dL_law_545 : decode cL_law 545 = .ok (.iadd, 1) := dk_96 (dk_at dksL_law_18 6 rfl rfl)
theorem dL_law_546 : decode cL_law 546 = .ok (.iaload, 1) := dk_46 (dk_at dksL_law_18 7 rfl rfl)
theorem dL_law_547 : decode cL_law 547 = .ok (.aload_n 0, 1) := dk_42 (dk_at dksL_law_18 8 rfl rfl)
theorem dL_law_548 : decode cL_law 548 = .ok (.iload_n 3, 1) := dk_29 (dk_at dksL_law_18 9 rfl rfl)
theorem dL_law_549 : decode cL_law 549 = .ok (.iconst 3, 1) := dk_6 (dk_at dksL_law_18 10 rfl rfl)
theorem dL_law_550 : decode cL_law 550 = .ok (.iadd, 1) := dk_96 (dk_at dksL_law_18 11 rfl rfl)
theorem dL_law_551 : decode cL_law 551 = .ok (.iaload, 1) := dk_46 (dk_at dksL_law_18 12 rfl rfl)
theorem dL_law_552 : decode cL_law 552 = .ok (.invokevirtual 73, 3) := dk_182 0 73 (dk_at dksL_law_18 13 rfl rfl)
theorem dL_law_555 : decode cL_law 555 = .ok (.aload_n 2, 1) := dk_44 (dk_at dksL_law_18 16 rfl rfl)
theorem dL_law_556 : decode cL_law 556 = .ok (.aload_n 0, 1) := dk_42 (dk_at dksL_law_18 17 rfl rfl)
theorem dL_law_557 : decode cL_law 557 = .ok (.iload_n 3, 1) := dk_29 (dk_at dksL_law_18 18 rfl rfl)
theorem dL_law_558 : decode cL_law 558 = .ok (.iconst 1, 1) := dk_4 (dk_at dksL_law_18 19 rfl rfl)
theorem dL_law_559 : decode cL_law 559 = .ok (.iadd, 1) := dk_96 (dk_at dksL_law_18 20 rfl rfl)
theorem dL_law_560 : decode cL_law 560 = .ok (.iaload, 1) := dk_46 (dk_at dksL_law_18 21 rfl rfl)
theorem dL_law_561 : decode cL_law 561 = .ok (.aload_n 0, 1) := dk_42 (dk_at dksL_law_18 22 rfl rfl)
theorem dL_law_562 : decode cL_law 562 = .ok (.iload_n 3, 1) := dk_29 (dk_at dksL_law_18 23 rfl rfl)
theorem dL_law_563 : decode cL_law 563 = .ok (.iconst 2, 1) := dk_5 (dk_at dksL_law_19 0 rfl rfl)
theorem dL_law_564 : decode cL_law 564 = .ok (.iadd, 1) := dk_96 (dk_at dksL_law_19 1 rfl rfl)
theorem dL_law_565 : decode cL_law 565 = .ok (.iaload, 1) := dk_46 (dk_at dksL_law_19 2 rfl rfl)
theorem dL_law_566 : decode cL_law 566 = .ok (.aload_n 0, 1) := dk_42 (dk_at dksL_law_19 3 rfl rfl)
theorem dL_law_567 : decode cL_law 567 = .ok (.iload_n 3, 1) := dk_29 (dk_at dksL_law_19 4 rfl rfl)
theorem dL_law_568 : decode cL_law 568 = .ok (.iconst 3, 1) := dk_6 (dk_at dksL_law_19 5 rfl rfl)
theorem dL_law_569 : decode cL_law 569 = .ok (.iadd, 1) := dk_96 (dk_at dksL_law_19 6 rfl rfl)
theorem dL_law_570 : decode cL_law 570 = .ok (.iaload, 1) := dk_46 (dk_at dksL_law_19 7 rfl rfl)
theorem dL_law_571 : decode cL_law 571 = .ok (.invokevirtual 77, 3) := dk_182 0 77 (dk_at dksL_law_19 8 rfl rfl)
theorem dL_law_574 : decode cL_law 574 = .ok (.if_icmp .eq 552, 3) := dk_159 2 40 (dk_at dksL_law_19 11 rfl rfl)
theorem dL_law_577 : decode cL_law 577 = .ok (.iconst 0, 1) := dk_3 (dk_at dksL_law_19 14 rfl rfl)
theorem dL_law_578 : decode cL_law 578 = .ok (.ireturn, 1) := dk_172 (dk_at dksL_law_19 15 rfl rfl)
theorem dL_law_579 : decode cL_law 579 = .ok (.aload_n 1, 1) := dk_43 (dk_at dksL_law_19 16 rfl rfl)
theorem dL_law_580 : decode cL_law 580 = .ok (.aload_n 0, 1) := dk_42 (dk_at dksL_law_19 17 rfl rfl)
theorem dL_law_581 : decode cL_law 581 = .ok (.iload_n 3, 1) := dk_29 (dk_at dksL_law_19 18 rfl rfl)
theorem dL_law_582 : decode cL_law 582 = .ok (.iconst 1, 1) := dk_4 (dk_at dksL_law_19 19 rfl rfl)
theorem dL_law_583 : decode cL_law 583 = .ok (.iadd, 1) := dk_96 (dk_at dksL_law_19 20 rfl rfl)
theorem dL_law_584 : decode cL_law 584 = .ok (.iaload, 1) := dk_46 (dk_at dksL_law_19 21 rfl rfl)
theorem dL_law_585 : decode cL_law 585 = .ok (.invokevirtual 78, 3) := dk_182 0 78 (dk_at dksL_law_20 0 rfl rfl)
theorem dL_law_588 : decode cL_law 588 = .ok (.aload_n 2, 1) := dk_44 (dk_at dksL_law_20 3 rfl rfl)
theorem dL_law_589 : decode cL_law 589 = .ok (.aload_n 0, 1) := dk_42 (dk_at dksL_law_20 4 rfl rfl)
theorem dL_law_590 : decode cL_law 590 = .ok (.iload_n 3, 1) := dk_29 (dk_at dksL_law_20 5 rfl rfl)
theorem dL_law_591 : decode cL_law 591 = .ok (.iconst 1, 1) := dk_4 (dk_at dksL_law_20 6 rfl rfl)
theorem dL_law_592 : decode cL_law 592 = .ok (.iadd, 1) := dk_96 (dk_at dksL_law_20 7 rfl rfl)
theorem dL_law_593 : decode cL_law 593 = .ok (.iaload, 1) := dk_46 (dk_at dksL_law_20 8 rfl rfl)
theorem dL_law_594 : decode cL_law 594 = .ok (.invokevirtual 81, 3) := dk_182 0 81 (dk_at dksL_law_20 9 rfl rfl)
theorem dL_law_597 : decode cL_law 597 = .ok (.if_icmp .eq 529, 3) := dk_159 2 17 (dk_at dksL_law_20 12 rfl rfl)
theorem dL_law_600 : decode cL_law 600 = .ok (.iconst 0, 1) := dk_3 (dk_at dksL_law_20 15 rfl rfl)
theorem dL_law_601 : decode cL_law 601 = .ok (.ireturn, 1) := dk_172 (dk_at dksL_law_20 16 rfl rfl)
theorem dL_law_602 : decode cL_law 602 = .ok (.aload_n 1, 1) := dk_43 (dk_at dksL_law_20 17 rfl rfl)
theorem dL_law_603 : decode cL_law 603 = .ok (.aload_n 0, 1) := dk_42 (dk_at dksL_law_20 18 rfl rfl)
theorem dL_law_604 : decode cL_law 604 = .ok (.iload_n 3, 1) := dk_29 (dk_at dksL_law_20 19 rfl rfl)
theorem dL_law_605 : decode cL_law 605 = .ok (.iconst 1, 1) := dk_4 (dk_at dksL_law_20 20 rfl rfl)
theorem dL_law_606 : decode cL_law 606 = .ok (.iadd, 1) := dk_96 (dk_at dksL_law_20 21 rfl rfl)
theorem dL_law_607 : decode cL_law 607 = .ok (.iaload, 1) := dk_46 (dk_at dksL_law_20 22 rfl rfl)
theorem dL_law_608 : decode cL_law 608 = .ok (.invokevirtual 82, 3) := dk_182 0 82 (dk_at dksL_law_21 0 rfl rfl)
theorem dL_law_611 : decode cL_law 611 = .ok (.aload_n 2, 1) := dk_44 (dk_at dksL_law_21 3 rfl rfl)
theorem dL_law_612 : decode cL_law 612 = .ok (.aload_n 0, 1) := dk_42 (dk_at dksL_law_21 4 rfl rfl)
theorem dL_law_613 : decode cL_law 613 = .ok (.iload_n 3, 1) := dk_29 (dk_at dksL_law_21 5 rfl rfl)
theorem dL_law_614 : decode cL_law 614 = .ok (.iconst 1, 1) := dk_4 (dk_at dksL_law_21 6 rfl rfl)
theorem dL_law_615 : decode cL_law 615 = .ok (.iadd, 1) := dk_96 (dk_at dksL_law_21 7 rfl rfl)
theorem dL_law_616 : decode cL_law 616 = .ok (.iaload, 1) := dk_46 (dk_at dksL_law_21 8 rfl rfl)
theorem dL_law_617 : decode cL_law 617 = .ok (.invokevirtual 85, 3) := dk_182 0 85 (dk_at dksL_law_21 9 rfl rfl)
theorem dL_law_620 : decode cL_law 620 = .ok (.if_icmp .eq 506, 3) := dk_159 1 250 (dk_at dksL_law_21 12 rfl rfl)
theorem dL_law_623 : decode cL_law 623 = .ok (.iconst 0, 1) := dk_3 (dk_at dksL_law_21 15 rfl rfl)
theorem dL_law_624 : decode cL_law 624 = .ok (.ireturn, 1) := dk_172 (dk_at dksL_law_21 16 rfl rfl)
theorem dL_law_625 : decode cL_law 625 = .ok (.aload_n 1, 1) := dk_43 (dk_at dksL_law_21 17 rfl rfl)
theorem dL_law_626 : decode cL_law 626 = .ok (.aload_n 0, 1) := dk_42 (dk_at dksL_law_21 18 rfl rfl)
theorem dL_law_627 : decode cL_law 627 = .ok (.iload_n 3, 1) := dk_29 (dk_at dksL_law_21 19 rfl rfl)
theorem dL_law_628 : decode cL_law 628 = .ok (.iconst 1, 1) := dk_4 (dk_at dksL_law_21 20 rfl rfl)
theorem dL_law_629 : decode cL_law 629 = .ok (.iadd, 1) := dk_96 (dk_at dksL_law_21 21 rfl rfl)
theorem dL_law_630 : decode cL_law 630 = .ok (.iaload, 1) := dk_46 (dk_at dksL_law_21 22 rfl rfl)
theorem dL_law_631 : decode cL_law 631 = .ok (.invokevirtual 86, 3) := dk_182 0 86 (dk_at dksL_law_22 0 rfl rfl)
theorem dL_law_634 : decode cL_law 634 = .ok (.aload_n 2, 1) := dk_44 (dk_at dksL_law_22 3 rfl rfl)
theorem dL_law_635 : decode cL_law 635 = .ok (.aload_n 0, 1) := dk_42 (dk_at dksL_law_22 4 rfl rfl)
theorem dL_law_636 : decode cL_law 636 = .ok (.iload_n 3, 1) := dk_29 (dk_at dksL_law_22 5 rfl rfl)
theorem dL_law_637 : decode cL_law 637 = .ok (.iconst 1, 1) := dk_4 (dk_at dksL_law_22 6 rfl rfl)
theorem dL_law_638 : decode cL_law 638 = .ok (.iadd, 1) := dk_96 (dk_at dksL_law_22 7 rfl rfl)
theorem dL_law_639 : decode cL_law 639 = .ok (.iaload, 1) := dk_46 (dk_at dksL_law_22 8 rfl rfl)
theorem dL_law_640 : decode cL_law 640 = .ok (.invokevirtual 89, 3) := dk_182 0 89 (dk_at dksL_law_22 9 rfl rfl)
theorem dL_law_643 : decode cL_law 643 = .ok (.if_icmp .eq 483, 3) := dk_159 1 227 (dk_at dksL_law_22 12 rfl rfl)
theorem dL_law_646 : decode cL_law 646 = .ok (.iconst 0, 1) := dk_3 (dk_at dksL_law_22 15 rfl rfl)
theorem dL_law_647 : decode cL_law 647 = .ok (.ireturn, 1) := dk_172 (dk_at dksL_law_22 16 rfl rfl)
theorem dL_law_648 : decode cL_law 648 = .ok (.aload_n 1, 1) := dk_43 (dk_at dksL_law_22 17 rfl rfl)
theorem dL_law_649 : decode cL_law 649 = .ok (.aload_n 0, 1) := dk_42 (dk_at dksL_law_22 18 rfl rfl)
theorem dL_law_650 : decode cL_law 650 = .ok (.iload_n 3, 1) := dk_29 (dk_at dksL_law_22 19 rfl rfl)
theorem dL_law_651 : decode cL_law 651 = .ok (.iconst 1, 1) := dk_4 (dk_at dksL_law_22 20 rfl rfl)
theorem dL_law_652 : decode cL_law 652 = .ok (.iadd, 1) := dk_96 (dk_at dksL_law_22 21 rfl rfl)
theorem dL_law_653 : decode cL_law 653 = .ok (.iaload, 1) := dk_46 (dk_at dksL_law_22 22 rfl rfl)
theorem dL_law_654 : decode cL_law 654 = .ok (.invokevirtual 90, 3) := dk_182 0 90 (dk_at dksL_law_23 0 rfl rfl)
theorem dL_law_657 : decode cL_law 657 = .ok (.aload_n 2, 1) := dk_44 (dk_at dksL_law_23 3 rfl rfl)
theorem dL_law_658 : decode cL_law 658 = .ok (.aload_n 0, 1) := dk_42 (dk_at dksL_law_23 4 rfl rfl)
theorem dL_law_659 : decode cL_law 659 = .ok (.iload_n 3, 1) := dk_29 (dk_at dksL_law_23 5 rfl rfl)
theorem dL_law_660 : decode cL_law 660 = .ok (.iconst 1, 1) := dk_4 (dk_at dksL_law_23 6 rfl rfl)
theorem dL_law_661 : decode cL_law 661 = .ok (.iadd, 1) := dk_96 (dk_at dksL_law_23 7 rfl rfl)
theorem dL_law_662 : decode cL_law 662 = .ok (.iaload, 1) := dk_46 (dk_at dksL_law_23 8 rfl rfl)
theorem dL_law_663 : decode cL_law 663 = .ok (.invokevirtual 93, 3) := dk_182 0 93 (dk_at dksL_law_23 9 rfl rfl)
theorem dL_law_666 : decode cL_law 666 = .ok (.if_icmp .eq 460, 3) := dk_159 1 204 (dk_at dksL_law_23 12 rfl rfl)
theorem dL_law_669 : decode cL_law 669 = .ok (.iconst 0, 1) := dk_3 (dk_at dksL_law_23 15 rfl rfl)
theorem dL_law_670 : decode cL_law 670 = .ok (.ireturn, 1) := dk_172 (dk_at dksL_law_23 16 rfl rfl)
theorem dL_law_671 : decode cL_law 671 = .ok (.aload_n 1, 1) := dk_43 (dk_at dksL_law_23 17 rfl rfl)
theorem dL_law_672 : decode cL_law 672 = .ok (.aload_n 0, 1) := dk_42 (dk_at dksL_law_23 18 rfl rfl)
theorem dL_law_673 : decode cL_law 673 = .ok (.iload_n 3, 1) := dk_29 (dk_at dksL_law_23 19 rfl rfl)
theorem dL_law_674 : decode cL_law 674 = .ok (.iconst 1, 1) := dk_4 (dk_at dksL_law_23 20 rfl rfl)
theorem dL_law_675 : decode cL_law 675 = .ok (.iadd, 1) := dk_96 (dk_at dksL_law_23 21 rfl rfl)
theorem dL_law_676 : decode cL_law 676 = .ok (.iaload, 1) := dk_46 (dk_at dksL_law_23 22 rfl rfl)
theorem dL_law_677 : decode cL_law 677 = .ok (.invokevirtual 94, 3) := dk_182 0 94 (dk_at dksL_law_24 0 rfl rfl)
theorem dL_law_680 : decode cL_law 680 = .ok (.aload_n 2, 1) := dk_44 (dk_at dksL_law_24 3 rfl rfl)
theorem dL_law_681 : decode cL_law 681 = .ok (.aload_n 0, 1) := dk_42 (dk_at dksL_law_24 4 rfl rfl)
theorem dL_law_682 : decode cL_law 682 = .ok (.iload_n 3, 1) := dk_29 (dk_at dksL_law_24 5 rfl rfl)
theorem dL_law_683 : decode cL_law 683 = .ok (.iconst 1, 1) := dk_4 (dk_at dksL_law_24 6 rfl rfl)
theorem dL_law_684 : decode cL_law 684 = .ok (.iadd, 1) := dk_96 (dk_at dksL_law_24 7 rfl rfl)
theorem dL_law_685 : decode cL_law 685 = .ok (.iaload, 1) := dk_46 (dk_at dksL_law_24 8 rfl rfl)
theorem dL_law_686 : decode cL_law 686 = .ok (.invokevirtual 97, 3) := dk_182 0 97 (dk_at dksL_law_24 9 rfl rfl)
theorem dL_law_689 : decode cL_law 689 = .ok (.if_icmp .eq 437, 3) := dk_159 1 181 (dk_at dksL_law_24 12 rfl rfl)
theorem dL_law_692 : decode cL_law 692 = .ok (.iconst 0, 1) := dk_3 (dk_at dksL_law_24 15 rfl rfl)
theorem dL_law_693 : decode cL_law 693 = .ok (.ireturn, 1) := dk_172 (dk_at dksL_law_24 16 rfl rfl)
theorem dL_law_694 : decode cL_law 694 = .ok (.aload_n 1, 1) := dk_43 (dk_at dksL_law_24 17 rfl rfl)
theorem dL_law_695 : decode cL_law 695 = .ok (.aload_n 0, 1) := dk_42 (dk_at dksL_law_24 18 rfl rfl)
theorem dL_law_696 : decode cL_law 696 = .ok (.iload_n 3, 1) := dk_29 (dk_at dksL_law_24 19 rfl rfl)
theorem dL_law_697 : decode cL_law 697 = .ok (.iconst 1, 1) := dk_4 (dk_at dksL_law_24 20 rfl rfl)
theorem dL_law_698 : decode cL_law 698 = .ok (.iadd, 1) := dk_96 (dk_at dksL_law_24 21 rfl rfl)
theorem dL_law_699 : decode cL_law 699 = .ok (.iaload, 1) := dk_46 (dk_at dksL_law_24 22 rfl rfl)
theorem dL_law_700 : decode cL_law 700 = .ok (.invokevirtual 98, 3) := dk_182 0 98 (dk_at dksL_law_25 0 rfl rfl)
theorem dL_law_703 : decode cL_law 703 = .ok (.aload_n 2, 1) := dk_44 (dk_at dksL_law_25 3 rfl rfl)
theorem dL_law_704 : decode cL_law 704 = .ok (.aload_n 0, 1) := dk_42 (dk_at dksL_law_25 4 rfl rfl)
theorem dL_law_705 : decode cL_law 705 = .ok (.iload_n 3, 1) := dk_29 (dk_at dksL_law_25 5 rfl rfl)
theorem dL_law_706 : decode cL_law 706 = .ok (.iconst 1, 1) := dk_4 (dk_at dksL_law_25 6 rfl rfl)
theorem dL_law_707 : decode cL_law 707 = .ok (.iadd, 1) := dk_96 (dk_at dksL_law_25 7 rfl rfl)
theorem dL_law_708 : decode cL_law 708 = .ok (.iaload, 1) := dk_46 (dk_at dksL_law_25 8 rfl rfl)
theorem dL_law_709 : decode cL_law 709 = .ok (.invokevirtual 101, 3) := dk_182 0 101 (dk_at dksL_law_25 9 rfl rfl)
theorem dL_law_712 : decode cL_law 712 = .ok (.if_icmp .eq 414, 3) := dk_159 1 158 (dk_at dksL_law_25 12 rfl rfl)
theorem dL_law_715 : decode cL_law 715 = .ok (.iconst 0, 1) := dk_3 (dk_at dksL_law_25 15 rfl rfl)
theorem dL_law_716 : decode cL_law 716 = .ok (.ireturn, 1) := dk_172 (dk_at dksL_law_25 16 rfl rfl)
theorem dL_law_717 : decode cL_law 717 = .ok (.aload_n 1, 1) := dk_43 (dk_at dksL_law_25 17 rfl rfl)
theorem dL_law_718 : decode cL_law 718 = .ok (.aload_n 0, 1) := dk_42 (dk_at dksL_law_25 18 rfl rfl)
theorem dL_law_719 : decode cL_law 719 = .ok (.iload_n 3, 1) := dk_29 (dk_at dksL_law_25 19 rfl rfl)
theorem dL_law_720 : decode cL_law 720 = .ok (.iconst 1, 1) := dk_4 (dk_at dksL_law_25 20 rfl rfl)
theorem dL_law_721 : decode cL_law 721 = .ok (.iadd, 1) := dk_96 (dk_at dksL_law_25 21 rfl rfl)
theorem dL_law_722 : decode cL_law 722 = .ok (.iaload, 1) := dk_46 (dk_at dksL_law_25 22 rfl rfl)
theorem dL_law_723 : decode cL_law 723 = .ok (.aload_n 0, 1) := dk_42 (dk_at dksL_law_25 23 rfl rfl)
theorem dL_law_724 : decode cL_law 724 = .ok (.iload_n 3, 1) := dk_29 (dk_at dksL_law_26 0 rfl rfl)
theorem dL_law_725 : decode cL_law 725 = .ok (.iconst 2, 1) := dk_5 (dk_at dksL_law_26 1 rfl rfl)
theorem dL_law_726 : decode cL_law 726 = .ok (.iadd, 1) := dk_96 (dk_at dksL_law_26 2 rfl rfl)
theorem dL_law_727 : decode cL_law 727 = .ok (.iaload, 1) := dk_46 (dk_at dksL_law_26 3 rfl rfl)
theorem dL_law_728 : decode cL_law 728 = .ok (.invokevirtual 102, 3) := dk_182 0 102 (dk_at dksL_law_26 4 rfl rfl)
theorem dL_law_731 : decode cL_law 731 = .ok (.aload_n 2, 1) := dk_44 (dk_at dksL_law_26 7 rfl rfl)
theorem dL_law_732 : decode cL_law 732 = .ok (.aload_n 0, 1) := dk_42 (dk_at dksL_law_26 8 rfl rfl)
theorem dL_law_733 : decode cL_law 733 = .ok (.iload_n 3, 1) := dk_29 (dk_at dksL_law_26 9 rfl rfl)
theorem dL_law_734 : decode cL_law 734 = .ok (.iconst 1, 1) := dk_4 (dk_at dksL_law_26 10 rfl rfl)
theorem dL_law_735 : decode cL_law 735 = .ok (.iadd, 1) := dk_96 (dk_at dksL_law_26 11 rfl rfl)
theorem dL_law_736 : decode cL_law 736 = .ok (.iaload, 1) := dk_46 (dk_at dksL_law_26 12 rfl rfl)
theorem dL_law_737 : decode cL_law 737 = .ok (.aload_n 0, 1) := dk_42 (dk_at dksL_law_26 13 rfl rfl)
theorem dL_law_738 : decode cL_law 738 = .ok (.iload_n 3, 1) := dk_29 (dk_at dksL_law_26 14 rfl rfl)
theorem dL_law_739 : decode cL_law 739 = .ok (.iconst 2, 1) := dk_5 (dk_at dksL_law_26 15 rfl rfl)
theorem dL_law_740 : decode cL_law 740 = .ok (.iadd, 1) := dk_96 (dk_at dksL_law_26 16 rfl rfl)
theorem dL_law_741 : decode cL_law 741 = .ok (.iaload, 1) := dk_46 (dk_at dksL_law_26 17 rfl rfl)
theorem dL_law_742 : decode cL_law 742 = .ok (.invokevirtual 105, 3) := dk_182 0 105 (dk_at dksL_law_26 18 rfl rfl)
theorem dL_law_745 : decode cL_law 745 = .ok (.if_icmp .eq 381, 3) := dk_159 1 125 (dk_at dksL_law_26 21 rfl rfl)
theorem dL_law_748 : decode cL_law 748 = .ok (.iconst 0, 1) := dk_3 (dk_at dksL_law_27 0 rfl rfl)
theorem dL_law_749 : decode cL_law 749 = .ok (.ireturn, 1) := dk_172 (dk_at dksL_law_27 1 rfl rfl)
theorem dL_law_750 : decode cL_law 750 = .ok (.aload_n 1, 1) := dk_43 (dk_at dksL_law_27 2 rfl rfl)
theorem dL_law_751 : decode cL_law 751 = .ok (.aload_n 0, 1) := dk_42 (dk_at dksL_law_27 3 rfl rfl)
theorem dL_law_752 : decode cL_law 752 = .ok (.iload_n 3, 1) := dk_29 (dk_at dksL_law_27 4 rfl rfl)
theorem dL_law_753 : decode cL_law 753 = .ok (.iconst 1, 1) := dk_4 (dk_at dksL_law_27 5 rfl rfl)
theorem dL_law_754 : decode cL_law 754 = .ok (.iadd, 1) := dk_96 (dk_at dksL_law_27 6 rfl rfl)
theorem dL_law_755 : decode cL_law 755 = .ok (.iaload, 1) := dk_46 (dk_at dksL_law_27 7 rfl rfl)
theorem dL_law_756 : decode cL_law 756 = .ok (.invokevirtual 106, 3) := dk_182 0 106 (dk_at dksL_law_27 8 rfl rfl)
theorem dL_law_759 : decode cL_law 759 = .ok (.aload_n 2, 1) := dk_44 (dk_at dksL_law_27 11 rfl rfl)
theorem dL_law_760 : decode cL_law 760 = .ok (.aload_n 0, 1) := dk_42 (dk_at dksL_law_27 12 rfl rfl)
theorem dL_law_761 : decode cL_law 761 = .ok (.iload_n 3, 1) := dk_29 (dk_at dksL_law_27 13 rfl rfl)
theorem dL_law_762 : decode cL_law 762 = .ok (.iconst 1, 1) := dk_4 (dk_at dksL_law_27 14 rfl rfl)
theorem dL_law_763 : decode cL_law 763 = .ok (.iadd, 1) := dk_96 (dk_at dksL_law_27 15 rfl rfl)
theorem dL_law_764 : decode cL_law 764 = .ok (.iaload, 1) := dk_46 (dk_at dksL_law_27 16 rfl rfl)
theorem dL_law_765 : decode cL_law 765 = .ok (.invokevirtual 109, 3) := dk_182 0 109 (dk_at dksL_law_27 17 rfl rfl)
theorem dL_law_768 : decode cL_law 768 = .ok (.if_icmp .eq 358, 3) := dk_159 1 102 (dk_at dksL_law_27 20 rfl rfl)
theorem dL_law_771 : decode cL_law 771 = .ok (.iconst 0, 1) := dk_3 (dk_at dksL_law_27 23 rfl rfl)
theorem dL_law_772 : decode cL_law 772 = .ok (.ireturn, 1) := dk_172 (dk_at dksL_law_28 0 rfl rfl)
theorem dL_law_773 : decode cL_law 773 = .ok (.aload_n 1, 1) := dk_43 (dk_at dksL_law_28 1 rfl rfl)
theorem dL_law_774 : decode cL_law 774 = .ok (.aload_n 0, 1) := dk_42 (dk_at dksL_law_28 2 rfl rfl)
theorem dL_law_775 : decode cL_law 775 = .ok (.iload_n 3, 1) := dk_29 (dk_at dksL_law_28 3 rfl rfl)
theorem dL_law_776 : decode cL_law 776 = .ok (.iconst 1, 1) := dk_4 (dk_at dksL_law_28 4 rfl rfl)
theorem dL_law_777 : decode cL_law 777 = .ok (.iadd, 1) := dk_96 (dk_at dksL_law_28 5 rfl rfl)
theorem dL_law_778 : decode cL_law 778 = .ok (.iaload, 1) := dk_46 (dk_at dksL_law_28 6 rfl rfl)
theorem dL_law_779 : decode cL_law 779 = .ok (.aload_n 0, 1) := dk_42 (dk_at dksL_law_28 7 rfl rfl)
theorem dL_law_780 : decode cL_law 780 = .ok (.iload_n 3, 1) := dk_29 (dk_at dksL_law_28 8 rfl rfl)
theorem dL_law_781 : decode cL_law 781 = .ok (.iconst 2, 1) := dk_5 (dk_at dksL_law_28 9 rfl rfl)
theorem dL_law_782 : decode cL_law 782 = .ok (.iadd, 1) := dk_96 (dk_at dksL_law_28 10 rfl rfl)
theorem dL_law_783 : decode cL_law 783 = .ok (.iaload, 1) := dk_46 (dk_at dksL_law_28 11 rfl rfl)
theorem dL_law_784 : decode cL_law 784 = .ok (.aload_n 0, 1) := dk_42 (dk_at dksL_law_28 12 rfl rfl)
theorem dL_law_785 : decode cL_law 785 = .ok (.iload_n 3, 1) := dk_29 (dk_at dksL_law_28 13 rfl rfl)
theorem dL_law_786 : decode cL_law 786 = .ok (.iconst 3, 1) := dk_6 (dk_at dksL_law_28 14 rfl rfl)
theorem dL_law_787 : decode cL_law 787 = .ok (.iadd, 1) := dk_96 (dk_at dksL_law_28 15 rfl rfl)
theorem dL_law_788 : decode cL_law 788 = .ok (.iaload, 1) := dk_46 (dk_at dksL_law_28 16 rfl rfl)
theorem dL_law_789 : decode cL_law 789 = .ok (.aload_n 0, 1) := dk_42 (dk_at dksL_law_28 17 rfl rfl)
theorem dL_law_790 : decode cL_law 790 = .ok (.iload_n 3, 1) := dk_29 (dk_at dksL_law_28 18 rfl rfl)
theorem dL_law_791 : decode cL_law 791 = .ok (.iconst 4, 1) := dk_7 (dk_at dksL_law_28 19 rfl rfl)
theorem dL_law_792 : decode cL_law 792 = .ok (.iadd, 1) := dk_96 (dk_at dksL_law_28 20 rfl rfl)
theorem dL_law_793 : decode cL_law 793 = .ok (.iaload, 1) := dk_46 (dk_at dksL_law_28 21 rfl rfl)
theorem dL_law_794 : decode cL_law 794 = .ok (.invokevirtual 110, 3) := dk_182 0 110 (dk_at dksL_law_29 0 rfl rfl)
theorem dL_law_797 : decode cL_law 797 = .ok (.aload_n 2, 1) := dk_44 (dk_at dksL_law_29 3 rfl rfl)
theorem dL_law_798 : decode cL_law 798 = .ok (.aload_n 0, 1) := dk_42 (dk_at dksL_law_29 4 rfl rfl)
theorem dL_law_799 : decode cL_law 799 = .ok (.iload_n 3, 1) := dk_29 (dk_at dksL_law_29 5 rfl rfl)
theorem dL_law_800 : decode cL_law 800 = .ok (.iconst 1, 1) := dk_4 (dk_at dksL_law_29 6 rfl rfl)
theorem dL_law_801 : decode cL_law 801 = .ok (.iadd, 1) := dk_96 (dk_at dksL_law_29 7 rfl rfl)
theorem dL_law_802 : decode cL_law 802 = .ok (.iaload, 1) := dk_46 (dk_at dksL_law_29 8 rfl rfl)
theorem dL_law_803 : decode cL_law 803 = .ok (.aload_n 0, 1) := dk_42 (dk_at dksL_law_29 9 rfl rfl)
theorem dL_law_804 : decode cL_law 804 = .ok (.iload_n 3, 1) := dk_29 (dk_at dksL_law_29 10 rfl rfl)
theorem dL_law_805 : decode cL_law 805 = .ok (.iconst 2, 1) := dk_5 (dk_at dksL_law_29 11 rfl rfl)
theorem dL_law_806 : decode cL_law 806 = .ok (.iadd, 1) := dk_96 (dk_at dksL_law_29 12 rfl rfl)
theorem dL_law_807 : decode cL_law 807 = .ok (.iaload, 1) := dk_46 (dk_at dksL_law_29 13 rfl rfl)
theorem dL_law_808 : decode cL_law 808 = .ok (.aload_n 0, 1) := dk_42 (dk_at dksL_law_29 14 rfl rfl)
theorem dL_law_809 : decode cL_law 809 = .ok (.iload_n 3, 1) := dk_29 (dk_at dksL_law_29 15 rfl rfl)
theorem dL_law_810 : decode cL_law 810 = .ok (.iconst 3, 1) := dk_6 (dk_at dksL_law_29 16 rfl rfl)
theorem dL_law_811 : decode cL_law 811 = .ok (.iadd, 1) := dk_96 (dk_at dksL_law_29 17 rfl rfl)
theorem dL_law_812 : decode cL_law 812 = .ok (.iaload, 1) := dk_46 (dk_at dksL_law_29 18 rfl rfl)
theorem dL_law_813 : decode cL_law 813 = .ok (.aload_n 0, 1) := dk_42 (dk_at dksL_law_29 19 rfl rfl)
theorem dL_law_814 : decode cL_law 814 = .ok (.iload_n 3, 1) := dk_29 (dk_at dksL_law_29 20 rfl rfl)
theorem dL_law_815 : decode cL_law 815 = .ok (.iconst 4, 1) := dk_7 (dk_at dksL_law_29 21 rfl rfl)
theorem dL_law_816 : decode cL_law 816 = .ok (.iadd, 1) := dk_96 (dk_at dksL_law_29 22 rfl rfl)
theorem dL_law_817 : decode cL_law 817 = .ok (.iaload, 1) := dk_46 (dk_at dksL_law_29 23 rfl rfl)
theorem dL_law_818 : decode cL_law 818 = .ok (.invokevirtual 114, 3) := dk_182 0 114 (dk_at dksL_law_30 0 rfl rfl)
theorem dL_law_821 : decode cL_law 821 = .ok (.if_icmp .eq 305, 3) := dk_159 1 49 (dk_at dksL_law_30 3 rfl rfl)
theorem dL_law_824 : decode cL_law 824 = .ok (.iconst 0, 1) := dk_3 (dk_at dksL_law_30 6 rfl rfl)
theorem dL_law_825 : decode cL_law 825 = .ok (.ireturn, 1) := dk_172 (dk_at dksL_law_30 7 rfl rfl)
theorem dL_law_826 : decode cL_law 826 = .ok (.aload_n 1, 1) := dk_43 (dk_at dksL_law_30 8 rfl rfl)
theorem dL_law_827 : decode cL_law 827 = .ok (.aload_n 0, 1) := dk_42 (dk_at dksL_law_30 9 rfl rfl)
theorem dL_law_828 : decode cL_law 828 = .ok (.iload_n 3, 1) := dk_29 (dk_at dksL_law_30 10 rfl rfl)
theorem dL_law_829 : decode cL_law 829 = .ok (.iconst 1, 1) := dk_4 (dk_at dksL_law_30 11 rfl rfl)
theorem dL_law_830 : decode cL_law 830 = .ok (.iadd, 1) := dk_96 (dk_at dksL_law_30 12 rfl rfl)
theorem dL_law_831 : decode cL_law 831 = .ok (.iaload, 1) := dk_46 (dk_at dksL_law_30 13 rfl rfl)
theorem dL_law_832 : decode cL_law 832 = .ok (.invokevirtual 115, 3) := dk_182 0 115 (dk_at dksL_law_30 14 rfl rfl)
theorem dL_law_835 : decode cL_law 835 = .ok (.aload_n 2, 1) := dk_44 (dk_at dksL_law_30 17 rfl rfl)
theorem dL_law_836 : decode cL_law 836 = .ok (.aload_n 0, 1) := dk_42 (dk_at dksL_law_30 18 rfl rfl)
theorem dL_law_837 : decode cL_law 837 = .ok (.iload_n 3, 1) := dk_29 (dk_at dksL_law_30 19 rfl rfl)
theorem dL_law_838 : decode cL_law 838 = .ok (.iconst 1, 1) := dk_4 (dk_at dksL_law_30 20 rfl rfl)
theorem dL_law_839 : decode cL_law 839 = .ok (.iadd, 1) := dk_96 (dk_at dksL_law_30 21 rfl rfl)
theorem dL_law_840 : decode cL_law 840 = .ok (.iaload, 1) := dk_46 (dk_at dksL_law_30 22 rfl rfl)
theorem dL_law_841 : decode cL_law 841 = .ok (.invokevirtual 118, 3) := dk_182 0 118 (dk_at dksL_law_31 0 rfl rfl)
theorem dL_law_844 : decode cL_law 844 = .ok (.if_icmp .eq 282, 3) := dk_159 1 26 (dk_at dksL_law_31 3 rfl rfl)
theorem dL_law_847 : decode cL_law 847 = .ok (.iconst 0, 1) := dk_3 (dk_at dksL_law_31 6 rfl rfl)
theorem dL_law_848 : decode cL_law 848 = .ok (.ireturn, 1) := dk_172 (dk_at dksL_law_31 7 rfl rfl)
theorem dL_law_849 : decode cL_law 849 = .ok (.aload_n 1, 1) := dk_43 (dk_at dksL_law_31 8 rfl rfl)
theorem dL_law_850 : decode cL_law 850 = .ok (.aload_n 0, 1) := dk_42 (dk_at dksL_law_31 9 rfl rfl)
theorem dL_law_851 : decode cL_law 851 = .ok (.iload_n 3, 1) := dk_29 (dk_at dksL_law_31 10 rfl rfl)
theorem dL_law_852 : decode cL_law 852 = .ok (.iconst 1, 1) := dk_4 (dk_at dksL_law_31 11 rfl rfl)
theorem dL_law_853 : decode cL_law 853 = .ok (.iadd, 1) := dk_96 (dk_at dksL_law_31 12 rfl rfl)
theorem dL_law_854 : decode cL_law 854 = .ok (.iaload, 1) := dk_46 (dk_at dksL_law_31 13 rfl rfl)
theorem dL_law_855 : decode cL_law 855 = .ok (.aload_n 0, 1) := dk_42 (dk_at dksL_law_31 14 rfl rfl)
theorem dL_law_856 : decode cL_law 856 = .ok (.iload_n 3, 1) := dk_29 (dk_at dksL_law_31 15 rfl rfl)
theorem dL_law_857 : decode cL_law 857 = .ok (.iconst 2, 1) := dk_5 (dk_at dksL_law_31 16 rfl rfl)
theorem dL_law_858 : decode cL_law 858 = .ok (.iadd, 1) := dk_96 (dk_at dksL_law_31 17 rfl rfl)
theorem dL_law_859 : decode cL_law 859 = .ok (.iaload, 1) := dk_46 (dk_at dksL_law_31 18 rfl rfl)
theorem dL_law_860 : decode cL_law 860 = .ok (.invokevirtual 119, 3) := dk_182 0 119 (dk_at dksL_law_31 19 rfl rfl)
theorem dL_law_863 : decode cL_law 863 = .ok (.aload_n 2, 1) := dk_44 (dk_at dksL_law_31 22 rfl rfl)
theorem dL_law_864 : decode cL_law 864 = .ok (.aload_n 0, 1) := dk_42 (dk_at dksL_law_31 23 rfl rfl)
theorem dL_law_865 : decode cL_law 865 = .ok (.iload_n 3, 1) := dk_29 (dk_at dksL_law_32 0 rfl rfl)
theorem dL_law_866 : decode cL_law 866 = .ok (.iconst 1, 1) := dk_4 (dk_at dksL_law_32 1 rfl rfl)
theorem dL_law_867 : decode cL_law 867 = .ok (.iadd, 1) := dk_96 (dk_at dksL_law_32 2 rfl rfl)
theorem dL_law_868 : decode cL_law 868 = .ok (.iaload, 1) := dk_46 (dk_at dksL_law_32 3 rfl rfl)
theorem dL_law_869 : decode cL_law 869 = .ok (.aload_n 0, 1) := dk_42 (dk_at dksL_law_32 4 rfl rfl)
theorem dL_law_870 : decode cL_law 870 = .ok (.iload_n 3, 1) := dk_29 (dk_at dksL_law_32 5 rfl rfl)
theorem dL_law_871 : decode cL_law 871 = .ok (.iconst 2, 1) := dk_5 (dk_at dksL_law_32 6 rfl rfl)
theorem dL_law_872 : decode cL_law 872 = .ok (.iadd, 1) := dk_96 (dk_at dksL_law_32 7 rfl rfl)
theorem dL_law_873 : decode cL_law 873 = .ok (.iaload, 1) := dk_46 (dk_at dksL_law_32 8 rfl rfl)
theorem dL_law_874 : decode cL_law 874 = .ok (.invokevirtual 122, 3) := dk_182 0 122 (dk_at dksL_law_32 9 rfl rfl)
theorem dL_law_877 : decode cL_law 877 = .ok (.if_icmp .eq 249, 3) := dk_159 0 249 (dk_at dksL_law_32 12 rfl rfl)
theorem dL_law_880 : decode cL_law 880 = .ok (.iconst 0, 1) := dk_3 (dk_at dksL_law_32 15 rfl rfl)
theorem dL_law_881 : decode cL_law 881 = .ok (.ireturn, 1) := dk_172 (dk_at dksL_law_32 16 rfl rfl)
theorem dL_law_882 : decode cL_law 882 = .ok (.aload_n 1, 1) := dk_43 (dk_at dksL_law_32 17 rfl rfl)
theorem dL_law_883 : decode cL_law 883 = .ok (.aload_n 0, 1) := dk_42 (dk_at dksL_law_32 18 rfl rfl)
theorem dL_law_884 : decode cL_law 884 = .ok (.iload_n 3, 1) := dk_29 (dk_at dksL_law_32 19 rfl rfl)
theorem dL_law_885 : decode cL_law 885 = .ok (.iconst 1, 1) := dk_4 (dk_at dksL_law_32 20 rfl rfl)
theorem dL_law_886 : decode cL_law 886 = .ok (.iadd, 1) := dk_96 (dk_at dksL_law_32 21 rfl rfl)
theorem dL_law_887 : decode cL_law 887 = .ok (.iaload, 1) := dk_46 (dk_at dksL_law_32 22 rfl rfl)
theorem dL_law_888 : decode cL_law 888 = .ok (.aload_n 0, 1) := dk_42 (dk_at dksL_law_32 23 rfl rfl)
theorem dL_law_889 : decode cL_law 889 = .ok (.iload_n 3, 1) := dk_29 (dk_at dksL_law_33 0 rfl rfl)
theorem dL_law_890 : decode cL_law 890 = .ok (.iconst 2, 1) := dk_5 (dk_at dksL_law_33 1 rfl rfl)
theorem dL_law_891 : decode cL_law 891 = .ok (.iadd, 1) := dk_96 (dk_at dksL_law_33 2 rfl rfl)
theorem dL_law_892 : decode cL_law 892 = .ok (.iaload, 1) := dk_46 (dk_at dksL_law_33 3 rfl rfl)
theorem dL_law_893 : decode cL_law 893 = .ok (.aload_n 0, 1) := dk_42 (dk_at dksL_law_33 4 rfl rfl)
theorem dL_law_894 : decode cL_law 894 = .ok (.iload_n 3, 1) := dk_29 (dk_at dksL_law_33 5 rfl rfl)
theorem dL_law_895 : decode cL_law 895 = .ok (.iconst 3, 1) := dk_6 (dk_at dksL_law_33 6 rfl rfl)
theorem dL_law_896 : decode cL_law 896 = .ok (.iadd, 1) := dk_96 (dk_at dksL_law_33 7 rfl rfl)
theorem dL_law_897 : decode cL_law 897 = .ok (.iaload, 1) := dk_46 (dk_at dksL_law_33 8 rfl rfl)
theorem dL_law_898 : decode cL_law 898 = .ok (.invokevirtual 123, 3) := dk_182 0 123 (dk_at dksL_law_33 9 rfl rfl)
theorem dL_law_901 : decode cL_law 901 = .ok (.aload_n 2, 1) := dk_44 (dk_at dksL_law_33 12 rfl rfl)
theorem dL_law_902 : decode cL_law 902 = .ok (.aload_n 0, 1) := dk_42 (dk_at dksL_law_33 13 rfl rfl)
theorem dL_law_903 : decode cL_law 903 = .ok (.iload_n 3, 1) := dk_29 (dk_at dksL_law_33 14 rfl rfl)
theorem dL_law_904 : decode cL_law 904 = .ok (.iconst 1, 1) := dk_4 (dk_at dksL_law_33 15 rfl rfl)
theorem dL_law_905 : decode cL_law 905 = .ok (.iadd, 1) := dk_96 (dk_at dksL_law_33 16 rfl rfl)
theorem dL_law_906 : decode cL_law 906 = .ok (.iaload, 1) := dk_46 (dk_at dksL_law_33 17 rfl rfl)
theorem dL_law_907 : decode cL_law 907 = .ok (.aload_n 0, 1) := dk_42 (dk_at dksL_law_33 18 rfl rfl)
theorem dL_law_908 : decode cL_law 908 = .ok (.iload_n 3, 1) := dk_29 (dk_at dksL_law_33 19 rfl rfl)
theorem dL_law_909 : decode cL_law 909 = .ok (.iconst 2, 1) := dk_5 (dk_at dksL_law_33 20 rfl rfl)
theorem dL_law_910 : decode cL_law 910 = .ok (.iadd, 1) := dk_96 (dk_at dksL_law_33 21 rfl rfl)
theorem dL_law_911 : decode cL_law 911 = .ok (.iaload, 1) := dk_46 (dk_at dksL_law_33 22 rfl rfl)
theorem dL_law_912 : decode cL_law 912 = .ok (.aload_n 0, 1) := dk_42 (dk_at dksL_law_33 23 rfl rfl)
theorem dL_law_913 : decode cL_law 913 = .ok (.iload_n 3, 1) := dk_29 (dk_at dksL_law_34 0 rfl rfl)
theorem dL_law_914 : decode cL_law 914 = .ok (.iconst 3, 1) := dk_6 (dk_at dksL_law_34 1 rfl rfl)
theorem dL_law_915 : decode cL_law 915 = .ok (.iadd, 1) := dk_96 (dk_at dksL_law_34 2 rfl rfl)
theorem dL_law_916 : decode cL_law 916 = .ok (.iaload, 1) := dk_46 (dk_at dksL_law_34 3 rfl rfl)
theorem dL_law_917 : decode cL_law 917 = .ok (.invokevirtual 126, 3) := dk_182 0 126 (dk_at dksL_law_34 4 rfl rfl)
theorem dL_law_920 : decode cL_law 920 = .ok (.if_icmp .eq 206, 3) := dk_159 0 206 (dk_at dksL_law_34 7 rfl rfl)
theorem dL_law_923 : decode cL_law 923 = .ok (.iconst 0, 1) := dk_3 (dk_at dksL_law_34 10 rfl rfl)
theorem dL_law_924 : decode cL_law 924 = .ok (.ireturn, 1) := dk_172 (dk_at dksL_law_34 11 rfl rfl)
theorem dL_law_925 : decode cL_law 925 = .ok (.aload_n 1, 1) := dk_43 (dk_at dksL_law_34 12 rfl rfl)
theorem dL_law_926 : decode cL_law 926 = .ok (.aload_n 0, 1) := dk_42 (dk_at dksL_law_34 13 rfl rfl)
theorem dL_law_927 : decode cL_law 927 = .ok (.iload_n 3, 1) := dk_29 (dk_at dksL_law_34 14 rfl rfl)
theorem dL_law_928 : decode cL_law 928 = .ok (.iconst 1, 1) := dk_4 (dk_at dksL_law_34 15 rfl rfl)
theorem dL_law_929 : decode cL_law 929 = .ok (.iadd, 1) := dk_96 (dk_at dksL_law_34 16 rfl rfl)
theorem dL_law_930 : decode cL_law 930 = .ok (.iaload, 1) := dk_46 (dk_at dksL_law_34 17 rfl rfl)
theorem dL_law_931 : decode cL_law 931 = .ok (.invokevirtual 127, 3) := dk_182 0 127 (dk_at dksL_law_34 18 rfl rfl)
theorem dL_law_934 : decode cL_law 934 = .ok (.aload_n 2, 1) := dk_44 (dk_at dksL_law_34 21 rfl rfl)
theorem dL_law_935 : decode cL_law 935 = .ok (.aload_n 0, 1) := dk_42 (dk_at dksL_law_34 22 rfl rfl)
theorem dL_law_936 : decode cL_law 936 = .ok (.iload_n 3, 1) := dk_29 (dk_at dksL_law_34 23 rfl rfl)
theorem dL_law_937 : decode cL_law 937 = .ok (.iconst 1, 1) := dk_4 (dk_at dksL_law_35 0 rfl rfl)
theorem dL_law_938 : decode cL_law 938 = .ok (.iadd, 1) := dk_96 (dk_at dksL_law_35 1 rfl rfl)
theorem dL_law_939 : decode cL_law 939 = .ok (.iaload, 1) := dk_46 (dk_at dksL_law_35 2 rfl rfl)
theorem dL_law_940 : decode cL_law 940 = .ok (.invokevirtual 130, 3) := dk_182 0 130 (dk_at dksL_law_35 3 rfl rfl)
theorem dL_law_943 : decode cL_law 943 = .ok (.if_icmp .eq 183, 3) := dk_159 0 183 (dk_at dksL_law_35 6 rfl rfl)
theorem dL_law_946 : decode cL_law 946 = .ok (.iconst 0, 1) := dk_3 (dk_at dksL_law_35 9 rfl rfl)
theorem dL_law_947 : decode cL_law 947 = .ok (.ireturn, 1) := dk_172 (dk_at dksL_law_35 10 rfl rfl)
theorem dL_law_948 : decode cL_law 948 = .ok (.aload_n 1, 1) := dk_43 (dk_at dksL_law_35 11 rfl rfl)
theorem dL_law_949 : decode cL_law 949 = .ok (.aload_n 0, 1) := dk_42 (dk_at dksL_law_35 12 rfl rfl)
theorem dL_law_950 : decode cL_law 950 = .ok (.iload_n 3, 1) := dk_29 (dk_at dksL_law_35 13 rfl rfl)
theorem dL_law_951 : decode cL_law 951 = .ok (.iconst 1, 1) := dk_4 (dk_at dksL_law_35 14 rfl rfl)
theorem dL_law_952 : decode cL_law 952 = .ok (.iadd, 1) := dk_96 (dk_at dksL_law_35 15 rfl rfl)
theorem dL_law_953 : decode cL_law 953 = .ok (.iaload, 1) := dk_46 (dk_at dksL_law_35 16 rfl rfl)
theorem dL_law_954 : decode cL_law 954 = .ok (.aload_n 0, 1) := dk_42 (dk_at dksL_law_35 17 rfl rfl)
theorem dL_law_955 : decode cL_law 955 = .ok (.iload_n 3, 1) := dk_29 (dk_at dksL_law_35 18 rfl rfl)
theorem dL_law_956 : decode cL_law 956 = .ok (.iconst 2, 1) := dk_5 (dk_at dksL_law_35 19 rfl rfl)
theorem dL_law_957 : decode cL_law 957 = .ok (.iadd, 1) := dk_96 (dk_at dksL_law_35 20 rfl rfl)
theorem dL_law_958 : decode cL_law 958 = .ok (.iaload, 1) := dk_46 (dk_at dksL_law_35 21 rfl rfl)
theorem dL_law_959 : decode cL_law 959 = .ok (.invokevirtual 131, 3) := dk_182 0 131 (dk_at dksL_law_36 0 rfl rfl)
theorem dL_law_962 : decode cL_law 962 = .ok (.aload_n 2, 1) := dk_44 (dk_at dksL_law_36 3 rfl rfl)
theorem dL_law_963 : decode cL_law 963 = .ok (.aload_n 0, 1) := dk_42 (dk_at dksL_law_36 4 rfl rfl)
theorem dL_law_964 : decode cL_law 964 = .ok (.iload_n 3, 1) := dk_29 (dk_at dksL_law_36 5 rfl rfl)
theorem dL_law_965 : decode cL_law 965 = .ok (.iconst 1, 1) := dk_4 (dk_at dksL_law_36 6 rfl rfl)
theorem dL_law_966 : decode cL_law 966 = .ok (.iadd, 1) := dk_96 (dk_at dksL_law_36 7 rfl rfl)
theorem dL_law_967 : decode cL_law 967 = .ok (.iaload, 1) := dk_46 (dk_at dksL_law_36 8 rfl rfl)
theorem dL_law_968 : decode cL_law 968 = .ok (.aload_n 0, 1) := dk_42 (dk_at dksL_law_36 9 rfl rfl)
theorem dL_law_969 : decode cL_law 969 = .ok (.iload_n 3, 1) := dk_29 (dk_at dksL_law_36 10 rfl rfl)
theorem dL_law_970 : decode cL_law 970 = .ok (.iconst 2, 1) := dk_5 (dk_at dksL_law_36 11 rfl rfl)
theorem dL_law_971 : decode cL_law 971 = .ok (.iadd, 1) := dk_96 (dk_at dksL_law_36 12 rfl rfl)
theorem dL_law_972 : decode cL_law 972 = .ok (.iaload, 1) := dk_46 (dk_at dksL_law_36 13 rfl rfl)
theorem dL_law_973 : decode cL_law 973 = .ok (.invokevirtual 134, 3) := dk_182 0 134 (dk_at dksL_law_36 14 rfl rfl)
theorem dL_law_976 : decode cL_law 976 = .ok (.if_icmp .eq 150, 3) := dk_159 0 150 (dk_at dksL_law_36 17 rfl rfl)
theorem dL_law_979 : decode cL_law 979 = .ok (.iconst 0, 1) := dk_3 (dk_at dksL_law_36 20 rfl rfl)
theorem dL_law_980 : decode cL_law 980 = .ok (.ireturn, 1) := dk_172 (dk_at dksL_law_36 21 rfl rfl)
theorem dL_law_981 : decode cL_law 981 = .ok (.aload_n 1, 1) := dk_43 (dk_at dksL_law_36 22 rfl rfl)
theorem dL_law_982 : decode cL_law 982 = .ok (.aload_n 0, 1) := dk_42 (dk_at dksL_law_36 23 rfl rfl)
theorem dL_law_983 : decode cL_law 983 = .ok (.iload_n 3, 1) := dk_29 (dk_at dksL_law_37 0 rfl rfl)
theorem dL_law_984 : decode cL_law 984 = .ok (.iconst 1, 1) := dk_4 (dk_at dksL_law_37 1 rfl rfl)
theorem dL_law_985 : decode cL_law 985 = .ok (.iadd, 1) := dk_96 (dk_at dksL_law_37 2 rfl rfl)
theorem dL_law_986 : decode cL_law 986 = .ok (.iaload, 1) := dk_46 (dk_at dksL_law_37 3 rfl rfl)
theorem dL_law_987 : decode cL_law 987 = .ok (.invokevirtual 135, 3) := dk_182 0 135 (dk_at dksL_law_37 4 rfl rfl)
theorem dL_law_990 : decode cL_law 990 = .ok (.aload_n 2, 1) := dk_44 (dk_at dksL_law_37 7 rfl rfl)
theorem dL_law_991 : decode cL_law 991 = .ok (.aload_n 0, 1) := dk_42 (dk_at dksL_law_37 8 rfl rfl)
theorem dL_law_992 : decode cL_law 992 = .ok (.iload_n 3, 1) := dk_29 (dk_at dksL_law_37 9 rfl rfl)
theorem dL_law_993 : decode cL_law 993 = .ok (.iconst 1, 1) := dk_4 (dk_at dksL_law_37 10 rfl rfl)
theorem dL_law_994 : decode cL_law 994 = .ok (.iadd, 1) := dk_96 (dk_at dksL_law_37 11 rfl rfl)
theorem dL_law_995 : decode cL_law 995 = .ok (.iaload, 1) := dk_46 (dk_at dksL_law_37 12 rfl rfl)
theorem dL_law_996 : decode cL_law 996 = .ok (.invokevirtual 138, 3) := dk_182 0 138 (dk_at dksL_law_37 13 rfl rfl)
theorem dL_law_999 : decode cL_law 999 = .ok (.if_icmp .eq 127, 3) := dk_159 0 127 (dk_at dksL_law_37 16 rfl rfl)
theorem dL_law_1002 : decode cL_law 1002 = .ok (.iconst 0, 1) := dk_3 (dk_at dksL_law_37 19 rfl rfl)
theorem dL_law_1003 : decode cL_law 1003 = .ok (.ireturn, 1) := dk_172 (dk_at dksL_law_37 20 rfl rfl)
theorem dL_law_1004 : decode cL_law 1004 = .ok (.aload_n 1, 1) := dk_43 (dk_at dksL_law_37 21 rfl rfl)
theorem dL_law_1005 : decode cL_law 1005 = .ok (.aload_n 0, 1) := dk_42 (dk_at dksL_law_37 22 rfl rfl)
theorem dL_law_1006 : decode cL_law 1006 = .ok (.iload_n 3, 1) := dk_29 (dk_at dksL_law_37 23 rfl rfl)
theorem dL_law_1007 : decode cL_law 1007 = .ok (.iconst 1, 1) := dk_4 (dk_at dksL_law_38 0 rfl rfl)
theorem dL_law_1008 : decode cL_law 1008 = .ok (.iadd, 1) := dk_96 (dk_at dksL_law_38 1 rfl rfl)
theorem dL_law_1009 : decode cL_law 1009 = .ok (.iaload, 1) := dk_46 (dk_at dksL_law_38 2 rfl rfl)
theorem dL_law_1010 : decode cL_law 1010 = .ok (.aload_n 0, 1) := dk_42 (dk_at dksL_law_38 3 rfl rfl)
theorem dL_law_1011 : decode cL_law 1011 = .ok (.iload_n 3, 1) := dk_29 (dk_at dksL_law_38 4 rfl rfl)
theorem dL_law_1012 : decode cL_law 1012 = .ok (.iconst 2, 1) := dk_5 (dk_at dksL_law_38 5 rfl rfl)
theorem dL_law_1013 : decode cL_law 1013 = .ok (.iadd, 1) := dk_96 (dk_at dksL_law_38 6 rfl rfl)
theorem dL_law_1014 : decode cL_law 1014 = .ok (.iaload, 1) := dk_46 (dk_at dksL_law_38 7 rfl rfl)
theorem dL_law_1015 : decode cL_law 1015 = .ok (.aload_n 0, 1) := dk_42 (dk_at dksL_law_38 8 rfl rfl)
theorem dL_law_1016 : decode cL_law 1016 = .ok (.iload_n 3, 1) := dk_29 (dk_at dksL_law_38 9 rfl rfl)
theorem dL_law_1017 : decode cL_law 1017 = .ok (.iconst 3, 1) := dk_6 (dk_at dksL_law_38 10 rfl rfl)
theorem dL_law_1018 : decode cL_law 1018 = .ok (.iadd, 1) := dk_96 (dk_at dksL_law_38 11 rfl rfl)
theorem dL_law_1019 : decode cL_law 1019 = .ok (.iaload, 1) := dk_46 (dk_at dksL_law_38 12 rfl rfl)
theorem dL_law_1020 : decode cL_law 1020 = .ok (.aload_n 0, 1) := dk_42 (dk_at dksL_law_38 13 rfl rfl)
theorem dL_law_1021 : decode cL_law 1021 = .ok (.iload_n 3, 1) := dk_29 (dk_at dksL_law_38 14 rfl rfl)
theorem dL_law_1022 : decode cL_law 1022 = .ok (.iconst 4, 1) := dk_7 (dk_at dksL_law_38 15 rfl rfl)
theorem dL_law_1023 : decode cL_law 1023 = .ok (.iadd, 1) := dk_96 (dk_at dksL_law_38 16 rfl rfl)
theorem dL_law_1024 : decode cL_law 1024 = .ok (.iaload, 1) := dk_46 (dk_at dksL_law_38 17 rfl rfl)
theorem dL_law_1025 : decode cL_law 1025 = .ok (.invokevirtual 139, 3) := dk_182 0 139 (dk_at dksL_law_38 18 rfl rfl)
theorem dL_law_1028 : decode cL_law 1028 = .ok (.aload_n 2, 1) := dk_44 (dk_at dksL_law_38 21 rfl rfl)
theorem dL_law_1029 : decode cL_law 1029 = .ok (.aload_n 0, 1) := dk_42 (dk_at dksL_law_38 22 rfl rfl)
theorem dL_law_1030 : decode cL_law 1030 = .ok (.iload_n 3, 1) := dk_29 (dk_at dksL_law_38 23 rfl rfl)
theorem dL_law_1031 : decode cL_law 1031 = .ok (.iconst 1, 1) := dk_4 (dk_at dksL_law_39 0 rfl rfl)
theorem dL_law_1032 : decode cL_law 1032 = .ok (.iadd, 1) := dk_96 (dk_at dksL_law_39 1 rfl rfl)
theorem dL_law_1033 : decode cL_law 1033 = .ok (.iaload, 1) := dk_46 (dk_at dksL_law_39 2 rfl rfl)
theorem dL_law_1034 : decode cL_law 1034 = .ok (.aload_n 0, 1) := dk_42 (dk_at dksL_law_39 3 rfl rfl)
theorem dL_law_1035 : decode cL_law 1035 = .ok (.iload_n 3, 1) := dk_29 (dk_at dksL_law_39 4 rfl rfl)
theorem dL_law_1036 : decode cL_law 1036 = .ok (.iconst 2, 1) := dk_5 (dk_at dksL_law_39 5 rfl rfl)
theorem dL_law_1037 : decode cL_law 1037 = .ok (.iadd, 1) := dk_96 (dk_at dksL_law_39 6 rfl rfl)
theorem dL_law_1038 : decode cL_law 1038 = .ok (.iaload, 1) := dk_46 (dk_at dksL_law_39 7 rfl rfl)
theorem dL_law_1039 : decode cL_law 1039 = .ok (.aload_n 0, 1) := dk_42 (dk_at dksL_law_39 8 rfl rfl)
theorem dL_law_1040 : decode cL_law 1040 = .ok (.iload_n 3, 1) := dk_29 (dk_at dksL_law_39 9 rfl rfl)
theorem dL_law_1041 : decode cL_law 1041 = .ok (.iconst 3, 1) := dk_6 (dk_at dksL_law_39 10 rfl rfl)
theorem dL_law_1042 : decode cL_law 1042 = .ok (.iadd, 1) := dk_96 (dk_at dksL_law_39 11 rfl rfl)
theorem dL_law_1043 : decode cL_law 1043 = .ok (.iaload, 1) := dk_46 (dk_at dksL_law_39 12 rfl rfl)
theorem dL_law_1044 : decode cL_law 1044 = .ok (.aload_n 0, 1) := dk_42 (dk_at dksL_law_39 13 rfl rfl)
theorem dL_law_1045 : decode cL_law 1045 = .ok (.iload_n 3, 1) := dk_29 (dk_at dksL_law_39 14 rfl rfl)
theorem dL_law_1046 : decode cL_law 1046 = .ok (.iconst 4, 1) := dk_7 (dk_at dksL_law_39 15 rfl rfl)
theorem dL_law_1047 : decode cL_law 1047 = .ok (.iadd, 1) := dk_96 (dk_at dksL_law_39 16 rfl rfl)
theorem dL_law_1048 : decode cL_law 1048 = .ok (.iaload, 1) := dk_46 (dk_at dksL_law_39 17 rfl rfl)
theorem dL_law_1049 : decode cL_law 1049 = .ok (.invokevirtual 142, 3) := dk_182 0 142 (dk_at dksL_law_39 18 rfl rfl)
theorem dL_law_1052 : decode cL_law 1052 = .ok (.if_icmp .eq 74, 3) := dk_159 0 74 (dk_at dksL_law_39 21 rfl rfl)
theorem dL_law_1055 : decode cL_law 1055 = .ok (.iconst 0, 1) := dk_3 (dk_at dksL_law_40 0 rfl rfl)
theorem dL_law_1056 : decode cL_law 1056 = .ok (.ireturn, 1) := dk_172 (dk_at dksL_law_40 1 rfl rfl)
theorem dL_law_1057 : decode cL_law 1057 = .ok (.aload_n 1, 1) := dk_43 (dk_at dksL_law_40 2 rfl rfl)
theorem dL_law_1058 : decode cL_law 1058 = .ok (.aload_n 0, 1) := dk_42 (dk_at dksL_law_40 3 rfl rfl)
theorem dL_law_1059 : decode cL_law 1059 = .ok (.iload_n 3, 1) := dk_29 (dk_at dksL_law_40 4 rfl rfl)
theorem dL_law_1060 : decode cL_law 1060 = .ok (.iconst 1, 1) := dk_4 (dk_at dksL_law_40 5 rfl rfl)
theorem dL_law_1061 : decode cL_law 1061 = .ok (.iadd, 1) := dk_96 (dk_at dksL_law_40 6 rfl rfl)
theorem dL_law_1062 : decode cL_law 1062 = .ok (.iaload, 1) := dk_46 (dk_at dksL_law_40 7 rfl rfl)
theorem dL_law_1063 : decode cL_law 1063 = .ok (.invokevirtual 143, 3) := dk_182 0 143 (dk_at dksL_law_40 8 rfl rfl)
theorem dL_law_1066 : decode cL_law 1066 = .ok (.aload_n 2, 1) := dk_44 (dk_at dksL_law_40 11 rfl rfl)
theorem dL_law_1067 : decode cL_law 1067 = .ok (.aload_n 0, 1) := dk_42 (dk_at dksL_law_40 12 rfl rfl)
theorem dL_law_1068 : decode cL_law 1068 = .ok (.iload_n 3, 1) := dk_29 (dk_at dksL_law_40 13 rfl rfl)
theorem dL_law_1069 : decode cL_law 1069 = .ok (.iconst 1, 1) := dk_4 (dk_at dksL_law_40 14 rfl rfl)
theorem dL_law_1070 : decode cL_law 1070 = .ok (.iadd, 1) := dk_96 (dk_at dksL_law_40 15 rfl rfl)
theorem dL_law_1071 : decode cL_law 1071 = .ok (.iaload, 1) := dk_46 (dk_at dksL_law_40 16 rfl rfl)
theorem dL_law_1072 : decode cL_law 1072 = .ok (.invokevirtual 146, 3) := dk_182 0 146 (dk_at dksL_law_40 17 rfl rfl)
theorem dL_law_1075 : decode cL_law 1075 = .ok (.if_icmp .eq 51, 3) := dk_159 0 51 (dk_at dksL_law_40 20 rfl rfl)
theorem dL_law_1078 : decode cL_law 1078 = .ok (.iconst 0, 1) := dk_3 (dk_at dksL_law_40 23 rfl rfl)
theorem dL_law_1079 : decode cL_law 1079 = .ok (.ireturn, 1) := dk_172 (dk_at dksL_law_41 0 rfl rfl)
theorem dL_law_1080 : decode cL_law 1080 = .ok (.aload_n 1, 1) := dk_43 (dk_at dksL_law_41 1 rfl rfl)
theorem dL_law_1081 : decode cL_law 1081 = .ok (.aload_n 0, 1) := dk_42 (dk_at dksL_law_41 2 rfl rfl)
theorem dL_law_1082 : decode cL_law 1082 = .ok (.iload_n 3, 1) := dk_29 (dk_at dksL_law_41 3 rfl rfl)
theorem dL_law_1083 : decode cL_law 1083 = .ok (.iconst 1, 1) := dk_4 (dk_at dksL_law_41 4 rfl rfl)
theorem dL_law_1084 : decode cL_law 1084 = .ok (.iadd, 1) := dk_96 (dk_at dksL_law_41 5 rfl rfl)
theorem dL_law_1085 : decode cL_law 1085 = .ok (.iaload, 1) := dk_46 (dk_at dksL_law_41 6 rfl rfl)
theorem dL_law_1086 : decode cL_law 1086 = .ok (.invokevirtual 147, 3) := dk_182 0 147 (dk_at dksL_law_41 7 rfl rfl)
theorem dL_law_1089 : decode cL_law 1089 = .ok (.aload_n 2, 1) := dk_44 (dk_at dksL_law_41 10 rfl rfl)
theorem dL_law_1090 : decode cL_law 1090 = .ok (.aload_n 0, 1) := dk_42 (dk_at dksL_law_41 11 rfl rfl)
theorem dL_law_1091 : decode cL_law 1091 = .ok (.iload_n 3, 1) := dk_29 (dk_at dksL_law_41 12 rfl rfl)
theorem dL_law_1092 : decode cL_law 1092 = .ok (.iconst 1, 1) := dk_4 (dk_at dksL_law_41 13 rfl rfl)
theorem dL_law_1093 : decode cL_law 1093 = .ok (.iadd, 1) := dk_96 (dk_at dksL_law_41 14 rfl rfl)
theorem dL_law_1094 : decode cL_law 1094 = .ok (.iaload, 1) := dk_46 (dk_at dksL_law_41 15 rfl rfl)
theorem dL_law_1095 : decode cL_law 1095 = .ok (.invokevirtual 150, 3) := dk_182 0 150 (dk_at dksL_law_41 16 rfl rfl)
theorem dL_law_1098 : decode cL_law 1098 = .ok (.if_icmp .eq 28, 3) := dk_159 0 28 (dk_at dksL_law_41 19 rfl rfl)
theorem dL_law_1101 : decode cL_law 1101 = .ok (.iconst 0, 1) := dk_3 (dk_at dksL_law_41 22 rfl rfl)
theorem dL_law_1102 : decode cL_law 1102 = .ok (.ireturn, 1) := dk_172 (dk_at dksL_law_41 23 rfl rfl)
theorem dL_law_1103 : decode cL_law 1103 = .ok (.aload_n 1, 1) := dk_43 (dk_at dksL_law_42 0 rfl rfl)
theorem dL_law_1104 : decode cL_law 1104 = .ok (.aload_n 0, 1) := dk_42 (dk_at dksL_law_42 1 rfl rfl)
theorem dL_law_1105 : decode cL_law 1105 = .ok (.iload_n 3, 1) := dk_29 (dk_at dksL_law_42 2 rfl rfl)
theorem dL_law_1106 : decode cL_law 1106 = .ok (.iconst 1, 1) := dk_4 (dk_at dksL_law_42 3 rfl rfl)
theorem dL_law_1107 : decode cL_law 1107 = .ok (.iadd, 1) := dk_96 (dk_at dksL_law_42 4 rfl rfl)
theorem dL_law_1108 : decode cL_law 1108 = .ok (.iaload, 1) := dk_46 (dk_at dksL_law_42 5 rfl rfl)
theorem dL_law_1109 : decode cL_law 1109 = .ok (.invokevirtual 151, 3) := dk_182 0 151 (dk_at dksL_law_42 6 rfl rfl)
theorem dL_law_1112 : decode cL_law 1112 = .ok (.aload_n 2, 1) := dk_44 (dk_at dksL_law_42 9 rfl rfl)
theorem dL_law_1113 : decode cL_law 1113 = .ok (.aload_n 0, 1) := dk_42 (dk_at dksL_law_42 10 rfl rfl)
theorem dL_law_1114 : decode cL_law 1114 = .ok (.iload_n 3, 1) := dk_29 (dk_at dksL_law_42 11 rfl rfl)
theorem dL_law_1115 : decode cL_law 1115 = .ok (.iconst 1, 1) := dk_4 (dk_at dksL_law_42 12 rfl rfl)
theorem dL_law_1116 : decode cL_law 1116 = .ok (.iadd, 1) := dk_96 (dk_at dksL_law_42 13 rfl rfl)
theorem dL_law_1117 : decode cL_law 1117 = .ok (.iaload, 1) := dk_46 (dk_at dksL_law_42 14 rfl rfl)
theorem dL_law_1118 : decode cL_law 1118 = .ok (.invokevirtual 154, 3) := dk_182 0 154 (dk_at dksL_law_42 15 rfl rfl)
theorem dL_law_1121 : decode cL_law 1121 = .ok (.if_icmp .eq 5, 3) := dk_159 0 5 (dk_at dksL_law_42 18 rfl rfl)
theorem dL_law_1124 : decode cL_law 1124 = .ok (.iconst 0, 1) := dk_3 (dk_at dksL_law_42 21 rfl rfl)
theorem dL_law_1125 : decode cL_law 1125 = .ok (.ireturn, 1) := dk_172 (dk_at dksL_law_42 22 rfl rfl)
theorem dL_law_1126 : decode cL_law 1126 = .ok (.iinc 3 6, 3) := dk_132 3 6 (dk_at dksL_law_43 0 rfl rfl)
theorem dL_law_1129 : decode cL_law 1129 = .ok (.goto (-1111), 3) := dk_167 251 169 (dk_at dksL_law_43 3 rfl rfl)
theorem dL_law_1132 : decode cL_law 1132 = .ok (.iconst 1, 1) := dk_4 (dk_at dksL_law_43 6 rfl rfl)
theorem dL_law_1133 : decode cL_law 1133 = .ok (.ireturn, 1) := dk_172 (dk_at dksL_law_43 7 rfl rfl)

theorem q116 : (Jvm.Cond.initialized "ChairCaneLaw") ∈ lw_all := lw_g (lw_at lw_m1 0 rfl) rfl
set_option maxRecDepth 100000
theorem q143 : (Jvm.Cond.classLink "ChairCaneLaw" (7 : Nat) "ChairCane") ∈ lw_all := lw_g (lw_at lw_m1 27 rfl) rfl
theorem q145 : (Jvm.Cond.methodLink "ChairCaneLaw" (9 : Nat) ({ cls := "ChairCane", name := "<init>", desc := "()V" } : Jvm.MethodName)) ∈ lw_all := lw_g (lw_at lw_m1 29 rfl) rfl
theorem q411 : (Jvm.Cond.methodLink "ChairCaneLaw" (13 : Nat) ({ cls := "ChairCane", name := "feed", desc := "(IIIII)I" } : Jvm.MethodName)) ∈ lw_all := lw_g (lw_at lw_m2 55 rfl) rfl
theorem q419 : (Jvm.Cond.methodLink "ChairCaneLaw" (18 : Nat) ({ cls := "ChairCane", name := "end", desc := "(I)I" } : Jvm.MethodName)) ∈ lw_all := lw_g (lw_at lw_m2 63 rfl) rfl
theorem q423 : (Jvm.Cond.methodLink "ChairCaneLaw" (23 : Nat) ({ cls := "ChairCane", name := "hall", desc := "()I" } : Jvm.MethodName)) ∈ lw_all := lw_g (lw_at lw_m2 67 rfl) rfl
theorem q590 : (Jvm.Cond.methodLink "ChairCaneLaw" (28 : Nat) ({ cls := "ChairCane", name := "rule", desc := "()I" } : Jvm.MethodName)) ∈ lw_all := lw_g (lw_at lw_m2 234 rfl) rfl
theorem q763 : (Jvm.Cond.methodLink "ChairCaneLaw" (32 : Nat) ({ cls := "ChairCane", name := "force", desc := "(I)I" } : Jvm.MethodName)) ∈ lw_all := lw_g (lw_at lw_m3 167 rfl) rfl
theorem q767 : (Jvm.Cond.methodLink "ChairCaneLaw" (36 : Nat) ({ cls := "ChairCane", name := "strand", desc := "(I)I" } : Jvm.MethodName)) ∈ lw_all := lw_g (lw_at lw_m3 171 rfl) rfl
theorem q775 : (Jvm.Cond.methodLink "ChairCaneLaw" (40 : Nat) ({ cls := "ChairCane", name := "chair", desc := "(II)I" } : Jvm.MethodName)) ∈ lw_all := lw_g (lw_at lw_m3 179 rfl) rfl
theorem q809 : (Jvm.Cond.methodLink "ChairCaneLaw" (45 : Nat) ({ cls := "ChairCane", name := "sitter", desc := "(II)I" } : Jvm.MethodName)) ∈ lw_all := lw_g (lw_at lw_m3 213 rfl) rfl
theorem q818 : (Jvm.Cond.methodLink "ChairCaneLaw" (69 : Nat) ({ cls := "ChairCane", name := "undo", desc := "()I" } : Jvm.MethodName)) ∈ lw_all := lw_g (lw_at lw_m3 222 rfl) rfl
theorem q826 : (Jvm.Cond.methodLink "ChairCaneLaw" (49 : Nat) ({ cls := "ChairCane", name := "minute", desc := "()I" } : Jvm.MethodName)) ∈ lw_all := lw_g (lw_at lw_m3 230 rfl) rfl
theorem q902 : (Jvm.Cond.methodLink "ChairCaneLaw" (53 : Nat) ({ cls := "ChairCane", name := "sit", desc := "(I)I" } : Jvm.MethodName)) ∈ lw_all := lw_g (lw_at lw_m4 66 rfl) rfl
theorem q915 : (Jvm.Cond.methodLink "ChairCaneLaw" (57 : Nat) ({ cls := "ChairCane", name := "rise", desc := "(I)I" } : Jvm.MethodName)) ∈ lw_all := lw_g (lw_at lw_m4 79 rfl) rfl
theorem q919 : (Jvm.Cond.methodLink "ChairCaneLaw" (61 : Nat) ({ cls := "ChairCane", name := "help", desc := "(I)I" } : Jvm.MethodName)) ∈ lw_all := lw_g (lw_at lw_m4 83 rfl) rfl
theorem q925 : (Jvm.Cond.methodLink "ChairCaneLaw" (65 : Nat) ({ cls := "ChairCane", name := "let", desc := "(II)I" } : Jvm.MethodName)) ∈ lw_all := lw_g (lw_at lw_m4 89 rfl) rfl
theorem q930 : (Jvm.Cond.methodLink "ChairCaneLaw" (73 : Nat) ({ cls := "ChairCane", name := "ahead", desc := "(III)I" } : Jvm.MethodName)) ∈ lw_all := lw_g (lw_at lw_m4 94 rfl) rfl
theorem q940 : (Jvm.Cond.methodLink "ChairCaneLaw" (78 : Nat) ({ cls := "ChairCane", name := "falls", desc := "(I)I" } : Jvm.MethodName)) ∈ lw_all := lw_g (lw_at lw_m4 104 rfl) rfl
theorem q944 : (Jvm.Cond.methodLink "ChairCaneLaw" (82 : Nat) ({ cls := "ChairCane", name := "felled", desc := "(I)I" } : Jvm.MethodName)) ∈ lw_all := lw_g (lw_at lw_m4 108 rfl) rfl
theorem q952 : (Jvm.Cond.methodLink "ChairCaneLaw" (86 : Nat) ({ cls := "ChairCane", name := "tall", desc := "(I)I" } : Jvm.MethodName)) ∈ lw_all := lw_g (lw_at lw_m4 116 rfl) rfl
theorem q956 : (Jvm.Cond.methodLink "ChairCaneLaw" (90 : Nat) ({ cls := "ChairCane", name := "ease", desc := "(I)I" } : Jvm.MethodName)) ∈ lw_all := lw_g (lw_at lw_m4 120 rfl) rfl
theorem q961 : (Jvm.Cond.methodLink "ChairCaneLaw" (94 : Nat) ({ cls := "ChairCane", name := "way", desc := "(I)I" } : Jvm.MethodName)) ∈ lw_all := lw_g (lw_at lw_m4 125 rfl) rfl
theorem q971 : (Jvm.Cond.methodLink "ChairCaneLaw" (98 : Nat) ({ cls := "ChairCane", name := "most", desc := "(I)I" } : Jvm.MethodName)) ∈ lw_all := lw_g (lw_at lw_m4 135 rfl) rfl
theorem q975 : (Jvm.Cond.methodLink "ChairCaneLaw" (102 : Nat) ({ cls := "ChairCane", name := "heavy", desc := "(II)I" } : Jvm.MethodName)) ∈ lw_all := lw_g (lw_at lw_m4 139 rfl) rfl
theorem q979 : (Jvm.Cond.methodLink "ChairCaneLaw" (110 : Nat) ({ cls := "ChairCane", name := "rests", desc := "(IIII)I" } : Jvm.MethodName)) ∈ lw_all := lw_g (lw_at lw_m4 143 rfl) rfl
theorem q1001 : (Jvm.Cond.methodLink "ChairCaneLaw" (115 : Nat) ({ cls := "ChairCane", name := "ring", desc := "(I)I" } : Jvm.MethodName)) ∈ lw_all := lw_g (lw_at lw_m4 165 rfl) rfl
theorem q1009 : (Jvm.Cond.methodLink "ChairCaneLaw" (119 : Nat) ({ cls := "ChairCane", name := "pence", desc := "(II)I" } : Jvm.MethodName)) ∈ lw_all := lw_g (lw_at lw_m4 173 rfl) rfl
theorem q1018 : (Jvm.Cond.methodLink "ChairCaneLaw" (123 : Nat) ({ cls := "ChairCane", name := "note", desc := "(III)I" } : Jvm.MethodName)) ∈ lw_all := lw_g (lw_at lw_m4 182 rfl) rfl
theorem q1023 : (Jvm.Cond.methodLink "ChairCaneLaw" (127 : Nat) ({ cls := "ChairCane", name := "ruled", desc := "(I)I" } : Jvm.MethodName)) ∈ lw_all := lw_g (lw_at lw_m4 187 rfl) rfl
theorem q1036 : (Jvm.Cond.methodLink "ChairCaneLaw" (131 : Nat) ({ cls := "ChairCane", name := "look", desc := "(II)I" } : Jvm.MethodName)) ∈ lw_all := lw_g (lw_at lw_m4 200 rfl) rfl
theorem q1047 : (Jvm.Cond.methodLink "ChairCaneLaw" (106 : Nat) ({ cls := "ChairCane", name := "strung", desc := "(I)I" } : Jvm.MethodName)) ∈ lw_all := lw_g (lw_at lw_m4 211 rfl) rfl
theorem q1055 : (Jvm.Cond.methodLink "ChairCaneLaw" (135 : Nat) ({ cls := "ChairCane", name := "seed", desc := "(I)I" } : Jvm.MethodName)) ∈ lw_all := lw_g (lw_at lw_m4 219 rfl) rfl
theorem q1059 : (Jvm.Cond.methodLink "ChairCaneLaw" (139 : Nat) ({ cls := "ChairCane", name := "toasts", desc := "(IIII)I" } : Jvm.MethodName)) ∈ lw_all := lw_g (lw_at lw_m4 223 rfl) rfl
theorem q1076 : (Jvm.Cond.methodLink "ChairCaneLaw" (143 : Nat) ({ cls := "ChairCane", name := "count", desc := "(I)I" } : Jvm.MethodName)) ∈ lw_all := lw_g (lw_at lw_m5 0 rfl) rfl
theorem q1081 : (Jvm.Cond.methodLink "ChairCaneLaw" (147 : Nat) ({ cls := "ChairCane", name := "image", desc := "(I)I" } : Jvm.MethodName)) ∈ lw_all := lw_g (lw_at lw_m5 5 rfl) rfl
theorem q1106 : (Jvm.Cond.methodLink "ChairCaneLaw" (151 : Nat) ({ cls := "ChairCane", name := "back", desc := "(I)I" } : Jvm.MethodName)) ∈ lw_all := lw_g (lw_at lw_m5 30 rfl) rfl
theorem q1110 : (Jvm.Cond.classLink "ChairCaneLaw" (10 : Nat) "ChairCaneModel") ∈ lw_all := lw_g (lw_at lw_m5 34 rfl) rfl
theorem q1112 : (Jvm.Cond.methodLink "ChairCaneLaw" (12 : Nat) ({ cls := "ChairCaneModel", name := "<init>", desc := "()V" } : Jvm.MethodName)) ∈ lw_all := lw_g (lw_at lw_m5 36 rfl) rfl
theorem q1275 : (Jvm.Cond.methodLink "ChairCaneLaw" (17 : Nat) ({ cls := "ChairCaneModel", name := "feed", desc := "(IIIII)I" } : Jvm.MethodName)) ∈ lw_all := lw_g (lw_at lw_m5 199 rfl) rfl
theorem q1283 : (Jvm.Cond.methodLink "ChairCaneLaw" (22 : Nat) ({ cls := "ChairCaneModel", name := "end", desc := "(I)I" } : Jvm.MethodName)) ∈ lw_all := lw_g (lw_at lw_m5 207 rfl) rfl
theorem q1287 : (Jvm.Cond.methodLink "ChairCaneLaw" (27 : Nat) ({ cls := "ChairCaneModel", name := "hall", desc := "()I" } : Jvm.MethodName)) ∈ lw_all := lw_g (lw_at lw_m5 211 rfl) rfl
theorem q1369 : (Jvm.Cond.methodLink "ChairCaneLaw" (31 : Nat) ({ cls := "ChairCaneModel", name := "rule", desc := "()I" } : Jvm.MethodName)) ∈ lw_all := lw_g (lw_at lw_m6 53 rfl) rfl
theorem q1442 : (Jvm.Cond.methodLink "ChairCaneLaw" (35 : Nat) ({ cls := "ChairCaneModel", name := "force", desc := "(I)I" } : Jvm.MethodName)) ∈ lw_all := lw_g (lw_at lw_m6 126 rfl) rfl
theorem q1447 : (Jvm.Cond.methodLink "ChairCaneLaw" (39 : Nat) ({ cls := "ChairCaneModel", name := "strand", desc := "(I)I" } : Jvm.MethodName)) ∈ lw_all := lw_g (lw_at lw_m6 131 rfl) rfl
theorem q1455 : (Jvm.Cond.methodLink "ChairCaneLaw" (44 : Nat) ({ cls := "ChairCaneModel", name := "chair", desc := "(II)I" } : Jvm.MethodName)) ∈ lw_all := lw_g (lw_at lw_m6 139 rfl) rfl
theorem q1491 : (Jvm.Cond.methodLink "ChairCaneLaw" (48 : Nat) ({ cls := "ChairCaneModel", name := "sitter", desc := "(II)I" } : Jvm.MethodName)) ∈ lw_all := lw_g (lw_at lw_m6 175 rfl) rfl
theorem q1500 : (Jvm.Cond.methodLink "ChairCaneLaw" (72 : Nat) ({ cls := "ChairCaneModel", name := "undo", desc := "()I" } : Jvm.MethodName)) ∈ lw_all := lw_g (lw_at lw_m6 184 rfl) rfl
theorem q1516 : (Jvm.Cond.methodLink "ChairCaneLaw" (52 : Nat) ({ cls := "ChairCaneModel", name := "minute", desc := "()I" } : Jvm.MethodName)) ∈ lw_all := lw_g (lw_at lw_m6 200 rfl) rfl
theorem q1561 : (Jvm.Cond.methodLink "ChairCaneLaw" (56 : Nat) ({ cls := "ChairCaneModel", name := "sit", desc := "(I)I" } : Jvm.MethodName)) ∈ lw_all := lw_g (lw_at lw_m7 5 rfl) rfl
theorem q1569 : (Jvm.Cond.methodLink "ChairCaneLaw" (60 : Nat) ({ cls := "ChairCaneModel", name := "rise", desc := "(I)I" } : Jvm.MethodName)) ∈ lw_all := lw_g (lw_at lw_m7 13 rfl) rfl
theorem q1573 : (Jvm.Cond.methodLink "ChairCaneLaw" (64 : Nat) ({ cls := "ChairCaneModel", name := "help", desc := "(I)I" } : Jvm.MethodName)) ∈ lw_all := lw_g (lw_at lw_m7 17 rfl) rfl
theorem q1577 : (Jvm.Cond.methodLink "ChairCaneLaw" (68 : Nat) ({ cls := "ChairCaneModel", name := "let", desc := "(II)I" } : Jvm.MethodName)) ∈ lw_all := lw_g (lw_at lw_m7 21 rfl) rfl
theorem q1582 : (Jvm.Cond.methodLink "ChairCaneLaw" (77 : Nat) ({ cls := "ChairCaneModel", name := "ahead", desc := "(III)I" } : Jvm.MethodName)) ∈ lw_all := lw_g (lw_at lw_m7 26 rfl) rfl
theorem q1607 : (Jvm.Cond.methodLink "ChairCaneLaw" (81 : Nat) ({ cls := "ChairCaneModel", name := "falls", desc := "(I)I" } : Jvm.MethodName)) ∈ lw_all := lw_g (lw_at lw_m7 51 rfl) rfl
theorem q1611 : (Jvm.Cond.methodLink "ChairCaneLaw" (85 : Nat) ({ cls := "ChairCaneModel", name := "felled", desc := "(I)I" } : Jvm.MethodName)) ∈ lw_all := lw_g (lw_at lw_m7 55 rfl) rfl
theorem q1619 : (Jvm.Cond.methodLink "ChairCaneLaw" (89 : Nat) ({ cls := "ChairCaneModel", name := "tall", desc := "(I)I" } : Jvm.MethodName)) ∈ lw_all := lw_g (lw_at lw_m7 63 rfl) rfl
theorem q1623 : (Jvm.Cond.methodLink "ChairCaneLaw" (93 : Nat) ({ cls := "ChairCaneModel", name := "ease", desc := "(I)I" } : Jvm.MethodName)) ∈ lw_all := lw_g (lw_at lw_m7 67 rfl) rfl
theorem q1627 : (Jvm.Cond.methodLink "ChairCaneLaw" (97 : Nat) ({ cls := "ChairCaneModel", name := "way", desc := "(I)I" } : Jvm.MethodName)) ∈ lw_all := lw_g (lw_at lw_m7 71 rfl) rfl
theorem q1636 : (Jvm.Cond.methodLink "ChairCaneLaw" (101 : Nat) ({ cls := "ChairCaneModel", name := "most", desc := "(I)I" } : Jvm.MethodName)) ∈ lw_all := lw_g (lw_at lw_m7 80 rfl) rfl
theorem q1640 : (Jvm.Cond.methodLink "ChairCaneLaw" (105 : Nat) ({ cls := "ChairCaneModel", name := "heavy", desc := "(II)I" } : Jvm.MethodName)) ∈ lw_all := lw_g (lw_at lw_m7 84 rfl) rfl
theorem q1644 : (Jvm.Cond.methodLink "ChairCaneLaw" (114 : Nat) ({ cls := "ChairCaneModel", name := "rests", desc := "(IIII)I" } : Jvm.MethodName)) ∈ lw_all := lw_g (lw_at lw_m7 88 rfl) rfl
theorem q1657 : (Jvm.Cond.methodLink "ChairCaneLaw" (118 : Nat) ({ cls := "ChairCaneModel", name := "ring", desc := "(I)I" } : Jvm.MethodName)) ∈ lw_all := lw_g (lw_at lw_m7 101 rfl) rfl
theorem q1669 : (Jvm.Cond.methodLink "ChairCaneLaw" (122 : Nat) ({ cls := "ChairCaneModel", name := "pence", desc := "(II)I" } : Jvm.MethodName)) ∈ lw_all := lw_g (lw_at lw_m7 113 rfl) rfl
theorem q1678 : (Jvm.Cond.methodLink "ChairCaneLaw" (126 : Nat) ({ cls := "ChairCaneModel", name := "note", desc := "(III)I" } : Jvm.MethodName)) ∈ lw_all := lw_g (lw_at lw_m7 122 rfl) rfl
theorem q1683 : (Jvm.Cond.methodLink "ChairCaneLaw" (130 : Nat) ({ cls := "ChairCaneModel", name := "ruled", desc := "(I)I" } : Jvm.MethodName)) ∈ lw_all := lw_g (lw_at lw_m7 127 rfl) rfl
theorem q1695 : (Jvm.Cond.methodLink "ChairCaneLaw" (109 : Nat) ({ cls := "ChairCaneModel", name := "strung", desc := "(I)I" } : Jvm.MethodName)) ∈ lw_all := lw_g (lw_at lw_m7 139 rfl) rfl
theorem q1699 : (Jvm.Cond.methodLink "ChairCaneLaw" (134 : Nat) ({ cls := "ChairCaneModel", name := "look", desc := "(II)I" } : Jvm.MethodName)) ∈ lw_all := lw_g (lw_at lw_m7 143 rfl) rfl
theorem q1707 : (Jvm.Cond.methodLink "ChairCaneLaw" (138 : Nat) ({ cls := "ChairCaneModel", name := "seed", desc := "(I)I" } : Jvm.MethodName)) ∈ lw_all := lw_g (lw_at lw_m7 151 rfl) rfl
theorem q1711 : (Jvm.Cond.methodLink "ChairCaneLaw" (142 : Nat) ({ cls := "ChairCaneModel", name := "toasts", desc := "(IIII)I" } : Jvm.MethodName)) ∈ lw_all := lw_g (lw_at lw_m7 155 rfl) rfl
theorem q1728 : (Jvm.Cond.methodLink "ChairCaneLaw" (146 : Nat) ({ cls := "ChairCaneModel", name := "count", desc := "(I)I" } : Jvm.MethodName)) ∈ lw_all := lw_g (lw_at lw_m7 172 rfl) rfl
theorem q1732 : (Jvm.Cond.methodLink "ChairCaneLaw" (150 : Nat) ({ cls := "ChairCaneModel", name := "image", desc := "(I)I" } : Jvm.MethodName)) ∈ lw_all := lw_g (lw_at lw_m7 176 rfl) rfl
theorem q1736 : (Jvm.Cond.methodLink "ChairCaneLaw" (154 : Nat) ({ cls := "ChairCaneModel", name := "back", desc := "(I)I" } : Jvm.MethodName)) ∈ lw_all := lw_g (lw_at lw_m7 180 rfl) rfl
