set_option maxRecDepth 100000
/-- places of references that stay -/
def exStat (i s : Nat) : Bool := decide (i < 100) && (decide (i ≠ 54) && (decide (i ≠ 61) && !(decide (i = 0) && decide (s = 0))))
/-- the static world: cells 0..99 -/
def isC (sh : ExSh) (R : ExR) : Prop := (∀ (i : Nat) (p : Nat × Nat), c1sh[i]? = some p → sh[i]? = some p) ∧ (∀ i s : Nat, exStat i s = true → R i s = c1R i s)
theorem isC_start : isC c1sh c1R := ⟨fun _ _ h => h, fun _ _ _ => rfl⟩
theorem isC_app {sh t : ExSh} {R R' : ExR} (h : isC sh R) (hR : ∀ i s, exStat i s = true → R' i s = R i s) : isC (sh ++ t) R' := ⟨fun i p hp => sh_app (h.1 i p hp), fun i s hs => (hR i s hs).trans (h.2 i s hs)⟩
theorem isC_R {sh : ExSh} {R R' : ExR} (h : isC sh R) (hR : ∀ i s, exStat i s = true → R' i s = R i s) : isC sh R' := ⟨h.1, fun i s hs => (hR i s hs).trans (h.2 i s hs)⟩
theorem c1sh_len : c1sh.length = 100 := rfl
theorem isC_len {sh : ExSh} {R : ExR} (h : isC sh R) : 100 ≤ sh.length := by
  have := h.1 99 _ rfl
  have := (List.getElem?_eq_some_iff.mp this).1
  omega
theorem sC_0 {sh : ExSh} {R : ExR} (h : isC sh R) : sh[0]? = some (8, 23) := h.1 0 _ rfl
theorem sC_1 {sh : ExSh} {R : ExR} (h : isC sh R) : sh[1]? = some (9, 18) := h.1 1 _ rfl
theorem sC_2 {sh : ExSh} {R : ExR} (h : isC sh R) : sh[2]? = some (0, 4) := h.1 2 _ rfl
theorem sC_3 {sh : ExSh} {R : ExR} (h : isC sh R) : sh[3]? = some (0, 8) := h.1 3 _ rfl
theorem sC_4 {sh : ExSh} {R : ExR} (h : isC sh R) : sh[4]? = some (0, 8) := h.1 4 _ rfl
theorem sC_5 {sh : ExSh} {R : ExR} (h : isC sh R) : sh[5]? = some (0, 8) := h.1 5 _ rfl
theorem sC_6 {sh : ExSh} {R : ExR} (h : isC sh R) : sh[6]? = some (0, 8) := h.1 6 _ rfl
theorem sC_7 {sh : ExSh} {R : ExR} (h : isC sh R) : sh[7]? = some (0, 30) := h.1 7 _ rfl
theorem sC_8 {sh : ExSh} {R : ExR} (h : isC sh R) : sh[8]? = some (0, 8) := h.1 8 _ rfl
theorem sC_9 {sh : ExSh} {R : ExR} (h : isC sh R) : sh[9]? = some (0, 4) := h.1 9 _ rfl
theorem sC_10 {sh : ExSh} {R : ExR} (h : isC sh R) : sh[10]? = some (0, 260) := h.1 10 _ rfl
theorem sC_11 {sh : ExSh} {R : ExR} (h : isC sh R) : sh[11]? = some (3, 11) := h.1 11 _ rfl
theorem sC_12 {sh : ExSh} {R : ExR} (h : isC sh R) : sh[12]? = some (0, 8) := h.1 12 _ rfl
theorem sC_13 {sh : ExSh} {R : ExR} (h : isC sh R) : sh[13]? = some (9, 18) := h.1 13 _ rfl
theorem sC_14 {sh : ExSh} {R : ExR} (h : isC sh R) : sh[14]? = some (0, 4) := h.1 14 _ rfl
theorem sC_15 {sh : ExSh} {R : ExR} (h : isC sh R) : sh[15]? = some (0, 8) := h.1 15 _ rfl
theorem sC_16 {sh : ExSh} {R : ExR} (h : isC sh R) : sh[16]? = some (0, 8) := h.1 16 _ rfl
theorem sC_17 {sh : ExSh} {R : ExR} (h : isC sh R) : sh[17]? = some (0, 8) := h.1 17 _ rfl
theorem sC_18 {sh : ExSh} {R : ExR} (h : isC sh R) : sh[18]? = some (0, 8) := h.1 18 _ rfl
theorem sC_19 {sh : ExSh} {R : ExR} (h : isC sh R) : sh[19]? = some (0, 30) := h.1 19 _ rfl
theorem sC_20 {sh : ExSh} {R : ExR} (h : isC sh R) : sh[20]? = some (0, 8) := h.1 20 _ rfl
theorem sC_21 {sh : ExSh} {R : ExR} (h : isC sh R) : sh[21]? = some (0, 4) := h.1 21 _ rfl
theorem sC_22 {sh : ExSh} {R : ExR} (h : isC sh R) : sh[22]? = some (0, 260) := h.1 22 _ rfl
theorem sC_23 {sh : ExSh} {R : ExR} (h : isC sh R) : sh[23]? = some (3, 11) := h.1 23 _ rfl
theorem sC_24 {sh : ExSh} {R : ExR} (h : isC sh R) : sh[24]? = some (0, 8) := h.1 24 _ rfl
theorem sC_25 {sh : ExSh} {R : ExR} (h : isC sh R) : sh[25]? = some (9, 18) := h.1 25 _ rfl
theorem sC_26 {sh : ExSh} {R : ExR} (h : isC sh R) : sh[26]? = some (0, 4) := h.1 26 _ rfl
theorem sC_27 {sh : ExSh} {R : ExR} (h : isC sh R) : sh[27]? = some (0, 8) := h.1 27 _ rfl
theorem sC_28 {sh : ExSh} {R : ExR} (h : isC sh R) : sh[28]? = some (0, 8) := h.1 28 _ rfl
theorem sC_29 {sh : ExSh} {R : ExR} (h : isC sh R) : sh[29]? = some (0, 8) := h.1 29 _ rfl
theorem sC_30 {sh : ExSh} {R : ExR} (h : isC sh R) : sh[30]? = some (0, 8) := h.1 30 _ rfl
theorem sC_31 {sh : ExSh} {R : ExR} (h : isC sh R) : sh[31]? = some (0, 30) := h.1 31 _ rfl
theorem sC_32 {sh : ExSh} {R : ExR} (h : isC sh R) : sh[32]? = some (0, 8) := h.1 32 _ rfl
theorem sC_33 {sh : ExSh} {R : ExR} (h : isC sh R) : sh[33]? = some (0, 4) := h.1 33 _ rfl
theorem sC_34 {sh : ExSh} {R : ExR} (h : isC sh R) : sh[34]? = some (0, 260) := h.1 34 _ rfl
theorem sC_35 {sh : ExSh} {R : ExR} (h : isC sh R) : sh[35]? = some (3, 11) := h.1 35 _ rfl
theorem sC_36 {sh : ExSh} {R : ExR} (h : isC sh R) : sh[36]? = some (0, 8) := h.1 36 _ rfl
theorem sC_37 {sh : ExSh} {R : ExR} (h : isC sh R) : sh[37]? = some (9, 18) := h.1 37 _ rfl
theorem sC_38 {sh : ExSh} {R : ExR} (h : isC sh R) : sh[38]? = some (0, 4) := h.1 38 _ rfl
theorem sC_39 {sh : ExSh} {R : ExR} (h : isC sh R) : sh[39]? = some (0, 8) := h.1 39 _ rfl
theorem sC_40 {sh : ExSh} {R : ExR} (h : isC sh R) : sh[40]? = some (0, 8) := h.1 40 _ rfl
theorem sC_41 {sh : ExSh} {R : ExR} (h : isC sh R) : sh[41]? = some (0, 8) := h.1 41 _ rfl
theorem sC_42 {sh : ExSh} {R : ExR} (h : isC sh R) : sh[42]? = some (0, 8) := h.1 42 _ rfl
theorem sC_43 {sh : ExSh} {R : ExR} (h : isC sh R) : sh[43]? = some (0, 30) := h.1 43 _ rfl
theorem sC_44 {sh : ExSh} {R : ExR} (h : isC sh R) : sh[44]? = some (0, 8) := h.1 44 _ rfl
theorem sC_45 {sh : ExSh} {R : ExR} (h : isC sh R) : sh[45]? = some (0, 4) := h.1 45 _ rfl
theorem sC_46 {sh : ExSh} {R : ExR} (h : isC sh R) : sh[46]? = some (0, 260) := h.1 46 _ rfl
theorem sC_47 {sh : ExSh} {R : ExR} (h : isC sh R) : sh[47]? = some (3, 11) := h.1 47 _ rfl
theorem sC_48 {sh : ExSh} {R : ExR} (h : isC sh R) : sh[48]? = some (0, 8) := h.1 48 _ rfl
theorem sC_49 {sh : ExSh} {R : ExR} (h : isC sh R) : sh[49]? = some (10, 8) := h.1 49 _ rfl
theorem sC_50 {sh : ExSh} {R : ExR} (h : isC sh R) : sh[50]? = some (1, 400) := h.1 50 _ rfl
theorem sC_51 {sh : ExSh} {R : ExR} (h : isC sh R) : sh[51]? = some (4, 4) := h.1 51 _ rfl
theorem sC_52 {sh : ExSh} {R : ExR} (h : isC sh R) : sh[52]? = some (4, 1) := h.1 52 _ rfl
theorem sC_53 {sh : ExSh} {R : ExR} (h : isC sh R) : sh[53]? = some (4, 11) := h.1 53 _ rfl
theorem sC_54 {sh : ExSh} {R : ExR} (h : isC sh R) : sh[54]? = some (5, 6) := h.1 54 _ rfl
theorem sC_55 {sh : ExSh} {R : ExR} (h : isC sh R) : sh[55]? = some (0, 256) := h.1 55 _ rfl
theorem sC_56 {sh : ExSh} {R : ExR} (h : isC sh R) : sh[56]? = some (0, 4) := h.1 56 _ rfl
theorem sC_57 {sh : ExSh} {R : ExR} (h : isC sh R) : sh[57]? = some (0, 4) := h.1 57 _ rfl
theorem sC_58 {sh : ExSh} {R : ExR} (h : isC sh R) : sh[58]? = some (0, 488) := h.1 58 _ rfl
theorem sC_59 {sh : ExSh} {R : ExR} (h : isC sh R) : sh[59]? = some (2, 7) := h.1 59 _ rfl
theorem sC_60 {sh : ExSh} {R : ExR} (h : isC sh R) : sh[60]? = some (0, 56) := h.1 60 _ rfl
theorem sC_61 {sh : ExSh} {R : ExR} (h : isC sh R) : sh[61]? = some (7, 4) := h.1 61 _ rfl
theorem sC_62 {sh : ExSh} {R : ExR} (h : isC sh R) : sh[62]? = some (11, 53) := h.1 62 _ rfl
theorem sC_63 {sh : ExSh} {R : ExR} (h : isC sh R) : sh[63]? = some (0, 8) := h.1 63 _ rfl
theorem sC_64 {sh : ExSh} {R : ExR} (h : isC sh R) : sh[64]? = some (0, 4) := h.1 64 _ rfl
theorem sC_65 {sh : ExSh} {R : ExR} (h : isC sh R) : sh[65]? = some (0, 8) := h.1 65 _ rfl
theorem sC_66 {sh : ExSh} {R : ExR} (h : isC sh R) : sh[66]? = some (0, 8) := h.1 66 _ rfl
theorem sC_67 {sh : ExSh} {R : ExR} (h : isC sh R) : sh[67]? = some (0, 8) := h.1 67 _ rfl
theorem sC_68 {sh : ExSh} {R : ExR} (h : isC sh R) : sh[68]? = some (0, 8) := h.1 68 _ rfl
theorem sC_69 {sh : ExSh} {R : ExR} (h : isC sh R) : sh[69]? = some (0, 8) := h.1 69 _ rfl
theorem sC_70 {sh : ExSh} {R : ExR} (h : isC sh R) : sh[70]? = some (0, 10) := h.1 70 _ rfl
theorem sC_71 {sh : ExSh} {R : ExR} (h : isC sh R) : sh[71]? = some (0, 10) := h.1 71 _ rfl
theorem sC_72 {sh : ExSh} {R : ExR} (h : isC sh R) : sh[72]? = some (0, 10) := h.1 72 _ rfl
theorem sC_73 {sh : ExSh} {R : ExR} (h : isC sh R) : sh[73]? = some (0, 4) := h.1 73 _ rfl
theorem sC_74 {sh : ExSh} {R : ExR} (h : isC sh R) : sh[74]? = some (0, 4) := h.1 74 _ rfl
theorem sC_75 {sh : ExSh} {R : ExR} (h : isC sh R) : sh[75]? = some (0, 4) := h.1 75 _ rfl
theorem sC_76 {sh : ExSh} {R : ExR} (h : isC sh R) : sh[76]? = some (0, 8) := h.1 76 _ rfl
theorem sC_77 {sh : ExSh} {R : ExR} (h : isC sh R) : sh[77]? = some (0, 8) := h.1 77 _ rfl
theorem sC_78 {sh : ExSh} {R : ExR} (h : isC sh R) : sh[78]? = some (0, 8) := h.1 78 _ rfl
theorem sC_79 {sh : ExSh} {R : ExR} (h : isC sh R) : sh[79]? = some (0, 8) := h.1 79 _ rfl
theorem sC_80 {sh : ExSh} {R : ExR} (h : isC sh R) : sh[80]? = some (1, 400) := h.1 80 _ rfl
theorem sC_81 {sh : ExSh} {R : ExR} (h : isC sh R) : sh[81]? = some (0, 1800) := h.1 81 _ rfl
theorem sC_82 {sh : ExSh} {R : ExR} (h : isC sh R) : sh[82]? = some (0, 1800) := h.1 82 _ rfl
theorem sC_83 {sh : ExSh} {R : ExR} (h : isC sh R) : sh[83]? = some (0, 6) := h.1 83 _ rfl
theorem sC_84 {sh : ExSh} {R : ExR} (h : isC sh R) : sh[84]? = some (0, 72) := h.1 84 _ rfl
theorem sC_85 {sh : ExSh} {R : ExR} (h : isC sh R) : sh[85]? = some (0, 72) := h.1 85 _ rfl
theorem sC_86 {sh : ExSh} {R : ExR} (h : isC sh R) : sh[86]? = some (0, 72) := h.1 86 _ rfl
theorem sC_87 {sh : ExSh} {R : ExR} (h : isC sh R) : sh[87]? = some (0, 402) := h.1 87 _ rfl
theorem sC_88 {sh : ExSh} {R : ExR} (h : isC sh R) : sh[88]? = some (3, 11) := h.1 88 _ rfl
theorem sC_89 {sh : ExSh} {R : ExR} (h : isC sh R) : sh[89]? = some (3, 300) := h.1 89 _ rfl
theorem sC_90 {sh : ExSh} {R : ExR} (h : isC sh R) : sh[90]? = some (0, 8) := h.1 90 _ rfl
theorem sC_91 {sh : ExSh} {R : ExR} (h : isC sh R) : sh[91]? = some (0, 260) := h.1 91 _ rfl
theorem sC_92 {sh : ExSh} {R : ExR} (h : isC sh R) : sh[92]? = some (0, 1) := h.1 92 _ rfl
theorem sC_93 {sh : ExSh} {R : ExR} (h : isC sh R) : sh[93]? = some (2, 256) := h.1 93 _ rfl
theorem sC_94 {sh : ExSh} {R : ExR} (h : isC sh R) : sh[94]? = some (0, 4) := h.1 94 _ rfl
theorem sC_95 {sh : ExSh} {R : ExR} (h : isC sh R) : sh[95]? = some (0, 4) := h.1 95 _ rfl
theorem sC_96 {sh : ExSh} {R : ExR} (h : isC sh R) : sh[96]? = some (0, 488) := h.1 96 _ rfl
theorem sC_97 {sh : ExSh} {R : ExR} (h : isC sh R) : sh[97]? = some (0, 56) := h.1 97 _ rfl
theorem sC_98 {sh : ExSh} {R : ExR} (h : isC sh R) : sh[98]? = some (0, 2000) := h.1 98 _ rfl
theorem sC_99 {sh : ExSh} {R : ExR} (h : isC sh R) : sh[99]? = some (2, 4) := h.1 99 _ rfl
theorem rC_0_1 {sh : ExSh} {R : ExR} (h : isC sh R) : R 0 1 = (.ref 1) := h.2 0 1 rfl
theorem rC_0_2 {sh : ExSh} {R : ExR} (h : isC sh R) : R 0 2 = (.ref 13) := h.2 0 2 rfl
theorem rC_0_3 {sh : ExSh} {R : ExR} (h : isC sh R) : R 0 3 = (.ref 25) := h.2 0 3 rfl
theorem rC_0_4 {sh : ExSh} {R : ExR} (h : isC sh R) : R 0 4 = (.ref 37) := h.2 0 4 rfl
theorem rC_0_7 {sh : ExSh} {R : ExR} (h : isC sh R) : R 0 7 = (.ref 49) := h.2 0 7 rfl
theorem rC_0_8 {sh : ExSh} {R : ExR} (h : isC sh R) : R 0 8 = (.ref 50) := h.2 0 8 rfl
theorem rC_51_0 {sh : ExSh} {R : ExR} (h : isC sh R) : R 51 0 = (.float (0 : Nat).toUInt32) := h.2 51 0 rfl
theorem rC_51_1 {sh : ExSh} {R : ExR} (h : isC sh R) : R 51 1 = (.float (1 : Nat).toUInt32) := h.2 51 1 rfl
theorem rC_51_2 {sh : ExSh} {R : ExR} (h : isC sh R) : R 51 2 = (.float (2 : Nat).toUInt32) := h.2 51 2 rfl
theorem rC_51_3 {sh : ExSh} {R : ExR} (h : isC sh R) : R 51 3 = (.float (3 : Nat).toUInt32) := h.2 51 3 rfl
theorem rC_0_10 {sh : ExSh} {R : ExR} (h : isC sh R) : R 0 10 = (.ref 51) := h.2 0 10 rfl
theorem rC_52_0 {sh : ExSh} {R : ExR} (h : isC sh R) : R 52 0 = (.float (4 : Nat).toUInt32) := h.2 52 0 rfl
theorem rC_0_11 {sh : ExSh} {R : ExR} (h : isC sh R) : R 0 11 = (.ref 52) := h.2 0 11 rfl
theorem rC_53_0 {sh : ExSh} {R : ExR} (h : isC sh R) : R 53 0 = (.float (3 : Nat).toUInt32) := h.2 53 0 rfl
theorem rC_53_1 {sh : ExSh} {R : ExR} (h : isC sh R) : R 53 1 = (.float (2 : Nat).toUInt32) := h.2 53 1 rfl
theorem rC_53_2 {sh : ExSh} {R : ExR} (h : isC sh R) : R 53 2 = (.float (5 : Nat).toUInt32) := h.2 53 2 rfl
theorem rC_53_3 {sh : ExSh} {R : ExR} (h : isC sh R) : R 53 3 = (.float (6 : Nat).toUInt32) := h.2 53 3 rfl
theorem rC_53_4 {sh : ExSh} {R : ExR} (h : isC sh R) : R 53 4 = (.float (7 : Nat).toUInt32) := h.2 53 4 rfl
theorem rC_53_5 {sh : ExSh} {R : ExR} (h : isC sh R) : R 53 5 = (.float (8 : Nat).toUInt32) := h.2 53 5 rfl
theorem rC_53_6 {sh : ExSh} {R : ExR} (h : isC sh R) : R 53 6 = (.float (9 : Nat).toUInt32) := h.2 53 6 rfl
theorem rC_53_7 {sh : ExSh} {R : ExR} (h : isC sh R) : R 53 7 = (.float (10 : Nat).toUInt32) := h.2 53 7 rfl
theorem rC_53_8 {sh : ExSh} {R : ExR} (h : isC sh R) : R 53 8 = (.float (11 : Nat).toUInt32) := h.2 53 8 rfl
theorem rC_53_9 {sh : ExSh} {R : ExR} (h : isC sh R) : R 53 9 = (.float (12 : Nat).toUInt32) := h.2 53 9 rfl
theorem rC_53_10 {sh : ExSh} {R : ExR} (h : isC sh R) : R 53 10 = (.float (13 : Nat).toUInt32) := h.2 53 10 rfl
theorem rC_0_12 {sh : ExSh} {R : ExR} (h : isC sh R) : R 0 12 = (.ref 53) := h.2 0 12 rfl
theorem rC_0_13 {sh : ExSh} {R : ExR} (h : isC sh R) : R 0 13 = (.ref 54) := h.2 0 13 rfl
theorem rC_0_15 {sh : ExSh} {R : ExR} (h : isC sh R) : R 0 15 = (.ref 55) := h.2 0 15 rfl
theorem rC_0_16 {sh : ExSh} {R : ExR} (h : isC sh R) : R 0 16 = (.ref 56) := h.2 0 16 rfl
theorem rC_0_17 {sh : ExSh} {R : ExR} (h : isC sh R) : R 0 17 = (.ref 57) := h.2 0 17 rfl
theorem rC_0_18 {sh : ExSh} {R : ExR} (h : isC sh R) : R 0 18 = (.ref 58) := h.2 0 18 rfl
theorem rC_0_19 {sh : ExSh} {R : ExR} (h : isC sh R) : R 0 19 = (.ref 59) := h.2 0 19 rfl
theorem rC_0_20 {sh : ExSh} {R : ExR} (h : isC sh R) : R 0 20 = (.ref 60) := h.2 0 20 rfl
theorem rC_0_22 {sh : ExSh} {R : ExR} (h : isC sh R) : R 0 22 = (.ref 61) := h.2 0 22 rfl
theorem rC_62_1 {sh : ExSh} {R : ExR} (h : isC sh R) : R 62 1 = (.ref 63) := h.2 62 1 rfl
theorem rC_62_2 {sh : ExSh} {R : ExR} (h : isC sh R) : R 62 2 = (.ref 64) := h.2 62 2 rfl
theorem rC_62_3 {sh : ExSh} {R : ExR} (h : isC sh R) : R 62 3 = (.ref 65) := h.2 62 3 rfl
theorem rC_62_4 {sh : ExSh} {R : ExR} (h : isC sh R) : R 62 4 = (.ref 66) := h.2 62 4 rfl
theorem rC_62_5 {sh : ExSh} {R : ExR} (h : isC sh R) : R 62 5 = (.ref 67) := h.2 62 5 rfl
theorem rC_62_6 {sh : ExSh} {R : ExR} (h : isC sh R) : R 62 6 = (.ref 68) := h.2 62 6 rfl
theorem rC_62_7 {sh : ExSh} {R : ExR} (h : isC sh R) : R 62 7 = (.ref 69) := h.2 62 7 rfl
theorem rC_62_8 {sh : ExSh} {R : ExR} (h : isC sh R) : R 62 8 = (.ref 70) := h.2 62 8 rfl
theorem rC_62_9 {sh : ExSh} {R : ExR} (h : isC sh R) : R 62 9 = (.ref 71) := h.2 62 9 rfl
theorem rC_62_10 {sh : ExSh} {R : ExR} (h : isC sh R) : R 62 10 = (.ref 72) := h.2 62 10 rfl
theorem rC_62_11 {sh : ExSh} {R : ExR} (h : isC sh R) : R 62 11 = (.ref 73) := h.2 62 11 rfl
theorem rC_62_12 {sh : ExSh} {R : ExR} (h : isC sh R) : R 62 12 = (.ref 74) := h.2 62 12 rfl
theorem rC_62_13 {sh : ExSh} {R : ExR} (h : isC sh R) : R 62 13 = (.ref 75) := h.2 62 13 rfl
theorem rC_62_14 {sh : ExSh} {R : ExR} (h : isC sh R) : R 62 14 = (.ref 76) := h.2 62 14 rfl
theorem rC_62_15 {sh : ExSh} {R : ExR} (h : isC sh R) : R 62 15 = (.ref 77) := h.2 62 15 rfl
theorem rC_62_16 {sh : ExSh} {R : ExR} (h : isC sh R) : R 62 16 = (.ref 78) := h.2 62 16 rfl
theorem rC_62_17 {sh : ExSh} {R : ExR} (h : isC sh R) : R 62 17 = (.ref 79) := h.2 62 17 rfl
theorem rC_62_28 {sh : ExSh} {R : ExR} (h : isC sh R) : R 62 28 = (.ref 80) := h.2 62 28 rfl
theorem rC_62_29 {sh : ExSh} {R : ExR} (h : isC sh R) : R 62 29 = (.ref 81) := h.2 62 29 rfl
theorem rC_62_30 {sh : ExSh} {R : ExR} (h : isC sh R) : R 62 30 = (.ref 82) := h.2 62 30 rfl
theorem rC_62_31 {sh : ExSh} {R : ExR} (h : isC sh R) : R 62 31 = (.ref 83) := h.2 62 31 rfl
theorem rC_62_32 {sh : ExSh} {R : ExR} (h : isC sh R) : R 62 32 = (.ref 84) := h.2 62 32 rfl
theorem rC_62_33 {sh : ExSh} {R : ExR} (h : isC sh R) : R 62 33 = (.ref 85) := h.2 62 33 rfl
theorem rC_62_34 {sh : ExSh} {R : ExR} (h : isC sh R) : R 62 34 = (.ref 86) := h.2 62 34 rfl
theorem rC_62_35 {sh : ExSh} {R : ExR} (h : isC sh R) : R 62 35 = (.ref 87) := h.2 62 35 rfl
theorem rC_62_36 {sh : ExSh} {R : ExR} (h : isC sh R) : R 62 36 = (.ref 88) := h.2 62 36 rfl
theorem rC_62_37 {sh : ExSh} {R : ExR} (h : isC sh R) : R 62 37 = (.ref 89) := h.2 62 37 rfl
theorem rC_62_38 {sh : ExSh} {R : ExR} (h : isC sh R) : R 62 38 = (.ref 90) := h.2 62 38 rfl
theorem rC_62_39 {sh : ExSh} {R : ExR} (h : isC sh R) : R 62 39 = (.ref 91) := h.2 62 39 rfl
theorem rC_62_40 {sh : ExSh} {R : ExR} (h : isC sh R) : R 62 40 = (.ref 92) := h.2 62 40 rfl
theorem rC_62_44 {sh : ExSh} {R : ExR} (h : isC sh R) : R 62 44 = (.ref 93) := h.2 62 44 rfl
theorem rC_62_45 {sh : ExSh} {R : ExR} (h : isC sh R) : R 62 45 = (.ref 94) := h.2 62 45 rfl
theorem rC_62_46 {sh : ExSh} {R : ExR} (h : isC sh R) : R 62 46 = (.ref 95) := h.2 62 46 rfl
theorem rC_62_47 {sh : ExSh} {R : ExR} (h : isC sh R) : R 62 47 = (.ref 96) := h.2 62 47 rfl
theorem rC_62_48 {sh : ExSh} {R : ExR} (h : isC sh R) : R 62 48 = (.ref 97) := h.2 62 48 rfl
theorem rC_62_49 {sh : ExSh} {R : ExR} (h : isC sh R) : R 62 49 = (.ref 98) := h.2 62 49 rfl
theorem rC_62_50 {sh : ExSh} {R : ExR} (h : isC sh R) : R 62 50 = (.ref 99) := h.2 62 50 rfl
theorem rC_1_7 {sh : ExSh} {R : ExR} (h : isC sh R) : R 1 7 = (.ref 2) := h.2 1 7 rfl
theorem rC_1_8 {sh : ExSh} {R : ExR} (h : isC sh R) : R 1 8 = (.ref 3) := h.2 1 8 rfl
theorem rC_1_9 {sh : ExSh} {R : ExR} (h : isC sh R) : R 1 9 = (.ref 4) := h.2 1 9 rfl
theorem rC_1_10 {sh : ExSh} {R : ExR} (h : isC sh R) : R 1 10 = (.ref 5) := h.2 1 10 rfl
theorem rC_1_11 {sh : ExSh} {R : ExR} (h : isC sh R) : R 1 11 = (.ref 6) := h.2 1 11 rfl
theorem rC_1_12 {sh : ExSh} {R : ExR} (h : isC sh R) : R 1 12 = (.ref 7) := h.2 1 12 rfl
theorem rC_1_13 {sh : ExSh} {R : ExR} (h : isC sh R) : R 1 13 = (.ref 8) := h.2 1 13 rfl
theorem rC_1_14 {sh : ExSh} {R : ExR} (h : isC sh R) : R 1 14 = (.ref 9) := h.2 1 14 rfl
theorem rC_1_15 {sh : ExSh} {R : ExR} (h : isC sh R) : R 1 15 = (.ref 10) := h.2 1 15 rfl
theorem rC_1_16 {sh : ExSh} {R : ExR} (h : isC sh R) : R 1 16 = (.ref 11) := h.2 1 16 rfl
theorem rC_1_17 {sh : ExSh} {R : ExR} (h : isC sh R) : R 1 17 = (.ref 12) := h.2 1 17 rfl
theorem rC_13_7 {sh : ExSh} {R : ExR} (h : isC sh R) : R 13 7 = (.ref 14) := h.2 13 7 rfl
theorem rC_13_8 {sh : ExSh} {R : ExR} (h : isC sh R) : R 13 8 = (.ref 15) := h.2 13 8 rfl
theorem rC_13_9 {sh : ExSh} {R : ExR} (h : isC sh R) : R 13 9 = (.ref 16) := h.2 13 9 rfl
theorem rC_13_10 {sh : ExSh} {R : ExR} (h : isC sh R) : R 13 10 = (.ref 17) := h.2 13 10 rfl
theorem rC_13_11 {sh : ExSh} {R : ExR} (h : isC sh R) : R 13 11 = (.ref 18) := h.2 13 11 rfl
theorem rC_13_12 {sh : ExSh} {R : ExR} (h : isC sh R) : R 13 12 = (.ref 19) := h.2 13 12 rfl
theorem rC_13_13 {sh : ExSh} {R : ExR} (h : isC sh R) : R 13 13 = (.ref 20) := h.2 13 13 rfl
theorem rC_13_14 {sh : ExSh} {R : ExR} (h : isC sh R) : R 13 14 = (.ref 21) := h.2 13 14 rfl
theorem rC_13_15 {sh : ExSh} {R : ExR} (h : isC sh R) : R 13 15 = (.ref 22) := h.2 13 15 rfl
theorem rC_13_16 {sh : ExSh} {R : ExR} (h : isC sh R) : R 13 16 = (.ref 23) := h.2 13 16 rfl
theorem rC_13_17 {sh : ExSh} {R : ExR} (h : isC sh R) : R 13 17 = (.ref 24) := h.2 13 17 rfl
theorem rC_25_7 {sh : ExSh} {R : ExR} (h : isC sh R) : R 25 7 = (.ref 26) := h.2 25 7 rfl
theorem rC_25_8 {sh : ExSh} {R : ExR} (h : isC sh R) : R 25 8 = (.ref 27) := h.2 25 8 rfl
theorem rC_25_9 {sh : ExSh} {R : ExR} (h : isC sh R) : R 25 9 = (.ref 28) := h.2 25 9 rfl
theorem rC_25_10 {sh : ExSh} {R : ExR} (h : isC sh R) : R 25 10 = (.ref 29) := h.2 25 10 rfl
theorem rC_25_11 {sh : ExSh} {R : ExR} (h : isC sh R) : R 25 11 = (.ref 30) := h.2 25 11 rfl
theorem rC_25_12 {sh : ExSh} {R : ExR} (h : isC sh R) : R 25 12 = (.ref 31) := h.2 25 12 rfl
theorem rC_25_13 {sh : ExSh} {R : ExR} (h : isC sh R) : R 25 13 = (.ref 32) := h.2 25 13 rfl
theorem rC_25_14 {sh : ExSh} {R : ExR} (h : isC sh R) : R 25 14 = (.ref 33) := h.2 25 14 rfl
theorem rC_25_15 {sh : ExSh} {R : ExR} (h : isC sh R) : R 25 15 = (.ref 34) := h.2 25 15 rfl
theorem rC_25_16 {sh : ExSh} {R : ExR} (h : isC sh R) : R 25 16 = (.ref 35) := h.2 25 16 rfl
theorem rC_25_17 {sh : ExSh} {R : ExR} (h : isC sh R) : R 25 17 = (.ref 36) := h.2 25 17 rfl
theorem rC_37_7 {sh : ExSh} {R : ExR} (h : isC sh R) : R 37 7 = (.ref 38) := h.2 37 7 rfl
theorem rC_37_8 {sh : ExSh} {R : ExR} (h : isC sh R) : R 37 8 = (.ref 39) := h.2 37 8 rfl
theorem rC_37_9 {sh : ExSh} {R : ExR} (h : isC sh R) : R 37 9 = (.ref 40) := h.2 37 9 rfl
theorem rC_37_10 {sh : ExSh} {R : ExR} (h : isC sh R) : R 37 10 = (.ref 41) := h.2 37 10 rfl
theorem rC_37_11 {sh : ExSh} {R : ExR} (h : isC sh R) : R 37 11 = (.ref 42) := h.2 37 11 rfl
theorem rC_37_12 {sh : ExSh} {R : ExR} (h : isC sh R) : R 37 12 = (.ref 43) := h.2 37 12 rfl
theorem rC_37_13 {sh : ExSh} {R : ExR} (h : isC sh R) : R 37 13 = (.ref 44) := h.2 37 13 rfl
theorem rC_37_14 {sh : ExSh} {R : ExR} (h : isC sh R) : R 37 14 = (.ref 45) := h.2 37 14 rfl
theorem rC_37_15 {sh : ExSh} {R : ExR} (h : isC sh R) : R 37 15 = (.ref 46) := h.2 37 15 rfl
theorem rC_37_16 {sh : ExSh} {R : ExR} (h : isC sh R) : R 37 16 = (.ref 47) := h.2 37 16 rfl
theorem rC_37_17 {sh : ExSh} {R : ExR} (h : isC sh R) : R 37 17 = (.ref 48) := h.2 37 17 rfl
theorem isD_1 {sh : ExSh} {R : ExR} (h : isC sh R) : isD sh R 1 := ⟨sC_1 h, sC_2 h, sC_3 h, sC_4 h, sC_5 h, sC_6 h, sC_7 h, sC_8 h, sC_9 h, sC_10 h, sC_11 h, sC_12 h, rC_1_7 h, rC_1_8 h, rC_1_9 h, rC_1_10 h, rC_1_11 h, rC_1_12 h, rC_1_13 h, rC_1_14 h, rC_1_15 h, rC_1_16 h, rC_1_17 h⟩
theorem isD_13 {sh : ExSh} {R : ExR} (h : isC sh R) : isD sh R 13 := ⟨sC_13 h, sC_14 h, sC_15 h, sC_16 h, sC_17 h, sC_18 h, sC_19 h, sC_20 h, sC_21 h, sC_22 h, sC_23 h, sC_24 h, rC_13_7 h, rC_13_8 h, rC_13_9 h, rC_13_10 h, rC_13_11 h, rC_13_12 h, rC_13_13 h, rC_13_14 h, rC_13_15 h, rC_13_16 h, rC_13_17 h⟩
theorem isD_25 {sh : ExSh} {R : ExR} (h : isC sh R) : isD sh R 25 := ⟨sC_25 h, sC_26 h, sC_27 h, sC_28 h, sC_29 h, sC_30 h, sC_31 h, sC_32 h, sC_33 h, sC_34 h, sC_35 h, sC_36 h, rC_25_7 h, rC_25_8 h, rC_25_9 h, rC_25_10 h, rC_25_11 h, rC_25_12 h, rC_25_13 h, rC_25_14 h, rC_25_15 h, rC_25_16 h, rC_25_17 h⟩
theorem isD_37 {sh : ExSh} {R : ExR} (h : isC sh R) : isD sh R 37 := ⟨sC_37 h, sC_38 h, sC_39 h, sC_40 h, sC_41 h, sC_42 h, sC_43 h, sC_44 h, sC_45 h, sC_46 h, sC_47 h, sC_48 h, rC_37_7 h, rC_37_8 h, rC_37_9 h, rC_37_10 h, rC_37_11 h, rC_37_12 h, rC_37_13 h, rC_37_14 h, rC_37_15 h, rC_37_16 h, rC_37_17 h⟩
