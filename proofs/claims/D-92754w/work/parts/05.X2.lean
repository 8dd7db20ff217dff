/-! AcornYearsModel -/
set_option maxRecDepth 100000
def RX2 : String := "AcornYearsModel"
def TX2 : u_T := fun k => match k with
  | 0 => ("AcornYearsModel", "latest", "I", false)
  | 1 => ("AcornYearsModel", "came", "[I", true)
  | 2 => ("AcornYearsModel", "asked", "I", false)
  | 3 => ("AcornYearsModel", "upper", "J", false)
  | 4 => ("AcornYearsModel", "lower", "J", false)
  | 5 => ("AcornYearsModel", "sizes", "[I", true)
  | 6 => ("AcornYearsModel", "rows", "[I", true)
  | 7 => ("AcornYearsModel", "copied", "[I", true)
  | 8 => ("AcornYearsModel", "textSizes", "[I", true)
  | 9 => ("AcornYearsModel", "bytes", "[B", true)
  | 10 => ("AcornYearsModel", "readAt", "I", false)
  | 11 => ("AcornYearsModel", "readNumber", "I", false)
  | 12 => ("AcornYearsModel", "readSorts", "I", false)
  | 13 => ("AcornYearsModel", "readSort", "[I", true)
  | 14 => ("AcornYearsModel", "readEaters", "I", false)
  | 15 => ("AcornYearsModel", "readEater", "[I", true)
  | 16 => ("AcornYearsModel", "readJay", "[I", true)
  | 17 => ("AcornYearsModel", "readLong", "I", false)
  | 18 => ("AcornYearsModel", "readCalendar", "[I", true)
  | 19 => ("AcornYearsModel", "readChances", "[I", true)
  | 20 => ("AcornYearsModel", "sortMany", "I", false)
  | 21 => ("AcornYearsModel", "sorts", "[I", true)
  | 22 => ("AcornYearsModel", "eaterMany", "I", false)
  | 23 => ("AcornYearsModel", "eats", "[I", true)
  | 24 => ("AcornYearsModel", "grows", "[I", true)
  | 25 => ("AcornYearsModel", "comesMore", "[I", true)
  | 26 => ("AcornYearsModel", "hides", "I", false)
  | 27 => ("AcornYearsModel", "forgets", "I", false)
  | 28 => ("AcornYearsModel", "calendarLong", "I", false)
  | 29 => ("AcornYearsModel", "calendar", "[I", true)
  | 30 => ("AcornYearsModel", "chances", "[I", true)
  | 31 => ("AcornYearsModel", "year", "I", false)
  | 32 => ("AcornYearsModel", "mouse", "[I", true)
  | 33 => ("AcornYearsModel", "treeMany", "I", false)
  | 34 => ("AcornYearsModel", "sortOf", "[I", true)
  | 35 => ("AcornYearsModel", "store", "[I", true)
  | 36 => ("AcornYearsModel", "bloomed", "[I", true)
  | 37 => ("AcornYearsModel", "lastBloom", "[I", true)
  | 38 => ("AcornYearsModel", "acorns", "I", false)
  | 39 => ("AcornYearsModel", "seedlings", "I", false)
  | 40 => ("AcornYearsModel", "blooming", "I", false)
  | 41 => ("AcornYearsModel", "bloomSet", "I", false)
  | 42 => ("AcornYearsModel", "acornsOf", "[I", true)
  | 43 => ("AcornYearsModel", "starved", "[Z", true)
  | 44 => ("AcornYearsModel", "walkers", "[I", true)
  | 45 => ("AcornYearsModel", "kept", "[I", true)
  | 46 => ("AcornYearsModel", "since", "I", false)
  | 47 => ("AcornYearsModel", "round", "I", false)
  | 48 => ("AcornYearsModel", "ringAcorns", "J", false)
  | 49 => ("AcornYearsModel", "ringMost", "I", false)
  | 50 => ("AcornYearsModel", "ringSeedlings", "J", false)
  | 51 => ("AcornYearsModel", "ringBlooms", "J", false)
  | 52 => ("AcornYearsModel", "ringOnes", "J", false)
  | 53 => ("AcornYearsModel", "ringBoth", "J", false)
  | 54 => ("AcornYearsModel", "treeAcorns", "J", false)
  | 55 => ("AcornYearsModel", "treeGain", "J", false)
  | 56 => ("AcornYearsModel", "ringStarved", "I", false)
  | 57 => ("AcornYearsModel", "wasNumber", "[I", true)
  | 58 => ("AcornYearsModel", "byGain", "J", false)
  | 59 => ("AcornYearsModel", "byRound", "I", false)
  | _ => ("AcornYearsModel", "h", "J", false)
def tyX2 : Nat → FieldType := fun k => match k with
  | 0 => .int
  | 1 => .array .int
  | 2 => .int
  | 3 => .long
  | 4 => .long
  | 5 => .array .int
  | 6 => .array .int
  | 7 => .array .int
  | 8 => .array .int
  | 9 => .array .byte
  | 10 => .int
  | 11 => .int
  | 12 => .int
  | 13 => .array .int
  | 14 => .int
  | 15 => .array .int
  | 16 => .array .int
  | 17 => .int
  | 18 => .array .int
  | 19 => .array .int
  | 20 => .int
  | 21 => .array .int
  | 22 => .int
  | 23 => .array .int
  | 24 => .array .int
  | 25 => .array .int
  | 26 => .int
  | 27 => .int
  | 28 => .int
  | 29 => .array .int
  | 30 => .array .int
  | 31 => .int
  | 32 => .array .int
  | 33 => .int
  | 34 => .array .int
  | 35 => .array .int
  | 36 => .array .int
  | 37 => .array .int
  | 38 => .int
  | 39 => .int
  | 40 => .int
  | 41 => .int
  | 42 => .array .int
  | 43 => .array .boolean
  | 44 => .array .int
  | 45 => .array .int
  | 46 => .int
  | 47 => .int
  | 48 => .long
  | 49 => .int
  | 50 => .long
  | 51 => .long
  | 52 => .long
  | 53 => .long
  | 54 => .long
  | 55 => .long
  | 56 => .int
  | 57 => .array .int
  | 58 => .long
  | 59 => .int
  | _ => .long
abbrev wsX20 : List Cond := u_ws RX2 TX2 61
set_option maxRecDepth 100000 in
theorem nmX2 : ∀ a, a < 61 → ∀ b, b < 61 → a ≠ b → (TX2 a).2.1 ≠ (TX2 b).2.1 := by decide +kernel
set_option maxRecDepth 100000 in
theorem tyX2_ok : ∀ k, k < 61 → parseFieldDescriptor (TX2 k).2.2.1 = some (tyX2 k) := by decide +kernel
abbrev cX2_init : ByteArray := prog_12_method_1_code
def yX2_init : MethodName := ⟨RX2, "<init>", "()V"⟩
def dkwX2_init_12 : List UInt8 := [27, 2, 79, 132, 1, 1, 167, 255, 241, 177]
abbrev dktX2_init_12 : List UInt8 := dkwX2_init_12 ++ []
def dkwX2_init_11 : List UInt8 := [42, 180, 0, 13, 27, 2, 79, 132, 1, 1, 167, 255, 240, 3, 60, 27, 7, 162, 0, 16, 42, 180, 0, 22]
abbrev dktX2_init_11 : List UInt8 := dkwX2_init_11 ++ dktX2_init_12
def dkwX2_init_10 : List UInt8 := [162, 0, 16, 42, 180, 0, 59, 27, 7, 79, 132, 1, 1, 167, 255, 241, 3, 60, 27, 16, 6, 162, 0, 16]
abbrev dktX2_init_10 : List UInt8 := dkwX2_init_10 ++ dktX2_init_11
def dkwX2_init_9 : List UInt8 := [181, 0, 90, 42, 10, 181, 0, 93, 42, 4, 181, 0, 97, 42, 180, 0, 56, 3, 4, 79, 3, 60, 27, 6]
abbrev dktX2_init_9 : List UInt8 := dkwX2_init_9 ++ dktX2_init_10
def dkwX2_init_8 : List UInt8 := [181, 0, 80, 42, 16, 81, 188, 10, 181, 0, 84, 42, 16, 75, 188, 10, 181, 0, 87, 42, 16, 6, 188, 10]
abbrev dktX2_init_8 : List UInt8 := dkwX2_init_8 ++ dktX2_init_9
def dkwX2_init_7 : List UInt8 := [181, 0, 71, 42, 16, 24, 188, 10, 181, 0, 74, 42, 16, 24, 188, 10, 181, 0, 77, 42, 5, 188, 4]
abbrev dktX2_init_7 : List UInt8 := dkwX2_init_7 ++ dktX2_init_8
def dkwX2_init_6 : List UInt8 := [181, 0, 62, 42, 16, 24, 188, 10, 181, 0, 65, 42, 16, 24, 188, 10, 181, 0, 68, 42, 16, 24, 188, 10]
abbrev dktX2_init_6 : List UInt8 := dkwX2_init_6 ++ dktX2_init_7
def dkwX2_init_5 : List UInt8 := [181, 0, 53, 42, 16, 8, 188, 10, 181, 0, 56, 42, 6, 188, 10, 181, 0, 59, 42, 5, 188, 10]
abbrev dktX2_init_5 : List UInt8 := dkwX2_init_5 ++ dktX2_init_6
def dkwX2_init_4 : List UInt8 := [188, 10, 181, 0, 44, 42, 5, 188, 10, 181, 0, 47, 42, 5, 188, 10, 181, 0, 50, 42, 5, 188, 10]
abbrev dktX2_init_4 : List UInt8 := dkwX2_init_4 ++ dktX2_init_5
def dkwX2_init_3 : List UInt8 := [188, 10, 181, 0, 35, 42, 16, 8, 188, 10, 181, 0, 38, 42, 6, 188, 10, 181, 0, 41, 42, 16, 42]
abbrev dktX2_init_3 : List UInt8 := dkwX2_init_3 ++ dktX2_init_4
def dkwX2_init_2 : List UInt8 := [188, 8, 181, 0, 25, 42, 16, 42, 188, 10, 181, 0, 29, 42, 16, 8, 188, 10, 181, 0, 32, 42, 5]
abbrev dktX2_init_2 : List UInt8 := dkwX2_init_2 ++ dktX2_init_3
def dkwX2_init_1 : List UInt8 := [188, 10, 181, 0, 16, 42, 16, 80, 188, 10, 181, 0, 19, 42, 7, 188, 10, 181, 0, 22, 42, 17, 1, 64]
abbrev dktX2_init_1 : List UInt8 := dkwX2_init_1 ++ dktX2_init_2
def dkwX2_init_0 : List UInt8 := [42, 183, 0, 1, 42, 16, 6, 188, 10, 181, 0, 7, 42, 16, 6, 188, 10, 181, 0, 13, 42, 17, 1, 224]
abbrev dktX2_init_0 : List UInt8 := dkwX2_init_0 ++ dktX2_init_1
theorem dksX2_init_0 : cX2_init.data.toList.drop 0 = dktX2_init_0 := by decide +kernel
theorem dksX2_init_1 : cX2_init.data.toList.drop 24 = dktX2_init_1 := dk_seg dksX2_init_0 24 rfl rfl
theorem dksX2_init_2 : cX2_init.data.toList.drop 48 = dktX2_init_2 := dk_seg dksX2_init_1 24 rfl rfl
theorem dksX2_init_3 : cX2_init.data.toList.drop 71 = dktX2_init_3 := dk_seg dksX2_init_2 23 rfl rfl
theorem dksX2_init_4 : cX2_init.data.toList.drop 94 = dktX2_init_4 := dk_seg dksX2_init_3 23 rfl rfl
theorem dksX2_init_5 : cX2_init.data.toList.drop 117 = dktX2_init_5 := dk_seg dksX2_init_4 23 rfl rfl
theorem dksX2_init_6 : cX2_init.data.toList.drop 139 = dktX2_init_6 := dk_seg dksX2_init_5 22 rfl rfl
theorem dksX2_init_7 : cX2_init.data.toList.drop 163 = dktX2_init_7 := dk_seg dksX2_init_6 24 rfl rfl
theorem dksX2_init_8 : cX2_init.data.toList.drop 186 = dktX2_init_8 := dk_seg dksX2_init_7 23 rfl rfl
theorem dksX2_init_9 : cX2_init.data.toList.drop 210 = dktX2_init_9 := dk_seg dksX2_init_8 24 rfl rfl
theorem dksX2_init_10 : cX2_init.data.toList.drop 234 = dktX2_init_10 := dk_seg dksX2_init_9 24 rfl rfl
theorem dksX2_init_11 : cX2_init.data.toList.drop 258 = dktX2_init_11 := dk_seg dksX2_init_10 24 rfl rfl
theorem dksX2_init_12 : cX2_init.data.toList.drop 282 = dktX2_init_12 := dk_seg dksX2_init_11 24 rfl rfl
theorem dX2_init_0 : decode cX2_init 0 = .ok (.aload_n 0, 1) := dk_42 (dk_at dksX2_init_0 0 rfl rfl)
theorem dX2_init_1 : decode cX2_init 1 = .ok (.invokespecial 1, 3) := dk_183 0 1 (dk_at dksX2_init_0 1 rfl rfl)
theorem dX2_init_4 : decode cX2_init 4 = .ok (.aload_n 0, 1) := dk_42 (dk_at dksX2_init_0 4 rfl rfl)
theorem dX2_init_5 : decode cX2_init 5 = .ok (.bipush 6, 2) := dk_16 6 (dk_at dksX2_init_0 5 rfl rfl)
theorem dX2_init_7 : decode cX2_init 7 = .ok (.newarray .int, 2) := dk_188_10 (dk_at dksX2_init_0 7 rfl rfl)
theorem dX2_init_9 : decode cX2_init 9 = .ok (.putfield 7, 3) := dk_181 0 7 (dk_at dksX2_init_0 9 rfl rfl)
theorem dX2_init_12 : decode cX2_init 12 = .ok (.aload_n 0, 1) := dk_42 (dk_at dksX2_init_0 12 rfl rfl)
theorem dX2_init_13 : decode cX2_init 13 = .ok (.bipush 6, 2) := dk_16 6 (dk_at dksX2_init_0 13 rfl rfl)
theorem dX2_init_15 : decode cX2_init 15 = .ok (.newarray .int, 2) := dk_188_10 (dk_at dksX2_init_0 15 rfl rfl)
theorem dX2_init_17 : decode cX2_init 17 = .ok (.putfield 13, 3) := dk_181 0 13 (dk_at dksX2_init_0 17 rfl rfl)
theorem dX2_init_20 : decode cX2_init 20 = .ok (.aload_n 0, 1) := dk_42 (dk_at dksX2_init_0 20 rfl rfl)
theorem dX2_init_21 : decode cX2_init 21 = .ok (.sipush 480, 3) := dk_17 1 224 (dk_at dksX2_init_0 21 rfl rfl)
theorem dX2_init_24 : decode cX2_init 24 = .ok (.newarray .int, 2) := dk_188_10 (dk_at dksX2_init_1 0 rfl rfl)
theorem dX2_init_26 : decode cX2_init 26 = .ok (.putfield 16, 3) := dk_181 0 16 (dk_at dksX2_init_1 2 rfl rfl)
theorem dX2_init_29 : decode cX2_init 29 = .ok (.aload_n 0, 1) := dk_42 (dk_at dksX2_init_1 5 rfl rfl)
theorem dX2_init_30 : decode cX2_init 30 = .ok (.bipush 80, 2) := dk_16 80 (dk_at dksX2_init_1 6 rfl rfl)
theorem dX2_init_32 : decode cX2_init 32 = .ok (.newarray .int, 2) := dk_188_10 (dk_at dksX2_init_1 8 rfl rfl)
theorem dX2_init_34 : decode cX2_init 34 = .ok (.putfield 19, 3) := dk_181 0 19 (dk_at dksX2_init_1 10 rfl rfl)
theorem dX2_init_37 : decode cX2_init 37 = .ok (.aload_n 0, 1) := dk_42 (dk_at dksX2_init_1 13 rfl rfl)
theorem dX2_init_38 : decode cX2_init 38 = .ok (.iconst 4, 1) := dk_7 (dk_at dksX2_init_1 14 rfl rfl)
theorem dX2_init_39 : decode cX2_init 39 = .ok (.newarray .int, 2) := dk_188_10 (dk_at dksX2_init_1 15 rfl rfl)
theorem dX2_init_41 : decode cX2_init 41 = .ok (.putfield 22, 3) := dk_181 0 22 (dk_at dksX2_init_1 17 rfl rfl)
theorem dX2_init_44 : decode cX2_init 44 = .ok (.aload_n 0, 1) := dk_42 (dk_at dksX2_init_1 20 rfl rfl)
theorem dX2_init_45 : decode cX2_init 45 = .ok (.sipush 320, 3) := dk_17 1 64 (dk_at dksX2_init_1 21 rfl rfl)
theorem dX2_init_48 : decode cX2_init 48 = .ok (.newarray .byte, 2) := dk_188_8 (dk_at dksX2_init_2 0 rfl rfl)
theorem dX2_init_50 : decode cX2_init 50 = .ok (.putfield 25, 3) := dk_181 0 25 (dk_at dksX2_init_2 2 rfl rfl)
theorem dX2_init_53 : decode cX2_init 53 = .ok (.aload_n 0, 1) := dk_42 (dk_at dksX2_init_2 5 rfl rfl)
theorem dX2_init_54 : decode cX2_init 54 = .ok (.bipush 42, 2) := dk_16 42 (dk_at dksX2_init_2 6 rfl rfl)
theorem dX2_init_56 : decode cX2_init 56 = .ok (.newarray .int, 2) := dk_188_10 (dk_at dksX2_init_2 8 rfl rfl)
theorem dX2_init_58 : decode cX2_init 58 = .ok (.putfield 29, 3) := dk_181 0 29 (dk_at dksX2_init_2 10 rfl rfl)
theorem dX2_init_61 : decode cX2_init 61 = .ok (.aload_n 0, 1) := dk_42 (dk_at dksX2_init_2 13 rfl rfl)
theorem dX2_init_62 : decode cX2_init 62 = .ok (.bipush 8, 2) := dk_16 8 (dk_at dksX2_init_2 14 rfl rfl)
theorem dX2_init_64 : decode cX2_init 64 = .ok (.newarray .int, 2) := dk_188_10 (dk_at dksX2_init_2 16 rfl rfl)
theorem dX2_init_66 : decode cX2_init 66 = .ok (.putfield 32, 3) := dk_181 0 32 (dk_at dksX2_init_2 18 rfl rfl)
theorem dX2_init_69 : decode cX2_init 69 = .ok (.aload_n 0, 1) := dk_42 (dk_at dksX2_init_2 21 rfl rfl)
theorem dX2_init_70 : decode cX2_init 70 = .ok (.iconst 2, 1) := dk_5 (dk_at dksX2_init_2 22 rfl rfl)
theorem dX2_init_71 : decode cX2_init 71 = .ok (.newarray .int, 2) := dk_188_10 (dk_at dksX2_init_3 0 rfl rfl)
theorem dX2_init_73 : decode cX2_init 73 = .ok (.putfield 35, 3) := dk_181 0 35 (dk_at dksX2_init_3 2 rfl rfl)
theorem dX2_init_76 : decode cX2_init 76 = .ok (.aload_n 0, 1) := dk_42 (dk_at dksX2_init_3 5 rfl rfl)
theorem dX2_init_77 : decode cX2_init 77 = .ok (.bipush 8, 2) := dk_16 8 (dk_at dksX2_init_3 6 rfl rfl)
theorem dX2_init_79 : decode cX2_init 79 = .ok (.newarray .int, 2) := dk_188_10 (dk_at dksX2_init_3 8 rfl rfl)
theorem dX2_init_81 : decode cX2_init 81 = .ok (.putfield 38, 3) := dk_181 0 38 (dk_at dksX2_init_3 10 rfl rfl)
theorem dX2_init_84 : decode cX2_init 84 = .ok (.aload_n 0, 1) := dk_42 (dk_at dksX2_init_3 13 rfl rfl)
theorem dX2_init_85 : decode cX2_init 85 = .ok (.iconst 3, 1) := dk_6 (dk_at dksX2_init_3 14 rfl rfl)
theorem dX2_init_86 : decode cX2_init 86 = .ok (.newarray .int, 2) := dk_188_10 (dk_at dksX2_init_3 15 rfl rfl)
theorem dX2_init_88 : decode cX2_init 88 = .ok (.putfield 41, 3) := dk_181 0 41 (dk_at dksX2_init_3 17 rfl rfl)
theorem dX2_init_91 : decode cX2_init 91 = .ok (.aload_n 0, 1) := dk_42 (dk_at dksX2_init_3 20 rfl rfl)
theorem dX2_init_92 : decode cX2_init 92 = .ok (.bipush 42, 2) := dk_16 42 (dk_at dksX2_init_3 21 rfl rfl)
theorem dX2_init_94 : decode cX2_init 94 = .ok (.newarray .int, 2) := dk_188_10 (dk_at dksX2_init_4 0 rfl rfl)
theorem dX2_init_96 : decode cX2_init 96 = .ok (.putfield 44, 3) := dk_181 0 44 (dk_at dksX2_init_4 2 rfl rfl)
theorem dX2_init_99 : decode cX2_init 99 = .ok (.aload_n 0, 1) := dk_42 (dk_at dksX2_init_4 5 rfl rfl)
theorem dX2_init_100 : decode cX2_init 100 = .ok (.iconst 2, 1) := dk_5 (dk_at dksX2_init_4 6 rfl rfl)
theorem dX2_init_101 : decode cX2_init 101 = .ok (.newarray .int, 2) := dk_188_10 (dk_at dksX2_init_4 7 rfl rfl)
theorem dX2_init_103 : decode cX2_init 103 = .ok (.putfield 47, 3) := dk_181 0 47 (dk_at dksX2_init_4 9 rfl rfl)
theorem dX2_init_106 : decode cX2_init 106 = .ok (.aload_n 0, 1) := dk_42 (dk_at dksX2_init_4 12 rfl rfl)
theorem dX2_init_107 : decode cX2_init 107 = .ok (.iconst 2, 1) := dk_5 (dk_at dksX2_init_4 13 rfl rfl)
theorem dX2_init_108 : decode cX2_init 108 = .ok (.newarray .int, 2) := dk_188_10 (dk_at dksX2_init_4 14 rfl rfl)
theorem dX2_init_110 : decode cX2_init 110 = .ok (.putfield 50, 3) := dk_181 0 50 (dk_at dksX2_init_4 16 rfl rfl)
theorem dX2_init_113 : decode cX2_init 113 = .ok (.aload_n 0, 1) := dk_42 (dk_at dksX2_init_4 19 rfl rfl)
theorem dX2_init_114 : decode cX2_init 114 = .ok (.iconst 2, 1) := dk_5 (dk_at dksX2_init_4 20 rfl rfl)
theorem dX2_init_115 : decode cX2_init 115 = .ok (.newarray .int, 2) := dk_188_10 (dk_at dksX2_init_4 21 rfl rfl)
theorem dX2_init_117 : decode cX2_init 117 = .ok (.putfield 53, 3) := dk_181 0 53 (dk_at dksX2_init_5 0 rfl rfl)
theorem dX2_init_120 : decode cX2_init 120 = .ok (.aload_n 0, 1) := dk_42 (dk_at dksX2_init_5 3 rfl rfl)
theorem dX2_init_121 : decode cX2_init 121 = .ok (.bipush 8, 2) := dk_16 8 (dk_at dksX2_init_5 4 rfl rfl)
theorem dX2_init_123 : decode cX2_init 123 = .ok (.newarray .int, 2) := dk_188_10 (dk_at dksX2_init_5 6 rfl rfl)
theorem dX2_init_125 : decode cX2_init 125 = .ok (.putfield 56, 3) := dk_181 0 56 (dk_at dksX2_init_5 8 rfl rfl)
theorem dX2_init_128 : decode cX2_init 128 = .ok (.aload_n 0, 1) := dk_42 (dk_at dksX2_init_5 11 rfl rfl)
theorem dX2_init_129 : decode cX2_init 129 = .ok (.iconst 3, 1) := dk_6 (dk_at dksX2_init_5 12 rfl rfl)
theorem dX2_init_130 : decode cX2_init 130 = .ok (.newarray .int, 2) := dk_188_10 (dk_at dksX2_init_5 13 rfl rfl)
theorem dX2_init_132 : decode cX2_init 132 = .ok (.putfield 59, 3) := dk_181 0 59 (dk_at dksX2_init_5 15 rfl rfl)
theorem dX2_init_135 : decode cX2_init 135 = .ok (.aload_n 0, 1) := dk_42 (dk_at dksX2_init_5 18 rfl rfl)
theorem dX2_init_136 : decode cX2_init 136 = .ok (.iconst 2, 1) := dk_5 (dk_at dksX2_init_5 19 rfl rfl)
theorem dX2_init_137 : decode cX2_init 137 = .ok (.newarray .int, 2) := dk_188_10 (dk_at dksX2_init_5 20 rfl rfl)
theorem dX2_init_139 : decode cX2_init 139 = .ok (.putfield 62, 3) := dk_181 0 62 (dk_at dksX2_init_6 0 rfl rfl)
theorem dX2_init_142 : decode cX2_init 142 = .ok (.aload_n 0, 1) := dk_42 (dk_at dksX2_init_6 3 rfl rfl)
theorem dX2_init_143 : decode cX2_init 143 = .ok (.bipush 24, 2) := dk_16 24 (dk_at dksX2_init_6 4 rfl rfl)
theorem dX2_init_145 : decode cX2_init 145 = .ok (.newarray .int, 2) := dk_188_10 (dk_at dksX2_init_6 6 rfl rfl)
theorem dX2_init_147 : decode cX2_init 147 = .ok (.putfield 65, 3) := dk_181 0 65 (dk_at dksX2_init_6 8 rfl rfl)
theorem dX2_init_150 : decode cX2_init 150 = .ok (.aload_n 0, 1) := dk_42 (dk_at dksX2_init_6 11 rfl rfl)
theorem dX2_init_151 : decode cX2_init 151 = .ok (.bipush 24, 2) := dk_16 24 (dk_at dksX2_init_6 12 rfl rfl)
theorem dX2_init_153 : decode cX2_init 153 = .ok (.newarray .int, 2) := dk_188_10 (dk_at dksX2_init_6 14 rfl rfl)
theorem dX2_init_155 : decode cX2_init 155 = .ok (.putfield 68, 3) := dk_181 0 68 (dk_at dksX2_init_6 16 rfl rfl)
theorem dX2_init_158 : decode cX2_init 158 = .ok (.aload_n 0, 1) := dk_42 (dk_at dksX2_init_6 19 rfl rfl)
theorem dX2_init_159 : decode cX2_init 159 = .ok (.bipush 24, 2) := dk_16 24 (dk_at dksX2_init_6 20 rfl rfl)
theorem dX2_init_161 : decode cX2_init 161 = .ok (.newarray .int, 2) := dk_188_10 (dk_at dksX2_init_6 22 rfl rfl)
theorem dX2_init_163 : decode cX2_init 163 = .ok (.putfield 71, 3) := dk_181 0 71 (dk_at dksX2_init_7 0 rfl rfl)
theorem dX2_init_166 : decode cX2_init 166 = .ok (.aload_n 0, 1) := dk_42 (dk_at dksX2_init_7 3 rfl rfl)
theorem dX2_init_167 : decode cX2_init 167 = .ok (.bipush 24, 2) := dk_16 24 (dk_at dksX2_init_7 4 rfl rfl)
theorem dX2_init_169 : decode cX2_init 169 = .ok (.newarray .int, 2) := dk_188_10 (dk_at dksX2_init_7 6 rfl rfl)
theorem dX2_init_171 : decode cX2_init 171 = .ok (.putfield 74, 3) := dk_181 0 74 (dk_at dksX2_init_7 8 rfl rfl)
theorem dX2_init_174 : decode cX2_init 174 = .ok (.aload_n 0, 1) := dk_42 (dk_at dksX2_init_7 11 rfl rfl)
theorem dX2_init_175 : decode cX2_init 175 = .ok (.bipush 24, 2) := dk_16 24 (dk_at dksX2_init_7 12 rfl rfl)
theorem dX2_init_177 : decode cX2_init 177 = .ok (.newarray .int, 2) := dk_188_10 (dk_at dksX2_init_7 14 rfl rfl)
theorem dX2_init_179 : decode cX2_init 179 = .ok (.putfield 77, 3) := dk_181 0 77 (dk_at dksX2_init_7 16 rfl rfl)
theorem dX2_init_182 : decode cX2_init 182 = .ok (.aload_n 0, 1) := dk_42 (dk_at dksX2_init_7 19 rfl rfl)
theorem dX2_init_183 : decode cX2_init 183 = .ok (.iconst 2, 1) := dk_5 (dk_at dksX2_init_7 20 rfl rfl)
theorem dX2_init_184 : decode cX2_init 184 = .ok (.newarray .boolean, 2) := dk_188_4 (dk_at dksX2_init_7 21 rfl rfl)
theorem dX2_init_186 : decode cX2_init 186 = .ok (.putfield 80, 3) := dk_181 0 80 (dk_at dksX2_init_8 0 rfl rfl)
theorem dX2_init_189 : decode cX2_init 189 = .ok (.aload_n 0, 1) := dk_42 (dk_at dksX2_init_8 3 rfl rfl)
theorem dX2_init_190 : decode cX2_init 190 = .ok (.bipush 81, 2) := dk_16 81 (dk_at dksX2_init_8 4 rfl rfl)
theorem dX2_init_192 : decode cX2_init 192 = .ok (.newarray .int, 2) := dk_188_10 (dk_at dksX2_init_8 6 rfl rfl)
theorem dX2_init_194 : decode cX2_init 194 = .ok (.putfield 84, 3) := dk_181 0 84 (dk_at dksX2_init_8 8 rfl rfl)
theorem dX2_init_197 : decode cX2_init 197 = .ok (.aload_n 0, 1) := dk_42 (dk_at dksX2_init_8 11 rfl rfl)
theorem dX2_init_198 : decode cX2_init 198 = .ok (.bipush 75, 2) := dk_16 75 (dk_at dksX2_init_8 12 rfl rfl)
theorem dX2_init_200 : decode cX2_init 200 = .ok (.newarray .int, 2) := dk_188_10 (dk_at dksX2_init_8 14 rfl rfl)
theorem dX2_init_202 : decode cX2_init 202 = .ok (.putfield 87, 3) := dk_181 0 87 (dk_at dksX2_init_8 16 rfl rfl)
theorem dX2_init_205 : decode cX2_init 205 = .ok (.aload_n 0, 1) := dk_42 (dk_at dksX2_init_8 19 rfl rfl)
theorem dX2_init_206 : decode cX2_init 206 = .ok (.bipush 6, 2) := dk_16 6 (dk_at dksX2_init_8 20 rfl rfl)
theorem dX2_init_208 : decode cX2_init 208 = .ok (.newarray .int, 2) := dk_188_10 (dk_at dksX2_init_8 22 rfl rfl)
theorem dX2_init_210 : decode cX2_init 210 = .ok (.putfield 90, 3) := dk_181 0 90 (dk_at dksX2_init_9 0 rfl rfl)
theorem dX2_init_213 : decode cX2_init 213 = .ok (.aload_n 0, 1) := dk_42 (dk_at dksX2_init_9 3 rfl rfl)
theorem dX2_init_214 : decode cX2_init 214 = .ok (.lconst 1, 1) := dk_10 (dk_at dksX2_init_9 4 rfl rfl)
theorem dX2_init_215 : decode cX2_init 215 = .ok (.putfield 93, 3) := dk_181 0 93 (dk_at dksX2_init_9 5 rfl rfl)
theorem dX2_init_218 : decode cX2_init 218 = .ok (.aload_n 0, 1) := dk_42 (dk_at dksX2_init_9 8 rfl rfl)
theorem dX2_init_219 : decode cX2_init 219 = .ok (.iconst 1, 1) := dk_4 (dk_at dksX2_init_9 9 rfl rfl)
theorem dX2_init_220 : decode cX2_init 220 = .ok (.putfield 97, 3) := dk_181 0 97 (dk_at dksX2_init_9 10 rfl rfl)
theorem dX2_init_223 : decode cX2_init 223 = .ok (.aload_n 0, 1) := dk_42 (dk_at dksX2_init_9 13 rfl rfl)
theorem dX2_init_224 : decode cX2_init 224 = .ok (.getfield 56, 3) := dk_180 0 56 (dk_at dksX2_init_9 14 rfl rfl)
theorem dX2_init_227 : decode cX2_init 227 = .ok (.iconst 0, 1) := dk_3 (dk_at dksX2_init_9 17 rfl rfl)
theorem dX2_init_228 : decode cX2_init 228 = .ok (.iconst 1, 1) := dk_4 (dk_at dksX2_init_9 18 rfl rfl)
theorem dX2_init_229 : decode cX2_init 229 = .ok (.iastore, 1) := dk_79 (dk_at dksX2_init_9 19 rfl rfl)
theorem dX2_init_230 : decode cX2_init 230 = .ok (.iconst 0, 1) := dk_3 (dk_at dksX2_init_9 20 rfl rfl)
theorem dX2_init_231 : decode cX2_init 231 = .ok (.istore_n 1, 1) := dk_60 (dk_at dksX2_init_9 21 rfl rfl)
theorem dX2_init_232 : decode cX2_init 232 = .ok (.iload_n 1, 1) := dk_27 (dk_at dksX2_init_9 22 rfl rfl)
theorem dX2_init_233 : decode cX2_init 233 = .ok (.iconst 3, 1) := dk_6 (dk_at dksX2_init_9 23 rfl rfl)
theorem dX2_init_234 : decode cX2_init 234 = .ok (.if_icmp .ge 16, 3) := dk_162 0 16 (dk_at dksX2_init_10 0 rfl rfl)
theorem dX2_init_237 : decode cX2_init 237 = .ok (.aload_n 0, 1) := dk_42 (dk_at dksX2_init_10 3 rfl rfl)
theorem dX2_init_238 : decode cX2_init 238 = .ok (.getfield 59, 3) := dk_180 0 59 (dk_at dksX2_init_10 4 rfl rfl)
theorem dX2_init_241 : decode cX2_init 241 = .ok (.iload_n 1, 1) := dk_27 (dk_at dksX2_init_10 7 rfl rfl)
theorem dX2_init_242 : decode cX2_init 242 = .ok (.iconst 4, 1) := dk_7 (dk_at dksX2_init_10 8 rfl rfl)
theorem dX2_init_243 : decode cX2_init 243 = .ok (.iastore, 1) := dk_79 (dk_at dksX2_init_10 9 rfl rfl)
theorem dX2_init_244 : decode cX2_init 244 = .ok (.iinc 1 1, 3) := dk_132 1 1 (dk_at dksX2_init_10 10 rfl rfl)
theorem dX2_init_247 : decode cX2_init 247 = .ok (.goto (-15), 3) := dk_167 255 241 (dk_at dksX2_init_10 13 rfl rfl)
theorem dX2_init_250 : decode cX2_init 250 = .ok (.iconst 0, 1) := dk_3 (dk_at dksX2_init_10 16 rfl rfl)
theorem dX2_init_251 : decode cX2_init 251 = .ok (.istore_n 1, 1) := dk_60 (dk_at dksX2_init_10 17 rfl rfl)
theorem dX2_init_252 : decode cX2_init 252 = .ok (.iload_n 1, 1) := dk_27 (dk_at dksX2_init_10 18 rfl rfl)
theorem dX2_init_253 : decode cX2_init 253 = .ok (.bipush 6, 2) := dk_16 6 (dk_at dksX2_init_10 19 rfl rfl)
theorem dX2_init_255 : decode cX2_init 255 = .ok (.if_icmp .ge 16, 3) := dk_162 0 16 (dk_at dksX2_init_10 21 rfl rfl)
theorem dX2_init_258 : decode cX2_init 258 = .ok (.aload_n 0, 1) := dk_42 (dk_at dksX2_init_11 0 rfl rfl)
theorem dX2_init_259 : decode cX2_init 259 = .ok (.getfield 13, 3) := dk_180 0 13 (dk_at dksX2_init_11 1 rfl rfl)
theorem dX2_init_262 : decode cX2_init 262 = .ok (.iload_n 1, 1) := dk_27 (dk_at dksX2_init_11 4 rfl rfl)
theorem dX2_init_263 : decode cX2_init 263 = .ok (.iconst (-1), 1) := dk_2 (dk_at dksX2_init_11 5 rfl rfl)
theorem dX2_init_264 : decode cX2_init 264 = .ok (.iastore, 1) := dk_79 (dk_at dksX2_init_11 6 rfl rfl)
theorem dX2_init_265 : decode cX2_init 265 = .ok (.iinc 1 1, 3) := dk_132 1 1 (dk_at dksX2_init_11 7 rfl rfl)
theorem dX2_init_268 : decode cX2_init 268 = .ok (.goto (-16), 3) := dk_167 255 240 (dk_at dksX2_init_11 10 rfl rfl)
theorem dX2_init_271 : decode cX2_init 271 = .ok (.iconst 0, 1) := dk_3 (dk_at dksX2_init_11 13 rfl rfl)
theorem dX2_init_272 : decode cX2_init 272 = .ok (.istore_n 1, 1) := dk_60 (dk_at dksX2_init_11 14 rfl rfl)
theorem dX2_init_273 : decode cX2_init 273 = .ok (.iload_n 1, 1) := dk_27 (dk_at dksX2_init_11 15 rfl rfl)
theorem dX2_init_274 : decode cX2_init 274 = .ok (.iconst 4, 1) := dk_7 (dk_at dksX2_init_11 16 rfl rfl)
theorem dX2_init_275 : decode cX2_init 275 = .ok (.if_icmp .ge 16, 3) := dk_162 0 16 (dk_at dksX2_init_11 17 rfl rfl)
theorem dX2_init_278 : decode cX2_init 278 = .ok (.aload_n 0, 1) := dk_42 (dk_at dksX2_init_11 20 rfl rfl)
theorem dX2_init_279 : decode cX2_init 279 = .ok (.getfield 22, 3) := dk_180 0 22 (dk_at dksX2_init_11 21 rfl rfl)
theorem dX2_init_282 : decode cX2_init 282 = .ok (.iload_n 1, 1) := dk_27 (dk_at dksX2_init_12 0 rfl rfl)
theorem dX2_init_283 : decode cX2_init 283 = .ok (.iconst (-1), 1) := dk_2 (dk_at dksX2_init_12 1 rfl rfl)
theorem dX2_init_284 : decode cX2_init 284 = .ok (.iastore, 1) := dk_79 (dk_at dksX2_init_12 2 rfl rfl)
theorem dX2_init_285 : decode cX2_init 285 = .ok (.iinc 1 1, 3) := dk_132 1 1 (dk_at dksX2_init_12 3 rfl rfl)
theorem dX2_init_288 : decode cX2_init 288 = .ok (.goto (-15), 3) := dk_167 255 241 (dk_at dksX2_init_12 6 rfl rfl)
theorem dX2_init_291 : decode cX2_init 291 = .ok (.return_, 1) := dk_177 (dk_at dksX2_init_12 9 rfl rfl)
abbrev cX2_finding : ByteArray := prog_12_method_6_code
def yX2_finding : MethodName := ⟨RX2, "finding", "()I"⟩
theorem dX2_finding_0 : decode cX2_finding 0 = .ok (.aload_n 0, 1) := by decide +kernel
theorem dX2_finding_1 : decode cX2_finding 1 = .ok (.getfield 101, 3) := by decide +kernel
theorem dX2_finding_4 : decode cX2_finding 4 = .ok (.ireturn, 1) := by decide +kernel
abbrev cX2_findings : ByteArray := prog_12_method_7_code
def yX2_findings : MethodName := ⟨RX2, "findings", "(I)I"⟩
def dkwX2_findings_0 : List UInt8 := [27, 4, 8, 184, 0, 104, 153, 0, 12, 42, 180, 0, 7, 27, 46, 167, 0, 4, 2, 172]
abbrev dktX2_findings_0 : List UInt8 := dkwX2_findings_0 ++ []
theorem dksX2_findings_0 : cX2_findings.data.toList.drop 0 = dktX2_findings_0 := by decide +kernel
theorem dX2_findings_0 : decode cX2_findings 0 = .ok (.iload_n 1, 1) := dk_27 (dk_at dksX2_findings_0 0 rfl rfl)
theorem dX2_findings_1 : decode cX2_findings 1 = .ok (.iconst 1, 1) := dk_4 (dk_at dksX2_findings_0 1 rfl rfl)
theorem dX2_findings_2 : decode cX2_findings 2 = .ok (.iconst 5, 1) := dk_8 (dk_at dksX2_findings_0 2 rfl rfl)
theorem dX2_findings_3 : decode cX2_findings 3 = .ok (.invokestatic 104, 3) := dk_184 0 104 (dk_at dksX2_findings_0 3 rfl rfl)
theorem dX2_findings_6 : decode cX2_findings 6 = .ok (.ifCond .eq 12, 3) := dk_153 0 12 (dk_at dksX2_findings_0 6 rfl rfl)
theorem dX2_findings_9 : decode cX2_findings 9 = .ok (.aload_n 0, 1) := dk_42 (dk_at dksX2_findings_0 9 rfl rfl)
theorem dX2_findings_10 : decode cX2_findings 10 = .ok (.getfield 7, 3) := dk_180 0 7 (dk_at dksX2_findings_0 10 rfl rfl)
theorem dX2_findings_13 : decode cX2_findings 13 = .ok (.iload_n 1, 1) := dk_27 (dk_at dksX2_findings_0 13 rfl rfl)
theorem dX2_findings_14 : decode cX2_findings 14 = .ok (.iaload, 1) := dk_46 (dk_at dksX2_findings_0 14 rfl rfl)
theorem dX2_findings_15 : decode cX2_findings 15 = .ok (.goto 4, 3) := dk_167 0 4 (dk_at dksX2_findings_0 15 rfl rfl)
theorem dX2_findings_18 : decode cX2_findings 18 = .ok (.iconst (-1), 1) := dk_2 (dk_at dksX2_findings_0 18 rfl rfl)
theorem dX2_findings_19 : decode cX2_findings 19 = .ok (.ireturn, 1) := dk_172 (dk_at dksX2_findings_0 19 rfl rfl)
abbrev cX2_in : ByteArray := prog_12_method_2_code
def yX2_in : MethodName := ⟨RX2, "in", "(III)Z"⟩
def dkwX2_in_0 : List UInt8 := [26, 27, 161, 0, 12, 26, 28, 163, 0, 7, 4, 167, 0, 4, 3, 172]
abbrev dktX2_in_0 : List UInt8 := dkwX2_in_0 ++ []
theorem dksX2_in_0 : cX2_in.data.toList.drop 0 = dktX2_in_0 := by decide +kernel
theorem dX2_in_0 : decode cX2_in 0 = .ok (.iload_n 0, 1) := dk_26 (dk_at dksX2_in_0 0 rfl rfl)
theorem dX2_in_1 : decode cX2_in 1 = .ok (.iload_n 1, 1) := dk_27 (dk_at dksX2_in_0 1 rfl rfl)
theorem dX2_in_2 : decode cX2_in 2 = .ok (.if_icmp .lt 12, 3) := dk_161 0 12 (dk_at dksX2_in_0 2 rfl rfl)
theorem dX2_in_5 : decode cX2_in 5 = .ok (.iload_n 0, 1) := dk_26 (dk_at dksX2_in_0 5 rfl rfl)
theorem dX2_in_6 : decode cX2_in 6 = .ok (.iload_n 2, 1) := dk_28 (dk_at dksX2_in_0 6 rfl rfl)
theorem dX2_in_7 : decode cX2_in 7 = .ok (.if_icmp .gt 7, 3) := dk_163 0 7 (dk_at dksX2_in_0 7 rfl rfl)
theorem dX2_in_10 : decode cX2_in 10 = .ok (.iconst 1, 1) := dk_4 (dk_at dksX2_in_0 10 rfl rfl)
theorem dX2_in_11 : decode cX2_in 11 = .ok (.goto 4, 3) := dk_167 0 4 (dk_at dksX2_in_0 11 rfl rfl)
theorem dX2_in_14 : decode cX2_in 14 = .ok (.iconst 0, 1) := dk_3 (dk_at dksX2_in_0 14 rfl rfl)
theorem dX2_in_15 : decode cX2_in 15 = .ok (.ireturn, 1) := dk_172 (dk_at dksX2_in_0 15 rfl rfl)
abbrev cX2_asked : ByteArray := prog_12_method_9_code
def yX2_asked : MethodName := ⟨RX2, "asked", "()I"⟩
theorem dX2_asked_0 : decode cX2_asked 0 = .ok (.aload_n 0, 1) := by decide +kernel
theorem dX2_asked_1 : decode cX2_asked 1 = .ok (.getfield 108, 3) := by decide +kernel
theorem dX2_asked_4 : decode cX2_asked 4 = .ok (.ireturn, 1) := by decide +kernel
abbrev cX2_upper : ByteArray := prog_12_method_11_code
def yX2_upper : MethodName := ⟨RX2, "upper", "()J"⟩
theorem dX2_upper_0 : decode cX2_upper 0 = .ok (.aload_n 0, 1) := by decide +kernel
theorem dX2_upper_1 : decode cX2_upper 1 = .ok (.getfield 111, 3) := by decide +kernel
theorem dX2_upper_4 : decode cX2_upper 4 = .ok (.lreturn, 1) := by decide +kernel
abbrev cX2_lower : ByteArray := prog_12_method_12_code
def yX2_lower : MethodName := ⟨RX2, "lower", "()J"⟩
theorem dX2_lower_0 : decode cX2_lower 0 = .ok (.aload_n 0, 1) := by decide +kernel
theorem dX2_lower_1 : decode cX2_lower 1 = .ok (.getfield 93, 3) := by decide +kernel
theorem dX2_lower_4 : decode cX2_lower 4 = .ok (.lreturn, 1) := by decide +kernel
abbrev cX2_row : ByteArray := prog_12_method_15_code
def yX2_row : MethodName := ⟨RX2, "row", "(II)I"⟩
def dkwX2_row_2 : List UInt8 := [29, 96, 3, 79, 132, 3, 1, 167, 255, 235, 28, 172]
abbrev dktX2_row_2 : List UInt8 := dkwX2_row_2 ++ []
def dkwX2_row_1 : List UInt8 := [172, 42, 180, 0, 13, 27, 28, 79, 3, 62, 29, 16, 80, 162, 0, 21, 42, 180, 0, 16, 16, 80, 27, 104]
abbrev dktX2_row_1 : List UInt8 := dkwX2_row_1 ++ dktX2_row_2
def dkwX2_row_0 : List UInt8 := [27, 184, 0, 114, 153, 0, 9, 28, 16, 80, 164, 0, 5, 2, 172, 28, 156, 0, 9, 42, 8, 182, 0, 118]
abbrev dktX2_row_0 : List UInt8 := dkwX2_row_0 ++ dktX2_row_1
theorem dksX2_row_0 : cX2_row.data.toList.drop 0 = dktX2_row_0 := by decide +kernel
theorem dksX2_row_1 : cX2_row.data.toList.drop 24 = dktX2_row_1 := dk_seg dksX2_row_0 24 rfl rfl
theorem dksX2_row_2 : cX2_row.data.toList.drop 48 = dktX2_row_2 := dk_seg dksX2_row_1 24 rfl rfl
theorem dX2_row_0 : decode cX2_row 0 = .ok (.iload_n 1, 1) := dk_27 (dk_at dksX2_row_0 0 rfl rfl)
theorem dX2_row_1 : decode cX2_row 1 = .ok (.invokestatic 114, 3) := dk_184 0 114 (dk_at dksX2_row_0 1 rfl rfl)
theorem dX2_row_4 : decode cX2_row 4 = .ok (.ifCond .eq 9, 3) := dk_153 0 9 (dk_at dksX2_row_0 4 rfl rfl)
theorem dX2_row_7 : decode cX2_row 7 = .ok (.iload_n 2, 1) := dk_28 (dk_at dksX2_row_0 7 rfl rfl)
theorem dX2_row_8 : decode cX2_row 8 = .ok (.bipush 80, 2) := dk_16 80 (dk_at dksX2_row_0 8 rfl rfl)
theorem dX2_row_10 : decode cX2_row 10 = .ok (.if_icmp .le 5, 3) := dk_164 0 5 (dk_at dksX2_row_0 10 rfl rfl)
theorem dX2_row_13 : decode cX2_row 13 = .ok (.iconst (-1), 1) := dk_2 (dk_at dksX2_row_0 13 rfl rfl)
theorem dX2_row_14 : decode cX2_row 14 = .ok (.ireturn, 1) := dk_172 (dk_at dksX2_row_0 14 rfl rfl)
theorem dX2_row_15 : decode cX2_row 15 = .ok (.iload_n 2, 1) := dk_28 (dk_at dksX2_row_0 15 rfl rfl)
theorem dX2_row_16 : decode cX2_row 16 = .ok (.ifCond .ge 9, 3) := dk_156 0 9 (dk_at dksX2_row_0 16 rfl rfl)
theorem dX2_row_19 : decode cX2_row 19 = .ok (.aload_n 0, 1) := dk_42 (dk_at dksX2_row_0 19 rfl rfl)
theorem dX2_row_20 : decode cX2_row 20 = .ok (.iconst 5, 1) := dk_8 (dk_at dksX2_row_0 20 rfl rfl)
theorem dX2_row_21 : decode cX2_row 21 = .ok (.invokevirtual 118, 3) := dk_182 0 118 (dk_at dksX2_row_0 21 rfl rfl)
theorem dX2_row_24 : decode cX2_row 24 = .ok (.ireturn, 1) := dk_172 (dk_at dksX2_row_1 0 rfl rfl)
theorem dX2_row_25 : decode cX2_row 25 = .ok (.aload_n 0, 1) := dk_42 (dk_at dksX2_row_1 1 rfl rfl)
theorem dX2_row_26 : decode cX2_row 26 = .ok (.getfield 13, 3) := dk_180 0 13 (dk_at dksX2_row_1 2 rfl rfl)
theorem dX2_row_29 : decode cX2_row 29 = .ok (.iload_n 1, 1) := dk_27 (dk_at dksX2_row_1 5 rfl rfl)
theorem dX2_row_30 : decode cX2_row 30 = .ok (.iload_n 2, 1) := dk_28 (dk_at dksX2_row_1 6 rfl rfl)
theorem dX2_row_31 : decode cX2_row 31 = .ok (.iastore, 1) := dk_79 (dk_at dksX2_row_1 7 rfl rfl)
theorem dX2_row_32 : decode cX2_row 32 = .ok (.iconst 0, 1) := dk_3 (dk_at dksX2_row_1 8 rfl rfl)
theorem dX2_row_33 : decode cX2_row 33 = .ok (.istore_n 3, 1) := dk_62 (dk_at dksX2_row_1 9 rfl rfl)
theorem dX2_row_34 : decode cX2_row 34 = .ok (.iload_n 3, 1) := dk_29 (dk_at dksX2_row_1 10 rfl rfl)
theorem dX2_row_35 : decode cX2_row 35 = .ok (.bipush 80, 2) := dk_16 80 (dk_at dksX2_row_1 11 rfl rfl)
theorem dX2_row_37 : decode cX2_row 37 = .ok (.if_icmp .ge 21, 3) := dk_162 0 21 (dk_at dksX2_row_1 13 rfl rfl)
theorem dX2_row_40 : decode cX2_row 40 = .ok (.aload_n 0, 1) := dk_42 (dk_at dksX2_row_1 16 rfl rfl)
theorem dX2_row_41 : decode cX2_row 41 = .ok (.getfield 16, 3) := dk_180 0 16 (dk_at dksX2_row_1 17 rfl rfl)
theorem dX2_row_44 : decode cX2_row 44 = .ok (.bipush 80, 2) := dk_16 80 (dk_at dksX2_row_1 20 rfl rfl)
theorem dX2_row_46 : decode cX2_row 46 = .ok (.iload_n 1, 1) := dk_27 (dk_at dksX2_row_1 22 rfl rfl)
theorem dX2_row_47 : decode cX2_row 47 = .ok (.imul, 1) := dk_104 (dk_at dksX2_row_1 23 rfl rfl)
theorem dX2_row_48 : decode cX2_row 48 = .ok (.iload_n 3, 1) := dk_29 (dk_at dksX2_row_2 0 rfl rfl)
theorem dX2_row_49 : decode cX2_row 49 = .ok (.iadd, 1) := dk_96 (dk_at dksX2_row_2 1 rfl rfl)
theorem dX2_row_50 : decode cX2_row 50 = .ok (.iconst 0, 1) := dk_3 (dk_at dksX2_row_2 2 rfl rfl)
theorem dX2_row_51 : decode cX2_row 51 = .ok (.iastore, 1) := dk_79 (dk_at dksX2_row_2 3 rfl rfl)
theorem dX2_row_52 : decode cX2_row 52 = .ok (.iinc 3 1, 3) := dk_132 3 1 (dk_at dksX2_row_2 4 rfl rfl)
theorem dX2_row_55 : decode cX2_row 55 = .ok (.goto (-21), 3) := dk_167 255 235 (dk_at dksX2_row_2 7 rfl rfl)
theorem dX2_row_58 : decode cX2_row 58 = .ok (.iload_n 2, 1) := dk_28 (dk_at dksX2_row_2 10 rfl rfl)
theorem dX2_row_59 : decode cX2_row 59 = .ok (.ireturn, 1) := dk_172 (dk_at dksX2_row_2 11 rfl rfl)
abbrev cX2_isRow : ByteArray := prog_12_method_13_code
def yX2_isRow : MethodName := ⟨RX2, "isRow", "(I)Z"⟩
def dkwX2_isRow_0 : List UInt8 := [26, 3, 8, 184, 0, 104, 172]
abbrev dktX2_isRow_0 : List UInt8 := dkwX2_isRow_0 ++ []
theorem dksX2_isRow_0 : cX2_isRow.data.toList.drop 0 = dktX2_isRow_0 := by decide +kernel
theorem dX2_isRow_0 : decode cX2_isRow 0 = .ok (.iload_n 0, 1) := dk_26 (dk_at dksX2_isRow_0 0 rfl rfl)
theorem dX2_isRow_1 : decode cX2_isRow 1 = .ok (.iconst 0, 1) := dk_3 (dk_at dksX2_isRow_0 1 rfl rfl)
theorem dX2_isRow_2 : decode cX2_isRow 2 = .ok (.iconst 5, 1) := dk_8 (dk_at dksX2_isRow_0 2 rfl rfl)
theorem dX2_isRow_3 : decode cX2_isRow 3 = .ok (.invokestatic 104, 3) := dk_184 0 104 (dk_at dksX2_isRow_0 3 rfl rfl)
theorem dX2_isRow_6 : decode cX2_isRow 6 = .ok (.ireturn, 1) := dk_172 (dk_at dksX2_isRow_0 6 rfl rfl)
abbrev cX2_meets : ByteArray := prog_12_method_5_code
def yX2_meets : MethodName := ⟨RX2, "meets", "(I)I"⟩
def dkwX2_meets_0 : List UInt8 := [42, 27, 181, 0, 101, 42, 180, 0, 7, 27, 92, 46, 4, 96, 79, 16, 253, 172]
abbrev dktX2_meets_0 : List UInt8 := dkwX2_meets_0 ++ []
theorem dksX2_meets_0 : cX2_meets.data.toList.drop 0 = dktX2_meets_0 := by decide +kernel
theorem dX2_meets_0 : decode cX2_meets 0 = .ok (.aload_n 0, 1) := dk_42 (dk_at dksX2_meets_0 0 rfl rfl)
theorem dX2_meets_1 : decode cX2_meets 1 = .ok (.iload_n 1, 1) := dk_27 (dk_at dksX2_meets_0 1 rfl rfl)
theorem dX2_meets_2 : decode cX2_meets 2 = .ok (.putfield 101, 3) := dk_181 0 101 (dk_at dksX2_meets_0 2 rfl rfl)
theorem dX2_meets_5 : decode cX2_meets 5 = .ok (.aload_n 0, 1) := dk_42 (dk_at dksX2_meets_0 5 rfl rfl)
theorem dX2_meets_6 : decode cX2_meets 6 = .ok (.getfield 7, 3) := dk_180 0 7 (dk_at dksX2_meets_0 6 rfl rfl)
theorem dX2_meets_9 : decode cX2_meets 9 = .ok (.iload_n 1, 1) := dk_27 (dk_at dksX2_meets_0 9 rfl rfl)
theorem dX2_meets_10 : decode cX2_meets 10 = .ok (.dup2, 1) := dk_92 (dk_at dksX2_meets_0 10 rfl rfl)
theorem dX2_meets_11 : decode cX2_meets 11 = .ok (.iaload, 1) := dk_46 (dk_at dksX2_meets_0 11 rfl rfl)
theorem dX2_meets_12 : decode cX2_meets 12 = .ok (.iconst 1, 1) := dk_4 (dk_at dksX2_meets_0 12 rfl rfl)
theorem dX2_meets_13 : decode cX2_meets 13 = .ok (.iadd, 1) := dk_96 (dk_at dksX2_meets_0 13 rfl rfl)
theorem dX2_meets_14 : decode cX2_meets 14 = .ok (.iastore, 1) := dk_79 (dk_at dksX2_meets_0 14 rfl rfl)
theorem dX2_meets_15 : decode cX2_meets 15 = .ok (.bipush (-3), 2) := dk_16 253 (dk_at dksX2_meets_0 15 rfl rfl)
theorem dX2_meets_17 : decode cX2_meets 17 = .ok (.ireturn, 1) := dk_172 (dk_at dksX2_meets_0 17 rfl rfl)
abbrev cX2_lay : ByteArray := prog_12_method_16_code
def yX2_lay : MethodName := ⟨RX2, "lay", "(III)I"⟩
def dkwX2_lay_3 : List UInt8 := [182, 0, 126, 172]
abbrev dktX2_lay_3 : List UInt8 := dkwX2_lay_3 ++ []
def dkwX2_lay_2 : List UInt8 := [28, 182, 0, 122, 54, 4, 42, 180, 0, 16, 16, 80, 27, 104, 28, 96, 29, 79, 42, 21, 4, 4]
abbrev dktX2_lay_2 : List UInt8 := dkwX2_lay_2 ++ dktX2_lay_3
def dkwX2_lay_1 : List UInt8 := [28, 3, 42, 180, 0, 13, 27, 46, 4, 100, 184, 0, 104, 154, 0, 9, 42, 5, 182, 0, 118, 172, 42, 27]
abbrev dktX2_lay_1 : List UInt8 := dkwX2_lay_1 ++ dktX2_lay_2
def dkwX2_lay_0 : List UInt8 := [27, 184, 0, 114, 154, 0, 5, 2, 172, 42, 180, 0, 13, 27, 46, 156, 0, 9, 42, 4, 182, 0, 118, 172]
abbrev dktX2_lay_0 : List UInt8 := dkwX2_lay_0 ++ dktX2_lay_1
theorem dksX2_lay_0 : cX2_lay.data.toList.drop 0 = dktX2_lay_0 := by decide +kernel
theorem dksX2_lay_1 : cX2_lay.data.toList.drop 24 = dktX2_lay_1 := dk_seg dksX2_lay_0 24 rfl rfl
theorem dksX2_lay_2 : cX2_lay.data.toList.drop 48 = dktX2_lay_2 := dk_seg dksX2_lay_1 24 rfl rfl
theorem dksX2_lay_3 : cX2_lay.data.toList.drop 70 = dktX2_lay_3 := dk_seg dksX2_lay_2 22 rfl rfl
theorem dX2_lay_0 : decode cX2_lay 0 = .ok (.iload_n 1, 1) := dk_27 (dk_at dksX2_lay_0 0 rfl rfl)
theorem dX2_lay_1 : decode cX2_lay 1 = .ok (.invokestatic 114, 3) := dk_184 0 114 (dk_at dksX2_lay_0 1 rfl rfl)
theorem dX2_lay_4 : decode cX2_lay 4 = .ok (.ifCond .ne 5, 3) := dk_154 0 5 (dk_at dksX2_lay_0 4 rfl rfl)
theorem dX2_lay_7 : decode cX2_lay 7 = .ok (.iconst (-1), 1) := dk_2 (dk_at dksX2_lay_0 7 rfl rfl)
theorem dX2_lay_8 : decode cX2_lay 8 = .ok (.ireturn, 1) := dk_172 (dk_at dksX2_lay_0 8 rfl rfl)
theorem dX2_lay_9 : decode cX2_lay 9 = .ok (.aload_n 0, 1) := dk_42 (dk_at dksX2_lay_0 9 rfl rfl)
theorem dX2_lay_10 : decode cX2_lay 10 = .ok (.getfield 13, 3) := dk_180 0 13 (dk_at dksX2_lay_0 10 rfl rfl)
theorem dX2_lay_13 : decode cX2_lay 13 = .ok (.iload_n 1, 1) := dk_27 (dk_at dksX2_lay_0 13 rfl rfl)
theorem dX2_lay_14 : decode cX2_lay 14 = .ok (.iaload, 1) := dk_46 (dk_at dksX2_lay_0 14 rfl rfl)
theorem dX2_lay_15 : decode cX2_lay 15 = .ok (.ifCond .ge 9, 3) := dk_156 0 9 (dk_at dksX2_lay_0 15 rfl rfl)
theorem dX2_lay_18 : decode cX2_lay 18 = .ok (.aload_n 0, 1) := dk_42 (dk_at dksX2_lay_0 18 rfl rfl)
theorem dX2_lay_19 : decode cX2_lay 19 = .ok (.iconst 1, 1) := dk_4 (dk_at dksX2_lay_0 19 rfl rfl)
theorem dX2_lay_20 : decode cX2_lay 20 = .ok (.invokevirtual 118, 3) := dk_182 0 118 (dk_at dksX2_lay_0 20 rfl rfl)
theorem dX2_lay_23 : decode cX2_lay 23 = .ok (.ireturn, 1) := dk_172 (dk_at dksX2_lay_0 23 rfl rfl)
theorem dX2_lay_24 : decode cX2_lay 24 = .ok (.iload_n 2, 1) := dk_28 (dk_at dksX2_lay_1 0 rfl rfl)
theorem dX2_lay_25 : decode cX2_lay 25 = .ok (.iconst 0, 1) := dk_3 (dk_at dksX2_lay_1 1 rfl rfl)
theorem dX2_lay_26 : decode cX2_lay 26 = .ok (.aload_n 0, 1) := dk_42 (dk_at dksX2_lay_1 2 rfl rfl)
theorem dX2_lay_27 : decode cX2_lay 27 = .ok (.getfield 13, 3) := dk_180 0 13 (dk_at dksX2_lay_1 3 rfl rfl)
theorem dX2_lay_30 : decode cX2_lay 30 = .ok (.iload_n 1, 1) := dk_27 (dk_at dksX2_lay_1 6 rfl rfl)
theorem dX2_lay_31 : decode cX2_lay 31 = .ok (.iaload, 1) := dk_46 (dk_at dksX2_lay_1 7 rfl rfl)
theorem dX2_lay_32 : decode cX2_lay 32 = .ok (.iconst 1, 1) := dk_4 (dk_at dksX2_lay_1 8 rfl rfl)
theorem dX2_lay_33 : decode cX2_lay 33 = .ok (.isub, 1) := dk_100 (dk_at dksX2_lay_1 9 rfl rfl)
theorem dX2_lay_34 : decode cX2_lay 34 = .ok (.invokestatic 104, 3) := dk_184 0 104 (dk_at dksX2_lay_1 10 rfl rfl)
theorem dX2_lay_37 : decode cX2_lay 37 = .ok (.ifCond .ne 9, 3) := dk_154 0 9 (dk_at dksX2_lay_1 13 rfl rfl)
theorem dX2_lay_40 : decode cX2_lay 40 = .ok (.aload_n 0, 1) := dk_42 (dk_at dksX2_lay_1 16 rfl rfl)
theorem dX2_lay_41 : decode cX2_lay 41 = .ok (.iconst 2, 1) := dk_5 (dk_at dksX2_lay_1 17 rfl rfl)
theorem dX2_lay_42 : decode cX2_lay 42 = .ok (.invokevirtual 118, 3) := dk_182 0 118 (dk_at dksX2_lay_1 18 rfl rfl)
theorem dX2_lay_45 : decode cX2_lay 45 = .ok (.ireturn, 1) := dk_172 (dk_at dksX2_lay_1 21 rfl rfl)
theorem dX2_lay_46 : decode cX2_lay 46 = .ok (.aload_n 0, 1) := dk_42 (dk_at dksX2_lay_1 22 rfl rfl)
theorem dX2_lay_47 : decode cX2_lay 47 = .ok (.iload_n 1, 1) := dk_27 (dk_at dksX2_lay_1 23 rfl rfl)
theorem dX2_lay_48 : decode cX2_lay 48 = .ok (.iload_n 2, 1) := dk_28 (dk_at dksX2_lay_2 0 rfl rfl)
theorem dX2_lay_49 : decode cX2_lay 49 = .ok (.invokevirtual 122, 3) := dk_182 0 122 (dk_at dksX2_lay_2 1 rfl rfl)
theorem dX2_lay_52 : decode cX2_lay 52 = .ok (.istore 4, 2) := dk_54 4 (dk_at dksX2_lay_2 4 rfl rfl)
theorem dX2_lay_54 : decode cX2_lay 54 = .ok (.aload_n 0, 1) := dk_42 (dk_at dksX2_lay_2 6 rfl rfl)
theorem dX2_lay_55 : decode cX2_lay 55 = .ok (.getfield 16, 3) := dk_180 0 16 (dk_at dksX2_lay_2 7 rfl rfl)
theorem dX2_lay_58 : decode cX2_lay 58 = .ok (.bipush 80, 2) := dk_16 80 (dk_at dksX2_lay_2 10 rfl rfl)
theorem dX2_lay_60 : decode cX2_lay 60 = .ok (.iload_n 1, 1) := dk_27 (dk_at dksX2_lay_2 12 rfl rfl)
theorem dX2_lay_61 : decode cX2_lay 61 = .ok (.imul, 1) := dk_104 (dk_at dksX2_lay_2 13 rfl rfl)
theorem dX2_lay_62 : decode cX2_lay 62 = .ok (.iload_n 2, 1) := dk_28 (dk_at dksX2_lay_2 14 rfl rfl)
theorem dX2_lay_63 : decode cX2_lay 63 = .ok (.iadd, 1) := dk_96 (dk_at dksX2_lay_2 15 rfl rfl)
theorem dX2_lay_64 : decode cX2_lay 64 = .ok (.iload_n 3, 1) := dk_29 (dk_at dksX2_lay_2 16 rfl rfl)
theorem dX2_lay_65 : decode cX2_lay 65 = .ok (.iastore, 1) := dk_79 (dk_at dksX2_lay_2 17 rfl rfl)
theorem dX2_lay_66 : decode cX2_lay 66 = .ok (.aload_n 0, 1) := dk_42 (dk_at dksX2_lay_2 18 rfl rfl)
theorem dX2_lay_67 : decode cX2_lay 67 = .ok (.iload 4, 2) := dk_21 4 (dk_at dksX2_lay_2 19 rfl rfl)
theorem dX2_lay_69 : decode cX2_lay 69 = .ok (.iconst 1, 1) := dk_4 (dk_at dksX2_lay_2 21 rfl rfl)
theorem dX2_lay_70 : decode cX2_lay 70 = .ok (.invokevirtual 126, 3) := dk_182 0 126 (dk_at dksX2_lay_3 0 rfl rfl)
theorem dX2_lay_73 : decode cX2_lay 73 = .ok (.ireturn, 1) := dk_172 (dk_at dksX2_lay_3 3 rfl rfl)
abbrev cX2_rowAt : ByteArray := prog_12_method_14_code
def yX2_rowAt : MethodName := ⟨RX2, "rowAt", "(II)I"⟩
def dkwX2_rowAt_0 : List UInt8 := [42, 180, 0, 16, 16, 80, 27, 104, 28, 96, 46, 172]
abbrev dktX2_rowAt_0 : List UInt8 := dkwX2_rowAt_0 ++ []
theorem dksX2_rowAt_0 : cX2_rowAt.data.toList.drop 0 = dktX2_rowAt_0 := by decide +kernel
theorem dX2_rowAt_0 : decode cX2_rowAt 0 = .ok (.aload_n 0, 1) := dk_42 (dk_at dksX2_rowAt_0 0 rfl rfl)
theorem dX2_rowAt_1 : decode cX2_rowAt 1 = .ok (.getfield 16, 3) := dk_180 0 16 (dk_at dksX2_rowAt_0 1 rfl rfl)
theorem dX2_rowAt_4 : decode cX2_rowAt 4 = .ok (.bipush 80, 2) := dk_16 80 (dk_at dksX2_rowAt_0 4 rfl rfl)
theorem dX2_rowAt_6 : decode cX2_rowAt 6 = .ok (.iload_n 1, 1) := dk_27 (dk_at dksX2_rowAt_0 6 rfl rfl)
theorem dX2_rowAt_7 : decode cX2_rowAt 7 = .ok (.imul, 1) := dk_104 (dk_at dksX2_rowAt_0 7 rfl rfl)
theorem dX2_rowAt_8 : decode cX2_rowAt 8 = .ok (.iload_n 2, 1) := dk_28 (dk_at dksX2_rowAt_0 8 rfl rfl)
theorem dX2_rowAt_9 : decode cX2_rowAt 9 = .ok (.iadd, 1) := dk_96 (dk_at dksX2_rowAt_0 9 rfl rfl)
theorem dX2_rowAt_10 : decode cX2_rowAt 10 = .ok (.iaload, 1) := dk_46 (dk_at dksX2_rowAt_0 10 rfl rfl)
theorem dX2_rowAt_11 : decode cX2_rowAt 11 = .ok (.ireturn, 1) := dk_172 (dk_at dksX2_rowAt_0 11 rfl rfl)
abbrev cX2_tells : ByteArray := prog_12_method_8_code
def yX2_tells : MethodName := ⟨RX2, "tells", "(II)I"⟩
def dkwX2_tells_0 : List UInt8 := [42, 27, 181, 0, 108, 28, 172]
abbrev dktX2_tells_0 : List UInt8 := dkwX2_tells_0 ++ []
theorem dksX2_tells_0 : cX2_tells.data.toList.drop 0 = dktX2_tells_0 := by decide +kernel
theorem dX2_tells_0 : decode cX2_tells 0 = .ok (.aload_n 0, 1) := dk_42 (dk_at dksX2_tells_0 0 rfl rfl)
theorem dX2_tells_1 : decode cX2_tells 1 = .ok (.iload_n 1, 1) := dk_27 (dk_at dksX2_tells_0 1 rfl rfl)
theorem dX2_tells_2 : decode cX2_tells 2 = .ok (.putfield 108, 3) := dk_181 0 108 (dk_at dksX2_tells_0 2 rfl rfl)
theorem dX2_tells_5 : decode cX2_tells 5 = .ok (.iload_n 2, 1) := dk_28 (dk_at dksX2_tells_0 5 rfl rfl)
theorem dX2_tells_6 : decode cX2_tells 6 = .ok (.ireturn, 1) := dk_172 (dk_at dksX2_tells_0 6 rfl rfl)
abbrev cX2_at : ByteArray := prog_12_method_17_code
def yX2_at : MethodName := ⟨RX2, "at", "(II)I"⟩
def dkwX2_at_2 : List UInt8 := [182, 0, 126, 167, 0, 8, 42, 5, 182, 0, 118, 172]
abbrev dktX2_at_2 : List UInt8 := dkwX2_at_2 ++ []
def dkwX2_at_1 : List UInt8 := [28, 3, 42, 180, 0, 13, 27, 46, 4, 100, 184, 0, 104, 153, 0, 17, 42, 42, 27, 28, 182, 0, 122, 4]
abbrev dktX2_at_1 : List UInt8 := dkwX2_at_1 ++ dktX2_at_2
def dkwX2_at_0 : List UInt8 := [27, 184, 0, 114, 154, 0, 5, 2, 172, 42, 180, 0, 13, 27, 46, 156, 0, 9, 42, 4, 182, 0, 118, 172]
abbrev dktX2_at_0 : List UInt8 := dkwX2_at_0 ++ dktX2_at_1
theorem dksX2_at_0 : cX2_at.data.toList.drop 0 = dktX2_at_0 := by decide +kernel
theorem dksX2_at_1 : cX2_at.data.toList.drop 24 = dktX2_at_1 := dk_seg dksX2_at_0 24 rfl rfl
theorem dksX2_at_2 : cX2_at.data.toList.drop 48 = dktX2_at_2 := dk_seg dksX2_at_1 24 rfl rfl
theorem dX2_at_0 : decode cX2_at 0 = .ok (.iload_n 1, 1) := dk_27 (dk_at dksX2_at_0 0 rfl rfl)
theorem dX2_at_1 : decode cX2_at 1 = .ok (.invokestatic 114, 3) := dk_184 0 114 (dk_at dksX2_at_0 1 rfl rfl)
theorem dX2_at_4 : decode cX2_at 4 = .ok (.ifCond .ne 5, 3) := dk_154 0 5 (dk_at dksX2_at_0 4 rfl rfl)
theorem dX2_at_7 : decode cX2_at 7 = .ok (.iconst (-1), 1) := dk_2 (dk_at dksX2_at_0 7 rfl rfl)
theorem dX2_at_8 : decode cX2_at 8 = .ok (.ireturn, 1) := dk_172 (dk_at dksX2_at_0 8 rfl rfl)
theorem dX2_at_9 : decode cX2_at 9 = .ok (.aload_n 0, 1) := dk_42 (dk_at dksX2_at_0 9 rfl rfl)
theorem dX2_at_10 : decode cX2_at 10 = .ok (.getfield 13, 3) := dk_180 0 13 (dk_at dksX2_at_0 10 rfl rfl)
theorem dX2_at_13 : decode cX2_at 13 = .ok (.iload_n 1, 1) := dk_27 (dk_at dksX2_at_0 13 rfl rfl)
theorem dX2_at_14 : decode cX2_at 14 = .ok (.iaload, 1) := dk_46 (dk_at dksX2_at_0 14 rfl rfl)
theorem dX2_at_15 : decode cX2_at 15 = .ok (.ifCond .ge 9, 3) := dk_156 0 9 (dk_at dksX2_at_0 15 rfl rfl)
theorem dX2_at_18 : decode cX2_at 18 = .ok (.aload_n 0, 1) := dk_42 (dk_at dksX2_at_0 18 rfl rfl)
theorem dX2_at_19 : decode cX2_at 19 = .ok (.iconst 1, 1) := dk_4 (dk_at dksX2_at_0 19 rfl rfl)
theorem dX2_at_20 : decode cX2_at 20 = .ok (.invokevirtual 118, 3) := dk_182 0 118 (dk_at dksX2_at_0 20 rfl rfl)
theorem dX2_at_23 : decode cX2_at 23 = .ok (.ireturn, 1) := dk_172 (dk_at dksX2_at_0 23 rfl rfl)
theorem dX2_at_24 : decode cX2_at 24 = .ok (.iload_n 2, 1) := dk_28 (dk_at dksX2_at_1 0 rfl rfl)
theorem dX2_at_25 : decode cX2_at 25 = .ok (.iconst 0, 1) := dk_3 (dk_at dksX2_at_1 1 rfl rfl)
theorem dX2_at_26 : decode cX2_at 26 = .ok (.aload_n 0, 1) := dk_42 (dk_at dksX2_at_1 2 rfl rfl)
theorem dX2_at_27 : decode cX2_at 27 = .ok (.getfield 13, 3) := dk_180 0 13 (dk_at dksX2_at_1 3 rfl rfl)
theorem dX2_at_30 : decode cX2_at 30 = .ok (.iload_n 1, 1) := dk_27 (dk_at dksX2_at_1 6 rfl rfl)
theorem dX2_at_31 : decode cX2_at 31 = .ok (.iaload, 1) := dk_46 (dk_at dksX2_at_1 7 rfl rfl)
theorem dX2_at_32 : decode cX2_at 32 = .ok (.iconst 1, 1) := dk_4 (dk_at dksX2_at_1 8 rfl rfl)
theorem dX2_at_33 : decode cX2_at 33 = .ok (.isub, 1) := dk_100 (dk_at dksX2_at_1 9 rfl rfl)
theorem dX2_at_34 : decode cX2_at 34 = .ok (.invokestatic 104, 3) := dk_184 0 104 (dk_at dksX2_at_1 10 rfl rfl)
theorem dX2_at_37 : decode cX2_at 37 = .ok (.ifCond .eq 17, 3) := dk_153 0 17 (dk_at dksX2_at_1 13 rfl rfl)
theorem dX2_at_40 : decode cX2_at 40 = .ok (.aload_n 0, 1) := dk_42 (dk_at dksX2_at_1 16 rfl rfl)
theorem dX2_at_41 : decode cX2_at 41 = .ok (.aload_n 0, 1) := dk_42 (dk_at dksX2_at_1 17 rfl rfl)
theorem dX2_at_42 : decode cX2_at 42 = .ok (.iload_n 1, 1) := dk_27 (dk_at dksX2_at_1 18 rfl rfl)
theorem dX2_at_43 : decode cX2_at 43 = .ok (.iload_n 2, 1) := dk_28 (dk_at dksX2_at_1 19 rfl rfl)
theorem dX2_at_44 : decode cX2_at 44 = .ok (.invokevirtual 122, 3) := dk_182 0 122 (dk_at dksX2_at_1 20 rfl rfl)
theorem dX2_at_47 : decode cX2_at 47 = .ok (.iconst 1, 1) := dk_4 (dk_at dksX2_at_1 23 rfl rfl)
theorem dX2_at_48 : decode cX2_at 48 = .ok (.invokevirtual 126, 3) := dk_182 0 126 (dk_at dksX2_at_2 0 rfl rfl)
theorem dX2_at_51 : decode cX2_at 51 = .ok (.goto 8, 3) := dk_167 0 8 (dk_at dksX2_at_2 3 rfl rfl)
theorem dX2_at_54 : decode cX2_at 54 = .ok (.aload_n 0, 1) := dk_42 (dk_at dksX2_at_2 6 rfl rfl)
theorem dX2_at_55 : decode cX2_at 55 = .ok (.iconst 2, 1) := dk_5 (dk_at dksX2_at_2 7 rfl rfl)
theorem dX2_at_56 : decode cX2_at 56 = .ok (.invokevirtual 118, 3) := dk_182 0 118 (dk_at dksX2_at_2 8 rfl rfl)
theorem dX2_at_59 : decode cX2_at 59 = .ok (.ireturn, 1) := dk_172 (dk_at dksX2_at_2 11 rfl rfl)
abbrev cX2_tear : ByteArray := prog_12_method_18_code
def yX2_tear : MethodName := ⟨RX2, "tear", "(I)I"⟩
def dkwX2_tear_1 : List UInt8 := [42, 180, 0, 13, 27, 2, 79, 4, 172]
abbrev dktX2_tear_1 : List UInt8 := dkwX2_tear_1 ++ []
def dkwX2_tear_0 : List UInt8 := [27, 184, 0, 114, 154, 0, 5, 2, 172, 42, 180, 0, 13, 27, 46, 156, 0, 9, 42, 4, 182, 0, 118, 172]
abbrev dktX2_tear_0 : List UInt8 := dkwX2_tear_0 ++ dktX2_tear_1
theorem dksX2_tear_0 : cX2_tear.data.toList.drop 0 = dktX2_tear_0 := by decide +kernel
theorem dksX2_tear_1 : cX2_tear.data.toList.drop 24 = dktX2_tear_1 := dk_seg dksX2_tear_0 24 rfl rfl
theorem dX2_tear_0 : decode cX2_tear 0 = .ok (.iload_n 1, 1) := dk_27 (dk_at dksX2_tear_0 0 rfl rfl)
theorem dX2_tear_1 : decode cX2_tear 1 = .ok (.invokestatic 114, 3) := dk_184 0 114 (dk_at dksX2_tear_0 1 rfl rfl)
theorem dX2_tear_4 : decode cX2_tear 4 = .ok (.ifCond .ne 5, 3) := dk_154 0 5 (dk_at dksX2_tear_0 4 rfl rfl)
theorem dX2_tear_7 : decode cX2_tear 7 = .ok (.iconst (-1), 1) := dk_2 (dk_at dksX2_tear_0 7 rfl rfl)
theorem dX2_tear_8 : decode cX2_tear 8 = .ok (.ireturn, 1) := dk_172 (dk_at dksX2_tear_0 8 rfl rfl)
theorem dX2_tear_9 : decode cX2_tear 9 = .ok (.aload_n 0, 1) := dk_42 (dk_at dksX2_tear_0 9 rfl rfl)
theorem dX2_tear_10 : decode cX2_tear 10 = .ok (.getfield 13, 3) := dk_180 0 13 (dk_at dksX2_tear_0 10 rfl rfl)
theorem dX2_tear_13 : decode cX2_tear 13 = .ok (.iload_n 1, 1) := dk_27 (dk_at dksX2_tear_0 13 rfl rfl)
theorem dX2_tear_14 : decode cX2_tear 14 = .ok (.iaload, 1) := dk_46 (dk_at dksX2_tear_0 14 rfl rfl)
theorem dX2_tear_15 : decode cX2_tear 15 = .ok (.ifCond .ge 9, 3) := dk_156 0 9 (dk_at dksX2_tear_0 15 rfl rfl)
theorem dX2_tear_18 : decode cX2_tear 18 = .ok (.aload_n 0, 1) := dk_42 (dk_at dksX2_tear_0 18 rfl rfl)
theorem dX2_tear_19 : decode cX2_tear 19 = .ok (.iconst 1, 1) := dk_4 (dk_at dksX2_tear_0 19 rfl rfl)
theorem dX2_tear_20 : decode cX2_tear 20 = .ok (.invokevirtual 118, 3) := dk_182 0 118 (dk_at dksX2_tear_0 20 rfl rfl)
theorem dX2_tear_23 : decode cX2_tear 23 = .ok (.ireturn, 1) := dk_172 (dk_at dksX2_tear_0 23 rfl rfl)
theorem dX2_tear_24 : decode cX2_tear 24 = .ok (.aload_n 0, 1) := dk_42 (dk_at dksX2_tear_1 0 rfl rfl)
theorem dX2_tear_25 : decode cX2_tear 25 = .ok (.getfield 13, 3) := dk_180 0 13 (dk_at dksX2_tear_1 1 rfl rfl)
theorem dX2_tear_28 : decode cX2_tear 28 = .ok (.iload_n 1, 1) := dk_27 (dk_at dksX2_tear_1 4 rfl rfl)
theorem dX2_tear_29 : decode cX2_tear 29 = .ok (.iconst (-1), 1) := dk_2 (dk_at dksX2_tear_1 5 rfl rfl)
theorem dX2_tear_30 : decode cX2_tear 30 = .ok (.iastore, 1) := dk_79 (dk_at dksX2_tear_1 6 rfl rfl)
theorem dX2_tear_31 : decode cX2_tear 31 = .ok (.iconst 1, 1) := dk_4 (dk_at dksX2_tear_1 7 rfl rfl)
theorem dX2_tear_32 : decode cX2_tear 32 = .ok (.ireturn, 1) := dk_172 (dk_at dksX2_tear_1 8 rfl rfl)
abbrev cX2_copy : ByteArray := prog_12_method_19_code
def yX2_copy : MethodName := ⟨RX2, "copy", "(IIIII)I"⟩
def dkwX2_copy_7 : List UInt8 := [132, 6, 1, 167, 255, 224, 4, 172]
abbrev dktX2_copy_7 : List UInt8 := dkwX2_copy_7 ++ []
def dkwX2_copy_6 : List UInt8 := [42, 180, 0, 16, 16, 80, 29, 104, 21, 4, 96, 21, 6, 96, 42, 180, 0, 19, 21, 6, 46, 79]
abbrev dktX2_copy_6 : List UInt8 := dkwX2_copy_6 ++ dktX2_copy_7
def dkwX2_copy_5 : List UInt8 := [28, 21, 6, 96, 182, 0, 122, 79, 132, 6, 1, 167, 255, 230, 3, 54, 6, 21, 6, 21, 5, 162, 0, 31]
abbrev dktX2_copy_5 : List UInt8 := dkwX2_copy_5 ++ dktX2_copy_6
def dkwX2_copy_4 : List UInt8 := [42, 5, 182, 0, 118, 172, 3, 54, 6, 21, 6, 21, 5, 162, 0, 25, 42, 180, 0, 19, 21, 6, 42, 27]
abbrev dktX2_copy_4 : List UInt8 := dkwX2_copy_4 ++ dktX2_copy_5
def dkwX2_copy_3 : List UInt8 := [46, 133, 148, 157, 0, 21, 21, 4, 133, 21, 5, 133, 97, 42, 180, 0, 13, 29, 46, 133, 148, 158, 0, 9]
abbrev dktX2_copy_3 : List UInt8 := dkwX2_copy_3 ++ dktX2_copy_4
def dkwX2_copy_2 : List UInt8 := [182, 0, 118, 172, 28, 155, 0, 43, 21, 4, 155, 0, 38, 28, 133, 21, 5, 133, 97, 42, 180, 0, 13, 27]
abbrev dktX2_copy_2 : List UInt8 := dkwX2_copy_2 ++ dktX2_copy_3
def dkwX2_copy_1 : List UInt8 := [182, 0, 118, 172, 42, 180, 0, 13, 27, 46, 155, 0, 12, 42, 180, 0, 13, 29, 46, 156, 0, 9, 42, 4]
abbrev dktX2_copy_1 : List UInt8 := dkwX2_copy_1 ++ dktX2_copy_2
def dkwX2_copy_0 : List UInt8 := [27, 184, 0, 114, 153, 0, 10, 29, 184, 0, 114, 154, 0, 5, 2, 172, 21, 5, 156, 0, 9, 42, 8]
abbrev dktX2_copy_0 : List UInt8 := dkwX2_copy_0 ++ dktX2_copy_1
theorem dksX2_copy_0 : cX2_copy.data.toList.drop 0 = dktX2_copy_0 := by decide +kernel
theorem dksX2_copy_1 : cX2_copy.data.toList.drop 23 = dktX2_copy_1 := dk_seg dksX2_copy_0 23 rfl rfl
theorem dksX2_copy_2 : cX2_copy.data.toList.drop 47 = dktX2_copy_2 := dk_seg dksX2_copy_1 24 rfl rfl
theorem dksX2_copy_3 : cX2_copy.data.toList.drop 71 = dktX2_copy_3 := dk_seg dksX2_copy_2 24 rfl rfl
theorem dksX2_copy_4 : cX2_copy.data.toList.drop 95 = dktX2_copy_4 := dk_seg dksX2_copy_3 24 rfl rfl
theorem dksX2_copy_5 : cX2_copy.data.toList.drop 119 = dktX2_copy_5 := dk_seg dksX2_copy_4 24 rfl rfl
theorem dksX2_copy_6 : cX2_copy.data.toList.drop 143 = dktX2_copy_6 := dk_seg dksX2_copy_5 24 rfl rfl
theorem dksX2_copy_7 : cX2_copy.data.toList.drop 165 = dktX2_copy_7 := dk_seg dksX2_copy_6 22 rfl rfl
theorem dX2_copy_0 : decode cX2_copy 0 = .ok (.iload_n 1, 1) := dk_27 (dk_at dksX2_copy_0 0 rfl rfl)
theorem dX2_copy_1 : decode cX2_copy 1 = .ok (.invokestatic 114, 3) := dk_184 0 114 (dk_at dksX2_copy_0 1 rfl rfl)
theorem dX2_copy_4 : decode cX2_copy 4 = .ok (.ifCond .eq 10, 3) := dk_153 0 10 (dk_at dksX2_copy_0 4 rfl rfl)
theorem dX2_copy_7 : decode cX2_copy 7 = .ok (.iload_n 3, 1) := dk_29 (dk_at dksX2_copy_0 7 rfl rfl)
theorem dX2_copy_8 : decode cX2_copy 8 = .ok (.invokestatic 114, 3) := dk_184 0 114 (dk_at dksX2_copy_0 8 rfl rfl)
theorem dX2_copy_11 : decode cX2_copy 11 = .ok (.ifCond .ne 5, 3) := dk_154 0 5 (dk_at dksX2_copy_0 11 rfl rfl)
theorem dX2_copy_14 : decode cX2_copy 14 = .ok (.iconst (-1), 1) := dk_2 (dk_at dksX2_copy_0 14 rfl rfl)
theorem dX2_copy_15 : decode cX2_copy 15 = .ok (.ireturn, 1) := dk_172 (dk_at dksX2_copy_0 15 rfl rfl)
theorem dX2_copy_16 : decode cX2_copy 16 = .ok (.iload 5, 2) := dk_21 5 (dk_at dksX2_copy_0 16 rfl rfl)
theorem dX2_copy_18 : decode cX2_copy 18 = .ok (.ifCond .ge 9, 3) := dk_156 0 9 (dk_at dksX2_copy_0 18 rfl rfl)
theorem dX2_copy_21 : decode cX2_copy 21 = .ok (.aload_n 0, 1) := dk_42 (dk_at dksX2_copy_0 21 rfl rfl)
theorem dX2_copy_22 : decode cX2_copy 22 = .ok (.iconst 5, 1) := dk_8 (dk_at dksX2_copy_0 22 rfl rfl)
theorem dX2_copy_23 : decode cX2_copy 23 = .ok (.invokevirtual 118, 3) := dk_182 0 118 (dk_at dksX2_copy_1 0 rfl rfl)
theorem dX2_copy_26 : decode cX2_copy 26 = .ok (.ireturn, 1) := dk_172 (dk_at dksX2_copy_1 3 rfl rfl)
theorem dX2_copy_27 : decode cX2_copy 27 = .ok (.aload_n 0, 1) := dk_42 (dk_at dksX2_copy_1 4 rfl rfl)
theorem dX2_copy_28 : decode cX2_copy 28 = .ok (.getfield 13, 3) := dk_180 0 13 (dk_at dksX2_copy_1 5 rfl rfl)
theorem dX2_copy_31 : decode cX2_copy 31 = .ok (.iload_n 1, 1) := dk_27 (dk_at dksX2_copy_1 8 rfl rfl)
theorem dX2_copy_32 : decode cX2_copy 32 = .ok (.iaload, 1) := dk_46 (dk_at dksX2_copy_1 9 rfl rfl)
theorem dX2_copy_33 : decode cX2_copy 33 = .ok (.ifCond .lt 12, 3) := dk_155 0 12 (dk_at dksX2_copy_1 10 rfl rfl)
theorem dX2_copy_36 : decode cX2_copy 36 = .ok (.aload_n 0, 1) := dk_42 (dk_at dksX2_copy_1 13 rfl rfl)
theorem dX2_copy_37 : decode cX2_copy 37 = .ok (.getfield 13, 3) := dk_180 0 13 (dk_at dksX2_copy_1 14 rfl rfl)
theorem dX2_copy_40 : decode cX2_copy 40 = .ok (.iload_n 3, 1) := dk_29 (dk_at dksX2_copy_1 17 rfl rfl)
theorem dX2_copy_41 : decode cX2_copy 41 = .ok (.iaload, 1) := dk_46 (dk_at dksX2_copy_1 18 rfl rfl)
theorem dX2_copy_42 : decode cX2_copy 42 = .ok (.ifCond .ge 9, 3) := dk_156 0 9 (dk_at dksX2_copy_1 19 rfl rfl)
theorem dX2_copy_45 : decode cX2_copy 45 = .ok (.aload_n 0, 1) := dk_42 (dk_at dksX2_copy_1 22 rfl rfl)
theorem dX2_copy_46 : decode cX2_copy 46 = .ok (.iconst 1, 1) := dk_4 (dk_at dksX2_copy_1 23 rfl rfl)
theorem dX2_copy_47 : decode cX2_copy 47 = .ok (.invokevirtual 118, 3) := dk_182 0 118 (dk_at dksX2_copy_2 0 rfl rfl)
theorem dX2_copy_50 : decode cX2_copy 50 = .ok (.ireturn, 1) := dk_172 (dk_at dksX2_copy_2 3 rfl rfl)
theorem dX2_copy_51 : decode cX2_copy 51 = .ok (.iload_n 2, 1) := dk_28 (dk_at dksX2_copy_2 4 rfl rfl)
theorem dX2_copy_52 : decode cX2_copy 52 = .ok (.ifCond .lt 43, 3) := dk_155 0 43 (dk_at dksX2_copy_2 5 rfl rfl)
theorem dX2_copy_55 : decode cX2_copy 55 = .ok (.iload 4, 2) := dk_21 4 (dk_at dksX2_copy_2 8 rfl rfl)
theorem dX2_copy_57 : decode cX2_copy 57 = .ok (.ifCond .lt 38, 3) := dk_155 0 38 (dk_at dksX2_copy_2 10 rfl rfl)
theorem dX2_copy_60 : decode cX2_copy 60 = .ok (.iload_n 2, 1) := dk_28 (dk_at dksX2_copy_2 13 rfl rfl)
theorem dX2_copy_61 : decode cX2_copy 61 = .ok (.i2l, 1) := dk_133 (dk_at dksX2_copy_2 14 rfl rfl)
theorem dX2_copy_62 : decode cX2_copy 62 = .ok (.iload 5, 2) := dk_21 5 (dk_at dksX2_copy_2 15 rfl rfl)
theorem dX2_copy_64 : decode cX2_copy 64 = .ok (.i2l, 1) := dk_133 (dk_at dksX2_copy_2 17 rfl rfl)
theorem dX2_copy_65 : decode cX2_copy 65 = .ok (.ladd, 1) := dk_97 (dk_at dksX2_copy_2 18 rfl rfl)
theorem dX2_copy_66 : decode cX2_copy 66 = .ok (.aload_n 0, 1) := dk_42 (dk_at dksX2_copy_2 19 rfl rfl)
theorem dX2_copy_67 : decode cX2_copy 67 = .ok (.getfield 13, 3) := dk_180 0 13 (dk_at dksX2_copy_2 20 rfl rfl)
theorem dX2_copy_70 : decode cX2_copy 70 = .ok (.iload_n 1, 1) := dk_27 (dk_at dksX2_copy_2 23 rfl rfl)
theorem dX2_copy_71 : decode cX2_copy 71 = .ok (.iaload, 1) := dk_46 (dk_at dksX2_copy_3 0 rfl rfl)
theorem dX2_copy_72 : decode cX2_copy 72 = .ok (.i2l, 1) := dk_133 (dk_at dksX2_copy_3 1 rfl rfl)
theorem dX2_copy_73 : decode cX2_copy 73 = .ok (.lcmp, 1) := dk_148 (dk_at dksX2_copy_3 2 rfl rfl)
theorem dX2_copy_74 : decode cX2_copy 74 = .ok (.ifCond .gt 21, 3) := dk_157 0 21 (dk_at dksX2_copy_3 3 rfl rfl)
theorem dX2_copy_77 : decode cX2_copy 77 = .ok (.iload 4, 2) := dk_21 4 (dk_at dksX2_copy_3 6 rfl rfl)
theorem dX2_copy_79 : decode cX2_copy 79 = .ok (.i2l, 1) := dk_133 (dk_at dksX2_copy_3 8 rfl rfl)
theorem dX2_copy_80 : decode cX2_copy 80 = .ok (.iload 5, 2) := dk_21 5 (dk_at dksX2_copy_3 9 rfl rfl)
theorem dX2_copy_82 : decode cX2_copy 82 = .ok (.i2l, 1) := dk_133 (dk_at dksX2_copy_3 11 rfl rfl)
theorem dX2_copy_83 : decode cX2_copy 83 = .ok (.ladd, 1) := dk_97 (dk_at dksX2_copy_3 12 rfl rfl)
theorem dX2_copy_84 : decode cX2_copy 84 = .ok (.aload_n 0, 1) := dk_42 (dk_at dksX2_copy_3 13 rfl rfl)
theorem dX2_copy_85 : decode cX2_copy 85 = .ok (.getfield 13, 3) := dk_180 0 13 (dk_at dksX2_copy_3 14 rfl rfl)
theorem dX2_copy_88 : decode cX2_copy 88 = .ok (.iload_n 3, 1) := dk_29 (dk_at dksX2_copy_3 17 rfl rfl)
theorem dX2_copy_89 : decode cX2_copy 89 = .ok (.iaload, 1) := dk_46 (dk_at dksX2_copy_3 18 rfl rfl)
theorem dX2_copy_90 : decode cX2_copy 90 = .ok (.i2l, 1) := dk_133 (dk_at dksX2_copy_3 19 rfl rfl)
theorem dX2_copy_91 : decode cX2_copy 91 = .ok (.lcmp, 1) := dk_148 (dk_at dksX2_copy_3 20 rfl rfl)
theorem dX2_copy_92 : decode cX2_copy 92 = .ok (.ifCond .le 9, 3) := dk_158 0 9 (dk_at dksX2_copy_3 21 rfl rfl)
theorem dX2_copy_95 : decode cX2_copy 95 = .ok (.aload_n 0, 1) := dk_42 (dk_at dksX2_copy_4 0 rfl rfl)
theorem dX2_copy_96 : decode cX2_copy 96 = .ok (.iconst 2, 1) := dk_5 (dk_at dksX2_copy_4 1 rfl rfl)
theorem dX2_copy_97 : decode cX2_copy 97 = .ok (.invokevirtual 118, 3) := dk_182 0 118 (dk_at dksX2_copy_4 2 rfl rfl)
theorem dX2_copy_100 : decode cX2_copy 100 = .ok (.ireturn, 1) := dk_172 (dk_at dksX2_copy_4 5 rfl rfl)
theorem dX2_copy_101 : decode cX2_copy 101 = .ok (.iconst 0, 1) := dk_3 (dk_at dksX2_copy_4 6 rfl rfl)
theorem dX2_copy_102 : decode cX2_copy 102 = .ok (.istore 6, 2) := dk_54 6 (dk_at dksX2_copy_4 7 rfl rfl)
theorem dX2_copy_104 : decode cX2_copy 104 = .ok (.iload 6, 2) := dk_21 6 (dk_at dksX2_copy_4 9 rfl rfl)
theorem dX2_copy_106 : decode cX2_copy 106 = .ok (.iload 5, 2) := dk_21 5 (dk_at dksX2_copy_4 11 rfl rfl)
theorem dX2_copy_108 : decode cX2_copy 108 = .ok (.if_icmp .ge 25, 3) := dk_162 0 25 (dk_at dksX2_copy_4 13 rfl rfl)
theorem dX2_copy_111 : decode cX2_copy 111 = .ok (.aload_n 0, 1) := dk_42 (dk_at dksX2_copy_4 16 rfl rfl)
theorem dX2_copy_112 : decode cX2_copy 112 = .ok (.getfield 19, 3) := dk_180 0 19 (dk_at dksX2_copy_4 17 rfl rfl)
theorem dX2_copy_115 : decode cX2_copy 115 = .ok (.iload 6, 2) := dk_21 6 (dk_at dksX2_copy_4 20 rfl rfl)
theorem dX2_copy_117 : decode cX2_copy 117 = .ok (.aload_n 0, 1) := dk_42 (dk_at dksX2_copy_4 22 rfl rfl)
theorem dX2_copy_118 : decode cX2_copy 118 = .ok (.iload_n 1, 1) := dk_27 (dk_at dksX2_copy_4 23 rfl rfl)
theorem dX2_copy_119 : decode cX2_copy 119 = .ok (.iload_n 2, 1) := dk_28 (dk_at dksX2_copy_5 0 rfl rfl)
theorem dX2_copy_120 : decode cX2_copy 120 = .ok (.iload 6, 2) := dk_21 6 (dk_at dksX2_copy_5 1 rfl rfl)
theorem dX2_copy_122 : decode cX2_copy 122 = .ok (.iadd, 1) := dk_96 (dk_at dksX2_copy_5 3 rfl rfl)
theorem dX2_copy_123 : decode cX2_copy 123 = .ok (.invokevirtual 122, 3) := dk_182 0 122 (dk_at dksX2_copy_5 4 rfl rfl)
theorem dX2_copy_126 : decode cX2_copy 126 = .ok (.iastore, 1) := dk_79 (dk_at dksX2_copy_5 7 rfl rfl)
theorem dX2_copy_127 : decode cX2_copy 127 = .ok (.iinc 6 1, 3) := dk_132 6 1 (dk_at dksX2_copy_5 8 rfl rfl)
theorem dX2_copy_130 : decode cX2_copy 130 = .ok (.goto (-26), 3) := dk_167 255 230 (dk_at dksX2_copy_5 11 rfl rfl)
theorem dX2_copy_133 : decode cX2_copy 133 = .ok (.iconst 0, 1) := dk_3 (dk_at dksX2_copy_5 14 rfl rfl)
theorem dX2_copy_134 : decode cX2_copy 134 = .ok (.istore 6, 2) := dk_54 6 (dk_at dksX2_copy_5 15 rfl rfl)
theorem dX2_copy_136 : decode cX2_copy 136 = .ok (.iload 6, 2) := dk_21 6 (dk_at dksX2_copy_5 17 rfl rfl)
theorem dX2_copy_138 : decode cX2_copy 138 = .ok (.iload 5, 2) := dk_21 5 (dk_at dksX2_copy_5 19 rfl rfl)
theorem dX2_copy_140 : decode cX2_copy 140 = .ok (.if_icmp .ge 31, 3) := dk_162 0 31 (dk_at dksX2_copy_5 21 rfl rfl)
theorem dX2_copy_143 : decode cX2_copy 143 = .ok (.aload_n 0, 1) := dk_42 (dk_at dksX2_copy_6 0 rfl rfl)
theorem dX2_copy_144 : decode cX2_copy 144 = .ok (.getfield 16, 3) := dk_180 0 16 (dk_at dksX2_copy_6 1 rfl rfl)
theorem dX2_copy_147 : decode cX2_copy 147 = .ok (.bipush 80, 2) := dk_16 80 (dk_at dksX2_copy_6 4 rfl rfl)
theorem dX2_copy_149 : decode cX2_copy 149 = .ok (.iload_n 3, 1) := dk_29 (dk_at dksX2_copy_6 6 rfl rfl)
theorem dX2_copy_150 : decode cX2_copy 150 = .ok (.imul, 1) := dk_104 (dk_at dksX2_copy_6 7 rfl rfl)
theorem dX2_copy_151 : decode cX2_copy 151 = .ok (.iload 4, 2) := dk_21 4 (dk_at dksX2_copy_6 8 rfl rfl)
theorem dX2_copy_153 : decode cX2_copy 153 = .ok (.iadd, 1) := dk_96 (dk_at dksX2_copy_6 10 rfl rfl)
theorem dX2_copy_154 : decode cX2_copy 154 = .ok (.iload 6, 2) := dk_21 6 (dk_at dksX2_copy_6 11 rfl rfl)
theorem dX2_copy_156 : decode cX2_copy 156 = .ok (.iadd, 1) := dk_96 (dk_at dksX2_copy_6 13 rfl rfl)
theorem dX2_copy_157 : decode cX2_copy 157 = .ok (.aload_n 0, 1) := dk_42 (dk_at dksX2_copy_6 14 rfl rfl)
theorem dX2_copy_158 : decode cX2_copy 158 = .ok (.getfield 19, 3) := dk_180 0 19 (dk_at dksX2_copy_6 15 rfl rfl)
theorem dX2_copy_161 : decode cX2_copy 161 = .ok (.iload 6, 2) := dk_21 6 (dk_at dksX2_copy_6 18 rfl rfl)
theorem dX2_copy_163 : decode cX2_copy 163 = .ok (.iaload, 1) := dk_46 (dk_at dksX2_copy_6 20 rfl rfl)
theorem dX2_copy_164 : decode cX2_copy 164 = .ok (.iastore, 1) := dk_79 (dk_at dksX2_copy_6 21 rfl rfl)
theorem dX2_copy_165 : decode cX2_copy 165 = .ok (.iinc 6 1, 3) := dk_132 6 1 (dk_at dksX2_copy_7 0 rfl rfl)
theorem dX2_copy_168 : decode cX2_copy 168 = .ok (.goto (-32), 3) := dk_167 255 224 (dk_at dksX2_copy_7 3 rfl rfl)
theorem dX2_copy_171 : decode cX2_copy 171 = .ok (.iconst 1, 1) := dk_4 (dk_at dksX2_copy_7 6 rfl rfl)
theorem dX2_copy_172 : decode cX2_copy 172 = .ok (.ireturn, 1) := dk_172 (dk_at dksX2_copy_7 7 rfl rfl)
abbrev cX2_mean : ByteArray := prog_12_method_20_code
def yX2_mean : MethodName := ⟨RX2, "mean", "(I)I"⟩
def dkwX2_mean_3 : List UInt8 := [167, 255, 231, 42, 32, 42, 180, 0, 13, 27, 46, 133, 109, 136, 4, 182, 0, 126, 172]
abbrev dktX2_mean_3 : List UInt8 := dkwX2_mean_3 ++ []
def dkwX2_mean_2 : List UInt8 := [180, 0, 13, 27, 46, 162, 0, 20, 32, 42, 27, 21, 4, 182, 0, 122, 133, 97, 65, 132, 4, 1]
abbrev dktX2_mean_2 : List UInt8 := dkwX2_mean_2 ++ dktX2_mean_3
def dkwX2_mean_1 : List UInt8 := [42, 180, 0, 13, 27, 46, 154, 0, 9, 42, 7, 182, 0, 118, 172, 9, 65, 3, 54, 4, 21, 4, 42]
abbrev dktX2_mean_1 : List UInt8 := dkwX2_mean_1 ++ dktX2_mean_2
def dkwX2_mean_0 : List UInt8 := [27, 184, 0, 114, 154, 0, 5, 2, 172, 42, 180, 0, 13, 27, 46, 156, 0, 9, 42, 4, 182, 0, 118, 172]
abbrev dktX2_mean_0 : List UInt8 := dkwX2_mean_0 ++ dktX2_mean_1
theorem dksX2_mean_0 : cX2_mean.data.toList.drop 0 = dktX2_mean_0 := by decide +kernel
theorem dksX2_mean_1 : cX2_mean.data.toList.drop 24 = dktX2_mean_1 := dk_seg dksX2_mean_0 24 rfl rfl
theorem dksX2_mean_2 : cX2_mean.data.toList.drop 47 = dktX2_mean_2 := dk_seg dksX2_mean_1 23 rfl rfl
theorem dksX2_mean_3 : cX2_mean.data.toList.drop 69 = dktX2_mean_3 := dk_seg dksX2_mean_2 22 rfl rfl
theorem dX2_mean_0 : decode cX2_mean 0 = .ok (.iload_n 1, 1) := dk_27 (dk_at dksX2_mean_0 0 rfl rfl)
theorem dX2_mean_1 : decode cX2_mean 1 = .ok (.invokestatic 114, 3) := dk_184 0 114 (dk_at dksX2_mean_0 1 rfl rfl)
theorem dX2_mean_4 : decode cX2_mean 4 = .ok (.ifCond .ne 5, 3) := dk_154 0 5 (dk_at dksX2_mean_0 4 rfl rfl)
theorem dX2_mean_7 : decode cX2_mean 7 = .ok (.iconst (-1), 1) := dk_2 (dk_at dksX2_mean_0 7 rfl rfl)
theorem dX2_mean_8 : decode cX2_mean 8 = .ok (.ireturn, 1) := dk_172 (dk_at dksX2_mean_0 8 rfl rfl)
theorem dX2_mean_9 : decode cX2_mean 9 = .ok (.aload_n 0, 1) := dk_42 (dk_at dksX2_mean_0 9 rfl rfl)
theorem dX2_mean_10 : decode cX2_mean 10 = .ok (.getfield 13, 3) := dk_180 0 13 (dk_at dksX2_mean_0 10 rfl rfl)
theorem dX2_mean_13 : decode cX2_mean 13 = .ok (.iload_n 1, 1) := dk_27 (dk_at dksX2_mean_0 13 rfl rfl)
theorem dX2_mean_14 : decode cX2_mean 14 = .ok (.iaload, 1) := dk_46 (dk_at dksX2_mean_0 14 rfl rfl)
theorem dX2_mean_15 : decode cX2_mean 15 = .ok (.ifCond .ge 9, 3) := dk_156 0 9 (dk_at dksX2_mean_0 15 rfl rfl)
theorem dX2_mean_18 : decode cX2_mean 18 = .ok (.aload_n 0, 1) := dk_42 (dk_at dksX2_mean_0 18 rfl rfl)
theorem dX2_mean_19 : decode cX2_mean 19 = .ok (.iconst 1, 1) := dk_4 (dk_at dksX2_mean_0 19 rfl rfl)
theorem dX2_mean_20 : decode cX2_mean 20 = .ok (.invokevirtual 118, 3) := dk_182 0 118 (dk_at dksX2_mean_0 20 rfl rfl)
theorem dX2_mean_23 : decode cX2_mean 23 = .ok (.ireturn, 1) := dk_172 (dk_at dksX2_mean_0 23 rfl rfl)
theorem dX2_mean_24 : decode cX2_mean 24 = .ok (.aload_n 0, 1) := dk_42 (dk_at dksX2_mean_1 0 rfl rfl)
theorem dX2_mean_25 : decode cX2_mean 25 = .ok (.getfield 13, 3) := dk_180 0 13 (dk_at dksX2_mean_1 1 rfl rfl)
theorem dX2_mean_28 : decode cX2_mean 28 = .ok (.iload_n 1, 1) := dk_27 (dk_at dksX2_mean_1 4 rfl rfl)
theorem dX2_mean_29 : decode cX2_mean 29 = .ok (.iaload, 1) := dk_46 (dk_at dksX2_mean_1 5 rfl rfl)
theorem dX2_mean_30 : decode cX2_mean 30 = .ok (.ifCond .ne 9, 3) := dk_154 0 9 (dk_at dksX2_mean_1 6 rfl rfl)
theorem dX2_mean_33 : decode cX2_mean 33 = .ok (.aload_n 0, 1) := dk_42 (dk_at dksX2_mean_1 9 rfl rfl)
theorem dX2_mean_34 : decode cX2_mean 34 = .ok (.iconst 4, 1) := dk_7 (dk_at dksX2_mean_1 10 rfl rfl)
theorem dX2_mean_35 : decode cX2_mean 35 = .ok (.invokevirtual 118, 3) := dk_182 0 118 (dk_at dksX2_mean_1 11 rfl rfl)
theorem dX2_mean_38 : decode cX2_mean 38 = .ok (.ireturn, 1) := dk_172 (dk_at dksX2_mean_1 14 rfl rfl)
theorem dX2_mean_39 : decode cX2_mean 39 = .ok (.lconst 0, 1) := dk_9 (dk_at dksX2_mean_1 15 rfl rfl)
theorem dX2_mean_40 : decode cX2_mean 40 = .ok (.lstore_n 2, 1) := dk_65 (dk_at dksX2_mean_1 16 rfl rfl)
theorem dX2_mean_41 : decode cX2_mean 41 = .ok (.iconst 0, 1) := dk_3 (dk_at dksX2_mean_1 17 rfl rfl)
theorem dX2_mean_42 : decode cX2_mean 42 = .ok (.istore 4, 2) := dk_54 4 (dk_at dksX2_mean_1 18 rfl rfl)
theorem dX2_mean_44 : decode cX2_mean 44 = .ok (.iload 4, 2) := dk_21 4 (dk_at dksX2_mean_1 20 rfl rfl)
theorem dX2_mean_46 : decode cX2_mean 46 = .ok (.aload_n 0, 1) := dk_42 (dk_at dksX2_mean_1 22 rfl rfl)
theorem dX2_mean_47 : decode cX2_mean 47 = .ok (.getfield 13, 3) := dk_180 0 13 (dk_at dksX2_mean_2 0 rfl rfl)
theorem dX2_mean_50 : decode cX2_mean 50 = .ok (.iload_n 1, 1) := dk_27 (dk_at dksX2_mean_2 3 rfl rfl)
theorem dX2_mean_51 : decode cX2_mean 51 = .ok (.iaload, 1) := dk_46 (dk_at dksX2_mean_2 4 rfl rfl)
theorem dX2_mean_52 : decode cX2_mean 52 = .ok (.if_icmp .ge 20, 3) := dk_162 0 20 (dk_at dksX2_mean_2 5 rfl rfl)
theorem dX2_mean_55 : decode cX2_mean 55 = .ok (.lload_n 2, 1) := dk_32 (dk_at dksX2_mean_2 8 rfl rfl)
theorem dX2_mean_56 : decode cX2_mean 56 = .ok (.aload_n 0, 1) := dk_42 (dk_at dksX2_mean_2 9 rfl rfl)
theorem dX2_mean_57 : decode cX2_mean 57 = .ok (.iload_n 1, 1) := dk_27 (dk_at dksX2_mean_2 10 rfl rfl)
theorem dX2_mean_58 : decode cX2_mean 58 = .ok (.iload 4, 2) := dk_21 4 (dk_at dksX2_mean_2 11 rfl rfl)
theorem dX2_mean_60 : decode cX2_mean 60 = .ok (.invokevirtual 122, 3) := dk_182 0 122 (dk_at dksX2_mean_2 13 rfl rfl)
theorem dX2_mean_63 : decode cX2_mean 63 = .ok (.i2l, 1) := dk_133 (dk_at dksX2_mean_2 16 rfl rfl)
theorem dX2_mean_64 : decode cX2_mean 64 = .ok (.ladd, 1) := dk_97 (dk_at dksX2_mean_2 17 rfl rfl)
theorem dX2_mean_65 : decode cX2_mean 65 = .ok (.lstore_n 2, 1) := dk_65 (dk_at dksX2_mean_2 18 rfl rfl)
theorem dX2_mean_66 : decode cX2_mean 66 = .ok (.iinc 4 1, 3) := dk_132 4 1 (dk_at dksX2_mean_2 19 rfl rfl)
theorem dX2_mean_69 : decode cX2_mean 69 = .ok (.goto (-25), 3) := dk_167 255 231 (dk_at dksX2_mean_3 0 rfl rfl)
theorem dX2_mean_72 : decode cX2_mean 72 = .ok (.aload_n 0, 1) := dk_42 (dk_at dksX2_mean_3 3 rfl rfl)
theorem dX2_mean_73 : decode cX2_mean 73 = .ok (.lload_n 2, 1) := dk_32 (dk_at dksX2_mean_3 4 rfl rfl)
theorem dX2_mean_74 : decode cX2_mean 74 = .ok (.aload_n 0, 1) := dk_42 (dk_at dksX2_mean_3 5 rfl rfl)
theorem dX2_mean_75 : decode cX2_mean 75 = .ok (.getfield 13, 3) := dk_180 0 13 (dk_at dksX2_mean_3 6 rfl rfl)
theorem dX2_mean_78 : decode cX2_mean 78 = .ok (.iload_n 1, 1) := dk_27 (dk_at dksX2_mean_3 9 rfl rfl)
theorem dX2_mean_79 : decode cX2_mean 79 = .ok (.iaload, 1) := dk_46 (dk_at dksX2_mean_3 10 rfl rfl)
theorem dX2_mean_80 : decode cX2_mean 80 = .ok (.i2l, 1) := dk_133 (dk_at dksX2_mean_3 11 rfl rfl)
theorem dX2_mean_81 : decode cX2_mean 81 = .ok (.ldiv, 1) := dk_109 (dk_at dksX2_mean_3 12 rfl rfl)
theorem dX2_mean_82 : decode cX2_mean 82 = .ok (.l2i, 1) := dk_136 (dk_at dksX2_mean_3 13 rfl rfl)
theorem dX2_mean_83 : decode cX2_mean 83 = .ok (.iconst 1, 1) := dk_4 (dk_at dksX2_mean_3 14 rfl rfl)
theorem dX2_mean_84 : decode cX2_mean 84 = .ok (.invokevirtual 126, 3) := dk_182 0 126 (dk_at dksX2_mean_3 15 rfl rfl)
theorem dX2_mean_87 : decode cX2_mean 87 = .ok (.ireturn, 1) := dk_172 (dk_at dksX2_mean_3 18 rfl rfl)
abbrev cX2_text : ByteArray := prog_12_method_22_code
def yX2_text : MethodName := ⟨RX2, "text", "(II)I"⟩
def dkwX2_text_2 : List UInt8 := [29, 96, 16, 32, 84, 132, 3, 1, 167, 255, 234, 28, 172]
abbrev dktX2_text_2 : List UInt8 := dkwX2_text_2 ++ []
def dkwX2_text_1 : List UInt8 := [172, 42, 180, 0, 22, 27, 28, 79, 3, 62, 29, 16, 80, 162, 0, 22, 42, 180, 0, 25, 16, 80, 27, 104]
abbrev dktX2_text_1 : List UInt8 := dkwX2_text_1 ++ dktX2_text_2
def dkwX2_text_0 : List UInt8 := [27, 184, 0, 129, 153, 0, 9, 28, 16, 80, 164, 0, 5, 2, 172, 28, 156, 0, 9, 42, 8, 182, 0, 118]
abbrev dktX2_text_0 : List UInt8 := dkwX2_text_0 ++ dktX2_text_1
theorem dksX2_text_0 : cX2_text.data.toList.drop 0 = dktX2_text_0 := by decide +kernel
theorem dksX2_text_1 : cX2_text.data.toList.drop 24 = dktX2_text_1 := dk_seg dksX2_text_0 24 rfl rfl
theorem dksX2_text_2 : cX2_text.data.toList.drop 48 = dktX2_text_2 := dk_seg dksX2_text_1 24 rfl rfl
theorem dX2_text_0 : decode cX2_text 0 = .ok (.iload_n 1, 1) := dk_27 (dk_at dksX2_text_0 0 rfl rfl)
theorem dX2_text_1 : decode cX2_text 1 = .ok (.invokestatic 129, 3) := dk_184 0 129 (dk_at dksX2_text_0 1 rfl rfl)
theorem dX2_text_4 : decode cX2_text 4 = .ok (.ifCond .eq 9, 3) := dk_153 0 9 (dk_at dksX2_text_0 4 rfl rfl)
theorem dX2_text_7 : decode cX2_text 7 = .ok (.iload_n 2, 1) := dk_28 (dk_at dksX2_text_0 7 rfl rfl)
theorem dX2_text_8 : decode cX2_text 8 = .ok (.bipush 80, 2) := dk_16 80 (dk_at dksX2_text_0 8 rfl rfl)
theorem dX2_text_10 : decode cX2_text 10 = .ok (.if_icmp .le 5, 3) := dk_164 0 5 (dk_at dksX2_text_0 10 rfl rfl)
theorem dX2_text_13 : decode cX2_text 13 = .ok (.iconst (-1), 1) := dk_2 (dk_at dksX2_text_0 13 rfl rfl)
theorem dX2_text_14 : decode cX2_text 14 = .ok (.ireturn, 1) := dk_172 (dk_at dksX2_text_0 14 rfl rfl)
theorem dX2_text_15 : decode cX2_text 15 = .ok (.iload_n 2, 1) := dk_28 (dk_at dksX2_text_0 15 rfl rfl)
theorem dX2_text_16 : decode cX2_text 16 = .ok (.ifCond .ge 9, 3) := dk_156 0 9 (dk_at dksX2_text_0 16 rfl rfl)
theorem dX2_text_19 : decode cX2_text 19 = .ok (.aload_n 0, 1) := dk_42 (dk_at dksX2_text_0 19 rfl rfl)
theorem dX2_text_20 : decode cX2_text 20 = .ok (.iconst 5, 1) := dk_8 (dk_at dksX2_text_0 20 rfl rfl)
theorem dX2_text_21 : decode cX2_text 21 = .ok (.invokevirtual 118, 3) := dk_182 0 118 (dk_at dksX2_text_0 21 rfl rfl)
theorem dX2_text_24 : decode cX2_text 24 = .ok (.ireturn, 1) := dk_172 (dk_at dksX2_text_1 0 rfl rfl)
theorem dX2_text_25 : decode cX2_text 25 = .ok (.aload_n 0, 1) := dk_42 (dk_at dksX2_text_1 1 rfl rfl)
theorem dX2_text_26 : decode cX2_text 26 = .ok (.getfield 22, 3) := dk_180 0 22 (dk_at dksX2_text_1 2 rfl rfl)
theorem dX2_text_29 : decode cX2_text 29 = .ok (.iload_n 1, 1) := dk_27 (dk_at dksX2_text_1 5 rfl rfl)
theorem dX2_text_30 : decode cX2_text 30 = .ok (.iload_n 2, 1) := dk_28 (dk_at dksX2_text_1 6 rfl rfl)
theorem dX2_text_31 : decode cX2_text 31 = .ok (.iastore, 1) := dk_79 (dk_at dksX2_text_1 7 rfl rfl)
theorem dX2_text_32 : decode cX2_text 32 = .ok (.iconst 0, 1) := dk_3 (dk_at dksX2_text_1 8 rfl rfl)
theorem dX2_text_33 : decode cX2_text 33 = .ok (.istore_n 3, 1) := dk_62 (dk_at dksX2_text_1 9 rfl rfl)
theorem dX2_text_34 : decode cX2_text 34 = .ok (.iload_n 3, 1) := dk_29 (dk_at dksX2_text_1 10 rfl rfl)
theorem dX2_text_35 : decode cX2_text 35 = .ok (.bipush 80, 2) := dk_16 80 (dk_at dksX2_text_1 11 rfl rfl)
theorem dX2_text_37 : decode cX2_text 37 = .ok (.if_icmp .ge 22, 3) := dk_162 0 22 (dk_at dksX2_text_1 13 rfl rfl)
theorem dX2_text_40 : decode cX2_text 40 = .ok (.aload_n 0, 1) := dk_42 (dk_at dksX2_text_1 16 rfl rfl)
theorem dX2_text_41 : decode cX2_text 41 = .ok (.getfield 25, 3) := dk_180 0 25 (dk_at dksX2_text_1 17 rfl rfl)
theorem dX2_text_44 : decode cX2_text 44 = .ok (.bipush 80, 2) := dk_16 80 (dk_at dksX2_text_1 20 rfl rfl)
theorem dX2_text_46 : decode cX2_text 46 = .ok (.iload_n 1, 1) := dk_27 (dk_at dksX2_text_1 22 rfl rfl)
theorem dX2_text_47 : decode cX2_text 47 = .ok (.imul, 1) := dk_104 (dk_at dksX2_text_1 23 rfl rfl)
theorem dX2_text_48 : decode cX2_text 48 = .ok (.iload_n 3, 1) := dk_29 (dk_at dksX2_text_2 0 rfl rfl)
theorem dX2_text_49 : decode cX2_text 49 = .ok (.iadd, 1) := dk_96 (dk_at dksX2_text_2 1 rfl rfl)
theorem dX2_text_50 : decode cX2_text 50 = .ok (.bipush 32, 2) := dk_16 32 (dk_at dksX2_text_2 2 rfl rfl)
theorem dX2_text_52 : decode cX2_text 52 = .ok (.bastore, 1) := dk_84 (dk_at dksX2_text_2 4 rfl rfl)
theorem dX2_text_53 : decode cX2_text 53 = .ok (.iinc 3 1, 3) := dk_132 3 1 (dk_at dksX2_text_2 5 rfl rfl)
theorem dX2_text_56 : decode cX2_text 56 = .ok (.goto (-22), 3) := dk_167 255 234 (dk_at dksX2_text_2 8 rfl rfl)
theorem dX2_text_59 : decode cX2_text 59 = .ok (.iload_n 2, 1) := dk_28 (dk_at dksX2_text_2 11 rfl rfl)
theorem dX2_text_60 : decode cX2_text 60 = .ok (.ireturn, 1) := dk_172 (dk_at dksX2_text_2 12 rfl rfl)
abbrev cX2_isText : ByteArray := prog_12_method_21_code
def yX2_isText : MethodName := ⟨RX2, "isText", "(I)Z"⟩
def dkwX2_isText_0 : List UInt8 := [26, 3, 6, 184, 0, 104, 172]
abbrev dktX2_isText_0 : List UInt8 := dkwX2_isText_0 ++ []
theorem dksX2_isText_0 : cX2_isText.data.toList.drop 0 = dktX2_isText_0 := by decide +kernel
theorem dX2_isText_0 : decode cX2_isText 0 = .ok (.iload_n 0, 1) := dk_26 (dk_at dksX2_isText_0 0 rfl rfl)
theorem dX2_isText_1 : decode cX2_isText 1 = .ok (.iconst 0, 1) := dk_3 (dk_at dksX2_isText_0 1 rfl rfl)
theorem dX2_isText_2 : decode cX2_isText 2 = .ok (.iconst 3, 1) := dk_6 (dk_at dksX2_isText_0 2 rfl rfl)
theorem dX2_isText_3 : decode cX2_isText 3 = .ok (.invokestatic 104, 3) := dk_184 0 104 (dk_at dksX2_isText_0 3 rfl rfl)
theorem dX2_isText_6 : decode cX2_isText 6 = .ok (.ireturn, 1) := dk_172 (dk_at dksX2_isText_0 6 rfl rfl)
abbrev cX2_put : ByteArray := prog_12_method_23_code
def yX2_put : MethodName := ⟨RX2, "put", "(III)I"⟩
def dkwX2_put_3 : List UInt8 := [84, 17, 3, 232, 21, 4, 96, 172]
abbrev dktX2_put_3 : List UInt8 := dkwX2_put_3 ++ []
def dkwX2_put_2 : List UInt8 := [180, 0, 25, 16, 80, 27, 104, 28, 96, 51, 54, 4, 42, 180, 0, 25, 16, 80, 27, 104, 28, 96, 29, 145]
abbrev dktX2_put_2 : List UInt8 := dkwX2_put_2 ++ dktX2_put_3
def dkwX2_put_1 : List UInt8 := [28, 3, 42, 180, 0, 22, 27, 46, 4, 100, 184, 0, 104, 154, 0, 9, 42, 5, 182, 0, 118, 172, 42]
abbrev dktX2_put_1 : List UInt8 := dkwX2_put_1 ++ dktX2_put_2
def dkwX2_put_0 : List UInt8 := [27, 184, 0, 129, 154, 0, 5, 2, 172, 42, 180, 0, 22, 27, 46, 156, 0, 9, 42, 4, 182, 0, 118, 172]
abbrev dktX2_put_0 : List UInt8 := dkwX2_put_0 ++ dktX2_put_1
theorem dksX2_put_0 : cX2_put.data.toList.drop 0 = dktX2_put_0 := by decide +kernel
theorem dksX2_put_1 : cX2_put.data.toList.drop 24 = dktX2_put_1 := dk_seg dksX2_put_0 24 rfl rfl
theorem dksX2_put_2 : cX2_put.data.toList.drop 47 = dktX2_put_2 := dk_seg dksX2_put_1 23 rfl rfl
theorem dksX2_put_3 : cX2_put.data.toList.drop 71 = dktX2_put_3 := dk_seg dksX2_put_2 24 rfl rfl
theorem dX2_put_0 : decode cX2_put 0 = .ok (.iload_n 1, 1) := dk_27 (dk_at dksX2_put_0 0 rfl rfl)
theorem dX2_put_1 : decode cX2_put 1 = .ok (.invokestatic 129, 3) := dk_184 0 129 (dk_at dksX2_put_0 1 rfl rfl)
theorem dX2_put_4 : decode cX2_put 4 = .ok (.ifCond .ne 5, 3) := dk_154 0 5 (dk_at dksX2_put_0 4 rfl rfl)
theorem dX2_put_7 : decode cX2_put 7 = .ok (.iconst (-1), 1) := dk_2 (dk_at dksX2_put_0 7 rfl rfl)
theorem dX2_put_8 : decode cX2_put 8 = .ok (.ireturn, 1) := dk_172 (dk_at dksX2_put_0 8 rfl rfl)
theorem dX2_put_9 : decode cX2_put 9 = .ok (.aload_n 0, 1) := dk_42 (dk_at dksX2_put_0 9 rfl rfl)
theorem dX2_put_10 : decode cX2_put 10 = .ok (.getfield 22, 3) := dk_180 0 22 (dk_at dksX2_put_0 10 rfl rfl)
theorem dX2_put_13 : decode cX2_put 13 = .ok (.iload_n 1, 1) := dk_27 (dk_at dksX2_put_0 13 rfl rfl)
theorem dX2_put_14 : decode cX2_put 14 = .ok (.iaload, 1) := dk_46 (dk_at dksX2_put_0 14 rfl rfl)
theorem dX2_put_15 : decode cX2_put 15 = .ok (.ifCond .ge 9, 3) := dk_156 0 9 (dk_at dksX2_put_0 15 rfl rfl)
theorem dX2_put_18 : decode cX2_put 18 = .ok (.aload_n 0, 1) := dk_42 (dk_at dksX2_put_0 18 rfl rfl)
theorem dX2_put_19 : decode cX2_put 19 = .ok (.iconst 1, 1) := dk_4 (dk_at dksX2_put_0 19 rfl rfl)
theorem dX2_put_20 : decode cX2_put 20 = .ok (.invokevirtual 118, 3) := dk_182 0 118 (dk_at dksX2_put_0 20 rfl rfl)
theorem dX2_put_23 : decode cX2_put 23 = .ok (.ireturn, 1) := dk_172 (dk_at dksX2_put_0 23 rfl rfl)
theorem dX2_put_24 : decode cX2_put 24 = .ok (.iload_n 2, 1) := dk_28 (dk_at dksX2_put_1 0 rfl rfl)
theorem dX2_put_25 : decode cX2_put 25 = .ok (.iconst 0, 1) := dk_3 (dk_at dksX2_put_1 1 rfl rfl)
theorem dX2_put_26 : decode cX2_put 26 = .ok (.aload_n 0, 1) := dk_42 (dk_at dksX2_put_1 2 rfl rfl)
theorem dX2_put_27 : decode cX2_put 27 = .ok (.getfield 22, 3) := dk_180 0 22 (dk_at dksX2_put_1 3 rfl rfl)
theorem dX2_put_30 : decode cX2_put 30 = .ok (.iload_n 1, 1) := dk_27 (dk_at dksX2_put_1 6 rfl rfl)
theorem dX2_put_31 : decode cX2_put 31 = .ok (.iaload, 1) := dk_46 (dk_at dksX2_put_1 7 rfl rfl)
theorem dX2_put_32 : decode cX2_put 32 = .ok (.iconst 1, 1) := dk_4 (dk_at dksX2_put_1 8 rfl rfl)
theorem dX2_put_33 : decode cX2_put 33 = .ok (.isub, 1) := dk_100 (dk_at dksX2_put_1 9 rfl rfl)
theorem dX2_put_34 : decode cX2_put 34 = .ok (.invokestatic 104, 3) := dk_184 0 104 (dk_at dksX2_put_1 10 rfl rfl)
theorem dX2_put_37 : decode cX2_put 37 = .ok (.ifCond .ne 9, 3) := dk_154 0 9 (dk_at dksX2_put_1 13 rfl rfl)
theorem dX2_put_40 : decode cX2_put 40 = .ok (.aload_n 0, 1) := dk_42 (dk_at dksX2_put_1 16 rfl rfl)
theorem dX2_put_41 : decode cX2_put 41 = .ok (.iconst 2, 1) := dk_5 (dk_at dksX2_put_1 17 rfl rfl)
theorem dX2_put_42 : decode cX2_put 42 = .ok (.invokevirtual 118, 3) := dk_182 0 118 (dk_at dksX2_put_1 18 rfl rfl)
theorem dX2_put_45 : decode cX2_put 45 = .ok (.ireturn, 1) := dk_172 (dk_at dksX2_put_1 21 rfl rfl)
theorem dX2_put_46 : decode cX2_put 46 = .ok (.aload_n 0, 1) := dk_42 (dk_at dksX2_put_1 22 rfl rfl)
theorem dX2_put_47 : decode cX2_put 47 = .ok (.getfield 25, 3) := dk_180 0 25 (dk_at dksX2_put_2 0 rfl rfl)
theorem dX2_put_50 : decode cX2_put 50 = .ok (.bipush 80, 2) := dk_16 80 (dk_at dksX2_put_2 3 rfl rfl)
theorem dX2_put_52 : decode cX2_put 52 = .ok (.iload_n 1, 1) := dk_27 (dk_at dksX2_put_2 5 rfl rfl)
theorem dX2_put_53 : decode cX2_put 53 = .ok (.imul, 1) := dk_104 (dk_at dksX2_put_2 6 rfl rfl)
theorem dX2_put_54 : decode cX2_put 54 = .ok (.iload_n 2, 1) := dk_28 (dk_at dksX2_put_2 7 rfl rfl)
theorem dX2_put_55 : decode cX2_put 55 = .ok (.iadd, 1) := dk_96 (dk_at dksX2_put_2 8 rfl rfl)
theorem dX2_put_56 : decode cX2_put 56 = .ok (.baload, 1) := dk_51 (dk_at dksX2_put_2 9 rfl rfl)
theorem dX2_put_57 : decode cX2_put 57 = .ok (.istore 4, 2) := dk_54 4 (dk_at dksX2_put_2 10 rfl rfl)
theorem dX2_put_59 : decode cX2_put 59 = .ok (.aload_n 0, 1) := dk_42 (dk_at dksX2_put_2 12 rfl rfl)
theorem dX2_put_60 : decode cX2_put 60 = .ok (.getfield 25, 3) := dk_180 0 25 (dk_at dksX2_put_2 13 rfl rfl)
theorem dX2_put_63 : decode cX2_put 63 = .ok (.bipush 80, 2) := dk_16 80 (dk_at dksX2_put_2 16 rfl rfl)
theorem dX2_put_65 : decode cX2_put 65 = .ok (.iload_n 1, 1) := dk_27 (dk_at dksX2_put_2 18 rfl rfl)
theorem dX2_put_66 : decode cX2_put 66 = .ok (.imul, 1) := dk_104 (dk_at dksX2_put_2 19 rfl rfl)
theorem dX2_put_67 : decode cX2_put 67 = .ok (.iload_n 2, 1) := dk_28 (dk_at dksX2_put_2 20 rfl rfl)
theorem dX2_put_68 : decode cX2_put 68 = .ok (.iadd, 1) := dk_96 (dk_at dksX2_put_2 21 rfl rfl)
theorem dX2_put_69 : decode cX2_put 69 = .ok (.iload_n 3, 1) := dk_29 (dk_at dksX2_put_2 22 rfl rfl)
theorem dX2_put_70 : decode cX2_put 70 = .ok (.i2b, 1) := dk_145 (dk_at dksX2_put_2 23 rfl rfl)
theorem dX2_put_71 : decode cX2_put 71 = .ok (.bastore, 1) := dk_84 (dk_at dksX2_put_3 0 rfl rfl)
theorem dX2_put_72 : decode cX2_put 72 = .ok (.sipush 1000, 3) := dk_17 3 232 (dk_at dksX2_put_3 1 rfl rfl)
theorem dX2_put_75 : decode cX2_put 75 = .ok (.iload 4, 2) := dk_21 4 (dk_at dksX2_put_3 4 rfl rfl)
theorem dX2_put_77 : decode cX2_put 77 = .ok (.iadd, 1) := dk_96 (dk_at dksX2_put_3 6 rfl rfl)
theorem dX2_put_78 : decode cX2_put 78 = .ok (.ireturn, 1) := dk_172 (dk_at dksX2_put_3 7 rfl rfl)
abbrev cX2_fault : ByteArray := prog_12_method_37_code
def yX2_fault : MethodName := ⟨RX2, "fault", "(I)I"⟩
def dkwX2_fault_1 : List UInt8 := [167, 0, 8, 42, 27, 182, 0, 188, 172]
abbrev dktX2_fault_1 : List UInt8 := dkwX2_fault_1 ++ []
def dkwX2_fault_0 : List UInt8 := [27, 184, 0, 129, 154, 0, 5, 2, 172, 42, 180, 0, 22, 27, 46, 156, 0, 11, 42, 4, 182, 0, 118]
abbrev dktX2_fault_0 : List UInt8 := dkwX2_fault_0 ++ dktX2_fault_1
theorem dksX2_fault_0 : cX2_fault.data.toList.drop 0 = dktX2_fault_0 := by decide +kernel
theorem dksX2_fault_1 : cX2_fault.data.toList.drop 23 = dktX2_fault_1 := dk_seg dksX2_fault_0 23 rfl rfl
theorem dX2_fault_0 : decode cX2_fault 0 = .ok (.iload_n 1, 1) := dk_27 (dk_at dksX2_fault_0 0 rfl rfl)
theorem dX2_fault_1 : decode cX2_fault 1 = .ok (.invokestatic 129, 3) := dk_184 0 129 (dk_at dksX2_fault_0 1 rfl rfl)
theorem dX2_fault_4 : decode cX2_fault 4 = .ok (.ifCond .ne 5, 3) := dk_154 0 5 (dk_at dksX2_fault_0 4 rfl rfl)
theorem dX2_fault_7 : decode cX2_fault 7 = .ok (.iconst (-1), 1) := dk_2 (dk_at dksX2_fault_0 7 rfl rfl)
theorem dX2_fault_8 : decode cX2_fault 8 = .ok (.ireturn, 1) := dk_172 (dk_at dksX2_fault_0 8 rfl rfl)
theorem dX2_fault_9 : decode cX2_fault 9 = .ok (.aload_n 0, 1) := dk_42 (dk_at dksX2_fault_0 9 rfl rfl)
theorem dX2_fault_10 : decode cX2_fault 10 = .ok (.getfield 22, 3) := dk_180 0 22 (dk_at dksX2_fault_0 10 rfl rfl)
theorem dX2_fault_13 : decode cX2_fault 13 = .ok (.iload_n 1, 1) := dk_27 (dk_at dksX2_fault_0 13 rfl rfl)
theorem dX2_fault_14 : decode cX2_fault 14 = .ok (.iaload, 1) := dk_46 (dk_at dksX2_fault_0 14 rfl rfl)
theorem dX2_fault_15 : decode cX2_fault 15 = .ok (.ifCond .ge 11, 3) := dk_156 0 11 (dk_at dksX2_fault_0 15 rfl rfl)
theorem dX2_fault_18 : decode cX2_fault 18 = .ok (.aload_n 0, 1) := dk_42 (dk_at dksX2_fault_0 18 rfl rfl)
theorem dX2_fault_19 : decode cX2_fault 19 = .ok (.iconst 1, 1) := dk_4 (dk_at dksX2_fault_0 19 rfl rfl)
theorem dX2_fault_20 : decode cX2_fault 20 = .ok (.invokevirtual 118, 3) := dk_182 0 118 (dk_at dksX2_fault_0 20 rfl rfl)
theorem dX2_fault_23 : decode cX2_fault 23 = .ok (.goto 8, 3) := dk_167 0 8 (dk_at dksX2_fault_1 0 rfl rfl)
theorem dX2_fault_26 : decode cX2_fault 26 = .ok (.aload_n 0, 1) := dk_42 (dk_at dksX2_fault_1 3 rfl rfl)
theorem dX2_fault_27 : decode cX2_fault 27 = .ok (.iload_n 1, 1) := dk_27 (dk_at dksX2_fault_1 4 rfl rfl)
theorem dX2_fault_28 : decode cX2_fault 28 = .ok (.invokevirtual 188, 3) := dk_182 0 188 (dk_at dksX2_fault_1 5 rfl rfl)
theorem dX2_fault_31 : decode cX2_fault 31 = .ok (.ireturn, 1) := dk_172 (dk_at dksX2_fault_1 8 rfl rfl)
abbrev cX2_faultOf : ByteArray := prog_12_method_36_code
def yX2_faultOf : MethodName := ⟨RX2, "faultOf", "(I)I"⟩
def dkwX2_faultOf_5 : List UInt8 := [180, 0, 144, 154, 0, 12, 42, 180, 0, 22, 27, 46, 167, 0, 5, 16, 247, 172]
abbrev dktX2_faultOf_5 : List UInt8 := dkwX2_faultOf_5 ++ []
def dkwX2_faultOf_4 : List UInt8 := [4, 96, 181, 0, 132, 167, 255, 219, 42, 27, 182, 0, 185, 154, 255, 211, 42, 180, 0, 132, 172, 42]
abbrev dktX2_faultOf_4 : List UInt8 := dkwX2_faultOf_4 ++ dktX2_faultOf_5
def dkwX2_faultOf_3 : List UInt8 := [27, 46, 162, 0, 43, 42, 27, 42, 180, 0, 132, 182, 0, 135, 16, 32, 160, 0, 16, 42, 89, 180, 0, 132]
abbrev dktX2_faultOf_3 : List UInt8 := dkwX2_faultOf_3 ++ dktX2_faultOf_4
def dkwX2_faultOf_2 : List UInt8 := [162, 0, 16, 42, 180, 0, 41, 28, 7, 79, 132, 2, 1, 167, 255, 241, 42, 180, 0, 132, 42, 180, 0, 22]
abbrev dktX2_faultOf_2 : List UInt8 := dkwX2_faultOf_2 ++ dktX2_faultOf_3
def dkwX2_faultOf_1 : List UInt8 := [180, 0, 35, 4, 3, 79, 42, 4, 181, 0, 164, 42, 180, 0, 38, 3, 4, 79, 3, 61, 28, 6]
abbrev dktX2_faultOf_1 : List UInt8 := dkwX2_faultOf_1 ++ dktX2_faultOf_2
def dkwX2_faultOf_0 : List UInt8 := [42, 3, 181, 0, 132, 42, 3, 181, 0, 144, 42, 3, 181, 0, 161, 42, 180, 0, 35, 3, 3, 79, 42]
abbrev dktX2_faultOf_0 : List UInt8 := dkwX2_faultOf_0 ++ dktX2_faultOf_1
theorem dksX2_faultOf_0 : cX2_faultOf.data.toList.drop 0 = dktX2_faultOf_0 := by decide +kernel
theorem dksX2_faultOf_1 : cX2_faultOf.data.toList.drop 23 = dktX2_faultOf_1 := dk_seg dksX2_faultOf_0 23 rfl rfl
theorem dksX2_faultOf_2 : cX2_faultOf.data.toList.drop 45 = dktX2_faultOf_2 := dk_seg dksX2_faultOf_1 22 rfl rfl
theorem dksX2_faultOf_3 : cX2_faultOf.data.toList.drop 69 = dktX2_faultOf_3 := dk_seg dksX2_faultOf_2 24 rfl rfl
theorem dksX2_faultOf_4 : cX2_faultOf.data.toList.drop 93 = dktX2_faultOf_4 := dk_seg dksX2_faultOf_3 24 rfl rfl
theorem dksX2_faultOf_5 : cX2_faultOf.data.toList.drop 115 = dktX2_faultOf_5 := dk_seg dksX2_faultOf_4 22 rfl rfl
theorem dX2_faultOf_0 : decode cX2_faultOf 0 = .ok (.aload_n 0, 1) := dk_42 (dk_at dksX2_faultOf_0 0 rfl rfl)
theorem dX2_faultOf_1 : decode cX2_faultOf 1 = .ok (.iconst 0, 1) := dk_3 (dk_at dksX2_faultOf_0 1 rfl rfl)
theorem dX2_faultOf_2 : decode cX2_faultOf 2 = .ok (.putfield 132, 3) := dk_181 0 132 (dk_at dksX2_faultOf_0 2 rfl rfl)
theorem dX2_faultOf_5 : decode cX2_faultOf 5 = .ok (.aload_n 0, 1) := dk_42 (dk_at dksX2_faultOf_0 5 rfl rfl)
theorem dX2_faultOf_6 : decode cX2_faultOf 6 = .ok (.iconst 0, 1) := dk_3 (dk_at dksX2_faultOf_0 6 rfl rfl)
theorem dX2_faultOf_7 : decode cX2_faultOf 7 = .ok (.putfield 144, 3) := dk_181 0 144 (dk_at dksX2_faultOf_0 7 rfl rfl)
theorem dX2_faultOf_10 : decode cX2_faultOf 10 = .ok (.aload_n 0, 1) := dk_42 (dk_at dksX2_faultOf_0 10 rfl rfl)
theorem dX2_faultOf_11 : decode cX2_faultOf 11 = .ok (.iconst 0, 1) := dk_3 (dk_at dksX2_faultOf_0 11 rfl rfl)
theorem dX2_faultOf_12 : decode cX2_faultOf 12 = .ok (.putfield 161, 3) := dk_181 0 161 (dk_at dksX2_faultOf_0 12 rfl rfl)
theorem dX2_faultOf_15 : decode cX2_faultOf 15 = .ok (.aload_n 0, 1) := dk_42 (dk_at dksX2_faultOf_0 15 rfl rfl)
theorem dX2_faultOf_16 : decode cX2_faultOf 16 = .ok (.getfield 35, 3) := dk_180 0 35 (dk_at dksX2_faultOf_0 16 rfl rfl)
theorem dX2_faultOf_19 : decode cX2_faultOf 19 = .ok (.iconst 0, 1) := dk_3 (dk_at dksX2_faultOf_0 19 rfl rfl)
theorem dX2_faultOf_20 : decode cX2_faultOf 20 = .ok (.iconst 0, 1) := dk_3 (dk_at dksX2_faultOf_0 20 rfl rfl)
theorem dX2_faultOf_21 : decode cX2_faultOf 21 = .ok (.iastore, 1) := dk_79 (dk_at dksX2_faultOf_0 21 rfl rfl)
theorem dX2_faultOf_22 : decode cX2_faultOf 22 = .ok (.aload_n 0, 1) := dk_42 (dk_at dksX2_faultOf_0 22 rfl rfl)
theorem dX2_faultOf_23 : decode cX2_faultOf 23 = .ok (.getfield 35, 3) := dk_180 0 35 (dk_at dksX2_faultOf_1 0 rfl rfl)
theorem dX2_faultOf_26 : decode cX2_faultOf 26 = .ok (.iconst 1, 1) := dk_4 (dk_at dksX2_faultOf_1 3 rfl rfl)
theorem dX2_faultOf_27 : decode cX2_faultOf 27 = .ok (.iconst 0, 1) := dk_3 (dk_at dksX2_faultOf_1 4 rfl rfl)
theorem dX2_faultOf_28 : decode cX2_faultOf 28 = .ok (.iastore, 1) := dk_79 (dk_at dksX2_faultOf_1 5 rfl rfl)
theorem dX2_faultOf_29 : decode cX2_faultOf 29 = .ok (.aload_n 0, 1) := dk_42 (dk_at dksX2_faultOf_1 6 rfl rfl)
theorem dX2_faultOf_30 : decode cX2_faultOf 30 = .ok (.iconst 1, 1) := dk_4 (dk_at dksX2_faultOf_1 7 rfl rfl)
theorem dX2_faultOf_31 : decode cX2_faultOf 31 = .ok (.putfield 164, 3) := dk_181 0 164 (dk_at dksX2_faultOf_1 8 rfl rfl)
theorem dX2_faultOf_34 : decode cX2_faultOf 34 = .ok (.aload_n 0, 1) := dk_42 (dk_at dksX2_faultOf_1 11 rfl rfl)
theorem dX2_faultOf_35 : decode cX2_faultOf 35 = .ok (.getfield 38, 3) := dk_180 0 38 (dk_at dksX2_faultOf_1 12 rfl rfl)
theorem dX2_faultOf_38 : decode cX2_faultOf 38 = .ok (.iconst 0, 1) := dk_3 (dk_at dksX2_faultOf_1 15 rfl rfl)
theorem dX2_faultOf_39 : decode cX2_faultOf 39 = .ok (.iconst 1, 1) := dk_4 (dk_at dksX2_faultOf_1 16 rfl rfl)
theorem dX2_faultOf_40 : decode cX2_faultOf 40 = .ok (.iastore, 1) := dk_79 (dk_at dksX2_faultOf_1 17 rfl rfl)
theorem dX2_faultOf_41 : decode cX2_faultOf 41 = .ok (.iconst 0, 1) := dk_3 (dk_at dksX2_faultOf_1 18 rfl rfl)
theorem dX2_faultOf_42 : decode cX2_faultOf 42 = .ok (.istore_n 2, 1) := dk_61 (dk_at dksX2_faultOf_1 19 rfl rfl)
theorem dX2_faultOf_43 : decode cX2_faultOf 43 = .ok (.iload_n 2, 1) := dk_28 (dk_at dksX2_faultOf_1 20 rfl rfl)
theorem dX2_faultOf_44 : decode cX2_faultOf 44 = .ok (.iconst 3, 1) := dk_6 (dk_at dksX2_faultOf_1 21 rfl rfl)
theorem dX2_faultOf_45 : decode cX2_faultOf 45 = .ok (.if_icmp .ge 16, 3) := dk_162 0 16 (dk_at dksX2_faultOf_2 0 rfl rfl)
theorem dX2_faultOf_48 : decode cX2_faultOf 48 = .ok (.aload_n 0, 1) := dk_42 (dk_at dksX2_faultOf_2 3 rfl rfl)
theorem dX2_faultOf_49 : decode cX2_faultOf 49 = .ok (.getfield 41, 3) := dk_180 0 41 (dk_at dksX2_faultOf_2 4 rfl rfl)
theorem dX2_faultOf_52 : decode cX2_faultOf 52 = .ok (.iload_n 2, 1) := dk_28 (dk_at dksX2_faultOf_2 7 rfl rfl)
theorem dX2_faultOf_53 : decode cX2_faultOf 53 = .ok (.iconst 4, 1) := dk_7 (dk_at dksX2_faultOf_2 8 rfl rfl)
theorem dX2_faultOf_54 : decode cX2_faultOf 54 = .ok (.iastore, 1) := dk_79 (dk_at dksX2_faultOf_2 9 rfl rfl)
theorem dX2_faultOf_55 : decode cX2_faultOf 55 = .ok (.iinc 2 1, 3) := dk_132 2 1 (dk_at dksX2_faultOf_2 10 rfl rfl)
theorem dX2_faultOf_58 : decode cX2_faultOf 58 = .ok (.goto (-15), 3) := dk_167 255 241 (dk_at dksX2_faultOf_2 13 rfl rfl)
theorem dX2_faultOf_61 : decode cX2_faultOf 61 = .ok (.aload_n 0, 1) := dk_42 (dk_at dksX2_faultOf_2 16 rfl rfl)
theorem dX2_faultOf_62 : decode cX2_faultOf 62 = .ok (.getfield 132, 3) := dk_180 0 132 (dk_at dksX2_faultOf_2 17 rfl rfl)
theorem dX2_faultOf_65 : decode cX2_faultOf 65 = .ok (.aload_n 0, 1) := dk_42 (dk_at dksX2_faultOf_2 20 rfl rfl)
theorem dX2_faultOf_66 : decode cX2_faultOf 66 = .ok (.getfield 22, 3) := dk_180 0 22 (dk_at dksX2_faultOf_2 21 rfl rfl)
theorem dX2_faultOf_69 : decode cX2_faultOf 69 = .ok (.iload_n 1, 1) := dk_27 (dk_at dksX2_faultOf_3 0 rfl rfl)
theorem dX2_faultOf_70 : decode cX2_faultOf 70 = .ok (.iaload, 1) := dk_46 (dk_at dksX2_faultOf_3 1 rfl rfl)
theorem dX2_faultOf_71 : decode cX2_faultOf 71 = .ok (.if_icmp .ge 43, 3) := dk_162 0 43 (dk_at dksX2_faultOf_3 2 rfl rfl)
theorem dX2_faultOf_74 : decode cX2_faultOf 74 = .ok (.aload_n 0, 1) := dk_42 (dk_at dksX2_faultOf_3 5 rfl rfl)
theorem dX2_faultOf_75 : decode cX2_faultOf 75 = .ok (.iload_n 1, 1) := dk_27 (dk_at dksX2_faultOf_3 6 rfl rfl)
theorem dX2_faultOf_76 : decode cX2_faultOf 76 = .ok (.aload_n 0, 1) := dk_42 (dk_at dksX2_faultOf_3 7 rfl rfl)
theorem dX2_faultOf_77 : decode cX2_faultOf 77 = .ok (.getfield 132, 3) := dk_180 0 132 (dk_at dksX2_faultOf_3 8 rfl rfl)
theorem dX2_faultOf_80 : decode cX2_faultOf 80 = .ok (.invokevirtual 135, 3) := dk_182 0 135 (dk_at dksX2_faultOf_3 11 rfl rfl)
theorem dX2_faultOf_83 : decode cX2_faultOf 83 = .ok (.bipush 32, 2) := dk_16 32 (dk_at dksX2_faultOf_3 14 rfl rfl)
theorem dX2_faultOf_85 : decode cX2_faultOf 85 = .ok (.if_icmp .ne 16, 3) := dk_160 0 16 (dk_at dksX2_faultOf_3 16 rfl rfl)
theorem dX2_faultOf_88 : decode cX2_faultOf 88 = .ok (.aload_n 0, 1) := dk_42 (dk_at dksX2_faultOf_3 19 rfl rfl)
theorem dX2_faultOf_89 : decode cX2_faultOf 89 = .ok (.dup, 1) := dk_89 (dk_at dksX2_faultOf_3 20 rfl rfl)
theorem dX2_faultOf_90 : decode cX2_faultOf 90 = .ok (.getfield 132, 3) := dk_180 0 132 (dk_at dksX2_faultOf_3 21 rfl rfl)
theorem dX2_faultOf_93 : decode cX2_faultOf 93 = .ok (.iconst 1, 1) := dk_4 (dk_at dksX2_faultOf_4 0 rfl rfl)
theorem dX2_faultOf_94 : decode cX2_faultOf 94 = .ok (.iadd, 1) := dk_96 (dk_at dksX2_faultOf_4 1 rfl rfl)
theorem dX2_faultOf_95 : decode cX2_faultOf 95 = .ok (.putfield 132, 3) := dk_181 0 132 (dk_at dksX2_faultOf_4 2 rfl rfl)
theorem dX2_faultOf_98 : decode cX2_faultOf 98 = .ok (.goto (-37), 3) := dk_167 255 219 (dk_at dksX2_faultOf_4 5 rfl rfl)
theorem dX2_faultOf_101 : decode cX2_faultOf 101 = .ok (.aload_n 0, 1) := dk_42 (dk_at dksX2_faultOf_4 8 rfl rfl)
theorem dX2_faultOf_102 : decode cX2_faultOf 102 = .ok (.iload_n 1, 1) := dk_27 (dk_at dksX2_faultOf_4 9 rfl rfl)
theorem dX2_faultOf_103 : decode cX2_faultOf 103 = .ok (.invokevirtual 185, 3) := dk_182 0 185 (dk_at dksX2_faultOf_4 10 rfl rfl)
theorem dX2_faultOf_106 : decode cX2_faultOf 106 = .ok (.ifCond .ne (-45), 3) := dk_154 255 211 (dk_at dksX2_faultOf_4 13 rfl rfl)
theorem dX2_faultOf_109 : decode cX2_faultOf 109 = .ok (.aload_n 0, 1) := dk_42 (dk_at dksX2_faultOf_4 16 rfl rfl)
theorem dX2_faultOf_110 : decode cX2_faultOf 110 = .ok (.getfield 132, 3) := dk_180 0 132 (dk_at dksX2_faultOf_4 17 rfl rfl)
theorem dX2_faultOf_113 : decode cX2_faultOf 113 = .ok (.ireturn, 1) := dk_172 (dk_at dksX2_faultOf_4 20 rfl rfl)
theorem dX2_faultOf_114 : decode cX2_faultOf 114 = .ok (.aload_n 0, 1) := dk_42 (dk_at dksX2_faultOf_4 21 rfl rfl)
theorem dX2_faultOf_115 : decode cX2_faultOf 115 = .ok (.getfield 144, 3) := dk_180 0 144 (dk_at dksX2_faultOf_5 0 rfl rfl)
theorem dX2_faultOf_118 : decode cX2_faultOf 118 = .ok (.ifCond .ne 12, 3) := dk_154 0 12 (dk_at dksX2_faultOf_5 3 rfl rfl)
theorem dX2_faultOf_121 : decode cX2_faultOf 121 = .ok (.aload_n 0, 1) := dk_42 (dk_at dksX2_faultOf_5 6 rfl rfl)
theorem dX2_faultOf_122 : decode cX2_faultOf 122 = .ok (.getfield 22, 3) := dk_180 0 22 (dk_at dksX2_faultOf_5 7 rfl rfl)
theorem dX2_faultOf_125 : decode cX2_faultOf 125 = .ok (.iload_n 1, 1) := dk_27 (dk_at dksX2_faultOf_5 10 rfl rfl)
theorem dX2_faultOf_126 : decode cX2_faultOf 126 = .ok (.iaload, 1) := dk_46 (dk_at dksX2_faultOf_5 11 rfl rfl)
theorem dX2_faultOf_127 : decode cX2_faultOf 127 = .ok (.goto 5, 3) := dk_167 0 5 (dk_at dksX2_faultOf_5 12 rfl rfl)
theorem dX2_faultOf_130 : decode cX2_faultOf 130 = .ok (.bipush (-9), 2) := dk_16 247 (dk_at dksX2_faultOf_5 15 rfl rfl)
theorem dX2_faultOf_132 : decode cX2_faultOf 132 = .ok (.ireturn, 1) := dk_172 (dk_at dksX2_faultOf_5 17 rfl rfl)
abbrev cX2_byteAt : ByteArray := prog_12_method_24_code
def yX2_byteAt : MethodName := ⟨RX2, "byteAt", "(II)I"⟩
def dkwX2_byteAt_1 : List UInt8 := [3, 172]
abbrev dktX2_byteAt_1 : List UInt8 := dkwX2_byteAt_1 ++ []
def dkwX2_byteAt_0 : List UInt8 := [28, 42, 180, 0, 22, 27, 46, 162, 0, 17, 42, 180, 0, 25, 16, 80, 27, 104, 28, 96, 51, 167, 0, 4]
abbrev dktX2_byteAt_0 : List UInt8 := dkwX2_byteAt_0 ++ dktX2_byteAt_1
theorem dksX2_byteAt_0 : cX2_byteAt.data.toList.drop 0 = dktX2_byteAt_0 := by decide +kernel
theorem dksX2_byteAt_1 : cX2_byteAt.data.toList.drop 24 = dktX2_byteAt_1 := dk_seg dksX2_byteAt_0 24 rfl rfl
theorem dX2_byteAt_0 : decode cX2_byteAt 0 = .ok (.iload_n 2, 1) := dk_28 (dk_at dksX2_byteAt_0 0 rfl rfl)
theorem dX2_byteAt_1 : decode cX2_byteAt 1 = .ok (.aload_n 0, 1) := dk_42 (dk_at dksX2_byteAt_0 1 rfl rfl)
theorem dX2_byteAt_2 : decode cX2_byteAt 2 = .ok (.getfield 22, 3) := dk_180 0 22 (dk_at dksX2_byteAt_0 2 rfl rfl)
theorem dX2_byteAt_5 : decode cX2_byteAt 5 = .ok (.iload_n 1, 1) := dk_27 (dk_at dksX2_byteAt_0 5 rfl rfl)
theorem dX2_byteAt_6 : decode cX2_byteAt 6 = .ok (.iaload, 1) := dk_46 (dk_at dksX2_byteAt_0 6 rfl rfl)
theorem dX2_byteAt_7 : decode cX2_byteAt 7 = .ok (.if_icmp .ge 17, 3) := dk_162 0 17 (dk_at dksX2_byteAt_0 7 rfl rfl)
theorem dX2_byteAt_10 : decode cX2_byteAt 10 = .ok (.aload_n 0, 1) := dk_42 (dk_at dksX2_byteAt_0 10 rfl rfl)
theorem dX2_byteAt_11 : decode cX2_byteAt 11 = .ok (.getfield 25, 3) := dk_180 0 25 (dk_at dksX2_byteAt_0 11 rfl rfl)
theorem dX2_byteAt_14 : decode cX2_byteAt 14 = .ok (.bipush 80, 2) := dk_16 80 (dk_at dksX2_byteAt_0 14 rfl rfl)
theorem dX2_byteAt_16 : decode cX2_byteAt 16 = .ok (.iload_n 1, 1) := dk_27 (dk_at dksX2_byteAt_0 16 rfl rfl)
theorem dX2_byteAt_17 : decode cX2_byteAt 17 = .ok (.imul, 1) := dk_104 (dk_at dksX2_byteAt_0 17 rfl rfl)
theorem dX2_byteAt_18 : decode cX2_byteAt 18 = .ok (.iload_n 2, 1) := dk_28 (dk_at dksX2_byteAt_0 18 rfl rfl)
theorem dX2_byteAt_19 : decode cX2_byteAt 19 = .ok (.iadd, 1) := dk_96 (dk_at dksX2_byteAt_0 19 rfl rfl)
theorem dX2_byteAt_20 : decode cX2_byteAt 20 = .ok (.baload, 1) := dk_51 (dk_at dksX2_byteAt_0 20 rfl rfl)
theorem dX2_byteAt_21 : decode cX2_byteAt 21 = .ok (.goto 4, 3) := dk_167 0 4 (dk_at dksX2_byteAt_0 21 rfl rfl)
theorem dX2_byteAt_24 : decode cX2_byteAt 24 = .ok (.iconst 0, 1) := dk_3 (dk_at dksX2_byteAt_1 0 rfl rfl)
theorem dX2_byteAt_25 : decode cX2_byteAt 25 = .ok (.ireturn, 1) := dk_172 (dk_at dksX2_byteAt_1 1 rfl rfl)
abbrev cX2_readsItem : ByteArray := prog_12_method_35_code
def yX2_readsItem : MethodName := ⟨RX2, "readsItem", "(I)Z"⟩
def dkwX2_readsItem_3 : List UInt8 := [16, 109, 160, 0, 15, 42, 27, 182, 0, 182, 153, 0, 7, 4, 167, 0, 4, 3, 172]
abbrev dktX2_readsItem_3 : List UInt8 := dkwX2_readsItem_3 ++ []
def dkwX2_readsItem_2 : List UInt8 := [42, 27, 182, 0, 176, 167, 0, 36, 28, 16, 99, 160, 0, 11, 42, 27, 182, 0, 179, 167, 0, 22, 28]
abbrev dktX2_readsItem_2 : List UInt8 := dkwX2_readsItem_2 ++ dktX2_readsItem_3
def dkwX2_readsItem_1 : List UInt8 := [182, 0, 170, 172, 28, 16, 101, 160, 0, 11, 42, 27, 182, 0, 173, 167, 0, 50, 28, 16, 106, 160, 0, 11]
abbrev dktX2_readsItem_1 : List UInt8 := dkwX2_readsItem_1 ++ dktX2_readsItem_2
def dkwX2_readsItem_0 : List UInt8 := [42, 27, 42, 180, 0, 132, 182, 0, 135, 61, 28, 184, 0, 167, 158, 0, 13, 42, 27, 28, 184, 0, 167]
abbrev dktX2_readsItem_0 : List UInt8 := dkwX2_readsItem_0 ++ dktX2_readsItem_1
theorem dksX2_readsItem_0 : cX2_readsItem.data.toList.drop 0 = dktX2_readsItem_0 := by decide +kernel
theorem dksX2_readsItem_1 : cX2_readsItem.data.toList.drop 23 = dktX2_readsItem_1 := dk_seg dksX2_readsItem_0 23 rfl rfl
theorem dksX2_readsItem_2 : cX2_readsItem.data.toList.drop 47 = dktX2_readsItem_2 := dk_seg dksX2_readsItem_1 24 rfl rfl
theorem dksX2_readsItem_3 : cX2_readsItem.data.toList.drop 70 = dktX2_readsItem_3 := dk_seg dksX2_readsItem_2 23 rfl rfl
theorem dX2_readsItem_0 : decode cX2_readsItem 0 = .ok (.aload_n 0, 1) := dk_42 (dk_at dksX2_readsItem_0 0 rfl rfl)
theorem dX2_readsItem_1 : decode cX2_readsItem 1 = .ok (.iload_n 1, 1) := dk_27 (dk_at dksX2_readsItem_0 1 rfl rfl)
theorem dX2_readsItem_2 : decode cX2_readsItem 2 = .ok (.aload_n 0, 1) := dk_42 (dk_at dksX2_readsItem_0 2 rfl rfl)
theorem dX2_readsItem_3 : decode cX2_readsItem 3 = .ok (.getfield 132, 3) := dk_180 0 132 (dk_at dksX2_readsItem_0 3 rfl rfl)
theorem dX2_readsItem_6 : decode cX2_readsItem 6 = .ok (.invokevirtual 135, 3) := dk_182 0 135 (dk_at dksX2_readsItem_0 6 rfl rfl)
theorem dX2_readsItem_9 : decode cX2_readsItem 9 = .ok (.istore_n 2, 1) := dk_61 (dk_at dksX2_readsItem_0 9 rfl rfl)
theorem dX2_readsItem_10 : decode cX2_readsItem 10 = .ok (.iload_n 2, 1) := dk_28 (dk_at dksX2_readsItem_0 10 rfl rfl)
theorem dX2_readsItem_11 : decode cX2_readsItem 11 = .ok (.invokestatic 167, 3) := dk_184 0 167 (dk_at dksX2_readsItem_0 11 rfl rfl)
theorem dX2_readsItem_14 : decode cX2_readsItem 14 = .ok (.ifCond .le 13, 3) := dk_158 0 13 (dk_at dksX2_readsItem_0 14 rfl rfl)
theorem dX2_readsItem_17 : decode cX2_readsItem 17 = .ok (.aload_n 0, 1) := dk_42 (dk_at dksX2_readsItem_0 17 rfl rfl)
theorem dX2_readsItem_18 : decode cX2_readsItem 18 = .ok (.iload_n 1, 1) := dk_27 (dk_at dksX2_readsItem_0 18 rfl rfl)
theorem dX2_readsItem_19 : decode cX2_readsItem 19 = .ok (.iload_n 2, 1) := dk_28 (dk_at dksX2_readsItem_0 19 rfl rfl)
theorem dX2_readsItem_20 : decode cX2_readsItem 20 = .ok (.invokestatic 167, 3) := dk_184 0 167 (dk_at dksX2_readsItem_0 20 rfl rfl)
theorem dX2_readsItem_23 : decode cX2_readsItem 23 = .ok (.invokevirtual 170, 3) := dk_182 0 170 (dk_at dksX2_readsItem_1 0 rfl rfl)
theorem dX2_readsItem_26 : decode cX2_readsItem 26 = .ok (.ireturn, 1) := dk_172 (dk_at dksX2_readsItem_1 3 rfl rfl)
theorem dX2_readsItem_27 : decode cX2_readsItem 27 = .ok (.iload_n 2, 1) := dk_28 (dk_at dksX2_readsItem_1 4 rfl rfl)
theorem dX2_readsItem_28 : decode cX2_readsItem 28 = .ok (.bipush 101, 2) := dk_16 101 (dk_at dksX2_readsItem_1 5 rfl rfl)
theorem dX2_readsItem_30 : decode cX2_readsItem 30 = .ok (.if_icmp .ne 11, 3) := dk_160 0 11 (dk_at dksX2_readsItem_1 7 rfl rfl)
theorem dX2_readsItem_33 : decode cX2_readsItem 33 = .ok (.aload_n 0, 1) := dk_42 (dk_at dksX2_readsItem_1 10 rfl rfl)
theorem dX2_readsItem_34 : decode cX2_readsItem 34 = .ok (.iload_n 1, 1) := dk_27 (dk_at dksX2_readsItem_1 11 rfl rfl)
theorem dX2_readsItem_35 : decode cX2_readsItem 35 = .ok (.invokevirtual 173, 3) := dk_182 0 173 (dk_at dksX2_readsItem_1 12 rfl rfl)
theorem dX2_readsItem_38 : decode cX2_readsItem 38 = .ok (.goto 50, 3) := dk_167 0 50 (dk_at dksX2_readsItem_1 15 rfl rfl)
theorem dX2_readsItem_41 : decode cX2_readsItem 41 = .ok (.iload_n 2, 1) := dk_28 (dk_at dksX2_readsItem_1 18 rfl rfl)
theorem dX2_readsItem_42 : decode cX2_readsItem 42 = .ok (.bipush 106, 2) := dk_16 106 (dk_at dksX2_readsItem_1 19 rfl rfl)
theorem dX2_readsItem_44 : decode cX2_readsItem 44 = .ok (.if_icmp .ne 11, 3) := dk_160 0 11 (dk_at dksX2_readsItem_1 21 rfl rfl)
theorem dX2_readsItem_47 : decode cX2_readsItem 47 = .ok (.aload_n 0, 1) := dk_42 (dk_at dksX2_readsItem_2 0 rfl rfl)
theorem dX2_readsItem_48 : decode cX2_readsItem 48 = .ok (.iload_n 1, 1) := dk_27 (dk_at dksX2_readsItem_2 1 rfl rfl)
theorem dX2_readsItem_49 : decode cX2_readsItem 49 = .ok (.invokevirtual 176, 3) := dk_182 0 176 (dk_at dksX2_readsItem_2 2 rfl rfl)
theorem dX2_readsItem_52 : decode cX2_readsItem 52 = .ok (.goto 36, 3) := dk_167 0 36 (dk_at dksX2_readsItem_2 5 rfl rfl)
theorem dX2_readsItem_55 : decode cX2_readsItem 55 = .ok (.iload_n 2, 1) := dk_28 (dk_at dksX2_readsItem_2 8 rfl rfl)
theorem dX2_readsItem_56 : decode cX2_readsItem 56 = .ok (.bipush 99, 2) := dk_16 99 (dk_at dksX2_readsItem_2 9 rfl rfl)
theorem dX2_readsItem_58 : decode cX2_readsItem 58 = .ok (.if_icmp .ne 11, 3) := dk_160 0 11 (dk_at dksX2_readsItem_2 11 rfl rfl)
theorem dX2_readsItem_61 : decode cX2_readsItem 61 = .ok (.aload_n 0, 1) := dk_42 (dk_at dksX2_readsItem_2 14 rfl rfl)
theorem dX2_readsItem_62 : decode cX2_readsItem 62 = .ok (.iload_n 1, 1) := dk_27 (dk_at dksX2_readsItem_2 15 rfl rfl)
theorem dX2_readsItem_63 : decode cX2_readsItem 63 = .ok (.invokevirtual 179, 3) := dk_182 0 179 (dk_at dksX2_readsItem_2 16 rfl rfl)
theorem dX2_readsItem_66 : decode cX2_readsItem 66 = .ok (.goto 22, 3) := dk_167 0 22 (dk_at dksX2_readsItem_2 19 rfl rfl)
theorem dX2_readsItem_69 : decode cX2_readsItem 69 = .ok (.iload_n 2, 1) := dk_28 (dk_at dksX2_readsItem_2 22 rfl rfl)
theorem dX2_readsItem_70 : decode cX2_readsItem 70 = .ok (.bipush 109, 2) := dk_16 109 (dk_at dksX2_readsItem_3 0 rfl rfl)
theorem dX2_readsItem_72 : decode cX2_readsItem 72 = .ok (.if_icmp .ne 15, 3) := dk_160 0 15 (dk_at dksX2_readsItem_3 2 rfl rfl)
theorem dX2_readsItem_75 : decode cX2_readsItem 75 = .ok (.aload_n 0, 1) := dk_42 (dk_at dksX2_readsItem_3 5 rfl rfl)
theorem dX2_readsItem_76 : decode cX2_readsItem 76 = .ok (.iload_n 1, 1) := dk_27 (dk_at dksX2_readsItem_3 6 rfl rfl)
theorem dX2_readsItem_77 : decode cX2_readsItem 77 = .ok (.invokevirtual 182, 3) := dk_182 0 182 (dk_at dksX2_readsItem_3 7 rfl rfl)
theorem dX2_readsItem_80 : decode cX2_readsItem 80 = .ok (.ifCond .eq 7, 3) := dk_153 0 7 (dk_at dksX2_readsItem_3 10 rfl rfl)
theorem dX2_readsItem_83 : decode cX2_readsItem 83 = .ok (.iconst 1, 1) := dk_4 (dk_at dksX2_readsItem_3 13 rfl rfl)
theorem dX2_readsItem_84 : decode cX2_readsItem 84 = .ok (.goto 4, 3) := dk_167 0 4 (dk_at dksX2_readsItem_3 14 rfl rfl)
theorem dX2_readsItem_87 : decode cX2_readsItem 87 = .ok (.iconst 0, 1) := dk_3 (dk_at dksX2_readsItem_3 17 rfl rfl)
theorem dX2_readsItem_88 : decode cX2_readsItem 88 = .ok (.ireturn, 1) := dk_172 (dk_at dksX2_readsItem_3 18 rfl rfl)
abbrev cX2_kindOf : ByteArray := prog_12_method_28_code
def yX2_kindOf : MethodName := ⟨RX2, "kindOf", "(I)I"⟩
def dkwX2_kindOf_2 : List UInt8 := [167, 0, 4, 3, 172]
abbrev dktX2_kindOf_2 : List UInt8 := dkwX2_kindOf_2 ++ []
def dkwX2_kindOf_1 : List UInt8 := [160, 0, 7, 6, 167, 0, 24, 26, 16, 78, 160, 0, 7, 7, 167, 0, 14, 26, 16, 79, 160, 0, 7, 8]
abbrev dktX2_kindOf_1 : List UInt8 := dkwX2_kindOf_1 ++ dktX2_kindOf_2
def dkwX2_kindOf_0 : List UInt8 := [26, 16, 84, 160, 0, 7, 4, 167, 0, 44, 26, 16, 86, 160, 0, 7, 5, 167, 0, 34, 26, 16, 87]
abbrev dktX2_kindOf_0 : List UInt8 := dkwX2_kindOf_0 ++ dktX2_kindOf_1
theorem dksX2_kindOf_0 : cX2_kindOf.data.toList.drop 0 = dktX2_kindOf_0 := by decide +kernel
theorem dksX2_kindOf_1 : cX2_kindOf.data.toList.drop 23 = dktX2_kindOf_1 := dk_seg dksX2_kindOf_0 23 rfl rfl
theorem dksX2_kindOf_2 : cX2_kindOf.data.toList.drop 47 = dktX2_kindOf_2 := dk_seg dksX2_kindOf_1 24 rfl rfl
theorem dX2_kindOf_0 : decode cX2_kindOf 0 = .ok (.iload_n 0, 1) := dk_26 (dk_at dksX2_kindOf_0 0 rfl rfl)
theorem dX2_kindOf_1 : decode cX2_kindOf 1 = .ok (.bipush 84, 2) := dk_16 84 (dk_at dksX2_kindOf_0 1 rfl rfl)
theorem dX2_kindOf_3 : decode cX2_kindOf 3 = .ok (.if_icmp .ne 7, 3) := dk_160 0 7 (dk_at dksX2_kindOf_0 3 rfl rfl)
theorem dX2_kindOf_6 : decode cX2_kindOf 6 = .ok (.iconst 1, 1) := dk_4 (dk_at dksX2_kindOf_0 6 rfl rfl)
theorem dX2_kindOf_7 : decode cX2_kindOf 7 = .ok (.goto 44, 3) := dk_167 0 44 (dk_at dksX2_kindOf_0 7 rfl rfl)
theorem dX2_kindOf_10 : decode cX2_kindOf 10 = .ok (.iload_n 0, 1) := dk_26 (dk_at dksX2_kindOf_0 10 rfl rfl)
theorem dX2_kindOf_11 : decode cX2_kindOf 11 = .ok (.bipush 86, 2) := dk_16 86 (dk_at dksX2_kindOf_0 11 rfl rfl)
theorem dX2_kindOf_13 : decode cX2_kindOf 13 = .ok (.if_icmp .ne 7, 3) := dk_160 0 7 (dk_at dksX2_kindOf_0 13 rfl rfl)
theorem dX2_kindOf_16 : decode cX2_kindOf 16 = .ok (.iconst 2, 1) := dk_5 (dk_at dksX2_kindOf_0 16 rfl rfl)
theorem dX2_kindOf_17 : decode cX2_kindOf 17 = .ok (.goto 34, 3) := dk_167 0 34 (dk_at dksX2_kindOf_0 17 rfl rfl)
theorem dX2_kindOf_20 : decode cX2_kindOf 20 = .ok (.iload_n 0, 1) := dk_26 (dk_at dksX2_kindOf_0 20 rfl rfl)
theorem dX2_kindOf_21 : decode cX2_kindOf 21 = .ok (.bipush 87, 2) := dk_16 87 (dk_at dksX2_kindOf_0 21 rfl rfl)
theorem dX2_kindOf_23 : decode cX2_kindOf 23 = .ok (.if_icmp .ne 7, 3) := dk_160 0 7 (dk_at dksX2_kindOf_1 0 rfl rfl)
theorem dX2_kindOf_26 : decode cX2_kindOf 26 = .ok (.iconst 3, 1) := dk_6 (dk_at dksX2_kindOf_1 3 rfl rfl)
theorem dX2_kindOf_27 : decode cX2_kindOf 27 = .ok (.goto 24, 3) := dk_167 0 24 (dk_at dksX2_kindOf_1 4 rfl rfl)
theorem dX2_kindOf_30 : decode cX2_kindOf 30 = .ok (.iload_n 0, 1) := dk_26 (dk_at dksX2_kindOf_1 7 rfl rfl)
theorem dX2_kindOf_31 : decode cX2_kindOf 31 = .ok (.bipush 78, 2) := dk_16 78 (dk_at dksX2_kindOf_1 8 rfl rfl)
theorem dX2_kindOf_33 : decode cX2_kindOf 33 = .ok (.if_icmp .ne 7, 3) := dk_160 0 7 (dk_at dksX2_kindOf_1 10 rfl rfl)
theorem dX2_kindOf_36 : decode cX2_kindOf 36 = .ok (.iconst 4, 1) := dk_7 (dk_at dksX2_kindOf_1 13 rfl rfl)
theorem dX2_kindOf_37 : decode cX2_kindOf 37 = .ok (.goto 14, 3) := dk_167 0 14 (dk_at dksX2_kindOf_1 14 rfl rfl)
theorem dX2_kindOf_40 : decode cX2_kindOf 40 = .ok (.iload_n 0, 1) := dk_26 (dk_at dksX2_kindOf_1 17 rfl rfl)
theorem dX2_kindOf_41 : decode cX2_kindOf 41 = .ok (.bipush 79, 2) := dk_16 79 (dk_at dksX2_kindOf_1 18 rfl rfl)
theorem dX2_kindOf_43 : decode cX2_kindOf 43 = .ok (.if_icmp .ne 7, 3) := dk_160 0 7 (dk_at dksX2_kindOf_1 20 rfl rfl)
theorem dX2_kindOf_46 : decode cX2_kindOf 46 = .ok (.iconst 5, 1) := dk_8 (dk_at dksX2_kindOf_1 23 rfl rfl)
theorem dX2_kindOf_47 : decode cX2_kindOf 47 = .ok (.goto 4, 3) := dk_167 0 4 (dk_at dksX2_kindOf_2 0 rfl rfl)
theorem dX2_kindOf_50 : decode cX2_kindOf 50 = .ok (.iconst 0, 1) := dk_3 (dk_at dksX2_kindOf_2 3 rfl rfl)
theorem dX2_kindOf_51 : decode cX2_kindOf 51 = .ok (.ireturn, 1) := dk_172 (dk_at dksX2_kindOf_2 4 rfl rfl)
abbrev cX2_readsSort : ByteArray := prog_12_method_29_code
def yX2_readsSort : MethodName := ⟨RX2, "readsSort", "(II)Z"⟩
def dkwX2_readsSort_6 : List UInt8 := [3, 96, 181, 0, 144, 21, 4, 172]
abbrev dktX2_readsSort_6 : List UInt8 := dkwX2_readsSort_6 ++ []
def dkwX2_readsSort_5 : List UInt8 := [153, 0, 7, 4, 167, 0, 4, 3, 54, 4, 42, 89, 180, 0, 144, 21, 4, 153, 0, 7, 4, 167, 0, 4]
abbrev dktX2_readsSort_5 : List UInt8 := dkwX2_readsSort_5 ++ dktX2_readsSort_6
def dkwX2_readsSort_4 : List UInt8 := [29, 21, 4, 96, 3, 79, 132, 4, 1, 167, 255, 236, 28, 4, 159, 0, 13, 42, 27, 28, 29, 182, 0, 151]
abbrev dktX2_readsSort_4 : List UInt8 := dkwX2_readsSort_4 ++ dktX2_readsSort_5
def dkwX2_readsSort_3 : List UInt8 := [180, 0, 138, 79, 132, 4, 1, 167, 255, 218, 7, 54, 4, 21, 4, 16, 7, 162, 0, 19, 42, 180, 0, 29]
abbrev dktX2_readsSort_3 : List UInt8 := dkwX2_readsSort_3 ++ dktX2_readsSort_4
def dkwX2_readsSort_2 : List UInt8 := [3, 16, 9, 182, 0, 147, 154, 0, 5, 3, 172, 42, 180, 0, 29, 29, 4, 96, 21, 4, 96, 42]
abbrev dktX2_readsSort_2 : List UInt8 := dkwX2_readsSort_2 ++ dktX2_readsSort_3
def dkwX2_readsSort_1 : List UInt8 := [180, 0, 144, 104, 62, 42, 180, 0, 29, 29, 28, 79, 3, 54, 4, 21, 4, 6, 162, 0, 38, 42, 27, 4]
abbrev dktX2_readsSort_1 : List UInt8 := dkwX2_readsSort_1 ++ dktX2_readsSort_2
def dkwX2_readsSort_0 : List UInt8 := [42, 180, 0, 144, 16, 6, 160, 0, 5, 3, 172, 42, 89, 180, 0, 132, 4, 96, 181, 0, 132, 16, 7, 42]
abbrev dktX2_readsSort_0 : List UInt8 := dkwX2_readsSort_0 ++ dktX2_readsSort_1
theorem dksX2_readsSort_0 : cX2_readsSort.data.toList.drop 0 = dktX2_readsSort_0 := by decide +kernel
theorem dksX2_readsSort_1 : cX2_readsSort.data.toList.drop 24 = dktX2_readsSort_1 := dk_seg dksX2_readsSort_0 24 rfl rfl
theorem dksX2_readsSort_2 : cX2_readsSort.data.toList.drop 48 = dktX2_readsSort_2 := dk_seg dksX2_readsSort_1 24 rfl rfl
theorem dksX2_readsSort_3 : cX2_readsSort.data.toList.drop 70 = dktX2_readsSort_3 := dk_seg dksX2_readsSort_2 22 rfl rfl
theorem dksX2_readsSort_4 : cX2_readsSort.data.toList.drop 94 = dktX2_readsSort_4 := dk_seg dksX2_readsSort_3 24 rfl rfl
theorem dksX2_readsSort_5 : cX2_readsSort.data.toList.drop 118 = dktX2_readsSort_5 := dk_seg dksX2_readsSort_4 24 rfl rfl
theorem dksX2_readsSort_6 : cX2_readsSort.data.toList.drop 142 = dktX2_readsSort_6 := dk_seg dksX2_readsSort_5 24 rfl rfl
theorem dX2_readsSort_0 : decode cX2_readsSort 0 = .ok (.aload_n 0, 1) := dk_42 (dk_at dksX2_readsSort_0 0 rfl rfl)
theorem dX2_readsSort_1 : decode cX2_readsSort 1 = .ok (.getfield 144, 3) := dk_180 0 144 (dk_at dksX2_readsSort_0 1 rfl rfl)
theorem dX2_readsSort_4 : decode cX2_readsSort 4 = .ok (.bipush 6, 2) := dk_16 6 (dk_at dksX2_readsSort_0 4 rfl rfl)
theorem dX2_readsSort_6 : decode cX2_readsSort 6 = .ok (.if_icmp .ne 5, 3) := dk_160 0 5 (dk_at dksX2_readsSort_0 6 rfl rfl)
theorem dX2_readsSort_9 : decode cX2_readsSort 9 = .ok (.iconst 0, 1) := dk_3 (dk_at dksX2_readsSort_0 9 rfl rfl)
theorem dX2_readsSort_10 : decode cX2_readsSort 10 = .ok (.ireturn, 1) := dk_172 (dk_at dksX2_readsSort_0 10 rfl rfl)
theorem dX2_readsSort_11 : decode cX2_readsSort 11 = .ok (.aload_n 0, 1) := dk_42 (dk_at dksX2_readsSort_0 11 rfl rfl)
theorem dX2_readsSort_12 : decode cX2_readsSort 12 = .ok (.dup, 1) := dk_89 (dk_at dksX2_readsSort_0 12 rfl rfl)
theorem dX2_readsSort_13 : decode cX2_readsSort 13 = .ok (.getfield 132, 3) := dk_180 0 132 (dk_at dksX2_readsSort_0 13 rfl rfl)
theorem dX2_readsSort_16 : decode cX2_readsSort 16 = .ok (.iconst 1, 1) := dk_4 (dk_at dksX2_readsSort_0 16 rfl rfl)
theorem dX2_readsSort_17 : decode cX2_readsSort 17 = .ok (.iadd, 1) := dk_96 (dk_at dksX2_readsSort_0 17 rfl rfl)
theorem dX2_readsSort_18 : decode cX2_readsSort 18 = .ok (.putfield 132, 3) := dk_181 0 132 (dk_at dksX2_readsSort_0 18 rfl rfl)
theorem dX2_readsSort_21 : decode cX2_readsSort 21 = .ok (.bipush 7, 2) := dk_16 7 (dk_at dksX2_readsSort_0 21 rfl rfl)
theorem dX2_readsSort_23 : decode cX2_readsSort 23 = .ok (.aload_n 0, 1) := dk_42 (dk_at dksX2_readsSort_0 23 rfl rfl)
theorem dX2_readsSort_24 : decode cX2_readsSort 24 = .ok (.getfield 144, 3) := dk_180 0 144 (dk_at dksX2_readsSort_1 0 rfl rfl)
theorem dX2_readsSort_27 : decode cX2_readsSort 27 = .ok (.imul, 1) := dk_104 (dk_at dksX2_readsSort_1 3 rfl rfl)
theorem dX2_readsSort_28 : decode cX2_readsSort 28 = .ok (.istore_n 3, 1) := dk_62 (dk_at dksX2_readsSort_1 4 rfl rfl)
theorem dX2_readsSort_29 : decode cX2_readsSort 29 = .ok (.aload_n 0, 1) := dk_42 (dk_at dksX2_readsSort_1 5 rfl rfl)
theorem dX2_readsSort_30 : decode cX2_readsSort 30 = .ok (.getfield 29, 3) := dk_180 0 29 (dk_at dksX2_readsSort_1 6 rfl rfl)
theorem dX2_readsSort_33 : decode cX2_readsSort 33 = .ok (.iload_n 3, 1) := dk_29 (dk_at dksX2_readsSort_1 9 rfl rfl)
theorem dX2_readsSort_34 : decode cX2_readsSort 34 = .ok (.iload_n 2, 1) := dk_28 (dk_at dksX2_readsSort_1 10 rfl rfl)
theorem dX2_readsSort_35 : decode cX2_readsSort 35 = .ok (.iastore, 1) := dk_79 (dk_at dksX2_readsSort_1 11 rfl rfl)
theorem dX2_readsSort_36 : decode cX2_readsSort 36 = .ok (.iconst 0, 1) := dk_3 (dk_at dksX2_readsSort_1 12 rfl rfl)
theorem dX2_readsSort_37 : decode cX2_readsSort 37 = .ok (.istore 4, 2) := dk_54 4 (dk_at dksX2_readsSort_1 13 rfl rfl)
theorem dX2_readsSort_39 : decode cX2_readsSort 39 = .ok (.iload 4, 2) := dk_21 4 (dk_at dksX2_readsSort_1 15 rfl rfl)
theorem dX2_readsSort_41 : decode cX2_readsSort 41 = .ok (.iconst 3, 1) := dk_6 (dk_at dksX2_readsSort_1 17 rfl rfl)
theorem dX2_readsSort_42 : decode cX2_readsSort 42 = .ok (.if_icmp .ge 38, 3) := dk_162 0 38 (dk_at dksX2_readsSort_1 18 rfl rfl)
theorem dX2_readsSort_45 : decode cX2_readsSort 45 = .ok (.aload_n 0, 1) := dk_42 (dk_at dksX2_readsSort_1 21 rfl rfl)
theorem dX2_readsSort_46 : decode cX2_readsSort 46 = .ok (.iload_n 1, 1) := dk_27 (dk_at dksX2_readsSort_1 22 rfl rfl)
theorem dX2_readsSort_47 : decode cX2_readsSort 47 = .ok (.iconst 1, 1) := dk_4 (dk_at dksX2_readsSort_1 23 rfl rfl)
theorem dX2_readsSort_48 : decode cX2_readsSort 48 = .ok (.iconst 0, 1) := dk_3 (dk_at dksX2_readsSort_2 0 rfl rfl)
theorem dX2_readsSort_49 : decode cX2_readsSort 49 = .ok (.bipush 9, 2) := dk_16 9 (dk_at dksX2_readsSort_2 1 rfl rfl)
theorem dX2_readsSort_51 : decode cX2_readsSort 51 = .ok (.invokevirtual 147, 3) := dk_182 0 147 (dk_at dksX2_readsSort_2 3 rfl rfl)
theorem dX2_readsSort_54 : decode cX2_readsSort 54 = .ok (.ifCond .ne 5, 3) := dk_154 0 5 (dk_at dksX2_readsSort_2 6 rfl rfl)
theorem dX2_readsSort_57 : decode cX2_readsSort 57 = .ok (.iconst 0, 1) := dk_3 (dk_at dksX2_readsSort_2 9 rfl rfl)
theorem dX2_readsSort_58 : decode cX2_readsSort 58 = .ok (.ireturn, 1) := dk_172 (dk_at dksX2_readsSort_2 10 rfl rfl)
theorem dX2_readsSort_59 : decode cX2_readsSort 59 = .ok (.aload_n 0, 1) := dk_42 (dk_at dksX2_readsSort_2 11 rfl rfl)
theorem dX2_readsSort_60 : decode cX2_readsSort 60 = .ok (.getfield 29, 3) := dk_180 0 29 (dk_at dksX2_readsSort_2 12 rfl rfl)
theorem dX2_readsSort_63 : decode cX2_readsSort 63 = .ok (.iload_n 3, 1) := dk_29 (dk_at dksX2_readsSort_2 15 rfl rfl)
theorem dX2_readsSort_64 : decode cX2_readsSort 64 = .ok (.iconst 1, 1) := dk_4 (dk_at dksX2_readsSort_2 16 rfl rfl)
theorem dX2_readsSort_65 : decode cX2_readsSort 65 = .ok (.iadd, 1) := dk_96 (dk_at dksX2_readsSort_2 17 rfl rfl)
theorem dX2_readsSort_66 : decode cX2_readsSort 66 = .ok (.iload 4, 2) := dk_21 4 (dk_at dksX2_readsSort_2 18 rfl rfl)
theorem dX2_readsSort_68 : decode cX2_readsSort 68 = .ok (.iadd, 1) := dk_96 (dk_at dksX2_readsSort_2 20 rfl rfl)
theorem dX2_readsSort_69 : decode cX2_readsSort 69 = .ok (.aload_n 0, 1) := dk_42 (dk_at dksX2_readsSort_2 21 rfl rfl)
theorem dX2_readsSort_70 : decode cX2_readsSort 70 = .ok (.getfield 138, 3) := dk_180 0 138 (dk_at dksX2_readsSort_3 0 rfl rfl)
theorem dX2_readsSort_73 : decode cX2_readsSort 73 = .ok (.iastore, 1) := dk_79 (dk_at dksX2_readsSort_3 3 rfl rfl)
theorem dX2_readsSort_74 : decode cX2_readsSort 74 = .ok (.iinc 4 1, 3) := dk_132 4 1 (dk_at dksX2_readsSort_3 4 rfl rfl)
theorem dX2_readsSort_77 : decode cX2_readsSort 77 = .ok (.goto (-38), 3) := dk_167 255 218 (dk_at dksX2_readsSort_3 7 rfl rfl)
theorem dX2_readsSort_80 : decode cX2_readsSort 80 = .ok (.iconst 4, 1) := dk_7 (dk_at dksX2_readsSort_3 10 rfl rfl)
theorem dX2_readsSort_81 : decode cX2_readsSort 81 = .ok (.istore 4, 2) := dk_54 4 (dk_at dksX2_readsSort_3 11 rfl rfl)
theorem dX2_readsSort_83 : decode cX2_readsSort 83 = .ok (.iload 4, 2) := dk_21 4 (dk_at dksX2_readsSort_3 13 rfl rfl)
theorem dX2_readsSort_85 : decode cX2_readsSort 85 = .ok (.bipush 7, 2) := dk_16 7 (dk_at dksX2_readsSort_3 15 rfl rfl)
theorem dX2_readsSort_87 : decode cX2_readsSort 87 = .ok (.if_icmp .ge 19, 3) := dk_162 0 19 (dk_at dksX2_readsSort_3 17 rfl rfl)
theorem dX2_readsSort_90 : decode cX2_readsSort 90 = .ok (.aload_n 0, 1) := dk_42 (dk_at dksX2_readsSort_3 20 rfl rfl)
theorem dX2_readsSort_91 : decode cX2_readsSort 91 = .ok (.getfield 29, 3) := dk_180 0 29 (dk_at dksX2_readsSort_3 21 rfl rfl)
theorem dX2_readsSort_94 : decode cX2_readsSort 94 = .ok (.iload_n 3, 1) := dk_29 (dk_at dksX2_readsSort_4 0 rfl rfl)
theorem dX2_readsSort_95 : decode cX2_readsSort 95 = .ok (.iload 4, 2) := dk_21 4 (dk_at dksX2_readsSort_4 1 rfl rfl)
theorem dX2_readsSort_97 : decode cX2_readsSort 97 = .ok (.iadd, 1) := dk_96 (dk_at dksX2_readsSort_4 3 rfl rfl)
theorem dX2_readsSort_98 : decode cX2_readsSort 98 = .ok (.iconst 0, 1) := dk_3 (dk_at dksX2_readsSort_4 4 rfl rfl)
theorem dX2_readsSort_99 : decode cX2_readsSort 99 = .ok (.iastore, 1) := dk_79 (dk_at dksX2_readsSort_4 5 rfl rfl)
theorem dX2_readsSort_100 : decode cX2_readsSort 100 = .ok (.iinc 4 1, 3) := dk_132 4 1 (dk_at dksX2_readsSort_4 6 rfl rfl)
theorem dX2_readsSort_103 : decode cX2_readsSort 103 = .ok (.goto (-20), 3) := dk_167 255 236 (dk_at dksX2_readsSort_4 9 rfl rfl)
theorem dX2_readsSort_106 : decode cX2_readsSort 106 = .ok (.iload_n 2, 1) := dk_28 (dk_at dksX2_readsSort_4 12 rfl rfl)
theorem dX2_readsSort_107 : decode cX2_readsSort 107 = .ok (.iconst 1, 1) := dk_4 (dk_at dksX2_readsSort_4 13 rfl rfl)
theorem dX2_readsSort_108 : decode cX2_readsSort 108 = .ok (.if_icmp .eq 13, 3) := dk_159 0 13 (dk_at dksX2_readsSort_4 14 rfl rfl)
theorem dX2_readsSort_111 : decode cX2_readsSort 111 = .ok (.aload_n 0, 1) := dk_42 (dk_at dksX2_readsSort_4 17 rfl rfl)
theorem dX2_readsSort_112 : decode cX2_readsSort 112 = .ok (.iload_n 1, 1) := dk_27 (dk_at dksX2_readsSort_4 18 rfl rfl)
theorem dX2_readsSort_113 : decode cX2_readsSort 113 = .ok (.iload_n 2, 1) := dk_28 (dk_at dksX2_readsSort_4 19 rfl rfl)
theorem dX2_readsSort_114 : decode cX2_readsSort 114 = .ok (.iload_n 3, 1) := dk_29 (dk_at dksX2_readsSort_4 20 rfl rfl)
theorem dX2_readsSort_115 : decode cX2_readsSort 115 = .ok (.invokevirtual 151, 3) := dk_182 0 151 (dk_at dksX2_readsSort_4 21 rfl rfl)
theorem dX2_readsSort_118 : decode cX2_readsSort 118 = .ok (.ifCond .eq 7, 3) := dk_153 0 7 (dk_at dksX2_readsSort_5 0 rfl rfl)
theorem dX2_readsSort_121 : decode cX2_readsSort 121 = .ok (.iconst 1, 1) := dk_4 (dk_at dksX2_readsSort_5 3 rfl rfl)
theorem dX2_readsSort_122 : decode cX2_readsSort 122 = .ok (.goto 4, 3) := dk_167 0 4 (dk_at dksX2_readsSort_5 4 rfl rfl)
theorem dX2_readsSort_125 : decode cX2_readsSort 125 = .ok (.iconst 0, 1) := dk_3 (dk_at dksX2_readsSort_5 7 rfl rfl)
theorem dX2_readsSort_126 : decode cX2_readsSort 126 = .ok (.istore 4, 2) := dk_54 4 (dk_at dksX2_readsSort_5 8 rfl rfl)
theorem dX2_readsSort_128 : decode cX2_readsSort 128 = .ok (.aload_n 0, 1) := dk_42 (dk_at dksX2_readsSort_5 10 rfl rfl)
theorem dX2_readsSort_129 : decode cX2_readsSort 129 = .ok (.dup, 1) := dk_89 (dk_at dksX2_readsSort_5 11 rfl rfl)
theorem dX2_readsSort_130 : decode cX2_readsSort 130 = .ok (.getfield 144, 3) := dk_180 0 144 (dk_at dksX2_readsSort_5 12 rfl rfl)
theorem dX2_readsSort_133 : decode cX2_readsSort 133 = .ok (.iload 4, 2) := dk_21 4 (dk_at dksX2_readsSort_5 15 rfl rfl)
theorem dX2_readsSort_135 : decode cX2_readsSort 135 = .ok (.ifCond .eq 7, 3) := dk_153 0 7 (dk_at dksX2_readsSort_5 17 rfl rfl)
theorem dX2_readsSort_138 : decode cX2_readsSort 138 = .ok (.iconst 1, 1) := dk_4 (dk_at dksX2_readsSort_5 20 rfl rfl)
theorem dX2_readsSort_139 : decode cX2_readsSort 139 = .ok (.goto 4, 3) := dk_167 0 4 (dk_at dksX2_readsSort_5 21 rfl rfl)
theorem dX2_readsSort_142 : decode cX2_readsSort 142 = .ok (.iconst 0, 1) := dk_3 (dk_at dksX2_readsSort_6 0 rfl rfl)
theorem dX2_readsSort_143 : decode cX2_readsSort 143 = .ok (.iadd, 1) := dk_96 (dk_at dksX2_readsSort_6 1 rfl rfl)
theorem dX2_readsSort_144 : decode cX2_readsSort 144 = .ok (.putfield 144, 3) := dk_181 0 144 (dk_at dksX2_readsSort_6 2 rfl rfl)
theorem dX2_readsSort_147 : decode cX2_readsSort 147 = .ok (.iload 4, 2) := dk_21 4 (dk_at dksX2_readsSort_6 5 rfl rfl)
theorem dX2_readsSort_149 : decode cX2_readsSort 149 = .ok (.ireturn, 1) := dk_172 (dk_at dksX2_readsSort_6 7 rfl rfl)
abbrev cX2_reads : ByteArray := prog_12_method_26_code
def yX2_reads : MethodName := ⟨RX2, "reads", "(IIII)Z"⟩
def dkwX2_reads_3 : List UInt8 := [29, 21, 4, 184, 0, 104, 153, 0, 7, 4, 167, 0, 4, 3, 172]
abbrev dktX2_reads_3 : List UInt8 := dkwX2_reads_3 ++ []
def dkwX2_reads_2 : List UInt8 := [89, 180, 0, 132, 4, 96, 181, 0, 132, 132, 5, 1, 167, 255, 205, 21, 5, 158, 0, 20, 42, 180, 0, 138]
abbrev dktX2_reads_2 : List UInt8 := dkwX2_reads_2 ++ dktX2_reads_3
def dkwX2_reads_1 : List UInt8 := [16, 10, 42, 180, 0, 138, 104, 42, 27, 42, 180, 0, 132, 182, 0, 135, 96, 16, 48, 100, 181, 0, 138, 42]
abbrev dktX2_reads_1 : List UInt8 := dkwX2_reads_1 ++ dktX2_reads_2
def dkwX2_reads_0 : List UInt8 := [3, 54, 5, 42, 3, 181, 0, 138, 21, 5, 28, 162, 0, 51, 42, 27, 182, 0, 141, 153, 0, 43, 42]
abbrev dktX2_reads_0 : List UInt8 := dkwX2_reads_0 ++ dktX2_reads_1
theorem dksX2_reads_0 : cX2_reads.data.toList.drop 0 = dktX2_reads_0 := by decide +kernel
theorem dksX2_reads_1 : cX2_reads.data.toList.drop 23 = dktX2_reads_1 := dk_seg dksX2_reads_0 23 rfl rfl
theorem dksX2_reads_2 : cX2_reads.data.toList.drop 47 = dktX2_reads_2 := dk_seg dksX2_reads_1 24 rfl rfl
theorem dksX2_reads_3 : cX2_reads.data.toList.drop 71 = dktX2_reads_3 := dk_seg dksX2_reads_2 24 rfl rfl
theorem dX2_reads_0 : decode cX2_reads 0 = .ok (.iconst 0, 1) := dk_3 (dk_at dksX2_reads_0 0 rfl rfl)
theorem dX2_reads_1 : decode cX2_reads 1 = .ok (.istore 5, 2) := dk_54 5 (dk_at dksX2_reads_0 1 rfl rfl)
theorem dX2_reads_3 : decode cX2_reads 3 = .ok (.aload_n 0, 1) := dk_42 (dk_at dksX2_reads_0 3 rfl rfl)
theorem dX2_reads_4 : decode cX2_reads 4 = .ok (.iconst 0, 1) := dk_3 (dk_at dksX2_reads_0 4 rfl rfl)
theorem dX2_reads_5 : decode cX2_reads 5 = .ok (.putfield 138, 3) := dk_181 0 138 (dk_at dksX2_reads_0 5 rfl rfl)
theorem dX2_reads_8 : decode cX2_reads 8 = .ok (.iload 5, 2) := dk_21 5 (dk_at dksX2_reads_0 8 rfl rfl)
theorem dX2_reads_10 : decode cX2_reads 10 = .ok (.iload_n 2, 1) := dk_28 (dk_at dksX2_reads_0 10 rfl rfl)
theorem dX2_reads_11 : decode cX2_reads 11 = .ok (.if_icmp .ge 51, 3) := dk_162 0 51 (dk_at dksX2_reads_0 11 rfl rfl)
theorem dX2_reads_14 : decode cX2_reads 14 = .ok (.aload_n 0, 1) := dk_42 (dk_at dksX2_reads_0 14 rfl rfl)
theorem dX2_reads_15 : decode cX2_reads 15 = .ok (.iload_n 1, 1) := dk_27 (dk_at dksX2_reads_0 15 rfl rfl)
theorem dX2_reads_16 : decode cX2_reads 16 = .ok (.invokevirtual 141, 3) := dk_182 0 141 (dk_at dksX2_reads_0 16 rfl rfl)
theorem dX2_reads_19 : decode cX2_reads 19 = .ok (.ifCond .eq 43, 3) := dk_153 0 43 (dk_at dksX2_reads_0 19 rfl rfl)
theorem dX2_reads_22 : decode cX2_reads 22 = .ok (.aload_n 0, 1) := dk_42 (dk_at dksX2_reads_0 22 rfl rfl)
theorem dX2_reads_23 : decode cX2_reads 23 = .ok (.bipush 10, 2) := dk_16 10 (dk_at dksX2_reads_1 0 rfl rfl)
theorem dX2_reads_25 : decode cX2_reads 25 = .ok (.aload_n 0, 1) := dk_42 (dk_at dksX2_reads_1 2 rfl rfl)
theorem dX2_reads_26 : decode cX2_reads 26 = .ok (.getfield 138, 3) := dk_180 0 138 (dk_at dksX2_reads_1 3 rfl rfl)
theorem dX2_reads_29 : decode cX2_reads 29 = .ok (.imul, 1) := dk_104 (dk_at dksX2_reads_1 6 rfl rfl)
theorem dX2_reads_30 : decode cX2_reads 30 = .ok (.aload_n 0, 1) := dk_42 (dk_at dksX2_reads_1 7 rfl rfl)
theorem dX2_reads_31 : decode cX2_reads 31 = .ok (.iload_n 1, 1) := dk_27 (dk_at dksX2_reads_1 8 rfl rfl)
theorem dX2_reads_32 : decode cX2_reads 32 = .ok (.aload_n 0, 1) := dk_42 (dk_at dksX2_reads_1 9 rfl rfl)
theorem dX2_reads_33 : decode cX2_reads 33 = .ok (.getfield 132, 3) := dk_180 0 132 (dk_at dksX2_reads_1 10 rfl rfl)
theorem dX2_reads_36 : decode cX2_reads 36 = .ok (.invokevirtual 135, 3) := dk_182 0 135 (dk_at dksX2_reads_1 13 rfl rfl)
theorem dX2_reads_39 : decode cX2_reads 39 = .ok (.iadd, 1) := dk_96 (dk_at dksX2_reads_1 16 rfl rfl)
theorem dX2_reads_40 : decode cX2_reads 40 = .ok (.bipush 48, 2) := dk_16 48 (dk_at dksX2_reads_1 17 rfl rfl)
theorem dX2_reads_42 : decode cX2_reads 42 = .ok (.isub, 1) := dk_100 (dk_at dksX2_reads_1 19 rfl rfl)
theorem dX2_reads_43 : decode cX2_reads 43 = .ok (.putfield 138, 3) := dk_181 0 138 (dk_at dksX2_reads_1 20 rfl rfl)
theorem dX2_reads_46 : decode cX2_reads 46 = .ok (.aload_n 0, 1) := dk_42 (dk_at dksX2_reads_1 23 rfl rfl)
theorem dX2_reads_47 : decode cX2_reads 47 = .ok (.dup, 1) := dk_89 (dk_at dksX2_reads_2 0 rfl rfl)
theorem dX2_reads_48 : decode cX2_reads 48 = .ok (.getfield 132, 3) := dk_180 0 132 (dk_at dksX2_reads_2 1 rfl rfl)
theorem dX2_reads_51 : decode cX2_reads 51 = .ok (.iconst 1, 1) := dk_4 (dk_at dksX2_reads_2 4 rfl rfl)
theorem dX2_reads_52 : decode cX2_reads 52 = .ok (.iadd, 1) := dk_96 (dk_at dksX2_reads_2 5 rfl rfl)
theorem dX2_reads_53 : decode cX2_reads 53 = .ok (.putfield 132, 3) := dk_181 0 132 (dk_at dksX2_reads_2 6 rfl rfl)
theorem dX2_reads_56 : decode cX2_reads 56 = .ok (.iinc 5 1, 3) := dk_132 5 1 (dk_at dksX2_reads_2 9 rfl rfl)
theorem dX2_reads_59 : decode cX2_reads 59 = .ok (.goto (-51), 3) := dk_167 255 205 (dk_at dksX2_reads_2 12 rfl rfl)
theorem dX2_reads_62 : decode cX2_reads 62 = .ok (.iload 5, 2) := dk_21 5 (dk_at dksX2_reads_2 15 rfl rfl)
theorem dX2_reads_64 : decode cX2_reads 64 = .ok (.ifCond .le 20, 3) := dk_158 0 20 (dk_at dksX2_reads_2 17 rfl rfl)
theorem dX2_reads_67 : decode cX2_reads 67 = .ok (.aload_n 0, 1) := dk_42 (dk_at dksX2_reads_2 20 rfl rfl)
theorem dX2_reads_68 : decode cX2_reads 68 = .ok (.getfield 138, 3) := dk_180 0 138 (dk_at dksX2_reads_2 21 rfl rfl)
theorem dX2_reads_71 : decode cX2_reads 71 = .ok (.iload_n 3, 1) := dk_29 (dk_at dksX2_reads_3 0 rfl rfl)
theorem dX2_reads_72 : decode cX2_reads 72 = .ok (.iload 4, 2) := dk_21 4 (dk_at dksX2_reads_3 1 rfl rfl)
theorem dX2_reads_74 : decode cX2_reads 74 = .ok (.invokestatic 104, 3) := dk_184 0 104 (dk_at dksX2_reads_3 3 rfl rfl)
theorem dX2_reads_77 : decode cX2_reads 77 = .ok (.ifCond .eq 7, 3) := dk_153 0 7 (dk_at dksX2_reads_3 6 rfl rfl)
theorem dX2_reads_80 : decode cX2_reads 80 = .ok (.iconst 1, 1) := dk_4 (dk_at dksX2_reads_3 9 rfl rfl)
theorem dX2_reads_81 : decode cX2_reads 81 = .ok (.goto 4, 3) := dk_167 0 4 (dk_at dksX2_reads_3 10 rfl rfl)
theorem dX2_reads_84 : decode cX2_reads 84 = .ok (.iconst 0, 1) := dk_3 (dk_at dksX2_reads_3 13 rfl rfl)
theorem dX2_reads_85 : decode cX2_reads 85 = .ok (.ireturn, 1) := dk_172 (dk_at dksX2_reads_3 14 rfl rfl)
abbrev cX2_isFigure : ByteArray := prog_12_method_25_code
def yX2_isFigure : MethodName := ⟨RX2, "isFigure", "(I)Z"⟩
def dkwX2_isFigure_0 : List UInt8 := [42, 27, 42, 180, 0, 132, 182, 0, 135, 16, 48, 16, 57, 184, 0, 104, 172]
abbrev dktX2_isFigure_0 : List UInt8 := dkwX2_isFigure_0 ++ []
theorem dksX2_isFigure_0 : cX2_isFigure.data.toList.drop 0 = dktX2_isFigure_0 := by decide +kernel
theorem dX2_isFigure_0 : decode cX2_isFigure 0 = .ok (.aload_n 0, 1) := dk_42 (dk_at dksX2_isFigure_0 0 rfl rfl)
theorem dX2_isFigure_1 : decode cX2_isFigure 1 = .ok (.iload_n 1, 1) := dk_27 (dk_at dksX2_isFigure_0 1 rfl rfl)
theorem dX2_isFigure_2 : decode cX2_isFigure 2 = .ok (.aload_n 0, 1) := dk_42 (dk_at dksX2_isFigure_0 2 rfl rfl)
theorem dX2_isFigure_3 : decode cX2_isFigure 3 = .ok (.getfield 132, 3) := dk_180 0 132 (dk_at dksX2_isFigure_0 3 rfl rfl)
theorem dX2_isFigure_6 : decode cX2_isFigure 6 = .ok (.invokevirtual 135, 3) := dk_182 0 135 (dk_at dksX2_isFigure_0 6 rfl rfl)
theorem dX2_isFigure_9 : decode cX2_isFigure 9 = .ok (.bipush 48, 2) := dk_16 48 (dk_at dksX2_isFigure_0 9 rfl rfl)
theorem dX2_isFigure_11 : decode cX2_isFigure 11 = .ok (.bipush 57, 2) := dk_16 57 (dk_at dksX2_isFigure_0 11 rfl rfl)
theorem dX2_isFigure_13 : decode cX2_isFigure 13 = .ok (.invokestatic 104, 3) := dk_184 0 104 (dk_at dksX2_isFigure_0 13 rfl rfl)
theorem dX2_isFigure_16 : decode cX2_isFigure 16 = .ok (.ireturn, 1) := dk_172 (dk_at dksX2_isFigure_0 16 rfl rfl)
abbrev cX2_readsMore : ByteArray := prog_12_method_30_code
def yX2_readsMore : MethodName := ⟨RX2, "readsMore", "(III)Z"⟩
def dkwX2_readsMore_10 : List UInt8 := [21, 5, 172]
abbrev dktX2_readsMore_10 : List UInt8 := dkwX2_readsMore_10 ++ []
def dkwX2_readsMore_9 : List UInt8 := [153, 0, 7, 4, 167, 0, 4, 3, 54, 5, 42, 180, 0, 29, 29, 16, 6, 96, 42, 180, 0, 138, 79]
abbrev dktX2_readsMore_9 : List UInt8 := dkwX2_readsMore_9 ++ dktX2_readsMore_10
def dkwX2_readsMore_8 : List UInt8 := [167, 0, 30, 42, 27, 16, 126, 182, 0, 154, 153, 0, 19, 42, 27, 4, 5, 16, 9, 182, 0, 147]
abbrev dktX2_readsMore_8 : List UInt8 := dkwX2_readsMore_8 ++ dktX2_readsMore_9
def dkwX2_readsMore_7 : List UInt8 := [182, 0, 154, 153, 0, 19, 42, 27, 5, 3, 16, 99, 182, 0, 147, 153, 0, 7, 4, 167, 0, 34, 3]
abbrev dktX2_readsMore_7 : List UInt8 := dkwX2_readsMore_7 ++ dktX2_readsMore_8
def dkwX2_readsMore_6 : List UInt8 := [159, 0, 7, 4, 167, 0, 4, 3, 54, 5, 21, 5, 154, 0, 80, 28, 7, 160, 0, 33, 42, 27, 16, 38]
abbrev dktX2_readsMore_6 : List UInt8 := dkwX2_readsMore_6 ++ dktX2_readsMore_7
def dkwX2_readsMore_5 : List UInt8 := [154, 0, 5, 3, 172, 42, 180, 0, 29, 29, 8, 96, 42, 180, 0, 138, 79, 28, 7, 159, 0, 12, 28, 8]
abbrev dktX2_readsMore_5 : List UInt8 := dkwX2_readsMore_5 ++ dktX2_readsMore_6
def dkwX2_readsMore_4 : List UInt8 := [16, 60, 167, 0, 18, 16, 60, 42, 180, 0, 29, 29, 7, 96, 46, 4, 96, 184, 0, 158, 182, 0, 147]
abbrev dktX2_readsMore_4 : List UInt8 := dkwX2_readsMore_4 ++ dktX2_readsMore_5
def dkwX2_readsMore_3 : List UInt8 := [42, 180, 0, 138, 79, 42, 27, 16, 45, 182, 0, 154, 153, 0, 38, 42, 27, 5, 4, 21, 4, 153, 0, 8]
abbrev dktX2_readsMore_3 : List UInt8 := dkwX2_readsMore_3 ++ dktX2_readsMore_4
def dkwX2_readsMore_2 : List UInt8 := [153, 0, 7, 5, 167, 0, 5, 16, 60, 182, 0, 147, 154, 0, 5, 3, 172, 42, 180, 0, 29, 29, 7, 96]
abbrev dktX2_readsMore_2 : List UInt8 := dkwX2_readsMore_2 ++ dktX2_readsMore_3
def dkwX2_readsMore_1 : List UInt8 := [16, 62, 182, 0, 154, 153, 0, 33, 42, 27, 21, 4, 153, 0, 7, 4, 167, 0, 4, 5, 3, 21, 4]
abbrev dktX2_readsMore_1 : List UInt8 := dkwX2_readsMore_1 ++ dktX2_readsMore_2
def dkwX2_readsMore_0 : List UInt8 := [28, 6, 160, 0, 7, 4, 167, 0, 4, 3, 54, 4, 42, 27, 21, 4, 153, 0, 8, 16, 64, 167, 0, 5]
abbrev dktX2_readsMore_0 : List UInt8 := dkwX2_readsMore_0 ++ dktX2_readsMore_1
theorem dksX2_readsMore_0 : cX2_readsMore.data.toList.drop 0 = dktX2_readsMore_0 := by decide +kernel
theorem dksX2_readsMore_1 : cX2_readsMore.data.toList.drop 24 = dktX2_readsMore_1 := dk_seg dksX2_readsMore_0 24 rfl rfl
theorem dksX2_readsMore_2 : cX2_readsMore.data.toList.drop 47 = dktX2_readsMore_2 := dk_seg dksX2_readsMore_1 23 rfl rfl
theorem dksX2_readsMore_3 : cX2_readsMore.data.toList.drop 71 = dktX2_readsMore_3 := dk_seg dksX2_readsMore_2 24 rfl rfl
theorem dksX2_readsMore_4 : cX2_readsMore.data.toList.drop 95 = dktX2_readsMore_4 := dk_seg dksX2_readsMore_3 24 rfl rfl
theorem dksX2_readsMore_5 : cX2_readsMore.data.toList.drop 118 = dktX2_readsMore_5 := dk_seg dksX2_readsMore_4 23 rfl rfl
theorem dksX2_readsMore_6 : cX2_readsMore.data.toList.drop 142 = dktX2_readsMore_6 := dk_seg dksX2_readsMore_5 24 rfl rfl
theorem dksX2_readsMore_7 : cX2_readsMore.data.toList.drop 166 = dktX2_readsMore_7 := dk_seg dksX2_readsMore_6 24 rfl rfl
theorem dksX2_readsMore_8 : cX2_readsMore.data.toList.drop 189 = dktX2_readsMore_8 := dk_seg dksX2_readsMore_7 23 rfl rfl
theorem dksX2_readsMore_9 : cX2_readsMore.data.toList.drop 211 = dktX2_readsMore_9 := dk_seg dksX2_readsMore_8 22 rfl rfl
theorem dksX2_readsMore_10 : cX2_readsMore.data.toList.drop 234 = dktX2_readsMore_10 := dk_seg dksX2_readsMore_9 23 rfl rfl
theorem dX2_readsMore_0 : decode cX2_readsMore 0 = .ok (.iload_n 2, 1) := dk_28 (dk_at dksX2_readsMore_0 0 rfl rfl)
theorem dX2_readsMore_1 : decode cX2_readsMore 1 = .ok (.iconst 3, 1) := dk_6 (dk_at dksX2_readsMore_0 1 rfl rfl)
theorem dX2_readsMore_2 : decode cX2_readsMore 2 = .ok (.if_icmp .ne 7, 3) := dk_160 0 7 (dk_at dksX2_readsMore_0 2 rfl rfl)
theorem dX2_readsMore_5 : decode cX2_readsMore 5 = .ok (.iconst 1, 1) := dk_4 (dk_at dksX2_readsMore_0 5 rfl rfl)
theorem dX2_readsMore_6 : decode cX2_readsMore 6 = .ok (.goto 4, 3) := dk_167 0 4 (dk_at dksX2_readsMore_0 6 rfl rfl)
theorem dX2_readsMore_9 : decode cX2_readsMore 9 = .ok (.iconst 0, 1) := dk_3 (dk_at dksX2_readsMore_0 9 rfl rfl)
theorem dX2_readsMore_10 : decode cX2_readsMore 10 = .ok (.istore 4, 2) := dk_54 4 (dk_at dksX2_readsMore_0 10 rfl rfl)
theorem dX2_readsMore_12 : decode cX2_readsMore 12 = .ok (.aload_n 0, 1) := dk_42 (dk_at dksX2_readsMore_0 12 rfl rfl)
theorem dX2_readsMore_13 : decode cX2_readsMore 13 = .ok (.iload_n 1, 1) := dk_27 (dk_at dksX2_readsMore_0 13 rfl rfl)
theorem dX2_readsMore_14 : decode cX2_readsMore 14 = .ok (.iload 4, 2) := dk_21 4 (dk_at dksX2_readsMore_0 14 rfl rfl)
theorem dX2_readsMore_16 : decode cX2_readsMore 16 = .ok (.ifCond .eq 8, 3) := dk_153 0 8 (dk_at dksX2_readsMore_0 16 rfl rfl)
theorem dX2_readsMore_19 : decode cX2_readsMore 19 = .ok (.bipush 64, 2) := dk_16 64 (dk_at dksX2_readsMore_0 19 rfl rfl)
theorem dX2_readsMore_21 : decode cX2_readsMore 21 = .ok (.goto 5, 3) := dk_167 0 5 (dk_at dksX2_readsMore_0 21 rfl rfl)
theorem dX2_readsMore_24 : decode cX2_readsMore 24 = .ok (.bipush 62, 2) := dk_16 62 (dk_at dksX2_readsMore_1 0 rfl rfl)
theorem dX2_readsMore_26 : decode cX2_readsMore 26 = .ok (.invokevirtual 154, 3) := dk_182 0 154 (dk_at dksX2_readsMore_1 2 rfl rfl)
theorem dX2_readsMore_29 : decode cX2_readsMore 29 = .ok (.ifCond .eq 33, 3) := dk_153 0 33 (dk_at dksX2_readsMore_1 5 rfl rfl)
theorem dX2_readsMore_32 : decode cX2_readsMore 32 = .ok (.aload_n 0, 1) := dk_42 (dk_at dksX2_readsMore_1 8 rfl rfl)
theorem dX2_readsMore_33 : decode cX2_readsMore 33 = .ok (.iload_n 1, 1) := dk_27 (dk_at dksX2_readsMore_1 9 rfl rfl)
theorem dX2_readsMore_34 : decode cX2_readsMore 34 = .ok (.iload 4, 2) := dk_21 4 (dk_at dksX2_readsMore_1 10 rfl rfl)
theorem dX2_readsMore_36 : decode cX2_readsMore 36 = .ok (.ifCond .eq 7, 3) := dk_153 0 7 (dk_at dksX2_readsMore_1 12 rfl rfl)
theorem dX2_readsMore_39 : decode cX2_readsMore 39 = .ok (.iconst 1, 1) := dk_4 (dk_at dksX2_readsMore_1 15 rfl rfl)
theorem dX2_readsMore_40 : decode cX2_readsMore 40 = .ok (.goto 4, 3) := dk_167 0 4 (dk_at dksX2_readsMore_1 16 rfl rfl)
theorem dX2_readsMore_43 : decode cX2_readsMore 43 = .ok (.iconst 2, 1) := dk_5 (dk_at dksX2_readsMore_1 19 rfl rfl)
theorem dX2_readsMore_44 : decode cX2_readsMore 44 = .ok (.iconst 0, 1) := dk_3 (dk_at dksX2_readsMore_1 20 rfl rfl)
theorem dX2_readsMore_45 : decode cX2_readsMore 45 = .ok (.iload 4, 2) := dk_21 4 (dk_at dksX2_readsMore_1 21 rfl rfl)
theorem dX2_readsMore_47 : decode cX2_readsMore 47 = .ok (.ifCond .eq 7, 3) := dk_153 0 7 (dk_at dksX2_readsMore_2 0 rfl rfl)
theorem dX2_readsMore_50 : decode cX2_readsMore 50 = .ok (.iconst 2, 1) := dk_5 (dk_at dksX2_readsMore_2 3 rfl rfl)
theorem dX2_readsMore_51 : decode cX2_readsMore 51 = .ok (.goto 5, 3) := dk_167 0 5 (dk_at dksX2_readsMore_2 4 rfl rfl)
theorem dX2_readsMore_54 : decode cX2_readsMore 54 = .ok (.bipush 60, 2) := dk_16 60 (dk_at dksX2_readsMore_2 7 rfl rfl)
theorem dX2_readsMore_56 : decode cX2_readsMore 56 = .ok (.invokevirtual 147, 3) := dk_182 0 147 (dk_at dksX2_readsMore_2 9 rfl rfl)
theorem dX2_readsMore_59 : decode cX2_readsMore 59 = .ok (.ifCond .ne 5, 3) := dk_154 0 5 (dk_at dksX2_readsMore_2 12 rfl rfl)
theorem dX2_readsMore_62 : decode cX2_readsMore 62 = .ok (.iconst 0, 1) := dk_3 (dk_at dksX2_readsMore_2 15 rfl rfl)
theorem dX2_readsMore_63 : decode cX2_readsMore 63 = .ok (.ireturn, 1) := dk_172 (dk_at dksX2_readsMore_2 16 rfl rfl)
theorem dX2_readsMore_64 : decode cX2_readsMore 64 = .ok (.aload_n 0, 1) := dk_42 (dk_at dksX2_readsMore_2 17 rfl rfl)
theorem dX2_readsMore_65 : decode cX2_readsMore 65 = .ok (.getfield 29, 3) := dk_180 0 29 (dk_at dksX2_readsMore_2 18 rfl rfl)
theorem dX2_readsMore_68 : decode cX2_readsMore 68 = .ok (.iload_n 3, 1) := dk_29 (dk_at dksX2_readsMore_2 21 rfl rfl)
theorem dX2_readsMore_69 : decode cX2_readsMore 69 = .ok (.iconst 4, 1) := dk_7 (dk_at dksX2_readsMore_2 22 rfl rfl)
theorem dX2_readsMore_70 : decode cX2_readsMore 70 = .ok (.iadd, 1) := dk_96 (dk_at dksX2_readsMore_2 23 rfl rfl)
theorem dX2_readsMore_71 : decode cX2_readsMore 71 = .ok (.aload_n 0, 1) := dk_42 (dk_at dksX2_readsMore_3 0 rfl rfl)
theorem dX2_readsMore_72 : decode cX2_readsMore 72 = .ok (.getfield 138, 3) := dk_180 0 138 (dk_at dksX2_readsMore_3 1 rfl rfl)
theorem dX2_readsMore_75 : decode cX2_readsMore 75 = .ok (.iastore, 1) := dk_79 (dk_at dksX2_readsMore_3 4 rfl rfl)
theorem dX2_readsMore_76 : decode cX2_readsMore 76 = .ok (.aload_n 0, 1) := dk_42 (dk_at dksX2_readsMore_3 5 rfl rfl)
theorem dX2_readsMore_77 : decode cX2_readsMore 77 = .ok (.iload_n 1, 1) := dk_27 (dk_at dksX2_readsMore_3 6 rfl rfl)
theorem dX2_readsMore_78 : decode cX2_readsMore 78 = .ok (.bipush 45, 2) := dk_16 45 (dk_at dksX2_readsMore_3 7 rfl rfl)
theorem dX2_readsMore_80 : decode cX2_readsMore 80 = .ok (.invokevirtual 154, 3) := dk_182 0 154 (dk_at dksX2_readsMore_3 9 rfl rfl)
theorem dX2_readsMore_83 : decode cX2_readsMore 83 = .ok (.ifCond .eq 38, 3) := dk_153 0 38 (dk_at dksX2_readsMore_3 12 rfl rfl)
theorem dX2_readsMore_86 : decode cX2_readsMore 86 = .ok (.aload_n 0, 1) := dk_42 (dk_at dksX2_readsMore_3 15 rfl rfl)
theorem dX2_readsMore_87 : decode cX2_readsMore 87 = .ok (.iload_n 1, 1) := dk_27 (dk_at dksX2_readsMore_3 16 rfl rfl)
theorem dX2_readsMore_88 : decode cX2_readsMore 88 = .ok (.iconst 2, 1) := dk_5 (dk_at dksX2_readsMore_3 17 rfl rfl)
theorem dX2_readsMore_89 : decode cX2_readsMore 89 = .ok (.iconst 1, 1) := dk_4 (dk_at dksX2_readsMore_3 18 rfl rfl)
theorem dX2_readsMore_90 : decode cX2_readsMore 90 = .ok (.iload 4, 2) := dk_21 4 (dk_at dksX2_readsMore_3 19 rfl rfl)
theorem dX2_readsMore_92 : decode cX2_readsMore 92 = .ok (.ifCond .eq 8, 3) := dk_153 0 8 (dk_at dksX2_readsMore_3 21 rfl rfl)
theorem dX2_readsMore_95 : decode cX2_readsMore 95 = .ok (.bipush 60, 2) := dk_16 60 (dk_at dksX2_readsMore_4 0 rfl rfl)
theorem dX2_readsMore_97 : decode cX2_readsMore 97 = .ok (.goto 18, 3) := dk_167 0 18 (dk_at dksX2_readsMore_4 2 rfl rfl)
theorem dX2_readsMore_100 : decode cX2_readsMore 100 = .ok (.bipush 60, 2) := dk_16 60 (dk_at dksX2_readsMore_4 5 rfl rfl)
theorem dX2_readsMore_102 : decode cX2_readsMore 102 = .ok (.aload_n 0, 1) := dk_42 (dk_at dksX2_readsMore_4 7 rfl rfl)
theorem dX2_readsMore_103 : decode cX2_readsMore 103 = .ok (.getfield 29, 3) := dk_180 0 29 (dk_at dksX2_readsMore_4 8 rfl rfl)
theorem dX2_readsMore_106 : decode cX2_readsMore 106 = .ok (.iload_n 3, 1) := dk_29 (dk_at dksX2_readsMore_4 11 rfl rfl)
theorem dX2_readsMore_107 : decode cX2_readsMore 107 = .ok (.iconst 4, 1) := dk_7 (dk_at dksX2_readsMore_4 12 rfl rfl)
theorem dX2_readsMore_108 : decode cX2_readsMore 108 = .ok (.iadd, 1) := dk_96 (dk_at dksX2_readsMore_4 13 rfl rfl)
theorem dX2_readsMore_109 : decode cX2_readsMore 109 = .ok (.iaload, 1) := dk_46 (dk_at dksX2_readsMore_4 14 rfl rfl)
theorem dX2_readsMore_110 : decode cX2_readsMore 110 = .ok (.iconst 1, 1) := dk_4 (dk_at dksX2_readsMore_4 15 rfl rfl)
theorem dX2_readsMore_111 : decode cX2_readsMore 111 = .ok (.iadd, 1) := dk_96 (dk_at dksX2_readsMore_4 16 rfl rfl)
theorem dX2_readsMore_112 : decode cX2_readsMore 112 = .ok (.invokestatic 158, 3) := dk_184 0 158 (dk_at dksX2_readsMore_4 17 rfl rfl)
theorem dX2_readsMore_115 : decode cX2_readsMore 115 = .ok (.invokevirtual 147, 3) := dk_182 0 147 (dk_at dksX2_readsMore_4 20 rfl rfl)
theorem dX2_readsMore_118 : decode cX2_readsMore 118 = .ok (.ifCond .ne 5, 3) := dk_154 0 5 (dk_at dksX2_readsMore_5 0 rfl rfl)
theorem dX2_readsMore_121 : decode cX2_readsMore 121 = .ok (.iconst 0, 1) := dk_3 (dk_at dksX2_readsMore_5 3 rfl rfl)
theorem dX2_readsMore_122 : decode cX2_readsMore 122 = .ok (.ireturn, 1) := dk_172 (dk_at dksX2_readsMore_5 4 rfl rfl)
theorem dX2_readsMore_123 : decode cX2_readsMore 123 = .ok (.aload_n 0, 1) := dk_42 (dk_at dksX2_readsMore_5 5 rfl rfl)
theorem dX2_readsMore_124 : decode cX2_readsMore 124 = .ok (.getfield 29, 3) := dk_180 0 29 (dk_at dksX2_readsMore_5 6 rfl rfl)
theorem dX2_readsMore_127 : decode cX2_readsMore 127 = .ok (.iload_n 3, 1) := dk_29 (dk_at dksX2_readsMore_5 9 rfl rfl)
theorem dX2_readsMore_128 : decode cX2_readsMore 128 = .ok (.iconst 5, 1) := dk_8 (dk_at dksX2_readsMore_5 10 rfl rfl)
theorem dX2_readsMore_129 : decode cX2_readsMore 129 = .ok (.iadd, 1) := dk_96 (dk_at dksX2_readsMore_5 11 rfl rfl)
theorem dX2_readsMore_130 : decode cX2_readsMore 130 = .ok (.aload_n 0, 1) := dk_42 (dk_at dksX2_readsMore_5 12 rfl rfl)
theorem dX2_readsMore_131 : decode cX2_readsMore 131 = .ok (.getfield 138, 3) := dk_180 0 138 (dk_at dksX2_readsMore_5 13 rfl rfl)
theorem dX2_readsMore_134 : decode cX2_readsMore 134 = .ok (.iastore, 1) := dk_79 (dk_at dksX2_readsMore_5 16 rfl rfl)
theorem dX2_readsMore_135 : decode cX2_readsMore 135 = .ok (.iload_n 2, 1) := dk_28 (dk_at dksX2_readsMore_5 17 rfl rfl)
theorem dX2_readsMore_136 : decode cX2_readsMore 136 = .ok (.iconst 4, 1) := dk_7 (dk_at dksX2_readsMore_5 18 rfl rfl)
theorem dX2_readsMore_137 : decode cX2_readsMore 137 = .ok (.if_icmp .eq 12, 3) := dk_159 0 12 (dk_at dksX2_readsMore_5 19 rfl rfl)
theorem dX2_readsMore_140 : decode cX2_readsMore 140 = .ok (.iload_n 2, 1) := dk_28 (dk_at dksX2_readsMore_5 22 rfl rfl)
theorem dX2_readsMore_141 : decode cX2_readsMore 141 = .ok (.iconst 5, 1) := dk_8 (dk_at dksX2_readsMore_5 23 rfl rfl)
theorem dX2_readsMore_142 : decode cX2_readsMore 142 = .ok (.if_icmp .eq 7, 3) := dk_159 0 7 (dk_at dksX2_readsMore_6 0 rfl rfl)
theorem dX2_readsMore_145 : decode cX2_readsMore 145 = .ok (.iconst 1, 1) := dk_4 (dk_at dksX2_readsMore_6 3 rfl rfl)
theorem dX2_readsMore_146 : decode cX2_readsMore 146 = .ok (.goto 4, 3) := dk_167 0 4 (dk_at dksX2_readsMore_6 4 rfl rfl)
theorem dX2_readsMore_149 : decode cX2_readsMore 149 = .ok (.iconst 0, 1) := dk_3 (dk_at dksX2_readsMore_6 7 rfl rfl)
theorem dX2_readsMore_150 : decode cX2_readsMore 150 = .ok (.istore 5, 2) := dk_54 5 (dk_at dksX2_readsMore_6 8 rfl rfl)
theorem dX2_readsMore_152 : decode cX2_readsMore 152 = .ok (.iload 5, 2) := dk_21 5 (dk_at dksX2_readsMore_6 10 rfl rfl)
theorem dX2_readsMore_154 : decode cX2_readsMore 154 = .ok (.ifCond .ne 80, 3) := dk_154 0 80 (dk_at dksX2_readsMore_6 12 rfl rfl)
theorem dX2_readsMore_157 : decode cX2_readsMore 157 = .ok (.iload_n 2, 1) := dk_28 (dk_at dksX2_readsMore_6 15 rfl rfl)
theorem dX2_readsMore_158 : decode cX2_readsMore 158 = .ok (.iconst 4, 1) := dk_7 (dk_at dksX2_readsMore_6 16 rfl rfl)
theorem dX2_readsMore_159 : decode cX2_readsMore 159 = .ok (.if_icmp .ne 33, 3) := dk_160 0 33 (dk_at dksX2_readsMore_6 17 rfl rfl)
theorem dX2_readsMore_162 : decode cX2_readsMore 162 = .ok (.aload_n 0, 1) := dk_42 (dk_at dksX2_readsMore_6 20 rfl rfl)
theorem dX2_readsMore_163 : decode cX2_readsMore 163 = .ok (.iload_n 1, 1) := dk_27 (dk_at dksX2_readsMore_6 21 rfl rfl)
theorem dX2_readsMore_164 : decode cX2_readsMore 164 = .ok (.bipush 38, 2) := dk_16 38 (dk_at dksX2_readsMore_6 22 rfl rfl)
theorem dX2_readsMore_166 : decode cX2_readsMore 166 = .ok (.invokevirtual 154, 3) := dk_182 0 154 (dk_at dksX2_readsMore_7 0 rfl rfl)
theorem dX2_readsMore_169 : decode cX2_readsMore 169 = .ok (.ifCond .eq 19, 3) := dk_153 0 19 (dk_at dksX2_readsMore_7 3 rfl rfl)
theorem dX2_readsMore_172 : decode cX2_readsMore 172 = .ok (.aload_n 0, 1) := dk_42 (dk_at dksX2_readsMore_7 6 rfl rfl)
theorem dX2_readsMore_173 : decode cX2_readsMore 173 = .ok (.iload_n 1, 1) := dk_27 (dk_at dksX2_readsMore_7 7 rfl rfl)
theorem dX2_readsMore_174 : decode cX2_readsMore 174 = .ok (.iconst 2, 1) := dk_5 (dk_at dksX2_readsMore_7 8 rfl rfl)
theorem dX2_readsMore_175 : decode cX2_readsMore 175 = .ok (.iconst 0, 1) := dk_3 (dk_at dksX2_readsMore_7 9 rfl rfl)
theorem dX2_readsMore_176 : decode cX2_readsMore 176 = .ok (.bipush 99, 2) := dk_16 99 (dk_at dksX2_readsMore_7 10 rfl rfl)
theorem dX2_readsMore_178 : decode cX2_readsMore 178 = .ok (.invokevirtual 147, 3) := dk_182 0 147 (dk_at dksX2_readsMore_7 12 rfl rfl)
theorem dX2_readsMore_181 : decode cX2_readsMore 181 = .ok (.ifCond .eq 7, 3) := dk_153 0 7 (dk_at dksX2_readsMore_7 15 rfl rfl)
theorem dX2_readsMore_184 : decode cX2_readsMore 184 = .ok (.iconst 1, 1) := dk_4 (dk_at dksX2_readsMore_7 18 rfl rfl)
theorem dX2_readsMore_185 : decode cX2_readsMore 185 = .ok (.goto 34, 3) := dk_167 0 34 (dk_at dksX2_readsMore_7 19 rfl rfl)
theorem dX2_readsMore_188 : decode cX2_readsMore 188 = .ok (.iconst 0, 1) := dk_3 (dk_at dksX2_readsMore_7 22 rfl rfl)
theorem dX2_readsMore_189 : decode cX2_readsMore 189 = .ok (.goto 30, 3) := dk_167 0 30 (dk_at dksX2_readsMore_8 0 rfl rfl)
theorem dX2_readsMore_192 : decode cX2_readsMore 192 = .ok (.aload_n 0, 1) := dk_42 (dk_at dksX2_readsMore_8 3 rfl rfl)
theorem dX2_readsMore_193 : decode cX2_readsMore 193 = .ok (.iload_n 1, 1) := dk_27 (dk_at dksX2_readsMore_8 4 rfl rfl)
theorem dX2_readsMore_194 : decode cX2_readsMore 194 = .ok (.bipush 126, 2) := dk_16 126 (dk_at dksX2_readsMore_8 5 rfl rfl)
theorem dX2_readsMore_196 : decode cX2_readsMore 196 = .ok (.invokevirtual 154, 3) := dk_182 0 154 (dk_at dksX2_readsMore_8 7 rfl rfl)
theorem dX2_readsMore_199 : decode cX2_readsMore 199 = .ok (.ifCond .eq 19, 3) := dk_153 0 19 (dk_at dksX2_readsMore_8 10 rfl rfl)
theorem dX2_readsMore_202 : decode cX2_readsMore 202 = .ok (.aload_n 0, 1) := dk_42 (dk_at dksX2_readsMore_8 13 rfl rfl)
theorem dX2_readsMore_203 : decode cX2_readsMore 203 = .ok (.iload_n 1, 1) := dk_27 (dk_at dksX2_readsMore_8 14 rfl rfl)
theorem dX2_readsMore_204 : decode cX2_readsMore 204 = .ok (.iconst 1, 1) := dk_4 (dk_at dksX2_readsMore_8 15 rfl rfl)
theorem dX2_readsMore_205 : decode cX2_readsMore 205 = .ok (.iconst 2, 1) := dk_5 (dk_at dksX2_readsMore_8 16 rfl rfl)
theorem dX2_readsMore_206 : decode cX2_readsMore 206 = .ok (.bipush 9, 2) := dk_16 9 (dk_at dksX2_readsMore_8 17 rfl rfl)
theorem dX2_readsMore_208 : decode cX2_readsMore 208 = .ok (.invokevirtual 147, 3) := dk_182 0 147 (dk_at dksX2_readsMore_8 19 rfl rfl)
theorem dX2_readsMore_211 : decode cX2_readsMore 211 = .ok (.ifCond .eq 7, 3) := dk_153 0 7 (dk_at dksX2_readsMore_9 0 rfl rfl)
theorem dX2_readsMore_214 : decode cX2_readsMore 214 = .ok (.iconst 1, 1) := dk_4 (dk_at dksX2_readsMore_9 3 rfl rfl)
theorem dX2_readsMore_215 : decode cX2_readsMore 215 = .ok (.goto 4, 3) := dk_167 0 4 (dk_at dksX2_readsMore_9 4 rfl rfl)
theorem dX2_readsMore_218 : decode cX2_readsMore 218 = .ok (.iconst 0, 1) := dk_3 (dk_at dksX2_readsMore_9 7 rfl rfl)
theorem dX2_readsMore_219 : decode cX2_readsMore 219 = .ok (.istore 5, 2) := dk_54 5 (dk_at dksX2_readsMore_9 8 rfl rfl)
theorem dX2_readsMore_221 : decode cX2_readsMore 221 = .ok (.aload_n 0, 1) := dk_42 (dk_at dksX2_readsMore_9 10 rfl rfl)
theorem dX2_readsMore_222 : decode cX2_readsMore 222 = .ok (.getfield 29, 3) := dk_180 0 29 (dk_at dksX2_readsMore_9 11 rfl rfl)
theorem dX2_readsMore_225 : decode cX2_readsMore 225 = .ok (.iload_n 3, 1) := dk_29 (dk_at dksX2_readsMore_9 14 rfl rfl)
theorem dX2_readsMore_226 : decode cX2_readsMore 226 = .ok (.bipush 6, 2) := dk_16 6 (dk_at dksX2_readsMore_9 15 rfl rfl)
theorem dX2_readsMore_228 : decode cX2_readsMore 228 = .ok (.iadd, 1) := dk_96 (dk_at dksX2_readsMore_9 17 rfl rfl)
theorem dX2_readsMore_229 : decode cX2_readsMore 229 = .ok (.aload_n 0, 1) := dk_42 (dk_at dksX2_readsMore_9 18 rfl rfl)
theorem dX2_readsMore_230 : decode cX2_readsMore 230 = .ok (.getfield 138, 3) := dk_180 0 138 (dk_at dksX2_readsMore_9 19 rfl rfl)
theorem dX2_readsMore_233 : decode cX2_readsMore 233 = .ok (.iastore, 1) := dk_79 (dk_at dksX2_readsMore_9 22 rfl rfl)
theorem dX2_readsMore_234 : decode cX2_readsMore 234 = .ok (.iload 5, 2) := dk_21 5 (dk_at dksX2_readsMore_10 0 rfl rfl)
theorem dX2_readsMore_236 : decode cX2_readsMore 236 = .ok (.ireturn, 1) := dk_172 (dk_at dksX2_readsMore_10 2 rfl rfl)
abbrev cX2_sign : ByteArray := prog_12_method_27_code
def yX2_sign : MethodName := ⟨RX2, "sign", "(II)Z"⟩
def dkwX2_sign_1 : List UInt8 := [29, 153, 0, 7, 4, 167, 0, 4, 3, 96, 181, 0, 132, 29, 172]
abbrev dktX2_sign_1 : List UInt8 := dkwX2_sign_1 ++ []
def dkwX2_sign_0 : List UInt8 := [42, 27, 42, 180, 0, 132, 182, 0, 135, 28, 160, 0, 7, 4, 167, 0, 4, 3, 62, 42, 89, 180, 0, 132]
abbrev dktX2_sign_0 : List UInt8 := dkwX2_sign_0 ++ dktX2_sign_1
theorem dksX2_sign_0 : cX2_sign.data.toList.drop 0 = dktX2_sign_0 := by decide +kernel
theorem dksX2_sign_1 : cX2_sign.data.toList.drop 24 = dktX2_sign_1 := dk_seg dksX2_sign_0 24 rfl rfl
theorem dX2_sign_0 : decode cX2_sign 0 = .ok (.aload_n 0, 1) := dk_42 (dk_at dksX2_sign_0 0 rfl rfl)
theorem dX2_sign_1 : decode cX2_sign 1 = .ok (.iload_n 1, 1) := dk_27 (dk_at dksX2_sign_0 1 rfl rfl)
theorem dX2_sign_2 : decode cX2_sign 2 = .ok (.aload_n 0, 1) := dk_42 (dk_at dksX2_sign_0 2 rfl rfl)
theorem dX2_sign_3 : decode cX2_sign 3 = .ok (.getfield 132, 3) := dk_180 0 132 (dk_at dksX2_sign_0 3 rfl rfl)
theorem dX2_sign_6 : decode cX2_sign 6 = .ok (.invokevirtual 135, 3) := dk_182 0 135 (dk_at dksX2_sign_0 6 rfl rfl)
theorem dX2_sign_9 : decode cX2_sign 9 = .ok (.iload_n 2, 1) := dk_28 (dk_at dksX2_sign_0 9 rfl rfl)
theorem dX2_sign_10 : decode cX2_sign 10 = .ok (.if_icmp .ne 7, 3) := dk_160 0 7 (dk_at dksX2_sign_0 10 rfl rfl)
theorem dX2_sign_13 : decode cX2_sign 13 = .ok (.iconst 1, 1) := dk_4 (dk_at dksX2_sign_0 13 rfl rfl)
theorem dX2_sign_14 : decode cX2_sign 14 = .ok (.goto 4, 3) := dk_167 0 4 (dk_at dksX2_sign_0 14 rfl rfl)
theorem dX2_sign_17 : decode cX2_sign 17 = .ok (.iconst 0, 1) := dk_3 (dk_at dksX2_sign_0 17 rfl rfl)
theorem dX2_sign_18 : decode cX2_sign 18 = .ok (.istore_n 3, 1) := dk_62 (dk_at dksX2_sign_0 18 rfl rfl)
theorem dX2_sign_19 : decode cX2_sign 19 = .ok (.aload_n 0, 1) := dk_42 (dk_at dksX2_sign_0 19 rfl rfl)
theorem dX2_sign_20 : decode cX2_sign 20 = .ok (.dup, 1) := dk_89 (dk_at dksX2_sign_0 20 rfl rfl)
theorem dX2_sign_21 : decode cX2_sign 21 = .ok (.getfield 132, 3) := dk_180 0 132 (dk_at dksX2_sign_0 21 rfl rfl)
theorem dX2_sign_24 : decode cX2_sign 24 = .ok (.iload_n 3, 1) := dk_29 (dk_at dksX2_sign_1 0 rfl rfl)
theorem dX2_sign_25 : decode cX2_sign 25 = .ok (.ifCond .eq 7, 3) := dk_153 0 7 (dk_at dksX2_sign_1 1 rfl rfl)
theorem dX2_sign_28 : decode cX2_sign 28 = .ok (.iconst 1, 1) := dk_4 (dk_at dksX2_sign_1 4 rfl rfl)
theorem dX2_sign_29 : decode cX2_sign 29 = .ok (.goto 4, 3) := dk_167 0 4 (dk_at dksX2_sign_1 5 rfl rfl)
theorem dX2_sign_32 : decode cX2_sign 32 = .ok (.iconst 0, 1) := dk_3 (dk_at dksX2_sign_1 8 rfl rfl)
theorem dX2_sign_33 : decode cX2_sign 33 = .ok (.iadd, 1) := dk_96 (dk_at dksX2_sign_1 9 rfl rfl)
theorem dX2_sign_34 : decode cX2_sign 34 = .ok (.putfield 132, 3) := dk_181 0 132 (dk_at dksX2_sign_1 10 rfl rfl)
theorem dX2_sign_37 : decode cX2_sign 37 = .ok (.iload_n 3, 1) := dk_29 (dk_at dksX2_sign_1 13 rfl rfl)
theorem dX2_sign_38 : decode cX2_sign 38 = .ok (.ireturn, 1) := dk_172 (dk_at dksX2_sign_1 14 rfl rfl)
abbrev cX2_lesser : ByteArray := prog_12_method_4_code
def yX2_lesser : MethodName := ⟨RX2, "lesser", "(II)I"⟩
def dkwX2_lesser_0 : List UInt8 := [26, 27, 162, 0, 7, 26, 167, 0, 4, 27, 172]
abbrev dktX2_lesser_0 : List UInt8 := dkwX2_lesser_0 ++ []
theorem dksX2_lesser_0 : cX2_lesser.data.toList.drop 0 = dktX2_lesser_0 := by decide +kernel
theorem dX2_lesser_0 : decode cX2_lesser 0 = .ok (.iload_n 0, 1) := dk_26 (dk_at dksX2_lesser_0 0 rfl rfl)
theorem dX2_lesser_1 : decode cX2_lesser 1 = .ok (.iload_n 1, 1) := dk_27 (dk_at dksX2_lesser_0 1 rfl rfl)
theorem dX2_lesser_2 : decode cX2_lesser 2 = .ok (.if_icmp .ge 7, 3) := dk_162 0 7 (dk_at dksX2_lesser_0 2 rfl rfl)
theorem dX2_lesser_5 : decode cX2_lesser 5 = .ok (.iload_n 0, 1) := dk_26 (dk_at dksX2_lesser_0 5 rfl rfl)
theorem dX2_lesser_6 : decode cX2_lesser 6 = .ok (.goto 4, 3) := dk_167 0 4 (dk_at dksX2_lesser_0 6 rfl rfl)
theorem dX2_lesser_9 : decode cX2_lesser 9 = .ok (.iload_n 1, 1) := dk_27 (dk_at dksX2_lesser_0 9 rfl rfl)
theorem dX2_lesser_10 : decode cX2_lesser 10 = .ok (.ireturn, 1) := dk_172 (dk_at dksX2_lesser_0 10 rfl rfl)
abbrev cX2_readsEater : ByteArray := prog_12_method_31_code
def yX2_readsEater : MethodName := ⟨RX2, "readsEater", "(I)Z"⟩
def dkwX2_readsEater_5 : List UInt8 := [172]
abbrev dktX2_readsEater_5 : List UInt8 := dkwX2_readsEater_5 ++ []
def dkwX2_readsEater_4 : List UInt8 := [29, 96, 42, 180, 0, 138, 79, 132, 3, 1, 167, 255, 182, 42, 89, 180, 0, 161, 4, 96, 181, 0, 161, 4]
abbrev dktX2_readsEater_4 : List UInt8 := dkwX2_readsEater_4 ++ dktX2_readsEater_5
def dkwX2_readsEater_3 : List UInt8 := [29, 154, 0, 8, 16, 99, 167, 0, 5, 16, 9, 182, 0, 147, 154, 0, 5, 3, 172, 42, 180, 0, 32, 28]
abbrev dktX2_readsEater_3 : List UInt8 := dkwX2_readsEater_3 ++ dktX2_readsEater_4
def dkwX2_readsEater_2 : List UInt8 := [153, 0, 41, 42, 27, 29, 154, 0, 7, 5, 167, 0, 4, 4, 29, 4, 160, 0, 7, 4, 167, 0, 4, 3]
abbrev dktX2_readsEater_2 : List UInt8 := dkwX2_readsEater_2 ++ dktX2_readsEater_3
def dkwX2_readsEater_1 : List UInt8 := [180, 0, 161, 104, 61, 3, 62, 29, 7, 162, 0, 75, 29, 158, 0, 13, 42, 27, 16, 44, 182, 0, 154]
abbrev dktX2_readsEater_1 : List UInt8 := dkwX2_readsEater_1 ++ dktX2_readsEater_2
def dkwX2_readsEater_0 : List UInt8 := [42, 180, 0, 161, 5, 160, 0, 5, 3, 172, 42, 89, 180, 0, 132, 4, 96, 181, 0, 132, 7, 42]
abbrev dktX2_readsEater_0 : List UInt8 := dkwX2_readsEater_0 ++ dktX2_readsEater_1
theorem dksX2_readsEater_0 : cX2_readsEater.data.toList.drop 0 = dktX2_readsEater_0 := by decide +kernel
theorem dksX2_readsEater_1 : cX2_readsEater.data.toList.drop 22 = dktX2_readsEater_1 := dk_seg dksX2_readsEater_0 22 rfl rfl
theorem dksX2_readsEater_2 : cX2_readsEater.data.toList.drop 45 = dktX2_readsEater_2 := dk_seg dksX2_readsEater_1 23 rfl rfl
theorem dksX2_readsEater_3 : cX2_readsEater.data.toList.drop 69 = dktX2_readsEater_3 := dk_seg dksX2_readsEater_2 24 rfl rfl
theorem dksX2_readsEater_4 : cX2_readsEater.data.toList.drop 93 = dktX2_readsEater_4 := dk_seg dksX2_readsEater_3 24 rfl rfl
theorem dksX2_readsEater_5 : cX2_readsEater.data.toList.drop 117 = dktX2_readsEater_5 := dk_seg dksX2_readsEater_4 24 rfl rfl
theorem dX2_readsEater_0 : decode cX2_readsEater 0 = .ok (.aload_n 0, 1) := dk_42 (dk_at dksX2_readsEater_0 0 rfl rfl)
theorem dX2_readsEater_1 : decode cX2_readsEater 1 = .ok (.getfield 161, 3) := dk_180 0 161 (dk_at dksX2_readsEater_0 1 rfl rfl)
theorem dX2_readsEater_4 : decode cX2_readsEater 4 = .ok (.iconst 2, 1) := dk_5 (dk_at dksX2_readsEater_0 4 rfl rfl)
theorem dX2_readsEater_5 : decode cX2_readsEater 5 = .ok (.if_icmp .ne 5, 3) := dk_160 0 5 (dk_at dksX2_readsEater_0 5 rfl rfl)
theorem dX2_readsEater_8 : decode cX2_readsEater 8 = .ok (.iconst 0, 1) := dk_3 (dk_at dksX2_readsEater_0 8 rfl rfl)
theorem dX2_readsEater_9 : decode cX2_readsEater 9 = .ok (.ireturn, 1) := dk_172 (dk_at dksX2_readsEater_0 9 rfl rfl)
theorem dX2_readsEater_10 : decode cX2_readsEater 10 = .ok (.aload_n 0, 1) := dk_42 (dk_at dksX2_readsEater_0 10 rfl rfl)
theorem dX2_readsEater_11 : decode cX2_readsEater 11 = .ok (.dup, 1) := dk_89 (dk_at dksX2_readsEater_0 11 rfl rfl)
theorem dX2_readsEater_12 : decode cX2_readsEater 12 = .ok (.getfield 132, 3) := dk_180 0 132 (dk_at dksX2_readsEater_0 12 rfl rfl)
theorem dX2_readsEater_15 : decode cX2_readsEater 15 = .ok (.iconst 1, 1) := dk_4 (dk_at dksX2_readsEater_0 15 rfl rfl)
theorem dX2_readsEater_16 : decode cX2_readsEater 16 = .ok (.iadd, 1) := dk_96 (dk_at dksX2_readsEater_0 16 rfl rfl)
theorem dX2_readsEater_17 : decode cX2_readsEater 17 = .ok (.putfield 132, 3) := dk_181 0 132 (dk_at dksX2_readsEater_0 17 rfl rfl)
theorem dX2_readsEater_20 : decode cX2_readsEater 20 = .ok (.iconst 4, 1) := dk_7 (dk_at dksX2_readsEater_0 20 rfl rfl)
theorem dX2_readsEater_21 : decode cX2_readsEater 21 = .ok (.aload_n 0, 1) := dk_42 (dk_at dksX2_readsEater_0 21 rfl rfl)
theorem dX2_readsEater_22 : decode cX2_readsEater 22 = .ok (.getfield 161, 3) := dk_180 0 161 (dk_at dksX2_readsEater_1 0 rfl rfl)
theorem dX2_readsEater_25 : decode cX2_readsEater 25 = .ok (.imul, 1) := dk_104 (dk_at dksX2_readsEater_1 3 rfl rfl)
theorem dX2_readsEater_26 : decode cX2_readsEater 26 = .ok (.istore_n 2, 1) := dk_61 (dk_at dksX2_readsEater_1 4 rfl rfl)
theorem dX2_readsEater_27 : decode cX2_readsEater 27 = .ok (.iconst 0, 1) := dk_3 (dk_at dksX2_readsEater_1 5 rfl rfl)
theorem dX2_readsEater_28 : decode cX2_readsEater 28 = .ok (.istore_n 3, 1) := dk_62 (dk_at dksX2_readsEater_1 6 rfl rfl)
theorem dX2_readsEater_29 : decode cX2_readsEater 29 = .ok (.iload_n 3, 1) := dk_29 (dk_at dksX2_readsEater_1 7 rfl rfl)
theorem dX2_readsEater_30 : decode cX2_readsEater 30 = .ok (.iconst 4, 1) := dk_7 (dk_at dksX2_readsEater_1 8 rfl rfl)
theorem dX2_readsEater_31 : decode cX2_readsEater 31 = .ok (.if_icmp .ge 75, 3) := dk_162 0 75 (dk_at dksX2_readsEater_1 9 rfl rfl)
theorem dX2_readsEater_34 : decode cX2_readsEater 34 = .ok (.iload_n 3, 1) := dk_29 (dk_at dksX2_readsEater_1 12 rfl rfl)
theorem dX2_readsEater_35 : decode cX2_readsEater 35 = .ok (.ifCond .le 13, 3) := dk_158 0 13 (dk_at dksX2_readsEater_1 13 rfl rfl)
theorem dX2_readsEater_38 : decode cX2_readsEater 38 = .ok (.aload_n 0, 1) := dk_42 (dk_at dksX2_readsEater_1 16 rfl rfl)
theorem dX2_readsEater_39 : decode cX2_readsEater 39 = .ok (.iload_n 1, 1) := dk_27 (dk_at dksX2_readsEater_1 17 rfl rfl)
theorem dX2_readsEater_40 : decode cX2_readsEater 40 = .ok (.bipush 44, 2) := dk_16 44 (dk_at dksX2_readsEater_1 18 rfl rfl)
theorem dX2_readsEater_42 : decode cX2_readsEater 42 = .ok (.invokevirtual 154, 3) := dk_182 0 154 (dk_at dksX2_readsEater_1 20 rfl rfl)
theorem dX2_readsEater_45 : decode cX2_readsEater 45 = .ok (.ifCond .eq 41, 3) := dk_153 0 41 (dk_at dksX2_readsEater_2 0 rfl rfl)
theorem dX2_readsEater_48 : decode cX2_readsEater 48 = .ok (.aload_n 0, 1) := dk_42 (dk_at dksX2_readsEater_2 3 rfl rfl)
theorem dX2_readsEater_49 : decode cX2_readsEater 49 = .ok (.iload_n 1, 1) := dk_27 (dk_at dksX2_readsEater_2 4 rfl rfl)
theorem dX2_readsEater_50 : decode cX2_readsEater 50 = .ok (.iload_n 3, 1) := dk_29 (dk_at dksX2_readsEater_2 5 rfl rfl)
theorem dX2_readsEater_51 : decode cX2_readsEater 51 = .ok (.ifCond .ne 7, 3) := dk_154 0 7 (dk_at dksX2_readsEater_2 6 rfl rfl)
theorem dX2_readsEater_54 : decode cX2_readsEater 54 = .ok (.iconst 2, 1) := dk_5 (dk_at dksX2_readsEater_2 9 rfl rfl)
theorem dX2_readsEater_55 : decode cX2_readsEater 55 = .ok (.goto 4, 3) := dk_167 0 4 (dk_at dksX2_readsEater_2 10 rfl rfl)
theorem dX2_readsEater_58 : decode cX2_readsEater 58 = .ok (.iconst 1, 1) := dk_4 (dk_at dksX2_readsEater_2 13 rfl rfl)
theorem dX2_readsEater_59 : decode cX2_readsEater 59 = .ok (.iload_n 3, 1) := dk_29 (dk_at dksX2_readsEater_2 14 rfl rfl)
theorem dX2_readsEater_60 : decode cX2_readsEater 60 = .ok (.iconst 1, 1) := dk_4 (dk_at dksX2_readsEater_2 15 rfl rfl)
theorem dX2_readsEater_61 : decode cX2_readsEater 61 = .ok (.if_icmp .ne 7, 3) := dk_160 0 7 (dk_at dksX2_readsEater_2 16 rfl rfl)
theorem dX2_readsEater_64 : decode cX2_readsEater 64 = .ok (.iconst 1, 1) := dk_4 (dk_at dksX2_readsEater_2 19 rfl rfl)
theorem dX2_readsEater_65 : decode cX2_readsEater 65 = .ok (.goto 4, 3) := dk_167 0 4 (dk_at dksX2_readsEater_2 20 rfl rfl)
theorem dX2_readsEater_68 : decode cX2_readsEater 68 = .ok (.iconst 0, 1) := dk_3 (dk_at dksX2_readsEater_2 23 rfl rfl)
theorem dX2_readsEater_69 : decode cX2_readsEater 69 = .ok (.iload_n 3, 1) := dk_29 (dk_at dksX2_readsEater_3 0 rfl rfl)
theorem dX2_readsEater_70 : decode cX2_readsEater 70 = .ok (.ifCond .ne 8, 3) := dk_154 0 8 (dk_at dksX2_readsEater_3 1 rfl rfl)
theorem dX2_readsEater_73 : decode cX2_readsEater 73 = .ok (.bipush 99, 2) := dk_16 99 (dk_at dksX2_readsEater_3 4 rfl rfl)
theorem dX2_readsEater_75 : decode cX2_readsEater 75 = .ok (.goto 5, 3) := dk_167 0 5 (dk_at dksX2_readsEater_3 6 rfl rfl)
theorem dX2_readsEater_78 : decode cX2_readsEater 78 = .ok (.bipush 9, 2) := dk_16 9 (dk_at dksX2_readsEater_3 9 rfl rfl)
theorem dX2_readsEater_80 : decode cX2_readsEater 80 = .ok (.invokevirtual 147, 3) := dk_182 0 147 (dk_at dksX2_readsEater_3 11 rfl rfl)
theorem dX2_readsEater_83 : decode cX2_readsEater 83 = .ok (.ifCond .ne 5, 3) := dk_154 0 5 (dk_at dksX2_readsEater_3 14 rfl rfl)
theorem dX2_readsEater_86 : decode cX2_readsEater 86 = .ok (.iconst 0, 1) := dk_3 (dk_at dksX2_readsEater_3 17 rfl rfl)
theorem dX2_readsEater_87 : decode cX2_readsEater 87 = .ok (.ireturn, 1) := dk_172 (dk_at dksX2_readsEater_3 18 rfl rfl)
theorem dX2_readsEater_88 : decode cX2_readsEater 88 = .ok (.aload_n 0, 1) := dk_42 (dk_at dksX2_readsEater_3 19 rfl rfl)
theorem dX2_readsEater_89 : decode cX2_readsEater 89 = .ok (.getfield 32, 3) := dk_180 0 32 (dk_at dksX2_readsEater_3 20 rfl rfl)
theorem dX2_readsEater_92 : decode cX2_readsEater 92 = .ok (.iload_n 2, 1) := dk_28 (dk_at dksX2_readsEater_3 23 rfl rfl)
theorem dX2_readsEater_93 : decode cX2_readsEater 93 = .ok (.iload_n 3, 1) := dk_29 (dk_at dksX2_readsEater_4 0 rfl rfl)
theorem dX2_readsEater_94 : decode cX2_readsEater 94 = .ok (.iadd, 1) := dk_96 (dk_at dksX2_readsEater_4 1 rfl rfl)
theorem dX2_readsEater_95 : decode cX2_readsEater 95 = .ok (.aload_n 0, 1) := dk_42 (dk_at dksX2_readsEater_4 2 rfl rfl)
theorem dX2_readsEater_96 : decode cX2_readsEater 96 = .ok (.getfield 138, 3) := dk_180 0 138 (dk_at dksX2_readsEater_4 3 rfl rfl)
theorem dX2_readsEater_99 : decode cX2_readsEater 99 = .ok (.iastore, 1) := dk_79 (dk_at dksX2_readsEater_4 6 rfl rfl)
theorem dX2_readsEater_100 : decode cX2_readsEater 100 = .ok (.iinc 3 1, 3) := dk_132 3 1 (dk_at dksX2_readsEater_4 7 rfl rfl)
theorem dX2_readsEater_103 : decode cX2_readsEater 103 = .ok (.goto (-74), 3) := dk_167 255 182 (dk_at dksX2_readsEater_4 10 rfl rfl)
theorem dX2_readsEater_106 : decode cX2_readsEater 106 = .ok (.aload_n 0, 1) := dk_42 (dk_at dksX2_readsEater_4 13 rfl rfl)
theorem dX2_readsEater_107 : decode cX2_readsEater 107 = .ok (.dup, 1) := dk_89 (dk_at dksX2_readsEater_4 14 rfl rfl)
theorem dX2_readsEater_108 : decode cX2_readsEater 108 = .ok (.getfield 161, 3) := dk_180 0 161 (dk_at dksX2_readsEater_4 15 rfl rfl)
theorem dX2_readsEater_111 : decode cX2_readsEater 111 = .ok (.iconst 1, 1) := dk_4 (dk_at dksX2_readsEater_4 18 rfl rfl)
theorem dX2_readsEater_112 : decode cX2_readsEater 112 = .ok (.iadd, 1) := dk_96 (dk_at dksX2_readsEater_4 19 rfl rfl)
theorem dX2_readsEater_113 : decode cX2_readsEater 113 = .ok (.putfield 161, 3) := dk_181 0 161 (dk_at dksX2_readsEater_4 20 rfl rfl)
theorem dX2_readsEater_116 : decode cX2_readsEater 116 = .ok (.iconst 1, 1) := dk_4 (dk_at dksX2_readsEater_4 23 rfl rfl)
theorem dX2_readsEater_117 : decode cX2_readsEater 117 = .ok (.ireturn, 1) := dk_172 (dk_at dksX2_readsEater_5 0 rfl rfl)
abbrev cX2_readsJay : ByteArray := prog_12_method_32_code
def yX2_readsJay : MethodName := ⟨RX2, "readsJay", "(I)Z"⟩
def dkwX2_readsJay_2 : List UInt8 := [16, 12, 182, 0, 147, 154, 0, 5, 3, 172, 42, 180, 0, 35, 4, 42, 180, 0, 138, 79, 4, 172]
abbrev dktX2_readsJay_2 : List UInt8 := dkwX2_readsJay_2 ++ []
def dkwX2_readsJay_1 : List UInt8 := [42, 180, 0, 35, 3, 42, 180, 0, 138, 79, 42, 27, 16, 44, 182, 0, 154, 153, 0, 15, 42, 27, 5, 3]
abbrev dktX2_readsJay_1 : List UInt8 := dkwX2_readsJay_1 ++ dktX2_readsJay_2
def dkwX2_readsJay_0 : List UInt8 := [42, 89, 180, 0, 132, 4, 96, 181, 0, 132, 42, 27, 5, 3, 16, 99, 182, 0, 147, 154, 0, 5, 3, 172]
abbrev dktX2_readsJay_0 : List UInt8 := dkwX2_readsJay_0 ++ dktX2_readsJay_1
theorem dksX2_readsJay_0 : cX2_readsJay.data.toList.drop 0 = dktX2_readsJay_0 := by decide +kernel
theorem dksX2_readsJay_1 : cX2_readsJay.data.toList.drop 24 = dktX2_readsJay_1 := dk_seg dksX2_readsJay_0 24 rfl rfl
theorem dksX2_readsJay_2 : cX2_readsJay.data.toList.drop 48 = dktX2_readsJay_2 := dk_seg dksX2_readsJay_1 24 rfl rfl
theorem dX2_readsJay_0 : decode cX2_readsJay 0 = .ok (.aload_n 0, 1) := dk_42 (dk_at dksX2_readsJay_0 0 rfl rfl)
theorem dX2_readsJay_1 : decode cX2_readsJay 1 = .ok (.dup, 1) := dk_89 (dk_at dksX2_readsJay_0 1 rfl rfl)
theorem dX2_readsJay_2 : decode cX2_readsJay 2 = .ok (.getfield 132, 3) := dk_180 0 132 (dk_at dksX2_readsJay_0 2 rfl rfl)
theorem dX2_readsJay_5 : decode cX2_readsJay 5 = .ok (.iconst 1, 1) := dk_4 (dk_at dksX2_readsJay_0 5 rfl rfl)
theorem dX2_readsJay_6 : decode cX2_readsJay 6 = .ok (.iadd, 1) := dk_96 (dk_at dksX2_readsJay_0 6 rfl rfl)
theorem dX2_readsJay_7 : decode cX2_readsJay 7 = .ok (.putfield 132, 3) := dk_181 0 132 (dk_at dksX2_readsJay_0 7 rfl rfl)
theorem dX2_readsJay_10 : decode cX2_readsJay 10 = .ok (.aload_n 0, 1) := dk_42 (dk_at dksX2_readsJay_0 10 rfl rfl)
theorem dX2_readsJay_11 : decode cX2_readsJay 11 = .ok (.iload_n 1, 1) := dk_27 (dk_at dksX2_readsJay_0 11 rfl rfl)
theorem dX2_readsJay_12 : decode cX2_readsJay 12 = .ok (.iconst 2, 1) := dk_5 (dk_at dksX2_readsJay_0 12 rfl rfl)
theorem dX2_readsJay_13 : decode cX2_readsJay 13 = .ok (.iconst 0, 1) := dk_3 (dk_at dksX2_readsJay_0 13 rfl rfl)
theorem dX2_readsJay_14 : decode cX2_readsJay 14 = .ok (.bipush 99, 2) := dk_16 99 (dk_at dksX2_readsJay_0 14 rfl rfl)
theorem dX2_readsJay_16 : decode cX2_readsJay 16 = .ok (.invokevirtual 147, 3) := dk_182 0 147 (dk_at dksX2_readsJay_0 16 rfl rfl)
theorem dX2_readsJay_19 : decode cX2_readsJay 19 = .ok (.ifCond .ne 5, 3) := dk_154 0 5 (dk_at dksX2_readsJay_0 19 rfl rfl)
theorem dX2_readsJay_22 : decode cX2_readsJay 22 = .ok (.iconst 0, 1) := dk_3 (dk_at dksX2_readsJay_0 22 rfl rfl)
theorem dX2_readsJay_23 : decode cX2_readsJay 23 = .ok (.ireturn, 1) := dk_172 (dk_at dksX2_readsJay_0 23 rfl rfl)
theorem dX2_readsJay_24 : decode cX2_readsJay 24 = .ok (.aload_n 0, 1) := dk_42 (dk_at dksX2_readsJay_1 0 rfl rfl)
theorem dX2_readsJay_25 : decode cX2_readsJay 25 = .ok (.getfield 35, 3) := dk_180 0 35 (dk_at dksX2_readsJay_1 1 rfl rfl)
theorem dX2_readsJay_28 : decode cX2_readsJay 28 = .ok (.iconst 0, 1) := dk_3 (dk_at dksX2_readsJay_1 4 rfl rfl)
theorem dX2_readsJay_29 : decode cX2_readsJay 29 = .ok (.aload_n 0, 1) := dk_42 (dk_at dksX2_readsJay_1 5 rfl rfl)
theorem dX2_readsJay_30 : decode cX2_readsJay 30 = .ok (.getfield 138, 3) := dk_180 0 138 (dk_at dksX2_readsJay_1 6 rfl rfl)
theorem dX2_readsJay_33 : decode cX2_readsJay 33 = .ok (.iastore, 1) := dk_79 (dk_at dksX2_readsJay_1 9 rfl rfl)
theorem dX2_readsJay_34 : decode cX2_readsJay 34 = .ok (.aload_n 0, 1) := dk_42 (dk_at dksX2_readsJay_1 10 rfl rfl)
theorem dX2_readsJay_35 : decode cX2_readsJay 35 = .ok (.iload_n 1, 1) := dk_27 (dk_at dksX2_readsJay_1 11 rfl rfl)
theorem dX2_readsJay_36 : decode cX2_readsJay 36 = .ok (.bipush 44, 2) := dk_16 44 (dk_at dksX2_readsJay_1 12 rfl rfl)
theorem dX2_readsJay_38 : decode cX2_readsJay 38 = .ok (.invokevirtual 154, 3) := dk_182 0 154 (dk_at dksX2_readsJay_1 14 rfl rfl)
theorem dX2_readsJay_41 : decode cX2_readsJay 41 = .ok (.ifCond .eq 15, 3) := dk_153 0 15 (dk_at dksX2_readsJay_1 17 rfl rfl)
theorem dX2_readsJay_44 : decode cX2_readsJay 44 = .ok (.aload_n 0, 1) := dk_42 (dk_at dksX2_readsJay_1 20 rfl rfl)
theorem dX2_readsJay_45 : decode cX2_readsJay 45 = .ok (.iload_n 1, 1) := dk_27 (dk_at dksX2_readsJay_1 21 rfl rfl)
theorem dX2_readsJay_46 : decode cX2_readsJay 46 = .ok (.iconst 2, 1) := dk_5 (dk_at dksX2_readsJay_1 22 rfl rfl)
theorem dX2_readsJay_47 : decode cX2_readsJay 47 = .ok (.iconst 0, 1) := dk_3 (dk_at dksX2_readsJay_1 23 rfl rfl)
theorem dX2_readsJay_48 : decode cX2_readsJay 48 = .ok (.bipush 12, 2) := dk_16 12 (dk_at dksX2_readsJay_2 0 rfl rfl)
theorem dX2_readsJay_50 : decode cX2_readsJay 50 = .ok (.invokevirtual 147, 3) := dk_182 0 147 (dk_at dksX2_readsJay_2 2 rfl rfl)
theorem dX2_readsJay_53 : decode cX2_readsJay 53 = .ok (.ifCond .ne 5, 3) := dk_154 0 5 (dk_at dksX2_readsJay_2 5 rfl rfl)
theorem dX2_readsJay_56 : decode cX2_readsJay 56 = .ok (.iconst 0, 1) := dk_3 (dk_at dksX2_readsJay_2 8 rfl rfl)
theorem dX2_readsJay_57 : decode cX2_readsJay 57 = .ok (.ireturn, 1) := dk_172 (dk_at dksX2_readsJay_2 9 rfl rfl)
theorem dX2_readsJay_58 : decode cX2_readsJay 58 = .ok (.aload_n 0, 1) := dk_42 (dk_at dksX2_readsJay_2 10 rfl rfl)
theorem dX2_readsJay_59 : decode cX2_readsJay 59 = .ok (.getfield 35, 3) := dk_180 0 35 (dk_at dksX2_readsJay_2 11 rfl rfl)
theorem dX2_readsJay_62 : decode cX2_readsJay 62 = .ok (.iconst 1, 1) := dk_4 (dk_at dksX2_readsJay_2 14 rfl rfl)
theorem dX2_readsJay_63 : decode cX2_readsJay 63 = .ok (.aload_n 0, 1) := dk_42 (dk_at dksX2_readsJay_2 15 rfl rfl)
theorem dX2_readsJay_64 : decode cX2_readsJay 64 = .ok (.getfield 138, 3) := dk_180 0 138 (dk_at dksX2_readsJay_2 16 rfl rfl)
theorem dX2_readsJay_67 : decode cX2_readsJay 67 = .ok (.iastore, 1) := dk_79 (dk_at dksX2_readsJay_2 19 rfl rfl)
theorem dX2_readsJay_68 : decode cX2_readsJay 68 = .ok (.iconst 1, 1) := dk_4 (dk_at dksX2_readsJay_2 20 rfl rfl)
theorem dX2_readsJay_69 : decode cX2_readsJay 69 = .ok (.ireturn, 1) := dk_172 (dk_at dksX2_readsJay_2 21 rfl rfl)
abbrev cX2_readsCalendar : ByteArray := prog_12_method_33_code
def yX2_readsCalendar : MethodName := ⟨RX2, "readsCalendar", "(I)Z"⟩
def dkwX2_readsCalendar_4 : List UInt8 := [167, 0, 4, 3, 172]
abbrev dktX2_readsCalendar_4 : List UInt8 := dkwX2_readsCalendar_4 ++ []
def dkwX2_readsCalendar_3 : List UInt8 := [181, 0, 164, 42, 89, 180, 0, 132, 4, 96, 181, 0, 132, 167, 255, 187, 42, 180, 0, 164, 158, 0, 7, 4]
abbrev dktX2_readsCalendar_3 : List UInt8 := dkwX2_readsCalendar_3 ++ dktX2_readsCalendar_4
def dkwX2_readsCalendar_2 : List UInt8 := [180, 0, 164, 42, 27, 42, 180, 0, 132, 182, 0, 135, 16, 48, 100, 79, 42, 89, 180, 0, 164, 4, 96]
abbrev dktX2_readsCalendar_2 : List UInt8 := dkwX2_readsCalendar_2 ++ dktX2_readsCalendar_3
def dkwX2_readsCalendar_1 : List UInt8 := [42, 27, 42, 180, 0, 132, 182, 0, 135, 16, 48, 16, 50, 184, 0, 104, 153, 0, 47, 42, 180, 0, 38, 42]
abbrev dktX2_readsCalendar_1 : List UInt8 := dkwX2_readsCalendar_1 ++ dktX2_readsCalendar_2
def dkwX2_readsCalendar_0 : List UInt8 := [42, 89, 180, 0, 132, 4, 96, 181, 0, 132, 42, 3, 181, 0, 164, 42, 180, 0, 164, 16, 8, 162, 0, 66]
abbrev dktX2_readsCalendar_0 : List UInt8 := dkwX2_readsCalendar_0 ++ dktX2_readsCalendar_1
theorem dksX2_readsCalendar_0 : cX2_readsCalendar.data.toList.drop 0 = dktX2_readsCalendar_0 := by decide +kernel
theorem dksX2_readsCalendar_1 : cX2_readsCalendar.data.toList.drop 24 = dktX2_readsCalendar_1 := dk_seg dksX2_readsCalendar_0 24 rfl rfl
theorem dksX2_readsCalendar_2 : cX2_readsCalendar.data.toList.drop 48 = dktX2_readsCalendar_2 := dk_seg dksX2_readsCalendar_1 24 rfl rfl
theorem dksX2_readsCalendar_3 : cX2_readsCalendar.data.toList.drop 71 = dktX2_readsCalendar_3 := dk_seg dksX2_readsCalendar_2 23 rfl rfl
theorem dksX2_readsCalendar_4 : cX2_readsCalendar.data.toList.drop 95 = dktX2_readsCalendar_4 := dk_seg dksX2_readsCalendar_3 24 rfl rfl
theorem dX2_readsCalendar_0 : decode cX2_readsCalendar 0 = .ok (.aload_n 0, 1) := dk_42 (dk_at dksX2_readsCalendar_0 0 rfl rfl)
theorem dX2_readsCalendar_1 : decode cX2_readsCalendar 1 = .ok (.dup, 1) := dk_89 (dk_at dksX2_readsCalendar_0 1 rfl rfl)
theorem dX2_readsCalendar_2 : decode cX2_readsCalendar 2 = .ok (.getfield 132, 3) := dk_180 0 132 (dk_at dksX2_readsCalendar_0 2 rfl rfl)
theorem dX2_readsCalendar_5 : decode cX2_readsCalendar 5 = .ok (.iconst 1, 1) := dk_4 (dk_at dksX2_readsCalendar_0 5 rfl rfl)
theorem dX2_readsCalendar_6 : decode cX2_readsCalendar 6 = .ok (.iadd, 1) := dk_96 (dk_at dksX2_readsCalendar_0 6 rfl rfl)
theorem dX2_readsCalendar_7 : decode cX2_readsCalendar 7 = .ok (.putfield 132, 3) := dk_181 0 132 (dk_at dksX2_readsCalendar_0 7 rfl rfl)
theorem dX2_readsCalendar_10 : decode cX2_readsCalendar 10 = .ok (.aload_n 0, 1) := dk_42 (dk_at dksX2_readsCalendar_0 10 rfl rfl)
theorem dX2_readsCalendar_11 : decode cX2_readsCalendar 11 = .ok (.iconst 0, 1) := dk_3 (dk_at dksX2_readsCalendar_0 11 rfl rfl)
theorem dX2_readsCalendar_12 : decode cX2_readsCalendar 12 = .ok (.putfield 164, 3) := dk_181 0 164 (dk_at dksX2_readsCalendar_0 12 rfl rfl)
theorem dX2_readsCalendar_15 : decode cX2_readsCalendar 15 = .ok (.aload_n 0, 1) := dk_42 (dk_at dksX2_readsCalendar_0 15 rfl rfl)
theorem dX2_readsCalendar_16 : decode cX2_readsCalendar 16 = .ok (.getfield 164, 3) := dk_180 0 164 (dk_at dksX2_readsCalendar_0 16 rfl rfl)
theorem dX2_readsCalendar_19 : decode cX2_readsCalendar 19 = .ok (.bipush 8, 2) := dk_16 8 (dk_at dksX2_readsCalendar_0 19 rfl rfl)
theorem dX2_readsCalendar_21 : decode cX2_readsCalendar 21 = .ok (.if_icmp .ge 66, 3) := dk_162 0 66 (dk_at dksX2_readsCalendar_0 21 rfl rfl)
theorem dX2_readsCalendar_24 : decode cX2_readsCalendar 24 = .ok (.aload_n 0, 1) := dk_42 (dk_at dksX2_readsCalendar_1 0 rfl rfl)
theorem dX2_readsCalendar_25 : decode cX2_readsCalendar 25 = .ok (.iload_n 1, 1) := dk_27 (dk_at dksX2_readsCalendar_1 1 rfl rfl)
theorem dX2_readsCalendar_26 : decode cX2_readsCalendar 26 = .ok (.aload_n 0, 1) := dk_42 (dk_at dksX2_readsCalendar_1 2 rfl rfl)
theorem dX2_readsCalendar_27 : decode cX2_readsCalendar 27 = .ok (.getfield 132, 3) := dk_180 0 132 (dk_at dksX2_readsCalendar_1 3 rfl rfl)
theorem dX2_readsCalendar_30 : decode cX2_readsCalendar 30 = .ok (.invokevirtual 135, 3) := dk_182 0 135 (dk_at dksX2_readsCalendar_1 6 rfl rfl)
theorem dX2_readsCalendar_33 : decode cX2_readsCalendar 33 = .ok (.bipush 48, 2) := dk_16 48 (dk_at dksX2_readsCalendar_1 9 rfl rfl)
theorem dX2_readsCalendar_35 : decode cX2_readsCalendar 35 = .ok (.bipush 50, 2) := dk_16 50 (dk_at dksX2_readsCalendar_1 11 rfl rfl)
theorem dX2_readsCalendar_37 : decode cX2_readsCalendar 37 = .ok (.invokestatic 104, 3) := dk_184 0 104 (dk_at dksX2_readsCalendar_1 13 rfl rfl)
theorem dX2_readsCalendar_40 : decode cX2_readsCalendar 40 = .ok (.ifCond .eq 47, 3) := dk_153 0 47 (dk_at dksX2_readsCalendar_1 16 rfl rfl)
theorem dX2_readsCalendar_43 : decode cX2_readsCalendar 43 = .ok (.aload_n 0, 1) := dk_42 (dk_at dksX2_readsCalendar_1 19 rfl rfl)
theorem dX2_readsCalendar_44 : decode cX2_readsCalendar 44 = .ok (.getfield 38, 3) := dk_180 0 38 (dk_at dksX2_readsCalendar_1 20 rfl rfl)
theorem dX2_readsCalendar_47 : decode cX2_readsCalendar 47 = .ok (.aload_n 0, 1) := dk_42 (dk_at dksX2_readsCalendar_1 23 rfl rfl)
theorem dX2_readsCalendar_48 : decode cX2_readsCalendar 48 = .ok (.getfield 164, 3) := dk_180 0 164 (dk_at dksX2_readsCalendar_2 0 rfl rfl)
theorem dX2_readsCalendar_51 : decode cX2_readsCalendar 51 = .ok (.aload_n 0, 1) := dk_42 (dk_at dksX2_readsCalendar_2 3 rfl rfl)
theorem dX2_readsCalendar_52 : decode cX2_readsCalendar 52 = .ok (.iload_n 1, 1) := dk_27 (dk_at dksX2_readsCalendar_2 4 rfl rfl)
theorem dX2_readsCalendar_53 : decode cX2_readsCalendar 53 = .ok (.aload_n 0, 1) := dk_42 (dk_at dksX2_readsCalendar_2 5 rfl rfl)
theorem dX2_readsCalendar_54 : decode cX2_readsCalendar 54 = .ok (.getfield 132, 3) := dk_180 0 132 (dk_at dksX2_readsCalendar_2 6 rfl rfl)
theorem dX2_readsCalendar_57 : decode cX2_readsCalendar 57 = .ok (.invokevirtual 135, 3) := dk_182 0 135 (dk_at dksX2_readsCalendar_2 9 rfl rfl)
theorem dX2_readsCalendar_60 : decode cX2_readsCalendar 60 = .ok (.bipush 48, 2) := dk_16 48 (dk_at dksX2_readsCalendar_2 12 rfl rfl)
theorem dX2_readsCalendar_62 : decode cX2_readsCalendar 62 = .ok (.isub, 1) := dk_100 (dk_at dksX2_readsCalendar_2 14 rfl rfl)
theorem dX2_readsCalendar_63 : decode cX2_readsCalendar 63 = .ok (.iastore, 1) := dk_79 (dk_at dksX2_readsCalendar_2 15 rfl rfl)
theorem dX2_readsCalendar_64 : decode cX2_readsCalendar 64 = .ok (.aload_n 0, 1) := dk_42 (dk_at dksX2_readsCalendar_2 16 rfl rfl)
theorem dX2_readsCalendar_65 : decode cX2_readsCalendar 65 = .ok (.dup, 1) := dk_89 (dk_at dksX2_readsCalendar_2 17 rfl rfl)
theorem dX2_readsCalendar_66 : decode cX2_readsCalendar 66 = .ok (.getfield 164, 3) := dk_180 0 164 (dk_at dksX2_readsCalendar_2 18 rfl rfl)
theorem dX2_readsCalendar_69 : decode cX2_readsCalendar 69 = .ok (.iconst 1, 1) := dk_4 (dk_at dksX2_readsCalendar_2 21 rfl rfl)
theorem dX2_readsCalendar_70 : decode cX2_readsCalendar 70 = .ok (.iadd, 1) := dk_96 (dk_at dksX2_readsCalendar_2 22 rfl rfl)
theorem dX2_readsCalendar_71 : decode cX2_readsCalendar 71 = .ok (.putfield 164, 3) := dk_181 0 164 (dk_at dksX2_readsCalendar_3 0 rfl rfl)
theorem dX2_readsCalendar_74 : decode cX2_readsCalendar 74 = .ok (.aload_n 0, 1) := dk_42 (dk_at dksX2_readsCalendar_3 3 rfl rfl)
theorem dX2_readsCalendar_75 : decode cX2_readsCalendar 75 = .ok (.dup, 1) := dk_89 (dk_at dksX2_readsCalendar_3 4 rfl rfl)
theorem dX2_readsCalendar_76 : decode cX2_readsCalendar 76 = .ok (.getfield 132, 3) := dk_180 0 132 (dk_at dksX2_readsCalendar_3 5 rfl rfl)
theorem dX2_readsCalendar_79 : decode cX2_readsCalendar 79 = .ok (.iconst 1, 1) := dk_4 (dk_at dksX2_readsCalendar_3 8 rfl rfl)
theorem dX2_readsCalendar_80 : decode cX2_readsCalendar 80 = .ok (.iadd, 1) := dk_96 (dk_at dksX2_readsCalendar_3 9 rfl rfl)
theorem dX2_readsCalendar_81 : decode cX2_readsCalendar 81 = .ok (.putfield 132, 3) := dk_181 0 132 (dk_at dksX2_readsCalendar_3 10 rfl rfl)
theorem dX2_readsCalendar_84 : decode cX2_readsCalendar 84 = .ok (.goto (-69), 3) := dk_167 255 187 (dk_at dksX2_readsCalendar_3 13 rfl rfl)
theorem dX2_readsCalendar_87 : decode cX2_readsCalendar 87 = .ok (.aload_n 0, 1) := dk_42 (dk_at dksX2_readsCalendar_3 16 rfl rfl)
theorem dX2_readsCalendar_88 : decode cX2_readsCalendar 88 = .ok (.getfield 164, 3) := dk_180 0 164 (dk_at dksX2_readsCalendar_3 17 rfl rfl)
theorem dX2_readsCalendar_91 : decode cX2_readsCalendar 91 = .ok (.ifCond .le 7, 3) := dk_158 0 7 (dk_at dksX2_readsCalendar_3 20 rfl rfl)
theorem dX2_readsCalendar_94 : decode cX2_readsCalendar 94 = .ok (.iconst 1, 1) := dk_4 (dk_at dksX2_readsCalendar_3 23 rfl rfl)
theorem dX2_readsCalendar_95 : decode cX2_readsCalendar 95 = .ok (.goto 4, 3) := dk_167 0 4 (dk_at dksX2_readsCalendar_4 0 rfl rfl)
theorem dX2_readsCalendar_98 : decode cX2_readsCalendar 98 = .ok (.iconst 0, 1) := dk_3 (dk_at dksX2_readsCalendar_4 3 rfl rfl)
theorem dX2_readsCalendar_99 : decode cX2_readsCalendar 99 = .ok (.ireturn, 1) := dk_172 (dk_at dksX2_readsCalendar_4 4 rfl rfl)
abbrev cX2_readsChances : ByteArray := prog_12_method_34_code
def yX2_readsChances : MethodName := ⟨RX2, "readsChances", "(I)Z"⟩
def dkwX2_readsChances_3 : List UInt8 := [16, 12, 160, 0, 7, 4, 167, 0, 4, 3, 172]
abbrev dktX2_readsChances_3 : List UInt8 := dkwX2_readsChances_3 ++ []
def dkwX2_readsChances_2 : List UInt8 := [180, 0, 41, 29, 42, 180, 0, 138, 79, 28, 42, 180, 0, 138, 96, 61, 132, 3, 1, 167, 255, 203, 28]
abbrev dktX2_readsChances_2 : List UInt8 := dkwX2_readsChances_2 ++ dktX2_readsChances_3
def dkwX2_readsChances_1 : List UInt8 := [27, 16, 44, 182, 0, 154, 153, 0, 15, 42, 27, 5, 3, 16, 12, 182, 0, 147, 154, 0, 5, 3, 172, 42]
abbrev dktX2_readsChances_1 : List UInt8 := dkwX2_readsChances_1 ++ dktX2_readsChances_2
def dkwX2_readsChances_0 : List UInt8 := [42, 89, 180, 0, 132, 4, 96, 181, 0, 132, 3, 61, 3, 62, 29, 6, 162, 0, 54, 29, 158, 0, 13, 42]
abbrev dktX2_readsChances_0 : List UInt8 := dkwX2_readsChances_0 ++ dktX2_readsChances_1
theorem dksX2_readsChances_0 : cX2_readsChances.data.toList.drop 0 = dktX2_readsChances_0 := by decide +kernel
theorem dksX2_readsChances_1 : cX2_readsChances.data.toList.drop 24 = dktX2_readsChances_1 := dk_seg dksX2_readsChances_0 24 rfl rfl
theorem dksX2_readsChances_2 : cX2_readsChances.data.toList.drop 48 = dktX2_readsChances_2 := dk_seg dksX2_readsChances_1 24 rfl rfl
theorem dksX2_readsChances_3 : cX2_readsChances.data.toList.drop 71 = dktX2_readsChances_3 := dk_seg dksX2_readsChances_2 23 rfl rfl
theorem dX2_readsChances_0 : decode cX2_readsChances 0 = .ok (.aload_n 0, 1) := dk_42 (dk_at dksX2_readsChances_0 0 rfl rfl)
theorem dX2_readsChances_1 : decode cX2_readsChances 1 = .ok (.dup, 1) := dk_89 (dk_at dksX2_readsChances_0 1 rfl rfl)
theorem dX2_readsChances_2 : decode cX2_readsChances 2 = .ok (.getfield 132, 3) := dk_180 0 132 (dk_at dksX2_readsChances_0 2 rfl rfl)
theorem dX2_readsChances_5 : decode cX2_readsChances 5 = .ok (.iconst 1, 1) := dk_4 (dk_at dksX2_readsChances_0 5 rfl rfl)
theorem dX2_readsChances_6 : decode cX2_readsChances 6 = .ok (.iadd, 1) := dk_96 (dk_at dksX2_readsChances_0 6 rfl rfl)
theorem dX2_readsChances_7 : decode cX2_readsChances 7 = .ok (.putfield 132, 3) := dk_181 0 132 (dk_at dksX2_readsChances_0 7 rfl rfl)
theorem dX2_readsChances_10 : decode cX2_readsChances 10 = .ok (.iconst 0, 1) := dk_3 (dk_at dksX2_readsChances_0 10 rfl rfl)
theorem dX2_readsChances_11 : decode cX2_readsChances 11 = .ok (.istore_n 2, 1) := dk_61 (dk_at dksX2_readsChances_0 11 rfl rfl)
theorem dX2_readsChances_12 : decode cX2_readsChances 12 = .ok (.iconst 0, 1) := dk_3 (dk_at dksX2_readsChances_0 12 rfl rfl)
theorem dX2_readsChances_13 : decode cX2_readsChances 13 = .ok (.istore_n 3, 1) := dk_62 (dk_at dksX2_readsChances_0 13 rfl rfl)
theorem dX2_readsChances_14 : decode cX2_readsChances 14 = .ok (.iload_n 3, 1) := dk_29 (dk_at dksX2_readsChances_0 14 rfl rfl)
theorem dX2_readsChances_15 : decode cX2_readsChances 15 = .ok (.iconst 3, 1) := dk_6 (dk_at dksX2_readsChances_0 15 rfl rfl)
theorem dX2_readsChances_16 : decode cX2_readsChances 16 = .ok (.if_icmp .ge 54, 3) := dk_162 0 54 (dk_at dksX2_readsChances_0 16 rfl rfl)
theorem dX2_readsChances_19 : decode cX2_readsChances 19 = .ok (.iload_n 3, 1) := dk_29 (dk_at dksX2_readsChances_0 19 rfl rfl)
theorem dX2_readsChances_20 : decode cX2_readsChances 20 = .ok (.ifCond .le 13, 3) := dk_158 0 13 (dk_at dksX2_readsChances_0 20 rfl rfl)
theorem dX2_readsChances_23 : decode cX2_readsChances 23 = .ok (.aload_n 0, 1) := dk_42 (dk_at dksX2_readsChances_0 23 rfl rfl)
theorem dX2_readsChances_24 : decode cX2_readsChances 24 = .ok (.iload_n 1, 1) := dk_27 (dk_at dksX2_readsChances_1 0 rfl rfl)
theorem dX2_readsChances_25 : decode cX2_readsChances 25 = .ok (.bipush 44, 2) := dk_16 44 (dk_at dksX2_readsChances_1 1 rfl rfl)
theorem dX2_readsChances_27 : decode cX2_readsChances 27 = .ok (.invokevirtual 154, 3) := dk_182 0 154 (dk_at dksX2_readsChances_1 3 rfl rfl)
theorem dX2_readsChances_30 : decode cX2_readsChances 30 = .ok (.ifCond .eq 15, 3) := dk_153 0 15 (dk_at dksX2_readsChances_1 6 rfl rfl)
theorem dX2_readsChances_33 : decode cX2_readsChances 33 = .ok (.aload_n 0, 1) := dk_42 (dk_at dksX2_readsChances_1 9 rfl rfl)
theorem dX2_readsChances_34 : decode cX2_readsChances 34 = .ok (.iload_n 1, 1) := dk_27 (dk_at dksX2_readsChances_1 10 rfl rfl)
theorem dX2_readsChances_35 : decode cX2_readsChances 35 = .ok (.iconst 2, 1) := dk_5 (dk_at dksX2_readsChances_1 11 rfl rfl)
theorem dX2_readsChances_36 : decode cX2_readsChances 36 = .ok (.iconst 0, 1) := dk_3 (dk_at dksX2_readsChances_1 12 rfl rfl)
theorem dX2_readsChances_37 : decode cX2_readsChances 37 = .ok (.bipush 12, 2) := dk_16 12 (dk_at dksX2_readsChances_1 13 rfl rfl)
theorem dX2_readsChances_39 : decode cX2_readsChances 39 = .ok (.invokevirtual 147, 3) := dk_182 0 147 (dk_at dksX2_readsChances_1 15 rfl rfl)
theorem dX2_readsChances_42 : decode cX2_readsChances 42 = .ok (.ifCond .ne 5, 3) := dk_154 0 5 (dk_at dksX2_readsChances_1 18 rfl rfl)
theorem dX2_readsChances_45 : decode cX2_readsChances 45 = .ok (.iconst 0, 1) := dk_3 (dk_at dksX2_readsChances_1 21 rfl rfl)
theorem dX2_readsChances_46 : decode cX2_readsChances 46 = .ok (.ireturn, 1) := dk_172 (dk_at dksX2_readsChances_1 22 rfl rfl)
theorem dX2_readsChances_47 : decode cX2_readsChances 47 = .ok (.aload_n 0, 1) := dk_42 (dk_at dksX2_readsChances_1 23 rfl rfl)
theorem dX2_readsChances_48 : decode cX2_readsChances 48 = .ok (.getfield 41, 3) := dk_180 0 41 (dk_at dksX2_readsChances_2 0 rfl rfl)
theorem dX2_readsChances_51 : decode cX2_readsChances 51 = .ok (.iload_n 3, 1) := dk_29 (dk_at dksX2_readsChances_2 3 rfl rfl)
theorem dX2_readsChances_52 : decode cX2_readsChances 52 = .ok (.aload_n 0, 1) := dk_42 (dk_at dksX2_readsChances_2 4 rfl rfl)
theorem dX2_readsChances_53 : decode cX2_readsChances 53 = .ok (.getfield 138, 3) := dk_180 0 138 (dk_at dksX2_readsChances_2 5 rfl rfl)
theorem dX2_readsChances_56 : decode cX2_readsChances 56 = .ok (.iastore, 1) := dk_79 (dk_at dksX2_readsChances_2 8 rfl rfl)
theorem dX2_readsChances_57 : decode cX2_readsChances 57 = .ok (.iload_n 2, 1) := dk_28 (dk_at dksX2_readsChances_2 9 rfl rfl)
theorem dX2_readsChances_58 : decode cX2_readsChances 58 = .ok (.aload_n 0, 1) := dk_42 (dk_at dksX2_readsChances_2 10 rfl rfl)
theorem dX2_readsChances_59 : decode cX2_readsChances 59 = .ok (.getfield 138, 3) := dk_180 0 138 (dk_at dksX2_readsChances_2 11 rfl rfl)
theorem dX2_readsChances_62 : decode cX2_readsChances 62 = .ok (.iadd, 1) := dk_96 (dk_at dksX2_readsChances_2 14 rfl rfl)
theorem dX2_readsChances_63 : decode cX2_readsChances 63 = .ok (.istore_n 2, 1) := dk_61 (dk_at dksX2_readsChances_2 15 rfl rfl)
theorem dX2_readsChances_64 : decode cX2_readsChances 64 = .ok (.iinc 3 1, 3) := dk_132 3 1 (dk_at dksX2_readsChances_2 16 rfl rfl)
theorem dX2_readsChances_67 : decode cX2_readsChances 67 = .ok (.goto (-53), 3) := dk_167 255 203 (dk_at dksX2_readsChances_2 19 rfl rfl)
theorem dX2_readsChances_70 : decode cX2_readsChances 70 = .ok (.iload_n 2, 1) := dk_28 (dk_at dksX2_readsChances_2 22 rfl rfl)
theorem dX2_readsChances_71 : decode cX2_readsChances 71 = .ok (.bipush 12, 2) := dk_16 12 (dk_at dksX2_readsChances_3 0 rfl rfl)
theorem dX2_readsChances_73 : decode cX2_readsChances 73 = .ok (.if_icmp .ne 7, 3) := dk_160 0 7 (dk_at dksX2_readsChances_3 2 rfl rfl)
theorem dX2_readsChances_76 : decode cX2_readsChances 76 = .ok (.iconst 1, 1) := dk_4 (dk_at dksX2_readsChances_3 5 rfl rfl)
theorem dX2_readsChances_77 : decode cX2_readsChances 77 = .ok (.goto 4, 3) := dk_167 0 4 (dk_at dksX2_readsChances_3 6 rfl rfl)
theorem dX2_readsChances_80 : decode cX2_readsChances 80 = .ok (.iconst 0, 1) := dk_3 (dk_at dksX2_readsChances_3 9 rfl rfl)
theorem dX2_readsChances_81 : decode cX2_readsChances 81 = .ok (.ireturn, 1) := dk_172 (dk_at dksX2_readsChances_3 10 rfl rfl)
abbrev cX2_wood : ByteArray := prog_12_method_38_code
def yX2_wood : MethodName := ⟨RX2, "wood", "(I)I"⟩
def dkwX2_wood_10 : List UInt8 := [132, 2, 1, 167, 255, 236, 42, 3, 181, 0, 203, 42, 3, 181, 0, 206, 42, 180, 0, 191, 172]
abbrev dktX2_wood_10 : List UInt8 := dkwX2_wood_10 ++ []
def dkwX2_wood_9 : List UInt8 := [167, 255, 233, 3, 61, 28, 6, 162, 0, 21, 42, 180, 0, 59, 28, 42, 180, 0, 41, 28, 46, 79]
abbrev dktX2_wood_9 : List UInt8 := dkwX2_wood_9 ++ dktX2_wood_10
def dkwX2_wood_8 : List UInt8 := [42, 180, 0, 164, 162, 0, 21, 42, 180, 0, 56, 28, 42, 180, 0, 38, 28, 46, 79, 132, 2, 1]
abbrev dktX2_wood_8 : List UInt8 := dkwX2_wood_8 ++ dktX2_wood_9
def dkwX2_wood_7 : List UInt8 := [181, 0, 197, 42, 42, 180, 0, 35, 4, 46, 181, 0, 200, 42, 42, 180, 0, 164, 181, 0, 97, 3, 61, 28]
abbrev dktX2_wood_7 : List UInt8 := dkwX2_wood_7 ++ dktX2_wood_8
def dkwX2_wood_6 : List UInt8 := [180, 0, 32, 7, 28, 104, 6, 96, 46, 79, 132, 2, 1, 167, 255, 183, 42, 42, 180, 0, 35, 3, 46]
abbrev dktX2_wood_6 : List UInt8 := dkwX2_wood_6 ++ dktX2_wood_7
def dkwX2_wood_5 : List UInt8 := [42, 180, 0, 50, 28, 42, 180, 0, 32, 7, 28, 104, 5, 96, 46, 79, 42, 180, 0, 53, 28, 42]
abbrev dktX2_wood_5 : List UInt8 := dkwX2_wood_5 ++ dktX2_wood_6
def dkwX2_wood_4 : List UInt8 := [180, 0, 32, 7, 28, 104, 46, 79, 42, 180, 0, 47, 28, 42, 180, 0, 32, 7, 28, 104, 4, 96, 46, 79]
abbrev dktX2_wood_4 : List UInt8 := dkwX2_wood_4 ++ dktX2_wood_5
def dkwX2_wood_3 : List UInt8 := [42, 180, 0, 161, 181, 0, 194, 3, 61, 28, 42, 180, 0, 194, 162, 0, 71, 42, 180, 0, 62, 28, 42]
abbrev dktX2_wood_3 : List UInt8 := dkwX2_wood_3 ++ dktX2_wood_4
def dkwX2_wood_2 : List UInt8 := [16, 42, 162, 0, 21, 42, 180, 0, 44, 28, 42, 180, 0, 29, 28, 46, 79, 132, 2, 1, 167, 255, 235, 42]
abbrev dktX2_wood_2 : List UInt8 := dkwX2_wood_2 ++ dktX2_wood_3
def dkwX2_wood_1 : List UInt8 := [42, 27, 182, 0, 188, 16, 247, 159, 0, 6, 16, 252, 172, 42, 42, 180, 0, 144, 181, 0, 191, 3, 61, 28]
abbrev dktX2_wood_1 : List UInt8 := dkwX2_wood_1 ++ dktX2_wood_2
def dkwX2_wood_0 : List UInt8 := [27, 184, 0, 129, 154, 0, 5, 2, 172, 42, 180, 0, 22, 27, 46, 156, 0, 9, 42, 4, 182, 0, 118, 172]
abbrev dktX2_wood_0 : List UInt8 := dkwX2_wood_0 ++ dktX2_wood_1
theorem dksX2_wood_0 : cX2_wood.data.toList.drop 0 = dktX2_wood_0 := by decide +kernel
theorem dksX2_wood_1 : cX2_wood.data.toList.drop 24 = dktX2_wood_1 := dk_seg dksX2_wood_0 24 rfl rfl
theorem dksX2_wood_2 : cX2_wood.data.toList.drop 48 = dktX2_wood_2 := dk_seg dksX2_wood_1 24 rfl rfl
theorem dksX2_wood_3 : cX2_wood.data.toList.drop 72 = dktX2_wood_3 := dk_seg dksX2_wood_2 24 rfl rfl
theorem dksX2_wood_4 : cX2_wood.data.toList.drop 95 = dktX2_wood_4 := dk_seg dksX2_wood_3 23 rfl rfl
theorem dksX2_wood_5 : cX2_wood.data.toList.drop 119 = dktX2_wood_5 := dk_seg dksX2_wood_4 24 rfl rfl
theorem dksX2_wood_6 : cX2_wood.data.toList.drop 141 = dktX2_wood_6 := dk_seg dksX2_wood_5 22 rfl rfl
theorem dksX2_wood_7 : cX2_wood.data.toList.drop 164 = dktX2_wood_7 := dk_seg dksX2_wood_6 23 rfl rfl
theorem dksX2_wood_8 : cX2_wood.data.toList.drop 188 = dktX2_wood_8 := dk_seg dksX2_wood_7 24 rfl rfl
theorem dksX2_wood_9 : cX2_wood.data.toList.drop 210 = dktX2_wood_9 := dk_seg dksX2_wood_8 22 rfl rfl
theorem dksX2_wood_10 : cX2_wood.data.toList.drop 232 = dktX2_wood_10 := dk_seg dksX2_wood_9 22 rfl rfl
theorem dX2_wood_0 : decode cX2_wood 0 = .ok (.iload_n 1, 1) := dk_27 (dk_at dksX2_wood_0 0 rfl rfl)
theorem dX2_wood_1 : decode cX2_wood 1 = .ok (.invokestatic 129, 3) := dk_184 0 129 (dk_at dksX2_wood_0 1 rfl rfl)
theorem dX2_wood_4 : decode cX2_wood 4 = .ok (.ifCond .ne 5, 3) := dk_154 0 5 (dk_at dksX2_wood_0 4 rfl rfl)
theorem dX2_wood_7 : decode cX2_wood 7 = .ok (.iconst (-1), 1) := dk_2 (dk_at dksX2_wood_0 7 rfl rfl)
theorem dX2_wood_8 : decode cX2_wood 8 = .ok (.ireturn, 1) := dk_172 (dk_at dksX2_wood_0 8 rfl rfl)
theorem dX2_wood_9 : decode cX2_wood 9 = .ok (.aload_n 0, 1) := dk_42 (dk_at dksX2_wood_0 9 rfl rfl)
theorem dX2_wood_10 : decode cX2_wood 10 = .ok (.getfield 22, 3) := dk_180 0 22 (dk_at dksX2_wood_0 10 rfl rfl)
theorem dX2_wood_13 : decode cX2_wood 13 = .ok (.iload_n 1, 1) := dk_27 (dk_at dksX2_wood_0 13 rfl rfl)
theorem dX2_wood_14 : decode cX2_wood 14 = .ok (.iaload, 1) := dk_46 (dk_at dksX2_wood_0 14 rfl rfl)
theorem dX2_wood_15 : decode cX2_wood 15 = .ok (.ifCond .ge 9, 3) := dk_156 0 9 (dk_at dksX2_wood_0 15 rfl rfl)
theorem dX2_wood_18 : decode cX2_wood 18 = .ok (.aload_n 0, 1) := dk_42 (dk_at dksX2_wood_0 18 rfl rfl)
theorem dX2_wood_19 : decode cX2_wood 19 = .ok (.iconst 1, 1) := dk_4 (dk_at dksX2_wood_0 19 rfl rfl)
theorem dX2_wood_20 : decode cX2_wood 20 = .ok (.invokevirtual 118, 3) := dk_182 0 118 (dk_at dksX2_wood_0 20 rfl rfl)
theorem dX2_wood_23 : decode cX2_wood 23 = .ok (.ireturn, 1) := dk_172 (dk_at dksX2_wood_0 23 rfl rfl)
theorem dX2_wood_24 : decode cX2_wood 24 = .ok (.aload_n 0, 1) := dk_42 (dk_at dksX2_wood_1 0 rfl rfl)
theorem dX2_wood_25 : decode cX2_wood 25 = .ok (.iload_n 1, 1) := dk_27 (dk_at dksX2_wood_1 1 rfl rfl)
theorem dX2_wood_26 : decode cX2_wood 26 = .ok (.invokevirtual 188, 3) := dk_182 0 188 (dk_at dksX2_wood_1 2 rfl rfl)
theorem dX2_wood_29 : decode cX2_wood 29 = .ok (.bipush (-9), 2) := dk_16 247 (dk_at dksX2_wood_1 5 rfl rfl)
theorem dX2_wood_31 : decode cX2_wood 31 = .ok (.if_icmp .eq 6, 3) := dk_159 0 6 (dk_at dksX2_wood_1 7 rfl rfl)
theorem dX2_wood_34 : decode cX2_wood 34 = .ok (.bipush (-4), 2) := dk_16 252 (dk_at dksX2_wood_1 10 rfl rfl)
theorem dX2_wood_36 : decode cX2_wood 36 = .ok (.ireturn, 1) := dk_172 (dk_at dksX2_wood_1 12 rfl rfl)
theorem dX2_wood_37 : decode cX2_wood 37 = .ok (.aload_n 0, 1) := dk_42 (dk_at dksX2_wood_1 13 rfl rfl)
theorem dX2_wood_38 : decode cX2_wood 38 = .ok (.aload_n 0, 1) := dk_42 (dk_at dksX2_wood_1 14 rfl rfl)
theorem dX2_wood_39 : decode cX2_wood 39 = .ok (.getfield 144, 3) := dk_180 0 144 (dk_at dksX2_wood_1 15 rfl rfl)
theorem dX2_wood_42 : decode cX2_wood 42 = .ok (.putfield 191, 3) := dk_181 0 191 (dk_at dksX2_wood_1 18 rfl rfl)
theorem dX2_wood_45 : decode cX2_wood 45 = .ok (.iconst 0, 1) := dk_3 (dk_at dksX2_wood_1 21 rfl rfl)
theorem dX2_wood_46 : decode cX2_wood 46 = .ok (.istore_n 2, 1) := dk_61 (dk_at dksX2_wood_1 22 rfl rfl)
theorem dX2_wood_47 : decode cX2_wood 47 = .ok (.iload_n 2, 1) := dk_28 (dk_at dksX2_wood_1 23 rfl rfl)
theorem dX2_wood_48 : decode cX2_wood 48 = .ok (.bipush 42, 2) := dk_16 42 (dk_at dksX2_wood_2 0 rfl rfl)
theorem dX2_wood_50 : decode cX2_wood 50 = .ok (.if_icmp .ge 21, 3) := dk_162 0 21 (dk_at dksX2_wood_2 2 rfl rfl)
theorem dX2_wood_53 : decode cX2_wood 53 = .ok (.aload_n 0, 1) := dk_42 (dk_at dksX2_wood_2 5 rfl rfl)
theorem dX2_wood_54 : decode cX2_wood 54 = .ok (.getfield 44, 3) := dk_180 0 44 (dk_at dksX2_wood_2 6 rfl rfl)
theorem dX2_wood_57 : decode cX2_wood 57 = .ok (.iload_n 2, 1) := dk_28 (dk_at dksX2_wood_2 9 rfl rfl)
theorem dX2_wood_58 : decode cX2_wood 58 = .ok (.aload_n 0, 1) := dk_42 (dk_at dksX2_wood_2 10 rfl rfl)
theorem dX2_wood_59 : decode cX2_wood 59 = .ok (.getfield 29, 3) := dk_180 0 29 (dk_at dksX2_wood_2 11 rfl rfl)
theorem dX2_wood_62 : decode cX2_wood 62 = .ok (.iload_n 2, 1) := dk_28 (dk_at dksX2_wood_2 14 rfl rfl)
theorem dX2_wood_63 : decode cX2_wood 63 = .ok (.iaload, 1) := dk_46 (dk_at dksX2_wood_2 15 rfl rfl)
theorem dX2_wood_64 : decode cX2_wood 64 = .ok (.iastore, 1) := dk_79 (dk_at dksX2_wood_2 16 rfl rfl)
theorem dX2_wood_65 : decode cX2_wood 65 = .ok (.iinc 2 1, 3) := dk_132 2 1 (dk_at dksX2_wood_2 17 rfl rfl)
theorem dX2_wood_68 : decode cX2_wood 68 = .ok (.goto (-21), 3) := dk_167 255 235 (dk_at dksX2_wood_2 20 rfl rfl)
theorem dX2_wood_71 : decode cX2_wood 71 = .ok (.aload_n 0, 1) := dk_42 (dk_at dksX2_wood_2 23 rfl rfl)
theorem dX2_wood_72 : decode cX2_wood 72 = .ok (.aload_n 0, 1) := dk_42 (dk_at dksX2_wood_3 0 rfl rfl)
theorem dX2_wood_73 : decode cX2_wood 73 = .ok (.getfield 161, 3) := dk_180 0 161 (dk_at dksX2_wood_3 1 rfl rfl)
theorem dX2_wood_76 : decode cX2_wood 76 = .ok (.putfield 194, 3) := dk_181 0 194 (dk_at dksX2_wood_3 4 rfl rfl)
theorem dX2_wood_79 : decode cX2_wood 79 = .ok (.iconst 0, 1) := dk_3 (dk_at dksX2_wood_3 7 rfl rfl)
theorem dX2_wood_80 : decode cX2_wood 80 = .ok (.istore_n 2, 1) := dk_61 (dk_at dksX2_wood_3 8 rfl rfl)
theorem dX2_wood_81 : decode cX2_wood 81 = .ok (.iload_n 2, 1) := dk_28 (dk_at dksX2_wood_3 9 rfl rfl)
theorem dX2_wood_82 : decode cX2_wood 82 = .ok (.aload_n 0, 1) := dk_42 (dk_at dksX2_wood_3 10 rfl rfl)
theorem dX2_wood_83 : decode cX2_wood 83 = .ok (.getfield 194, 3) := dk_180 0 194 (dk_at dksX2_wood_3 11 rfl rfl)
theorem dX2_wood_86 : decode cX2_wood 86 = .ok (.if_icmp .ge 71, 3) := dk_162 0 71 (dk_at dksX2_wood_3 14 rfl rfl)
theorem dX2_wood_89 : decode cX2_wood 89 = .ok (.aload_n 0, 1) := dk_42 (dk_at dksX2_wood_3 17 rfl rfl)
theorem dX2_wood_90 : decode cX2_wood 90 = .ok (.getfield 62, 3) := dk_180 0 62 (dk_at dksX2_wood_3 18 rfl rfl)
theorem dX2_wood_93 : decode cX2_wood 93 = .ok (.iload_n 2, 1) := dk_28 (dk_at dksX2_wood_3 21 rfl rfl)
theorem dX2_wood_94 : decode cX2_wood 94 = .ok (.aload_n 0, 1) := dk_42 (dk_at dksX2_wood_3 22 rfl rfl)
theorem dX2_wood_95 : decode cX2_wood 95 = .ok (.getfield 32, 3) := dk_180 0 32 (dk_at dksX2_wood_4 0 rfl rfl)
theorem dX2_wood_98 : decode cX2_wood 98 = .ok (.iconst 4, 1) := dk_7 (dk_at dksX2_wood_4 3 rfl rfl)
theorem dX2_wood_99 : decode cX2_wood 99 = .ok (.iload_n 2, 1) := dk_28 (dk_at dksX2_wood_4 4 rfl rfl)
theorem dX2_wood_100 : decode cX2_wood 100 = .ok (.imul, 1) := dk_104 (dk_at dksX2_wood_4 5 rfl rfl)
theorem dX2_wood_101 : decode cX2_wood 101 = .ok (.iaload, 1) := dk_46 (dk_at dksX2_wood_4 6 rfl rfl)
theorem dX2_wood_102 : decode cX2_wood 102 = .ok (.iastore, 1) := dk_79 (dk_at dksX2_wood_4 7 rfl rfl)
theorem dX2_wood_103 : decode cX2_wood 103 = .ok (.aload_n 0, 1) := dk_42 (dk_at dksX2_wood_4 8 rfl rfl)
theorem dX2_wood_104 : decode cX2_wood 104 = .ok (.getfield 47, 3) := dk_180 0 47 (dk_at dksX2_wood_4 9 rfl rfl)
theorem dX2_wood_107 : decode cX2_wood 107 = .ok (.iload_n 2, 1) := dk_28 (dk_at dksX2_wood_4 12 rfl rfl)
theorem dX2_wood_108 : decode cX2_wood 108 = .ok (.aload_n 0, 1) := dk_42 (dk_at dksX2_wood_4 13 rfl rfl)
theorem dX2_wood_109 : decode cX2_wood 109 = .ok (.getfield 32, 3) := dk_180 0 32 (dk_at dksX2_wood_4 14 rfl rfl)
theorem dX2_wood_112 : decode cX2_wood 112 = .ok (.iconst 4, 1) := dk_7 (dk_at dksX2_wood_4 17 rfl rfl)
theorem dX2_wood_113 : decode cX2_wood 113 = .ok (.iload_n 2, 1) := dk_28 (dk_at dksX2_wood_4 18 rfl rfl)
theorem dX2_wood_114 : decode cX2_wood 114 = .ok (.imul, 1) := dk_104 (dk_at dksX2_wood_4 19 rfl rfl)
theorem dX2_wood_115 : decode cX2_wood 115 = .ok (.iconst 1, 1) := dk_4 (dk_at dksX2_wood_4 20 rfl rfl)
theorem dX2_wood_116 : decode cX2_wood 116 = .ok (.iadd, 1) := dk_96 (dk_at dksX2_wood_4 21 rfl rfl)
theorem dX2_wood_117 : decode cX2_wood 117 = .ok (.iaload, 1) := dk_46 (dk_at dksX2_wood_4 22 rfl rfl)
theorem dX2_wood_118 : decode cX2_wood 118 = .ok (.iastore, 1) := dk_79 (dk_at dksX2_wood_4 23 rfl rfl)
theorem dX2_wood_119 : decode cX2_wood 119 = .ok (.aload_n 0, 1) := dk_42 (dk_at dksX2_wood_5 0 rfl rfl)
theorem dX2_wood_120 : decode cX2_wood 120 = .ok (.getfield 50, 3) := dk_180 0 50 (dk_at dksX2_wood_5 1 rfl rfl)
theorem dX2_wood_123 : decode cX2_wood 123 = .ok (.iload_n 2, 1) := dk_28 (dk_at dksX2_wood_5 4 rfl rfl)
theorem dX2_wood_124 : decode cX2_wood 124 = .ok (.aload_n 0, 1) := dk_42 (dk_at dksX2_wood_5 5 rfl rfl)
theorem dX2_wood_125 : decode cX2_wood 125 = .ok (.getfield 32, 3) := dk_180 0 32 (dk_at dksX2_wood_5 6 rfl rfl)
theorem dX2_wood_128 : decode cX2_wood 128 = .ok (.iconst 4, 1) := dk_7 (dk_at dksX2_wood_5 9 rfl rfl)
theorem dX2_wood_129 : decode cX2_wood 129 = .ok (.iload_n 2, 1) := dk_28 (dk_at dksX2_wood_5 10 rfl rfl)
theorem dX2_wood_130 : decode cX2_wood 130 = .ok (.imul, 1) := dk_104 (dk_at dksX2_wood_5 11 rfl rfl)
theorem dX2_wood_131 : decode cX2_wood 131 = .ok (.iconst 2, 1) := dk_5 (dk_at dksX2_wood_5 12 rfl rfl)
theorem dX2_wood_132 : decode cX2_wood 132 = .ok (.iadd, 1) := dk_96 (dk_at dksX2_wood_5 13 rfl rfl)
theorem dX2_wood_133 : decode cX2_wood 133 = .ok (.iaload, 1) := dk_46 (dk_at dksX2_wood_5 14 rfl rfl)
theorem dX2_wood_134 : decode cX2_wood 134 = .ok (.iastore, 1) := dk_79 (dk_at dksX2_wood_5 15 rfl rfl)
theorem dX2_wood_135 : decode cX2_wood 135 = .ok (.aload_n 0, 1) := dk_42 (dk_at dksX2_wood_5 16 rfl rfl)
theorem dX2_wood_136 : decode cX2_wood 136 = .ok (.getfield 53, 3) := dk_180 0 53 (dk_at dksX2_wood_5 17 rfl rfl)
theorem dX2_wood_139 : decode cX2_wood 139 = .ok (.iload_n 2, 1) := dk_28 (dk_at dksX2_wood_5 20 rfl rfl)
theorem dX2_wood_140 : decode cX2_wood 140 = .ok (.aload_n 0, 1) := dk_42 (dk_at dksX2_wood_5 21 rfl rfl)
theorem dX2_wood_141 : decode cX2_wood 141 = .ok (.getfield 32, 3) := dk_180 0 32 (dk_at dksX2_wood_6 0 rfl rfl)
theorem dX2_wood_144 : decode cX2_wood 144 = .ok (.iconst 4, 1) := dk_7 (dk_at dksX2_wood_6 3 rfl rfl)
theorem dX2_wood_145 : decode cX2_wood 145 = .ok (.iload_n 2, 1) := dk_28 (dk_at dksX2_wood_6 4 rfl rfl)
theorem dX2_wood_146 : decode cX2_wood 146 = .ok (.imul, 1) := dk_104 (dk_at dksX2_wood_6 5 rfl rfl)
theorem dX2_wood_147 : decode cX2_wood 147 = .ok (.iconst 3, 1) := dk_6 (dk_at dksX2_wood_6 6 rfl rfl)
theorem dX2_wood_148 : decode cX2_wood 148 = .ok (.iadd, 1) := dk_96 (dk_at dksX2_wood_6 7 rfl rfl)
theorem dX2_wood_149 : decode cX2_wood 149 = .ok (.iaload, 1) := dk_46 (dk_at dksX2_wood_6 8 rfl rfl)
theorem dX2_wood_150 : decode cX2_wood 150 = .ok (.iastore, 1) := dk_79 (dk_at dksX2_wood_6 9 rfl rfl)
theorem dX2_wood_151 : decode cX2_wood 151 = .ok (.iinc 2 1, 3) := dk_132 2 1 (dk_at dksX2_wood_6 10 rfl rfl)
theorem dX2_wood_154 : decode cX2_wood 154 = .ok (.goto (-73), 3) := dk_167 255 183 (dk_at dksX2_wood_6 13 rfl rfl)
theorem dX2_wood_157 : decode cX2_wood 157 = .ok (.aload_n 0, 1) := dk_42 (dk_at dksX2_wood_6 16 rfl rfl)
theorem dX2_wood_158 : decode cX2_wood 158 = .ok (.aload_n 0, 1) := dk_42 (dk_at dksX2_wood_6 17 rfl rfl)
theorem dX2_wood_159 : decode cX2_wood 159 = .ok (.getfield 35, 3) := dk_180 0 35 (dk_at dksX2_wood_6 18 rfl rfl)
theorem dX2_wood_162 : decode cX2_wood 162 = .ok (.iconst 0, 1) := dk_3 (dk_at dksX2_wood_6 21 rfl rfl)
theorem dX2_wood_163 : decode cX2_wood 163 = .ok (.iaload, 1) := dk_46 (dk_at dksX2_wood_6 22 rfl rfl)
theorem dX2_wood_164 : decode cX2_wood 164 = .ok (.putfield 197, 3) := dk_181 0 197 (dk_at dksX2_wood_7 0 rfl rfl)
theorem dX2_wood_167 : decode cX2_wood 167 = .ok (.aload_n 0, 1) := dk_42 (dk_at dksX2_wood_7 3 rfl rfl)
theorem dX2_wood_168 : decode cX2_wood 168 = .ok (.aload_n 0, 1) := dk_42 (dk_at dksX2_wood_7 4 rfl rfl)
theorem dX2_wood_169 : decode cX2_wood 169 = .ok (.getfield 35, 3) := dk_180 0 35 (dk_at dksX2_wood_7 5 rfl rfl)
theorem dX2_wood_172 : decode cX2_wood 172 = .ok (.iconst 1, 1) := dk_4 (dk_at dksX2_wood_7 8 rfl rfl)
theorem dX2_wood_173 : decode cX2_wood 173 = .ok (.iaload, 1) := dk_46 (dk_at dksX2_wood_7 9 rfl rfl)
theorem dX2_wood_174 : decode cX2_wood 174 = .ok (.putfield 200, 3) := dk_181 0 200 (dk_at dksX2_wood_7 10 rfl rfl)
theorem dX2_wood_177 : decode cX2_wood 177 = .ok (.aload_n 0, 1) := dk_42 (dk_at dksX2_wood_7 13 rfl rfl)
theorem dX2_wood_178 : decode cX2_wood 178 = .ok (.aload_n 0, 1) := dk_42 (dk_at dksX2_wood_7 14 rfl rfl)
theorem dX2_wood_179 : decode cX2_wood 179 = .ok (.getfield 164, 3) := dk_180 0 164 (dk_at dksX2_wood_7 15 rfl rfl)
theorem dX2_wood_182 : decode cX2_wood 182 = .ok (.putfield 97, 3) := dk_181 0 97 (dk_at dksX2_wood_7 18 rfl rfl)
theorem dX2_wood_185 : decode cX2_wood 185 = .ok (.iconst 0, 1) := dk_3 (dk_at dksX2_wood_7 21 rfl rfl)
theorem dX2_wood_186 : decode cX2_wood 186 = .ok (.istore_n 2, 1) := dk_61 (dk_at dksX2_wood_7 22 rfl rfl)
theorem dX2_wood_187 : decode cX2_wood 187 = .ok (.iload_n 2, 1) := dk_28 (dk_at dksX2_wood_7 23 rfl rfl)
theorem dX2_wood_188 : decode cX2_wood 188 = .ok (.aload_n 0, 1) := dk_42 (dk_at dksX2_wood_8 0 rfl rfl)
theorem dX2_wood_189 : decode cX2_wood 189 = .ok (.getfield 164, 3) := dk_180 0 164 (dk_at dksX2_wood_8 1 rfl rfl)
theorem dX2_wood_192 : decode cX2_wood 192 = .ok (.if_icmp .ge 21, 3) := dk_162 0 21 (dk_at dksX2_wood_8 4 rfl rfl)
theorem dX2_wood_195 : decode cX2_wood 195 = .ok (.aload_n 0, 1) := dk_42 (dk_at dksX2_wood_8 7 rfl rfl)
theorem dX2_wood_196 : decode cX2_wood 196 = .ok (.getfield 56, 3) := dk_180 0 56 (dk_at dksX2_wood_8 8 rfl rfl)
theorem dX2_wood_199 : decode cX2_wood 199 = .ok (.iload_n 2, 1) := dk_28 (dk_at dksX2_wood_8 11 rfl rfl)
theorem dX2_wood_200 : decode cX2_wood 200 = .ok (.aload_n 0, 1) := dk_42 (dk_at dksX2_wood_8 12 rfl rfl)
theorem dX2_wood_201 : decode cX2_wood 201 = .ok (.getfield 38, 3) := dk_180 0 38 (dk_at dksX2_wood_8 13 rfl rfl)
theorem dX2_wood_204 : decode cX2_wood 204 = .ok (.iload_n 2, 1) := dk_28 (dk_at dksX2_wood_8 16 rfl rfl)
theorem dX2_wood_205 : decode cX2_wood 205 = .ok (.iaload, 1) := dk_46 (dk_at dksX2_wood_8 17 rfl rfl)
theorem dX2_wood_206 : decode cX2_wood 206 = .ok (.iastore, 1) := dk_79 (dk_at dksX2_wood_8 18 rfl rfl)
theorem dX2_wood_207 : decode cX2_wood 207 = .ok (.iinc 2 1, 3) := dk_132 2 1 (dk_at dksX2_wood_8 19 rfl rfl)
theorem dX2_wood_210 : decode cX2_wood 210 = .ok (.goto (-23), 3) := dk_167 255 233 (dk_at dksX2_wood_9 0 rfl rfl)
theorem dX2_wood_213 : decode cX2_wood 213 = .ok (.iconst 0, 1) := dk_3 (dk_at dksX2_wood_9 3 rfl rfl)
theorem dX2_wood_214 : decode cX2_wood 214 = .ok (.istore_n 2, 1) := dk_61 (dk_at dksX2_wood_9 4 rfl rfl)
theorem dX2_wood_215 : decode cX2_wood 215 = .ok (.iload_n 2, 1) := dk_28 (dk_at dksX2_wood_9 5 rfl rfl)
theorem dX2_wood_216 : decode cX2_wood 216 = .ok (.iconst 3, 1) := dk_6 (dk_at dksX2_wood_9 6 rfl rfl)
theorem dX2_wood_217 : decode cX2_wood 217 = .ok (.if_icmp .ge 21, 3) := dk_162 0 21 (dk_at dksX2_wood_9 7 rfl rfl)
theorem dX2_wood_220 : decode cX2_wood 220 = .ok (.aload_n 0, 1) := dk_42 (dk_at dksX2_wood_9 10 rfl rfl)
theorem dX2_wood_221 : decode cX2_wood 221 = .ok (.getfield 59, 3) := dk_180 0 59 (dk_at dksX2_wood_9 11 rfl rfl)
theorem dX2_wood_224 : decode cX2_wood 224 = .ok (.iload_n 2, 1) := dk_28 (dk_at dksX2_wood_9 14 rfl rfl)
theorem dX2_wood_225 : decode cX2_wood 225 = .ok (.aload_n 0, 1) := dk_42 (dk_at dksX2_wood_9 15 rfl rfl)
theorem dX2_wood_226 : decode cX2_wood 226 = .ok (.getfield 41, 3) := dk_180 0 41 (dk_at dksX2_wood_9 16 rfl rfl)
theorem dX2_wood_229 : decode cX2_wood 229 = .ok (.iload_n 2, 1) := dk_28 (dk_at dksX2_wood_9 19 rfl rfl)
theorem dX2_wood_230 : decode cX2_wood 230 = .ok (.iaload, 1) := dk_46 (dk_at dksX2_wood_9 20 rfl rfl)
theorem dX2_wood_231 : decode cX2_wood 231 = .ok (.iastore, 1) := dk_79 (dk_at dksX2_wood_9 21 rfl rfl)
theorem dX2_wood_232 : decode cX2_wood 232 = .ok (.iinc 2 1, 3) := dk_132 2 1 (dk_at dksX2_wood_10 0 rfl rfl)
theorem dX2_wood_235 : decode cX2_wood 235 = .ok (.goto (-20), 3) := dk_167 255 236 (dk_at dksX2_wood_10 3 rfl rfl)
theorem dX2_wood_238 : decode cX2_wood 238 = .ok (.aload_n 0, 1) := dk_42 (dk_at dksX2_wood_10 6 rfl rfl)
theorem dX2_wood_239 : decode cX2_wood 239 = .ok (.iconst 0, 1) := dk_3 (dk_at dksX2_wood_10 7 rfl rfl)
theorem dX2_wood_240 : decode cX2_wood 240 = .ok (.putfield 203, 3) := dk_181 0 203 (dk_at dksX2_wood_10 8 rfl rfl)
theorem dX2_wood_243 : decode cX2_wood 243 = .ok (.aload_n 0, 1) := dk_42 (dk_at dksX2_wood_10 11 rfl rfl)
theorem dX2_wood_244 : decode cX2_wood 244 = .ok (.iconst 0, 1) := dk_3 (dk_at dksX2_wood_10 12 rfl rfl)
theorem dX2_wood_245 : decode cX2_wood 245 = .ok (.putfield 206, 3) := dk_181 0 206 (dk_at dksX2_wood_10 13 rfl rfl)
theorem dX2_wood_248 : decode cX2_wood 248 = .ok (.aload_n 0, 1) := dk_42 (dk_at dksX2_wood_10 16 rfl rfl)
theorem dX2_wood_249 : decode cX2_wood 249 = .ok (.getfield 191, 3) := dk_180 0 191 (dk_at dksX2_wood_10 17 rfl rfl)
theorem dX2_wood_252 : decode cX2_wood 252 = .ok (.ireturn, 1) := dk_172 (dk_at dksX2_wood_10 20 rfl rfl)
abbrev cX2_about : ByteArray := prog_12_method_42_code
def yX2_about : MethodName := ⟨RX2, "about", "(II)I"⟩
def dkwX2_about_2 : List UInt8 := [167, 0, 4, 2, 172]
abbrev dktX2_about_2 : List UInt8 := dkwX2_about_2 ++ []
def dkwX2_about_1 : List UInt8 := [27, 182, 0, 209, 167, 0, 16, 42, 180, 0, 44, 16, 7, 27, 104, 4, 96, 28, 96, 46, 4, 182, 0, 126]
abbrev dktX2_about_1 : List UInt8 := dkwX2_about_1 ++ dktX2_about_2
def dkwX2_about_0 : List UInt8 := [42, 27, 182, 0, 212, 153, 0, 46, 28, 3, 6, 184, 0, 104, 153, 0, 37, 42, 28, 6, 160, 0, 11, 42]
abbrev dktX2_about_0 : List UInt8 := dkwX2_about_0 ++ dktX2_about_1
theorem dksX2_about_0 : cX2_about.data.toList.drop 0 = dktX2_about_0 := by decide +kernel
theorem dksX2_about_1 : cX2_about.data.toList.drop 24 = dktX2_about_1 := dk_seg dksX2_about_0 24 rfl rfl
theorem dksX2_about_2 : cX2_about.data.toList.drop 48 = dktX2_about_2 := dk_seg dksX2_about_1 24 rfl rfl
theorem dX2_about_0 : decode cX2_about 0 = .ok (.aload_n 0, 1) := dk_42 (dk_at dksX2_about_0 0 rfl rfl)
theorem dX2_about_1 : decode cX2_about 1 = .ok (.iload_n 1, 1) := dk_27 (dk_at dksX2_about_0 1 rfl rfl)
theorem dX2_about_2 : decode cX2_about 2 = .ok (.invokevirtual 212, 3) := dk_182 0 212 (dk_at dksX2_about_0 2 rfl rfl)
theorem dX2_about_5 : decode cX2_about 5 = .ok (.ifCond .eq 46, 3) := dk_153 0 46 (dk_at dksX2_about_0 5 rfl rfl)
theorem dX2_about_8 : decode cX2_about 8 = .ok (.iload_n 2, 1) := dk_28 (dk_at dksX2_about_0 8 rfl rfl)
theorem dX2_about_9 : decode cX2_about 9 = .ok (.iconst 0, 1) := dk_3 (dk_at dksX2_about_0 9 rfl rfl)
theorem dX2_about_10 : decode cX2_about 10 = .ok (.iconst 3, 1) := dk_6 (dk_at dksX2_about_0 10 rfl rfl)
theorem dX2_about_11 : decode cX2_about 11 = .ok (.invokestatic 104, 3) := dk_184 0 104 (dk_at dksX2_about_0 11 rfl rfl)
theorem dX2_about_14 : decode cX2_about 14 = .ok (.ifCond .eq 37, 3) := dk_153 0 37 (dk_at dksX2_about_0 14 rfl rfl)
theorem dX2_about_17 : decode cX2_about 17 = .ok (.aload_n 0, 1) := dk_42 (dk_at dksX2_about_0 17 rfl rfl)
theorem dX2_about_18 : decode cX2_about 18 = .ok (.iload_n 2, 1) := dk_28 (dk_at dksX2_about_0 18 rfl rfl)
theorem dX2_about_19 : decode cX2_about 19 = .ok (.iconst 3, 1) := dk_6 (dk_at dksX2_about_0 19 rfl rfl)
theorem dX2_about_20 : decode cX2_about 20 = .ok (.if_icmp .ne 11, 3) := dk_160 0 11 (dk_at dksX2_about_0 20 rfl rfl)
theorem dX2_about_23 : decode cX2_about 23 = .ok (.aload_n 0, 1) := dk_42 (dk_at dksX2_about_0 23 rfl rfl)
theorem dX2_about_24 : decode cX2_about 24 = .ok (.iload_n 1, 1) := dk_27 (dk_at dksX2_about_1 0 rfl rfl)
theorem dX2_about_25 : decode cX2_about 25 = .ok (.invokevirtual 209, 3) := dk_182 0 209 (dk_at dksX2_about_1 1 rfl rfl)
theorem dX2_about_28 : decode cX2_about 28 = .ok (.goto 16, 3) := dk_167 0 16 (dk_at dksX2_about_1 4 rfl rfl)
theorem dX2_about_31 : decode cX2_about 31 = .ok (.aload_n 0, 1) := dk_42 (dk_at dksX2_about_1 7 rfl rfl)
theorem dX2_about_32 : decode cX2_about 32 = .ok (.getfield 44, 3) := dk_180 0 44 (dk_at dksX2_about_1 8 rfl rfl)
theorem dX2_about_35 : decode cX2_about 35 = .ok (.bipush 7, 2) := dk_16 7 (dk_at dksX2_about_1 11 rfl rfl)
theorem dX2_about_37 : decode cX2_about 37 = .ok (.iload_n 1, 1) := dk_27 (dk_at dksX2_about_1 13 rfl rfl)
theorem dX2_about_38 : decode cX2_about 38 = .ok (.imul, 1) := dk_104 (dk_at dksX2_about_1 14 rfl rfl)
theorem dX2_about_39 : decode cX2_about 39 = .ok (.iconst 1, 1) := dk_4 (dk_at dksX2_about_1 15 rfl rfl)
theorem dX2_about_40 : decode cX2_about 40 = .ok (.iadd, 1) := dk_96 (dk_at dksX2_about_1 16 rfl rfl)
theorem dX2_about_41 : decode cX2_about 41 = .ok (.iload_n 2, 1) := dk_28 (dk_at dksX2_about_1 17 rfl rfl)
theorem dX2_about_42 : decode cX2_about 42 = .ok (.iadd, 1) := dk_96 (dk_at dksX2_about_1 18 rfl rfl)
theorem dX2_about_43 : decode cX2_about 43 = .ok (.iaload, 1) := dk_46 (dk_at dksX2_about_1 19 rfl rfl)
theorem dX2_about_44 : decode cX2_about 44 = .ok (.iconst 1, 1) := dk_4 (dk_at dksX2_about_1 20 rfl rfl)
theorem dX2_about_45 : decode cX2_about 45 = .ok (.invokevirtual 126, 3) := dk_182 0 126 (dk_at dksX2_about_1 21 rfl rfl)
theorem dX2_about_48 : decode cX2_about 48 = .ok (.goto 4, 3) := dk_167 0 4 (dk_at dksX2_about_2 0 rfl rfl)
theorem dX2_about_51 : decode cX2_about 51 = .ok (.iconst (-1), 1) := dk_2 (dk_at dksX2_about_2 3 rfl rfl)
theorem dX2_about_52 : decode cX2_about 52 = .ok (.ireturn, 1) := dk_172 (dk_at dksX2_about_2 4 rfl rfl)
abbrev cX2_isSort : ByteArray := prog_12_method_39_code
def yX2_isSort : MethodName := ⟨RX2, "isSort", "(I)Z"⟩
def dkwX2_isSort_0 : List UInt8 := [27, 3, 42, 180, 0, 191, 4, 100, 184, 0, 104, 172]
abbrev dktX2_isSort_0 : List UInt8 := dkwX2_isSort_0 ++ []
theorem dksX2_isSort_0 : cX2_isSort.data.toList.drop 0 = dktX2_isSort_0 := by decide +kernel
theorem dX2_isSort_0 : decode cX2_isSort 0 = .ok (.iload_n 1, 1) := dk_27 (dk_at dksX2_isSort_0 0 rfl rfl)
theorem dX2_isSort_1 : decode cX2_isSort 1 = .ok (.iconst 0, 1) := dk_3 (dk_at dksX2_isSort_0 1 rfl rfl)
theorem dX2_isSort_2 : decode cX2_isSort 2 = .ok (.aload_n 0, 1) := dk_42 (dk_at dksX2_isSort_0 2 rfl rfl)
theorem dX2_isSort_3 : decode cX2_isSort 3 = .ok (.getfield 191, 3) := dk_180 0 191 (dk_at dksX2_isSort_0 3 rfl rfl)
theorem dX2_isSort_6 : decode cX2_isSort 6 = .ok (.iconst 1, 1) := dk_4 (dk_at dksX2_isSort_0 6 rfl rfl)
theorem dX2_isSort_7 : decode cX2_isSort 7 = .ok (.isub, 1) := dk_100 (dk_at dksX2_isSort_0 7 rfl rfl)
theorem dX2_isSort_8 : decode cX2_isSort 8 = .ok (.invokestatic 104, 3) := dk_184 0 104 (dk_at dksX2_isSort_0 8 rfl rfl)
theorem dX2_isSort_11 : decode cX2_isSort 11 = .ok (.ireturn, 1) := dk_172 (dk_at dksX2_isSort_0 11 rfl rfl)
abbrev cX2_kind : ByteArray := prog_12_method_40_code
def yX2_kind : MethodName := ⟨RX2, "kind", "(I)I"⟩
def dkwX2_kind_0 : List UInt8 := [42, 180, 0, 44, 16, 7, 27, 104, 46, 172]
abbrev dktX2_kind_0 : List UInt8 := dkwX2_kind_0 ++ []
theorem dksX2_kind_0 : cX2_kind.data.toList.drop 0 = dktX2_kind_0 := by decide +kernel
theorem dX2_kind_0 : decode cX2_kind 0 = .ok (.aload_n 0, 1) := dk_42 (dk_at dksX2_kind_0 0 rfl rfl)
theorem dX2_kind_1 : decode cX2_kind 1 = .ok (.getfield 44, 3) := dk_180 0 44 (dk_at dksX2_kind_0 1 rfl rfl)
theorem dX2_kind_4 : decode cX2_kind 4 = .ok (.bipush 7, 2) := dk_16 7 (dk_at dksX2_kind_0 4 rfl rfl)
theorem dX2_kind_6 : decode cX2_kind 6 = .ok (.iload_n 1, 1) := dk_27 (dk_at dksX2_kind_0 6 rfl rfl)
theorem dX2_kind_7 : decode cX2_kind 7 = .ok (.imul, 1) := dk_104 (dk_at dksX2_kind_0 7 rfl rfl)
theorem dX2_kind_8 : decode cX2_kind 8 = .ok (.iaload, 1) := dk_46 (dk_at dksX2_kind_0 8 rfl rfl)
theorem dX2_kind_9 : decode cX2_kind 9 = .ok (.ireturn, 1) := dk_172 (dk_at dksX2_kind_0 9 rfl rfl)
abbrev cX2_mark : ByteArray := prog_12_method_44_code
def yX2_mark : MethodName := ⟨RX2, "mark", "(II)I"⟩
def dkwX2_mark_2 : List UInt8 := [153, 0, 12, 42, 27, 28, 182, 0, 218, 167, 0, 8, 42, 6, 182, 0, 118, 172]
abbrev dktX2_mark_2 : List UInt8 := dkwX2_mark_2 ++ []
def dkwX2_mark_1 : List UInt8 := [28, 159, 0, 16, 28, 5, 160, 0, 15, 42, 27, 182, 0, 215, 153, 0, 7, 4, 167, 0, 4, 3, 62, 29]
abbrev dktX2_mark_1 : List UInt8 := dkwX2_mark_1 ++ dktX2_mark_2
def dkwX2_mark_0 : List UInt8 := [42, 27, 182, 0, 212, 153, 0, 12, 28, 4, 8, 184, 0, 104, 154, 0, 5, 2, 172, 42, 27, 182, 0, 209]
abbrev dktX2_mark_0 : List UInt8 := dkwX2_mark_0 ++ dktX2_mark_1
theorem dksX2_mark_0 : cX2_mark.data.toList.drop 0 = dktX2_mark_0 := by decide +kernel
theorem dksX2_mark_1 : cX2_mark.data.toList.drop 24 = dktX2_mark_1 := dk_seg dksX2_mark_0 24 rfl rfl
theorem dksX2_mark_2 : cX2_mark.data.toList.drop 48 = dktX2_mark_2 := dk_seg dksX2_mark_1 24 rfl rfl
theorem dX2_mark_0 : decode cX2_mark 0 = .ok (.aload_n 0, 1) := dk_42 (dk_at dksX2_mark_0 0 rfl rfl)
theorem dX2_mark_1 : decode cX2_mark 1 = .ok (.iload_n 1, 1) := dk_27 (dk_at dksX2_mark_0 1 rfl rfl)
theorem dX2_mark_2 : decode cX2_mark 2 = .ok (.invokevirtual 212, 3) := dk_182 0 212 (dk_at dksX2_mark_0 2 rfl rfl)
theorem dX2_mark_5 : decode cX2_mark 5 = .ok (.ifCond .eq 12, 3) := dk_153 0 12 (dk_at dksX2_mark_0 5 rfl rfl)
theorem dX2_mark_8 : decode cX2_mark 8 = .ok (.iload_n 2, 1) := dk_28 (dk_at dksX2_mark_0 8 rfl rfl)
theorem dX2_mark_9 : decode cX2_mark 9 = .ok (.iconst 1, 1) := dk_4 (dk_at dksX2_mark_0 9 rfl rfl)
theorem dX2_mark_10 : decode cX2_mark 10 = .ok (.iconst 5, 1) := dk_8 (dk_at dksX2_mark_0 10 rfl rfl)
theorem dX2_mark_11 : decode cX2_mark 11 = .ok (.invokestatic 104, 3) := dk_184 0 104 (dk_at dksX2_mark_0 11 rfl rfl)
theorem dX2_mark_14 : decode cX2_mark 14 = .ok (.ifCond .ne 5, 3) := dk_154 0 5 (dk_at dksX2_mark_0 14 rfl rfl)
theorem dX2_mark_17 : decode cX2_mark 17 = .ok (.iconst (-1), 1) := dk_2 (dk_at dksX2_mark_0 17 rfl rfl)
theorem dX2_mark_18 : decode cX2_mark 18 = .ok (.ireturn, 1) := dk_172 (dk_at dksX2_mark_0 18 rfl rfl)
theorem dX2_mark_19 : decode cX2_mark 19 = .ok (.aload_n 0, 1) := dk_42 (dk_at dksX2_mark_0 19 rfl rfl)
theorem dX2_mark_20 : decode cX2_mark 20 = .ok (.iload_n 1, 1) := dk_27 (dk_at dksX2_mark_0 20 rfl rfl)
theorem dX2_mark_21 : decode cX2_mark 21 = .ok (.invokevirtual 209, 3) := dk_182 0 209 (dk_at dksX2_mark_0 21 rfl rfl)
theorem dX2_mark_24 : decode cX2_mark 24 = .ok (.iload_n 2, 1) := dk_28 (dk_at dksX2_mark_1 0 rfl rfl)
theorem dX2_mark_25 : decode cX2_mark 25 = .ok (.if_icmp .eq 16, 3) := dk_159 0 16 (dk_at dksX2_mark_1 1 rfl rfl)
theorem dX2_mark_28 : decode cX2_mark 28 = .ok (.iload_n 2, 1) := dk_28 (dk_at dksX2_mark_1 4 rfl rfl)
theorem dX2_mark_29 : decode cX2_mark 29 = .ok (.iconst 2, 1) := dk_5 (dk_at dksX2_mark_1 5 rfl rfl)
theorem dX2_mark_30 : decode cX2_mark 30 = .ok (.if_icmp .ne 15, 3) := dk_160 0 15 (dk_at dksX2_mark_1 6 rfl rfl)
theorem dX2_mark_33 : decode cX2_mark 33 = .ok (.aload_n 0, 1) := dk_42 (dk_at dksX2_mark_1 9 rfl rfl)
theorem dX2_mark_34 : decode cX2_mark 34 = .ok (.iload_n 1, 1) := dk_27 (dk_at dksX2_mark_1 10 rfl rfl)
theorem dX2_mark_35 : decode cX2_mark 35 = .ok (.invokevirtual 215, 3) := dk_182 0 215 (dk_at dksX2_mark_1 11 rfl rfl)
theorem dX2_mark_38 : decode cX2_mark 38 = .ok (.ifCond .eq 7, 3) := dk_153 0 7 (dk_at dksX2_mark_1 14 rfl rfl)
theorem dX2_mark_41 : decode cX2_mark 41 = .ok (.iconst 1, 1) := dk_4 (dk_at dksX2_mark_1 17 rfl rfl)
theorem dX2_mark_42 : decode cX2_mark 42 = .ok (.goto 4, 3) := dk_167 0 4 (dk_at dksX2_mark_1 18 rfl rfl)
theorem dX2_mark_45 : decode cX2_mark 45 = .ok (.iconst 0, 1) := dk_3 (dk_at dksX2_mark_1 21 rfl rfl)
theorem dX2_mark_46 : decode cX2_mark 46 = .ok (.istore_n 3, 1) := dk_62 (dk_at dksX2_mark_1 22 rfl rfl)
theorem dX2_mark_47 : decode cX2_mark 47 = .ok (.iload_n 3, 1) := dk_29 (dk_at dksX2_mark_1 23 rfl rfl)
theorem dX2_mark_48 : decode cX2_mark 48 = .ok (.ifCond .eq 12, 3) := dk_153 0 12 (dk_at dksX2_mark_2 0 rfl rfl)
theorem dX2_mark_51 : decode cX2_mark 51 = .ok (.aload_n 0, 1) := dk_42 (dk_at dksX2_mark_2 3 rfl rfl)
theorem dX2_mark_52 : decode cX2_mark 52 = .ok (.iload_n 1, 1) := dk_27 (dk_at dksX2_mark_2 4 rfl rfl)
theorem dX2_mark_53 : decode cX2_mark 53 = .ok (.iload_n 2, 1) := dk_28 (dk_at dksX2_mark_2 5 rfl rfl)
theorem dX2_mark_54 : decode cX2_mark 54 = .ok (.invokevirtual 218, 3) := dk_182 0 218 (dk_at dksX2_mark_2 6 rfl rfl)
theorem dX2_mark_57 : decode cX2_mark 57 = .ok (.goto 8, 3) := dk_167 0 8 (dk_at dksX2_mark_2 9 rfl rfl)
theorem dX2_mark_60 : decode cX2_mark 60 = .ok (.aload_n 0, 1) := dk_42 (dk_at dksX2_mark_2 12 rfl rfl)
theorem dX2_mark_61 : decode cX2_mark 61 = .ok (.iconst 3, 1) := dk_6 (dk_at dksX2_mark_2 13 rfl rfl)
theorem dX2_mark_62 : decode cX2_mark 62 = .ok (.invokevirtual 118, 3) := dk_182 0 118 (dk_at dksX2_mark_2 14 rfl rfl)
theorem dX2_mark_65 : decode cX2_mark 65 = .ok (.ireturn, 1) := dk_172 (dk_at dksX2_mark_2 17 rfl rfl)
abbrev cX2_isSaver : ByteArray := prog_12_method_41_code
def yX2_isSaver : MethodName := ⟨RX2, "isSaver", "(I)Z"⟩
def dkwX2_isSaver_0 : List UInt8 := [42, 27, 182, 0, 209, 5, 159, 0, 12, 42, 27, 182, 0, 209, 6, 164, 0, 7, 4, 167, 0, 4, 3, 172]
abbrev dktX2_isSaver_0 : List UInt8 := dkwX2_isSaver_0 ++ []
theorem dksX2_isSaver_0 : cX2_isSaver.data.toList.drop 0 = dktX2_isSaver_0 := by decide +kernel
theorem dX2_isSaver_0 : decode cX2_isSaver 0 = .ok (.aload_n 0, 1) := dk_42 (dk_at dksX2_isSaver_0 0 rfl rfl)
theorem dX2_isSaver_1 : decode cX2_isSaver 1 = .ok (.iload_n 1, 1) := dk_27 (dk_at dksX2_isSaver_0 1 rfl rfl)
theorem dX2_isSaver_2 : decode cX2_isSaver 2 = .ok (.invokevirtual 209, 3) := dk_182 0 209 (dk_at dksX2_isSaver_0 2 rfl rfl)
theorem dX2_isSaver_5 : decode cX2_isSaver 5 = .ok (.iconst 2, 1) := dk_5 (dk_at dksX2_isSaver_0 5 rfl rfl)
theorem dX2_isSaver_6 : decode cX2_isSaver 6 = .ok (.if_icmp .eq 12, 3) := dk_159 0 12 (dk_at dksX2_isSaver_0 6 rfl rfl)
theorem dX2_isSaver_9 : decode cX2_isSaver 9 = .ok (.aload_n 0, 1) := dk_42 (dk_at dksX2_isSaver_0 9 rfl rfl)
theorem dX2_isSaver_10 : decode cX2_isSaver 10 = .ok (.iload_n 1, 1) := dk_27 (dk_at dksX2_isSaver_0 10 rfl rfl)
theorem dX2_isSaver_11 : decode cX2_isSaver 11 = .ok (.invokevirtual 209, 3) := dk_182 0 209 (dk_at dksX2_isSaver_0 11 rfl rfl)
theorem dX2_isSaver_14 : decode cX2_isSaver 14 = .ok (.iconst 3, 1) := dk_6 (dk_at dksX2_isSaver_0 14 rfl rfl)
theorem dX2_isSaver_15 : decode cX2_isSaver 15 = .ok (.if_icmp .le 7, 3) := dk_164 0 7 (dk_at dksX2_isSaver_0 15 rfl rfl)
theorem dX2_isSaver_18 : decode cX2_isSaver 18 = .ok (.iconst 1, 1) := dk_4 (dk_at dksX2_isSaver_0 18 rfl rfl)
theorem dX2_isSaver_19 : decode cX2_isSaver 19 = .ok (.goto 4, 3) := dk_167 0 4 (dk_at dksX2_isSaver_0 19 rfl rfl)
theorem dX2_isSaver_22 : decode cX2_isSaver 22 = .ok (.iconst 0, 1) := dk_3 (dk_at dksX2_isSaver_0 22 rfl rfl)
theorem dX2_isSaver_23 : decode cX2_isSaver 23 = .ok (.ireturn, 1) := dk_172 (dk_at dksX2_isSaver_0 23 rfl rfl)
abbrev cX2_markOf : ByteArray := prog_12_method_43_code
def yX2_markOf : MethodName := ⟨RX2, "markOf", "(II)I"⟩
def dkwX2_markOf_3 : List UInt8 := [8, 96, 46, 96, 172]
abbrev dktX2_markOf_3 : List UInt8 := dkwX2_markOf_3 ++ []
def dkwX2_markOf_2 : List UInt8 := [29, 16, 6, 96, 46, 167, 0, 23, 16, 100, 42, 180, 0, 44, 29, 7, 96, 46, 104, 42, 180, 0, 44, 29]
abbrev dktX2_markOf_2 : List UInt8 := dkwX2_markOf_2 ++ dktX2_markOf_3
def dkwX2_markOf_1 : List UInt8 := [96, 46, 96, 42, 180, 0, 44, 29, 6, 96, 46, 96, 167, 0, 40, 28, 6, 164, 0, 15, 42, 180, 0, 44]
abbrev dktX2_markOf_1 : List UInt8 := dkwX2_markOf_1 ++ dktX2_markOf_2
def dkwX2_markOf_0 : List UInt8 := [16, 7, 27, 104, 62, 28, 4, 160, 0, 32, 42, 180, 0, 44, 29, 4, 96, 46, 42, 180, 0, 44, 29, 5]
abbrev dktX2_markOf_0 : List UInt8 := dkwX2_markOf_0 ++ dktX2_markOf_1
theorem dksX2_markOf_0 : cX2_markOf.data.toList.drop 0 = dktX2_markOf_0 := by decide +kernel
theorem dksX2_markOf_1 : cX2_markOf.data.toList.drop 24 = dktX2_markOf_1 := dk_seg dksX2_markOf_0 24 rfl rfl
theorem dksX2_markOf_2 : cX2_markOf.data.toList.drop 48 = dktX2_markOf_2 := dk_seg dksX2_markOf_1 24 rfl rfl
theorem dksX2_markOf_3 : cX2_markOf.data.toList.drop 72 = dktX2_markOf_3 := dk_seg dksX2_markOf_2 24 rfl rfl
theorem dX2_markOf_0 : decode cX2_markOf 0 = .ok (.bipush 7, 2) := dk_16 7 (dk_at dksX2_markOf_0 0 rfl rfl)
theorem dX2_markOf_2 : decode cX2_markOf 2 = .ok (.iload_n 1, 1) := dk_27 (dk_at dksX2_markOf_0 2 rfl rfl)
theorem dX2_markOf_3 : decode cX2_markOf 3 = .ok (.imul, 1) := dk_104 (dk_at dksX2_markOf_0 3 rfl rfl)
theorem dX2_markOf_4 : decode cX2_markOf 4 = .ok (.istore_n 3, 1) := dk_62 (dk_at dksX2_markOf_0 4 rfl rfl)
theorem dX2_markOf_5 : decode cX2_markOf 5 = .ok (.iload_n 2, 1) := dk_28 (dk_at dksX2_markOf_0 5 rfl rfl)
theorem dX2_markOf_6 : decode cX2_markOf 6 = .ok (.iconst 1, 1) := dk_4 (dk_at dksX2_markOf_0 6 rfl rfl)
theorem dX2_markOf_7 : decode cX2_markOf 7 = .ok (.if_icmp .ne 32, 3) := dk_160 0 32 (dk_at dksX2_markOf_0 7 rfl rfl)
theorem dX2_markOf_10 : decode cX2_markOf 10 = .ok (.aload_n 0, 1) := dk_42 (dk_at dksX2_markOf_0 10 rfl rfl)
theorem dX2_markOf_11 : decode cX2_markOf 11 = .ok (.getfield 44, 3) := dk_180 0 44 (dk_at dksX2_markOf_0 11 rfl rfl)
theorem dX2_markOf_14 : decode cX2_markOf 14 = .ok (.iload_n 3, 1) := dk_29 (dk_at dksX2_markOf_0 14 rfl rfl)
theorem dX2_markOf_15 : decode cX2_markOf 15 = .ok (.iconst 1, 1) := dk_4 (dk_at dksX2_markOf_0 15 rfl rfl)
theorem dX2_markOf_16 : decode cX2_markOf 16 = .ok (.iadd, 1) := dk_96 (dk_at dksX2_markOf_0 16 rfl rfl)
theorem dX2_markOf_17 : decode cX2_markOf 17 = .ok (.iaload, 1) := dk_46 (dk_at dksX2_markOf_0 17 rfl rfl)
theorem dX2_markOf_18 : decode cX2_markOf 18 = .ok (.aload_n 0, 1) := dk_42 (dk_at dksX2_markOf_0 18 rfl rfl)
theorem dX2_markOf_19 : decode cX2_markOf 19 = .ok (.getfield 44, 3) := dk_180 0 44 (dk_at dksX2_markOf_0 19 rfl rfl)
theorem dX2_markOf_22 : decode cX2_markOf 22 = .ok (.iload_n 3, 1) := dk_29 (dk_at dksX2_markOf_0 22 rfl rfl)
theorem dX2_markOf_23 : decode cX2_markOf 23 = .ok (.iconst 2, 1) := dk_5 (dk_at dksX2_markOf_0 23 rfl rfl)
theorem dX2_markOf_24 : decode cX2_markOf 24 = .ok (.iadd, 1) := dk_96 (dk_at dksX2_markOf_1 0 rfl rfl)
theorem dX2_markOf_25 : decode cX2_markOf 25 = .ok (.iaload, 1) := dk_46 (dk_at dksX2_markOf_1 1 rfl rfl)
theorem dX2_markOf_26 : decode cX2_markOf 26 = .ok (.iadd, 1) := dk_96 (dk_at dksX2_markOf_1 2 rfl rfl)
theorem dX2_markOf_27 : decode cX2_markOf 27 = .ok (.aload_n 0, 1) := dk_42 (dk_at dksX2_markOf_1 3 rfl rfl)
theorem dX2_markOf_28 : decode cX2_markOf 28 = .ok (.getfield 44, 3) := dk_180 0 44 (dk_at dksX2_markOf_1 4 rfl rfl)
theorem dX2_markOf_31 : decode cX2_markOf 31 = .ok (.iload_n 3, 1) := dk_29 (dk_at dksX2_markOf_1 7 rfl rfl)
theorem dX2_markOf_32 : decode cX2_markOf 32 = .ok (.iconst 3, 1) := dk_6 (dk_at dksX2_markOf_1 8 rfl rfl)
theorem dX2_markOf_33 : decode cX2_markOf 33 = .ok (.iadd, 1) := dk_96 (dk_at dksX2_markOf_1 9 rfl rfl)
theorem dX2_markOf_34 : decode cX2_markOf 34 = .ok (.iaload, 1) := dk_46 (dk_at dksX2_markOf_1 10 rfl rfl)
theorem dX2_markOf_35 : decode cX2_markOf 35 = .ok (.iadd, 1) := dk_96 (dk_at dksX2_markOf_1 11 rfl rfl)
theorem dX2_markOf_36 : decode cX2_markOf 36 = .ok (.goto 40, 3) := dk_167 0 40 (dk_at dksX2_markOf_1 12 rfl rfl)
theorem dX2_markOf_39 : decode cX2_markOf 39 = .ok (.iload_n 2, 1) := dk_28 (dk_at dksX2_markOf_1 15 rfl rfl)
theorem dX2_markOf_40 : decode cX2_markOf 40 = .ok (.iconst 3, 1) := dk_6 (dk_at dksX2_markOf_1 16 rfl rfl)
theorem dX2_markOf_41 : decode cX2_markOf 41 = .ok (.if_icmp .le 15, 3) := dk_164 0 15 (dk_at dksX2_markOf_1 17 rfl rfl)
theorem dX2_markOf_44 : decode cX2_markOf 44 = .ok (.aload_n 0, 1) := dk_42 (dk_at dksX2_markOf_1 20 rfl rfl)
theorem dX2_markOf_45 : decode cX2_markOf 45 = .ok (.getfield 44, 3) := dk_180 0 44 (dk_at dksX2_markOf_1 21 rfl rfl)
theorem dX2_markOf_48 : decode cX2_markOf 48 = .ok (.iload_n 3, 1) := dk_29 (dk_at dksX2_markOf_2 0 rfl rfl)
theorem dX2_markOf_49 : decode cX2_markOf 49 = .ok (.bipush 6, 2) := dk_16 6 (dk_at dksX2_markOf_2 1 rfl rfl)
theorem dX2_markOf_51 : decode cX2_markOf 51 = .ok (.iadd, 1) := dk_96 (dk_at dksX2_markOf_2 3 rfl rfl)
theorem dX2_markOf_52 : decode cX2_markOf 52 = .ok (.iaload, 1) := dk_46 (dk_at dksX2_markOf_2 4 rfl rfl)
theorem dX2_markOf_53 : decode cX2_markOf 53 = .ok (.goto 23, 3) := dk_167 0 23 (dk_at dksX2_markOf_2 5 rfl rfl)
theorem dX2_markOf_56 : decode cX2_markOf 56 = .ok (.bipush 100, 2) := dk_16 100 (dk_at dksX2_markOf_2 8 rfl rfl)
theorem dX2_markOf_58 : decode cX2_markOf 58 = .ok (.aload_n 0, 1) := dk_42 (dk_at dksX2_markOf_2 10 rfl rfl)
theorem dX2_markOf_59 : decode cX2_markOf 59 = .ok (.getfield 44, 3) := dk_180 0 44 (dk_at dksX2_markOf_2 11 rfl rfl)
theorem dX2_markOf_62 : decode cX2_markOf 62 = .ok (.iload_n 3, 1) := dk_29 (dk_at dksX2_markOf_2 14 rfl rfl)
theorem dX2_markOf_63 : decode cX2_markOf 63 = .ok (.iconst 4, 1) := dk_7 (dk_at dksX2_markOf_2 15 rfl rfl)
theorem dX2_markOf_64 : decode cX2_markOf 64 = .ok (.iadd, 1) := dk_96 (dk_at dksX2_markOf_2 16 rfl rfl)
theorem dX2_markOf_65 : decode cX2_markOf 65 = .ok (.iaload, 1) := dk_46 (dk_at dksX2_markOf_2 17 rfl rfl)
theorem dX2_markOf_66 : decode cX2_markOf 66 = .ok (.imul, 1) := dk_104 (dk_at dksX2_markOf_2 18 rfl rfl)
theorem dX2_markOf_67 : decode cX2_markOf 67 = .ok (.aload_n 0, 1) := dk_42 (dk_at dksX2_markOf_2 19 rfl rfl)
theorem dX2_markOf_68 : decode cX2_markOf 68 = .ok (.getfield 44, 3) := dk_180 0 44 (dk_at dksX2_markOf_2 20 rfl rfl)
theorem dX2_markOf_71 : decode cX2_markOf 71 = .ok (.iload_n 3, 1) := dk_29 (dk_at dksX2_markOf_2 23 rfl rfl)
theorem dX2_markOf_72 : decode cX2_markOf 72 = .ok (.iconst 5, 1) := dk_8 (dk_at dksX2_markOf_3 0 rfl rfl)
theorem dX2_markOf_73 : decode cX2_markOf 73 = .ok (.iadd, 1) := dk_96 (dk_at dksX2_markOf_3 1 rfl rfl)
theorem dX2_markOf_74 : decode cX2_markOf 74 = .ok (.iaload, 1) := dk_46 (dk_at dksX2_markOf_3 2 rfl rfl)
theorem dX2_markOf_75 : decode cX2_markOf 75 = .ok (.iadd, 1) := dk_96 (dk_at dksX2_markOf_3 3 rfl rfl)
theorem dX2_markOf_76 : decode cX2_markOf 76 = .ok (.ireturn, 1) := dk_172 (dk_at dksX2_markOf_3 4 rfl rfl)
abbrev cX2_spring : ByteArray := prog_12_method_45_code
def yX2_spring : MethodName := ⟨RX2, "spring", "(II)I"⟩
def dkwX2_spring_2 : List UInt8 := [172]
abbrev dktX2_spring_2 : List UInt8 := dkwX2_spring_2 ++ []
def dkwX2_spring_1 : List UInt8 := [154, 0, 9, 42, 5, 182, 0, 118, 172, 42, 180, 0, 56, 27, 46, 62, 42, 180, 0, 56, 27, 28, 79, 29]
abbrev dktX2_spring_1 : List UInt8 := dkwX2_spring_1 ++ dktX2_spring_2
def dkwX2_spring_0 : List UInt8 := [28, 3, 5, 184, 0, 104, 154, 0, 5, 2, 172, 27, 3, 42, 180, 0, 97, 4, 100, 184, 0, 104]
abbrev dktX2_spring_0 : List UInt8 := dkwX2_spring_0 ++ dktX2_spring_1
theorem dksX2_spring_0 : cX2_spring.data.toList.drop 0 = dktX2_spring_0 := by decide +kernel
theorem dksX2_spring_1 : cX2_spring.data.toList.drop 22 = dktX2_spring_1 := dk_seg dksX2_spring_0 22 rfl rfl
theorem dksX2_spring_2 : cX2_spring.data.toList.drop 46 = dktX2_spring_2 := dk_seg dksX2_spring_1 24 rfl rfl
theorem dX2_spring_0 : decode cX2_spring 0 = .ok (.iload_n 2, 1) := dk_28 (dk_at dksX2_spring_0 0 rfl rfl)
theorem dX2_spring_1 : decode cX2_spring 1 = .ok (.iconst 0, 1) := dk_3 (dk_at dksX2_spring_0 1 rfl rfl)
theorem dX2_spring_2 : decode cX2_spring 2 = .ok (.iconst 2, 1) := dk_5 (dk_at dksX2_spring_0 2 rfl rfl)
theorem dX2_spring_3 : decode cX2_spring 3 = .ok (.invokestatic 104, 3) := dk_184 0 104 (dk_at dksX2_spring_0 3 rfl rfl)
theorem dX2_spring_6 : decode cX2_spring 6 = .ok (.ifCond .ne 5, 3) := dk_154 0 5 (dk_at dksX2_spring_0 6 rfl rfl)
theorem dX2_spring_9 : decode cX2_spring 9 = .ok (.iconst (-1), 1) := dk_2 (dk_at dksX2_spring_0 9 rfl rfl)
theorem dX2_spring_10 : decode cX2_spring 10 = .ok (.ireturn, 1) := dk_172 (dk_at dksX2_spring_0 10 rfl rfl)
theorem dX2_spring_11 : decode cX2_spring 11 = .ok (.iload_n 1, 1) := dk_27 (dk_at dksX2_spring_0 11 rfl rfl)
theorem dX2_spring_12 : decode cX2_spring 12 = .ok (.iconst 0, 1) := dk_3 (dk_at dksX2_spring_0 12 rfl rfl)
theorem dX2_spring_13 : decode cX2_spring 13 = .ok (.aload_n 0, 1) := dk_42 (dk_at dksX2_spring_0 13 rfl rfl)
theorem dX2_spring_14 : decode cX2_spring 14 = .ok (.getfield 97, 3) := dk_180 0 97 (dk_at dksX2_spring_0 14 rfl rfl)
theorem dX2_spring_17 : decode cX2_spring 17 = .ok (.iconst 1, 1) := dk_4 (dk_at dksX2_spring_0 17 rfl rfl)
theorem dX2_spring_18 : decode cX2_spring 18 = .ok (.isub, 1) := dk_100 (dk_at dksX2_spring_0 18 rfl rfl)
theorem dX2_spring_19 : decode cX2_spring 19 = .ok (.invokestatic 104, 3) := dk_184 0 104 (dk_at dksX2_spring_0 19 rfl rfl)
theorem dX2_spring_22 : decode cX2_spring 22 = .ok (.ifCond .ne 9, 3) := dk_154 0 9 (dk_at dksX2_spring_1 0 rfl rfl)
theorem dX2_spring_25 : decode cX2_spring 25 = .ok (.aload_n 0, 1) := dk_42 (dk_at dksX2_spring_1 3 rfl rfl)
theorem dX2_spring_26 : decode cX2_spring 26 = .ok (.iconst 2, 1) := dk_5 (dk_at dksX2_spring_1 4 rfl rfl)
theorem dX2_spring_27 : decode cX2_spring 27 = .ok (.invokevirtual 118, 3) := dk_182 0 118 (dk_at dksX2_spring_1 5 rfl rfl)
theorem dX2_spring_30 : decode cX2_spring 30 = .ok (.ireturn, 1) := dk_172 (dk_at dksX2_spring_1 8 rfl rfl)
theorem dX2_spring_31 : decode cX2_spring 31 = .ok (.aload_n 0, 1) := dk_42 (dk_at dksX2_spring_1 9 rfl rfl)
theorem dX2_spring_32 : decode cX2_spring 32 = .ok (.getfield 56, 3) := dk_180 0 56 (dk_at dksX2_spring_1 10 rfl rfl)
theorem dX2_spring_35 : decode cX2_spring 35 = .ok (.iload_n 1, 1) := dk_27 (dk_at dksX2_spring_1 13 rfl rfl)
theorem dX2_spring_36 : decode cX2_spring 36 = .ok (.iaload, 1) := dk_46 (dk_at dksX2_spring_1 14 rfl rfl)
theorem dX2_spring_37 : decode cX2_spring 37 = .ok (.istore_n 3, 1) := dk_62 (dk_at dksX2_spring_1 15 rfl rfl)
theorem dX2_spring_38 : decode cX2_spring 38 = .ok (.aload_n 0, 1) := dk_42 (dk_at dksX2_spring_1 16 rfl rfl)
theorem dX2_spring_39 : decode cX2_spring 39 = .ok (.getfield 56, 3) := dk_180 0 56 (dk_at dksX2_spring_1 17 rfl rfl)
theorem dX2_spring_42 : decode cX2_spring 42 = .ok (.iload_n 1, 1) := dk_27 (dk_at dksX2_spring_1 20 rfl rfl)
theorem dX2_spring_43 : decode cX2_spring 43 = .ok (.iload_n 2, 1) := dk_28 (dk_at dksX2_spring_1 21 rfl rfl)
theorem dX2_spring_44 : decode cX2_spring 44 = .ok (.iastore, 1) := dk_79 (dk_at dksX2_spring_1 22 rfl rfl)
theorem dX2_spring_45 : decode cX2_spring 45 = .ok (.iload_n 3, 1) := dk_29 (dk_at dksX2_spring_1 23 rfl rfl)
theorem dX2_spring_46 : decode cX2_spring 46 = .ok (.ireturn, 1) := dk_172 (dk_at dksX2_spring_2 0 rfl rfl)
abbrev cX2_jay : ByteArray := prog_12_method_46_code
def yX2_jay : MethodName := ⟨RX2, "jay", "(II)I"⟩
def dkwX2_jay_1 : List UInt8 := [181, 0, 197, 42, 28, 181, 0, 200, 4, 172]
abbrev dktX2_jay_1 : List UInt8 := dkwX2_jay_1 ++ []
def dkwX2_jay_0 : List UInt8 := [27, 3, 16, 99, 184, 0, 104, 153, 0, 13, 28, 3, 16, 12, 184, 0, 104, 154, 0, 5, 2, 172, 42, 27]
abbrev dktX2_jay_0 : List UInt8 := dkwX2_jay_0 ++ dktX2_jay_1
theorem dksX2_jay_0 : cX2_jay.data.toList.drop 0 = dktX2_jay_0 := by decide +kernel
theorem dksX2_jay_1 : cX2_jay.data.toList.drop 24 = dktX2_jay_1 := dk_seg dksX2_jay_0 24 rfl rfl
theorem dX2_jay_0 : decode cX2_jay 0 = .ok (.iload_n 1, 1) := dk_27 (dk_at dksX2_jay_0 0 rfl rfl)
theorem dX2_jay_1 : decode cX2_jay 1 = .ok (.iconst 0, 1) := dk_3 (dk_at dksX2_jay_0 1 rfl rfl)
theorem dX2_jay_2 : decode cX2_jay 2 = .ok (.bipush 99, 2) := dk_16 99 (dk_at dksX2_jay_0 2 rfl rfl)
theorem dX2_jay_4 : decode cX2_jay 4 = .ok (.invokestatic 104, 3) := dk_184 0 104 (dk_at dksX2_jay_0 4 rfl rfl)
theorem dX2_jay_7 : decode cX2_jay 7 = .ok (.ifCond .eq 13, 3) := dk_153 0 13 (dk_at dksX2_jay_0 7 rfl rfl)
theorem dX2_jay_10 : decode cX2_jay 10 = .ok (.iload_n 2, 1) := dk_28 (dk_at dksX2_jay_0 10 rfl rfl)
theorem dX2_jay_11 : decode cX2_jay 11 = .ok (.iconst 0, 1) := dk_3 (dk_at dksX2_jay_0 11 rfl rfl)
theorem dX2_jay_12 : decode cX2_jay 12 = .ok (.bipush 12, 2) := dk_16 12 (dk_at dksX2_jay_0 12 rfl rfl)
theorem dX2_jay_14 : decode cX2_jay 14 = .ok (.invokestatic 104, 3) := dk_184 0 104 (dk_at dksX2_jay_0 14 rfl rfl)
theorem dX2_jay_17 : decode cX2_jay 17 = .ok (.ifCond .ne 5, 3) := dk_154 0 5 (dk_at dksX2_jay_0 17 rfl rfl)
theorem dX2_jay_20 : decode cX2_jay 20 = .ok (.iconst (-1), 1) := dk_2 (dk_at dksX2_jay_0 20 rfl rfl)
theorem dX2_jay_21 : decode cX2_jay 21 = .ok (.ireturn, 1) := dk_172 (dk_at dksX2_jay_0 21 rfl rfl)
theorem dX2_jay_22 : decode cX2_jay 22 = .ok (.aload_n 0, 1) := dk_42 (dk_at dksX2_jay_0 22 rfl rfl)
theorem dX2_jay_23 : decode cX2_jay 23 = .ok (.iload_n 1, 1) := dk_27 (dk_at dksX2_jay_0 23 rfl rfl)
theorem dX2_jay_24 : decode cX2_jay 24 = .ok (.putfield 197, 3) := dk_181 0 197 (dk_at dksX2_jay_1 0 rfl rfl)
theorem dX2_jay_27 : decode cX2_jay 27 = .ok (.aload_n 0, 1) := dk_42 (dk_at dksX2_jay_1 3 rfl rfl)
theorem dX2_jay_28 : decode cX2_jay 28 = .ok (.iload_n 2, 1) := dk_28 (dk_at dksX2_jay_1 4 rfl rfl)
theorem dX2_jay_29 : decode cX2_jay 29 = .ok (.putfield 200, 3) := dk_181 0 200 (dk_at dksX2_jay_1 5 rfl rfl)
theorem dX2_jay_32 : decode cX2_jay 32 = .ok (.iconst 1, 1) := dk_4 (dk_at dksX2_jay_1 8 rfl rfl)
theorem dX2_jay_33 : decode cX2_jay 33 = .ok (.ireturn, 1) := dk_172 (dk_at dksX2_jay_1 9 rfl rfl)
abbrev cX2_mice : ByteArray := prog_12_method_48_code
def yX2_mice : MethodName := ⟨RX2, "mice", "(II)I"⟩
def dkwX2_mice_1 : List UInt8 := [180, 0, 62, 27, 46, 62, 42, 180, 0, 62, 27, 28, 79, 29, 172]
abbrev dktX2_mice_1 : List UInt8 := dkwX2_mice_1 ++ []
def dkwX2_mice_0 : List UInt8 := [42, 27, 182, 0, 221, 153, 0, 14, 28, 3, 17, 0, 200, 184, 0, 104, 154, 0, 5, 2, 172, 42]
abbrev dktX2_mice_0 : List UInt8 := dkwX2_mice_0 ++ dktX2_mice_1
theorem dksX2_mice_0 : cX2_mice.data.toList.drop 0 = dktX2_mice_0 := by decide +kernel
theorem dksX2_mice_1 : cX2_mice.data.toList.drop 22 = dktX2_mice_1 := dk_seg dksX2_mice_0 22 rfl rfl
theorem dX2_mice_0 : decode cX2_mice 0 = .ok (.aload_n 0, 1) := dk_42 (dk_at dksX2_mice_0 0 rfl rfl)
theorem dX2_mice_1 : decode cX2_mice 1 = .ok (.iload_n 1, 1) := dk_27 (dk_at dksX2_mice_0 1 rfl rfl)
theorem dX2_mice_2 : decode cX2_mice 2 = .ok (.invokevirtual 221, 3) := dk_182 0 221 (dk_at dksX2_mice_0 2 rfl rfl)
theorem dX2_mice_5 : decode cX2_mice 5 = .ok (.ifCond .eq 14, 3) := dk_153 0 14 (dk_at dksX2_mice_0 5 rfl rfl)
theorem dX2_mice_8 : decode cX2_mice 8 = .ok (.iload_n 2, 1) := dk_28 (dk_at dksX2_mice_0 8 rfl rfl)
theorem dX2_mice_9 : decode cX2_mice 9 = .ok (.iconst 0, 1) := dk_3 (dk_at dksX2_mice_0 9 rfl rfl)
theorem dX2_mice_10 : decode cX2_mice 10 = .ok (.sipush 200, 3) := dk_17 0 200 (dk_at dksX2_mice_0 10 rfl rfl)
theorem dX2_mice_13 : decode cX2_mice 13 = .ok (.invokestatic 104, 3) := dk_184 0 104 (dk_at dksX2_mice_0 13 rfl rfl)
theorem dX2_mice_16 : decode cX2_mice 16 = .ok (.ifCond .ne 5, 3) := dk_154 0 5 (dk_at dksX2_mice_0 16 rfl rfl)
theorem dX2_mice_19 : decode cX2_mice 19 = .ok (.iconst (-1), 1) := dk_2 (dk_at dksX2_mice_0 19 rfl rfl)
theorem dX2_mice_20 : decode cX2_mice 20 = .ok (.ireturn, 1) := dk_172 (dk_at dksX2_mice_0 20 rfl rfl)
theorem dX2_mice_21 : decode cX2_mice 21 = .ok (.aload_n 0, 1) := dk_42 (dk_at dksX2_mice_0 21 rfl rfl)
theorem dX2_mice_22 : decode cX2_mice 22 = .ok (.getfield 62, 3) := dk_180 0 62 (dk_at dksX2_mice_1 0 rfl rfl)
theorem dX2_mice_25 : decode cX2_mice 25 = .ok (.iload_n 1, 1) := dk_27 (dk_at dksX2_mice_1 3 rfl rfl)
theorem dX2_mice_26 : decode cX2_mice 26 = .ok (.iaload, 1) := dk_46 (dk_at dksX2_mice_1 4 rfl rfl)
theorem dX2_mice_27 : decode cX2_mice 27 = .ok (.istore_n 3, 1) := dk_62 (dk_at dksX2_mice_1 5 rfl rfl)
theorem dX2_mice_28 : decode cX2_mice 28 = .ok (.aload_n 0, 1) := dk_42 (dk_at dksX2_mice_1 6 rfl rfl)
theorem dX2_mice_29 : decode cX2_mice 29 = .ok (.getfield 62, 3) := dk_180 0 62 (dk_at dksX2_mice_1 7 rfl rfl)
theorem dX2_mice_32 : decode cX2_mice 32 = .ok (.iload_n 1, 1) := dk_27 (dk_at dksX2_mice_1 10 rfl rfl)
theorem dX2_mice_33 : decode cX2_mice 33 = .ok (.iload_n 2, 1) := dk_28 (dk_at dksX2_mice_1 11 rfl rfl)
theorem dX2_mice_34 : decode cX2_mice 34 = .ok (.iastore, 1) := dk_79 (dk_at dksX2_mice_1 12 rfl rfl)
theorem dX2_mice_35 : decode cX2_mice 35 = .ok (.iload_n 3, 1) := dk_29 (dk_at dksX2_mice_1 13 rfl rfl)
theorem dX2_mice_36 : decode cX2_mice 36 = .ok (.ireturn, 1) := dk_172 (dk_at dksX2_mice_1 14 rfl rfl)
abbrev cX2_isEater : ByteArray := prog_12_method_47_code
def yX2_isEater : MethodName := ⟨RX2, "isEater", "(I)Z"⟩
def dkwX2_isEater_0 : List UInt8 := [27, 3, 42, 180, 0, 194, 4, 100, 184, 0, 104, 172]
abbrev dktX2_isEater_0 : List UInt8 := dkwX2_isEater_0 ++ []
theorem dksX2_isEater_0 : cX2_isEater.data.toList.drop 0 = dktX2_isEater_0 := by decide +kernel
theorem dX2_isEater_0 : decode cX2_isEater 0 = .ok (.iload_n 1, 1) := dk_27 (dk_at dksX2_isEater_0 0 rfl rfl)
theorem dX2_isEater_1 : decode cX2_isEater 1 = .ok (.iconst 0, 1) := dk_3 (dk_at dksX2_isEater_0 1 rfl rfl)
theorem dX2_isEater_2 : decode cX2_isEater 2 = .ok (.aload_n 0, 1) := dk_42 (dk_at dksX2_isEater_0 2 rfl rfl)
theorem dX2_isEater_3 : decode cX2_isEater 3 = .ok (.getfield 194, 3) := dk_180 0 194 (dk_at dksX2_isEater_0 3 rfl rfl)
theorem dX2_isEater_6 : decode cX2_isEater 6 = .ok (.iconst 1, 1) := dk_4 (dk_at dksX2_isEater_0 6 rfl rfl)
theorem dX2_isEater_7 : decode cX2_isEater 7 = .ok (.isub, 1) := dk_100 (dk_at dksX2_isEater_0 7 rfl rfl)
theorem dX2_isEater_8 : decode cX2_isEater 8 = .ok (.invokestatic 104, 3) := dk_184 0 104 (dk_at dksX2_isEater_0 8 rfl rfl)
theorem dX2_isEater_11 : decode cX2_isEater 11 = .ok (.ireturn, 1) := dk_172 (dk_at dksX2_isEater_0 11 rfl rfl)
abbrev cX2_plant : ByteArray := prog_12_method_51_code
def yX2_plant : MethodName := ⟨RX2, "plant", "(II)I"⟩
def dkwX2_plant_1 : List UInt8 := [16, 24, 160, 0, 8, 16, 254, 167, 0, 9, 42, 27, 28, 182, 0, 224, 172]
abbrev dktX2_plant_1 : List UInt8 := dkwX2_plant_1 ++ []
def dkwX2_plant_0 : List UInt8 := [42, 27, 182, 0, 212, 153, 0, 13, 28, 3, 16, 60, 184, 0, 104, 154, 0, 5, 2, 172, 42, 180, 0, 203]
abbrev dktX2_plant_0 : List UInt8 := dkwX2_plant_0 ++ dktX2_plant_1
theorem dksX2_plant_0 : cX2_plant.data.toList.drop 0 = dktX2_plant_0 := by decide +kernel
theorem dksX2_plant_1 : cX2_plant.data.toList.drop 24 = dktX2_plant_1 := dk_seg dksX2_plant_0 24 rfl rfl
theorem dX2_plant_0 : decode cX2_plant 0 = .ok (.aload_n 0, 1) := dk_42 (dk_at dksX2_plant_0 0 rfl rfl)
theorem dX2_plant_1 : decode cX2_plant 1 = .ok (.iload_n 1, 1) := dk_27 (dk_at dksX2_plant_0 1 rfl rfl)
theorem dX2_plant_2 : decode cX2_plant 2 = .ok (.invokevirtual 212, 3) := dk_182 0 212 (dk_at dksX2_plant_0 2 rfl rfl)
theorem dX2_plant_5 : decode cX2_plant 5 = .ok (.ifCond .eq 13, 3) := dk_153 0 13 (dk_at dksX2_plant_0 5 rfl rfl)
theorem dX2_plant_8 : decode cX2_plant 8 = .ok (.iload_n 2, 1) := dk_28 (dk_at dksX2_plant_0 8 rfl rfl)
theorem dX2_plant_9 : decode cX2_plant 9 = .ok (.iconst 0, 1) := dk_3 (dk_at dksX2_plant_0 9 rfl rfl)
theorem dX2_plant_10 : decode cX2_plant 10 = .ok (.bipush 60, 2) := dk_16 60 (dk_at dksX2_plant_0 10 rfl rfl)
theorem dX2_plant_12 : decode cX2_plant 12 = .ok (.invokestatic 104, 3) := dk_184 0 104 (dk_at dksX2_plant_0 12 rfl rfl)
theorem dX2_plant_15 : decode cX2_plant 15 = .ok (.ifCond .ne 5, 3) := dk_154 0 5 (dk_at dksX2_plant_0 15 rfl rfl)
theorem dX2_plant_18 : decode cX2_plant 18 = .ok (.iconst (-1), 1) := dk_2 (dk_at dksX2_plant_0 18 rfl rfl)
theorem dX2_plant_19 : decode cX2_plant 19 = .ok (.ireturn, 1) := dk_172 (dk_at dksX2_plant_0 19 rfl rfl)
theorem dX2_plant_20 : decode cX2_plant 20 = .ok (.aload_n 0, 1) := dk_42 (dk_at dksX2_plant_0 20 rfl rfl)
theorem dX2_plant_21 : decode cX2_plant 21 = .ok (.getfield 203, 3) := dk_180 0 203 (dk_at dksX2_plant_0 21 rfl rfl)
theorem dX2_plant_24 : decode cX2_plant 24 = .ok (.bipush 24, 2) := dk_16 24 (dk_at dksX2_plant_1 0 rfl rfl)
theorem dX2_plant_26 : decode cX2_plant 26 = .ok (.if_icmp .ne 8, 3) := dk_160 0 8 (dk_at dksX2_plant_1 2 rfl rfl)
theorem dX2_plant_29 : decode cX2_plant 29 = .ok (.bipush (-2), 2) := dk_16 254 (dk_at dksX2_plant_1 5 rfl rfl)
theorem dX2_plant_31 : decode cX2_plant 31 = .ok (.goto 9, 3) := dk_167 0 9 (dk_at dksX2_plant_1 7 rfl rfl)
theorem dX2_plant_34 : decode cX2_plant 34 = .ok (.aload_n 0, 1) := dk_42 (dk_at dksX2_plant_1 10 rfl rfl)
theorem dX2_plant_35 : decode cX2_plant 35 = .ok (.iload_n 1, 1) := dk_27 (dk_at dksX2_plant_1 11 rfl rfl)
theorem dX2_plant_36 : decode cX2_plant 36 = .ok (.iload_n 2, 1) := dk_28 (dk_at dksX2_plant_1 12 rfl rfl)
theorem dX2_plant_37 : decode cX2_plant 37 = .ok (.invokevirtual 224, 3) := dk_182 0 224 (dk_at dksX2_plant_1 13 rfl rfl)
theorem dX2_plant_40 : decode cX2_plant 40 = .ok (.ireturn, 1) := dk_172 (dk_at dksX2_plant_1 16 rfl rfl)
abbrev cX2_grow : ByteArray := prog_12_method_50_code
def yX2_grow : MethodName := ⟨RX2, "grow", "(II)I"⟩
def dkwX2_grow_2 : List UInt8 := [181, 0, 203, 42, 180, 0, 203, 4, 100, 172]
abbrev dktX2_grow_2 : List UInt8 := dkwX2_grow_2 ++ []
def dkwX2_grow_1 : List UInt8 := [42, 180, 0, 203, 3, 79, 42, 180, 0, 74, 42, 180, 0, 203, 16, 247, 79, 42, 89, 180, 0, 203, 4, 96]
abbrev dktX2_grow_1 : List UInt8 := dkwX2_grow_1 ++ dktX2_grow_2
def dkwX2_grow_0 : List UInt8 := [42, 180, 0, 65, 42, 180, 0, 203, 27, 79, 42, 180, 0, 68, 42, 180, 0, 203, 28, 79, 42, 180, 0, 71]
abbrev dktX2_grow_0 : List UInt8 := dkwX2_grow_0 ++ dktX2_grow_1
theorem dksX2_grow_0 : cX2_grow.data.toList.drop 0 = dktX2_grow_0 := by decide +kernel
theorem dksX2_grow_1 : cX2_grow.data.toList.drop 24 = dktX2_grow_1 := dk_seg dksX2_grow_0 24 rfl rfl
theorem dksX2_grow_2 : cX2_grow.data.toList.drop 48 = dktX2_grow_2 := dk_seg dksX2_grow_1 24 rfl rfl
theorem dX2_grow_0 : decode cX2_grow 0 = .ok (.aload_n 0, 1) := dk_42 (dk_at dksX2_grow_0 0 rfl rfl)
theorem dX2_grow_1 : decode cX2_grow 1 = .ok (.getfield 65, 3) := dk_180 0 65 (dk_at dksX2_grow_0 1 rfl rfl)
theorem dX2_grow_4 : decode cX2_grow 4 = .ok (.aload_n 0, 1) := dk_42 (dk_at dksX2_grow_0 4 rfl rfl)
theorem dX2_grow_5 : decode cX2_grow 5 = .ok (.getfield 203, 3) := dk_180 0 203 (dk_at dksX2_grow_0 5 rfl rfl)
theorem dX2_grow_8 : decode cX2_grow 8 = .ok (.iload_n 1, 1) := dk_27 (dk_at dksX2_grow_0 8 rfl rfl)
theorem dX2_grow_9 : decode cX2_grow 9 = .ok (.iastore, 1) := dk_79 (dk_at dksX2_grow_0 9 rfl rfl)
theorem dX2_grow_10 : decode cX2_grow 10 = .ok (.aload_n 0, 1) := dk_42 (dk_at dksX2_grow_0 10 rfl rfl)
theorem dX2_grow_11 : decode cX2_grow 11 = .ok (.getfield 68, 3) := dk_180 0 68 (dk_at dksX2_grow_0 11 rfl rfl)
theorem dX2_grow_14 : decode cX2_grow 14 = .ok (.aload_n 0, 1) := dk_42 (dk_at dksX2_grow_0 14 rfl rfl)
theorem dX2_grow_15 : decode cX2_grow 15 = .ok (.getfield 203, 3) := dk_180 0 203 (dk_at dksX2_grow_0 15 rfl rfl)
theorem dX2_grow_18 : decode cX2_grow 18 = .ok (.iload_n 2, 1) := dk_28 (dk_at dksX2_grow_0 18 rfl rfl)
theorem dX2_grow_19 : decode cX2_grow 19 = .ok (.iastore, 1) := dk_79 (dk_at dksX2_grow_0 19 rfl rfl)
theorem dX2_grow_20 : decode cX2_grow 20 = .ok (.aload_n 0, 1) := dk_42 (dk_at dksX2_grow_0 20 rfl rfl)
theorem dX2_grow_21 : decode cX2_grow 21 = .ok (.getfield 71, 3) := dk_180 0 71 (dk_at dksX2_grow_0 21 rfl rfl)
theorem dX2_grow_24 : decode cX2_grow 24 = .ok (.aload_n 0, 1) := dk_42 (dk_at dksX2_grow_1 0 rfl rfl)
theorem dX2_grow_25 : decode cX2_grow 25 = .ok (.getfield 203, 3) := dk_180 0 203 (dk_at dksX2_grow_1 1 rfl rfl)
theorem dX2_grow_28 : decode cX2_grow 28 = .ok (.iconst 0, 1) := dk_3 (dk_at dksX2_grow_1 4 rfl rfl)
theorem dX2_grow_29 : decode cX2_grow 29 = .ok (.iastore, 1) := dk_79 (dk_at dksX2_grow_1 5 rfl rfl)
theorem dX2_grow_30 : decode cX2_grow 30 = .ok (.aload_n 0, 1) := dk_42 (dk_at dksX2_grow_1 6 rfl rfl)
theorem dX2_grow_31 : decode cX2_grow 31 = .ok (.getfield 74, 3) := dk_180 0 74 (dk_at dksX2_grow_1 7 rfl rfl)
theorem dX2_grow_34 : decode cX2_grow 34 = .ok (.aload_n 0, 1) := dk_42 (dk_at dksX2_grow_1 10 rfl rfl)
theorem dX2_grow_35 : decode cX2_grow 35 = .ok (.getfield 203, 3) := dk_180 0 203 (dk_at dksX2_grow_1 11 rfl rfl)
theorem dX2_grow_38 : decode cX2_grow 38 = .ok (.bipush (-9), 2) := dk_16 247 (dk_at dksX2_grow_1 14 rfl rfl)
theorem dX2_grow_40 : decode cX2_grow 40 = .ok (.iastore, 1) := dk_79 (dk_at dksX2_grow_1 16 rfl rfl)
theorem dX2_grow_41 : decode cX2_grow 41 = .ok (.aload_n 0, 1) := dk_42 (dk_at dksX2_grow_1 17 rfl rfl)
theorem dX2_grow_42 : decode cX2_grow 42 = .ok (.dup, 1) := dk_89 (dk_at dksX2_grow_1 18 rfl rfl)
theorem dX2_grow_43 : decode cX2_grow 43 = .ok (.getfield 203, 3) := dk_180 0 203 (dk_at dksX2_grow_1 19 rfl rfl)
theorem dX2_grow_46 : decode cX2_grow 46 = .ok (.iconst 1, 1) := dk_4 (dk_at dksX2_grow_1 22 rfl rfl)
theorem dX2_grow_47 : decode cX2_grow 47 = .ok (.iadd, 1) := dk_96 (dk_at dksX2_grow_1 23 rfl rfl)
theorem dX2_grow_48 : decode cX2_grow 48 = .ok (.putfield 203, 3) := dk_181 0 203 (dk_at dksX2_grow_2 0 rfl rfl)
theorem dX2_grow_51 : decode cX2_grow 51 = .ok (.aload_n 0, 1) := dk_42 (dk_at dksX2_grow_2 3 rfl rfl)
theorem dX2_grow_52 : decode cX2_grow 52 = .ok (.getfield 203, 3) := dk_180 0 203 (dk_at dksX2_grow_2 4 rfl rfl)
theorem dX2_grow_55 : decode cX2_grow 55 = .ok (.iconst 1, 1) := dk_4 (dk_at dksX2_grow_2 7 rfl rfl)
theorem dX2_grow_56 : decode cX2_grow 56 = .ok (.isub, 1) := dk_100 (dk_at dksX2_grow_2 8 rfl rfl)
theorem dX2_grow_57 : decode cX2_grow 57 = .ok (.ireturn, 1) := dk_172 (dk_at dksX2_grow_2 9 rfl rfl)
abbrev cX2_plants : ByteArray := prog_12_method_52_code
def yX2_plants : MethodName := ⟨RX2, "plants", "(I)I"⟩
def dkwX2_plants_7 : List UInt8 := [182, 0, 224, 87, 132, 4, 1, 167, 255, 222, 28, 172]
abbrev dktX2_plants_7 : List UInt8 := dkwX2_plants_7 ++ []
def dkwX2_plants_6 : List UInt8 := [162, 0, 34, 42, 42, 27, 5, 21, 4, 104, 182, 0, 122, 42, 27, 5, 21, 4, 104, 4, 96, 182, 0, 122]
abbrev dktX2_plants_6 : List UInt8 := dkwX2_plants_6 ++ dktX2_plants_7
def dkwX2_plants_5 : List UInt8 := [3, 62, 132, 4, 1, 167, 255, 201, 29, 154, 0, 9, 42, 6, 182, 0, 118, 172, 3, 54, 4, 21, 4, 28]
abbrev dktX2_plants_5 : List UInt8 := dkwX2_plants_5 ++ dktX2_plants_6
def dkwX2_plants_4 : List UInt8 := [42, 27, 5, 21, 4, 104, 4, 96, 182, 0, 122, 3, 16, 60, 184, 0, 104, 153, 0, 7, 4, 167, 0, 4]
abbrev dktX2_plants_4 : List UInt8 := dkwX2_plants_4 ++ dktX2_plants_5
def dkwX2_plants_3 : List UInt8 := [28, 162, 0, 55, 29, 153, 0, 43, 42, 42, 27, 5, 21, 4, 104, 182, 0, 122, 182, 0, 212, 153, 0, 27]
abbrev dktX2_plants_3 : List UInt8 := dkwX2_plants_3 ++ dktX2_plants_4
def dkwX2_plants_2 : List UInt8 := [5, 108, 61, 42, 180, 0, 203, 28, 96, 16, 24, 164, 0, 6, 16, 254, 172, 4, 62, 3, 54, 4, 21, 4]
abbrev dktX2_plants_2 : List UInt8 := dkwX2_plants_2 ++ dktX2_plants_3
def dkwX2_plants_1 : List UInt8 := [42, 180, 0, 13, 27, 46, 5, 112, 4, 160, 0, 9, 42, 8, 182, 0, 118, 172, 42, 180, 0, 13, 27, 46]
abbrev dktX2_plants_1 : List UInt8 := dkwX2_plants_1 ++ dktX2_plants_2
def dkwX2_plants_0 : List UInt8 := [27, 184, 0, 114, 154, 0, 5, 2, 172, 42, 180, 0, 13, 27, 46, 156, 0, 9, 42, 4, 182, 0, 118, 172]
abbrev dktX2_plants_0 : List UInt8 := dkwX2_plants_0 ++ dktX2_plants_1
theorem dksX2_plants_0 : cX2_plants.data.toList.drop 0 = dktX2_plants_0 := by decide +kernel
theorem dksX2_plants_1 : cX2_plants.data.toList.drop 24 = dktX2_plants_1 := dk_seg dksX2_plants_0 24 rfl rfl
theorem dksX2_plants_2 : cX2_plants.data.toList.drop 48 = dktX2_plants_2 := dk_seg dksX2_plants_1 24 rfl rfl
theorem dksX2_plants_3 : cX2_plants.data.toList.drop 72 = dktX2_plants_3 := dk_seg dksX2_plants_2 24 rfl rfl
theorem dksX2_plants_4 : cX2_plants.data.toList.drop 96 = dktX2_plants_4 := dk_seg dksX2_plants_3 24 rfl rfl
theorem dksX2_plants_5 : cX2_plants.data.toList.drop 120 = dktX2_plants_5 := dk_seg dksX2_plants_4 24 rfl rfl
theorem dksX2_plants_6 : cX2_plants.data.toList.drop 144 = dktX2_plants_6 := dk_seg dksX2_plants_5 24 rfl rfl
theorem dksX2_plants_7 : cX2_plants.data.toList.drop 168 = dktX2_plants_7 := dk_seg dksX2_plants_6 24 rfl rfl
theorem dX2_plants_0 : decode cX2_plants 0 = .ok (.iload_n 1, 1) := dk_27 (dk_at dksX2_plants_0 0 rfl rfl)
theorem dX2_plants_1 : decode cX2_plants 1 = .ok (.invokestatic 114, 3) := dk_184 0 114 (dk_at dksX2_plants_0 1 rfl rfl)
theorem dX2_plants_4 : decode cX2_plants 4 = .ok (.ifCond .ne 5, 3) := dk_154 0 5 (dk_at dksX2_plants_0 4 rfl rfl)
theorem dX2_plants_7 : decode cX2_plants 7 = .ok (.iconst (-1), 1) := dk_2 (dk_at dksX2_plants_0 7 rfl rfl)
theorem dX2_plants_8 : decode cX2_plants 8 = .ok (.ireturn, 1) := dk_172 (dk_at dksX2_plants_0 8 rfl rfl)
theorem dX2_plants_9 : decode cX2_plants 9 = .ok (.aload_n 0, 1) := dk_42 (dk_at dksX2_plants_0 9 rfl rfl)
theorem dX2_plants_10 : decode cX2_plants 10 = .ok (.getfield 13, 3) := dk_180 0 13 (dk_at dksX2_plants_0 10 rfl rfl)
theorem dX2_plants_13 : decode cX2_plants 13 = .ok (.iload_n 1, 1) := dk_27 (dk_at dksX2_plants_0 13 rfl rfl)
theorem dX2_plants_14 : decode cX2_plants 14 = .ok (.iaload, 1) := dk_46 (dk_at dksX2_plants_0 14 rfl rfl)
theorem dX2_plants_15 : decode cX2_plants 15 = .ok (.ifCond .ge 9, 3) := dk_156 0 9 (dk_at dksX2_plants_0 15 rfl rfl)
theorem dX2_plants_18 : decode cX2_plants 18 = .ok (.aload_n 0, 1) := dk_42 (dk_at dksX2_plants_0 18 rfl rfl)
theorem dX2_plants_19 : decode cX2_plants 19 = .ok (.iconst 1, 1) := dk_4 (dk_at dksX2_plants_0 19 rfl rfl)
theorem dX2_plants_20 : decode cX2_plants 20 = .ok (.invokevirtual 118, 3) := dk_182 0 118 (dk_at dksX2_plants_0 20 rfl rfl)
theorem dX2_plants_23 : decode cX2_plants 23 = .ok (.ireturn, 1) := dk_172 (dk_at dksX2_plants_0 23 rfl rfl)
theorem dX2_plants_24 : decode cX2_plants 24 = .ok (.aload_n 0, 1) := dk_42 (dk_at dksX2_plants_1 0 rfl rfl)
theorem dX2_plants_25 : decode cX2_plants 25 = .ok (.getfield 13, 3) := dk_180 0 13 (dk_at dksX2_plants_1 1 rfl rfl)
theorem dX2_plants_28 : decode cX2_plants 28 = .ok (.iload_n 1, 1) := dk_27 (dk_at dksX2_plants_1 4 rfl rfl)
theorem dX2_plants_29 : decode cX2_plants 29 = .ok (.iaload, 1) := dk_46 (dk_at dksX2_plants_1 5 rfl rfl)
theorem dX2_plants_30 : decode cX2_plants 30 = .ok (.iconst 2, 1) := dk_5 (dk_at dksX2_plants_1 6 rfl rfl)
theorem dX2_plants_31 : decode cX2_plants 31 = .ok (.irem, 1) := dk_112 (dk_at dksX2_plants_1 7 rfl rfl)
theorem dX2_plants_32 : decode cX2_plants 32 = .ok (.iconst 1, 1) := dk_4 (dk_at dksX2_plants_1 8 rfl rfl)
theorem dX2_plants_33 : decode cX2_plants 33 = .ok (.if_icmp .ne 9, 3) := dk_160 0 9 (dk_at dksX2_plants_1 9 rfl rfl)
theorem dX2_plants_36 : decode cX2_plants 36 = .ok (.aload_n 0, 1) := dk_42 (dk_at dksX2_plants_1 12 rfl rfl)
theorem dX2_plants_37 : decode cX2_plants 37 = .ok (.iconst 5, 1) := dk_8 (dk_at dksX2_plants_1 13 rfl rfl)
theorem dX2_plants_38 : decode cX2_plants 38 = .ok (.invokevirtual 118, 3) := dk_182 0 118 (dk_at dksX2_plants_1 14 rfl rfl)
theorem dX2_plants_41 : decode cX2_plants 41 = .ok (.ireturn, 1) := dk_172 (dk_at dksX2_plants_1 17 rfl rfl)
theorem dX2_plants_42 : decode cX2_plants 42 = .ok (.aload_n 0, 1) := dk_42 (dk_at dksX2_plants_1 18 rfl rfl)
theorem dX2_plants_43 : decode cX2_plants 43 = .ok (.getfield 13, 3) := dk_180 0 13 (dk_at dksX2_plants_1 19 rfl rfl)
theorem dX2_plants_46 : decode cX2_plants 46 = .ok (.iload_n 1, 1) := dk_27 (dk_at dksX2_plants_1 22 rfl rfl)
theorem dX2_plants_47 : decode cX2_plants 47 = .ok (.iaload, 1) := dk_46 (dk_at dksX2_plants_1 23 rfl rfl)
theorem dX2_plants_48 : decode cX2_plants 48 = .ok (.iconst 2, 1) := dk_5 (dk_at dksX2_plants_2 0 rfl rfl)
theorem dX2_plants_49 : decode cX2_plants 49 = .ok (.idiv, 1) := dk_108 (dk_at dksX2_plants_2 1 rfl rfl)
theorem dX2_plants_50 : decode cX2_plants 50 = .ok (.istore_n 2, 1) := dk_61 (dk_at dksX2_plants_2 2 rfl rfl)
theorem dX2_plants_51 : decode cX2_plants 51 = .ok (.aload_n 0, 1) := dk_42 (dk_at dksX2_plants_2 3 rfl rfl)
theorem dX2_plants_52 : decode cX2_plants 52 = .ok (.getfield 203, 3) := dk_180 0 203 (dk_at dksX2_plants_2 4 rfl rfl)
theorem dX2_plants_55 : decode cX2_plants 55 = .ok (.iload_n 2, 1) := dk_28 (dk_at dksX2_plants_2 7 rfl rfl)
theorem dX2_plants_56 : decode cX2_plants 56 = .ok (.iadd, 1) := dk_96 (dk_at dksX2_plants_2 8 rfl rfl)
theorem dX2_plants_57 : decode cX2_plants 57 = .ok (.bipush 24, 2) := dk_16 24 (dk_at dksX2_plants_2 9 rfl rfl)
theorem dX2_plants_59 : decode cX2_plants 59 = .ok (.if_icmp .le 6, 3) := dk_164 0 6 (dk_at dksX2_plants_2 11 rfl rfl)
theorem dX2_plants_62 : decode cX2_plants 62 = .ok (.bipush (-2), 2) := dk_16 254 (dk_at dksX2_plants_2 14 rfl rfl)
theorem dX2_plants_64 : decode cX2_plants 64 = .ok (.ireturn, 1) := dk_172 (dk_at dksX2_plants_2 16 rfl rfl)
theorem dX2_plants_65 : decode cX2_plants 65 = .ok (.iconst 1, 1) := dk_4 (dk_at dksX2_plants_2 17 rfl rfl)
theorem dX2_plants_66 : decode cX2_plants 66 = .ok (.istore_n 3, 1) := dk_62 (dk_at dksX2_plants_2 18 rfl rfl)
theorem dX2_plants_67 : decode cX2_plants 67 = .ok (.iconst 0, 1) := dk_3 (dk_at dksX2_plants_2 19 rfl rfl)
theorem dX2_plants_68 : decode cX2_plants 68 = .ok (.istore 4, 2) := dk_54 4 (dk_at dksX2_plants_2 20 rfl rfl)
theorem dX2_plants_70 : decode cX2_plants 70 = .ok (.iload 4, 2) := dk_21 4 (dk_at dksX2_plants_2 22 rfl rfl)
theorem dX2_plants_72 : decode cX2_plants 72 = .ok (.iload_n 2, 1) := dk_28 (dk_at dksX2_plants_3 0 rfl rfl)
theorem dX2_plants_73 : decode cX2_plants 73 = .ok (.if_icmp .ge 55, 3) := dk_162 0 55 (dk_at dksX2_plants_3 1 rfl rfl)
theorem dX2_plants_76 : decode cX2_plants 76 = .ok (.iload_n 3, 1) := dk_29 (dk_at dksX2_plants_3 4 rfl rfl)
theorem dX2_plants_77 : decode cX2_plants 77 = .ok (.ifCond .eq 43, 3) := dk_153 0 43 (dk_at dksX2_plants_3 5 rfl rfl)
theorem dX2_plants_80 : decode cX2_plants 80 = .ok (.aload_n 0, 1) := dk_42 (dk_at dksX2_plants_3 8 rfl rfl)
theorem dX2_plants_81 : decode cX2_plants 81 = .ok (.aload_n 0, 1) := dk_42 (dk_at dksX2_plants_3 9 rfl rfl)
theorem dX2_plants_82 : decode cX2_plants 82 = .ok (.iload_n 1, 1) := dk_27 (dk_at dksX2_plants_3 10 rfl rfl)
theorem dX2_plants_83 : decode cX2_plants 83 = .ok (.iconst 2, 1) := dk_5 (dk_at dksX2_plants_3 11 rfl rfl)
theorem dX2_plants_84 : decode cX2_plants 84 = .ok (.iload 4, 2) := dk_21 4 (dk_at dksX2_plants_3 12 rfl rfl)
theorem dX2_plants_86 : decode cX2_plants 86 = .ok (.imul, 1) := dk_104 (dk_at dksX2_plants_3 14 rfl rfl)
theorem dX2_plants_87 : decode cX2_plants 87 = .ok (.invokevirtual 122, 3) := dk_182 0 122 (dk_at dksX2_plants_3 15 rfl rfl)
theorem dX2_plants_90 : decode cX2_plants 90 = .ok (.invokevirtual 212, 3) := dk_182 0 212 (dk_at dksX2_plants_3 18 rfl rfl)
theorem dX2_plants_93 : decode cX2_plants 93 = .ok (.ifCond .eq 27, 3) := dk_153 0 27 (dk_at dksX2_plants_3 21 rfl rfl)
theorem dX2_plants_96 : decode cX2_plants 96 = .ok (.aload_n 0, 1) := dk_42 (dk_at dksX2_plants_4 0 rfl rfl)
theorem dX2_plants_97 : decode cX2_plants 97 = .ok (.iload_n 1, 1) := dk_27 (dk_at dksX2_plants_4 1 rfl rfl)
theorem dX2_plants_98 : decode cX2_plants 98 = .ok (.iconst 2, 1) := dk_5 (dk_at dksX2_plants_4 2 rfl rfl)
theorem dX2_plants_99 : decode cX2_plants 99 = .ok (.iload 4, 2) := dk_21 4 (dk_at dksX2_plants_4 3 rfl rfl)
theorem dX2_plants_101 : decode cX2_plants 101 = .ok (.imul, 1) := dk_104 (dk_at dksX2_plants_4 5 rfl rfl)
theorem dX2_plants_102 : decode cX2_plants 102 = .ok (.iconst 1, 1) := dk_4 (dk_at dksX2_plants_4 6 rfl rfl)
theorem dX2_plants_103 : decode cX2_plants 103 = .ok (.iadd, 1) := dk_96 (dk_at dksX2_plants_4 7 rfl rfl)
theorem dX2_plants_104 : decode cX2_plants 104 = .ok (.invokevirtual 122, 3) := dk_182 0 122 (dk_at dksX2_plants_4 8 rfl rfl)
theorem dX2_plants_107 : decode cX2_plants 107 = .ok (.iconst 0, 1) := dk_3 (dk_at dksX2_plants_4 11 rfl rfl)
theorem dX2_plants_108 : decode cX2_plants 108 = .ok (.bipush 60, 2) := dk_16 60 (dk_at dksX2_plants_4 12 rfl rfl)
theorem dX2_plants_110 : decode cX2_plants 110 = .ok (.invokestatic 104, 3) := dk_184 0 104 (dk_at dksX2_plants_4 14 rfl rfl)
theorem dX2_plants_113 : decode cX2_plants 113 = .ok (.ifCond .eq 7, 3) := dk_153 0 7 (dk_at dksX2_plants_4 17 rfl rfl)
theorem dX2_plants_116 : decode cX2_plants 116 = .ok (.iconst 1, 1) := dk_4 (dk_at dksX2_plants_4 20 rfl rfl)
theorem dX2_plants_117 : decode cX2_plants 117 = .ok (.goto 4, 3) := dk_167 0 4 (dk_at dksX2_plants_4 21 rfl rfl)
theorem dX2_plants_120 : decode cX2_plants 120 = .ok (.iconst 0, 1) := dk_3 (dk_at dksX2_plants_5 0 rfl rfl)
theorem dX2_plants_121 : decode cX2_plants 121 = .ok (.istore_n 3, 1) := dk_62 (dk_at dksX2_plants_5 1 rfl rfl)
theorem dX2_plants_122 : decode cX2_plants 122 = .ok (.iinc 4 1, 3) := dk_132 4 1 (dk_at dksX2_plants_5 2 rfl rfl)
theorem dX2_plants_125 : decode cX2_plants 125 = .ok (.goto (-55), 3) := dk_167 255 201 (dk_at dksX2_plants_5 5 rfl rfl)
theorem dX2_plants_128 : decode cX2_plants 128 = .ok (.iload_n 3, 1) := dk_29 (dk_at dksX2_plants_5 8 rfl rfl)
theorem dX2_plants_129 : decode cX2_plants 129 = .ok (.ifCond .ne 9, 3) := dk_154 0 9 (dk_at dksX2_plants_5 9 rfl rfl)
theorem dX2_plants_132 : decode cX2_plants 132 = .ok (.aload_n 0, 1) := dk_42 (dk_at dksX2_plants_5 12 rfl rfl)
theorem dX2_plants_133 : decode cX2_plants 133 = .ok (.iconst 3, 1) := dk_6 (dk_at dksX2_plants_5 13 rfl rfl)
theorem dX2_plants_134 : decode cX2_plants 134 = .ok (.invokevirtual 118, 3) := dk_182 0 118 (dk_at dksX2_plants_5 14 rfl rfl)
theorem dX2_plants_137 : decode cX2_plants 137 = .ok (.ireturn, 1) := dk_172 (dk_at dksX2_plants_5 17 rfl rfl)
theorem dX2_plants_138 : decode cX2_plants 138 = .ok (.iconst 0, 1) := dk_3 (dk_at dksX2_plants_5 18 rfl rfl)
theorem dX2_plants_139 : decode cX2_plants 139 = .ok (.istore 4, 2) := dk_54 4 (dk_at dksX2_plants_5 19 rfl rfl)
theorem dX2_plants_141 : decode cX2_plants 141 = .ok (.iload 4, 2) := dk_21 4 (dk_at dksX2_plants_5 21 rfl rfl)
theorem dX2_plants_143 : decode cX2_plants 143 = .ok (.iload_n 2, 1) := dk_28 (dk_at dksX2_plants_5 23 rfl rfl)
theorem dX2_plants_144 : decode cX2_plants 144 = .ok (.if_icmp .ge 34, 3) := dk_162 0 34 (dk_at dksX2_plants_6 0 rfl rfl)
theorem dX2_plants_147 : decode cX2_plants 147 = .ok (.aload_n 0, 1) := dk_42 (dk_at dksX2_plants_6 3 rfl rfl)
theorem dX2_plants_148 : decode cX2_plants 148 = .ok (.aload_n 0, 1) := dk_42 (dk_at dksX2_plants_6 4 rfl rfl)
theorem dX2_plants_149 : decode cX2_plants 149 = .ok (.iload_n 1, 1) := dk_27 (dk_at dksX2_plants_6 5 rfl rfl)
theorem dX2_plants_150 : decode cX2_plants 150 = .ok (.iconst 2, 1) := dk_5 (dk_at dksX2_plants_6 6 rfl rfl)
theorem dX2_plants_151 : decode cX2_plants 151 = .ok (.iload 4, 2) := dk_21 4 (dk_at dksX2_plants_6 7 rfl rfl)
theorem dX2_plants_153 : decode cX2_plants 153 = .ok (.imul, 1) := dk_104 (dk_at dksX2_plants_6 9 rfl rfl)
theorem dX2_plants_154 : decode cX2_plants 154 = .ok (.invokevirtual 122, 3) := dk_182 0 122 (dk_at dksX2_plants_6 10 rfl rfl)
theorem dX2_plants_157 : decode cX2_plants 157 = .ok (.aload_n 0, 1) := dk_42 (dk_at dksX2_plants_6 13 rfl rfl)
theorem dX2_plants_158 : decode cX2_plants 158 = .ok (.iload_n 1, 1) := dk_27 (dk_at dksX2_plants_6 14 rfl rfl)
theorem dX2_plants_159 : decode cX2_plants 159 = .ok (.iconst 2, 1) := dk_5 (dk_at dksX2_plants_6 15 rfl rfl)
theorem dX2_plants_160 : decode cX2_plants 160 = .ok (.iload 4, 2) := dk_21 4 (dk_at dksX2_plants_6 16 rfl rfl)
theorem dX2_plants_162 : decode cX2_plants 162 = .ok (.imul, 1) := dk_104 (dk_at dksX2_plants_6 18 rfl rfl)
theorem dX2_plants_163 : decode cX2_plants 163 = .ok (.iconst 1, 1) := dk_4 (dk_at dksX2_plants_6 19 rfl rfl)
theorem dX2_plants_164 : decode cX2_plants 164 = .ok (.iadd, 1) := dk_96 (dk_at dksX2_plants_6 20 rfl rfl)
theorem dX2_plants_165 : decode cX2_plants 165 = .ok (.invokevirtual 122, 3) := dk_182 0 122 (dk_at dksX2_plants_6 21 rfl rfl)
theorem dX2_plants_168 : decode cX2_plants 168 = .ok (.invokevirtual 224, 3) := dk_182 0 224 (dk_at dksX2_plants_7 0 rfl rfl)
theorem dX2_plants_171 : decode cX2_plants 171 = .ok (.pop, 1) := dk_87 (dk_at dksX2_plants_7 3 rfl rfl)
theorem dX2_plants_172 : decode cX2_plants 172 = .ok (.iinc 4 1, 3) := dk_132 4 1 (dk_at dksX2_plants_7 4 rfl rfl)
theorem dX2_plants_175 : decode cX2_plants 175 = .ok (.goto (-34), 3) := dk_167 255 222 (dk_at dksX2_plants_7 7 rfl rfl)
theorem dX2_plants_178 : decode cX2_plants 178 = .ok (.iload_n 2, 1) := dk_28 (dk_at dksX2_plants_7 10 rfl rfl)
theorem dX2_plants_179 : decode cX2_plants 179 = .ok (.ireturn, 1) := dk_172 (dk_at dksX2_plants_7 11 rfl rfl)
abbrev cX2_told : ByteArray := prog_12_method_54_code
def yX2_told : MethodName := ⟨RX2, "told", "(II)I"⟩
def dkwX2_told_1 : List UInt8 := [4, 182, 0, 126, 167, 0, 4, 2, 172]
abbrev dktX2_told_1 : List UInt8 := dkwX2_told_1 ++ []
def dkwX2_told_0 : List UInt8 := [42, 27, 182, 0, 227, 153, 0, 26, 28, 3, 6, 184, 0, 104, 153, 0, 17, 42, 42, 27, 28, 182, 0, 230]
abbrev dktX2_told_0 : List UInt8 := dkwX2_told_0 ++ dktX2_told_1
theorem dksX2_told_0 : cX2_told.data.toList.drop 0 = dktX2_told_0 := by decide +kernel
theorem dksX2_told_1 : cX2_told.data.toList.drop 24 = dktX2_told_1 := dk_seg dksX2_told_0 24 rfl rfl
theorem dX2_told_0 : decode cX2_told 0 = .ok (.aload_n 0, 1) := dk_42 (dk_at dksX2_told_0 0 rfl rfl)
theorem dX2_told_1 : decode cX2_told 1 = .ok (.iload_n 1, 1) := dk_27 (dk_at dksX2_told_0 1 rfl rfl)
theorem dX2_told_2 : decode cX2_told 2 = .ok (.invokevirtual 227, 3) := dk_182 0 227 (dk_at dksX2_told_0 2 rfl rfl)
theorem dX2_told_5 : decode cX2_told 5 = .ok (.ifCond .eq 26, 3) := dk_153 0 26 (dk_at dksX2_told_0 5 rfl rfl)
theorem dX2_told_8 : decode cX2_told 8 = .ok (.iload_n 2, 1) := dk_28 (dk_at dksX2_told_0 8 rfl rfl)
theorem dX2_told_9 : decode cX2_told 9 = .ok (.iconst 0, 1) := dk_3 (dk_at dksX2_told_0 9 rfl rfl)
theorem dX2_told_10 : decode cX2_told 10 = .ok (.iconst 3, 1) := dk_6 (dk_at dksX2_told_0 10 rfl rfl)
theorem dX2_told_11 : decode cX2_told 11 = .ok (.invokestatic 104, 3) := dk_184 0 104 (dk_at dksX2_told_0 11 rfl rfl)
theorem dX2_told_14 : decode cX2_told 14 = .ok (.ifCond .eq 17, 3) := dk_153 0 17 (dk_at dksX2_told_0 14 rfl rfl)
theorem dX2_told_17 : decode cX2_told 17 = .ok (.aload_n 0, 1) := dk_42 (dk_at dksX2_told_0 17 rfl rfl)
theorem dX2_told_18 : decode cX2_told 18 = .ok (.aload_n 0, 1) := dk_42 (dk_at dksX2_told_0 18 rfl rfl)
theorem dX2_told_19 : decode cX2_told 19 = .ok (.iload_n 1, 1) := dk_27 (dk_at dksX2_told_0 19 rfl rfl)
theorem dX2_told_20 : decode cX2_told 20 = .ok (.iload_n 2, 1) := dk_28 (dk_at dksX2_told_0 20 rfl rfl)
theorem dX2_told_21 : decode cX2_told 21 = .ok (.invokevirtual 230, 3) := dk_182 0 230 (dk_at dksX2_told_0 21 rfl rfl)
theorem dX2_told_24 : decode cX2_told 24 = .ok (.iconst 1, 1) := dk_4 (dk_at dksX2_told_1 0 rfl rfl)
theorem dX2_told_25 : decode cX2_told 25 = .ok (.invokevirtual 126, 3) := dk_182 0 126 (dk_at dksX2_told_1 1 rfl rfl)
theorem dX2_told_28 : decode cX2_told 28 = .ok (.goto 4, 3) := dk_167 0 4 (dk_at dksX2_told_1 4 rfl rfl)
theorem dX2_told_31 : decode cX2_told 31 = .ok (.iconst (-1), 1) := dk_2 (dk_at dksX2_told_1 7 rfl rfl)
theorem dX2_told_32 : decode cX2_told 32 = .ok (.ireturn, 1) := dk_172 (dk_at dksX2_told_1 8 rfl rfl)
abbrev cX2_isTree : ByteArray := prog_12_method_49_code
def yX2_isTree : MethodName := ⟨RX2, "isTree", "(I)Z"⟩
def dkwX2_isTree_0 : List UInt8 := [27, 3, 42, 180, 0, 203, 4, 100, 184, 0, 104, 172]
abbrev dktX2_isTree_0 : List UInt8 := dkwX2_isTree_0 ++ []
theorem dksX2_isTree_0 : cX2_isTree.data.toList.drop 0 = dktX2_isTree_0 := by decide +kernel
theorem dX2_isTree_0 : decode cX2_isTree 0 = .ok (.iload_n 1, 1) := dk_27 (dk_at dksX2_isTree_0 0 rfl rfl)
theorem dX2_isTree_1 : decode cX2_isTree 1 = .ok (.iconst 0, 1) := dk_3 (dk_at dksX2_isTree_0 1 rfl rfl)
theorem dX2_isTree_2 : decode cX2_isTree 2 = .ok (.aload_n 0, 1) := dk_42 (dk_at dksX2_isTree_0 2 rfl rfl)
theorem dX2_isTree_3 : decode cX2_isTree 3 = .ok (.getfield 203, 3) := dk_180 0 203 (dk_at dksX2_isTree_0 3 rfl rfl)
theorem dX2_isTree_6 : decode cX2_isTree 6 = .ok (.iconst 1, 1) := dk_4 (dk_at dksX2_isTree_0 6 rfl rfl)
theorem dX2_isTree_7 : decode cX2_isTree 7 = .ok (.isub, 1) := dk_100 (dk_at dksX2_isTree_0 7 rfl rfl)
theorem dX2_isTree_8 : decode cX2_isTree 8 = .ok (.invokestatic 104, 3) := dk_184 0 104 (dk_at dksX2_isTree_0 8 rfl rfl)
theorem dX2_isTree_11 : decode cX2_isTree 11 = .ok (.ireturn, 1) := dk_172 (dk_at dksX2_isTree_0 11 rfl rfl)
abbrev cX2_treeTells : ByteArray := prog_12_method_53_code
def yX2_treeTells : MethodName := ⟨RX2, "treeTells", "(II)I"⟩
def dkwX2_treeTells_1 : List UInt8 := [167, 0, 23, 28, 5, 160, 0, 12, 42, 180, 0, 71, 27, 46, 167, 0, 9, 42, 180, 0, 74, 27, 46, 172]
abbrev dktX2_treeTells_1 : List UInt8 := dkwX2_treeTells_1 ++ []
def dkwX2_treeTells_0 : List UInt8 := [28, 154, 0, 12, 42, 180, 0, 65, 27, 46, 167, 0, 37, 28, 4, 160, 0, 12, 42, 180, 0, 68, 27, 46]
abbrev dktX2_treeTells_0 : List UInt8 := dkwX2_treeTells_0 ++ dktX2_treeTells_1
theorem dksX2_treeTells_0 : cX2_treeTells.data.toList.drop 0 = dktX2_treeTells_0 := by decide +kernel
theorem dksX2_treeTells_1 : cX2_treeTells.data.toList.drop 24 = dktX2_treeTells_1 := dk_seg dksX2_treeTells_0 24 rfl rfl
theorem dX2_treeTells_0 : decode cX2_treeTells 0 = .ok (.iload_n 2, 1) := dk_28 (dk_at dksX2_treeTells_0 0 rfl rfl)
theorem dX2_treeTells_1 : decode cX2_treeTells 1 = .ok (.ifCond .ne 12, 3) := dk_154 0 12 (dk_at dksX2_treeTells_0 1 rfl rfl)
theorem dX2_treeTells_4 : decode cX2_treeTells 4 = .ok (.aload_n 0, 1) := dk_42 (dk_at dksX2_treeTells_0 4 rfl rfl)
theorem dX2_treeTells_5 : decode cX2_treeTells 5 = .ok (.getfield 65, 3) := dk_180 0 65 (dk_at dksX2_treeTells_0 5 rfl rfl)
theorem dX2_treeTells_8 : decode cX2_treeTells 8 = .ok (.iload_n 1, 1) := dk_27 (dk_at dksX2_treeTells_0 8 rfl rfl)
theorem dX2_treeTells_9 : decode cX2_treeTells 9 = .ok (.iaload, 1) := dk_46 (dk_at dksX2_treeTells_0 9 rfl rfl)
theorem dX2_treeTells_10 : decode cX2_treeTells 10 = .ok (.goto 37, 3) := dk_167 0 37 (dk_at dksX2_treeTells_0 10 rfl rfl)
theorem dX2_treeTells_13 : decode cX2_treeTells 13 = .ok (.iload_n 2, 1) := dk_28 (dk_at dksX2_treeTells_0 13 rfl rfl)
theorem dX2_treeTells_14 : decode cX2_treeTells 14 = .ok (.iconst 1, 1) := dk_4 (dk_at dksX2_treeTells_0 14 rfl rfl)
theorem dX2_treeTells_15 : decode cX2_treeTells 15 = .ok (.if_icmp .ne 12, 3) := dk_160 0 12 (dk_at dksX2_treeTells_0 15 rfl rfl)
theorem dX2_treeTells_18 : decode cX2_treeTells 18 = .ok (.aload_n 0, 1) := dk_42 (dk_at dksX2_treeTells_0 18 rfl rfl)
theorem dX2_treeTells_19 : decode cX2_treeTells 19 = .ok (.getfield 68, 3) := dk_180 0 68 (dk_at dksX2_treeTells_0 19 rfl rfl)
theorem dX2_treeTells_22 : decode cX2_treeTells 22 = .ok (.iload_n 1, 1) := dk_27 (dk_at dksX2_treeTells_0 22 rfl rfl)
theorem dX2_treeTells_23 : decode cX2_treeTells 23 = .ok (.iaload, 1) := dk_46 (dk_at dksX2_treeTells_0 23 rfl rfl)
theorem dX2_treeTells_24 : decode cX2_treeTells 24 = .ok (.goto 23, 3) := dk_167 0 23 (dk_at dksX2_treeTells_1 0 rfl rfl)
theorem dX2_treeTells_27 : decode cX2_treeTells 27 = .ok (.iload_n 2, 1) := dk_28 (dk_at dksX2_treeTells_1 3 rfl rfl)
theorem dX2_treeTells_28 : decode cX2_treeTells 28 = .ok (.iconst 2, 1) := dk_5 (dk_at dksX2_treeTells_1 4 rfl rfl)
theorem dX2_treeTells_29 : decode cX2_treeTells 29 = .ok (.if_icmp .ne 12, 3) := dk_160 0 12 (dk_at dksX2_treeTells_1 5 rfl rfl)
theorem dX2_treeTells_32 : decode cX2_treeTells 32 = .ok (.aload_n 0, 1) := dk_42 (dk_at dksX2_treeTells_1 8 rfl rfl)
theorem dX2_treeTells_33 : decode cX2_treeTells 33 = .ok (.getfield 71, 3) := dk_180 0 71 (dk_at dksX2_treeTells_1 9 rfl rfl)
theorem dX2_treeTells_36 : decode cX2_treeTells 36 = .ok (.iload_n 1, 1) := dk_27 (dk_at dksX2_treeTells_1 12 rfl rfl)
theorem dX2_treeTells_37 : decode cX2_treeTells 37 = .ok (.iaload, 1) := dk_46 (dk_at dksX2_treeTells_1 13 rfl rfl)
theorem dX2_treeTells_38 : decode cX2_treeTells 38 = .ok (.goto 9, 3) := dk_167 0 9 (dk_at dksX2_treeTells_1 14 rfl rfl)
theorem dX2_treeTells_41 : decode cX2_treeTells 41 = .ok (.aload_n 0, 1) := dk_42 (dk_at dksX2_treeTells_1 17 rfl rfl)
theorem dX2_treeTells_42 : decode cX2_treeTells 42 = .ok (.getfield 74, 3) := dk_180 0 74 (dk_at dksX2_treeTells_1 18 rfl rfl)
theorem dX2_treeTells_45 : decode cX2_treeTells 45 = .ok (.iload_n 1, 1) := dk_27 (dk_at dksX2_treeTells_1 21 rfl rfl)
theorem dX2_treeTells_46 : decode cX2_treeTells 46 = .ok (.iaload, 1) := dk_46 (dk_at dksX2_treeTells_1 22 rfl rfl)
theorem dX2_treeTells_47 : decode cX2_treeTells 47 = .ok (.ireturn, 1) := dk_172 (dk_at dksX2_treeTells_1 23 rfl rfl)
abbrev cX2_now : ByteArray := prog_12_method_57_code
def yX2_now : MethodName := ⟨RX2, "now", "(I)I"⟩
def dkwX2_now_1 : List UInt8 := [172]
abbrev dktX2_now_1 : List UInt8 := dkwX2_now_1 ++ []
def dkwX2_now_0 : List UInt8 := [27, 3, 16, 8, 184, 0, 104, 153, 0, 16, 42, 42, 27, 182, 0, 236, 4, 182, 0, 126, 167, 0, 4, 2]
abbrev dktX2_now_0 : List UInt8 := dkwX2_now_0 ++ dktX2_now_1
theorem dksX2_now_0 : cX2_now.data.toList.drop 0 = dktX2_now_0 := by decide +kernel
theorem dksX2_now_1 : cX2_now.data.toList.drop 24 = dktX2_now_1 := dk_seg dksX2_now_0 24 rfl rfl
theorem dX2_now_0 : decode cX2_now 0 = .ok (.iload_n 1, 1) := dk_27 (dk_at dksX2_now_0 0 rfl rfl)
theorem dX2_now_1 : decode cX2_now 1 = .ok (.iconst 0, 1) := dk_3 (dk_at dksX2_now_0 1 rfl rfl)
theorem dX2_now_2 : decode cX2_now 2 = .ok (.bipush 8, 2) := dk_16 8 (dk_at dksX2_now_0 2 rfl rfl)
theorem dX2_now_4 : decode cX2_now 4 = .ok (.invokestatic 104, 3) := dk_184 0 104 (dk_at dksX2_now_0 4 rfl rfl)
theorem dX2_now_7 : decode cX2_now 7 = .ok (.ifCond .eq 16, 3) := dk_153 0 16 (dk_at dksX2_now_0 7 rfl rfl)
theorem dX2_now_10 : decode cX2_now 10 = .ok (.aload_n 0, 1) := dk_42 (dk_at dksX2_now_0 10 rfl rfl)
theorem dX2_now_11 : decode cX2_now 11 = .ok (.aload_n 0, 1) := dk_42 (dk_at dksX2_now_0 11 rfl rfl)
theorem dX2_now_12 : decode cX2_now 12 = .ok (.iload_n 1, 1) := dk_27 (dk_at dksX2_now_0 12 rfl rfl)
theorem dX2_now_13 : decode cX2_now 13 = .ok (.invokevirtual 236, 3) := dk_182 0 236 (dk_at dksX2_now_0 13 rfl rfl)
theorem dX2_now_16 : decode cX2_now 16 = .ok (.iconst 1, 1) := dk_4 (dk_at dksX2_now_0 16 rfl rfl)
theorem dX2_now_17 : decode cX2_now 17 = .ok (.invokevirtual 126, 3) := dk_182 0 126 (dk_at dksX2_now_0 17 rfl rfl)
theorem dX2_now_20 : decode cX2_now 20 = .ok (.goto 4, 3) := dk_167 0 4 (dk_at dksX2_now_0 20 rfl rfl)
theorem dX2_now_23 : decode cX2_now 23 = .ok (.iconst (-1), 1) := dk_2 (dk_at dksX2_now_0 23 rfl rfl)
theorem dX2_now_24 : decode cX2_now 24 = .ok (.ireturn, 1) := dk_172 (dk_at dksX2_now_1 0 rfl rfl)
abbrev cX2_nowTells : ByteArray := prog_12_method_56_code
def yX2_nowTells : MethodName := ⟨RX2, "nowTells", "(I)I"⟩
def dkwX2_nowTells_3 : List UInt8 := [180, 0, 200, 172, 42, 180, 0, 97, 172, 42, 180, 0, 59, 27, 16, 6, 100, 46, 172]
abbrev dktX2_nowTells_3 : List UInt8 := dkwX2_nowTells_3 ++ []
def dkwX2_nowTells_2 : List UInt8 := [42, 180, 0, 206, 172, 42, 3, 182, 0, 233, 172, 42, 4, 182, 0, 233, 172, 42, 180, 0, 197, 172, 42]
abbrev dktX2_nowTells_2 : List UInt8 := dkwX2_nowTells_2 ++ dktX2_nowTells_3
def dkwX2_nowTells_1 : List UInt8 := [170, 0, 0, 0, 0, 0, 71, 0, 0, 0, 0, 0, 0, 0, 5, 0, 0, 0, 39, 0, 0, 0, 44, 0, 0, 0, 50, 0, 0, 0, 56, 0, 0, 0, 61, 0, 0, 0, 66]
abbrev dktX2_nowTells_1 : List UInt8 := dkwX2_nowTells_1 ++ dktX2_nowTells_2
def dkwX2_nowTells_0 : List UInt8 := [27]
abbrev dktX2_nowTells_0 : List UInt8 := dkwX2_nowTells_0 ++ dktX2_nowTells_1
theorem dksX2_nowTells_0 : cX2_nowTells.data.toList.drop 0 = dktX2_nowTells_0 := by decide +kernel
theorem dksX2_nowTells_1 : cX2_nowTells.data.toList.drop 1 = dktX2_nowTells_1 := dk_seg dksX2_nowTells_0 1 rfl rfl
theorem dksX2_nowTells_2 : cX2_nowTells.data.toList.drop 40 = dktX2_nowTells_2 := dk_seg dksX2_nowTells_1 39 rfl rfl
theorem dksX2_nowTells_3 : cX2_nowTells.data.toList.drop 63 = dktX2_nowTells_3 := dk_seg dksX2_nowTells_2 23 rfl rfl
theorem dX2_nowTells_0 : decode cX2_nowTells 0 = .ok (.iload_n 1, 1) := dk_27 (dk_at dksX2_nowTells_0 0 rfl rfl)
theorem dX2_nowTells_1 : decode cX2_nowTells 1 = .ok (.tableswitch 71 0 5 #[39, 44, 50, 56, 61, 66], 39) := by decide +kernel
theorem dX2_nowTells_40 : decode cX2_nowTells 40 = .ok (.aload_n 0, 1) := dk_42 (dk_at dksX2_nowTells_2 0 rfl rfl)
theorem dX2_nowTells_41 : decode cX2_nowTells 41 = .ok (.getfield 206, 3) := dk_180 0 206 (dk_at dksX2_nowTells_2 1 rfl rfl)
theorem dX2_nowTells_44 : decode cX2_nowTells 44 = .ok (.ireturn, 1) := dk_172 (dk_at dksX2_nowTells_2 4 rfl rfl)
theorem dX2_nowTells_45 : decode cX2_nowTells 45 = .ok (.aload_n 0, 1) := dk_42 (dk_at dksX2_nowTells_2 5 rfl rfl)
theorem dX2_nowTells_46 : decode cX2_nowTells 46 = .ok (.iconst 0, 1) := dk_3 (dk_at dksX2_nowTells_2 6 rfl rfl)
theorem dX2_nowTells_47 : decode cX2_nowTells 47 = .ok (.invokevirtual 233, 3) := dk_182 0 233 (dk_at dksX2_nowTells_2 7 rfl rfl)
theorem dX2_nowTells_50 : decode cX2_nowTells 50 = .ok (.ireturn, 1) := dk_172 (dk_at dksX2_nowTells_2 10 rfl rfl)
theorem dX2_nowTells_51 : decode cX2_nowTells 51 = .ok (.aload_n 0, 1) := dk_42 (dk_at dksX2_nowTells_2 11 rfl rfl)
theorem dX2_nowTells_52 : decode cX2_nowTells 52 = .ok (.iconst 1, 1) := dk_4 (dk_at dksX2_nowTells_2 12 rfl rfl)
theorem dX2_nowTells_53 : decode cX2_nowTells 53 = .ok (.invokevirtual 233, 3) := dk_182 0 233 (dk_at dksX2_nowTells_2 13 rfl rfl)
theorem dX2_nowTells_56 : decode cX2_nowTells 56 = .ok (.ireturn, 1) := dk_172 (dk_at dksX2_nowTells_2 16 rfl rfl)
theorem dX2_nowTells_57 : decode cX2_nowTells 57 = .ok (.aload_n 0, 1) := dk_42 (dk_at dksX2_nowTells_2 17 rfl rfl)
theorem dX2_nowTells_58 : decode cX2_nowTells 58 = .ok (.getfield 197, 3) := dk_180 0 197 (dk_at dksX2_nowTells_2 18 rfl rfl)
theorem dX2_nowTells_61 : decode cX2_nowTells 61 = .ok (.ireturn, 1) := dk_172 (dk_at dksX2_nowTells_2 21 rfl rfl)
theorem dX2_nowTells_62 : decode cX2_nowTells 62 = .ok (.aload_n 0, 1) := dk_42 (dk_at dksX2_nowTells_2 22 rfl rfl)
theorem dX2_nowTells_63 : decode cX2_nowTells 63 = .ok (.getfield 200, 3) := dk_180 0 200 (dk_at dksX2_nowTells_3 0 rfl rfl)
theorem dX2_nowTells_66 : decode cX2_nowTells 66 = .ok (.ireturn, 1) := dk_172 (dk_at dksX2_nowTells_3 3 rfl rfl)
theorem dX2_nowTells_67 : decode cX2_nowTells 67 = .ok (.aload_n 0, 1) := dk_42 (dk_at dksX2_nowTells_3 4 rfl rfl)
theorem dX2_nowTells_68 : decode cX2_nowTells 68 = .ok (.getfield 97, 3) := dk_180 0 97 (dk_at dksX2_nowTells_3 5 rfl rfl)
theorem dX2_nowTells_71 : decode cX2_nowTells 71 = .ok (.ireturn, 1) := dk_172 (dk_at dksX2_nowTells_3 8 rfl rfl)
theorem dX2_nowTells_72 : decode cX2_nowTells 72 = .ok (.aload_n 0, 1) := dk_42 (dk_at dksX2_nowTells_3 9 rfl rfl)
theorem dX2_nowTells_73 : decode cX2_nowTells 73 = .ok (.getfield 59, 3) := dk_180 0 59 (dk_at dksX2_nowTells_3 10 rfl rfl)
theorem dX2_nowTells_76 : decode cX2_nowTells 76 = .ok (.iload_n 1, 1) := dk_27 (dk_at dksX2_nowTells_3 13 rfl rfl)
theorem dX2_nowTells_77 : decode cX2_nowTells 77 = .ok (.bipush 6, 2) := dk_16 6 (dk_at dksX2_nowTells_3 14 rfl rfl)
theorem dX2_nowTells_79 : decode cX2_nowTells 79 = .ok (.isub, 1) := dk_100 (dk_at dksX2_nowTells_3 16 rfl rfl)
theorem dX2_nowTells_80 : decode cX2_nowTells 80 = .ok (.iaload, 1) := dk_46 (dk_at dksX2_nowTells_3 17 rfl rfl)
theorem dX2_nowTells_81 : decode cX2_nowTells 81 = .ok (.ireturn, 1) := dk_172 (dk_at dksX2_nowTells_3 18 rfl rfl)
abbrev cX2_mouseOf : ByteArray := prog_12_method_55_code
def yX2_mouseOf : MethodName := ⟨RX2, "mouseOf", "(I)I"⟩
def dkwX2_mouseOf_0 : List UInt8 := [27, 42, 180, 0, 194, 162, 0, 12, 42, 180, 0, 62, 27, 46, 167, 0, 5, 16, 247, 172]
abbrev dktX2_mouseOf_0 : List UInt8 := dkwX2_mouseOf_0 ++ []
theorem dksX2_mouseOf_0 : cX2_mouseOf.data.toList.drop 0 = dktX2_mouseOf_0 := by decide +kernel
theorem dX2_mouseOf_0 : decode cX2_mouseOf 0 = .ok (.iload_n 1, 1) := dk_27 (dk_at dksX2_mouseOf_0 0 rfl rfl)
theorem dX2_mouseOf_1 : decode cX2_mouseOf 1 = .ok (.aload_n 0, 1) := dk_42 (dk_at dksX2_mouseOf_0 1 rfl rfl)
theorem dX2_mouseOf_2 : decode cX2_mouseOf 2 = .ok (.getfield 194, 3) := dk_180 0 194 (dk_at dksX2_mouseOf_0 2 rfl rfl)
theorem dX2_mouseOf_5 : decode cX2_mouseOf 5 = .ok (.if_icmp .ge 12, 3) := dk_162 0 12 (dk_at dksX2_mouseOf_0 5 rfl rfl)
theorem dX2_mouseOf_8 : decode cX2_mouseOf 8 = .ok (.aload_n 0, 1) := dk_42 (dk_at dksX2_mouseOf_0 8 rfl rfl)
theorem dX2_mouseOf_9 : decode cX2_mouseOf 9 = .ok (.getfield 62, 3) := dk_180 0 62 (dk_at dksX2_mouseOf_0 9 rfl rfl)
theorem dX2_mouseOf_12 : decode cX2_mouseOf 12 = .ok (.iload_n 1, 1) := dk_27 (dk_at dksX2_mouseOf_0 12 rfl rfl)
theorem dX2_mouseOf_13 : decode cX2_mouseOf 13 = .ok (.iaload, 1) := dk_46 (dk_at dksX2_mouseOf_0 13 rfl rfl)
theorem dX2_mouseOf_14 : decode cX2_mouseOf 14 = .ok (.goto 5, 3) := dk_167 0 5 (dk_at dksX2_mouseOf_0 14 rfl rfl)
theorem dX2_mouseOf_17 : decode cX2_mouseOf 17 = .ok (.bipush (-9), 2) := dk_16 247 (dk_at dksX2_mouseOf_0 17 rfl rfl)
theorem dX2_mouseOf_19 : decode cX2_mouseOf 19 = .ok (.ireturn, 1) := dk_172 (dk_at dksX2_mouseOf_0 19 rfl rfl)
abbrev cX2_next : ByteArray := prog_12_method_65_code
def yX2_next : MethodName := ⟨RX2, "next", "(I)I"⟩
def dkwX2_next_1 : List UInt8 := [42, 27, 3, 3, 182, 1, 13, 42, 42, 180, 1, 10, 42, 180, 0, 251, 182, 0, 126, 172]
abbrev dktX2_next_1 : List UInt8 := dkwX2_next_1 ++ []
def dkwX2_next_0 : List UInt8 := [27, 3, 5, 184, 0, 104, 154, 0, 5, 2, 172, 42, 180, 0, 206, 17, 39, 15, 160, 0, 6, 16, 252, 172]
abbrev dktX2_next_0 : List UInt8 := dkwX2_next_0 ++ dktX2_next_1
theorem dksX2_next_0 : cX2_next.data.toList.drop 0 = dktX2_next_0 := by decide +kernel
theorem dksX2_next_1 : cX2_next.data.toList.drop 24 = dktX2_next_1 := dk_seg dksX2_next_0 24 rfl rfl
theorem dX2_next_0 : decode cX2_next 0 = .ok (.iload_n 1, 1) := dk_27 (dk_at dksX2_next_0 0 rfl rfl)
theorem dX2_next_1 : decode cX2_next 1 = .ok (.iconst 0, 1) := dk_3 (dk_at dksX2_next_0 1 rfl rfl)
theorem dX2_next_2 : decode cX2_next 2 = .ok (.iconst 2, 1) := dk_5 (dk_at dksX2_next_0 2 rfl rfl)
theorem dX2_next_3 : decode cX2_next 3 = .ok (.invokestatic 104, 3) := dk_184 0 104 (dk_at dksX2_next_0 3 rfl rfl)
theorem dX2_next_6 : decode cX2_next 6 = .ok (.ifCond .ne 5, 3) := dk_154 0 5 (dk_at dksX2_next_0 6 rfl rfl)
theorem dX2_next_9 : decode cX2_next 9 = .ok (.iconst (-1), 1) := dk_2 (dk_at dksX2_next_0 9 rfl rfl)
theorem dX2_next_10 : decode cX2_next 10 = .ok (.ireturn, 1) := dk_172 (dk_at dksX2_next_0 10 rfl rfl)
theorem dX2_next_11 : decode cX2_next 11 = .ok (.aload_n 0, 1) := dk_42 (dk_at dksX2_next_0 11 rfl rfl)
theorem dX2_next_12 : decode cX2_next 12 = .ok (.getfield 206, 3) := dk_180 0 206 (dk_at dksX2_next_0 12 rfl rfl)
theorem dX2_next_15 : decode cX2_next 15 = .ok (.sipush 9999, 3) := dk_17 39 15 (dk_at dksX2_next_0 15 rfl rfl)
theorem dX2_next_18 : decode cX2_next 18 = .ok (.if_icmp .ne 6, 3) := dk_160 0 6 (dk_at dksX2_next_0 18 rfl rfl)
theorem dX2_next_21 : decode cX2_next 21 = .ok (.bipush (-4), 2) := dk_16 252 (dk_at dksX2_next_0 21 rfl rfl)
theorem dX2_next_23 : decode cX2_next 23 = .ok (.ireturn, 1) := dk_172 (dk_at dksX2_next_0 23 rfl rfl)
theorem dX2_next_24 : decode cX2_next 24 = .ok (.aload_n 0, 1) := dk_42 (dk_at dksX2_next_1 0 rfl rfl)
theorem dX2_next_25 : decode cX2_next 25 = .ok (.iload_n 1, 1) := dk_27 (dk_at dksX2_next_1 1 rfl rfl)
theorem dX2_next_26 : decode cX2_next 26 = .ok (.iconst 0, 1) := dk_3 (dk_at dksX2_next_1 2 rfl rfl)
theorem dX2_next_27 : decode cX2_next 27 = .ok (.iconst 0, 1) := dk_3 (dk_at dksX2_next_1 3 rfl rfl)
theorem dX2_next_28 : decode cX2_next 28 = .ok (.invokevirtual 269, 3) := dk_182 1 13 (dk_at dksX2_next_1 4 rfl rfl)
theorem dX2_next_31 : decode cX2_next 31 = .ok (.aload_n 0, 1) := dk_42 (dk_at dksX2_next_1 7 rfl rfl)
theorem dX2_next_32 : decode cX2_next 32 = .ok (.aload_n 0, 1) := dk_42 (dk_at dksX2_next_1 8 rfl rfl)
theorem dX2_next_33 : decode cX2_next 33 = .ok (.getfield 266, 3) := dk_180 1 10 (dk_at dksX2_next_1 9 rfl rfl)
theorem dX2_next_36 : decode cX2_next 36 = .ok (.aload_n 0, 1) := dk_42 (dk_at dksX2_next_1 12 rfl rfl)
theorem dX2_next_37 : decode cX2_next 37 = .ok (.getfield 251, 3) := dk_180 0 251 (dk_at dksX2_next_1 13 rfl rfl)
theorem dX2_next_40 : decode cX2_next 40 = .ok (.invokevirtual 126, 3) := dk_182 0 126 (dk_at dksX2_next_1 16 rfl rfl)
theorem dX2_next_43 : decode cX2_next 43 = .ok (.ireturn, 1) := dk_172 (dk_at dksX2_next_1 19 rfl rfl)
abbrev cX2_passes : ByteArray := prog_12_method_60_code
def yX2_passes : MethodName := ⟨RX2, "passes", "(IIZ)V"⟩
def dkwX2_passes_9 : List UInt8 := [132, 4, 1, 167, 255, 197, 42, 29, 153, 0, 7, 3, 167, 0, 7, 42, 180, 0, 251, 182, 1, 2, 177]
abbrev dktX2_passes_9 : List UInt8 := dkwX2_passes_9 ++ []
def dkwX2_passes_8 : List UInt8 := [182, 0, 254, 167, 0, 4, 3, 79, 42, 89, 180, 0, 251, 42, 180, 0, 77, 21, 4, 46, 96, 181, 0, 251]
abbrev dktX2_passes_8 : List UInt8 := dkwX2_passes_8 ++ dktX2_passes_9
def dkwX2_passes_7 : List UInt8 := [42, 180, 0, 77, 21, 4, 42, 180, 0, 242, 21, 4, 184, 0, 239, 153, 0, 14, 42, 21, 4, 27, 28]
abbrev dktX2_passes_7 : List UInt8 := dkwX2_passes_7 ++ dktX2_passes_8
def dkwX2_passes_6 : List UInt8 := [79, 132, 4, 1, 167, 255, 135, 42, 3, 181, 0, 251, 3, 54, 4, 21, 4, 42, 180, 0, 203, 162, 0, 56]
abbrev dktX2_passes_6 : List UInt8 := dkwX2_passes_6 ++ dktX2_passes_7
def dkwX2_passes_5 : List UInt8 := [181, 0, 245, 42, 180, 0, 71, 21, 4, 92, 46, 4, 96, 79, 42, 180, 0, 74, 21, 4, 42, 180, 0, 206]
abbrev dktX2_passes_5 : List UInt8 := dkwX2_passes_5 ++ dktX2_passes_6
def dkwX2_passes_4 : List UInt8 := [153, 0, 48, 42, 89, 180, 0, 242, 4, 21, 4, 120, 128, 181, 0, 242, 42, 89, 180, 0, 245, 4, 96]
abbrev dktX2_passes_4 : List UInt8 := dkwX2_passes_4 ++ dktX2_passes_5
def dkwX2_passes_3 : List UInt8 := [180, 0, 65, 21, 4, 46, 104, 4, 96, 27, 96, 46, 96, 184, 0, 158, 79, 42, 21, 4, 27, 182, 0, 248]
abbrev dktX2_passes_3 : List UInt8 := dkwX2_passes_3 ++ dktX2_passes_4
def dkwX2_passes_2 : List UInt8 := [42, 180, 0, 68, 21, 4, 16, 60, 42, 180, 0, 68, 21, 4, 46, 42, 180, 0, 44, 16, 7, 42]
abbrev dktX2_passes_2 : List UInt8 := dkwX2_passes_2 ++ dktX2_passes_3
def dkwX2_passes_1 : List UInt8 := [21, 4, 42, 180, 0, 203, 162, 0, 118, 42, 42, 180, 0, 65, 21, 4, 46, 182, 0, 209, 4, 159, 0, 42]
abbrev dktX2_passes_1 : List UInt8 := dkwX2_passes_1 ++ dktX2_passes_2
def dkwX2_passes_0 : List UInt8 := [42, 89, 180, 0, 206, 4, 96, 181, 0, 206, 42, 3, 181, 0, 242, 42, 3, 181, 0, 245, 3, 54, 4]
abbrev dktX2_passes_0 : List UInt8 := dkwX2_passes_0 ++ dktX2_passes_1
theorem dksX2_passes_0 : cX2_passes.data.toList.drop 0 = dktX2_passes_0 := by decide +kernel
theorem dksX2_passes_1 : cX2_passes.data.toList.drop 23 = dktX2_passes_1 := dk_seg dksX2_passes_0 23 rfl rfl
theorem dksX2_passes_2 : cX2_passes.data.toList.drop 47 = dktX2_passes_2 := dk_seg dksX2_passes_1 24 rfl rfl
theorem dksX2_passes_3 : cX2_passes.data.toList.drop 69 = dktX2_passes_3 := dk_seg dksX2_passes_2 22 rfl rfl
theorem dksX2_passes_4 : cX2_passes.data.toList.drop 93 = dktX2_passes_4 := dk_seg dksX2_passes_3 24 rfl rfl
theorem dksX2_passes_5 : cX2_passes.data.toList.drop 116 = dktX2_passes_5 := dk_seg dksX2_passes_4 23 rfl rfl
theorem dksX2_passes_6 : cX2_passes.data.toList.drop 140 = dktX2_passes_6 := dk_seg dksX2_passes_5 24 rfl rfl
theorem dksX2_passes_7 : cX2_passes.data.toList.drop 164 = dktX2_passes_7 := dk_seg dksX2_passes_6 24 rfl rfl
theorem dksX2_passes_8 : cX2_passes.data.toList.drop 187 = dktX2_passes_8 := dk_seg dksX2_passes_7 23 rfl rfl
theorem dksX2_passes_9 : cX2_passes.data.toList.drop 211 = dktX2_passes_9 := dk_seg dksX2_passes_8 24 rfl rfl
theorem dX2_passes_0 : decode cX2_passes 0 = .ok (.aload_n 0, 1) := dk_42 (dk_at dksX2_passes_0 0 rfl rfl)
theorem dX2_passes_1 : decode cX2_passes 1 = .ok (.dup, 1) := dk_89 (dk_at dksX2_passes_0 1 rfl rfl)
theorem dX2_passes_2 : decode cX2_passes 2 = .ok (.getfield 206, 3) := dk_180 0 206 (dk_at dksX2_passes_0 2 rfl rfl)
theorem dX2_passes_5 : decode cX2_passes 5 = .ok (.iconst 1, 1) := dk_4 (dk_at dksX2_passes_0 5 rfl rfl)
theorem dX2_passes_6 : decode cX2_passes 6 = .ok (.iadd, 1) := dk_96 (dk_at dksX2_passes_0 6 rfl rfl)
theorem dX2_passes_7 : decode cX2_passes 7 = .ok (.putfield 206, 3) := dk_181 0 206 (dk_at dksX2_passes_0 7 rfl rfl)
theorem dX2_passes_10 : decode cX2_passes 10 = .ok (.aload_n 0, 1) := dk_42 (dk_at dksX2_passes_0 10 rfl rfl)
theorem dX2_passes_11 : decode cX2_passes 11 = .ok (.iconst 0, 1) := dk_3 (dk_at dksX2_passes_0 11 rfl rfl)
theorem dX2_passes_12 : decode cX2_passes 12 = .ok (.putfield 242, 3) := dk_181 0 242 (dk_at dksX2_passes_0 12 rfl rfl)
theorem dX2_passes_15 : decode cX2_passes 15 = .ok (.aload_n 0, 1) := dk_42 (dk_at dksX2_passes_0 15 rfl rfl)
theorem dX2_passes_16 : decode cX2_passes 16 = .ok (.iconst 0, 1) := dk_3 (dk_at dksX2_passes_0 16 rfl rfl)
theorem dX2_passes_17 : decode cX2_passes 17 = .ok (.putfield 245, 3) := dk_181 0 245 (dk_at dksX2_passes_0 17 rfl rfl)
theorem dX2_passes_20 : decode cX2_passes 20 = .ok (.iconst 0, 1) := dk_3 (dk_at dksX2_passes_0 20 rfl rfl)
theorem dX2_passes_21 : decode cX2_passes 21 = .ok (.istore 4, 2) := dk_54 4 (dk_at dksX2_passes_0 21 rfl rfl)
theorem dX2_passes_23 : decode cX2_passes 23 = .ok (.iload 4, 2) := dk_21 4 (dk_at dksX2_passes_1 0 rfl rfl)
theorem dX2_passes_25 : decode cX2_passes 25 = .ok (.aload_n 0, 1) := dk_42 (dk_at dksX2_passes_1 2 rfl rfl)
theorem dX2_passes_26 : decode cX2_passes 26 = .ok (.getfield 203, 3) := dk_180 0 203 (dk_at dksX2_passes_1 3 rfl rfl)
theorem dX2_passes_29 : decode cX2_passes 29 = .ok (.if_icmp .ge 118, 3) := dk_162 0 118 (dk_at dksX2_passes_1 6 rfl rfl)
theorem dX2_passes_32 : decode cX2_passes 32 = .ok (.aload_n 0, 1) := dk_42 (dk_at dksX2_passes_1 9 rfl rfl)
theorem dX2_passes_33 : decode cX2_passes 33 = .ok (.aload_n 0, 1) := dk_42 (dk_at dksX2_passes_1 10 rfl rfl)
theorem dX2_passes_34 : decode cX2_passes 34 = .ok (.getfield 65, 3) := dk_180 0 65 (dk_at dksX2_passes_1 11 rfl rfl)
theorem dX2_passes_37 : decode cX2_passes 37 = .ok (.iload 4, 2) := dk_21 4 (dk_at dksX2_passes_1 14 rfl rfl)
theorem dX2_passes_39 : decode cX2_passes 39 = .ok (.iaload, 1) := dk_46 (dk_at dksX2_passes_1 16 rfl rfl)
theorem dX2_passes_40 : decode cX2_passes 40 = .ok (.invokevirtual 209, 3) := dk_182 0 209 (dk_at dksX2_passes_1 17 rfl rfl)
theorem dX2_passes_43 : decode cX2_passes 43 = .ok (.iconst 1, 1) := dk_4 (dk_at dksX2_passes_1 20 rfl rfl)
theorem dX2_passes_44 : decode cX2_passes 44 = .ok (.if_icmp .eq 42, 3) := dk_159 0 42 (dk_at dksX2_passes_1 21 rfl rfl)
theorem dX2_passes_47 : decode cX2_passes 47 = .ok (.aload_n 0, 1) := dk_42 (dk_at dksX2_passes_2 0 rfl rfl)
theorem dX2_passes_48 : decode cX2_passes 48 = .ok (.getfield 68, 3) := dk_180 0 68 (dk_at dksX2_passes_2 1 rfl rfl)
theorem dX2_passes_51 : decode cX2_passes 51 = .ok (.iload 4, 2) := dk_21 4 (dk_at dksX2_passes_2 4 rfl rfl)
theorem dX2_passes_53 : decode cX2_passes 53 = .ok (.bipush 60, 2) := dk_16 60 (dk_at dksX2_passes_2 6 rfl rfl)
theorem dX2_passes_55 : decode cX2_passes 55 = .ok (.aload_n 0, 1) := dk_42 (dk_at dksX2_passes_2 8 rfl rfl)
theorem dX2_passes_56 : decode cX2_passes 56 = .ok (.getfield 68, 3) := dk_180 0 68 (dk_at dksX2_passes_2 9 rfl rfl)
theorem dX2_passes_59 : decode cX2_passes 59 = .ok (.iload 4, 2) := dk_21 4 (dk_at dksX2_passes_2 12 rfl rfl)
theorem dX2_passes_61 : decode cX2_passes 61 = .ok (.iaload, 1) := dk_46 (dk_at dksX2_passes_2 14 rfl rfl)
theorem dX2_passes_62 : decode cX2_passes 62 = .ok (.aload_n 0, 1) := dk_42 (dk_at dksX2_passes_2 15 rfl rfl)
theorem dX2_passes_63 : decode cX2_passes 63 = .ok (.getfield 44, 3) := dk_180 0 44 (dk_at dksX2_passes_2 16 rfl rfl)
theorem dX2_passes_66 : decode cX2_passes 66 = .ok (.bipush 7, 2) := dk_16 7 (dk_at dksX2_passes_2 19 rfl rfl)
theorem dX2_passes_68 : decode cX2_passes 68 = .ok (.aload_n 0, 1) := dk_42 (dk_at dksX2_passes_2 21 rfl rfl)
theorem dX2_passes_69 : decode cX2_passes 69 = .ok (.getfield 65, 3) := dk_180 0 65 (dk_at dksX2_passes_3 0 rfl rfl)
theorem dX2_passes_72 : decode cX2_passes 72 = .ok (.iload 4, 2) := dk_21 4 (dk_at dksX2_passes_3 3 rfl rfl)
theorem dX2_passes_74 : decode cX2_passes 74 = .ok (.iaload, 1) := dk_46 (dk_at dksX2_passes_3 5 rfl rfl)
theorem dX2_passes_75 : decode cX2_passes 75 = .ok (.imul, 1) := dk_104 (dk_at dksX2_passes_3 6 rfl rfl)
theorem dX2_passes_76 : decode cX2_passes 76 = .ok (.iconst 1, 1) := dk_4 (dk_at dksX2_passes_3 7 rfl rfl)
theorem dX2_passes_77 : decode cX2_passes 77 = .ok (.iadd, 1) := dk_96 (dk_at dksX2_passes_3 8 rfl rfl)
theorem dX2_passes_78 : decode cX2_passes 78 = .ok (.iload_n 1, 1) := dk_27 (dk_at dksX2_passes_3 9 rfl rfl)
theorem dX2_passes_79 : decode cX2_passes 79 = .ok (.iadd, 1) := dk_96 (dk_at dksX2_passes_3 10 rfl rfl)
theorem dX2_passes_80 : decode cX2_passes 80 = .ok (.iaload, 1) := dk_46 (dk_at dksX2_passes_3 11 rfl rfl)
theorem dX2_passes_81 : decode cX2_passes 81 = .ok (.iadd, 1) := dk_96 (dk_at dksX2_passes_3 12 rfl rfl)
theorem dX2_passes_82 : decode cX2_passes 82 = .ok (.invokestatic 158, 3) := dk_184 0 158 (dk_at dksX2_passes_3 13 rfl rfl)
theorem dX2_passes_85 : decode cX2_passes 85 = .ok (.iastore, 1) := dk_79 (dk_at dksX2_passes_3 16 rfl rfl)
theorem dX2_passes_86 : decode cX2_passes 86 = .ok (.aload_n 0, 1) := dk_42 (dk_at dksX2_passes_3 17 rfl rfl)
theorem dX2_passes_87 : decode cX2_passes 87 = .ok (.iload 4, 2) := dk_21 4 (dk_at dksX2_passes_3 18 rfl rfl)
theorem dX2_passes_89 : decode cX2_passes 89 = .ok (.iload_n 1, 1) := dk_27 (dk_at dksX2_passes_3 20 rfl rfl)
theorem dX2_passes_90 : decode cX2_passes 90 = .ok (.invokevirtual 248, 3) := dk_182 0 248 (dk_at dksX2_passes_3 21 rfl rfl)
theorem dX2_passes_93 : decode cX2_passes 93 = .ok (.ifCond .eq 48, 3) := dk_153 0 48 (dk_at dksX2_passes_4 0 rfl rfl)
theorem dX2_passes_96 : decode cX2_passes 96 = .ok (.aload_n 0, 1) := dk_42 (dk_at dksX2_passes_4 3 rfl rfl)
theorem dX2_passes_97 : decode cX2_passes 97 = .ok (.dup, 1) := dk_89 (dk_at dksX2_passes_4 4 rfl rfl)
theorem dX2_passes_98 : decode cX2_passes 98 = .ok (.getfield 242, 3) := dk_180 0 242 (dk_at dksX2_passes_4 5 rfl rfl)
theorem dX2_passes_101 : decode cX2_passes 101 = .ok (.iconst 1, 1) := dk_4 (dk_at dksX2_passes_4 8 rfl rfl)
theorem dX2_passes_102 : decode cX2_passes 102 = .ok (.iload 4, 2) := dk_21 4 (dk_at dksX2_passes_4 9 rfl rfl)
theorem dX2_passes_104 : decode cX2_passes 104 = .ok (.ishl, 1) := dk_120 (dk_at dksX2_passes_4 11 rfl rfl)
theorem dX2_passes_105 : decode cX2_passes 105 = .ok (.ior, 1) := dk_128 (dk_at dksX2_passes_4 12 rfl rfl)
theorem dX2_passes_106 : decode cX2_passes 106 = .ok (.putfield 242, 3) := dk_181 0 242 (dk_at dksX2_passes_4 13 rfl rfl)
theorem dX2_passes_109 : decode cX2_passes 109 = .ok (.aload_n 0, 1) := dk_42 (dk_at dksX2_passes_4 16 rfl rfl)
theorem dX2_passes_110 : decode cX2_passes 110 = .ok (.dup, 1) := dk_89 (dk_at dksX2_passes_4 17 rfl rfl)
theorem dX2_passes_111 : decode cX2_passes 111 = .ok (.getfield 245, 3) := dk_180 0 245 (dk_at dksX2_passes_4 18 rfl rfl)
theorem dX2_passes_114 : decode cX2_passes 114 = .ok (.iconst 1, 1) := dk_4 (dk_at dksX2_passes_4 21 rfl rfl)
theorem dX2_passes_115 : decode cX2_passes 115 = .ok (.iadd, 1) := dk_96 (dk_at dksX2_passes_4 22 rfl rfl)
theorem dX2_passes_116 : decode cX2_passes 116 = .ok (.putfield 245, 3) := dk_181 0 245 (dk_at dksX2_passes_5 0 rfl rfl)
theorem dX2_passes_119 : decode cX2_passes 119 = .ok (.aload_n 0, 1) := dk_42 (dk_at dksX2_passes_5 3 rfl rfl)
theorem dX2_passes_120 : decode cX2_passes 120 = .ok (.getfield 71, 3) := dk_180 0 71 (dk_at dksX2_passes_5 4 rfl rfl)
theorem dX2_passes_123 : decode cX2_passes 123 = .ok (.iload 4, 2) := dk_21 4 (dk_at dksX2_passes_5 7 rfl rfl)
theorem dX2_passes_125 : decode cX2_passes 125 = .ok (.dup2, 1) := dk_92 (dk_at dksX2_passes_5 9 rfl rfl)
theorem dX2_passes_126 : decode cX2_passes 126 = .ok (.iaload, 1) := dk_46 (dk_at dksX2_passes_5 10 rfl rfl)
theorem dX2_passes_127 : decode cX2_passes 127 = .ok (.iconst 1, 1) := dk_4 (dk_at dksX2_passes_5 11 rfl rfl)
theorem dX2_passes_128 : decode cX2_passes 128 = .ok (.iadd, 1) := dk_96 (dk_at dksX2_passes_5 12 rfl rfl)
theorem dX2_passes_129 : decode cX2_passes 129 = .ok (.iastore, 1) := dk_79 (dk_at dksX2_passes_5 13 rfl rfl)
theorem dX2_passes_130 : decode cX2_passes 130 = .ok (.aload_n 0, 1) := dk_42 (dk_at dksX2_passes_5 14 rfl rfl)
theorem dX2_passes_131 : decode cX2_passes 131 = .ok (.getfield 74, 3) := dk_180 0 74 (dk_at dksX2_passes_5 15 rfl rfl)
theorem dX2_passes_134 : decode cX2_passes 134 = .ok (.iload 4, 2) := dk_21 4 (dk_at dksX2_passes_5 18 rfl rfl)
theorem dX2_passes_136 : decode cX2_passes 136 = .ok (.aload_n 0, 1) := dk_42 (dk_at dksX2_passes_5 20 rfl rfl)
theorem dX2_passes_137 : decode cX2_passes 137 = .ok (.getfield 206, 3) := dk_180 0 206 (dk_at dksX2_passes_5 21 rfl rfl)
theorem dX2_passes_140 : decode cX2_passes 140 = .ok (.iastore, 1) := dk_79 (dk_at dksX2_passes_6 0 rfl rfl)
theorem dX2_passes_141 : decode cX2_passes 141 = .ok (.iinc 4 1, 3) := dk_132 4 1 (dk_at dksX2_passes_6 1 rfl rfl)
theorem dX2_passes_144 : decode cX2_passes 144 = .ok (.goto (-121), 3) := dk_167 255 135 (dk_at dksX2_passes_6 4 rfl rfl)
theorem dX2_passes_147 : decode cX2_passes 147 = .ok (.aload_n 0, 1) := dk_42 (dk_at dksX2_passes_6 7 rfl rfl)
theorem dX2_passes_148 : decode cX2_passes 148 = .ok (.iconst 0, 1) := dk_3 (dk_at dksX2_passes_6 8 rfl rfl)
theorem dX2_passes_149 : decode cX2_passes 149 = .ok (.putfield 251, 3) := dk_181 0 251 (dk_at dksX2_passes_6 9 rfl rfl)
theorem dX2_passes_152 : decode cX2_passes 152 = .ok (.iconst 0, 1) := dk_3 (dk_at dksX2_passes_6 12 rfl rfl)
theorem dX2_passes_153 : decode cX2_passes 153 = .ok (.istore 4, 2) := dk_54 4 (dk_at dksX2_passes_6 13 rfl rfl)
theorem dX2_passes_155 : decode cX2_passes 155 = .ok (.iload 4, 2) := dk_21 4 (dk_at dksX2_passes_6 15 rfl rfl)
theorem dX2_passes_157 : decode cX2_passes 157 = .ok (.aload_n 0, 1) := dk_42 (dk_at dksX2_passes_6 17 rfl rfl)
theorem dX2_passes_158 : decode cX2_passes 158 = .ok (.getfield 203, 3) := dk_180 0 203 (dk_at dksX2_passes_6 18 rfl rfl)
theorem dX2_passes_161 : decode cX2_passes 161 = .ok (.if_icmp .ge 56, 3) := dk_162 0 56 (dk_at dksX2_passes_6 21 rfl rfl)
theorem dX2_passes_164 : decode cX2_passes 164 = .ok (.aload_n 0, 1) := dk_42 (dk_at dksX2_passes_7 0 rfl rfl)
theorem dX2_passes_165 : decode cX2_passes 165 = .ok (.getfield 77, 3) := dk_180 0 77 (dk_at dksX2_passes_7 1 rfl rfl)
theorem dX2_passes_168 : decode cX2_passes 168 = .ok (.iload 4, 2) := dk_21 4 (dk_at dksX2_passes_7 4 rfl rfl)
theorem dX2_passes_170 : decode cX2_passes 170 = .ok (.aload_n 0, 1) := dk_42 (dk_at dksX2_passes_7 6 rfl rfl)
theorem dX2_passes_171 : decode cX2_passes 171 = .ok (.getfield 242, 3) := dk_180 0 242 (dk_at dksX2_passes_7 7 rfl rfl)
theorem dX2_passes_174 : decode cX2_passes 174 = .ok (.iload 4, 2) := dk_21 4 (dk_at dksX2_passes_7 10 rfl rfl)
theorem dX2_passes_176 : decode cX2_passes 176 = .ok (.invokestatic 239, 3) := dk_184 0 239 (dk_at dksX2_passes_7 12 rfl rfl)
theorem dX2_passes_179 : decode cX2_passes 179 = .ok (.ifCond .eq 14, 3) := dk_153 0 14 (dk_at dksX2_passes_7 15 rfl rfl)
theorem dX2_passes_182 : decode cX2_passes 182 = .ok (.aload_n 0, 1) := dk_42 (dk_at dksX2_passes_7 18 rfl rfl)
theorem dX2_passes_183 : decode cX2_passes 183 = .ok (.iload 4, 2) := dk_21 4 (dk_at dksX2_passes_7 19 rfl rfl)
theorem dX2_passes_185 : decode cX2_passes 185 = .ok (.iload_n 1, 1) := dk_27 (dk_at dksX2_passes_7 21 rfl rfl)
theorem dX2_passes_186 : decode cX2_passes 186 = .ok (.iload_n 2, 1) := dk_28 (dk_at dksX2_passes_7 22 rfl rfl)
theorem dX2_passes_187 : decode cX2_passes 187 = .ok (.invokevirtual 254, 3) := dk_182 0 254 (dk_at dksX2_passes_8 0 rfl rfl)
theorem dX2_passes_190 : decode cX2_passes 190 = .ok (.goto 4, 3) := dk_167 0 4 (dk_at dksX2_passes_8 3 rfl rfl)
theorem dX2_passes_193 : decode cX2_passes 193 = .ok (.iconst 0, 1) := dk_3 (dk_at dksX2_passes_8 6 rfl rfl)
theorem dX2_passes_194 : decode cX2_passes 194 = .ok (.iastore, 1) := dk_79 (dk_at dksX2_passes_8 7 rfl rfl)
theorem dX2_passes_195 : decode cX2_passes 195 = .ok (.aload_n 0, 1) := dk_42 (dk_at dksX2_passes_8 8 rfl rfl)
theorem dX2_passes_196 : decode cX2_passes 196 = .ok (.dup, 1) := dk_89 (dk_at dksX2_passes_8 9 rfl rfl)
theorem dX2_passes_197 : decode cX2_passes 197 = .ok (.getfield 251, 3) := dk_180 0 251 (dk_at dksX2_passes_8 10 rfl rfl)
theorem dX2_passes_200 : decode cX2_passes 200 = .ok (.aload_n 0, 1) := dk_42 (dk_at dksX2_passes_8 13 rfl rfl)
theorem dX2_passes_201 : decode cX2_passes 201 = .ok (.getfield 77, 3) := dk_180 0 77 (dk_at dksX2_passes_8 14 rfl rfl)
theorem dX2_passes_204 : decode cX2_passes 204 = .ok (.iload 4, 2) := dk_21 4 (dk_at dksX2_passes_8 17 rfl rfl)
theorem dX2_passes_206 : decode cX2_passes 206 = .ok (.iaload, 1) := dk_46 (dk_at dksX2_passes_8 19 rfl rfl)
theorem dX2_passes_207 : decode cX2_passes 207 = .ok (.iadd, 1) := dk_96 (dk_at dksX2_passes_8 20 rfl rfl)
theorem dX2_passes_208 : decode cX2_passes 208 = .ok (.putfield 251, 3) := dk_181 0 251 (dk_at dksX2_passes_8 21 rfl rfl)
theorem dX2_passes_211 : decode cX2_passes 211 = .ok (.iinc 4 1, 3) := dk_132 4 1 (dk_at dksX2_passes_9 0 rfl rfl)
theorem dX2_passes_214 : decode cX2_passes 214 = .ok (.goto (-59), 3) := dk_167 255 197 (dk_at dksX2_passes_9 3 rfl rfl)
theorem dX2_passes_217 : decode cX2_passes 217 = .ok (.aload_n 0, 1) := dk_42 (dk_at dksX2_passes_9 6 rfl rfl)
theorem dX2_passes_218 : decode cX2_passes 218 = .ok (.iload_n 3, 1) := dk_29 (dk_at dksX2_passes_9 7 rfl rfl)
theorem dX2_passes_219 : decode cX2_passes 219 = .ok (.ifCond .eq 7, 3) := dk_153 0 7 (dk_at dksX2_passes_9 8 rfl rfl)
theorem dX2_passes_222 : decode cX2_passes 222 = .ok (.iconst 0, 1) := dk_3 (dk_at dksX2_passes_9 11 rfl rfl)
theorem dX2_passes_223 : decode cX2_passes 223 = .ok (.goto 7, 3) := dk_167 0 7 (dk_at dksX2_passes_9 12 rfl rfl)
theorem dX2_passes_226 : decode cX2_passes 226 = .ok (.aload_n 0, 1) := dk_42 (dk_at dksX2_passes_9 15 rfl rfl)
theorem dX2_passes_227 : decode cX2_passes 227 = .ok (.getfield 251, 3) := dk_180 0 251 (dk_at dksX2_passes_9 16 rfl rfl)
theorem dX2_passes_230 : decode cX2_passes 230 = .ok (.invokevirtual 258, 3) := dk_182 1 2 (dk_at dksX2_passes_9 19 rfl rfl)
theorem dX2_passes_233 : decode cX2_passes 233 = .ok (.return_, 1) := dk_177 (dk_at dksX2_passes_9 22 rfl rfl)
abbrev cX2_doesBloom : ByteArray := prog_12_method_58_code
def yX2_doesBloom : MethodName := ⟨RX2, "doesBloom", "(II)Z"⟩
def dkwX2_doesBloom_6 : List UInt8 := [180, 0, 68, 27, 46, 42, 180, 0, 44, 29, 7, 96, 46, 164, 0, 7, 4, 167, 0, 4, 3, 172]
abbrev dktX2_doesBloom_6 : List UInt8 := dkwX2_doesBloom_6 ++ []
def dkwX2_doesBloom_5 : List UInt8 := [180, 0, 206, 42, 180, 0, 44, 29, 16, 6, 96, 46, 112, 154, 0, 7, 4, 167, 0, 4, 3, 172, 42]
abbrev dktX2_doesBloom_5 : List UInt8 := dkwX2_doesBloom_5 ++ dktX2_doesBloom_6
def dkwX2_doesBloom_4 : List UInt8 := [4, 167, 0, 4, 3, 172, 42, 180, 0, 68, 27, 46, 42, 180, 0, 44, 29, 7, 96, 46, 164, 0, 24, 42]
abbrev dktX2_doesBloom_4 : List UInt8 := dkwX2_doesBloom_4 ++ dktX2_doesBloom_5
def dkwX2_doesBloom_3 : List UInt8 := [29, 7, 96, 46, 161, 0, 24, 42, 180, 0, 68, 27, 46, 42, 180, 0, 44, 29, 8, 96, 46, 161, 0, 7]
abbrev dktX2_doesBloom_3 : List UInt8 := dkwX2_doesBloom_3 ++ dktX2_doesBloom_4
def dkwX2_doesBloom_2 : List UInt8 := [42, 180, 0, 44, 29, 4, 96, 28, 96, 46, 158, 0, 7, 4, 167, 0, 4, 3, 172, 28, 42, 180, 0, 44]
abbrev dktX2_doesBloom_2 : List UInt8 := dkwX2_doesBloom_2 ++ dktX2_doesBloom_3
def dkwX2_doesBloom_1 : List UInt8 := [170, 0, 0, 0, 0, 0, 0, 130, 0, 0, 0, 1, 0, 0, 0, 5, 0, 0, 0, 36, 0, 0, 0, 130, 0, 0, 0, 55, 0, 0, 0, 130, 0, 0, 0, 90]
abbrev dktX2_doesBloom_1 : List UInt8 := dkwX2_doesBloom_1 ++ dktX2_doesBloom_2
def dkwX2_doesBloom_0 : List UInt8 := [16, 7, 42, 180, 0, 65, 27, 46, 104, 62, 42, 180, 0, 44, 29, 46]
abbrev dktX2_doesBloom_0 : List UInt8 := dkwX2_doesBloom_0 ++ dktX2_doesBloom_1
theorem dksX2_doesBloom_0 : cX2_doesBloom.data.toList.drop 0 = dktX2_doesBloom_0 := by decide +kernel
theorem dksX2_doesBloom_1 : cX2_doesBloom.data.toList.drop 16 = dktX2_doesBloom_1 := dk_seg dksX2_doesBloom_0 16 rfl rfl
theorem dksX2_doesBloom_2 : cX2_doesBloom.data.toList.drop 52 = dktX2_doesBloom_2 := dk_seg dksX2_doesBloom_1 36 rfl rfl
theorem dksX2_doesBloom_3 : cX2_doesBloom.data.toList.drop 76 = dktX2_doesBloom_3 := dk_seg dksX2_doesBloom_2 24 rfl rfl
theorem dksX2_doesBloom_4 : cX2_doesBloom.data.toList.drop 100 = dktX2_doesBloom_4 := dk_seg dksX2_doesBloom_3 24 rfl rfl
theorem dksX2_doesBloom_5 : cX2_doesBloom.data.toList.drop 124 = dktX2_doesBloom_5 := dk_seg dksX2_doesBloom_4 24 rfl rfl
theorem dksX2_doesBloom_6 : cX2_doesBloom.data.toList.drop 147 = dktX2_doesBloom_6 := dk_seg dksX2_doesBloom_5 23 rfl rfl
theorem dX2_doesBloom_0 : decode cX2_doesBloom 0 = .ok (.bipush 7, 2) := dk_16 7 (dk_at dksX2_doesBloom_0 0 rfl rfl)
theorem dX2_doesBloom_2 : decode cX2_doesBloom 2 = .ok (.aload_n 0, 1) := dk_42 (dk_at dksX2_doesBloom_0 2 rfl rfl)
theorem dX2_doesBloom_3 : decode cX2_doesBloom 3 = .ok (.getfield 65, 3) := dk_180 0 65 (dk_at dksX2_doesBloom_0 3 rfl rfl)
theorem dX2_doesBloom_6 : decode cX2_doesBloom 6 = .ok (.iload_n 1, 1) := dk_27 (dk_at dksX2_doesBloom_0 6 rfl rfl)
theorem dX2_doesBloom_7 : decode cX2_doesBloom 7 = .ok (.iaload, 1) := dk_46 (dk_at dksX2_doesBloom_0 7 rfl rfl)
theorem dX2_doesBloom_8 : decode cX2_doesBloom 8 = .ok (.imul, 1) := dk_104 (dk_at dksX2_doesBloom_0 8 rfl rfl)
theorem dX2_doesBloom_9 : decode cX2_doesBloom 9 = .ok (.istore_n 3, 1) := dk_62 (dk_at dksX2_doesBloom_0 9 rfl rfl)
theorem dX2_doesBloom_10 : decode cX2_doesBloom 10 = .ok (.aload_n 0, 1) := dk_42 (dk_at dksX2_doesBloom_0 10 rfl rfl)
theorem dX2_doesBloom_11 : decode cX2_doesBloom 11 = .ok (.getfield 44, 3) := dk_180 0 44 (dk_at dksX2_doesBloom_0 11 rfl rfl)
theorem dX2_doesBloom_14 : decode cX2_doesBloom 14 = .ok (.iload_n 3, 1) := dk_29 (dk_at dksX2_doesBloom_0 14 rfl rfl)
theorem dX2_doesBloom_15 : decode cX2_doesBloom 15 = .ok (.iaload, 1) := dk_46 (dk_at dksX2_doesBloom_0 15 rfl rfl)
theorem dX2_doesBloom_16 : decode cX2_doesBloom 16 = .ok (.tableswitch 130 1 5 #[36, 130, 55, 130, 90], 36) := by decide +kernel
theorem dX2_doesBloom_52 : decode cX2_doesBloom 52 = .ok (.aload_n 0, 1) := dk_42 (dk_at dksX2_doesBloom_2 0 rfl rfl)
theorem dX2_doesBloom_53 : decode cX2_doesBloom 53 = .ok (.getfield 44, 3) := dk_180 0 44 (dk_at dksX2_doesBloom_2 1 rfl rfl)
theorem dX2_doesBloom_56 : decode cX2_doesBloom 56 = .ok (.iload_n 3, 1) := dk_29 (dk_at dksX2_doesBloom_2 4 rfl rfl)
theorem dX2_doesBloom_57 : decode cX2_doesBloom 57 = .ok (.iconst 1, 1) := dk_4 (dk_at dksX2_doesBloom_2 5 rfl rfl)
theorem dX2_doesBloom_58 : decode cX2_doesBloom 58 = .ok (.iadd, 1) := dk_96 (dk_at dksX2_doesBloom_2 6 rfl rfl)
theorem dX2_doesBloom_59 : decode cX2_doesBloom 59 = .ok (.iload_n 2, 1) := dk_28 (dk_at dksX2_doesBloom_2 7 rfl rfl)
theorem dX2_doesBloom_60 : decode cX2_doesBloom 60 = .ok (.iadd, 1) := dk_96 (dk_at dksX2_doesBloom_2 8 rfl rfl)
theorem dX2_doesBloom_61 : decode cX2_doesBloom 61 = .ok (.iaload, 1) := dk_46 (dk_at dksX2_doesBloom_2 9 rfl rfl)
theorem dX2_doesBloom_62 : decode cX2_doesBloom 62 = .ok (.ifCond .le 7, 3) := dk_158 0 7 (dk_at dksX2_doesBloom_2 10 rfl rfl)
theorem dX2_doesBloom_65 : decode cX2_doesBloom 65 = .ok (.iconst 1, 1) := dk_4 (dk_at dksX2_doesBloom_2 13 rfl rfl)
theorem dX2_doesBloom_66 : decode cX2_doesBloom 66 = .ok (.goto 4, 3) := dk_167 0 4 (dk_at dksX2_doesBloom_2 14 rfl rfl)
theorem dX2_doesBloom_69 : decode cX2_doesBloom 69 = .ok (.iconst 0, 1) := dk_3 (dk_at dksX2_doesBloom_2 17 rfl rfl)
theorem dX2_doesBloom_70 : decode cX2_doesBloom 70 = .ok (.ireturn, 1) := dk_172 (dk_at dksX2_doesBloom_2 18 rfl rfl)
theorem dX2_doesBloom_71 : decode cX2_doesBloom 71 = .ok (.iload_n 2, 1) := dk_28 (dk_at dksX2_doesBloom_2 19 rfl rfl)
theorem dX2_doesBloom_72 : decode cX2_doesBloom 72 = .ok (.aload_n 0, 1) := dk_42 (dk_at dksX2_doesBloom_2 20 rfl rfl)
theorem dX2_doesBloom_73 : decode cX2_doesBloom 73 = .ok (.getfield 44, 3) := dk_180 0 44 (dk_at dksX2_doesBloom_2 21 rfl rfl)
theorem dX2_doesBloom_76 : decode cX2_doesBloom 76 = .ok (.iload_n 3, 1) := dk_29 (dk_at dksX2_doesBloom_3 0 rfl rfl)
theorem dX2_doesBloom_77 : decode cX2_doesBloom 77 = .ok (.iconst 4, 1) := dk_7 (dk_at dksX2_doesBloom_3 1 rfl rfl)
theorem dX2_doesBloom_78 : decode cX2_doesBloom 78 = .ok (.iadd, 1) := dk_96 (dk_at dksX2_doesBloom_3 2 rfl rfl)
theorem dX2_doesBloom_79 : decode cX2_doesBloom 79 = .ok (.iaload, 1) := dk_46 (dk_at dksX2_doesBloom_3 3 rfl rfl)
theorem dX2_doesBloom_80 : decode cX2_doesBloom 80 = .ok (.if_icmp .lt 24, 3) := dk_161 0 24 (dk_at dksX2_doesBloom_3 4 rfl rfl)
theorem dX2_doesBloom_83 : decode cX2_doesBloom 83 = .ok (.aload_n 0, 1) := dk_42 (dk_at dksX2_doesBloom_3 7 rfl rfl)
theorem dX2_doesBloom_84 : decode cX2_doesBloom 84 = .ok (.getfield 68, 3) := dk_180 0 68 (dk_at dksX2_doesBloom_3 8 rfl rfl)
theorem dX2_doesBloom_87 : decode cX2_doesBloom 87 = .ok (.iload_n 1, 1) := dk_27 (dk_at dksX2_doesBloom_3 11 rfl rfl)
theorem dX2_doesBloom_88 : decode cX2_doesBloom 88 = .ok (.iaload, 1) := dk_46 (dk_at dksX2_doesBloom_3 12 rfl rfl)
theorem dX2_doesBloom_89 : decode cX2_doesBloom 89 = .ok (.aload_n 0, 1) := dk_42 (dk_at dksX2_doesBloom_3 13 rfl rfl)
theorem dX2_doesBloom_90 : decode cX2_doesBloom 90 = .ok (.getfield 44, 3) := dk_180 0 44 (dk_at dksX2_doesBloom_3 14 rfl rfl)
theorem dX2_doesBloom_93 : decode cX2_doesBloom 93 = .ok (.iload_n 3, 1) := dk_29 (dk_at dksX2_doesBloom_3 17 rfl rfl)
theorem dX2_doesBloom_94 : decode cX2_doesBloom 94 = .ok (.iconst 5, 1) := dk_8 (dk_at dksX2_doesBloom_3 18 rfl rfl)
theorem dX2_doesBloom_95 : decode cX2_doesBloom 95 = .ok (.iadd, 1) := dk_96 (dk_at dksX2_doesBloom_3 19 rfl rfl)
theorem dX2_doesBloom_96 : decode cX2_doesBloom 96 = .ok (.iaload, 1) := dk_46 (dk_at dksX2_doesBloom_3 20 rfl rfl)
theorem dX2_doesBloom_97 : decode cX2_doesBloom 97 = .ok (.if_icmp .lt 7, 3) := dk_161 0 7 (dk_at dksX2_doesBloom_3 21 rfl rfl)
theorem dX2_doesBloom_100 : decode cX2_doesBloom 100 = .ok (.iconst 1, 1) := dk_4 (dk_at dksX2_doesBloom_4 0 rfl rfl)
theorem dX2_doesBloom_101 : decode cX2_doesBloom 101 = .ok (.goto 4, 3) := dk_167 0 4 (dk_at dksX2_doesBloom_4 1 rfl rfl)
theorem dX2_doesBloom_104 : decode cX2_doesBloom 104 = .ok (.iconst 0, 1) := dk_3 (dk_at dksX2_doesBloom_4 4 rfl rfl)
theorem dX2_doesBloom_105 : decode cX2_doesBloom 105 = .ok (.ireturn, 1) := dk_172 (dk_at dksX2_doesBloom_4 5 rfl rfl)
theorem dX2_doesBloom_106 : decode cX2_doesBloom 106 = .ok (.aload_n 0, 1) := dk_42 (dk_at dksX2_doesBloom_4 6 rfl rfl)
theorem dX2_doesBloom_107 : decode cX2_doesBloom 107 = .ok (.getfield 68, 3) := dk_180 0 68 (dk_at dksX2_doesBloom_4 7 rfl rfl)
theorem dX2_doesBloom_110 : decode cX2_doesBloom 110 = .ok (.iload_n 1, 1) := dk_27 (dk_at dksX2_doesBloom_4 10 rfl rfl)
theorem dX2_doesBloom_111 : decode cX2_doesBloom 111 = .ok (.iaload, 1) := dk_46 (dk_at dksX2_doesBloom_4 11 rfl rfl)
theorem dX2_doesBloom_112 : decode cX2_doesBloom 112 = .ok (.aload_n 0, 1) := dk_42 (dk_at dksX2_doesBloom_4 12 rfl rfl)
theorem dX2_doesBloom_113 : decode cX2_doesBloom 113 = .ok (.getfield 44, 3) := dk_180 0 44 (dk_at dksX2_doesBloom_4 13 rfl rfl)
theorem dX2_doesBloom_116 : decode cX2_doesBloom 116 = .ok (.iload_n 3, 1) := dk_29 (dk_at dksX2_doesBloom_4 16 rfl rfl)
theorem dX2_doesBloom_117 : decode cX2_doesBloom 117 = .ok (.iconst 4, 1) := dk_7 (dk_at dksX2_doesBloom_4 17 rfl rfl)
theorem dX2_doesBloom_118 : decode cX2_doesBloom 118 = .ok (.iadd, 1) := dk_96 (dk_at dksX2_doesBloom_4 18 rfl rfl)
theorem dX2_doesBloom_119 : decode cX2_doesBloom 119 = .ok (.iaload, 1) := dk_46 (dk_at dksX2_doesBloom_4 19 rfl rfl)
theorem dX2_doesBloom_120 : decode cX2_doesBloom 120 = .ok (.if_icmp .le 24, 3) := dk_164 0 24 (dk_at dksX2_doesBloom_4 20 rfl rfl)
theorem dX2_doesBloom_123 : decode cX2_doesBloom 123 = .ok (.aload_n 0, 1) := dk_42 (dk_at dksX2_doesBloom_4 23 rfl rfl)
theorem dX2_doesBloom_124 : decode cX2_doesBloom 124 = .ok (.getfield 206, 3) := dk_180 0 206 (dk_at dksX2_doesBloom_5 0 rfl rfl)
theorem dX2_doesBloom_127 : decode cX2_doesBloom 127 = .ok (.aload_n 0, 1) := dk_42 (dk_at dksX2_doesBloom_5 3 rfl rfl)
theorem dX2_doesBloom_128 : decode cX2_doesBloom 128 = .ok (.getfield 44, 3) := dk_180 0 44 (dk_at dksX2_doesBloom_5 4 rfl rfl)
theorem dX2_doesBloom_131 : decode cX2_doesBloom 131 = .ok (.iload_n 3, 1) := dk_29 (dk_at dksX2_doesBloom_5 7 rfl rfl)
theorem dX2_doesBloom_132 : decode cX2_doesBloom 132 = .ok (.bipush 6, 2) := dk_16 6 (dk_at dksX2_doesBloom_5 8 rfl rfl)
theorem dX2_doesBloom_134 : decode cX2_doesBloom 134 = .ok (.iadd, 1) := dk_96 (dk_at dksX2_doesBloom_5 10 rfl rfl)
theorem dX2_doesBloom_135 : decode cX2_doesBloom 135 = .ok (.iaload, 1) := dk_46 (dk_at dksX2_doesBloom_5 11 rfl rfl)
theorem dX2_doesBloom_136 : decode cX2_doesBloom 136 = .ok (.irem, 1) := dk_112 (dk_at dksX2_doesBloom_5 12 rfl rfl)
theorem dX2_doesBloom_137 : decode cX2_doesBloom 137 = .ok (.ifCond .ne 7, 3) := dk_154 0 7 (dk_at dksX2_doesBloom_5 13 rfl rfl)
theorem dX2_doesBloom_140 : decode cX2_doesBloom 140 = .ok (.iconst 1, 1) := dk_4 (dk_at dksX2_doesBloom_5 16 rfl rfl)
theorem dX2_doesBloom_141 : decode cX2_doesBloom 141 = .ok (.goto 4, 3) := dk_167 0 4 (dk_at dksX2_doesBloom_5 17 rfl rfl)
theorem dX2_doesBloom_144 : decode cX2_doesBloom 144 = .ok (.iconst 0, 1) := dk_3 (dk_at dksX2_doesBloom_5 20 rfl rfl)
theorem dX2_doesBloom_145 : decode cX2_doesBloom 145 = .ok (.ireturn, 1) := dk_172 (dk_at dksX2_doesBloom_5 21 rfl rfl)
theorem dX2_doesBloom_146 : decode cX2_doesBloom 146 = .ok (.aload_n 0, 1) := dk_42 (dk_at dksX2_doesBloom_5 22 rfl rfl)
theorem dX2_doesBloom_147 : decode cX2_doesBloom 147 = .ok (.getfield 68, 3) := dk_180 0 68 (dk_at dksX2_doesBloom_6 0 rfl rfl)
theorem dX2_doesBloom_150 : decode cX2_doesBloom 150 = .ok (.iload_n 1, 1) := dk_27 (dk_at dksX2_doesBloom_6 3 rfl rfl)
theorem dX2_doesBloom_151 : decode cX2_doesBloom 151 = .ok (.iaload, 1) := dk_46 (dk_at dksX2_doesBloom_6 4 rfl rfl)
theorem dX2_doesBloom_152 : decode cX2_doesBloom 152 = .ok (.aload_n 0, 1) := dk_42 (dk_at dksX2_doesBloom_6 5 rfl rfl)
theorem dX2_doesBloom_153 : decode cX2_doesBloom 153 = .ok (.getfield 44, 3) := dk_180 0 44 (dk_at dksX2_doesBloom_6 6 rfl rfl)
theorem dX2_doesBloom_156 : decode cX2_doesBloom 156 = .ok (.iload_n 3, 1) := dk_29 (dk_at dksX2_doesBloom_6 9 rfl rfl)
theorem dX2_doesBloom_157 : decode cX2_doesBloom 157 = .ok (.iconst 4, 1) := dk_7 (dk_at dksX2_doesBloom_6 10 rfl rfl)
theorem dX2_doesBloom_158 : decode cX2_doesBloom 158 = .ok (.iadd, 1) := dk_96 (dk_at dksX2_doesBloom_6 11 rfl rfl)
theorem dX2_doesBloom_159 : decode cX2_doesBloom 159 = .ok (.iaload, 1) := dk_46 (dk_at dksX2_doesBloom_6 12 rfl rfl)
theorem dX2_doesBloom_160 : decode cX2_doesBloom 160 = .ok (.if_icmp .le 7, 3) := dk_164 0 7 (dk_at dksX2_doesBloom_6 13 rfl rfl)
theorem dX2_doesBloom_163 : decode cX2_doesBloom 163 = .ok (.iconst 1, 1) := dk_4 (dk_at dksX2_doesBloom_6 16 rfl rfl)
theorem dX2_doesBloom_164 : decode cX2_doesBloom 164 = .ok (.goto 4, 3) := dk_167 0 4 (dk_at dksX2_doesBloom_6 17 rfl rfl)
theorem dX2_doesBloom_167 : decode cX2_doesBloom 167 = .ok (.iconst 0, 1) := dk_3 (dk_at dksX2_doesBloom_6 20 rfl rfl)
theorem dX2_doesBloom_168 : decode cX2_doesBloom 168 = .ok (.ireturn, 1) := dk_172 (dk_at dksX2_doesBloom_6 21 rfl rfl)
abbrev cX2_has : ByteArray := prog_12_method_3_code
def yX2_has : MethodName := ⟨RX2, "has", "(II)Z"⟩
def dkwX2_has_0 : List UInt8 := [26, 27, 122, 4, 126, 4, 160, 0, 7, 4, 167, 0, 4, 3, 172]
abbrev dktX2_has_0 : List UInt8 := dkwX2_has_0 ++ []
theorem dksX2_has_0 : cX2_has.data.toList.drop 0 = dktX2_has_0 := by decide +kernel
theorem dX2_has_0 : decode cX2_has 0 = .ok (.iload_n 0, 1) := dk_26 (dk_at dksX2_has_0 0 rfl rfl)
theorem dX2_has_1 : decode cX2_has 1 = .ok (.iload_n 1, 1) := dk_27 (dk_at dksX2_has_0 1 rfl rfl)
theorem dX2_has_2 : decode cX2_has 2 = .ok (.ishr, 1) := dk_122 (dk_at dksX2_has_0 2 rfl rfl)
theorem dX2_has_3 : decode cX2_has 3 = .ok (.iconst 1, 1) := dk_4 (dk_at dksX2_has_0 3 rfl rfl)
theorem dX2_has_4 : decode cX2_has 4 = .ok (.iand, 1) := dk_126 (dk_at dksX2_has_0 4 rfl rfl)
theorem dX2_has_5 : decode cX2_has 5 = .ok (.iconst 1, 1) := dk_4 (dk_at dksX2_has_0 5 rfl rfl)
theorem dX2_has_6 : decode cX2_has 6 = .ok (.if_icmp .ne 7, 3) := dk_160 0 7 (dk_at dksX2_has_0 6 rfl rfl)
theorem dX2_has_9 : decode cX2_has 9 = .ok (.iconst 1, 1) := dk_4 (dk_at dksX2_has_0 9 rfl rfl)
theorem dX2_has_10 : decode cX2_has 10 = .ok (.goto 4, 3) := dk_167 0 4 (dk_at dksX2_has_0 10 rfl rfl)
theorem dX2_has_13 : decode cX2_has 13 = .ok (.iconst 0, 1) := dk_3 (dk_at dksX2_has_0 13 rfl rfl)
theorem dX2_has_14 : decode cX2_has 14 = .ok (.ireturn, 1) := dk_172 (dk_at dksX2_has_0 14 rfl rfl)
abbrev cX2_sets : ByteArray := prog_12_method_61_code
def yX2_sets : MethodName := ⟨RX2, "sets", "(III)I"⟩
def dkwX2_sets_5 : List UInt8 := [5, 108, 100, 79, 21, 5, 153, 0, 15, 42, 180, 0, 44, 21, 4, 8, 96, 46, 167, 0, 4, 3, 172]
abbrev dktX2_sets_5 : List UInt8 := dkwX2_sets_5 ++ []
def dkwX2_sets_4 : List UInt8 := [153, 0, 15, 42, 180, 0, 44, 21, 4, 8, 96, 46, 167, 0, 14, 42, 180, 0, 44, 21, 4, 8, 96, 46]
abbrev dktX2_sets_4 : List UInt8 := dkwX2_sets_4 ++ dktX2_sets_5
def dkwX2_sets_3 : List UInt8 := [182, 1, 6, 104, 161, 0, 7, 4, 167, 0, 4, 3, 54, 5, 42, 180, 0, 68, 27, 92, 46, 21, 5]
abbrev dktX2_sets_3 : List UInt8 := dkwX2_sets_3 ++ dktX2_sets_4
def dkwX2_sets_2 : List UInt8 := [42, 27, 29, 4, 182, 1, 6, 104, 42, 180, 0, 44, 21, 4, 16, 6, 96, 46, 42, 27, 29, 3]
abbrev dktX2_sets_2 : List UInt8 := dkwX2_sets_2 ++ dktX2_sets_3
def dkwX2_sets_1 : List UInt8 := [180, 0, 44, 21, 4, 4, 96, 28, 96, 46, 172, 42, 180, 0, 44, 21, 4, 46, 7, 160, 0, 34, 16, 100]
abbrev dktX2_sets_1 : List UInt8 := dkwX2_sets_1 ++ dktX2_sets_2
def dkwX2_sets_0 : List UInt8 := [16, 7, 42, 180, 0, 65, 27, 46, 104, 54, 4, 42, 180, 0, 44, 21, 4, 46, 4, 160, 0, 15, 42]
abbrev dktX2_sets_0 : List UInt8 := dkwX2_sets_0 ++ dktX2_sets_1
theorem dksX2_sets_0 : cX2_sets.data.toList.drop 0 = dktX2_sets_0 := by decide +kernel
theorem dksX2_sets_1 : cX2_sets.data.toList.drop 23 = dktX2_sets_1 := dk_seg dksX2_sets_0 23 rfl rfl
theorem dksX2_sets_2 : cX2_sets.data.toList.drop 47 = dktX2_sets_2 := dk_seg dksX2_sets_1 24 rfl rfl
theorem dksX2_sets_3 : cX2_sets.data.toList.drop 69 = dktX2_sets_3 := dk_seg dksX2_sets_2 22 rfl rfl
theorem dksX2_sets_4 : cX2_sets.data.toList.drop 92 = dktX2_sets_4 := dk_seg dksX2_sets_3 23 rfl rfl
theorem dksX2_sets_5 : cX2_sets.data.toList.drop 116 = dktX2_sets_5 := dk_seg dksX2_sets_4 24 rfl rfl
theorem dX2_sets_0 : decode cX2_sets 0 = .ok (.bipush 7, 2) := dk_16 7 (dk_at dksX2_sets_0 0 rfl rfl)
theorem dX2_sets_2 : decode cX2_sets 2 = .ok (.aload_n 0, 1) := dk_42 (dk_at dksX2_sets_0 2 rfl rfl)
theorem dX2_sets_3 : decode cX2_sets 3 = .ok (.getfield 65, 3) := dk_180 0 65 (dk_at dksX2_sets_0 3 rfl rfl)
theorem dX2_sets_6 : decode cX2_sets 6 = .ok (.iload_n 1, 1) := dk_27 (dk_at dksX2_sets_0 6 rfl rfl)
theorem dX2_sets_7 : decode cX2_sets 7 = .ok (.iaload, 1) := dk_46 (dk_at dksX2_sets_0 7 rfl rfl)
theorem dX2_sets_8 : decode cX2_sets 8 = .ok (.imul, 1) := dk_104 (dk_at dksX2_sets_0 8 rfl rfl)
theorem dX2_sets_9 : decode cX2_sets 9 = .ok (.istore 4, 2) := dk_54 4 (dk_at dksX2_sets_0 9 rfl rfl)
theorem dX2_sets_11 : decode cX2_sets 11 = .ok (.aload_n 0, 1) := dk_42 (dk_at dksX2_sets_0 11 rfl rfl)
theorem dX2_sets_12 : decode cX2_sets 12 = .ok (.getfield 44, 3) := dk_180 0 44 (dk_at dksX2_sets_0 12 rfl rfl)
theorem dX2_sets_15 : decode cX2_sets 15 = .ok (.iload 4, 2) := dk_21 4 (dk_at dksX2_sets_0 15 rfl rfl)
theorem dX2_sets_17 : decode cX2_sets 17 = .ok (.iaload, 1) := dk_46 (dk_at dksX2_sets_0 17 rfl rfl)
theorem dX2_sets_18 : decode cX2_sets 18 = .ok (.iconst 1, 1) := dk_4 (dk_at dksX2_sets_0 18 rfl rfl)
theorem dX2_sets_19 : decode cX2_sets 19 = .ok (.if_icmp .ne 15, 3) := dk_160 0 15 (dk_at dksX2_sets_0 19 rfl rfl)
theorem dX2_sets_22 : decode cX2_sets 22 = .ok (.aload_n 0, 1) := dk_42 (dk_at dksX2_sets_0 22 rfl rfl)
theorem dX2_sets_23 : decode cX2_sets 23 = .ok (.getfield 44, 3) := dk_180 0 44 (dk_at dksX2_sets_1 0 rfl rfl)
theorem dX2_sets_26 : decode cX2_sets 26 = .ok (.iload 4, 2) := dk_21 4 (dk_at dksX2_sets_1 3 rfl rfl)
theorem dX2_sets_28 : decode cX2_sets 28 = .ok (.iconst 1, 1) := dk_4 (dk_at dksX2_sets_1 5 rfl rfl)
theorem dX2_sets_29 : decode cX2_sets 29 = .ok (.iadd, 1) := dk_96 (dk_at dksX2_sets_1 6 rfl rfl)
theorem dX2_sets_30 : decode cX2_sets 30 = .ok (.iload_n 2, 1) := dk_28 (dk_at dksX2_sets_1 7 rfl rfl)
theorem dX2_sets_31 : decode cX2_sets 31 = .ok (.iadd, 1) := dk_96 (dk_at dksX2_sets_1 8 rfl rfl)
theorem dX2_sets_32 : decode cX2_sets 32 = .ok (.iaload, 1) := dk_46 (dk_at dksX2_sets_1 9 rfl rfl)
theorem dX2_sets_33 : decode cX2_sets 33 = .ok (.ireturn, 1) := dk_172 (dk_at dksX2_sets_1 10 rfl rfl)
theorem dX2_sets_34 : decode cX2_sets 34 = .ok (.aload_n 0, 1) := dk_42 (dk_at dksX2_sets_1 11 rfl rfl)
theorem dX2_sets_35 : decode cX2_sets 35 = .ok (.getfield 44, 3) := dk_180 0 44 (dk_at dksX2_sets_1 12 rfl rfl)
theorem dX2_sets_38 : decode cX2_sets 38 = .ok (.iload 4, 2) := dk_21 4 (dk_at dksX2_sets_1 15 rfl rfl)
theorem dX2_sets_40 : decode cX2_sets 40 = .ok (.iaload, 1) := dk_46 (dk_at dksX2_sets_1 17 rfl rfl)
theorem dX2_sets_41 : decode cX2_sets 41 = .ok (.iconst 4, 1) := dk_7 (dk_at dksX2_sets_1 18 rfl rfl)
theorem dX2_sets_42 : decode cX2_sets 42 = .ok (.if_icmp .ne 34, 3) := dk_160 0 34 (dk_at dksX2_sets_1 19 rfl rfl)
theorem dX2_sets_45 : decode cX2_sets 45 = .ok (.bipush 100, 2) := dk_16 100 (dk_at dksX2_sets_1 22 rfl rfl)
theorem dX2_sets_47 : decode cX2_sets 47 = .ok (.aload_n 0, 1) := dk_42 (dk_at dksX2_sets_2 0 rfl rfl)
theorem dX2_sets_48 : decode cX2_sets 48 = .ok (.iload_n 1, 1) := dk_27 (dk_at dksX2_sets_2 1 rfl rfl)
theorem dX2_sets_49 : decode cX2_sets 49 = .ok (.iload_n 3, 1) := dk_29 (dk_at dksX2_sets_2 2 rfl rfl)
theorem dX2_sets_50 : decode cX2_sets 50 = .ok (.iconst 1, 1) := dk_4 (dk_at dksX2_sets_2 3 rfl rfl)
theorem dX2_sets_51 : decode cX2_sets 51 = .ok (.invokevirtual 262, 3) := dk_182 1 6 (dk_at dksX2_sets_2 4 rfl rfl)
theorem dX2_sets_54 : decode cX2_sets 54 = .ok (.imul, 1) := dk_104 (dk_at dksX2_sets_2 7 rfl rfl)
theorem dX2_sets_55 : decode cX2_sets 55 = .ok (.aload_n 0, 1) := dk_42 (dk_at dksX2_sets_2 8 rfl rfl)
theorem dX2_sets_56 : decode cX2_sets 56 = .ok (.getfield 44, 3) := dk_180 0 44 (dk_at dksX2_sets_2 9 rfl rfl)
theorem dX2_sets_59 : decode cX2_sets 59 = .ok (.iload 4, 2) := dk_21 4 (dk_at dksX2_sets_2 12 rfl rfl)
theorem dX2_sets_61 : decode cX2_sets 61 = .ok (.bipush 6, 2) := dk_16 6 (dk_at dksX2_sets_2 14 rfl rfl)
theorem dX2_sets_63 : decode cX2_sets 63 = .ok (.iadd, 1) := dk_96 (dk_at dksX2_sets_2 16 rfl rfl)
theorem dX2_sets_64 : decode cX2_sets 64 = .ok (.iaload, 1) := dk_46 (dk_at dksX2_sets_2 17 rfl rfl)
theorem dX2_sets_65 : decode cX2_sets 65 = .ok (.aload_n 0, 1) := dk_42 (dk_at dksX2_sets_2 18 rfl rfl)
theorem dX2_sets_66 : decode cX2_sets 66 = .ok (.iload_n 1, 1) := dk_27 (dk_at dksX2_sets_2 19 rfl rfl)
theorem dX2_sets_67 : decode cX2_sets 67 = .ok (.iload_n 3, 1) := dk_29 (dk_at dksX2_sets_2 20 rfl rfl)
theorem dX2_sets_68 : decode cX2_sets 68 = .ok (.iconst 0, 1) := dk_3 (dk_at dksX2_sets_2 21 rfl rfl)
theorem dX2_sets_69 : decode cX2_sets 69 = .ok (.invokevirtual 262, 3) := dk_182 1 6 (dk_at dksX2_sets_3 0 rfl rfl)
theorem dX2_sets_72 : decode cX2_sets 72 = .ok (.imul, 1) := dk_104 (dk_at dksX2_sets_3 3 rfl rfl)
theorem dX2_sets_73 : decode cX2_sets 73 = .ok (.if_icmp .lt 7, 3) := dk_161 0 7 (dk_at dksX2_sets_3 4 rfl rfl)
theorem dX2_sets_76 : decode cX2_sets 76 = .ok (.iconst 1, 1) := dk_4 (dk_at dksX2_sets_3 7 rfl rfl)
theorem dX2_sets_77 : decode cX2_sets 77 = .ok (.goto 4, 3) := dk_167 0 4 (dk_at dksX2_sets_3 8 rfl rfl)
theorem dX2_sets_80 : decode cX2_sets 80 = .ok (.iconst 0, 1) := dk_3 (dk_at dksX2_sets_3 11 rfl rfl)
theorem dX2_sets_81 : decode cX2_sets 81 = .ok (.istore 5, 2) := dk_54 5 (dk_at dksX2_sets_3 12 rfl rfl)
theorem dX2_sets_83 : decode cX2_sets 83 = .ok (.aload_n 0, 1) := dk_42 (dk_at dksX2_sets_3 14 rfl rfl)
theorem dX2_sets_84 : decode cX2_sets 84 = .ok (.getfield 68, 3) := dk_180 0 68 (dk_at dksX2_sets_3 15 rfl rfl)
theorem dX2_sets_87 : decode cX2_sets 87 = .ok (.iload_n 1, 1) := dk_27 (dk_at dksX2_sets_3 18 rfl rfl)
theorem dX2_sets_88 : decode cX2_sets 88 = .ok (.dup2, 1) := dk_92 (dk_at dksX2_sets_3 19 rfl rfl)
theorem dX2_sets_89 : decode cX2_sets 89 = .ok (.iaload, 1) := dk_46 (dk_at dksX2_sets_3 20 rfl rfl)
theorem dX2_sets_90 : decode cX2_sets 90 = .ok (.iload 5, 2) := dk_21 5 (dk_at dksX2_sets_3 21 rfl rfl)
theorem dX2_sets_92 : decode cX2_sets 92 = .ok (.ifCond .eq 15, 3) := dk_153 0 15 (dk_at dksX2_sets_4 0 rfl rfl)
theorem dX2_sets_95 : decode cX2_sets 95 = .ok (.aload_n 0, 1) := dk_42 (dk_at dksX2_sets_4 3 rfl rfl)
theorem dX2_sets_96 : decode cX2_sets 96 = .ok (.getfield 44, 3) := dk_180 0 44 (dk_at dksX2_sets_4 4 rfl rfl)
theorem dX2_sets_99 : decode cX2_sets 99 = .ok (.iload 4, 2) := dk_21 4 (dk_at dksX2_sets_4 7 rfl rfl)
theorem dX2_sets_101 : decode cX2_sets 101 = .ok (.iconst 5, 1) := dk_8 (dk_at dksX2_sets_4 9 rfl rfl)
theorem dX2_sets_102 : decode cX2_sets 102 = .ok (.iadd, 1) := dk_96 (dk_at dksX2_sets_4 10 rfl rfl)
theorem dX2_sets_103 : decode cX2_sets 103 = .ok (.iaload, 1) := dk_46 (dk_at dksX2_sets_4 11 rfl rfl)
theorem dX2_sets_104 : decode cX2_sets 104 = .ok (.goto 14, 3) := dk_167 0 14 (dk_at dksX2_sets_4 12 rfl rfl)
theorem dX2_sets_107 : decode cX2_sets 107 = .ok (.aload_n 0, 1) := dk_42 (dk_at dksX2_sets_4 15 rfl rfl)
theorem dX2_sets_108 : decode cX2_sets 108 = .ok (.getfield 44, 3) := dk_180 0 44 (dk_at dksX2_sets_4 16 rfl rfl)
theorem dX2_sets_111 : decode cX2_sets 111 = .ok (.iload 4, 2) := dk_21 4 (dk_at dksX2_sets_4 19 rfl rfl)
theorem dX2_sets_113 : decode cX2_sets 113 = .ok (.iconst 5, 1) := dk_8 (dk_at dksX2_sets_4 21 rfl rfl)
theorem dX2_sets_114 : decode cX2_sets 114 = .ok (.iadd, 1) := dk_96 (dk_at dksX2_sets_4 22 rfl rfl)
theorem dX2_sets_115 : decode cX2_sets 115 = .ok (.iaload, 1) := dk_46 (dk_at dksX2_sets_4 23 rfl rfl)
theorem dX2_sets_116 : decode cX2_sets 116 = .ok (.iconst 2, 1) := dk_5 (dk_at dksX2_sets_5 0 rfl rfl)
theorem dX2_sets_117 : decode cX2_sets 117 = .ok (.idiv, 1) := dk_108 (dk_at dksX2_sets_5 1 rfl rfl)
theorem dX2_sets_118 : decode cX2_sets 118 = .ok (.isub, 1) := dk_100 (dk_at dksX2_sets_5 2 rfl rfl)
theorem dX2_sets_119 : decode cX2_sets 119 = .ok (.iastore, 1) := dk_79 (dk_at dksX2_sets_5 3 rfl rfl)
theorem dX2_sets_120 : decode cX2_sets 120 = .ok (.iload 5, 2) := dk_21 5 (dk_at dksX2_sets_5 4 rfl rfl)
theorem dX2_sets_122 : decode cX2_sets 122 = .ok (.ifCond .eq 15, 3) := dk_153 0 15 (dk_at dksX2_sets_5 6 rfl rfl)
theorem dX2_sets_125 : decode cX2_sets 125 = .ok (.aload_n 0, 1) := dk_42 (dk_at dksX2_sets_5 9 rfl rfl)
theorem dX2_sets_126 : decode cX2_sets 126 = .ok (.getfield 44, 3) := dk_180 0 44 (dk_at dksX2_sets_5 10 rfl rfl)
theorem dX2_sets_129 : decode cX2_sets 129 = .ok (.iload 4, 2) := dk_21 4 (dk_at dksX2_sets_5 13 rfl rfl)
theorem dX2_sets_131 : decode cX2_sets 131 = .ok (.iconst 5, 1) := dk_8 (dk_at dksX2_sets_5 15 rfl rfl)
theorem dX2_sets_132 : decode cX2_sets 132 = .ok (.iadd, 1) := dk_96 (dk_at dksX2_sets_5 16 rfl rfl)
theorem dX2_sets_133 : decode cX2_sets 133 = .ok (.iaload, 1) := dk_46 (dk_at dksX2_sets_5 17 rfl rfl)
theorem dX2_sets_134 : decode cX2_sets 134 = .ok (.goto 4, 3) := dk_167 0 4 (dk_at dksX2_sets_5 18 rfl rfl)
theorem dX2_sets_137 : decode cX2_sets 137 = .ok (.iconst 0, 1) := dk_3 (dk_at dksX2_sets_5 21 rfl rfl)
theorem dX2_sets_138 : decode cX2_sets 138 = .ok (.ireturn, 1) := dk_172 (dk_at dksX2_sets_5 22 rfl rfl)
abbrev cX2_halfMany : ByteArray := prog_12_method_59_code
def yX2_halfMany : MethodName := ⟨RX2, "halfMany", "(IIZ)I"⟩
def dkwX2_halfMany_2 : List UInt8 := [167, 0, 4, 3, 96, 54, 4, 132, 5, 1, 167, 255, 204, 21, 4, 172]
abbrev dktX2_halfMany_2 : List UInt8 := dkwX2_halfMany_2 ++ []
def dkwX2_halfMany_1 : List UInt8 := [27, 184, 0, 239, 160, 0, 23, 29, 153, 0, 15, 42, 180, 0, 242, 21, 5, 184, 0, 239, 153, 0, 7, 4]
abbrev dktX2_halfMany_1 : List UInt8 := dkwX2_halfMany_1 ++ dktX2_halfMany_2
def dkwX2_halfMany_0 : List UInt8 := [3, 54, 4, 3, 54, 5, 21, 5, 42, 180, 0, 203, 162, 0, 49, 21, 4, 28, 21, 5, 184, 0, 239, 28]
abbrev dktX2_halfMany_0 : List UInt8 := dkwX2_halfMany_0 ++ dktX2_halfMany_1
theorem dksX2_halfMany_0 : cX2_halfMany.data.toList.drop 0 = dktX2_halfMany_0 := by decide +kernel
theorem dksX2_halfMany_1 : cX2_halfMany.data.toList.drop 24 = dktX2_halfMany_1 := dk_seg dksX2_halfMany_0 24 rfl rfl
theorem dksX2_halfMany_2 : cX2_halfMany.data.toList.drop 48 = dktX2_halfMany_2 := dk_seg dksX2_halfMany_1 24 rfl rfl
theorem dX2_halfMany_0 : decode cX2_halfMany 0 = .ok (.iconst 0, 1) := dk_3 (dk_at dksX2_halfMany_0 0 rfl rfl)
theorem dX2_halfMany_1 : decode cX2_halfMany 1 = .ok (.istore 4, 2) := dk_54 4 (dk_at dksX2_halfMany_0 1 rfl rfl)
theorem dX2_halfMany_3 : decode cX2_halfMany 3 = .ok (.iconst 0, 1) := dk_3 (dk_at dksX2_halfMany_0 3 rfl rfl)
theorem dX2_halfMany_4 : decode cX2_halfMany 4 = .ok (.istore 5, 2) := dk_54 5 (dk_at dksX2_halfMany_0 4 rfl rfl)
theorem dX2_halfMany_6 : decode cX2_halfMany 6 = .ok (.iload 5, 2) := dk_21 5 (dk_at dksX2_halfMany_0 6 rfl rfl)
theorem dX2_halfMany_8 : decode cX2_halfMany 8 = .ok (.aload_n 0, 1) := dk_42 (dk_at dksX2_halfMany_0 8 rfl rfl)
theorem dX2_halfMany_9 : decode cX2_halfMany 9 = .ok (.getfield 203, 3) := dk_180 0 203 (dk_at dksX2_halfMany_0 9 rfl rfl)
theorem dX2_halfMany_12 : decode cX2_halfMany 12 = .ok (.if_icmp .ge 49, 3) := dk_162 0 49 (dk_at dksX2_halfMany_0 12 rfl rfl)
theorem dX2_halfMany_15 : decode cX2_halfMany 15 = .ok (.iload 4, 2) := dk_21 4 (dk_at dksX2_halfMany_0 15 rfl rfl)
theorem dX2_halfMany_17 : decode cX2_halfMany 17 = .ok (.iload_n 2, 1) := dk_28 (dk_at dksX2_halfMany_0 17 rfl rfl)
theorem dX2_halfMany_18 : decode cX2_halfMany 18 = .ok (.iload 5, 2) := dk_21 5 (dk_at dksX2_halfMany_0 18 rfl rfl)
theorem dX2_halfMany_20 : decode cX2_halfMany 20 = .ok (.invokestatic 239, 3) := dk_184 0 239 (dk_at dksX2_halfMany_0 20 rfl rfl)
theorem dX2_halfMany_23 : decode cX2_halfMany 23 = .ok (.iload_n 2, 1) := dk_28 (dk_at dksX2_halfMany_0 23 rfl rfl)
theorem dX2_halfMany_24 : decode cX2_halfMany 24 = .ok (.iload_n 1, 1) := dk_27 (dk_at dksX2_halfMany_1 0 rfl rfl)
theorem dX2_halfMany_25 : decode cX2_halfMany 25 = .ok (.invokestatic 239, 3) := dk_184 0 239 (dk_at dksX2_halfMany_1 1 rfl rfl)
theorem dX2_halfMany_28 : decode cX2_halfMany 28 = .ok (.if_icmp .ne 23, 3) := dk_160 0 23 (dk_at dksX2_halfMany_1 4 rfl rfl)
theorem dX2_halfMany_31 : decode cX2_halfMany 31 = .ok (.iload_n 3, 1) := dk_29 (dk_at dksX2_halfMany_1 7 rfl rfl)
theorem dX2_halfMany_32 : decode cX2_halfMany 32 = .ok (.ifCond .eq 15, 3) := dk_153 0 15 (dk_at dksX2_halfMany_1 8 rfl rfl)
theorem dX2_halfMany_35 : decode cX2_halfMany 35 = .ok (.aload_n 0, 1) := dk_42 (dk_at dksX2_halfMany_1 11 rfl rfl)
theorem dX2_halfMany_36 : decode cX2_halfMany 36 = .ok (.getfield 242, 3) := dk_180 0 242 (dk_at dksX2_halfMany_1 12 rfl rfl)
theorem dX2_halfMany_39 : decode cX2_halfMany 39 = .ok (.iload 5, 2) := dk_21 5 (dk_at dksX2_halfMany_1 15 rfl rfl)
theorem dX2_halfMany_41 : decode cX2_halfMany 41 = .ok (.invokestatic 239, 3) := dk_184 0 239 (dk_at dksX2_halfMany_1 17 rfl rfl)
theorem dX2_halfMany_44 : decode cX2_halfMany 44 = .ok (.ifCond .eq 7, 3) := dk_153 0 7 (dk_at dksX2_halfMany_1 20 rfl rfl)
theorem dX2_halfMany_47 : decode cX2_halfMany 47 = .ok (.iconst 1, 1) := dk_4 (dk_at dksX2_halfMany_1 23 rfl rfl)
theorem dX2_halfMany_48 : decode cX2_halfMany 48 = .ok (.goto 4, 3) := dk_167 0 4 (dk_at dksX2_halfMany_2 0 rfl rfl)
theorem dX2_halfMany_51 : decode cX2_halfMany 51 = .ok (.iconst 0, 1) := dk_3 (dk_at dksX2_halfMany_2 3 rfl rfl)
theorem dX2_halfMany_52 : decode cX2_halfMany 52 = .ok (.iadd, 1) := dk_96 (dk_at dksX2_halfMany_2 4 rfl rfl)
theorem dX2_halfMany_53 : decode cX2_halfMany 53 = .ok (.istore 4, 2) := dk_54 4 (dk_at dksX2_halfMany_2 5 rfl rfl)
theorem dX2_halfMany_55 : decode cX2_halfMany 55 = .ok (.iinc 5 1, 3) := dk_132 5 1 (dk_at dksX2_halfMany_2 7 rfl rfl)
theorem dX2_halfMany_58 : decode cX2_halfMany 58 = .ok (.goto (-52), 3) := dk_167 255 204 (dk_at dksX2_halfMany_2 10 rfl rfl)
theorem dX2_halfMany_61 : decode cX2_halfMany 61 = .ok (.iload 4, 2) := dk_21 4 (dk_at dksX2_halfMany_2 13 rfl rfl)
theorem dX2_halfMany_63 : decode cX2_halfMany 63 = .ok (.ireturn, 1) := dk_172 (dk_at dksX2_halfMany_2 15 rfl rfl)
abbrev cX2_eaten : ByteArray := prog_12_method_62_code
def yX2_eaten : MethodName := ⟨RX2, "eaten", "(I)V"⟩
def dkwX2_eaten_7 : List UInt8 := [96, 184, 0, 158, 79, 132, 5, 1, 167, 255, 111, 42, 21, 4, 29, 96, 181, 1, 10, 177]
abbrev dktX2_eaten_7 : List UInt8 := dkwX2_eaten_7 ++ []
def dkwX2_eaten_6 : List UInt8 := [21, 5, 46, 108, 54, 8, 42, 180, 0, 62, 21, 5, 17, 0, 200, 21, 8, 42, 180, 0, 53, 21, 5, 46]
abbrev dktX2_eaten_6 : List UInt8 := dkwX2_eaten_6 ++ dktX2_eaten_7
def dkwX2_eaten_5 : List UInt8 := [21, 5, 46, 42, 180, 0, 50, 21, 5, 46, 104, 16, 10, 108, 96, 167, 0, 13, 21, 7, 42, 180, 0, 47]
abbrev dktX2_eaten_5 : List UInt8 := dkwX2_eaten_5 ++ dktX2_eaten_6
def dkwX2_eaten_4 : List UInt8 := [167, 0, 4, 3, 84, 21, 7, 21, 6, 160, 0, 32, 42, 180, 0, 62, 21, 5, 46, 42, 180, 0, 62]
abbrev dktX2_eaten_4 : List UInt8 := dkwX2_eaten_4 ++ dktX2_eaten_5
def dkwX2_eaten_3 : List UInt8 := [180, 0, 80, 21, 5, 42, 180, 0, 62, 21, 5, 46, 158, 0, 14, 21, 7, 21, 6, 162, 0, 7, 4]
abbrev dktX2_eaten_3 : List UInt8 := dkwX2_eaten_3 ++ dktX2_eaten_4
def dkwX2_eaten_2 : List UInt8 := [21, 5, 46, 104, 54, 6, 21, 4, 21, 6, 184, 0, 158, 54, 7, 21, 4, 21, 7, 100, 54, 4, 42]
abbrev dktX2_eaten_2 : List UInt8 := dkwX2_eaten_2 ++ dktX2_eaten_3
def dkwX2_eaten_1 : List UInt8 := [3, 54, 5, 21, 5, 42, 180, 0, 194, 162, 0, 142, 42, 180, 0, 47, 21, 5, 46, 42, 180, 0, 62]
abbrev dktX2_eaten_1 : List UInt8 := dkwX2_eaten_1 ++ dktX2_eaten_2
def dkwX2_eaten_0 : List UInt8 := [42, 180, 0, 197, 27, 184, 0, 158, 61, 28, 42, 180, 0, 200, 104, 16, 12, 108, 62, 27, 28, 100, 54, 4]
abbrev dktX2_eaten_0 : List UInt8 := dkwX2_eaten_0 ++ dktX2_eaten_1
theorem dksX2_eaten_0 : cX2_eaten.data.toList.drop 0 = dktX2_eaten_0 := by decide +kernel
theorem dksX2_eaten_1 : cX2_eaten.data.toList.drop 24 = dktX2_eaten_1 := dk_seg dksX2_eaten_0 24 rfl rfl
theorem dksX2_eaten_2 : cX2_eaten.data.toList.drop 47 = dktX2_eaten_2 := dk_seg dksX2_eaten_1 23 rfl rfl
theorem dksX2_eaten_3 : cX2_eaten.data.toList.drop 70 = dktX2_eaten_3 := dk_seg dksX2_eaten_2 23 rfl rfl
theorem dksX2_eaten_4 : cX2_eaten.data.toList.drop 93 = dktX2_eaten_4 := dk_seg dksX2_eaten_3 23 rfl rfl
theorem dksX2_eaten_5 : cX2_eaten.data.toList.drop 116 = dktX2_eaten_5 := dk_seg dksX2_eaten_4 23 rfl rfl
theorem dksX2_eaten_6 : cX2_eaten.data.toList.drop 140 = dktX2_eaten_6 := dk_seg dksX2_eaten_5 24 rfl rfl
theorem dksX2_eaten_7 : cX2_eaten.data.toList.drop 164 = dktX2_eaten_7 := dk_seg dksX2_eaten_6 24 rfl rfl
theorem dX2_eaten_0 : decode cX2_eaten 0 = .ok (.aload_n 0, 1) := dk_42 (dk_at dksX2_eaten_0 0 rfl rfl)
theorem dX2_eaten_1 : decode cX2_eaten 1 = .ok (.getfield 197, 3) := dk_180 0 197 (dk_at dksX2_eaten_0 1 rfl rfl)
theorem dX2_eaten_4 : decode cX2_eaten 4 = .ok (.iload_n 1, 1) := dk_27 (dk_at dksX2_eaten_0 4 rfl rfl)
theorem dX2_eaten_5 : decode cX2_eaten 5 = .ok (.invokestatic 158, 3) := dk_184 0 158 (dk_at dksX2_eaten_0 5 rfl rfl)
theorem dX2_eaten_8 : decode cX2_eaten 8 = .ok (.istore_n 2, 1) := dk_61 (dk_at dksX2_eaten_0 8 rfl rfl)
theorem dX2_eaten_9 : decode cX2_eaten 9 = .ok (.iload_n 2, 1) := dk_28 (dk_at dksX2_eaten_0 9 rfl rfl)
theorem dX2_eaten_10 : decode cX2_eaten 10 = .ok (.aload_n 0, 1) := dk_42 (dk_at dksX2_eaten_0 10 rfl rfl)
theorem dX2_eaten_11 : decode cX2_eaten 11 = .ok (.getfield 200, 3) := dk_180 0 200 (dk_at dksX2_eaten_0 11 rfl rfl)
theorem dX2_eaten_14 : decode cX2_eaten 14 = .ok (.imul, 1) := dk_104 (dk_at dksX2_eaten_0 14 rfl rfl)
theorem dX2_eaten_15 : decode cX2_eaten 15 = .ok (.bipush 12, 2) := dk_16 12 (dk_at dksX2_eaten_0 15 rfl rfl)
theorem dX2_eaten_17 : decode cX2_eaten 17 = .ok (.idiv, 1) := dk_108 (dk_at dksX2_eaten_0 17 rfl rfl)
theorem dX2_eaten_18 : decode cX2_eaten 18 = .ok (.istore_n 3, 1) := dk_62 (dk_at dksX2_eaten_0 18 rfl rfl)
theorem dX2_eaten_19 : decode cX2_eaten 19 = .ok (.iload_n 1, 1) := dk_27 (dk_at dksX2_eaten_0 19 rfl rfl)
theorem dX2_eaten_20 : decode cX2_eaten 20 = .ok (.iload_n 2, 1) := dk_28 (dk_at dksX2_eaten_0 20 rfl rfl)
theorem dX2_eaten_21 : decode cX2_eaten 21 = .ok (.isub, 1) := dk_100 (dk_at dksX2_eaten_0 21 rfl rfl)
theorem dX2_eaten_22 : decode cX2_eaten 22 = .ok (.istore 4, 2) := dk_54 4 (dk_at dksX2_eaten_0 22 rfl rfl)
theorem dX2_eaten_24 : decode cX2_eaten 24 = .ok (.iconst 0, 1) := dk_3 (dk_at dksX2_eaten_1 0 rfl rfl)
theorem dX2_eaten_25 : decode cX2_eaten 25 = .ok (.istore 5, 2) := dk_54 5 (dk_at dksX2_eaten_1 1 rfl rfl)
theorem dX2_eaten_27 : decode cX2_eaten 27 = .ok (.iload 5, 2) := dk_21 5 (dk_at dksX2_eaten_1 3 rfl rfl)
theorem dX2_eaten_29 : decode cX2_eaten 29 = .ok (.aload_n 0, 1) := dk_42 (dk_at dksX2_eaten_1 5 rfl rfl)
theorem dX2_eaten_30 : decode cX2_eaten 30 = .ok (.getfield 194, 3) := dk_180 0 194 (dk_at dksX2_eaten_1 6 rfl rfl)
theorem dX2_eaten_33 : decode cX2_eaten 33 = .ok (.if_icmp .ge 142, 3) := dk_162 0 142 (dk_at dksX2_eaten_1 9 rfl rfl)
theorem dX2_eaten_36 : decode cX2_eaten 36 = .ok (.aload_n 0, 1) := dk_42 (dk_at dksX2_eaten_1 12 rfl rfl)
theorem dX2_eaten_37 : decode cX2_eaten 37 = .ok (.getfield 47, 3) := dk_180 0 47 (dk_at dksX2_eaten_1 13 rfl rfl)
theorem dX2_eaten_40 : decode cX2_eaten 40 = .ok (.iload 5, 2) := dk_21 5 (dk_at dksX2_eaten_1 16 rfl rfl)
theorem dX2_eaten_42 : decode cX2_eaten 42 = .ok (.iaload, 1) := dk_46 (dk_at dksX2_eaten_1 18 rfl rfl)
theorem dX2_eaten_43 : decode cX2_eaten 43 = .ok (.aload_n 0, 1) := dk_42 (dk_at dksX2_eaten_1 19 rfl rfl)
theorem dX2_eaten_44 : decode cX2_eaten 44 = .ok (.getfield 62, 3) := dk_180 0 62 (dk_at dksX2_eaten_1 20 rfl rfl)
theorem dX2_eaten_47 : decode cX2_eaten 47 = .ok (.iload 5, 2) := dk_21 5 (dk_at dksX2_eaten_2 0 rfl rfl)
theorem dX2_eaten_49 : decode cX2_eaten 49 = .ok (.iaload, 1) := dk_46 (dk_at dksX2_eaten_2 2 rfl rfl)
theorem dX2_eaten_50 : decode cX2_eaten 50 = .ok (.imul, 1) := dk_104 (dk_at dksX2_eaten_2 3 rfl rfl)
theorem dX2_eaten_51 : decode cX2_eaten 51 = .ok (.istore 6, 2) := dk_54 6 (dk_at dksX2_eaten_2 4 rfl rfl)
theorem dX2_eaten_53 : decode cX2_eaten 53 = .ok (.iload 4, 2) := dk_21 4 (dk_at dksX2_eaten_2 6 rfl rfl)
theorem dX2_eaten_55 : decode cX2_eaten 55 = .ok (.iload 6, 2) := dk_21 6 (dk_at dksX2_eaten_2 8 rfl rfl)
theorem dX2_eaten_57 : decode cX2_eaten 57 = .ok (.invokestatic 158, 3) := dk_184 0 158 (dk_at dksX2_eaten_2 10 rfl rfl)
theorem dX2_eaten_60 : decode cX2_eaten 60 = .ok (.istore 7, 2) := dk_54 7 (dk_at dksX2_eaten_2 13 rfl rfl)
theorem dX2_eaten_62 : decode cX2_eaten 62 = .ok (.iload 4, 2) := dk_21 4 (dk_at dksX2_eaten_2 15 rfl rfl)
theorem dX2_eaten_64 : decode cX2_eaten 64 = .ok (.iload 7, 2) := dk_21 7 (dk_at dksX2_eaten_2 17 rfl rfl)
theorem dX2_eaten_66 : decode cX2_eaten 66 = .ok (.isub, 1) := dk_100 (dk_at dksX2_eaten_2 19 rfl rfl)
theorem dX2_eaten_67 : decode cX2_eaten 67 = .ok (.istore 4, 2) := dk_54 4 (dk_at dksX2_eaten_2 20 rfl rfl)
theorem dX2_eaten_69 : decode cX2_eaten 69 = .ok (.aload_n 0, 1) := dk_42 (dk_at dksX2_eaten_2 22 rfl rfl)
theorem dX2_eaten_70 : decode cX2_eaten 70 = .ok (.getfield 80, 3) := dk_180 0 80 (dk_at dksX2_eaten_3 0 rfl rfl)
theorem dX2_eaten_73 : decode cX2_eaten 73 = .ok (.iload 5, 2) := dk_21 5 (dk_at dksX2_eaten_3 3 rfl rfl)
theorem dX2_eaten_75 : decode cX2_eaten 75 = .ok (.aload_n 0, 1) := dk_42 (dk_at dksX2_eaten_3 5 rfl rfl)
theorem dX2_eaten_76 : decode cX2_eaten 76 = .ok (.getfield 62, 3) := dk_180 0 62 (dk_at dksX2_eaten_3 6 rfl rfl)
theorem dX2_eaten_79 : decode cX2_eaten 79 = .ok (.iload 5, 2) := dk_21 5 (dk_at dksX2_eaten_3 9 rfl rfl)
theorem dX2_eaten_81 : decode cX2_eaten 81 = .ok (.iaload, 1) := dk_46 (dk_at dksX2_eaten_3 11 rfl rfl)
theorem dX2_eaten_82 : decode cX2_eaten 82 = .ok (.ifCond .le 14, 3) := dk_158 0 14 (dk_at dksX2_eaten_3 12 rfl rfl)
theorem dX2_eaten_85 : decode cX2_eaten 85 = .ok (.iload 7, 2) := dk_21 7 (dk_at dksX2_eaten_3 15 rfl rfl)
theorem dX2_eaten_87 : decode cX2_eaten 87 = .ok (.iload 6, 2) := dk_21 6 (dk_at dksX2_eaten_3 17 rfl rfl)
theorem dX2_eaten_89 : decode cX2_eaten 89 = .ok (.if_icmp .ge 7, 3) := dk_162 0 7 (dk_at dksX2_eaten_3 19 rfl rfl)
theorem dX2_eaten_92 : decode cX2_eaten 92 = .ok (.iconst 1, 1) := dk_4 (dk_at dksX2_eaten_3 22 rfl rfl)
theorem dX2_eaten_93 : decode cX2_eaten 93 = .ok (.goto 4, 3) := dk_167 0 4 (dk_at dksX2_eaten_4 0 rfl rfl)
theorem dX2_eaten_96 : decode cX2_eaten 96 = .ok (.iconst 0, 1) := dk_3 (dk_at dksX2_eaten_4 3 rfl rfl)
theorem dX2_eaten_97 : decode cX2_eaten 97 = .ok (.bastore, 1) := dk_84 (dk_at dksX2_eaten_4 4 rfl rfl)
theorem dX2_eaten_98 : decode cX2_eaten 98 = .ok (.iload 7, 2) := dk_21 7 (dk_at dksX2_eaten_4 5 rfl rfl)
theorem dX2_eaten_100 : decode cX2_eaten 100 = .ok (.iload 6, 2) := dk_21 6 (dk_at dksX2_eaten_4 7 rfl rfl)
theorem dX2_eaten_102 : decode cX2_eaten 102 = .ok (.if_icmp .ne 32, 3) := dk_160 0 32 (dk_at dksX2_eaten_4 9 rfl rfl)
theorem dX2_eaten_105 : decode cX2_eaten 105 = .ok (.aload_n 0, 1) := dk_42 (dk_at dksX2_eaten_4 12 rfl rfl)
theorem dX2_eaten_106 : decode cX2_eaten 106 = .ok (.getfield 62, 3) := dk_180 0 62 (dk_at dksX2_eaten_4 13 rfl rfl)
theorem dX2_eaten_109 : decode cX2_eaten 109 = .ok (.iload 5, 2) := dk_21 5 (dk_at dksX2_eaten_4 16 rfl rfl)
theorem dX2_eaten_111 : decode cX2_eaten 111 = .ok (.iaload, 1) := dk_46 (dk_at dksX2_eaten_4 18 rfl rfl)
theorem dX2_eaten_112 : decode cX2_eaten 112 = .ok (.aload_n 0, 1) := dk_42 (dk_at dksX2_eaten_4 19 rfl rfl)
theorem dX2_eaten_113 : decode cX2_eaten 113 = .ok (.getfield 62, 3) := dk_180 0 62 (dk_at dksX2_eaten_4 20 rfl rfl)
theorem dX2_eaten_116 : decode cX2_eaten 116 = .ok (.iload 5, 2) := dk_21 5 (dk_at dksX2_eaten_5 0 rfl rfl)
theorem dX2_eaten_118 : decode cX2_eaten 118 = .ok (.iaload, 1) := dk_46 (dk_at dksX2_eaten_5 2 rfl rfl)
theorem dX2_eaten_119 : decode cX2_eaten 119 = .ok (.aload_n 0, 1) := dk_42 (dk_at dksX2_eaten_5 3 rfl rfl)
theorem dX2_eaten_120 : decode cX2_eaten 120 = .ok (.getfield 50, 3) := dk_180 0 50 (dk_at dksX2_eaten_5 4 rfl rfl)
theorem dX2_eaten_123 : decode cX2_eaten 123 = .ok (.iload 5, 2) := dk_21 5 (dk_at dksX2_eaten_5 7 rfl rfl)
theorem dX2_eaten_125 : decode cX2_eaten 125 = .ok (.iaload, 1) := dk_46 (dk_at dksX2_eaten_5 9 rfl rfl)
theorem dX2_eaten_126 : decode cX2_eaten 126 = .ok (.imul, 1) := dk_104 (dk_at dksX2_eaten_5 10 rfl rfl)
theorem dX2_eaten_127 : decode cX2_eaten 127 = .ok (.bipush 10, 2) := dk_16 10 (dk_at dksX2_eaten_5 11 rfl rfl)
theorem dX2_eaten_129 : decode cX2_eaten 129 = .ok (.idiv, 1) := dk_108 (dk_at dksX2_eaten_5 13 rfl rfl)
theorem dX2_eaten_130 : decode cX2_eaten 130 = .ok (.iadd, 1) := dk_96 (dk_at dksX2_eaten_5 14 rfl rfl)
theorem dX2_eaten_131 : decode cX2_eaten 131 = .ok (.goto 13, 3) := dk_167 0 13 (dk_at dksX2_eaten_5 15 rfl rfl)
theorem dX2_eaten_134 : decode cX2_eaten 134 = .ok (.iload 7, 2) := dk_21 7 (dk_at dksX2_eaten_5 18 rfl rfl)
theorem dX2_eaten_136 : decode cX2_eaten 136 = .ok (.aload_n 0, 1) := dk_42 (dk_at dksX2_eaten_5 20 rfl rfl)
theorem dX2_eaten_137 : decode cX2_eaten 137 = .ok (.getfield 47, 3) := dk_180 0 47 (dk_at dksX2_eaten_5 21 rfl rfl)
theorem dX2_eaten_140 : decode cX2_eaten 140 = .ok (.iload 5, 2) := dk_21 5 (dk_at dksX2_eaten_6 0 rfl rfl)
theorem dX2_eaten_142 : decode cX2_eaten 142 = .ok (.iaload, 1) := dk_46 (dk_at dksX2_eaten_6 2 rfl rfl)
theorem dX2_eaten_143 : decode cX2_eaten 143 = .ok (.idiv, 1) := dk_108 (dk_at dksX2_eaten_6 3 rfl rfl)
theorem dX2_eaten_144 : decode cX2_eaten 144 = .ok (.istore 8, 2) := dk_54 8 (dk_at dksX2_eaten_6 4 rfl rfl)
theorem dX2_eaten_146 : decode cX2_eaten 146 = .ok (.aload_n 0, 1) := dk_42 (dk_at dksX2_eaten_6 6 rfl rfl)
theorem dX2_eaten_147 : decode cX2_eaten 147 = .ok (.getfield 62, 3) := dk_180 0 62 (dk_at dksX2_eaten_6 7 rfl rfl)
theorem dX2_eaten_150 : decode cX2_eaten 150 = .ok (.iload 5, 2) := dk_21 5 (dk_at dksX2_eaten_6 10 rfl rfl)
theorem dX2_eaten_152 : decode cX2_eaten 152 = .ok (.sipush 200, 3) := dk_17 0 200 (dk_at dksX2_eaten_6 12 rfl rfl)
theorem dX2_eaten_155 : decode cX2_eaten 155 = .ok (.iload 8, 2) := dk_21 8 (dk_at dksX2_eaten_6 15 rfl rfl)
theorem dX2_eaten_157 : decode cX2_eaten 157 = .ok (.aload_n 0, 1) := dk_42 (dk_at dksX2_eaten_6 17 rfl rfl)
theorem dX2_eaten_158 : decode cX2_eaten 158 = .ok (.getfield 53, 3) := dk_180 0 53 (dk_at dksX2_eaten_6 18 rfl rfl)
theorem dX2_eaten_161 : decode cX2_eaten 161 = .ok (.iload 5, 2) := dk_21 5 (dk_at dksX2_eaten_6 21 rfl rfl)
theorem dX2_eaten_163 : decode cX2_eaten 163 = .ok (.iaload, 1) := dk_46 (dk_at dksX2_eaten_6 23 rfl rfl)
theorem dX2_eaten_164 : decode cX2_eaten 164 = .ok (.iadd, 1) := dk_96 (dk_at dksX2_eaten_7 0 rfl rfl)
theorem dX2_eaten_165 : decode cX2_eaten 165 = .ok (.invokestatic 158, 3) := dk_184 0 158 (dk_at dksX2_eaten_7 1 rfl rfl)
theorem dX2_eaten_168 : decode cX2_eaten 168 = .ok (.iastore, 1) := dk_79 (dk_at dksX2_eaten_7 4 rfl rfl)
theorem dX2_eaten_169 : decode cX2_eaten 169 = .ok (.iinc 5 1, 3) := dk_132 5 1 (dk_at dksX2_eaten_7 5 rfl rfl)
theorem dX2_eaten_172 : decode cX2_eaten 172 = .ok (.goto (-145), 3) := dk_167 255 111 (dk_at dksX2_eaten_7 8 rfl rfl)
theorem dX2_eaten_175 : decode cX2_eaten 175 = .ok (.aload_n 0, 1) := dk_42 (dk_at dksX2_eaten_7 11 rfl rfl)
theorem dX2_eaten_176 : decode cX2_eaten 176 = .ok (.iload 4, 2) := dk_21 4 (dk_at dksX2_eaten_7 12 rfl rfl)
theorem dX2_eaten_178 : decode cX2_eaten 178 = .ok (.iload_n 3, 1) := dk_29 (dk_at dksX2_eaten_7 14 rfl rfl)
theorem dX2_eaten_179 : decode cX2_eaten 179 = .ok (.iadd, 1) := dk_96 (dk_at dksX2_eaten_7 15 rfl rfl)
theorem dX2_eaten_180 : decode cX2_eaten 180 = .ok (.putfield 266, 3) := dk_181 1 10 (dk_at dksX2_eaten_7 16 rfl rfl)
theorem dX2_eaten_183 : decode cX2_eaten 183 = .ok (.return_, 1) := dk_177 (dk_at dksX2_eaten_7 19 rfl rfl)
abbrev cX2_run : ByteArray := prog_12_method_66_code
def yX2_run : MethodName := ⟨RX2, "run", "(I)I"⟩
def dkwX2_run_3 : List UInt8 := [167, 255, 223, 42, 29, 28, 182, 0, 126, 172]
abbrev dktX2_run_3 : List UInt8 := dkwX2_run_3 ++ []
def dkwX2_run_2 : List UInt8 := [3, 3, 182, 1, 13, 28, 42, 180, 1, 10, 96, 61, 29, 42, 180, 0, 251, 96, 62, 132, 4, 1]
abbrev dktX2_run_2 : List UInt8 := dkwX2_run_2 ++ dktX2_run_3
def dkwX2_run_1 : List UInt8 := [164, 0, 6, 16, 252, 172, 3, 61, 3, 62, 3, 54, 4, 21, 4, 27, 162, 0, 33, 42, 42, 182, 1, 17]
abbrev dktX2_run_1 : List UInt8 := dkwX2_run_1 ++ dktX2_run_2
def dkwX2_run_0 : List UInt8 := [27, 3, 17, 0, 200, 184, 0, 104, 154, 0, 5, 2, 172, 42, 180, 0, 206, 27, 96, 17, 39, 15]
abbrev dktX2_run_0 : List UInt8 := dkwX2_run_0 ++ dktX2_run_1
theorem dksX2_run_0 : cX2_run.data.toList.drop 0 = dktX2_run_0 := by decide +kernel
theorem dksX2_run_1 : cX2_run.data.toList.drop 22 = dktX2_run_1 := dk_seg dksX2_run_0 22 rfl rfl
theorem dksX2_run_2 : cX2_run.data.toList.drop 46 = dktX2_run_2 := dk_seg dksX2_run_1 24 rfl rfl
theorem dksX2_run_3 : cX2_run.data.toList.drop 68 = dktX2_run_3 := dk_seg dksX2_run_2 22 rfl rfl
theorem dX2_run_0 : decode cX2_run 0 = .ok (.iload_n 1, 1) := dk_27 (dk_at dksX2_run_0 0 rfl rfl)
theorem dX2_run_1 : decode cX2_run 1 = .ok (.iconst 0, 1) := dk_3 (dk_at dksX2_run_0 1 rfl rfl)
theorem dX2_run_2 : decode cX2_run 2 = .ok (.sipush 200, 3) := dk_17 0 200 (dk_at dksX2_run_0 2 rfl rfl)
theorem dX2_run_5 : decode cX2_run 5 = .ok (.invokestatic 104, 3) := dk_184 0 104 (dk_at dksX2_run_0 5 rfl rfl)
theorem dX2_run_8 : decode cX2_run 8 = .ok (.ifCond .ne 5, 3) := dk_154 0 5 (dk_at dksX2_run_0 8 rfl rfl)
theorem dX2_run_11 : decode cX2_run 11 = .ok (.iconst (-1), 1) := dk_2 (dk_at dksX2_run_0 11 rfl rfl)
theorem dX2_run_12 : decode cX2_run 12 = .ok (.ireturn, 1) := dk_172 (dk_at dksX2_run_0 12 rfl rfl)
theorem dX2_run_13 : decode cX2_run 13 = .ok (.aload_n 0, 1) := dk_42 (dk_at dksX2_run_0 13 rfl rfl)
theorem dX2_run_14 : decode cX2_run 14 = .ok (.getfield 206, 3) := dk_180 0 206 (dk_at dksX2_run_0 14 rfl rfl)
theorem dX2_run_17 : decode cX2_run 17 = .ok (.iload_n 1, 1) := dk_27 (dk_at dksX2_run_0 17 rfl rfl)
theorem dX2_run_18 : decode cX2_run 18 = .ok (.iadd, 1) := dk_96 (dk_at dksX2_run_0 18 rfl rfl)
theorem dX2_run_19 : decode cX2_run 19 = .ok (.sipush 9999, 3) := dk_17 39 15 (dk_at dksX2_run_0 19 rfl rfl)
theorem dX2_run_22 : decode cX2_run 22 = .ok (.if_icmp .le 6, 3) := dk_164 0 6 (dk_at dksX2_run_1 0 rfl rfl)
theorem dX2_run_25 : decode cX2_run 25 = .ok (.bipush (-4), 2) := dk_16 252 (dk_at dksX2_run_1 3 rfl rfl)
theorem dX2_run_27 : decode cX2_run 27 = .ok (.ireturn, 1) := dk_172 (dk_at dksX2_run_1 5 rfl rfl)
theorem dX2_run_28 : decode cX2_run 28 = .ok (.iconst 0, 1) := dk_3 (dk_at dksX2_run_1 6 rfl rfl)
theorem dX2_run_29 : decode cX2_run 29 = .ok (.istore_n 2, 1) := dk_61 (dk_at dksX2_run_1 7 rfl rfl)
theorem dX2_run_30 : decode cX2_run 30 = .ok (.iconst 0, 1) := dk_3 (dk_at dksX2_run_1 8 rfl rfl)
theorem dX2_run_31 : decode cX2_run 31 = .ok (.istore_n 3, 1) := dk_62 (dk_at dksX2_run_1 9 rfl rfl)
theorem dX2_run_32 : decode cX2_run 32 = .ok (.iconst 0, 1) := dk_3 (dk_at dksX2_run_1 10 rfl rfl)
theorem dX2_run_33 : decode cX2_run 33 = .ok (.istore 4, 2) := dk_54 4 (dk_at dksX2_run_1 11 rfl rfl)
theorem dX2_run_35 : decode cX2_run 35 = .ok (.iload 4, 2) := dk_21 4 (dk_at dksX2_run_1 13 rfl rfl)
theorem dX2_run_37 : decode cX2_run 37 = .ok (.iload_n 1, 1) := dk_27 (dk_at dksX2_run_1 15 rfl rfl)
theorem dX2_run_38 : decode cX2_run 38 = .ok (.if_icmp .ge 33, 3) := dk_162 0 33 (dk_at dksX2_run_1 16 rfl rfl)
theorem dX2_run_41 : decode cX2_run 41 = .ok (.aload_n 0, 1) := dk_42 (dk_at dksX2_run_1 19 rfl rfl)
theorem dX2_run_42 : decode cX2_run 42 = .ok (.aload_n 0, 1) := dk_42 (dk_at dksX2_run_1 20 rfl rfl)
theorem dX2_run_43 : decode cX2_run 43 = .ok (.invokevirtual 273, 3) := dk_182 1 17 (dk_at dksX2_run_1 21 rfl rfl)
theorem dX2_run_46 : decode cX2_run 46 = .ok (.iconst 0, 1) := dk_3 (dk_at dksX2_run_2 0 rfl rfl)
theorem dX2_run_47 : decode cX2_run 47 = .ok (.iconst 0, 1) := dk_3 (dk_at dksX2_run_2 1 rfl rfl)
theorem dX2_run_48 : decode cX2_run 48 = .ok (.invokevirtual 269, 3) := dk_182 1 13 (dk_at dksX2_run_2 2 rfl rfl)
theorem dX2_run_51 : decode cX2_run 51 = .ok (.iload_n 2, 1) := dk_28 (dk_at dksX2_run_2 5 rfl rfl)
theorem dX2_run_52 : decode cX2_run 52 = .ok (.aload_n 0, 1) := dk_42 (dk_at dksX2_run_2 6 rfl rfl)
theorem dX2_run_53 : decode cX2_run 53 = .ok (.getfield 266, 3) := dk_180 1 10 (dk_at dksX2_run_2 7 rfl rfl)
theorem dX2_run_56 : decode cX2_run 56 = .ok (.iadd, 1) := dk_96 (dk_at dksX2_run_2 10 rfl rfl)
theorem dX2_run_57 : decode cX2_run 57 = .ok (.istore_n 2, 1) := dk_61 (dk_at dksX2_run_2 11 rfl rfl)
theorem dX2_run_58 : decode cX2_run 58 = .ok (.iload_n 3, 1) := dk_29 (dk_at dksX2_run_2 12 rfl rfl)
theorem dX2_run_59 : decode cX2_run 59 = .ok (.aload_n 0, 1) := dk_42 (dk_at dksX2_run_2 13 rfl rfl)
theorem dX2_run_60 : decode cX2_run 60 = .ok (.getfield 251, 3) := dk_180 0 251 (dk_at dksX2_run_2 14 rfl rfl)
theorem dX2_run_63 : decode cX2_run 63 = .ok (.iadd, 1) := dk_96 (dk_at dksX2_run_2 17 rfl rfl)
theorem dX2_run_64 : decode cX2_run 64 = .ok (.istore_n 3, 1) := dk_62 (dk_at dksX2_run_2 18 rfl rfl)
theorem dX2_run_65 : decode cX2_run 65 = .ok (.iinc 4 1, 3) := dk_132 4 1 (dk_at dksX2_run_2 19 rfl rfl)
theorem dX2_run_68 : decode cX2_run 68 = .ok (.goto (-33), 3) := dk_167 255 223 (dk_at dksX2_run_3 0 rfl rfl)
theorem dX2_run_71 : decode cX2_run 71 = .ok (.aload_n 0, 1) := dk_42 (dk_at dksX2_run_3 3 rfl rfl)
theorem dX2_run_72 : decode cX2_run 72 = .ok (.iload_n 3, 1) := dk_29 (dk_at dksX2_run_3 4 rfl rfl)
theorem dX2_run_73 : decode cX2_run 73 = .ok (.iload_n 2, 1) := dk_28 (dk_at dksX2_run_3 5 rfl rfl)
theorem dX2_run_74 : decode cX2_run 74 = .ok (.invokevirtual 126, 3) := dk_182 0 126 (dk_at dksX2_run_3 6 rfl rfl)
theorem dX2_run_77 : decode cX2_run 77 = .ok (.ireturn, 1) := dk_172 (dk_at dksX2_run_3 9 rfl rfl)
abbrev cX2_mayNow : ByteArray := prog_12_method_64_code
def yX2_mayNow : MethodName := ⟨RX2, "mayNow", "()I"⟩
def dkwX2_mayNow_0 : List UInt8 := [42, 180, 0, 56, 42, 180, 0, 206, 42, 180, 0, 97, 112, 46, 172]
abbrev dktX2_mayNow_0 : List UInt8 := dkwX2_mayNow_0 ++ []
theorem dksX2_mayNow_0 : cX2_mayNow.data.toList.drop 0 = dktX2_mayNow_0 := by decide +kernel
theorem dX2_mayNow_0 : decode cX2_mayNow 0 = .ok (.aload_n 0, 1) := dk_42 (dk_at dksX2_mayNow_0 0 rfl rfl)
theorem dX2_mayNow_1 : decode cX2_mayNow 1 = .ok (.getfield 56, 3) := dk_180 0 56 (dk_at dksX2_mayNow_0 1 rfl rfl)
theorem dX2_mayNow_4 : decode cX2_mayNow 4 = .ok (.aload_n 0, 1) := dk_42 (dk_at dksX2_mayNow_0 4 rfl rfl)
theorem dX2_mayNow_5 : decode cX2_mayNow 5 = .ok (.getfield 206, 3) := dk_180 0 206 (dk_at dksX2_mayNow_0 5 rfl rfl)
theorem dX2_mayNow_8 : decode cX2_mayNow 8 = .ok (.aload_n 0, 1) := dk_42 (dk_at dksX2_mayNow_0 8 rfl rfl)
theorem dX2_mayNow_9 : decode cX2_mayNow 9 = .ok (.getfield 97, 3) := dk_180 0 97 (dk_at dksX2_mayNow_0 9 rfl rfl)
theorem dX2_mayNow_12 : decode cX2_mayNow 12 = .ok (.irem, 1) := dk_112 (dk_at dksX2_mayNow_0 12 rfl rfl)
theorem dX2_mayNow_13 : decode cX2_mayNow 13 = .ok (.iaload, 1) := dk_46 (dk_at dksX2_mayNow_0 13 rfl rfl)
theorem dX2_mayNow_14 : decode cX2_mayNow 14 = .ok (.ireturn, 1) := dk_172 (dk_at dksX2_mayNow_0 14 rfl rfl)
abbrev cX2_image : ByteArray := prog_12_method_67_code
def yX2_image : MethodName := ⟨RX2, "image", "(I)I"⟩
def dkwX2_image_4 : List UInt8 := [27, 46, 172]
abbrev dktX2_image_4 : List UInt8 := dkwX2_image_4 ++ []
def dkwX2_image_3 : List UInt8 := [167, 0, 13, 42, 29, 4, 28, 6, 112, 96, 182, 0, 230, 79, 132, 2, 1, 167, 255, 193, 42, 180, 0, 13]
abbrev dktX2_image_3 : List UInt8 := dkwX2_image_3 ++ dktX2_image_4
def dkwX2_image_2 : List UInt8 := [42, 180, 0, 13, 27, 46, 161, 0, 7, 3, 167, 0, 26, 28, 6, 162, 0, 11, 42, 28, 182, 0, 236]
abbrev dktX2_image_2 : List UInt8 := dkwX2_image_2 ++ dktX2_image_3
def dkwX2_image_1 : List UInt8 := [61, 28, 16, 80, 162, 0, 63, 28, 6, 100, 6, 108, 62, 42, 180, 0, 16, 16, 80, 27, 104, 28, 96, 28]
abbrev dktX2_image_1 : List UInt8 := dkwX2_image_1 ++ dktX2_image_2
def dkwX2_image_0 : List UInt8 := [27, 184, 0, 114, 154, 0, 5, 2, 172, 42, 180, 0, 13, 27, 6, 6, 42, 180, 0, 203, 104, 96, 79, 3]
abbrev dktX2_image_0 : List UInt8 := dkwX2_image_0 ++ dktX2_image_1
theorem dksX2_image_0 : cX2_image.data.toList.drop 0 = dktX2_image_0 := by decide +kernel
theorem dksX2_image_1 : cX2_image.data.toList.drop 24 = dktX2_image_1 := dk_seg dksX2_image_0 24 rfl rfl
theorem dksX2_image_2 : cX2_image.data.toList.drop 48 = dktX2_image_2 := dk_seg dksX2_image_1 24 rfl rfl
theorem dksX2_image_3 : cX2_image.data.toList.drop 71 = dktX2_image_3 := dk_seg dksX2_image_2 23 rfl rfl
theorem dksX2_image_4 : cX2_image.data.toList.drop 95 = dktX2_image_4 := dk_seg dksX2_image_3 24 rfl rfl
theorem dX2_image_0 : decode cX2_image 0 = .ok (.iload_n 1, 1) := dk_27 (dk_at dksX2_image_0 0 rfl rfl)
theorem dX2_image_1 : decode cX2_image 1 = .ok (.invokestatic 114, 3) := dk_184 0 114 (dk_at dksX2_image_0 1 rfl rfl)
theorem dX2_image_4 : decode cX2_image 4 = .ok (.ifCond .ne 5, 3) := dk_154 0 5 (dk_at dksX2_image_0 4 rfl rfl)
theorem dX2_image_7 : decode cX2_image 7 = .ok (.iconst (-1), 1) := dk_2 (dk_at dksX2_image_0 7 rfl rfl)
theorem dX2_image_8 : decode cX2_image 8 = .ok (.ireturn, 1) := dk_172 (dk_at dksX2_image_0 8 rfl rfl)
theorem dX2_image_9 : decode cX2_image 9 = .ok (.aload_n 0, 1) := dk_42 (dk_at dksX2_image_0 9 rfl rfl)
theorem dX2_image_10 : decode cX2_image 10 = .ok (.getfield 13, 3) := dk_180 0 13 (dk_at dksX2_image_0 10 rfl rfl)
theorem dX2_image_13 : decode cX2_image 13 = .ok (.iload_n 1, 1) := dk_27 (dk_at dksX2_image_0 13 rfl rfl)
theorem dX2_image_14 : decode cX2_image 14 = .ok (.iconst 3, 1) := dk_6 (dk_at dksX2_image_0 14 rfl rfl)
theorem dX2_image_15 : decode cX2_image 15 = .ok (.iconst 3, 1) := dk_6 (dk_at dksX2_image_0 15 rfl rfl)
theorem dX2_image_16 : decode cX2_image 16 = .ok (.aload_n 0, 1) := dk_42 (dk_at dksX2_image_0 16 rfl rfl)
theorem dX2_image_17 : decode cX2_image 17 = .ok (.getfield 203, 3) := dk_180 0 203 (dk_at dksX2_image_0 17 rfl rfl)
theorem dX2_image_20 : decode cX2_image 20 = .ok (.imul, 1) := dk_104 (dk_at dksX2_image_0 20 rfl rfl)
theorem dX2_image_21 : decode cX2_image 21 = .ok (.iadd, 1) := dk_96 (dk_at dksX2_image_0 21 rfl rfl)
theorem dX2_image_22 : decode cX2_image 22 = .ok (.iastore, 1) := dk_79 (dk_at dksX2_image_0 22 rfl rfl)
theorem dX2_image_23 : decode cX2_image 23 = .ok (.iconst 0, 1) := dk_3 (dk_at dksX2_image_0 23 rfl rfl)
theorem dX2_image_24 : decode cX2_image 24 = .ok (.istore_n 2, 1) := dk_61 (dk_at dksX2_image_1 0 rfl rfl)
theorem dX2_image_25 : decode cX2_image 25 = .ok (.iload_n 2, 1) := dk_28 (dk_at dksX2_image_1 1 rfl rfl)
theorem dX2_image_26 : decode cX2_image 26 = .ok (.bipush 80, 2) := dk_16 80 (dk_at dksX2_image_1 2 rfl rfl)
theorem dX2_image_28 : decode cX2_image 28 = .ok (.if_icmp .ge 63, 3) := dk_162 0 63 (dk_at dksX2_image_1 4 rfl rfl)
theorem dX2_image_31 : decode cX2_image 31 = .ok (.iload_n 2, 1) := dk_28 (dk_at dksX2_image_1 7 rfl rfl)
theorem dX2_image_32 : decode cX2_image 32 = .ok (.iconst 3, 1) := dk_6 (dk_at dksX2_image_1 8 rfl rfl)
theorem dX2_image_33 : decode cX2_image 33 = .ok (.isub, 1) := dk_100 (dk_at dksX2_image_1 9 rfl rfl)
theorem dX2_image_34 : decode cX2_image 34 = .ok (.iconst 3, 1) := dk_6 (dk_at dksX2_image_1 10 rfl rfl)
theorem dX2_image_35 : decode cX2_image 35 = .ok (.idiv, 1) := dk_108 (dk_at dksX2_image_1 11 rfl rfl)
theorem dX2_image_36 : decode cX2_image 36 = .ok (.istore_n 3, 1) := dk_62 (dk_at dksX2_image_1 12 rfl rfl)
theorem dX2_image_37 : decode cX2_image 37 = .ok (.aload_n 0, 1) := dk_42 (dk_at dksX2_image_1 13 rfl rfl)
theorem dX2_image_38 : decode cX2_image 38 = .ok (.getfield 16, 3) := dk_180 0 16 (dk_at dksX2_image_1 14 rfl rfl)
theorem dX2_image_41 : decode cX2_image 41 = .ok (.bipush 80, 2) := dk_16 80 (dk_at dksX2_image_1 17 rfl rfl)
theorem dX2_image_43 : decode cX2_image 43 = .ok (.iload_n 1, 1) := dk_27 (dk_at dksX2_image_1 19 rfl rfl)
theorem dX2_image_44 : decode cX2_image 44 = .ok (.imul, 1) := dk_104 (dk_at dksX2_image_1 20 rfl rfl)
theorem dX2_image_45 : decode cX2_image 45 = .ok (.iload_n 2, 1) := dk_28 (dk_at dksX2_image_1 21 rfl rfl)
theorem dX2_image_46 : decode cX2_image 46 = .ok (.iadd, 1) := dk_96 (dk_at dksX2_image_1 22 rfl rfl)
theorem dX2_image_47 : decode cX2_image 47 = .ok (.iload_n 2, 1) := dk_28 (dk_at dksX2_image_1 23 rfl rfl)
theorem dX2_image_48 : decode cX2_image 48 = .ok (.aload_n 0, 1) := dk_42 (dk_at dksX2_image_2 0 rfl rfl)
theorem dX2_image_49 : decode cX2_image 49 = .ok (.getfield 13, 3) := dk_180 0 13 (dk_at dksX2_image_2 1 rfl rfl)
theorem dX2_image_52 : decode cX2_image 52 = .ok (.iload_n 1, 1) := dk_27 (dk_at dksX2_image_2 4 rfl rfl)
theorem dX2_image_53 : decode cX2_image 53 = .ok (.iaload, 1) := dk_46 (dk_at dksX2_image_2 5 rfl rfl)
theorem dX2_image_54 : decode cX2_image 54 = .ok (.if_icmp .lt 7, 3) := dk_161 0 7 (dk_at dksX2_image_2 6 rfl rfl)
theorem dX2_image_57 : decode cX2_image 57 = .ok (.iconst 0, 1) := dk_3 (dk_at dksX2_image_2 9 rfl rfl)
theorem dX2_image_58 : decode cX2_image 58 = .ok (.goto 26, 3) := dk_167 0 26 (dk_at dksX2_image_2 10 rfl rfl)
theorem dX2_image_61 : decode cX2_image 61 = .ok (.iload_n 2, 1) := dk_28 (dk_at dksX2_image_2 13 rfl rfl)
theorem dX2_image_62 : decode cX2_image 62 = .ok (.iconst 3, 1) := dk_6 (dk_at dksX2_image_2 14 rfl rfl)
theorem dX2_image_63 : decode cX2_image 63 = .ok (.if_icmp .ge 11, 3) := dk_162 0 11 (dk_at dksX2_image_2 15 rfl rfl)
theorem dX2_image_66 : decode cX2_image 66 = .ok (.aload_n 0, 1) := dk_42 (dk_at dksX2_image_2 18 rfl rfl)
theorem dX2_image_67 : decode cX2_image 67 = .ok (.iload_n 2, 1) := dk_28 (dk_at dksX2_image_2 19 rfl rfl)
theorem dX2_image_68 : decode cX2_image 68 = .ok (.invokevirtual 236, 3) := dk_182 0 236 (dk_at dksX2_image_2 20 rfl rfl)
theorem dX2_image_71 : decode cX2_image 71 = .ok (.goto 13, 3) := dk_167 0 13 (dk_at dksX2_image_3 0 rfl rfl)
theorem dX2_image_74 : decode cX2_image 74 = .ok (.aload_n 0, 1) := dk_42 (dk_at dksX2_image_3 3 rfl rfl)
theorem dX2_image_75 : decode cX2_image 75 = .ok (.iload_n 3, 1) := dk_29 (dk_at dksX2_image_3 4 rfl rfl)
theorem dX2_image_76 : decode cX2_image 76 = .ok (.iconst 1, 1) := dk_4 (dk_at dksX2_image_3 5 rfl rfl)
theorem dX2_image_77 : decode cX2_image 77 = .ok (.iload_n 2, 1) := dk_28 (dk_at dksX2_image_3 6 rfl rfl)
theorem dX2_image_78 : decode cX2_image 78 = .ok (.iconst 3, 1) := dk_6 (dk_at dksX2_image_3 7 rfl rfl)
theorem dX2_image_79 : decode cX2_image 79 = .ok (.irem, 1) := dk_112 (dk_at dksX2_image_3 8 rfl rfl)
theorem dX2_image_80 : decode cX2_image 80 = .ok (.iadd, 1) := dk_96 (dk_at dksX2_image_3 9 rfl rfl)
theorem dX2_image_81 : decode cX2_image 81 = .ok (.invokevirtual 230, 3) := dk_182 0 230 (dk_at dksX2_image_3 10 rfl rfl)
theorem dX2_image_84 : decode cX2_image 84 = .ok (.iastore, 1) := dk_79 (dk_at dksX2_image_3 13 rfl rfl)
theorem dX2_image_85 : decode cX2_image 85 = .ok (.iinc 2 1, 3) := dk_132 2 1 (dk_at dksX2_image_3 14 rfl rfl)
theorem dX2_image_88 : decode cX2_image 88 = .ok (.goto (-63), 3) := dk_167 255 193 (dk_at dksX2_image_3 17 rfl rfl)
theorem dX2_image_91 : decode cX2_image 91 = .ok (.aload_n 0, 1) := dk_42 (dk_at dksX2_image_3 20 rfl rfl)
theorem dX2_image_92 : decode cX2_image 92 = .ok (.getfield 13, 3) := dk_180 0 13 (dk_at dksX2_image_3 21 rfl rfl)
theorem dX2_image_95 : decode cX2_image 95 = .ok (.iload_n 1, 1) := dk_27 (dk_at dksX2_image_4 0 rfl rfl)
theorem dX2_image_96 : decode cX2_image 96 = .ok (.iaload, 1) := dk_46 (dk_at dksX2_image_4 1 rfl rfl)
theorem dX2_image_97 : decode cX2_image 97 = .ok (.ireturn, 1) := dk_172 (dk_at dksX2_image_4 2 rfl rfl)
abbrev cX2_on : ByteArray := prog_12_method_69_code
def yX2_on : MethodName := ⟨RX2, "on", "(I)I"⟩
def dkwX2_on_6 : List UInt8 := [42, 180, 0, 74, 28, 42, 27, 8, 6, 28, 104, 96, 182, 0, 122, 79, 132, 2, 1, 167, 255, 197, 4, 172]
abbrev dktX2_on_6 : List UInt8 := dkwX2_on_6 ++ []
def dkwX2_on_5 : List UInt8 := [6, 28, 104, 96, 182, 0, 122, 79, 42, 180, 0, 71, 28, 42, 27, 7, 6, 28, 104, 96, 182, 0, 122, 79]
abbrev dktX2_on_5 : List UInt8 := dkwX2_on_5 ++ dktX2_on_6
def dkwX2_on_4 : List UInt8 := [132, 2, 1, 167, 255, 231, 3, 61, 28, 42, 180, 0, 203, 162, 0, 57, 42, 180, 0, 68, 28, 42, 27, 6]
abbrev dktX2_on_4 : List UInt8 := dkwX2_on_4 ++ dktX2_on_5
def dkwX2_on_3 : List UInt8 := [61, 28, 42, 180, 0, 194, 162, 0, 23, 42, 180, 0, 62, 28, 42, 27, 4, 28, 96, 182, 0, 122, 79]
abbrev dktX2_on_3 : List UInt8 := dkwX2_on_3 ++ dktX2_on_4
def dkwX2_on_2 : List UInt8 := [27, 182, 1, 21, 154, 0, 9, 42, 6, 182, 0, 118, 172, 42, 42, 27, 3, 182, 0, 122, 181, 0, 206, 3]
abbrev dktX2_on_2 : List UInt8 := dkwX2_on_2 ++ dktX2_on_3
def dkwX2_on_1 : List UInt8 := [42, 180, 0, 13, 27, 46, 6, 6, 42, 180, 0, 203, 104, 96, 159, 0, 9, 42, 8, 182, 0, 118, 172, 42]
abbrev dktX2_on_1 : List UInt8 := dkwX2_on_1 ++ dktX2_on_2
def dkwX2_on_0 : List UInt8 := [27, 184, 0, 114, 154, 0, 5, 2, 172, 42, 180, 0, 13, 27, 46, 156, 0, 9, 42, 4, 182, 0, 118, 172]
abbrev dktX2_on_0 : List UInt8 := dkwX2_on_0 ++ dktX2_on_1
theorem dksX2_on_0 : cX2_on.data.toList.drop 0 = dktX2_on_0 := by decide +kernel
theorem dksX2_on_1 : cX2_on.data.toList.drop 24 = dktX2_on_1 := dk_seg dksX2_on_0 24 rfl rfl
theorem dksX2_on_2 : cX2_on.data.toList.drop 48 = dktX2_on_2 := dk_seg dksX2_on_1 24 rfl rfl
theorem dksX2_on_3 : cX2_on.data.toList.drop 72 = dktX2_on_3 := dk_seg dksX2_on_2 24 rfl rfl
theorem dksX2_on_4 : cX2_on.data.toList.drop 95 = dktX2_on_4 := dk_seg dksX2_on_3 23 rfl rfl
theorem dksX2_on_5 : cX2_on.data.toList.drop 119 = dktX2_on_5 := dk_seg dksX2_on_4 24 rfl rfl
theorem dksX2_on_6 : cX2_on.data.toList.drop 143 = dktX2_on_6 := dk_seg dksX2_on_5 24 rfl rfl
theorem dX2_on_0 : decode cX2_on 0 = .ok (.iload_n 1, 1) := dk_27 (dk_at dksX2_on_0 0 rfl rfl)
theorem dX2_on_1 : decode cX2_on 1 = .ok (.invokestatic 114, 3) := dk_184 0 114 (dk_at dksX2_on_0 1 rfl rfl)
theorem dX2_on_4 : decode cX2_on 4 = .ok (.ifCond .ne 5, 3) := dk_154 0 5 (dk_at dksX2_on_0 4 rfl rfl)
theorem dX2_on_7 : decode cX2_on 7 = .ok (.iconst (-1), 1) := dk_2 (dk_at dksX2_on_0 7 rfl rfl)
theorem dX2_on_8 : decode cX2_on 8 = .ok (.ireturn, 1) := dk_172 (dk_at dksX2_on_0 8 rfl rfl)
theorem dX2_on_9 : decode cX2_on 9 = .ok (.aload_n 0, 1) := dk_42 (dk_at dksX2_on_0 9 rfl rfl)
theorem dX2_on_10 : decode cX2_on 10 = .ok (.getfield 13, 3) := dk_180 0 13 (dk_at dksX2_on_0 10 rfl rfl)
theorem dX2_on_13 : decode cX2_on 13 = .ok (.iload_n 1, 1) := dk_27 (dk_at dksX2_on_0 13 rfl rfl)
theorem dX2_on_14 : decode cX2_on 14 = .ok (.iaload, 1) := dk_46 (dk_at dksX2_on_0 14 rfl rfl)
theorem dX2_on_15 : decode cX2_on 15 = .ok (.ifCond .ge 9, 3) := dk_156 0 9 (dk_at dksX2_on_0 15 rfl rfl)
theorem dX2_on_18 : decode cX2_on 18 = .ok (.aload_n 0, 1) := dk_42 (dk_at dksX2_on_0 18 rfl rfl)
theorem dX2_on_19 : decode cX2_on 19 = .ok (.iconst 1, 1) := dk_4 (dk_at dksX2_on_0 19 rfl rfl)
theorem dX2_on_20 : decode cX2_on 20 = .ok (.invokevirtual 118, 3) := dk_182 0 118 (dk_at dksX2_on_0 20 rfl rfl)
theorem dX2_on_23 : decode cX2_on 23 = .ok (.ireturn, 1) := dk_172 (dk_at dksX2_on_0 23 rfl rfl)
theorem dX2_on_24 : decode cX2_on 24 = .ok (.aload_n 0, 1) := dk_42 (dk_at dksX2_on_1 0 rfl rfl)
theorem dX2_on_25 : decode cX2_on 25 = .ok (.getfield 13, 3) := dk_180 0 13 (dk_at dksX2_on_1 1 rfl rfl)
theorem dX2_on_28 : decode cX2_on 28 = .ok (.iload_n 1, 1) := dk_27 (dk_at dksX2_on_1 4 rfl rfl)
theorem dX2_on_29 : decode cX2_on 29 = .ok (.iaload, 1) := dk_46 (dk_at dksX2_on_1 5 rfl rfl)
theorem dX2_on_30 : decode cX2_on 30 = .ok (.iconst 3, 1) := dk_6 (dk_at dksX2_on_1 6 rfl rfl)
theorem dX2_on_31 : decode cX2_on 31 = .ok (.iconst 3, 1) := dk_6 (dk_at dksX2_on_1 7 rfl rfl)
theorem dX2_on_32 : decode cX2_on 32 = .ok (.aload_n 0, 1) := dk_42 (dk_at dksX2_on_1 8 rfl rfl)
theorem dX2_on_33 : decode cX2_on 33 = .ok (.getfield 203, 3) := dk_180 0 203 (dk_at dksX2_on_1 9 rfl rfl)
theorem dX2_on_36 : decode cX2_on 36 = .ok (.imul, 1) := dk_104 (dk_at dksX2_on_1 12 rfl rfl)
theorem dX2_on_37 : decode cX2_on 37 = .ok (.iadd, 1) := dk_96 (dk_at dksX2_on_1 13 rfl rfl)
theorem dX2_on_38 : decode cX2_on 38 = .ok (.if_icmp .eq 9, 3) := dk_159 0 9 (dk_at dksX2_on_1 14 rfl rfl)
theorem dX2_on_41 : decode cX2_on 41 = .ok (.aload_n 0, 1) := dk_42 (dk_at dksX2_on_1 17 rfl rfl)
theorem dX2_on_42 : decode cX2_on 42 = .ok (.iconst 5, 1) := dk_8 (dk_at dksX2_on_1 18 rfl rfl)
theorem dX2_on_43 : decode cX2_on 43 = .ok (.invokevirtual 118, 3) := dk_182 0 118 (dk_at dksX2_on_1 19 rfl rfl)
theorem dX2_on_46 : decode cX2_on 46 = .ok (.ireturn, 1) := dk_172 (dk_at dksX2_on_1 22 rfl rfl)
theorem dX2_on_47 : decode cX2_on 47 = .ok (.aload_n 0, 1) := dk_42 (dk_at dksX2_on_1 23 rfl rfl)
theorem dX2_on_48 : decode cX2_on 48 = .ok (.iload_n 1, 1) := dk_27 (dk_at dksX2_on_2 0 rfl rfl)
theorem dX2_on_49 : decode cX2_on 49 = .ok (.invokevirtual 277, 3) := dk_182 1 21 (dk_at dksX2_on_2 1 rfl rfl)
theorem dX2_on_52 : decode cX2_on 52 = .ok (.ifCond .ne 9, 3) := dk_154 0 9 (dk_at dksX2_on_2 4 rfl rfl)
theorem dX2_on_55 : decode cX2_on 55 = .ok (.aload_n 0, 1) := dk_42 (dk_at dksX2_on_2 7 rfl rfl)
theorem dX2_on_56 : decode cX2_on 56 = .ok (.iconst 3, 1) := dk_6 (dk_at dksX2_on_2 8 rfl rfl)
theorem dX2_on_57 : decode cX2_on 57 = .ok (.invokevirtual 118, 3) := dk_182 0 118 (dk_at dksX2_on_2 9 rfl rfl)
theorem dX2_on_60 : decode cX2_on 60 = .ok (.ireturn, 1) := dk_172 (dk_at dksX2_on_2 12 rfl rfl)
theorem dX2_on_61 : decode cX2_on 61 = .ok (.aload_n 0, 1) := dk_42 (dk_at dksX2_on_2 13 rfl rfl)
theorem dX2_on_62 : decode cX2_on 62 = .ok (.aload_n 0, 1) := dk_42 (dk_at dksX2_on_2 14 rfl rfl)
theorem dX2_on_63 : decode cX2_on 63 = .ok (.iload_n 1, 1) := dk_27 (dk_at dksX2_on_2 15 rfl rfl)
theorem dX2_on_64 : decode cX2_on 64 = .ok (.iconst 0, 1) := dk_3 (dk_at dksX2_on_2 16 rfl rfl)
theorem dX2_on_65 : decode cX2_on 65 = .ok (.invokevirtual 122, 3) := dk_182 0 122 (dk_at dksX2_on_2 17 rfl rfl)
theorem dX2_on_68 : decode cX2_on 68 = .ok (.putfield 206, 3) := dk_181 0 206 (dk_at dksX2_on_2 20 rfl rfl)
theorem dX2_on_71 : decode cX2_on 71 = .ok (.iconst 0, 1) := dk_3 (dk_at dksX2_on_2 23 rfl rfl)
theorem dX2_on_72 : decode cX2_on 72 = .ok (.istore_n 2, 1) := dk_61 (dk_at dksX2_on_3 0 rfl rfl)
theorem dX2_on_73 : decode cX2_on 73 = .ok (.iload_n 2, 1) := dk_28 (dk_at dksX2_on_3 1 rfl rfl)
theorem dX2_on_74 : decode cX2_on 74 = .ok (.aload_n 0, 1) := dk_42 (dk_at dksX2_on_3 2 rfl rfl)
theorem dX2_on_75 : decode cX2_on 75 = .ok (.getfield 194, 3) := dk_180 0 194 (dk_at dksX2_on_3 3 rfl rfl)
theorem dX2_on_78 : decode cX2_on 78 = .ok (.if_icmp .ge 23, 3) := dk_162 0 23 (dk_at dksX2_on_3 6 rfl rfl)
theorem dX2_on_81 : decode cX2_on 81 = .ok (.aload_n 0, 1) := dk_42 (dk_at dksX2_on_3 9 rfl rfl)
theorem dX2_on_82 : decode cX2_on 82 = .ok (.getfield 62, 3) := dk_180 0 62 (dk_at dksX2_on_3 10 rfl rfl)
theorem dX2_on_85 : decode cX2_on 85 = .ok (.iload_n 2, 1) := dk_28 (dk_at dksX2_on_3 13 rfl rfl)
theorem dX2_on_86 : decode cX2_on 86 = .ok (.aload_n 0, 1) := dk_42 (dk_at dksX2_on_3 14 rfl rfl)
theorem dX2_on_87 : decode cX2_on 87 = .ok (.iload_n 1, 1) := dk_27 (dk_at dksX2_on_3 15 rfl rfl)
theorem dX2_on_88 : decode cX2_on 88 = .ok (.iconst 1, 1) := dk_4 (dk_at dksX2_on_3 16 rfl rfl)
theorem dX2_on_89 : decode cX2_on 89 = .ok (.iload_n 2, 1) := dk_28 (dk_at dksX2_on_3 17 rfl rfl)
theorem dX2_on_90 : decode cX2_on 90 = .ok (.iadd, 1) := dk_96 (dk_at dksX2_on_3 18 rfl rfl)
theorem dX2_on_91 : decode cX2_on 91 = .ok (.invokevirtual 122, 3) := dk_182 0 122 (dk_at dksX2_on_3 19 rfl rfl)
theorem dX2_on_94 : decode cX2_on 94 = .ok (.iastore, 1) := dk_79 (dk_at dksX2_on_3 22 rfl rfl)
theorem dX2_on_95 : decode cX2_on 95 = .ok (.iinc 2 1, 3) := dk_132 2 1 (dk_at dksX2_on_4 0 rfl rfl)
theorem dX2_on_98 : decode cX2_on 98 = .ok (.goto (-25), 3) := dk_167 255 231 (dk_at dksX2_on_4 3 rfl rfl)
theorem dX2_on_101 : decode cX2_on 101 = .ok (.iconst 0, 1) := dk_3 (dk_at dksX2_on_4 6 rfl rfl)
theorem dX2_on_102 : decode cX2_on 102 = .ok (.istore_n 2, 1) := dk_61 (dk_at dksX2_on_4 7 rfl rfl)
theorem dX2_on_103 : decode cX2_on 103 = .ok (.iload_n 2, 1) := dk_28 (dk_at dksX2_on_4 8 rfl rfl)
theorem dX2_on_104 : decode cX2_on 104 = .ok (.aload_n 0, 1) := dk_42 (dk_at dksX2_on_4 9 rfl rfl)
theorem dX2_on_105 : decode cX2_on 105 = .ok (.getfield 203, 3) := dk_180 0 203 (dk_at dksX2_on_4 10 rfl rfl)
theorem dX2_on_108 : decode cX2_on 108 = .ok (.if_icmp .ge 57, 3) := dk_162 0 57 (dk_at dksX2_on_4 13 rfl rfl)
theorem dX2_on_111 : decode cX2_on 111 = .ok (.aload_n 0, 1) := dk_42 (dk_at dksX2_on_4 16 rfl rfl)
theorem dX2_on_112 : decode cX2_on 112 = .ok (.getfield 68, 3) := dk_180 0 68 (dk_at dksX2_on_4 17 rfl rfl)
theorem dX2_on_115 : decode cX2_on 115 = .ok (.iload_n 2, 1) := dk_28 (dk_at dksX2_on_4 20 rfl rfl)
theorem dX2_on_116 : decode cX2_on 116 = .ok (.aload_n 0, 1) := dk_42 (dk_at dksX2_on_4 21 rfl rfl)
theorem dX2_on_117 : decode cX2_on 117 = .ok (.iload_n 1, 1) := dk_27 (dk_at dksX2_on_4 22 rfl rfl)
theorem dX2_on_118 : decode cX2_on 118 = .ok (.iconst 3, 1) := dk_6 (dk_at dksX2_on_4 23 rfl rfl)
theorem dX2_on_119 : decode cX2_on 119 = .ok (.iconst 3, 1) := dk_6 (dk_at dksX2_on_5 0 rfl rfl)
theorem dX2_on_120 : decode cX2_on 120 = .ok (.iload_n 2, 1) := dk_28 (dk_at dksX2_on_5 1 rfl rfl)
theorem dX2_on_121 : decode cX2_on 121 = .ok (.imul, 1) := dk_104 (dk_at dksX2_on_5 2 rfl rfl)
theorem dX2_on_122 : decode cX2_on 122 = .ok (.iadd, 1) := dk_96 (dk_at dksX2_on_5 3 rfl rfl)
theorem dX2_on_123 : decode cX2_on 123 = .ok (.invokevirtual 122, 3) := dk_182 0 122 (dk_at dksX2_on_5 4 rfl rfl)
theorem dX2_on_126 : decode cX2_on 126 = .ok (.iastore, 1) := dk_79 (dk_at dksX2_on_5 7 rfl rfl)
theorem dX2_on_127 : decode cX2_on 127 = .ok (.aload_n 0, 1) := dk_42 (dk_at dksX2_on_5 8 rfl rfl)
theorem dX2_on_128 : decode cX2_on 128 = .ok (.getfield 71, 3) := dk_180 0 71 (dk_at dksX2_on_5 9 rfl rfl)
theorem dX2_on_131 : decode cX2_on 131 = .ok (.iload_n 2, 1) := dk_28 (dk_at dksX2_on_5 12 rfl rfl)
theorem dX2_on_132 : decode cX2_on 132 = .ok (.aload_n 0, 1) := dk_42 (dk_at dksX2_on_5 13 rfl rfl)
theorem dX2_on_133 : decode cX2_on 133 = .ok (.iload_n 1, 1) := dk_27 (dk_at dksX2_on_5 14 rfl rfl)
theorem dX2_on_134 : decode cX2_on 134 = .ok (.iconst 4, 1) := dk_7 (dk_at dksX2_on_5 15 rfl rfl)
theorem dX2_on_135 : decode cX2_on 135 = .ok (.iconst 3, 1) := dk_6 (dk_at dksX2_on_5 16 rfl rfl)
theorem dX2_on_136 : decode cX2_on 136 = .ok (.iload_n 2, 1) := dk_28 (dk_at dksX2_on_5 17 rfl rfl)
theorem dX2_on_137 : decode cX2_on 137 = .ok (.imul, 1) := dk_104 (dk_at dksX2_on_5 18 rfl rfl)
theorem dX2_on_138 : decode cX2_on 138 = .ok (.iadd, 1) := dk_96 (dk_at dksX2_on_5 19 rfl rfl)
theorem dX2_on_139 : decode cX2_on 139 = .ok (.invokevirtual 122, 3) := dk_182 0 122 (dk_at dksX2_on_5 20 rfl rfl)
theorem dX2_on_142 : decode cX2_on 142 = .ok (.iastore, 1) := dk_79 (dk_at dksX2_on_5 23 rfl rfl)
theorem dX2_on_143 : decode cX2_on 143 = .ok (.aload_n 0, 1) := dk_42 (dk_at dksX2_on_6 0 rfl rfl)
theorem dX2_on_144 : decode cX2_on 144 = .ok (.getfield 74, 3) := dk_180 0 74 (dk_at dksX2_on_6 1 rfl rfl)
theorem dX2_on_147 : decode cX2_on 147 = .ok (.iload_n 2, 1) := dk_28 (dk_at dksX2_on_6 4 rfl rfl)
theorem dX2_on_148 : decode cX2_on 148 = .ok (.aload_n 0, 1) := dk_42 (dk_at dksX2_on_6 5 rfl rfl)
theorem dX2_on_149 : decode cX2_on 149 = .ok (.iload_n 1, 1) := dk_27 (dk_at dksX2_on_6 6 rfl rfl)
theorem dX2_on_150 : decode cX2_on 150 = .ok (.iconst 5, 1) := dk_8 (dk_at dksX2_on_6 7 rfl rfl)
theorem dX2_on_151 : decode cX2_on 151 = .ok (.iconst 3, 1) := dk_6 (dk_at dksX2_on_6 8 rfl rfl)
theorem dX2_on_152 : decode cX2_on 152 = .ok (.iload_n 2, 1) := dk_28 (dk_at dksX2_on_6 9 rfl rfl)
theorem dX2_on_153 : decode cX2_on 153 = .ok (.imul, 1) := dk_104 (dk_at dksX2_on_6 10 rfl rfl)
theorem dX2_on_154 : decode cX2_on 154 = .ok (.iadd, 1) := dk_96 (dk_at dksX2_on_6 11 rfl rfl)
theorem dX2_on_155 : decode cX2_on 155 = .ok (.invokevirtual 122, 3) := dk_182 0 122 (dk_at dksX2_on_6 12 rfl rfl)
theorem dX2_on_158 : decode cX2_on 158 = .ok (.iastore, 1) := dk_79 (dk_at dksX2_on_6 15 rfl rfl)
theorem dX2_on_159 : decode cX2_on 159 = .ok (.iinc 2 1, 3) := dk_132 2 1 (dk_at dksX2_on_6 16 rfl rfl)
theorem dX2_on_162 : decode cX2_on 162 = .ok (.goto (-59), 3) := dk_167 255 197 (dk_at dksX2_on_6 19 rfl rfl)
theorem dX2_on_165 : decode cX2_on 165 = .ok (.iconst 1, 1) := dk_4 (dk_at dksX2_on_6 22 rfl rfl)
theorem dX2_on_166 : decode cX2_on 166 = .ok (.ireturn, 1) := dk_172 (dk_at dksX2_on_6 23 rfl rfl)
abbrev cX2_isImage : ByteArray := prog_12_method_68_code
def yX2_isImage : MethodName := ⟨RX2, "isImage", "(I)Z"⟩
def dkwX2_isImage_8 : List UInt8 := [132, 4, 1, 167, 255, 153, 29, 172]
abbrev dktX2_isImage_8 : List UInt8 := dkwX2_isImage_8 ++ []
def dkwX2_isImage_7 : List UInt8 := [16, 247, 160, 0, 20, 167, 0, 13, 21, 6, 4, 28, 184, 0, 104, 153, 0, 7, 4, 167, 0, 4, 3, 62]
abbrev dktX2_isImage_7 : List UInt8 := dkwX2_isImage_7 ++ dktX2_isImage_8
def dkwX2_isImage_6 : List UInt8 := [184, 0, 104, 153, 0, 42, 21, 5, 3, 28, 184, 0, 104, 153, 0, 32, 21, 5, 154, 0, 13, 21, 6]
abbrev dktX2_isImage_6 : List UInt8 := dkwX2_isImage_6 ++ dktX2_isImage_7
def dkwX2_isImage_5 : List UInt8 := [21, 4, 104, 96, 182, 0, 122, 54, 6, 42, 27, 6, 6, 21, 4, 104, 96, 182, 0, 122, 3, 16, 60]
abbrev dktX2_isImage_5 : List UInt8 := dkwX2_isImage_5 ++ dktX2_isImage_6
def dkwX2_isImage_4 : List UInt8 := [162, 0, 100, 29, 153, 0, 96, 42, 27, 7, 6, 21, 4, 104, 96, 182, 0, 122, 54, 5, 42, 27, 8, 6]
abbrev dktX2_isImage_4 : List UInt8 := dkwX2_isImage_4 ++ dktX2_isImage_5
def dkwX2_isImage_3 : List UInt8 := [160, 0, 7, 4, 167, 0, 4, 3, 62, 132, 4, 1, 167, 255, 195, 3, 54, 4, 21, 4, 42, 180, 0, 203]
abbrev dktX2_isImage_3 : List UInt8 := dkwX2_isImage_3 ++ dktX2_isImage_4
def dkwX2_isImage_2 : List UInt8 := [162, 0, 18, 21, 5, 3, 17, 0, 200, 184, 0, 104, 153, 0, 17, 167, 0, 10, 21, 5, 16, 247]
abbrev dktX2_isImage_2 : List UInt8 := dkwX2_isImage_2 ++ dktX2_isImage_3
def dkwX2_isImage_1 : List UInt8 := [162, 0, 61, 42, 27, 4, 21, 4, 96, 182, 0, 122, 54, 5, 29, 153, 0, 38, 21, 4, 42, 180, 0, 194]
abbrev dktX2_isImage_1 : List UInt8 := dkwX2_isImage_1 ++ dktX2_isImage_2
def dkwX2_isImage_0 : List UInt8 := [42, 27, 3, 182, 0, 122, 61, 28, 3, 17, 39, 15, 184, 0, 104, 62, 3, 54, 4, 21, 4, 5]
abbrev dktX2_isImage_0 : List UInt8 := dkwX2_isImage_0 ++ dktX2_isImage_1
theorem dksX2_isImage_0 : cX2_isImage.data.toList.drop 0 = dktX2_isImage_0 := by decide +kernel
theorem dksX2_isImage_1 : cX2_isImage.data.toList.drop 22 = dktX2_isImage_1 := dk_seg dksX2_isImage_0 22 rfl rfl
theorem dksX2_isImage_2 : cX2_isImage.data.toList.drop 46 = dktX2_isImage_2 := dk_seg dksX2_isImage_1 24 rfl rfl
theorem dksX2_isImage_3 : cX2_isImage.data.toList.drop 68 = dktX2_isImage_3 := dk_seg dksX2_isImage_2 22 rfl rfl
theorem dksX2_isImage_4 : cX2_isImage.data.toList.drop 92 = dktX2_isImage_4 := dk_seg dksX2_isImage_3 24 rfl rfl
theorem dksX2_isImage_5 : cX2_isImage.data.toList.drop 116 = dktX2_isImage_5 := dk_seg dksX2_isImage_4 24 rfl rfl
theorem dksX2_isImage_6 : cX2_isImage.data.toList.drop 139 = dktX2_isImage_6 := dk_seg dksX2_isImage_5 23 rfl rfl
theorem dksX2_isImage_7 : cX2_isImage.data.toList.drop 162 = dktX2_isImage_7 := dk_seg dksX2_isImage_6 23 rfl rfl
theorem dksX2_isImage_8 : cX2_isImage.data.toList.drop 186 = dktX2_isImage_8 := dk_seg dksX2_isImage_7 24 rfl rfl
theorem dX2_isImage_0 : decode cX2_isImage 0 = .ok (.aload_n 0, 1) := dk_42 (dk_at dksX2_isImage_0 0 rfl rfl)
theorem dX2_isImage_1 : decode cX2_isImage 1 = .ok (.iload_n 1, 1) := dk_27 (dk_at dksX2_isImage_0 1 rfl rfl)
theorem dX2_isImage_2 : decode cX2_isImage 2 = .ok (.iconst 0, 1) := dk_3 (dk_at dksX2_isImage_0 2 rfl rfl)
theorem dX2_isImage_3 : decode cX2_isImage 3 = .ok (.invokevirtual 122, 3) := dk_182 0 122 (dk_at dksX2_isImage_0 3 rfl rfl)
theorem dX2_isImage_6 : decode cX2_isImage 6 = .ok (.istore_n 2, 1) := dk_61 (dk_at dksX2_isImage_0 6 rfl rfl)
theorem dX2_isImage_7 : decode cX2_isImage 7 = .ok (.iload_n 2, 1) := dk_28 (dk_at dksX2_isImage_0 7 rfl rfl)
theorem dX2_isImage_8 : decode cX2_isImage 8 = .ok (.iconst 0, 1) := dk_3 (dk_at dksX2_isImage_0 8 rfl rfl)
theorem dX2_isImage_9 : decode cX2_isImage 9 = .ok (.sipush 9999, 3) := dk_17 39 15 (dk_at dksX2_isImage_0 9 rfl rfl)
theorem dX2_isImage_12 : decode cX2_isImage 12 = .ok (.invokestatic 104, 3) := dk_184 0 104 (dk_at dksX2_isImage_0 12 rfl rfl)
theorem dX2_isImage_15 : decode cX2_isImage 15 = .ok (.istore_n 3, 1) := dk_62 (dk_at dksX2_isImage_0 15 rfl rfl)
theorem dX2_isImage_16 : decode cX2_isImage 16 = .ok (.iconst 0, 1) := dk_3 (dk_at dksX2_isImage_0 16 rfl rfl)
theorem dX2_isImage_17 : decode cX2_isImage 17 = .ok (.istore 4, 2) := dk_54 4 (dk_at dksX2_isImage_0 17 rfl rfl)
theorem dX2_isImage_19 : decode cX2_isImage 19 = .ok (.iload 4, 2) := dk_21 4 (dk_at dksX2_isImage_0 19 rfl rfl)
theorem dX2_isImage_21 : decode cX2_isImage 21 = .ok (.iconst 2, 1) := dk_5 (dk_at dksX2_isImage_0 21 rfl rfl)
theorem dX2_isImage_22 : decode cX2_isImage 22 = .ok (.if_icmp .ge 61, 3) := dk_162 0 61 (dk_at dksX2_isImage_1 0 rfl rfl)
theorem dX2_isImage_25 : decode cX2_isImage 25 = .ok (.aload_n 0, 1) := dk_42 (dk_at dksX2_isImage_1 3 rfl rfl)
theorem dX2_isImage_26 : decode cX2_isImage 26 = .ok (.iload_n 1, 1) := dk_27 (dk_at dksX2_isImage_1 4 rfl rfl)
theorem dX2_isImage_27 : decode cX2_isImage 27 = .ok (.iconst 1, 1) := dk_4 (dk_at dksX2_isImage_1 5 rfl rfl)
theorem dX2_isImage_28 : decode cX2_isImage 28 = .ok (.iload 4, 2) := dk_21 4 (dk_at dksX2_isImage_1 6 rfl rfl)
theorem dX2_isImage_30 : decode cX2_isImage 30 = .ok (.iadd, 1) := dk_96 (dk_at dksX2_isImage_1 8 rfl rfl)
theorem dX2_isImage_31 : decode cX2_isImage 31 = .ok (.invokevirtual 122, 3) := dk_182 0 122 (dk_at dksX2_isImage_1 9 rfl rfl)
theorem dX2_isImage_34 : decode cX2_isImage 34 = .ok (.istore 5, 2) := dk_54 5 (dk_at dksX2_isImage_1 12 rfl rfl)
theorem dX2_isImage_36 : decode cX2_isImage 36 = .ok (.iload_n 3, 1) := dk_29 (dk_at dksX2_isImage_1 14 rfl rfl)
theorem dX2_isImage_37 : decode cX2_isImage 37 = .ok (.ifCond .eq 38, 3) := dk_153 0 38 (dk_at dksX2_isImage_1 15 rfl rfl)
theorem dX2_isImage_40 : decode cX2_isImage 40 = .ok (.iload 4, 2) := dk_21 4 (dk_at dksX2_isImage_1 18 rfl rfl)
theorem dX2_isImage_42 : decode cX2_isImage 42 = .ok (.aload_n 0, 1) := dk_42 (dk_at dksX2_isImage_1 20 rfl rfl)
theorem dX2_isImage_43 : decode cX2_isImage 43 = .ok (.getfield 194, 3) := dk_180 0 194 (dk_at dksX2_isImage_1 21 rfl rfl)
theorem dX2_isImage_46 : decode cX2_isImage 46 = .ok (.if_icmp .ge 18, 3) := dk_162 0 18 (dk_at dksX2_isImage_2 0 rfl rfl)
theorem dX2_isImage_49 : decode cX2_isImage 49 = .ok (.iload 5, 2) := dk_21 5 (dk_at dksX2_isImage_2 3 rfl rfl)
theorem dX2_isImage_51 : decode cX2_isImage 51 = .ok (.iconst 0, 1) := dk_3 (dk_at dksX2_isImage_2 5 rfl rfl)
theorem dX2_isImage_52 : decode cX2_isImage 52 = .ok (.sipush 200, 3) := dk_17 0 200 (dk_at dksX2_isImage_2 6 rfl rfl)
theorem dX2_isImage_55 : decode cX2_isImage 55 = .ok (.invokestatic 104, 3) := dk_184 0 104 (dk_at dksX2_isImage_2 9 rfl rfl)
theorem dX2_isImage_58 : decode cX2_isImage 58 = .ok (.ifCond .eq 17, 3) := dk_153 0 17 (dk_at dksX2_isImage_2 12 rfl rfl)
theorem dX2_isImage_61 : decode cX2_isImage 61 = .ok (.goto 10, 3) := dk_167 0 10 (dk_at dksX2_isImage_2 15 rfl rfl)
theorem dX2_isImage_64 : decode cX2_isImage 64 = .ok (.iload 5, 2) := dk_21 5 (dk_at dksX2_isImage_2 18 rfl rfl)
theorem dX2_isImage_66 : decode cX2_isImage 66 = .ok (.bipush (-9), 2) := dk_16 247 (dk_at dksX2_isImage_2 20 rfl rfl)
theorem dX2_isImage_68 : decode cX2_isImage 68 = .ok (.if_icmp .ne 7, 3) := dk_160 0 7 (dk_at dksX2_isImage_3 0 rfl rfl)
theorem dX2_isImage_71 : decode cX2_isImage 71 = .ok (.iconst 1, 1) := dk_4 (dk_at dksX2_isImage_3 3 rfl rfl)
theorem dX2_isImage_72 : decode cX2_isImage 72 = .ok (.goto 4, 3) := dk_167 0 4 (dk_at dksX2_isImage_3 4 rfl rfl)
theorem dX2_isImage_75 : decode cX2_isImage 75 = .ok (.iconst 0, 1) := dk_3 (dk_at dksX2_isImage_3 7 rfl rfl)
theorem dX2_isImage_76 : decode cX2_isImage 76 = .ok (.istore_n 3, 1) := dk_62 (dk_at dksX2_isImage_3 8 rfl rfl)
theorem dX2_isImage_77 : decode cX2_isImage 77 = .ok (.iinc 4 1, 3) := dk_132 4 1 (dk_at dksX2_isImage_3 9 rfl rfl)
theorem dX2_isImage_80 : decode cX2_isImage 80 = .ok (.goto (-61), 3) := dk_167 255 195 (dk_at dksX2_isImage_3 12 rfl rfl)
theorem dX2_isImage_83 : decode cX2_isImage 83 = .ok (.iconst 0, 1) := dk_3 (dk_at dksX2_isImage_3 15 rfl rfl)
theorem dX2_isImage_84 : decode cX2_isImage 84 = .ok (.istore 4, 2) := dk_54 4 (dk_at dksX2_isImage_3 16 rfl rfl)
theorem dX2_isImage_86 : decode cX2_isImage 86 = .ok (.iload 4, 2) := dk_21 4 (dk_at dksX2_isImage_3 18 rfl rfl)
theorem dX2_isImage_88 : decode cX2_isImage 88 = .ok (.aload_n 0, 1) := dk_42 (dk_at dksX2_isImage_3 20 rfl rfl)
theorem dX2_isImage_89 : decode cX2_isImage 89 = .ok (.getfield 203, 3) := dk_180 0 203 (dk_at dksX2_isImage_3 21 rfl rfl)
theorem dX2_isImage_92 : decode cX2_isImage 92 = .ok (.if_icmp .ge 100, 3) := dk_162 0 100 (dk_at dksX2_isImage_4 0 rfl rfl)
theorem dX2_isImage_95 : decode cX2_isImage 95 = .ok (.iload_n 3, 1) := dk_29 (dk_at dksX2_isImage_4 3 rfl rfl)
theorem dX2_isImage_96 : decode cX2_isImage 96 = .ok (.ifCond .eq 96, 3) := dk_153 0 96 (dk_at dksX2_isImage_4 4 rfl rfl)
theorem dX2_isImage_99 : decode cX2_isImage 99 = .ok (.aload_n 0, 1) := dk_42 (dk_at dksX2_isImage_4 7 rfl rfl)
theorem dX2_isImage_100 : decode cX2_isImage 100 = .ok (.iload_n 1, 1) := dk_27 (dk_at dksX2_isImage_4 8 rfl rfl)
theorem dX2_isImage_101 : decode cX2_isImage 101 = .ok (.iconst 4, 1) := dk_7 (dk_at dksX2_isImage_4 9 rfl rfl)
theorem dX2_isImage_102 : decode cX2_isImage 102 = .ok (.iconst 3, 1) := dk_6 (dk_at dksX2_isImage_4 10 rfl rfl)
theorem dX2_isImage_103 : decode cX2_isImage 103 = .ok (.iload 4, 2) := dk_21 4 (dk_at dksX2_isImage_4 11 rfl rfl)
theorem dX2_isImage_105 : decode cX2_isImage 105 = .ok (.imul, 1) := dk_104 (dk_at dksX2_isImage_4 13 rfl rfl)
theorem dX2_isImage_106 : decode cX2_isImage 106 = .ok (.iadd, 1) := dk_96 (dk_at dksX2_isImage_4 14 rfl rfl)
theorem dX2_isImage_107 : decode cX2_isImage 107 = .ok (.invokevirtual 122, 3) := dk_182 0 122 (dk_at dksX2_isImage_4 15 rfl rfl)
theorem dX2_isImage_110 : decode cX2_isImage 110 = .ok (.istore 5, 2) := dk_54 5 (dk_at dksX2_isImage_4 18 rfl rfl)
theorem dX2_isImage_112 : decode cX2_isImage 112 = .ok (.aload_n 0, 1) := dk_42 (dk_at dksX2_isImage_4 20 rfl rfl)
theorem dX2_isImage_113 : decode cX2_isImage 113 = .ok (.iload_n 1, 1) := dk_27 (dk_at dksX2_isImage_4 21 rfl rfl)
theorem dX2_isImage_114 : decode cX2_isImage 114 = .ok (.iconst 5, 1) := dk_8 (dk_at dksX2_isImage_4 22 rfl rfl)
theorem dX2_isImage_115 : decode cX2_isImage 115 = .ok (.iconst 3, 1) := dk_6 (dk_at dksX2_isImage_4 23 rfl rfl)
theorem dX2_isImage_116 : decode cX2_isImage 116 = .ok (.iload 4, 2) := dk_21 4 (dk_at dksX2_isImage_5 0 rfl rfl)
theorem dX2_isImage_118 : decode cX2_isImage 118 = .ok (.imul, 1) := dk_104 (dk_at dksX2_isImage_5 2 rfl rfl)
theorem dX2_isImage_119 : decode cX2_isImage 119 = .ok (.iadd, 1) := dk_96 (dk_at dksX2_isImage_5 3 rfl rfl)
theorem dX2_isImage_120 : decode cX2_isImage 120 = .ok (.invokevirtual 122, 3) := dk_182 0 122 (dk_at dksX2_isImage_5 4 rfl rfl)
theorem dX2_isImage_123 : decode cX2_isImage 123 = .ok (.istore 6, 2) := dk_54 6 (dk_at dksX2_isImage_5 7 rfl rfl)
theorem dX2_isImage_125 : decode cX2_isImage 125 = .ok (.aload_n 0, 1) := dk_42 (dk_at dksX2_isImage_5 9 rfl rfl)
theorem dX2_isImage_126 : decode cX2_isImage 126 = .ok (.iload_n 1, 1) := dk_27 (dk_at dksX2_isImage_5 10 rfl rfl)
theorem dX2_isImage_127 : decode cX2_isImage 127 = .ok (.iconst 3, 1) := dk_6 (dk_at dksX2_isImage_5 11 rfl rfl)
theorem dX2_isImage_128 : decode cX2_isImage 128 = .ok (.iconst 3, 1) := dk_6 (dk_at dksX2_isImage_5 12 rfl rfl)
theorem dX2_isImage_129 : decode cX2_isImage 129 = .ok (.iload 4, 2) := dk_21 4 (dk_at dksX2_isImage_5 13 rfl rfl)
theorem dX2_isImage_131 : decode cX2_isImage 131 = .ok (.imul, 1) := dk_104 (dk_at dksX2_isImage_5 15 rfl rfl)
theorem dX2_isImage_132 : decode cX2_isImage 132 = .ok (.iadd, 1) := dk_96 (dk_at dksX2_isImage_5 16 rfl rfl)
theorem dX2_isImage_133 : decode cX2_isImage 133 = .ok (.invokevirtual 122, 3) := dk_182 0 122 (dk_at dksX2_isImage_5 17 rfl rfl)
theorem dX2_isImage_136 : decode cX2_isImage 136 = .ok (.iconst 0, 1) := dk_3 (dk_at dksX2_isImage_5 20 rfl rfl)
theorem dX2_isImage_137 : decode cX2_isImage 137 = .ok (.bipush 60, 2) := dk_16 60 (dk_at dksX2_isImage_5 21 rfl rfl)
theorem dX2_isImage_139 : decode cX2_isImage 139 = .ok (.invokestatic 104, 3) := dk_184 0 104 (dk_at dksX2_isImage_6 0 rfl rfl)
theorem dX2_isImage_142 : decode cX2_isImage 142 = .ok (.ifCond .eq 42, 3) := dk_153 0 42 (dk_at dksX2_isImage_6 3 rfl rfl)
theorem dX2_isImage_145 : decode cX2_isImage 145 = .ok (.iload 5, 2) := dk_21 5 (dk_at dksX2_isImage_6 6 rfl rfl)
theorem dX2_isImage_147 : decode cX2_isImage 147 = .ok (.iconst 0, 1) := dk_3 (dk_at dksX2_isImage_6 8 rfl rfl)
theorem dX2_isImage_148 : decode cX2_isImage 148 = .ok (.iload_n 2, 1) := dk_28 (dk_at dksX2_isImage_6 9 rfl rfl)
theorem dX2_isImage_149 : decode cX2_isImage 149 = .ok (.invokestatic 104, 3) := dk_184 0 104 (dk_at dksX2_isImage_6 10 rfl rfl)
theorem dX2_isImage_152 : decode cX2_isImage 152 = .ok (.ifCond .eq 32, 3) := dk_153 0 32 (dk_at dksX2_isImage_6 13 rfl rfl)
theorem dX2_isImage_155 : decode cX2_isImage 155 = .ok (.iload 5, 2) := dk_21 5 (dk_at dksX2_isImage_6 16 rfl rfl)
theorem dX2_isImage_157 : decode cX2_isImage 157 = .ok (.ifCond .ne 13, 3) := dk_154 0 13 (dk_at dksX2_isImage_6 18 rfl rfl)
theorem dX2_isImage_160 : decode cX2_isImage 160 = .ok (.iload 6, 2) := dk_21 6 (dk_at dksX2_isImage_6 21 rfl rfl)
theorem dX2_isImage_162 : decode cX2_isImage 162 = .ok (.bipush (-9), 2) := dk_16 247 (dk_at dksX2_isImage_7 0 rfl rfl)
theorem dX2_isImage_164 : decode cX2_isImage 164 = .ok (.if_icmp .ne 20, 3) := dk_160 0 20 (dk_at dksX2_isImage_7 2 rfl rfl)
theorem dX2_isImage_167 : decode cX2_isImage 167 = .ok (.goto 13, 3) := dk_167 0 13 (dk_at dksX2_isImage_7 5 rfl rfl)
theorem dX2_isImage_170 : decode cX2_isImage 170 = .ok (.iload 6, 2) := dk_21 6 (dk_at dksX2_isImage_7 8 rfl rfl)
theorem dX2_isImage_172 : decode cX2_isImage 172 = .ok (.iconst 1, 1) := dk_4 (dk_at dksX2_isImage_7 10 rfl rfl)
theorem dX2_isImage_173 : decode cX2_isImage 173 = .ok (.iload_n 2, 1) := dk_28 (dk_at dksX2_isImage_7 11 rfl rfl)
theorem dX2_isImage_174 : decode cX2_isImage 174 = .ok (.invokestatic 104, 3) := dk_184 0 104 (dk_at dksX2_isImage_7 12 rfl rfl)
theorem dX2_isImage_177 : decode cX2_isImage 177 = .ok (.ifCond .eq 7, 3) := dk_153 0 7 (dk_at dksX2_isImage_7 15 rfl rfl)
theorem dX2_isImage_180 : decode cX2_isImage 180 = .ok (.iconst 1, 1) := dk_4 (dk_at dksX2_isImage_7 18 rfl rfl)
theorem dX2_isImage_181 : decode cX2_isImage 181 = .ok (.goto 4, 3) := dk_167 0 4 (dk_at dksX2_isImage_7 19 rfl rfl)
theorem dX2_isImage_184 : decode cX2_isImage 184 = .ok (.iconst 0, 1) := dk_3 (dk_at dksX2_isImage_7 22 rfl rfl)
theorem dX2_isImage_185 : decode cX2_isImage 185 = .ok (.istore_n 3, 1) := dk_62 (dk_at dksX2_isImage_7 23 rfl rfl)
theorem dX2_isImage_186 : decode cX2_isImage 186 = .ok (.iinc 4 1, 3) := dk_132 4 1 (dk_at dksX2_isImage_8 0 rfl rfl)
theorem dX2_isImage_189 : decode cX2_isImage 189 = .ok (.goto (-103), 3) := dk_167 255 153 (dk_at dksX2_isImage_8 3 rfl rfl)
theorem dX2_isImage_192 : decode cX2_isImage 192 = .ok (.iload_n 3, 1) := dk_29 (dk_at dksX2_isImage_8 6 rfl rfl)
theorem dX2_isImage_193 : decode cX2_isImage 193 = .ok (.ireturn, 1) := dk_172 (dk_at dksX2_isImage_8 7 rfl rfl)
abbrev cX2_ring : ByteArray := prog_12_method_77_code
def yX2_ring : MethodName := ⟨RX2, "ring", "()I"⟩
def dkwX2_ring_1 : List UInt8 := [182, 0, 126, 172]
abbrev dktX2_ring_1 : List UInt8 := dkwX2_ring_1 ++ []
def dkwX2_ring_0 : List UInt8 := [42, 182, 1, 49, 154, 0, 6, 16, 250, 172, 42, 182, 1, 40, 42, 42, 180, 1, 43, 42, 180, 1, 46]
abbrev dktX2_ring_0 : List UInt8 := dkwX2_ring_0 ++ dktX2_ring_1
theorem dksX2_ring_0 : cX2_ring.data.toList.drop 0 = dktX2_ring_0 := by decide +kernel
theorem dksX2_ring_1 : cX2_ring.data.toList.drop 23 = dktX2_ring_1 := dk_seg dksX2_ring_0 23 rfl rfl
theorem dX2_ring_0 : decode cX2_ring 0 = .ok (.aload_n 0, 1) := dk_42 (dk_at dksX2_ring_0 0 rfl rfl)
theorem dX2_ring_1 : decode cX2_ring 1 = .ok (.invokevirtual 305, 3) := dk_182 1 49 (dk_at dksX2_ring_0 1 rfl rfl)
theorem dX2_ring_4 : decode cX2_ring 4 = .ok (.ifCond .ne 6, 3) := dk_154 0 6 (dk_at dksX2_ring_0 4 rfl rfl)
theorem dX2_ring_7 : decode cX2_ring 7 = .ok (.bipush (-6), 2) := dk_16 250 (dk_at dksX2_ring_0 7 rfl rfl)
theorem dX2_ring_9 : decode cX2_ring 9 = .ok (.ireturn, 1) := dk_172 (dk_at dksX2_ring_0 9 rfl rfl)
theorem dX2_ring_10 : decode cX2_ring 10 = .ok (.aload_n 0, 1) := dk_42 (dk_at dksX2_ring_0 10 rfl rfl)
theorem dX2_ring_11 : decode cX2_ring 11 = .ok (.invokevirtual 296, 3) := dk_182 1 40 (dk_at dksX2_ring_0 11 rfl rfl)
theorem dX2_ring_14 : decode cX2_ring 14 = .ok (.aload_n 0, 1) := dk_42 (dk_at dksX2_ring_0 14 rfl rfl)
theorem dX2_ring_15 : decode cX2_ring 15 = .ok (.aload_n 0, 1) := dk_42 (dk_at dksX2_ring_0 15 rfl rfl)
theorem dX2_ring_16 : decode cX2_ring 16 = .ok (.getfield 299, 3) := dk_180 1 43 (dk_at dksX2_ring_0 16 rfl rfl)
theorem dX2_ring_19 : decode cX2_ring 19 = .ok (.aload_n 0, 1) := dk_42 (dk_at dksX2_ring_0 19 rfl rfl)
theorem dX2_ring_20 : decode cX2_ring 20 = .ok (.getfield 302, 3) := dk_180 1 46 (dk_at dksX2_ring_0 20 rfl rfl)
theorem dX2_ring_23 : decode cX2_ring 23 = .ok (.invokevirtual 126, 3) := dk_182 0 126 (dk_at dksX2_ring_1 0 rfl rfl)
theorem dX2_ring_26 : decode cX2_ring 26 = .ok (.ireturn, 1) := dk_172 (dk_at dksX2_ring_1 3 rfl rfl)
abbrev cX2_layRing : ByteArray := prog_12_method_76_code
def yX2_layRing : MethodName := ⟨RX2, "layRing", "()Z"⟩
def dkwX2_layRing_8 : List UInt8 := [180, 1, 43, 42, 180, 1, 46, 96, 17, 7, 208, 164, 0, 9, 42, 182, 1, 40, 3, 172, 4, 172]
abbrev dktX2_layRing_8 : List UInt8 := dkwX2_layRing_8 ++ []
def dkwX2_layRing_7 : List UInt8 := [89, 180, 1, 46, 4, 96, 181, 1, 46, 42, 3, 5, 182, 1, 37, 153, 255, 234, 42, 5, 182, 1, 24, 42]
abbrev dktX2_layRing_7 : List UInt8 := dkwX2_layRing_7 ++ dktX2_layRing_8
def dkwX2_layRing_6 : List UInt8 := [180, 0, 84, 29, 46, 79, 132, 3, 1, 167, 255, 232, 42, 3, 181, 1, 46, 42, 3, 4, 182, 1, 33, 42]
abbrev dktX2_layRing_6 : List UInt8 := dkwX2_layRing_6 ++ dktX2_layRing_7
def dkwX2_layRing_5 : List UInt8 := [96, 181, 1, 43, 167, 255, 225, 3, 62, 29, 16, 27, 162, 0, 24, 42, 180, 0, 84, 16, 54, 29, 96, 42]
abbrev dktX2_layRing_5 : List UInt8 := dkwX2_layRing_5 ++ dktX2_layRing_6
def dkwX2_layRing_4 : List UInt8 := [182, 1, 37, 154, 0, 28, 42, 3, 4, 182, 1, 33, 42, 4, 4, 182, 1, 33, 42, 89, 180, 1, 43, 4]
abbrev dktX2_layRing_4 : List UInt8 := dkwX2_layRing_4 ++ dktX2_layRing_5
def dkwX2_layRing_3 : List UInt8 := [182, 1, 40, 3, 172, 42, 182, 1, 40, 42, 3, 182, 1, 27, 42, 3, 181, 1, 43, 42, 3, 4]
abbrev dktX2_layRing_3 : List UInt8 := dkwX2_layRing_3 ++ dktX2_layRing_4
def dkwX2_layRing_2 : List UInt8 := [17, 7, 208, 163, 0, 7, 4, 167, 0, 4, 3, 61, 167, 255, 215, 27, 17, 7, 208, 164, 0, 9, 42]
abbrev dktX2_layRing_2 : List UInt8 := dkwX2_layRing_2 ++ dktX2_layRing_3
def dkwX2_layRing_1 : List UInt8 := [4, 182, 1, 33, 42, 4, 5, 182, 1, 33, 132, 1, 1, 42, 3, 4, 182, 1, 37, 154, 0, 14, 27]
abbrev dktX2_layRing_1 : List UInt8 := dkwX2_layRing_1 ++ dktX2_layRing_2
def dkwX2_layRing_0 : List UInt8 := [42, 182, 1, 30, 42, 3, 182, 1, 27, 42, 4, 182, 1, 27, 3, 60, 4, 61, 28, 153, 0, 43, 42, 3]
abbrev dktX2_layRing_0 : List UInt8 := dkwX2_layRing_0 ++ dktX2_layRing_1
theorem dksX2_layRing_0 : cX2_layRing.data.toList.drop 0 = dktX2_layRing_0 := by decide +kernel
theorem dksX2_layRing_1 : cX2_layRing.data.toList.drop 24 = dktX2_layRing_1 := dk_seg dksX2_layRing_0 24 rfl rfl
theorem dksX2_layRing_2 : cX2_layRing.data.toList.drop 47 = dktX2_layRing_2 := dk_seg dksX2_layRing_1 23 rfl rfl
theorem dksX2_layRing_3 : cX2_layRing.data.toList.drop 70 = dktX2_layRing_3 := dk_seg dksX2_layRing_2 23 rfl rfl
theorem dksX2_layRing_4 : cX2_layRing.data.toList.drop 92 = dktX2_layRing_4 := dk_seg dksX2_layRing_3 22 rfl rfl
theorem dksX2_layRing_5 : cX2_layRing.data.toList.drop 116 = dktX2_layRing_5 := dk_seg dksX2_layRing_4 24 rfl rfl
theorem dksX2_layRing_6 : cX2_layRing.data.toList.drop 140 = dktX2_layRing_6 := dk_seg dksX2_layRing_5 24 rfl rfl
theorem dksX2_layRing_7 : cX2_layRing.data.toList.drop 164 = dktX2_layRing_7 := dk_seg dksX2_layRing_6 24 rfl rfl
theorem dksX2_layRing_8 : cX2_layRing.data.toList.drop 188 = dktX2_layRing_8 := dk_seg dksX2_layRing_7 24 rfl rfl
theorem dX2_layRing_0 : decode cX2_layRing 0 = .ok (.aload_n 0, 1) := dk_42 (dk_at dksX2_layRing_0 0 rfl rfl)
theorem dX2_layRing_1 : decode cX2_layRing 1 = .ok (.invokevirtual 286, 3) := dk_182 1 30 (dk_at dksX2_layRing_0 1 rfl rfl)
theorem dX2_layRing_4 : decode cX2_layRing 4 = .ok (.aload_n 0, 1) := dk_42 (dk_at dksX2_layRing_0 4 rfl rfl)
theorem dX2_layRing_5 : decode cX2_layRing 5 = .ok (.iconst 0, 1) := dk_3 (dk_at dksX2_layRing_0 5 rfl rfl)
theorem dX2_layRing_6 : decode cX2_layRing 6 = .ok (.invokevirtual 283, 3) := dk_182 1 27 (dk_at dksX2_layRing_0 6 rfl rfl)
theorem dX2_layRing_9 : decode cX2_layRing 9 = .ok (.aload_n 0, 1) := dk_42 (dk_at dksX2_layRing_0 9 rfl rfl)
theorem dX2_layRing_10 : decode cX2_layRing 10 = .ok (.iconst 1, 1) := dk_4 (dk_at dksX2_layRing_0 10 rfl rfl)
theorem dX2_layRing_11 : decode cX2_layRing 11 = .ok (.invokevirtual 283, 3) := dk_182 1 27 (dk_at dksX2_layRing_0 11 rfl rfl)
theorem dX2_layRing_14 : decode cX2_layRing 14 = .ok (.iconst 0, 1) := dk_3 (dk_at dksX2_layRing_0 14 rfl rfl)
theorem dX2_layRing_15 : decode cX2_layRing 15 = .ok (.istore_n 1, 1) := dk_60 (dk_at dksX2_layRing_0 15 rfl rfl)
theorem dX2_layRing_16 : decode cX2_layRing 16 = .ok (.iconst 1, 1) := dk_4 (dk_at dksX2_layRing_0 16 rfl rfl)
theorem dX2_layRing_17 : decode cX2_layRing 17 = .ok (.istore_n 2, 1) := dk_61 (dk_at dksX2_layRing_0 17 rfl rfl)
theorem dX2_layRing_18 : decode cX2_layRing 18 = .ok (.iload_n 2, 1) := dk_28 (dk_at dksX2_layRing_0 18 rfl rfl)
theorem dX2_layRing_19 : decode cX2_layRing 19 = .ok (.ifCond .eq 43, 3) := dk_153 0 43 (dk_at dksX2_layRing_0 19 rfl rfl)
theorem dX2_layRing_22 : decode cX2_layRing 22 = .ok (.aload_n 0, 1) := dk_42 (dk_at dksX2_layRing_0 22 rfl rfl)
theorem dX2_layRing_23 : decode cX2_layRing 23 = .ok (.iconst 0, 1) := dk_3 (dk_at dksX2_layRing_0 23 rfl rfl)
theorem dX2_layRing_24 : decode cX2_layRing 24 = .ok (.iconst 1, 1) := dk_4 (dk_at dksX2_layRing_1 0 rfl rfl)
theorem dX2_layRing_25 : decode cX2_layRing 25 = .ok (.invokevirtual 289, 3) := dk_182 1 33 (dk_at dksX2_layRing_1 1 rfl rfl)
theorem dX2_layRing_28 : decode cX2_layRing 28 = .ok (.aload_n 0, 1) := dk_42 (dk_at dksX2_layRing_1 4 rfl rfl)
theorem dX2_layRing_29 : decode cX2_layRing 29 = .ok (.iconst 1, 1) := dk_4 (dk_at dksX2_layRing_1 5 rfl rfl)
theorem dX2_layRing_30 : decode cX2_layRing 30 = .ok (.iconst 2, 1) := dk_5 (dk_at dksX2_layRing_1 6 rfl rfl)
theorem dX2_layRing_31 : decode cX2_layRing 31 = .ok (.invokevirtual 289, 3) := dk_182 1 33 (dk_at dksX2_layRing_1 7 rfl rfl)
theorem dX2_layRing_34 : decode cX2_layRing 34 = .ok (.iinc 1 1, 3) := dk_132 1 1 (dk_at dksX2_layRing_1 10 rfl rfl)
theorem dX2_layRing_37 : decode cX2_layRing 37 = .ok (.aload_n 0, 1) := dk_42 (dk_at dksX2_layRing_1 13 rfl rfl)
theorem dX2_layRing_38 : decode cX2_layRing 38 = .ok (.iconst 0, 1) := dk_3 (dk_at dksX2_layRing_1 14 rfl rfl)
theorem dX2_layRing_39 : decode cX2_layRing 39 = .ok (.iconst 1, 1) := dk_4 (dk_at dksX2_layRing_1 15 rfl rfl)
theorem dX2_layRing_40 : decode cX2_layRing 40 = .ok (.invokevirtual 293, 3) := dk_182 1 37 (dk_at dksX2_layRing_1 16 rfl rfl)
theorem dX2_layRing_43 : decode cX2_layRing 43 = .ok (.ifCond .ne 14, 3) := dk_154 0 14 (dk_at dksX2_layRing_1 19 rfl rfl)
theorem dX2_layRing_46 : decode cX2_layRing 46 = .ok (.iload_n 1, 1) := dk_27 (dk_at dksX2_layRing_1 22 rfl rfl)
theorem dX2_layRing_47 : decode cX2_layRing 47 = .ok (.sipush 2000, 3) := dk_17 7 208 (dk_at dksX2_layRing_2 0 rfl rfl)
theorem dX2_layRing_50 : decode cX2_layRing 50 = .ok (.if_icmp .gt 7, 3) := dk_163 0 7 (dk_at dksX2_layRing_2 3 rfl rfl)
theorem dX2_layRing_53 : decode cX2_layRing 53 = .ok (.iconst 1, 1) := dk_4 (dk_at dksX2_layRing_2 6 rfl rfl)
theorem dX2_layRing_54 : decode cX2_layRing 54 = .ok (.goto 4, 3) := dk_167 0 4 (dk_at dksX2_layRing_2 7 rfl rfl)
theorem dX2_layRing_57 : decode cX2_layRing 57 = .ok (.iconst 0, 1) := dk_3 (dk_at dksX2_layRing_2 10 rfl rfl)
theorem dX2_layRing_58 : decode cX2_layRing 58 = .ok (.istore_n 2, 1) := dk_61 (dk_at dksX2_layRing_2 11 rfl rfl)
theorem dX2_layRing_59 : decode cX2_layRing 59 = .ok (.goto (-41), 3) := dk_167 255 215 (dk_at dksX2_layRing_2 12 rfl rfl)
theorem dX2_layRing_62 : decode cX2_layRing 62 = .ok (.iload_n 1, 1) := dk_27 (dk_at dksX2_layRing_2 15 rfl rfl)
theorem dX2_layRing_63 : decode cX2_layRing 63 = .ok (.sipush 2000, 3) := dk_17 7 208 (dk_at dksX2_layRing_2 16 rfl rfl)
theorem dX2_layRing_66 : decode cX2_layRing 66 = .ok (.if_icmp .le 9, 3) := dk_164 0 9 (dk_at dksX2_layRing_2 19 rfl rfl)
theorem dX2_layRing_69 : decode cX2_layRing 69 = .ok (.aload_n 0, 1) := dk_42 (dk_at dksX2_layRing_2 22 rfl rfl)
theorem dX2_layRing_70 : decode cX2_layRing 70 = .ok (.invokevirtual 296, 3) := dk_182 1 40 (dk_at dksX2_layRing_3 0 rfl rfl)
theorem dX2_layRing_73 : decode cX2_layRing 73 = .ok (.iconst 0, 1) := dk_3 (dk_at dksX2_layRing_3 3 rfl rfl)
theorem dX2_layRing_74 : decode cX2_layRing 74 = .ok (.ireturn, 1) := dk_172 (dk_at dksX2_layRing_3 4 rfl rfl)
theorem dX2_layRing_75 : decode cX2_layRing 75 = .ok (.aload_n 0, 1) := dk_42 (dk_at dksX2_layRing_3 5 rfl rfl)
theorem dX2_layRing_76 : decode cX2_layRing 76 = .ok (.invokevirtual 296, 3) := dk_182 1 40 (dk_at dksX2_layRing_3 6 rfl rfl)
theorem dX2_layRing_79 : decode cX2_layRing 79 = .ok (.aload_n 0, 1) := dk_42 (dk_at dksX2_layRing_3 9 rfl rfl)
theorem dX2_layRing_80 : decode cX2_layRing 80 = .ok (.iconst 0, 1) := dk_3 (dk_at dksX2_layRing_3 10 rfl rfl)
theorem dX2_layRing_81 : decode cX2_layRing 81 = .ok (.invokevirtual 283, 3) := dk_182 1 27 (dk_at dksX2_layRing_3 11 rfl rfl)
theorem dX2_layRing_84 : decode cX2_layRing 84 = .ok (.aload_n 0, 1) := dk_42 (dk_at dksX2_layRing_3 14 rfl rfl)
theorem dX2_layRing_85 : decode cX2_layRing 85 = .ok (.iconst 0, 1) := dk_3 (dk_at dksX2_layRing_3 15 rfl rfl)
theorem dX2_layRing_86 : decode cX2_layRing 86 = .ok (.putfield 299, 3) := dk_181 1 43 (dk_at dksX2_layRing_3 16 rfl rfl)
theorem dX2_layRing_89 : decode cX2_layRing 89 = .ok (.aload_n 0, 1) := dk_42 (dk_at dksX2_layRing_3 19 rfl rfl)
theorem dX2_layRing_90 : decode cX2_layRing 90 = .ok (.iconst 0, 1) := dk_3 (dk_at dksX2_layRing_3 20 rfl rfl)
theorem dX2_layRing_91 : decode cX2_layRing 91 = .ok (.iconst 1, 1) := dk_4 (dk_at dksX2_layRing_3 21 rfl rfl)
theorem dX2_layRing_92 : decode cX2_layRing 92 = .ok (.invokevirtual 293, 3) := dk_182 1 37 (dk_at dksX2_layRing_4 0 rfl rfl)
theorem dX2_layRing_95 : decode cX2_layRing 95 = .ok (.ifCond .ne 28, 3) := dk_154 0 28 (dk_at dksX2_layRing_4 3 rfl rfl)
theorem dX2_layRing_98 : decode cX2_layRing 98 = .ok (.aload_n 0, 1) := dk_42 (dk_at dksX2_layRing_4 6 rfl rfl)
theorem dX2_layRing_99 : decode cX2_layRing 99 = .ok (.iconst 0, 1) := dk_3 (dk_at dksX2_layRing_4 7 rfl rfl)
theorem dX2_layRing_100 : decode cX2_layRing 100 = .ok (.iconst 1, 1) := dk_4 (dk_at dksX2_layRing_4 8 rfl rfl)
theorem dX2_layRing_101 : decode cX2_layRing 101 = .ok (.invokevirtual 289, 3) := dk_182 1 33 (dk_at dksX2_layRing_4 9 rfl rfl)
theorem dX2_layRing_104 : decode cX2_layRing 104 = .ok (.aload_n 0, 1) := dk_42 (dk_at dksX2_layRing_4 12 rfl rfl)
theorem dX2_layRing_105 : decode cX2_layRing 105 = .ok (.iconst 1, 1) := dk_4 (dk_at dksX2_layRing_4 13 rfl rfl)
theorem dX2_layRing_106 : decode cX2_layRing 106 = .ok (.iconst 1, 1) := dk_4 (dk_at dksX2_layRing_4 14 rfl rfl)
theorem dX2_layRing_107 : decode cX2_layRing 107 = .ok (.invokevirtual 289, 3) := dk_182 1 33 (dk_at dksX2_layRing_4 15 rfl rfl)
theorem dX2_layRing_110 : decode cX2_layRing 110 = .ok (.aload_n 0, 1) := dk_42 (dk_at dksX2_layRing_4 18 rfl rfl)
theorem dX2_layRing_111 : decode cX2_layRing 111 = .ok (.dup, 1) := dk_89 (dk_at dksX2_layRing_4 19 rfl rfl)
theorem dX2_layRing_112 : decode cX2_layRing 112 = .ok (.getfield 299, 3) := dk_180 1 43 (dk_at dksX2_layRing_4 20 rfl rfl)
theorem dX2_layRing_115 : decode cX2_layRing 115 = .ok (.iconst 1, 1) := dk_4 (dk_at dksX2_layRing_4 23 rfl rfl)
theorem dX2_layRing_116 : decode cX2_layRing 116 = .ok (.iadd, 1) := dk_96 (dk_at dksX2_layRing_5 0 rfl rfl)
theorem dX2_layRing_117 : decode cX2_layRing 117 = .ok (.putfield 299, 3) := dk_181 1 43 (dk_at dksX2_layRing_5 1 rfl rfl)
theorem dX2_layRing_120 : decode cX2_layRing 120 = .ok (.goto (-31), 3) := dk_167 255 225 (dk_at dksX2_layRing_5 4 rfl rfl)
theorem dX2_layRing_123 : decode cX2_layRing 123 = .ok (.iconst 0, 1) := dk_3 (dk_at dksX2_layRing_5 7 rfl rfl)
theorem dX2_layRing_124 : decode cX2_layRing 124 = .ok (.istore_n 3, 1) := dk_62 (dk_at dksX2_layRing_5 8 rfl rfl)
theorem dX2_layRing_125 : decode cX2_layRing 125 = .ok (.iload_n 3, 1) := dk_29 (dk_at dksX2_layRing_5 9 rfl rfl)
theorem dX2_layRing_126 : decode cX2_layRing 126 = .ok (.bipush 27, 2) := dk_16 27 (dk_at dksX2_layRing_5 10 rfl rfl)
theorem dX2_layRing_128 : decode cX2_layRing 128 = .ok (.if_icmp .ge 24, 3) := dk_162 0 24 (dk_at dksX2_layRing_5 12 rfl rfl)
theorem dX2_layRing_131 : decode cX2_layRing 131 = .ok (.aload_n 0, 1) := dk_42 (dk_at dksX2_layRing_5 15 rfl rfl)
theorem dX2_layRing_132 : decode cX2_layRing 132 = .ok (.getfield 84, 3) := dk_180 0 84 (dk_at dksX2_layRing_5 16 rfl rfl)
theorem dX2_layRing_135 : decode cX2_layRing 135 = .ok (.bipush 54, 2) := dk_16 54 (dk_at dksX2_layRing_5 19 rfl rfl)
theorem dX2_layRing_137 : decode cX2_layRing 137 = .ok (.iload_n 3, 1) := dk_29 (dk_at dksX2_layRing_5 21 rfl rfl)
theorem dX2_layRing_138 : decode cX2_layRing 138 = .ok (.iadd, 1) := dk_96 (dk_at dksX2_layRing_5 22 rfl rfl)
theorem dX2_layRing_139 : decode cX2_layRing 139 = .ok (.aload_n 0, 1) := dk_42 (dk_at dksX2_layRing_5 23 rfl rfl)
theorem dX2_layRing_140 : decode cX2_layRing 140 = .ok (.getfield 84, 3) := dk_180 0 84 (dk_at dksX2_layRing_6 0 rfl rfl)
theorem dX2_layRing_143 : decode cX2_layRing 143 = .ok (.iload_n 3, 1) := dk_29 (dk_at dksX2_layRing_6 3 rfl rfl)
theorem dX2_layRing_144 : decode cX2_layRing 144 = .ok (.iaload, 1) := dk_46 (dk_at dksX2_layRing_6 4 rfl rfl)
theorem dX2_layRing_145 : decode cX2_layRing 145 = .ok (.iastore, 1) := dk_79 (dk_at dksX2_layRing_6 5 rfl rfl)
theorem dX2_layRing_146 : decode cX2_layRing 146 = .ok (.iinc 3 1, 3) := dk_132 3 1 (dk_at dksX2_layRing_6 6 rfl rfl)
theorem dX2_layRing_149 : decode cX2_layRing 149 = .ok (.goto (-24), 3) := dk_167 255 232 (dk_at dksX2_layRing_6 9 rfl rfl)
theorem dX2_layRing_152 : decode cX2_layRing 152 = .ok (.aload_n 0, 1) := dk_42 (dk_at dksX2_layRing_6 12 rfl rfl)
theorem dX2_layRing_153 : decode cX2_layRing 153 = .ok (.iconst 0, 1) := dk_3 (dk_at dksX2_layRing_6 13 rfl rfl)
theorem dX2_layRing_154 : decode cX2_layRing 154 = .ok (.putfield 302, 3) := dk_181 1 46 (dk_at dksX2_layRing_6 14 rfl rfl)
theorem dX2_layRing_157 : decode cX2_layRing 157 = .ok (.aload_n 0, 1) := dk_42 (dk_at dksX2_layRing_6 17 rfl rfl)
theorem dX2_layRing_158 : decode cX2_layRing 158 = .ok (.iconst 0, 1) := dk_3 (dk_at dksX2_layRing_6 18 rfl rfl)
theorem dX2_layRing_159 : decode cX2_layRing 159 = .ok (.iconst 1, 1) := dk_4 (dk_at dksX2_layRing_6 19 rfl rfl)
theorem dX2_layRing_160 : decode cX2_layRing 160 = .ok (.invokevirtual 289, 3) := dk_182 1 33 (dk_at dksX2_layRing_6 20 rfl rfl)
theorem dX2_layRing_163 : decode cX2_layRing 163 = .ok (.aload_n 0, 1) := dk_42 (dk_at dksX2_layRing_6 23 rfl rfl)
theorem dX2_layRing_164 : decode cX2_layRing 164 = .ok (.dup, 1) := dk_89 (dk_at dksX2_layRing_7 0 rfl rfl)
theorem dX2_layRing_165 : decode cX2_layRing 165 = .ok (.getfield 302, 3) := dk_180 1 46 (dk_at dksX2_layRing_7 1 rfl rfl)
theorem dX2_layRing_168 : decode cX2_layRing 168 = .ok (.iconst 1, 1) := dk_4 (dk_at dksX2_layRing_7 4 rfl rfl)
theorem dX2_layRing_169 : decode cX2_layRing 169 = .ok (.iadd, 1) := dk_96 (dk_at dksX2_layRing_7 5 rfl rfl)
theorem dX2_layRing_170 : decode cX2_layRing 170 = .ok (.putfield 302, 3) := dk_181 1 46 (dk_at dksX2_layRing_7 6 rfl rfl)
theorem dX2_layRing_173 : decode cX2_layRing 173 = .ok (.aload_n 0, 1) := dk_42 (dk_at dksX2_layRing_7 9 rfl rfl)
theorem dX2_layRing_174 : decode cX2_layRing 174 = .ok (.iconst 0, 1) := dk_3 (dk_at dksX2_layRing_7 10 rfl rfl)
theorem dX2_layRing_175 : decode cX2_layRing 175 = .ok (.iconst 2, 1) := dk_5 (dk_at dksX2_layRing_7 11 rfl rfl)
theorem dX2_layRing_176 : decode cX2_layRing 176 = .ok (.invokevirtual 293, 3) := dk_182 1 37 (dk_at dksX2_layRing_7 12 rfl rfl)
theorem dX2_layRing_179 : decode cX2_layRing 179 = .ok (.ifCond .eq (-22), 3) := dk_153 255 234 (dk_at dksX2_layRing_7 15 rfl rfl)
theorem dX2_layRing_182 : decode cX2_layRing 182 = .ok (.aload_n 0, 1) := dk_42 (dk_at dksX2_layRing_7 18 rfl rfl)
theorem dX2_layRing_183 : decode cX2_layRing 183 = .ok (.iconst 2, 1) := dk_5 (dk_at dksX2_layRing_7 19 rfl rfl)
theorem dX2_layRing_184 : decode cX2_layRing 184 = .ok (.invokevirtual 280, 3) := dk_182 1 24 (dk_at dksX2_layRing_7 20 rfl rfl)
theorem dX2_layRing_187 : decode cX2_layRing 187 = .ok (.aload_n 0, 1) := dk_42 (dk_at dksX2_layRing_7 23 rfl rfl)
theorem dX2_layRing_188 : decode cX2_layRing 188 = .ok (.getfield 299, 3) := dk_180 1 43 (dk_at dksX2_layRing_8 0 rfl rfl)
theorem dX2_layRing_191 : decode cX2_layRing 191 = .ok (.aload_n 0, 1) := dk_42 (dk_at dksX2_layRing_8 3 rfl rfl)
theorem dX2_layRing_192 : decode cX2_layRing 192 = .ok (.getfield 302, 3) := dk_180 1 46 (dk_at dksX2_layRing_8 4 rfl rfl)
theorem dX2_layRing_195 : decode cX2_layRing 195 = .ok (.iadd, 1) := dk_96 (dk_at dksX2_layRing_8 7 rfl rfl)
theorem dX2_layRing_196 : decode cX2_layRing 196 = .ok (.sipush 2000, 3) := dk_17 7 208 (dk_at dksX2_layRing_8 8 rfl rfl)
theorem dX2_layRing_199 : decode cX2_layRing 199 = .ok (.if_icmp .le 9, 3) := dk_164 0 9 (dk_at dksX2_layRing_8 11 rfl rfl)
theorem dX2_layRing_202 : decode cX2_layRing 202 = .ok (.aload_n 0, 1) := dk_42 (dk_at dksX2_layRing_8 14 rfl rfl)
theorem dX2_layRing_203 : decode cX2_layRing 203 = .ok (.invokevirtual 296, 3) := dk_182 1 40 (dk_at dksX2_layRing_8 15 rfl rfl)
theorem dX2_layRing_206 : decode cX2_layRing 206 = .ok (.iconst 0, 1) := dk_3 (dk_at dksX2_layRing_8 18 rfl rfl)
theorem dX2_layRing_207 : decode cX2_layRing 207 = .ok (.ireturn, 1) := dk_172 (dk_at dksX2_layRing_8 19 rfl rfl)
theorem dX2_layRing_208 : decode cX2_layRing 208 = .ok (.iconst 1, 1) := dk_4 (dk_at dksX2_layRing_8 20 rfl rfl)
theorem dX2_layRing_209 : decode cX2_layRing 209 = .ok (.ireturn, 1) := dk_172 (dk_at dksX2_layRing_8 21 rfl rfl)
abbrev cX2_keep : ByteArray := prog_12_method_70_code
def yX2_keep : MethodName := ⟨RX2, "keep", "()V"⟩
def dkwX2_keep_3 : List UInt8 := [132, 2, 1, 167, 255, 230, 132, 1, 1, 167, 255, 214, 177]
abbrev dktX2_keep_3 : List UInt8 := dkwX2_keep_3 ++ []
def dkwX2_keep_2 : List UInt8 := [61, 28, 7, 162, 0, 27, 42, 180, 0, 87, 5, 6, 27, 104, 96, 28, 96, 42, 27, 28, 182, 0, 230, 79]
abbrev dktX2_keep_2 : List UInt8 := dkwX2_keep_2 ++ dktX2_keep_3
def dkwX2_keep_1 : List UInt8 := [42, 180, 0, 62, 27, 46, 79, 132, 1, 1, 167, 255, 234, 3, 60, 27, 42, 180, 0, 203, 162, 0, 40, 4]
abbrev dktX2_keep_1 : List UInt8 := dkwX2_keep_1 ++ dktX2_keep_2
def dkwX2_keep_0 : List UInt8 := [42, 180, 0, 87, 3, 42, 180, 0, 206, 79, 3, 60, 27, 5, 162, 0, 23, 42, 180, 0, 87, 4, 27, 96]
abbrev dktX2_keep_0 : List UInt8 := dkwX2_keep_0 ++ dktX2_keep_1
theorem dksX2_keep_0 : cX2_keep.data.toList.drop 0 = dktX2_keep_0 := by decide +kernel
theorem dksX2_keep_1 : cX2_keep.data.toList.drop 24 = dktX2_keep_1 := dk_seg dksX2_keep_0 24 rfl rfl
theorem dksX2_keep_2 : cX2_keep.data.toList.drop 48 = dktX2_keep_2 := dk_seg dksX2_keep_1 24 rfl rfl
theorem dksX2_keep_3 : cX2_keep.data.toList.drop 72 = dktX2_keep_3 := dk_seg dksX2_keep_2 24 rfl rfl
theorem dX2_keep_0 : decode cX2_keep 0 = .ok (.aload_n 0, 1) := dk_42 (dk_at dksX2_keep_0 0 rfl rfl)
theorem dX2_keep_1 : decode cX2_keep 1 = .ok (.getfield 87, 3) := dk_180 0 87 (dk_at dksX2_keep_0 1 rfl rfl)
theorem dX2_keep_4 : decode cX2_keep 4 = .ok (.iconst 0, 1) := dk_3 (dk_at dksX2_keep_0 4 rfl rfl)
theorem dX2_keep_5 : decode cX2_keep 5 = .ok (.aload_n 0, 1) := dk_42 (dk_at dksX2_keep_0 5 rfl rfl)
theorem dX2_keep_6 : decode cX2_keep 6 = .ok (.getfield 206, 3) := dk_180 0 206 (dk_at dksX2_keep_0 6 rfl rfl)
theorem dX2_keep_9 : decode cX2_keep 9 = .ok (.iastore, 1) := dk_79 (dk_at dksX2_keep_0 9 rfl rfl)
theorem dX2_keep_10 : decode cX2_keep 10 = .ok (.iconst 0, 1) := dk_3 (dk_at dksX2_keep_0 10 rfl rfl)
theorem dX2_keep_11 : decode cX2_keep 11 = .ok (.istore_n 1, 1) := dk_60 (dk_at dksX2_keep_0 11 rfl rfl)
theorem dX2_keep_12 : decode cX2_keep 12 = .ok (.iload_n 1, 1) := dk_27 (dk_at dksX2_keep_0 12 rfl rfl)
theorem dX2_keep_13 : decode cX2_keep 13 = .ok (.iconst 2, 1) := dk_5 (dk_at dksX2_keep_0 13 rfl rfl)
theorem dX2_keep_14 : decode cX2_keep 14 = .ok (.if_icmp .ge 23, 3) := dk_162 0 23 (dk_at dksX2_keep_0 14 rfl rfl)
theorem dX2_keep_17 : decode cX2_keep 17 = .ok (.aload_n 0, 1) := dk_42 (dk_at dksX2_keep_0 17 rfl rfl)
theorem dX2_keep_18 : decode cX2_keep 18 = .ok (.getfield 87, 3) := dk_180 0 87 (dk_at dksX2_keep_0 18 rfl rfl)
theorem dX2_keep_21 : decode cX2_keep 21 = .ok (.iconst 1, 1) := dk_4 (dk_at dksX2_keep_0 21 rfl rfl)
theorem dX2_keep_22 : decode cX2_keep 22 = .ok (.iload_n 1, 1) := dk_27 (dk_at dksX2_keep_0 22 rfl rfl)
theorem dX2_keep_23 : decode cX2_keep 23 = .ok (.iadd, 1) := dk_96 (dk_at dksX2_keep_0 23 rfl rfl)
theorem dX2_keep_24 : decode cX2_keep 24 = .ok (.aload_n 0, 1) := dk_42 (dk_at dksX2_keep_1 0 rfl rfl)
theorem dX2_keep_25 : decode cX2_keep 25 = .ok (.getfield 62, 3) := dk_180 0 62 (dk_at dksX2_keep_1 1 rfl rfl)
theorem dX2_keep_28 : decode cX2_keep 28 = .ok (.iload_n 1, 1) := dk_27 (dk_at dksX2_keep_1 4 rfl rfl)
theorem dX2_keep_29 : decode cX2_keep 29 = .ok (.iaload, 1) := dk_46 (dk_at dksX2_keep_1 5 rfl rfl)
theorem dX2_keep_30 : decode cX2_keep 30 = .ok (.iastore, 1) := dk_79 (dk_at dksX2_keep_1 6 rfl rfl)
theorem dX2_keep_31 : decode cX2_keep 31 = .ok (.iinc 1 1, 3) := dk_132 1 1 (dk_at dksX2_keep_1 7 rfl rfl)
theorem dX2_keep_34 : decode cX2_keep 34 = .ok (.goto (-22), 3) := dk_167 255 234 (dk_at dksX2_keep_1 10 rfl rfl)
theorem dX2_keep_37 : decode cX2_keep 37 = .ok (.iconst 0, 1) := dk_3 (dk_at dksX2_keep_1 13 rfl rfl)
theorem dX2_keep_38 : decode cX2_keep 38 = .ok (.istore_n 1, 1) := dk_60 (dk_at dksX2_keep_1 14 rfl rfl)
theorem dX2_keep_39 : decode cX2_keep 39 = .ok (.iload_n 1, 1) := dk_27 (dk_at dksX2_keep_1 15 rfl rfl)
theorem dX2_keep_40 : decode cX2_keep 40 = .ok (.aload_n 0, 1) := dk_42 (dk_at dksX2_keep_1 16 rfl rfl)
theorem dX2_keep_41 : decode cX2_keep 41 = .ok (.getfield 203, 3) := dk_180 0 203 (dk_at dksX2_keep_1 17 rfl rfl)
theorem dX2_keep_44 : decode cX2_keep 44 = .ok (.if_icmp .ge 40, 3) := dk_162 0 40 (dk_at dksX2_keep_1 20 rfl rfl)
theorem dX2_keep_47 : decode cX2_keep 47 = .ok (.iconst 1, 1) := dk_4 (dk_at dksX2_keep_1 23 rfl rfl)
theorem dX2_keep_48 : decode cX2_keep 48 = .ok (.istore_n 2, 1) := dk_61 (dk_at dksX2_keep_2 0 rfl rfl)
theorem dX2_keep_49 : decode cX2_keep 49 = .ok (.iload_n 2, 1) := dk_28 (dk_at dksX2_keep_2 1 rfl rfl)
theorem dX2_keep_50 : decode cX2_keep 50 = .ok (.iconst 4, 1) := dk_7 (dk_at dksX2_keep_2 2 rfl rfl)
theorem dX2_keep_51 : decode cX2_keep 51 = .ok (.if_icmp .ge 27, 3) := dk_162 0 27 (dk_at dksX2_keep_2 3 rfl rfl)
theorem dX2_keep_54 : decode cX2_keep 54 = .ok (.aload_n 0, 1) := dk_42 (dk_at dksX2_keep_2 6 rfl rfl)
theorem dX2_keep_55 : decode cX2_keep 55 = .ok (.getfield 87, 3) := dk_180 0 87 (dk_at dksX2_keep_2 7 rfl rfl)
theorem dX2_keep_58 : decode cX2_keep 58 = .ok (.iconst 2, 1) := dk_5 (dk_at dksX2_keep_2 10 rfl rfl)
theorem dX2_keep_59 : decode cX2_keep 59 = .ok (.iconst 3, 1) := dk_6 (dk_at dksX2_keep_2 11 rfl rfl)
theorem dX2_keep_60 : decode cX2_keep 60 = .ok (.iload_n 1, 1) := dk_27 (dk_at dksX2_keep_2 12 rfl rfl)
theorem dX2_keep_61 : decode cX2_keep 61 = .ok (.imul, 1) := dk_104 (dk_at dksX2_keep_2 13 rfl rfl)
theorem dX2_keep_62 : decode cX2_keep 62 = .ok (.iadd, 1) := dk_96 (dk_at dksX2_keep_2 14 rfl rfl)
theorem dX2_keep_63 : decode cX2_keep 63 = .ok (.iload_n 2, 1) := dk_28 (dk_at dksX2_keep_2 15 rfl rfl)
theorem dX2_keep_64 : decode cX2_keep 64 = .ok (.iadd, 1) := dk_96 (dk_at dksX2_keep_2 16 rfl rfl)
theorem dX2_keep_65 : decode cX2_keep 65 = .ok (.aload_n 0, 1) := dk_42 (dk_at dksX2_keep_2 17 rfl rfl)
theorem dX2_keep_66 : decode cX2_keep 66 = .ok (.iload_n 1, 1) := dk_27 (dk_at dksX2_keep_2 18 rfl rfl)
theorem dX2_keep_67 : decode cX2_keep 67 = .ok (.iload_n 2, 1) := dk_28 (dk_at dksX2_keep_2 19 rfl rfl)
theorem dX2_keep_68 : decode cX2_keep 68 = .ok (.invokevirtual 230, 3) := dk_182 0 230 (dk_at dksX2_keep_2 20 rfl rfl)
theorem dX2_keep_71 : decode cX2_keep 71 = .ok (.iastore, 1) := dk_79 (dk_at dksX2_keep_2 23 rfl rfl)
theorem dX2_keep_72 : decode cX2_keep 72 = .ok (.iinc 2 1, 3) := dk_132 2 1 (dk_at dksX2_keep_3 0 rfl rfl)
theorem dX2_keep_75 : decode cX2_keep 75 = .ok (.goto (-26), 3) := dk_167 255 230 (dk_at dksX2_keep_3 3 rfl rfl)
theorem dX2_keep_78 : decode cX2_keep 78 = .ok (.iinc 1 1, 3) := dk_132 1 1 (dk_at dksX2_keep_3 6 rfl rfl)
theorem dX2_keep_81 : decode cX2_keep 81 = .ok (.goto (-42), 3) := dk_167 255 214 (dk_at dksX2_keep_3 9 rfl rfl)
theorem dX2_keep_84 : decode cX2_keep 84 = .ok (.return_, 1) := dk_177 (dk_at dksX2_keep_3 12 rfl rfl)
abbrev cX2_stand : ByteArray := prog_12_method_72_code
def yX2_stand : MethodName := ⟨RX2, "stand", "(I)V"⟩
def dkwX2_stand_3 : List UInt8 := [132, 3, 1, 167, 255, 229, 177]
abbrev dktX2_stand_3 : List UInt8 := dkwX2_stand_3 ++ []
def dkwX2_stand_2 : List UInt8 := [42, 180, 0, 203, 162, 0, 25, 42, 180, 0, 84, 28, 6, 96, 29, 96, 42, 180, 0, 68, 29, 46, 79]
abbrev dktX2_stand_2 : List UInt8 := dkwX2_stand_2 ++ dktX2_stand_3
def dkwX2_stand_1 : List UInt8 := [180, 0, 84, 28, 4, 96, 29, 96, 42, 180, 0, 62, 29, 46, 79, 132, 3, 1, 167, 255, 232, 3, 62, 29]
abbrev dktX2_stand_1 : List UInt8 := dkwX2_stand_1 ++ dktX2_stand_2
def dkwX2_stand_0 : List UInt8 := [16, 27, 27, 104, 61, 42, 180, 0, 84, 28, 42, 180, 0, 206, 79, 3, 62, 29, 5, 162, 0, 25, 42]
abbrev dktX2_stand_0 : List UInt8 := dkwX2_stand_0 ++ dktX2_stand_1
theorem dksX2_stand_0 : cX2_stand.data.toList.drop 0 = dktX2_stand_0 := by decide +kernel
theorem dksX2_stand_1 : cX2_stand.data.toList.drop 23 = dktX2_stand_1 := dk_seg dksX2_stand_0 23 rfl rfl
theorem dksX2_stand_2 : cX2_stand.data.toList.drop 47 = dktX2_stand_2 := dk_seg dksX2_stand_1 24 rfl rfl
theorem dksX2_stand_3 : cX2_stand.data.toList.drop 70 = dktX2_stand_3 := dk_seg dksX2_stand_2 23 rfl rfl
theorem dX2_stand_0 : decode cX2_stand 0 = .ok (.bipush 27, 2) := dk_16 27 (dk_at dksX2_stand_0 0 rfl rfl)
theorem dX2_stand_2 : decode cX2_stand 2 = .ok (.iload_n 1, 1) := dk_27 (dk_at dksX2_stand_0 2 rfl rfl)
theorem dX2_stand_3 : decode cX2_stand 3 = .ok (.imul, 1) := dk_104 (dk_at dksX2_stand_0 3 rfl rfl)
theorem dX2_stand_4 : decode cX2_stand 4 = .ok (.istore_n 2, 1) := dk_61 (dk_at dksX2_stand_0 4 rfl rfl)
theorem dX2_stand_5 : decode cX2_stand 5 = .ok (.aload_n 0, 1) := dk_42 (dk_at dksX2_stand_0 5 rfl rfl)
theorem dX2_stand_6 : decode cX2_stand 6 = .ok (.getfield 84, 3) := dk_180 0 84 (dk_at dksX2_stand_0 6 rfl rfl)
theorem dX2_stand_9 : decode cX2_stand 9 = .ok (.iload_n 2, 1) := dk_28 (dk_at dksX2_stand_0 9 rfl rfl)
theorem dX2_stand_10 : decode cX2_stand 10 = .ok (.aload_n 0, 1) := dk_42 (dk_at dksX2_stand_0 10 rfl rfl)
theorem dX2_stand_11 : decode cX2_stand 11 = .ok (.getfield 206, 3) := dk_180 0 206 (dk_at dksX2_stand_0 11 rfl rfl)
theorem dX2_stand_14 : decode cX2_stand 14 = .ok (.iastore, 1) := dk_79 (dk_at dksX2_stand_0 14 rfl rfl)
theorem dX2_stand_15 : decode cX2_stand 15 = .ok (.iconst 0, 1) := dk_3 (dk_at dksX2_stand_0 15 rfl rfl)
theorem dX2_stand_16 : decode cX2_stand 16 = .ok (.istore_n 3, 1) := dk_62 (dk_at dksX2_stand_0 16 rfl rfl)
theorem dX2_stand_17 : decode cX2_stand 17 = .ok (.iload_n 3, 1) := dk_29 (dk_at dksX2_stand_0 17 rfl rfl)
theorem dX2_stand_18 : decode cX2_stand 18 = .ok (.iconst 2, 1) := dk_5 (dk_at dksX2_stand_0 18 rfl rfl)
theorem dX2_stand_19 : decode cX2_stand 19 = .ok (.if_icmp .ge 25, 3) := dk_162 0 25 (dk_at dksX2_stand_0 19 rfl rfl)
theorem dX2_stand_22 : decode cX2_stand 22 = .ok (.aload_n 0, 1) := dk_42 (dk_at dksX2_stand_0 22 rfl rfl)
theorem dX2_stand_23 : decode cX2_stand 23 = .ok (.getfield 84, 3) := dk_180 0 84 (dk_at dksX2_stand_1 0 rfl rfl)
theorem dX2_stand_26 : decode cX2_stand 26 = .ok (.iload_n 2, 1) := dk_28 (dk_at dksX2_stand_1 3 rfl rfl)
theorem dX2_stand_27 : decode cX2_stand 27 = .ok (.iconst 1, 1) := dk_4 (dk_at dksX2_stand_1 4 rfl rfl)
theorem dX2_stand_28 : decode cX2_stand 28 = .ok (.iadd, 1) := dk_96 (dk_at dksX2_stand_1 5 rfl rfl)
theorem dX2_stand_29 : decode cX2_stand 29 = .ok (.iload_n 3, 1) := dk_29 (dk_at dksX2_stand_1 6 rfl rfl)
theorem dX2_stand_30 : decode cX2_stand 30 = .ok (.iadd, 1) := dk_96 (dk_at dksX2_stand_1 7 rfl rfl)
theorem dX2_stand_31 : decode cX2_stand 31 = .ok (.aload_n 0, 1) := dk_42 (dk_at dksX2_stand_1 8 rfl rfl)
theorem dX2_stand_32 : decode cX2_stand 32 = .ok (.getfield 62, 3) := dk_180 0 62 (dk_at dksX2_stand_1 9 rfl rfl)
theorem dX2_stand_35 : decode cX2_stand 35 = .ok (.iload_n 3, 1) := dk_29 (dk_at dksX2_stand_1 12 rfl rfl)
theorem dX2_stand_36 : decode cX2_stand 36 = .ok (.iaload, 1) := dk_46 (dk_at dksX2_stand_1 13 rfl rfl)
theorem dX2_stand_37 : decode cX2_stand 37 = .ok (.iastore, 1) := dk_79 (dk_at dksX2_stand_1 14 rfl rfl)
theorem dX2_stand_38 : decode cX2_stand 38 = .ok (.iinc 3 1, 3) := dk_132 3 1 (dk_at dksX2_stand_1 15 rfl rfl)
theorem dX2_stand_41 : decode cX2_stand 41 = .ok (.goto (-24), 3) := dk_167 255 232 (dk_at dksX2_stand_1 18 rfl rfl)
theorem dX2_stand_44 : decode cX2_stand 44 = .ok (.iconst 0, 1) := dk_3 (dk_at dksX2_stand_1 21 rfl rfl)
theorem dX2_stand_45 : decode cX2_stand 45 = .ok (.istore_n 3, 1) := dk_62 (dk_at dksX2_stand_1 22 rfl rfl)
theorem dX2_stand_46 : decode cX2_stand 46 = .ok (.iload_n 3, 1) := dk_29 (dk_at dksX2_stand_1 23 rfl rfl)
theorem dX2_stand_47 : decode cX2_stand 47 = .ok (.aload_n 0, 1) := dk_42 (dk_at dksX2_stand_2 0 rfl rfl)
theorem dX2_stand_48 : decode cX2_stand 48 = .ok (.getfield 203, 3) := dk_180 0 203 (dk_at dksX2_stand_2 1 rfl rfl)
theorem dX2_stand_51 : decode cX2_stand 51 = .ok (.if_icmp .ge 25, 3) := dk_162 0 25 (dk_at dksX2_stand_2 4 rfl rfl)
theorem dX2_stand_54 : decode cX2_stand 54 = .ok (.aload_n 0, 1) := dk_42 (dk_at dksX2_stand_2 7 rfl rfl)
theorem dX2_stand_55 : decode cX2_stand 55 = .ok (.getfield 84, 3) := dk_180 0 84 (dk_at dksX2_stand_2 8 rfl rfl)
theorem dX2_stand_58 : decode cX2_stand 58 = .ok (.iload_n 2, 1) := dk_28 (dk_at dksX2_stand_2 11 rfl rfl)
theorem dX2_stand_59 : decode cX2_stand 59 = .ok (.iconst 3, 1) := dk_6 (dk_at dksX2_stand_2 12 rfl rfl)
theorem dX2_stand_60 : decode cX2_stand 60 = .ok (.iadd, 1) := dk_96 (dk_at dksX2_stand_2 13 rfl rfl)
theorem dX2_stand_61 : decode cX2_stand 61 = .ok (.iload_n 3, 1) := dk_29 (dk_at dksX2_stand_2 14 rfl rfl)
theorem dX2_stand_62 : decode cX2_stand 62 = .ok (.iadd, 1) := dk_96 (dk_at dksX2_stand_2 15 rfl rfl)
theorem dX2_stand_63 : decode cX2_stand 63 = .ok (.aload_n 0, 1) := dk_42 (dk_at dksX2_stand_2 16 rfl rfl)
theorem dX2_stand_64 : decode cX2_stand 64 = .ok (.getfield 68, 3) := dk_180 0 68 (dk_at dksX2_stand_2 17 rfl rfl)
theorem dX2_stand_67 : decode cX2_stand 67 = .ok (.iload_n 3, 1) := dk_29 (dk_at dksX2_stand_2 20 rfl rfl)
theorem dX2_stand_68 : decode cX2_stand 68 = .ok (.iaload, 1) := dk_46 (dk_at dksX2_stand_2 21 rfl rfl)
theorem dX2_stand_69 : decode cX2_stand 69 = .ok (.iastore, 1) := dk_79 (dk_at dksX2_stand_2 22 rfl rfl)
theorem dX2_stand_70 : decode cX2_stand 70 = .ok (.iinc 3 1, 3) := dk_132 3 1 (dk_at dksX2_stand_3 0 rfl rfl)
theorem dX2_stand_73 : decode cX2_stand 73 = .ok (.goto (-27), 3) := dk_167 255 229 (dk_at dksX2_stand_3 3 rfl rfl)
theorem dX2_stand_76 : decode cX2_stand 76 = .ok (.return_, 1) := dk_177 (dk_at dksX2_stand_3 6 rfl rfl)
abbrev cX2_walk : ByteArray := prog_12_method_74_code
def yX2_walk : MethodName := ⟨RX2, "walk", "(II)V"⟩
def dkwX2_walk_1 : List UInt8 := [132, 3, 1, 167, 255, 238, 42, 27, 182, 1, 27, 177]
abbrev dktX2_walk_1 : List UInt8 := dkwX2_walk_1 ++ []
def dkwX2_walk_0 : List UInt8 := [42, 27, 182, 1, 24, 3, 62, 29, 28, 162, 0, 19, 42, 42, 182, 1, 17, 3, 3, 182, 1, 13]
abbrev dktX2_walk_0 : List UInt8 := dkwX2_walk_0 ++ dktX2_walk_1
theorem dksX2_walk_0 : cX2_walk.data.toList.drop 0 = dktX2_walk_0 := by decide +kernel
theorem dksX2_walk_1 : cX2_walk.data.toList.drop 22 = dktX2_walk_1 := dk_seg dksX2_walk_0 22 rfl rfl
theorem dX2_walk_0 : decode cX2_walk 0 = .ok (.aload_n 0, 1) := dk_42 (dk_at dksX2_walk_0 0 rfl rfl)
theorem dX2_walk_1 : decode cX2_walk 1 = .ok (.iload_n 1, 1) := dk_27 (dk_at dksX2_walk_0 1 rfl rfl)
theorem dX2_walk_2 : decode cX2_walk 2 = .ok (.invokevirtual 280, 3) := dk_182 1 24 (dk_at dksX2_walk_0 2 rfl rfl)
theorem dX2_walk_5 : decode cX2_walk 5 = .ok (.iconst 0, 1) := dk_3 (dk_at dksX2_walk_0 5 rfl rfl)
theorem dX2_walk_6 : decode cX2_walk 6 = .ok (.istore_n 3, 1) := dk_62 (dk_at dksX2_walk_0 6 rfl rfl)
theorem dX2_walk_7 : decode cX2_walk 7 = .ok (.iload_n 3, 1) := dk_29 (dk_at dksX2_walk_0 7 rfl rfl)
theorem dX2_walk_8 : decode cX2_walk 8 = .ok (.iload_n 2, 1) := dk_28 (dk_at dksX2_walk_0 8 rfl rfl)
theorem dX2_walk_9 : decode cX2_walk 9 = .ok (.if_icmp .ge 19, 3) := dk_162 0 19 (dk_at dksX2_walk_0 9 rfl rfl)
theorem dX2_walk_12 : decode cX2_walk 12 = .ok (.aload_n 0, 1) := dk_42 (dk_at dksX2_walk_0 12 rfl rfl)
theorem dX2_walk_13 : decode cX2_walk 13 = .ok (.aload_n 0, 1) := dk_42 (dk_at dksX2_walk_0 13 rfl rfl)
theorem dX2_walk_14 : decode cX2_walk 14 = .ok (.invokevirtual 273, 3) := dk_182 1 17 (dk_at dksX2_walk_0 14 rfl rfl)
theorem dX2_walk_17 : decode cX2_walk 17 = .ok (.iconst 0, 1) := dk_3 (dk_at dksX2_walk_0 17 rfl rfl)
theorem dX2_walk_18 : decode cX2_walk 18 = .ok (.iconst 0, 1) := dk_3 (dk_at dksX2_walk_0 18 rfl rfl)
theorem dX2_walk_19 : decode cX2_walk 19 = .ok (.invokevirtual 269, 3) := dk_182 1 13 (dk_at dksX2_walk_0 19 rfl rfl)
theorem dX2_walk_22 : decode cX2_walk 22 = .ok (.iinc 3 1, 3) := dk_132 3 1 (dk_at dksX2_walk_1 0 rfl rfl)
theorem dX2_walk_25 : decode cX2_walk 25 = .ok (.goto (-18), 3) := dk_167 255 238 (dk_at dksX2_walk_1 3 rfl rfl)
theorem dX2_walk_28 : decode cX2_walk 28 = .ok (.aload_n 0, 1) := dk_42 (dk_at dksX2_walk_1 6 rfl rfl)
theorem dX2_walk_29 : decode cX2_walk 29 = .ok (.iload_n 1, 1) := dk_27 (dk_at dksX2_walk_1 7 rfl rfl)
theorem dX2_walk_30 : decode cX2_walk 30 = .ok (.invokevirtual 283, 3) := dk_182 1 27 (dk_at dksX2_walk_1 8 rfl rfl)
theorem dX2_walk_33 : decode cX2_walk 33 = .ok (.return_, 1) := dk_177 (dk_at dksX2_walk_1 11 rfl rfl)
abbrev cX2_goTo : ByteArray := prog_12_method_73_code
def yX2_goTo : MethodName := ⟨RX2, "goTo", "(I)V"⟩
def dkwX2_goTo_3 : List UInt8 := [132, 3, 1, 167, 255, 229, 177]
abbrev dktX2_goTo_3 : List UInt8 := dkwX2_goTo_3 ++ []
def dkwX2_goTo_2 : List UInt8 := [42, 180, 0, 203, 162, 0, 25, 42, 180, 0, 68, 29, 42, 180, 0, 84, 28, 6, 96, 29, 96, 46, 79]
abbrev dktX2_goTo_2 : List UInt8 := dkwX2_goTo_2 ++ dktX2_goTo_3
def dkwX2_goTo_1 : List UInt8 := [180, 0, 62, 29, 42, 180, 0, 84, 28, 4, 96, 29, 96, 46, 79, 132, 3, 1, 167, 255, 232, 3, 62, 29]
abbrev dktX2_goTo_1 : List UInt8 := dkwX2_goTo_1 ++ dktX2_goTo_2
def dkwX2_goTo_0 : List UInt8 := [16, 27, 27, 104, 61, 42, 42, 180, 0, 84, 28, 46, 181, 0, 206, 3, 62, 29, 5, 162, 0, 25, 42]
abbrev dktX2_goTo_0 : List UInt8 := dkwX2_goTo_0 ++ dktX2_goTo_1
theorem dksX2_goTo_0 : cX2_goTo.data.toList.drop 0 = dktX2_goTo_0 := by decide +kernel
theorem dksX2_goTo_1 : cX2_goTo.data.toList.drop 23 = dktX2_goTo_1 := dk_seg dksX2_goTo_0 23 rfl rfl
theorem dksX2_goTo_2 : cX2_goTo.data.toList.drop 47 = dktX2_goTo_2 := dk_seg dksX2_goTo_1 24 rfl rfl
theorem dksX2_goTo_3 : cX2_goTo.data.toList.drop 70 = dktX2_goTo_3 := dk_seg dksX2_goTo_2 23 rfl rfl
theorem dX2_goTo_0 : decode cX2_goTo 0 = .ok (.bipush 27, 2) := dk_16 27 (dk_at dksX2_goTo_0 0 rfl rfl)
theorem dX2_goTo_2 : decode cX2_goTo 2 = .ok (.iload_n 1, 1) := dk_27 (dk_at dksX2_goTo_0 2 rfl rfl)
theorem dX2_goTo_3 : decode cX2_goTo 3 = .ok (.imul, 1) := dk_104 (dk_at dksX2_goTo_0 3 rfl rfl)
theorem dX2_goTo_4 : decode cX2_goTo 4 = .ok (.istore_n 2, 1) := dk_61 (dk_at dksX2_goTo_0 4 rfl rfl)
theorem dX2_goTo_5 : decode cX2_goTo 5 = .ok (.aload_n 0, 1) := dk_42 (dk_at dksX2_goTo_0 5 rfl rfl)
theorem dX2_goTo_6 : decode cX2_goTo 6 = .ok (.aload_n 0, 1) := dk_42 (dk_at dksX2_goTo_0 6 rfl rfl)
theorem dX2_goTo_7 : decode cX2_goTo 7 = .ok (.getfield 84, 3) := dk_180 0 84 (dk_at dksX2_goTo_0 7 rfl rfl)
theorem dX2_goTo_10 : decode cX2_goTo 10 = .ok (.iload_n 2, 1) := dk_28 (dk_at dksX2_goTo_0 10 rfl rfl)
theorem dX2_goTo_11 : decode cX2_goTo 11 = .ok (.iaload, 1) := dk_46 (dk_at dksX2_goTo_0 11 rfl rfl)
theorem dX2_goTo_12 : decode cX2_goTo 12 = .ok (.putfield 206, 3) := dk_181 0 206 (dk_at dksX2_goTo_0 12 rfl rfl)
theorem dX2_goTo_15 : decode cX2_goTo 15 = .ok (.iconst 0, 1) := dk_3 (dk_at dksX2_goTo_0 15 rfl rfl)
theorem dX2_goTo_16 : decode cX2_goTo 16 = .ok (.istore_n 3, 1) := dk_62 (dk_at dksX2_goTo_0 16 rfl rfl)
theorem dX2_goTo_17 : decode cX2_goTo 17 = .ok (.iload_n 3, 1) := dk_29 (dk_at dksX2_goTo_0 17 rfl rfl)
theorem dX2_goTo_18 : decode cX2_goTo 18 = .ok (.iconst 2, 1) := dk_5 (dk_at dksX2_goTo_0 18 rfl rfl)
theorem dX2_goTo_19 : decode cX2_goTo 19 = .ok (.if_icmp .ge 25, 3) := dk_162 0 25 (dk_at dksX2_goTo_0 19 rfl rfl)
theorem dX2_goTo_22 : decode cX2_goTo 22 = .ok (.aload_n 0, 1) := dk_42 (dk_at dksX2_goTo_0 22 rfl rfl)
theorem dX2_goTo_23 : decode cX2_goTo 23 = .ok (.getfield 62, 3) := dk_180 0 62 (dk_at dksX2_goTo_1 0 rfl rfl)
theorem dX2_goTo_26 : decode cX2_goTo 26 = .ok (.iload_n 3, 1) := dk_29 (dk_at dksX2_goTo_1 3 rfl rfl)
theorem dX2_goTo_27 : decode cX2_goTo 27 = .ok (.aload_n 0, 1) := dk_42 (dk_at dksX2_goTo_1 4 rfl rfl)
theorem dX2_goTo_28 : decode cX2_goTo 28 = .ok (.getfield 84, 3) := dk_180 0 84 (dk_at dksX2_goTo_1 5 rfl rfl)
theorem dX2_goTo_31 : decode cX2_goTo 31 = .ok (.iload_n 2, 1) := dk_28 (dk_at dksX2_goTo_1 8 rfl rfl)
theorem dX2_goTo_32 : decode cX2_goTo 32 = .ok (.iconst 1, 1) := dk_4 (dk_at dksX2_goTo_1 9 rfl rfl)
theorem dX2_goTo_33 : decode cX2_goTo 33 = .ok (.iadd, 1) := dk_96 (dk_at dksX2_goTo_1 10 rfl rfl)
theorem dX2_goTo_34 : decode cX2_goTo 34 = .ok (.iload_n 3, 1) := dk_29 (dk_at dksX2_goTo_1 11 rfl rfl)
theorem dX2_goTo_35 : decode cX2_goTo 35 = .ok (.iadd, 1) := dk_96 (dk_at dksX2_goTo_1 12 rfl rfl)
theorem dX2_goTo_36 : decode cX2_goTo 36 = .ok (.iaload, 1) := dk_46 (dk_at dksX2_goTo_1 13 rfl rfl)
theorem dX2_goTo_37 : decode cX2_goTo 37 = .ok (.iastore, 1) := dk_79 (dk_at dksX2_goTo_1 14 rfl rfl)
theorem dX2_goTo_38 : decode cX2_goTo 38 = .ok (.iinc 3 1, 3) := dk_132 3 1 (dk_at dksX2_goTo_1 15 rfl rfl)
theorem dX2_goTo_41 : decode cX2_goTo 41 = .ok (.goto (-24), 3) := dk_167 255 232 (dk_at dksX2_goTo_1 18 rfl rfl)
theorem dX2_goTo_44 : decode cX2_goTo 44 = .ok (.iconst 0, 1) := dk_3 (dk_at dksX2_goTo_1 21 rfl rfl)
theorem dX2_goTo_45 : decode cX2_goTo 45 = .ok (.istore_n 3, 1) := dk_62 (dk_at dksX2_goTo_1 22 rfl rfl)
theorem dX2_goTo_46 : decode cX2_goTo 46 = .ok (.iload_n 3, 1) := dk_29 (dk_at dksX2_goTo_1 23 rfl rfl)
theorem dX2_goTo_47 : decode cX2_goTo 47 = .ok (.aload_n 0, 1) := dk_42 (dk_at dksX2_goTo_2 0 rfl rfl)
theorem dX2_goTo_48 : decode cX2_goTo 48 = .ok (.getfield 203, 3) := dk_180 0 203 (dk_at dksX2_goTo_2 1 rfl rfl)
theorem dX2_goTo_51 : decode cX2_goTo 51 = .ok (.if_icmp .ge 25, 3) := dk_162 0 25 (dk_at dksX2_goTo_2 4 rfl rfl)
theorem dX2_goTo_54 : decode cX2_goTo 54 = .ok (.aload_n 0, 1) := dk_42 (dk_at dksX2_goTo_2 7 rfl rfl)
theorem dX2_goTo_55 : decode cX2_goTo 55 = .ok (.getfield 68, 3) := dk_180 0 68 (dk_at dksX2_goTo_2 8 rfl rfl)
theorem dX2_goTo_58 : decode cX2_goTo 58 = .ok (.iload_n 3, 1) := dk_29 (dk_at dksX2_goTo_2 11 rfl rfl)
theorem dX2_goTo_59 : decode cX2_goTo 59 = .ok (.aload_n 0, 1) := dk_42 (dk_at dksX2_goTo_2 12 rfl rfl)
theorem dX2_goTo_60 : decode cX2_goTo 60 = .ok (.getfield 84, 3) := dk_180 0 84 (dk_at dksX2_goTo_2 13 rfl rfl)
theorem dX2_goTo_63 : decode cX2_goTo 63 = .ok (.iload_n 2, 1) := dk_28 (dk_at dksX2_goTo_2 16 rfl rfl)
theorem dX2_goTo_64 : decode cX2_goTo 64 = .ok (.iconst 3, 1) := dk_6 (dk_at dksX2_goTo_2 17 rfl rfl)
theorem dX2_goTo_65 : decode cX2_goTo 65 = .ok (.iadd, 1) := dk_96 (dk_at dksX2_goTo_2 18 rfl rfl)
theorem dX2_goTo_66 : decode cX2_goTo 66 = .ok (.iload_n 3, 1) := dk_29 (dk_at dksX2_goTo_2 19 rfl rfl)
theorem dX2_goTo_67 : decode cX2_goTo 67 = .ok (.iadd, 1) := dk_96 (dk_at dksX2_goTo_2 20 rfl rfl)
theorem dX2_goTo_68 : decode cX2_goTo 68 = .ok (.iaload, 1) := dk_46 (dk_at dksX2_goTo_2 21 rfl rfl)
theorem dX2_goTo_69 : decode cX2_goTo 69 = .ok (.iastore, 1) := dk_79 (dk_at dksX2_goTo_2 22 rfl rfl)
theorem dX2_goTo_70 : decode cX2_goTo 70 = .ok (.iinc 3 1, 3) := dk_132 3 1 (dk_at dksX2_goTo_3 0 rfl rfl)
theorem dX2_goTo_73 : decode cX2_goTo 73 = .ok (.goto (-27), 3) := dk_167 255 229 (dk_at dksX2_goTo_3 3 rfl rfl)
theorem dX2_goTo_76 : decode cX2_goTo 76 = .ok (.return_, 1) := dk_177 (dk_at dksX2_goTo_3 6 rfl rfl)
abbrev cX2_areAlike : ByteArray := prog_12_method_75_code
def yX2_areAlike : MethodName := ⟨RX2, "areAlike", "(II)Z"⟩
def dkwX2_areAlike_8 : List UInt8 := [160, 0, 7, 4, 167, 0, 4, 3, 54, 5, 132, 6, 1, 167, 255, 176, 21, 5, 172]
abbrev dktX2_areAlike_8 : List UInt8 := dkwX2_areAlike_8 ++ []
def dkwX2_areAlike_7 : List UInt8 := [42, 180, 0, 84, 16, 27, 27, 104, 21, 6, 96, 46, 42, 180, 0, 84, 16, 27, 28, 104, 21, 6, 96, 46]
abbrev dktX2_areAlike_7 : List UInt8 := dkwX2_areAlike_7 ++ dktX2_areAlike_8
def dkwX2_areAlike_6 : List UInt8 := [162, 0, 16, 21, 6, 42, 180, 0, 194, 164, 0, 7, 4, 167, 0, 4, 3, 54, 7, 21, 7, 154, 0, 30]
abbrev dktX2_areAlike_6 : List UInt8 := dkwX2_areAlike_6 ++ dktX2_areAlike_7
def dkwX2_areAlike_5 : List UInt8 := [4, 54, 6, 21, 6, 6, 42, 180, 0, 203, 96, 162, 0, 75, 21, 5, 153, 0, 70, 21, 6, 6]
abbrev dktX2_areAlike_5 : List UInt8 := dkwX2_areAlike_5 ++ dktX2_areAlike_6
def dkwX2_areAlike_4 : List UInt8 := [21, 6, 104, 16, 6, 96, 46, 112, 160, 0, 7, 4, 167, 0, 4, 3, 54, 5, 132, 6, 1, 167, 255, 188]
abbrev dktX2_areAlike_4 : List UInt8 := dkwX2_areAlike_4 ++ dktX2_areAlike_5
def dkwX2_areAlike_3 : List UInt8 := [29, 42, 180, 0, 44, 16, 7, 21, 6, 104, 16, 6, 96, 46, 112, 21, 4, 42, 180, 0, 44, 16, 7]
abbrev dktX2_areAlike_3 : List UInt8 := dkwX2_areAlike_3 ++ dktX2_areAlike_4
def dkwX2_areAlike_2 : List UInt8 := [21, 6, 42, 180, 0, 191, 162, 0, 65, 21, 5, 153, 0, 51, 42, 21, 6, 182, 0, 209, 8, 160, 0, 37]
abbrev dktX2_areAlike_2 : List UInt8 := dkwX2_areAlike_2 ++ dktX2_areAlike_3
def dkwX2_areAlike_1 : List UInt8 := [180, 0, 97, 112, 21, 4, 42, 180, 0, 97, 112, 160, 0, 7, 4, 167, 0, 4, 3, 54, 5, 3, 54, 6]
abbrev dktX2_areAlike_1 : List UInt8 := dkwX2_areAlike_1 ++ dktX2_areAlike_2
def dkwX2_areAlike_0 : List UInt8 := [42, 180, 0, 84, 16, 27, 27, 104, 46, 62, 42, 180, 0, 84, 16, 27, 28, 104, 46, 54, 4, 29, 42]
abbrev dktX2_areAlike_0 : List UInt8 := dkwX2_areAlike_0 ++ dktX2_areAlike_1
theorem dksX2_areAlike_0 : cX2_areAlike.data.toList.drop 0 = dktX2_areAlike_0 := by decide +kernel
theorem dksX2_areAlike_1 : cX2_areAlike.data.toList.drop 23 = dktX2_areAlike_1 := dk_seg dksX2_areAlike_0 23 rfl rfl
theorem dksX2_areAlike_2 : cX2_areAlike.data.toList.drop 47 = dktX2_areAlike_2 := dk_seg dksX2_areAlike_1 24 rfl rfl
theorem dksX2_areAlike_3 : cX2_areAlike.data.toList.drop 71 = dktX2_areAlike_3 := dk_seg dksX2_areAlike_2 24 rfl rfl
theorem dksX2_areAlike_4 : cX2_areAlike.data.toList.drop 94 = dktX2_areAlike_4 := dk_seg dksX2_areAlike_3 23 rfl rfl
theorem dksX2_areAlike_5 : cX2_areAlike.data.toList.drop 118 = dktX2_areAlike_5 := dk_seg dksX2_areAlike_4 24 rfl rfl
theorem dksX2_areAlike_6 : cX2_areAlike.data.toList.drop 140 = dktX2_areAlike_6 := dk_seg dksX2_areAlike_5 22 rfl rfl
theorem dksX2_areAlike_7 : cX2_areAlike.data.toList.drop 164 = dktX2_areAlike_7 := dk_seg dksX2_areAlike_6 24 rfl rfl
theorem dksX2_areAlike_8 : cX2_areAlike.data.toList.drop 188 = dktX2_areAlike_8 := dk_seg dksX2_areAlike_7 24 rfl rfl
theorem dX2_areAlike_0 : decode cX2_areAlike 0 = .ok (.aload_n 0, 1) := dk_42 (dk_at dksX2_areAlike_0 0 rfl rfl)
theorem dX2_areAlike_1 : decode cX2_areAlike 1 = .ok (.getfield 84, 3) := dk_180 0 84 (dk_at dksX2_areAlike_0 1 rfl rfl)
theorem dX2_areAlike_4 : decode cX2_areAlike 4 = .ok (.bipush 27, 2) := dk_16 27 (dk_at dksX2_areAlike_0 4 rfl rfl)
theorem dX2_areAlike_6 : decode cX2_areAlike 6 = .ok (.iload_n 1, 1) := dk_27 (dk_at dksX2_areAlike_0 6 rfl rfl)
theorem dX2_areAlike_7 : decode cX2_areAlike 7 = .ok (.imul, 1) := dk_104 (dk_at dksX2_areAlike_0 7 rfl rfl)
theorem dX2_areAlike_8 : decode cX2_areAlike 8 = .ok (.iaload, 1) := dk_46 (dk_at dksX2_areAlike_0 8 rfl rfl)
theorem dX2_areAlike_9 : decode cX2_areAlike 9 = .ok (.istore_n 3, 1) := dk_62 (dk_at dksX2_areAlike_0 9 rfl rfl)
theorem dX2_areAlike_10 : decode cX2_areAlike 10 = .ok (.aload_n 0, 1) := dk_42 (dk_at dksX2_areAlike_0 10 rfl rfl)
theorem dX2_areAlike_11 : decode cX2_areAlike 11 = .ok (.getfield 84, 3) := dk_180 0 84 (dk_at dksX2_areAlike_0 11 rfl rfl)
theorem dX2_areAlike_14 : decode cX2_areAlike 14 = .ok (.bipush 27, 2) := dk_16 27 (dk_at dksX2_areAlike_0 14 rfl rfl)
theorem dX2_areAlike_16 : decode cX2_areAlike 16 = .ok (.iload_n 2, 1) := dk_28 (dk_at dksX2_areAlike_0 16 rfl rfl)
theorem dX2_areAlike_17 : decode cX2_areAlike 17 = .ok (.imul, 1) := dk_104 (dk_at dksX2_areAlike_0 17 rfl rfl)
theorem dX2_areAlike_18 : decode cX2_areAlike 18 = .ok (.iaload, 1) := dk_46 (dk_at dksX2_areAlike_0 18 rfl rfl)
theorem dX2_areAlike_19 : decode cX2_areAlike 19 = .ok (.istore 4, 2) := dk_54 4 (dk_at dksX2_areAlike_0 19 rfl rfl)
theorem dX2_areAlike_21 : decode cX2_areAlike 21 = .ok (.iload_n 3, 1) := dk_29 (dk_at dksX2_areAlike_0 21 rfl rfl)
theorem dX2_areAlike_22 : decode cX2_areAlike 22 = .ok (.aload_n 0, 1) := dk_42 (dk_at dksX2_areAlike_0 22 rfl rfl)
theorem dX2_areAlike_23 : decode cX2_areAlike 23 = .ok (.getfield 97, 3) := dk_180 0 97 (dk_at dksX2_areAlike_1 0 rfl rfl)
theorem dX2_areAlike_26 : decode cX2_areAlike 26 = .ok (.irem, 1) := dk_112 (dk_at dksX2_areAlike_1 3 rfl rfl)
theorem dX2_areAlike_27 : decode cX2_areAlike 27 = .ok (.iload 4, 2) := dk_21 4 (dk_at dksX2_areAlike_1 4 rfl rfl)
theorem dX2_areAlike_29 : decode cX2_areAlike 29 = .ok (.aload_n 0, 1) := dk_42 (dk_at dksX2_areAlike_1 6 rfl rfl)
theorem dX2_areAlike_30 : decode cX2_areAlike 30 = .ok (.getfield 97, 3) := dk_180 0 97 (dk_at dksX2_areAlike_1 7 rfl rfl)
theorem dX2_areAlike_33 : decode cX2_areAlike 33 = .ok (.irem, 1) := dk_112 (dk_at dksX2_areAlike_1 10 rfl rfl)
theorem dX2_areAlike_34 : decode cX2_areAlike 34 = .ok (.if_icmp .ne 7, 3) := dk_160 0 7 (dk_at dksX2_areAlike_1 11 rfl rfl)
theorem dX2_areAlike_37 : decode cX2_areAlike 37 = .ok (.iconst 1, 1) := dk_4 (dk_at dksX2_areAlike_1 14 rfl rfl)
theorem dX2_areAlike_38 : decode cX2_areAlike 38 = .ok (.goto 4, 3) := dk_167 0 4 (dk_at dksX2_areAlike_1 15 rfl rfl)
theorem dX2_areAlike_41 : decode cX2_areAlike 41 = .ok (.iconst 0, 1) := dk_3 (dk_at dksX2_areAlike_1 18 rfl rfl)
theorem dX2_areAlike_42 : decode cX2_areAlike 42 = .ok (.istore 5, 2) := dk_54 5 (dk_at dksX2_areAlike_1 19 rfl rfl)
theorem dX2_areAlike_44 : decode cX2_areAlike 44 = .ok (.iconst 0, 1) := dk_3 (dk_at dksX2_areAlike_1 21 rfl rfl)
theorem dX2_areAlike_45 : decode cX2_areAlike 45 = .ok (.istore 6, 2) := dk_54 6 (dk_at dksX2_areAlike_1 22 rfl rfl)
theorem dX2_areAlike_47 : decode cX2_areAlike 47 = .ok (.iload 6, 2) := dk_21 6 (dk_at dksX2_areAlike_2 0 rfl rfl)
theorem dX2_areAlike_49 : decode cX2_areAlike 49 = .ok (.aload_n 0, 1) := dk_42 (dk_at dksX2_areAlike_2 2 rfl rfl)
theorem dX2_areAlike_50 : decode cX2_areAlike 50 = .ok (.getfield 191, 3) := dk_180 0 191 (dk_at dksX2_areAlike_2 3 rfl rfl)
theorem dX2_areAlike_53 : decode cX2_areAlike 53 = .ok (.if_icmp .ge 65, 3) := dk_162 0 65 (dk_at dksX2_areAlike_2 6 rfl rfl)
theorem dX2_areAlike_56 : decode cX2_areAlike 56 = .ok (.iload 5, 2) := dk_21 5 (dk_at dksX2_areAlike_2 9 rfl rfl)
theorem dX2_areAlike_58 : decode cX2_areAlike 58 = .ok (.ifCond .eq 51, 3) := dk_153 0 51 (dk_at dksX2_areAlike_2 11 rfl rfl)
theorem dX2_areAlike_61 : decode cX2_areAlike 61 = .ok (.aload_n 0, 1) := dk_42 (dk_at dksX2_areAlike_2 14 rfl rfl)
theorem dX2_areAlike_62 : decode cX2_areAlike 62 = .ok (.iload 6, 2) := dk_21 6 (dk_at dksX2_areAlike_2 15 rfl rfl)
theorem dX2_areAlike_64 : decode cX2_areAlike 64 = .ok (.invokevirtual 209, 3) := dk_182 0 209 (dk_at dksX2_areAlike_2 17 rfl rfl)
theorem dX2_areAlike_67 : decode cX2_areAlike 67 = .ok (.iconst 5, 1) := dk_8 (dk_at dksX2_areAlike_2 20 rfl rfl)
theorem dX2_areAlike_68 : decode cX2_areAlike 68 = .ok (.if_icmp .ne 37, 3) := dk_160 0 37 (dk_at dksX2_areAlike_2 21 rfl rfl)
theorem dX2_areAlike_71 : decode cX2_areAlike 71 = .ok (.iload_n 3, 1) := dk_29 (dk_at dksX2_areAlike_3 0 rfl rfl)
theorem dX2_areAlike_72 : decode cX2_areAlike 72 = .ok (.aload_n 0, 1) := dk_42 (dk_at dksX2_areAlike_3 1 rfl rfl)
theorem dX2_areAlike_73 : decode cX2_areAlike 73 = .ok (.getfield 44, 3) := dk_180 0 44 (dk_at dksX2_areAlike_3 2 rfl rfl)
theorem dX2_areAlike_76 : decode cX2_areAlike 76 = .ok (.bipush 7, 2) := dk_16 7 (dk_at dksX2_areAlike_3 5 rfl rfl)
theorem dX2_areAlike_78 : decode cX2_areAlike 78 = .ok (.iload 6, 2) := dk_21 6 (dk_at dksX2_areAlike_3 7 rfl rfl)
theorem dX2_areAlike_80 : decode cX2_areAlike 80 = .ok (.imul, 1) := dk_104 (dk_at dksX2_areAlike_3 9 rfl rfl)
theorem dX2_areAlike_81 : decode cX2_areAlike 81 = .ok (.bipush 6, 2) := dk_16 6 (dk_at dksX2_areAlike_3 10 rfl rfl)
theorem dX2_areAlike_83 : decode cX2_areAlike 83 = .ok (.iadd, 1) := dk_96 (dk_at dksX2_areAlike_3 12 rfl rfl)
theorem dX2_areAlike_84 : decode cX2_areAlike 84 = .ok (.iaload, 1) := dk_46 (dk_at dksX2_areAlike_3 13 rfl rfl)
theorem dX2_areAlike_85 : decode cX2_areAlike 85 = .ok (.irem, 1) := dk_112 (dk_at dksX2_areAlike_3 14 rfl rfl)
theorem dX2_areAlike_86 : decode cX2_areAlike 86 = .ok (.iload 4, 2) := dk_21 4 (dk_at dksX2_areAlike_3 15 rfl rfl)
theorem dX2_areAlike_88 : decode cX2_areAlike 88 = .ok (.aload_n 0, 1) := dk_42 (dk_at dksX2_areAlike_3 17 rfl rfl)
theorem dX2_areAlike_89 : decode cX2_areAlike 89 = .ok (.getfield 44, 3) := dk_180 0 44 (dk_at dksX2_areAlike_3 18 rfl rfl)
theorem dX2_areAlike_92 : decode cX2_areAlike 92 = .ok (.bipush 7, 2) := dk_16 7 (dk_at dksX2_areAlike_3 21 rfl rfl)
theorem dX2_areAlike_94 : decode cX2_areAlike 94 = .ok (.iload 6, 2) := dk_21 6 (dk_at dksX2_areAlike_4 0 rfl rfl)
theorem dX2_areAlike_96 : decode cX2_areAlike 96 = .ok (.imul, 1) := dk_104 (dk_at dksX2_areAlike_4 2 rfl rfl)
theorem dX2_areAlike_97 : decode cX2_areAlike 97 = .ok (.bipush 6, 2) := dk_16 6 (dk_at dksX2_areAlike_4 3 rfl rfl)
theorem dX2_areAlike_99 : decode cX2_areAlike 99 = .ok (.iadd, 1) := dk_96 (dk_at dksX2_areAlike_4 5 rfl rfl)
theorem dX2_areAlike_100 : decode cX2_areAlike 100 = .ok (.iaload, 1) := dk_46 (dk_at dksX2_areAlike_4 6 rfl rfl)
theorem dX2_areAlike_101 : decode cX2_areAlike 101 = .ok (.irem, 1) := dk_112 (dk_at dksX2_areAlike_4 7 rfl rfl)
theorem dX2_areAlike_102 : decode cX2_areAlike 102 = .ok (.if_icmp .ne 7, 3) := dk_160 0 7 (dk_at dksX2_areAlike_4 8 rfl rfl)
theorem dX2_areAlike_105 : decode cX2_areAlike 105 = .ok (.iconst 1, 1) := dk_4 (dk_at dksX2_areAlike_4 11 rfl rfl)
theorem dX2_areAlike_106 : decode cX2_areAlike 106 = .ok (.goto 4, 3) := dk_167 0 4 (dk_at dksX2_areAlike_4 12 rfl rfl)
theorem dX2_areAlike_109 : decode cX2_areAlike 109 = .ok (.iconst 0, 1) := dk_3 (dk_at dksX2_areAlike_4 15 rfl rfl)
theorem dX2_areAlike_110 : decode cX2_areAlike 110 = .ok (.istore 5, 2) := dk_54 5 (dk_at dksX2_areAlike_4 16 rfl rfl)
theorem dX2_areAlike_112 : decode cX2_areAlike 112 = .ok (.iinc 6 1, 3) := dk_132 6 1 (dk_at dksX2_areAlike_4 18 rfl rfl)
theorem dX2_areAlike_115 : decode cX2_areAlike 115 = .ok (.goto (-68), 3) := dk_167 255 188 (dk_at dksX2_areAlike_4 21 rfl rfl)
theorem dX2_areAlike_118 : decode cX2_areAlike 118 = .ok (.iconst 1, 1) := dk_4 (dk_at dksX2_areAlike_5 0 rfl rfl)
theorem dX2_areAlike_119 : decode cX2_areAlike 119 = .ok (.istore 6, 2) := dk_54 6 (dk_at dksX2_areAlike_5 1 rfl rfl)
theorem dX2_areAlike_121 : decode cX2_areAlike 121 = .ok (.iload 6, 2) := dk_21 6 (dk_at dksX2_areAlike_5 3 rfl rfl)
theorem dX2_areAlike_123 : decode cX2_areAlike 123 = .ok (.iconst 3, 1) := dk_6 (dk_at dksX2_areAlike_5 5 rfl rfl)
theorem dX2_areAlike_124 : decode cX2_areAlike 124 = .ok (.aload_n 0, 1) := dk_42 (dk_at dksX2_areAlike_5 6 rfl rfl)
theorem dX2_areAlike_125 : decode cX2_areAlike 125 = .ok (.getfield 203, 3) := dk_180 0 203 (dk_at dksX2_areAlike_5 7 rfl rfl)
theorem dX2_areAlike_128 : decode cX2_areAlike 128 = .ok (.iadd, 1) := dk_96 (dk_at dksX2_areAlike_5 10 rfl rfl)
theorem dX2_areAlike_129 : decode cX2_areAlike 129 = .ok (.if_icmp .ge 75, 3) := dk_162 0 75 (dk_at dksX2_areAlike_5 11 rfl rfl)
theorem dX2_areAlike_132 : decode cX2_areAlike 132 = .ok (.iload 5, 2) := dk_21 5 (dk_at dksX2_areAlike_5 14 rfl rfl)
theorem dX2_areAlike_134 : decode cX2_areAlike 134 = .ok (.ifCond .eq 70, 3) := dk_153 0 70 (dk_at dksX2_areAlike_5 16 rfl rfl)
theorem dX2_areAlike_137 : decode cX2_areAlike 137 = .ok (.iload 6, 2) := dk_21 6 (dk_at dksX2_areAlike_5 19 rfl rfl)
theorem dX2_areAlike_139 : decode cX2_areAlike 139 = .ok (.iconst 3, 1) := dk_6 (dk_at dksX2_areAlike_5 21 rfl rfl)
theorem dX2_areAlike_140 : decode cX2_areAlike 140 = .ok (.if_icmp .ge 16, 3) := dk_162 0 16 (dk_at dksX2_areAlike_6 0 rfl rfl)
theorem dX2_areAlike_143 : decode cX2_areAlike 143 = .ok (.iload 6, 2) := dk_21 6 (dk_at dksX2_areAlike_6 3 rfl rfl)
theorem dX2_areAlike_145 : decode cX2_areAlike 145 = .ok (.aload_n 0, 1) := dk_42 (dk_at dksX2_areAlike_6 5 rfl rfl)
theorem dX2_areAlike_146 : decode cX2_areAlike 146 = .ok (.getfield 194, 3) := dk_180 0 194 (dk_at dksX2_areAlike_6 6 rfl rfl)
theorem dX2_areAlike_149 : decode cX2_areAlike 149 = .ok (.if_icmp .le 7, 3) := dk_164 0 7 (dk_at dksX2_areAlike_6 9 rfl rfl)
theorem dX2_areAlike_152 : decode cX2_areAlike 152 = .ok (.iconst 1, 1) := dk_4 (dk_at dksX2_areAlike_6 12 rfl rfl)
theorem dX2_areAlike_153 : decode cX2_areAlike 153 = .ok (.goto 4, 3) := dk_167 0 4 (dk_at dksX2_areAlike_6 13 rfl rfl)
theorem dX2_areAlike_156 : decode cX2_areAlike 156 = .ok (.iconst 0, 1) := dk_3 (dk_at dksX2_areAlike_6 16 rfl rfl)
theorem dX2_areAlike_157 : decode cX2_areAlike 157 = .ok (.istore 7, 2) := dk_54 7 (dk_at dksX2_areAlike_6 17 rfl rfl)
theorem dX2_areAlike_159 : decode cX2_areAlike 159 = .ok (.iload 7, 2) := dk_21 7 (dk_at dksX2_areAlike_6 19 rfl rfl)
theorem dX2_areAlike_161 : decode cX2_areAlike 161 = .ok (.ifCond .ne 30, 3) := dk_154 0 30 (dk_at dksX2_areAlike_6 21 rfl rfl)
theorem dX2_areAlike_164 : decode cX2_areAlike 164 = .ok (.aload_n 0, 1) := dk_42 (dk_at dksX2_areAlike_7 0 rfl rfl)
theorem dX2_areAlike_165 : decode cX2_areAlike 165 = .ok (.getfield 84, 3) := dk_180 0 84 (dk_at dksX2_areAlike_7 1 rfl rfl)
theorem dX2_areAlike_168 : decode cX2_areAlike 168 = .ok (.bipush 27, 2) := dk_16 27 (dk_at dksX2_areAlike_7 4 rfl rfl)
theorem dX2_areAlike_170 : decode cX2_areAlike 170 = .ok (.iload_n 1, 1) := dk_27 (dk_at dksX2_areAlike_7 6 rfl rfl)
theorem dX2_areAlike_171 : decode cX2_areAlike 171 = .ok (.imul, 1) := dk_104 (dk_at dksX2_areAlike_7 7 rfl rfl)
theorem dX2_areAlike_172 : decode cX2_areAlike 172 = .ok (.iload 6, 2) := dk_21 6 (dk_at dksX2_areAlike_7 8 rfl rfl)
theorem dX2_areAlike_174 : decode cX2_areAlike 174 = .ok (.iadd, 1) := dk_96 (dk_at dksX2_areAlike_7 10 rfl rfl)
theorem dX2_areAlike_175 : decode cX2_areAlike 175 = .ok (.iaload, 1) := dk_46 (dk_at dksX2_areAlike_7 11 rfl rfl)
theorem dX2_areAlike_176 : decode cX2_areAlike 176 = .ok (.aload_n 0, 1) := dk_42 (dk_at dksX2_areAlike_7 12 rfl rfl)
theorem dX2_areAlike_177 : decode cX2_areAlike 177 = .ok (.getfield 84, 3) := dk_180 0 84 (dk_at dksX2_areAlike_7 13 rfl rfl)
theorem dX2_areAlike_180 : decode cX2_areAlike 180 = .ok (.bipush 27, 2) := dk_16 27 (dk_at dksX2_areAlike_7 16 rfl rfl)
theorem dX2_areAlike_182 : decode cX2_areAlike 182 = .ok (.iload_n 2, 1) := dk_28 (dk_at dksX2_areAlike_7 18 rfl rfl)
theorem dX2_areAlike_183 : decode cX2_areAlike 183 = .ok (.imul, 1) := dk_104 (dk_at dksX2_areAlike_7 19 rfl rfl)
theorem dX2_areAlike_184 : decode cX2_areAlike 184 = .ok (.iload 6, 2) := dk_21 6 (dk_at dksX2_areAlike_7 20 rfl rfl)
theorem dX2_areAlike_186 : decode cX2_areAlike 186 = .ok (.iadd, 1) := dk_96 (dk_at dksX2_areAlike_7 22 rfl rfl)
theorem dX2_areAlike_187 : decode cX2_areAlike 187 = .ok (.iaload, 1) := dk_46 (dk_at dksX2_areAlike_7 23 rfl rfl)
theorem dX2_areAlike_188 : decode cX2_areAlike 188 = .ok (.if_icmp .ne 7, 3) := dk_160 0 7 (dk_at dksX2_areAlike_8 0 rfl rfl)
theorem dX2_areAlike_191 : decode cX2_areAlike 191 = .ok (.iconst 1, 1) := dk_4 (dk_at dksX2_areAlike_8 3 rfl rfl)
theorem dX2_areAlike_192 : decode cX2_areAlike 192 = .ok (.goto 4, 3) := dk_167 0 4 (dk_at dksX2_areAlike_8 4 rfl rfl)
theorem dX2_areAlike_195 : decode cX2_areAlike 195 = .ok (.iconst 0, 1) := dk_3 (dk_at dksX2_areAlike_8 7 rfl rfl)
theorem dX2_areAlike_196 : decode cX2_areAlike 196 = .ok (.istore 5, 2) := dk_54 5 (dk_at dksX2_areAlike_8 8 rfl rfl)
theorem dX2_areAlike_198 : decode cX2_areAlike 198 = .ok (.iinc 6 1, 3) := dk_132 6 1 (dk_at dksX2_areAlike_8 10 rfl rfl)
theorem dX2_areAlike_201 : decode cX2_areAlike 201 = .ok (.goto (-80), 3) := dk_167 255 176 (dk_at dksX2_areAlike_8 13 rfl rfl)
theorem dX2_areAlike_204 : decode cX2_areAlike 204 = .ok (.iload 5, 2) := dk_21 5 (dk_at dksX2_areAlike_8 16 rfl rfl)
theorem dX2_areAlike_206 : decode cX2_areAlike 206 = .ok (.ireturn, 1) := dk_172 (dk_at dksX2_areAlike_8 18 rfl rfl)
abbrev cX2_back : ByteArray := prog_12_method_71_code
def yX2_back : MethodName := ⟨RX2, "back", "()V"⟩
def dkwX2_back_4 : List UInt8 := [46, 79, 132, 1, 1, 167, 255, 197, 177]
abbrev dktX2_back_4 : List UInt8 := dkwX2_back_4 ++ []
def dkwX2_back_3 : List UInt8 := [180, 0, 87, 7, 6, 27, 104, 96, 46, 79, 42, 180, 0, 74, 27, 42, 180, 0, 87, 8, 6, 27, 104, 96]
abbrev dktX2_back_3 : List UInt8 := dkwX2_back_3 ++ dktX2_back_4
def dkwX2_back_2 : List UInt8 := [42, 180, 0, 68, 27, 42, 180, 0, 87, 6, 6, 27, 104, 96, 46, 79, 42, 180, 0, 71, 27, 42]
abbrev dktX2_back_2 : List UInt8 := dkwX2_back_2 ++ dktX2_back_3
def dkwX2_back_1 : List UInt8 := [180, 0, 87, 4, 27, 96, 46, 79, 132, 1, 1, 167, 255, 234, 3, 60, 27, 42, 180, 0, 203, 162, 0, 57]
abbrev dktX2_back_1 : List UInt8 := dkwX2_back_1 ++ dktX2_back_2
def dkwX2_back_0 : List UInt8 := [42, 42, 180, 0, 87, 3, 46, 181, 0, 206, 3, 60, 27, 5, 162, 0, 23, 42, 180, 0, 62, 27, 42]
abbrev dktX2_back_0 : List UInt8 := dkwX2_back_0 ++ dktX2_back_1
theorem dksX2_back_0 : cX2_back.data.toList.drop 0 = dktX2_back_0 := by decide +kernel
theorem dksX2_back_1 : cX2_back.data.toList.drop 23 = dktX2_back_1 := dk_seg dksX2_back_0 23 rfl rfl
theorem dksX2_back_2 : cX2_back.data.toList.drop 47 = dktX2_back_2 := dk_seg dksX2_back_1 24 rfl rfl
theorem dksX2_back_3 : cX2_back.data.toList.drop 69 = dktX2_back_3 := dk_seg dksX2_back_2 22 rfl rfl
theorem dksX2_back_4 : cX2_back.data.toList.drop 93 = dktX2_back_4 := dk_seg dksX2_back_3 24 rfl rfl
theorem dX2_back_0 : decode cX2_back 0 = .ok (.aload_n 0, 1) := dk_42 (dk_at dksX2_back_0 0 rfl rfl)
theorem dX2_back_1 : decode cX2_back 1 = .ok (.aload_n 0, 1) := dk_42 (dk_at dksX2_back_0 1 rfl rfl)
theorem dX2_back_2 : decode cX2_back 2 = .ok (.getfield 87, 3) := dk_180 0 87 (dk_at dksX2_back_0 2 rfl rfl)
theorem dX2_back_5 : decode cX2_back 5 = .ok (.iconst 0, 1) := dk_3 (dk_at dksX2_back_0 5 rfl rfl)
theorem dX2_back_6 : decode cX2_back 6 = .ok (.iaload, 1) := dk_46 (dk_at dksX2_back_0 6 rfl rfl)
theorem dX2_back_7 : decode cX2_back 7 = .ok (.putfield 206, 3) := dk_181 0 206 (dk_at dksX2_back_0 7 rfl rfl)
theorem dX2_back_10 : decode cX2_back 10 = .ok (.iconst 0, 1) := dk_3 (dk_at dksX2_back_0 10 rfl rfl)
theorem dX2_back_11 : decode cX2_back 11 = .ok (.istore_n 1, 1) := dk_60 (dk_at dksX2_back_0 11 rfl rfl)
theorem dX2_back_12 : decode cX2_back 12 = .ok (.iload_n 1, 1) := dk_27 (dk_at dksX2_back_0 12 rfl rfl)
theorem dX2_back_13 : decode cX2_back 13 = .ok (.iconst 2, 1) := dk_5 (dk_at dksX2_back_0 13 rfl rfl)
theorem dX2_back_14 : decode cX2_back 14 = .ok (.if_icmp .ge 23, 3) := dk_162 0 23 (dk_at dksX2_back_0 14 rfl rfl)
theorem dX2_back_17 : decode cX2_back 17 = .ok (.aload_n 0, 1) := dk_42 (dk_at dksX2_back_0 17 rfl rfl)
theorem dX2_back_18 : decode cX2_back 18 = .ok (.getfield 62, 3) := dk_180 0 62 (dk_at dksX2_back_0 18 rfl rfl)
theorem dX2_back_21 : decode cX2_back 21 = .ok (.iload_n 1, 1) := dk_27 (dk_at dksX2_back_0 21 rfl rfl)
theorem dX2_back_22 : decode cX2_back 22 = .ok (.aload_n 0, 1) := dk_42 (dk_at dksX2_back_0 22 rfl rfl)
theorem dX2_back_23 : decode cX2_back 23 = .ok (.getfield 87, 3) := dk_180 0 87 (dk_at dksX2_back_1 0 rfl rfl)
theorem dX2_back_26 : decode cX2_back 26 = .ok (.iconst 1, 1) := dk_4 (dk_at dksX2_back_1 3 rfl rfl)
theorem dX2_back_27 : decode cX2_back 27 = .ok (.iload_n 1, 1) := dk_27 (dk_at dksX2_back_1 4 rfl rfl)
theorem dX2_back_28 : decode cX2_back 28 = .ok (.iadd, 1) := dk_96 (dk_at dksX2_back_1 5 rfl rfl)
theorem dX2_back_29 : decode cX2_back 29 = .ok (.iaload, 1) := dk_46 (dk_at dksX2_back_1 6 rfl rfl)
theorem dX2_back_30 : decode cX2_back 30 = .ok (.iastore, 1) := dk_79 (dk_at dksX2_back_1 7 rfl rfl)
theorem dX2_back_31 : decode cX2_back 31 = .ok (.iinc 1 1, 3) := dk_132 1 1 (dk_at dksX2_back_1 8 rfl rfl)
theorem dX2_back_34 : decode cX2_back 34 = .ok (.goto (-22), 3) := dk_167 255 234 (dk_at dksX2_back_1 11 rfl rfl)
theorem dX2_back_37 : decode cX2_back 37 = .ok (.iconst 0, 1) := dk_3 (dk_at dksX2_back_1 14 rfl rfl)
theorem dX2_back_38 : decode cX2_back 38 = .ok (.istore_n 1, 1) := dk_60 (dk_at dksX2_back_1 15 rfl rfl)
theorem dX2_back_39 : decode cX2_back 39 = .ok (.iload_n 1, 1) := dk_27 (dk_at dksX2_back_1 16 rfl rfl)
theorem dX2_back_40 : decode cX2_back 40 = .ok (.aload_n 0, 1) := dk_42 (dk_at dksX2_back_1 17 rfl rfl)
theorem dX2_back_41 : decode cX2_back 41 = .ok (.getfield 203, 3) := dk_180 0 203 (dk_at dksX2_back_1 18 rfl rfl)
theorem dX2_back_44 : decode cX2_back 44 = .ok (.if_icmp .ge 57, 3) := dk_162 0 57 (dk_at dksX2_back_1 21 rfl rfl)
theorem dX2_back_47 : decode cX2_back 47 = .ok (.aload_n 0, 1) := dk_42 (dk_at dksX2_back_2 0 rfl rfl)
theorem dX2_back_48 : decode cX2_back 48 = .ok (.getfield 68, 3) := dk_180 0 68 (dk_at dksX2_back_2 1 rfl rfl)
theorem dX2_back_51 : decode cX2_back 51 = .ok (.iload_n 1, 1) := dk_27 (dk_at dksX2_back_2 4 rfl rfl)
theorem dX2_back_52 : decode cX2_back 52 = .ok (.aload_n 0, 1) := dk_42 (dk_at dksX2_back_2 5 rfl rfl)
theorem dX2_back_53 : decode cX2_back 53 = .ok (.getfield 87, 3) := dk_180 0 87 (dk_at dksX2_back_2 6 rfl rfl)
theorem dX2_back_56 : decode cX2_back 56 = .ok (.iconst 3, 1) := dk_6 (dk_at dksX2_back_2 9 rfl rfl)
theorem dX2_back_57 : decode cX2_back 57 = .ok (.iconst 3, 1) := dk_6 (dk_at dksX2_back_2 10 rfl rfl)
theorem dX2_back_58 : decode cX2_back 58 = .ok (.iload_n 1, 1) := dk_27 (dk_at dksX2_back_2 11 rfl rfl)
theorem dX2_back_59 : decode cX2_back 59 = .ok (.imul, 1) := dk_104 (dk_at dksX2_back_2 12 rfl rfl)
theorem dX2_back_60 : decode cX2_back 60 = .ok (.iadd, 1) := dk_96 (dk_at dksX2_back_2 13 rfl rfl)
theorem dX2_back_61 : decode cX2_back 61 = .ok (.iaload, 1) := dk_46 (dk_at dksX2_back_2 14 rfl rfl)
theorem dX2_back_62 : decode cX2_back 62 = .ok (.iastore, 1) := dk_79 (dk_at dksX2_back_2 15 rfl rfl)
theorem dX2_back_63 : decode cX2_back 63 = .ok (.aload_n 0, 1) := dk_42 (dk_at dksX2_back_2 16 rfl rfl)
theorem dX2_back_64 : decode cX2_back 64 = .ok (.getfield 71, 3) := dk_180 0 71 (dk_at dksX2_back_2 17 rfl rfl)
theorem dX2_back_67 : decode cX2_back 67 = .ok (.iload_n 1, 1) := dk_27 (dk_at dksX2_back_2 20 rfl rfl)
theorem dX2_back_68 : decode cX2_back 68 = .ok (.aload_n 0, 1) := dk_42 (dk_at dksX2_back_2 21 rfl rfl)
theorem dX2_back_69 : decode cX2_back 69 = .ok (.getfield 87, 3) := dk_180 0 87 (dk_at dksX2_back_3 0 rfl rfl)
theorem dX2_back_72 : decode cX2_back 72 = .ok (.iconst 4, 1) := dk_7 (dk_at dksX2_back_3 3 rfl rfl)
theorem dX2_back_73 : decode cX2_back 73 = .ok (.iconst 3, 1) := dk_6 (dk_at dksX2_back_3 4 rfl rfl)
theorem dX2_back_74 : decode cX2_back 74 = .ok (.iload_n 1, 1) := dk_27 (dk_at dksX2_back_3 5 rfl rfl)
theorem dX2_back_75 : decode cX2_back 75 = .ok (.imul, 1) := dk_104 (dk_at dksX2_back_3 6 rfl rfl)
theorem dX2_back_76 : decode cX2_back 76 = .ok (.iadd, 1) := dk_96 (dk_at dksX2_back_3 7 rfl rfl)
theorem dX2_back_77 : decode cX2_back 77 = .ok (.iaload, 1) := dk_46 (dk_at dksX2_back_3 8 rfl rfl)
theorem dX2_back_78 : decode cX2_back 78 = .ok (.iastore, 1) := dk_79 (dk_at dksX2_back_3 9 rfl rfl)
theorem dX2_back_79 : decode cX2_back 79 = .ok (.aload_n 0, 1) := dk_42 (dk_at dksX2_back_3 10 rfl rfl)
theorem dX2_back_80 : decode cX2_back 80 = .ok (.getfield 74, 3) := dk_180 0 74 (dk_at dksX2_back_3 11 rfl rfl)
theorem dX2_back_83 : decode cX2_back 83 = .ok (.iload_n 1, 1) := dk_27 (dk_at dksX2_back_3 14 rfl rfl)
theorem dX2_back_84 : decode cX2_back 84 = .ok (.aload_n 0, 1) := dk_42 (dk_at dksX2_back_3 15 rfl rfl)
theorem dX2_back_85 : decode cX2_back 85 = .ok (.getfield 87, 3) := dk_180 0 87 (dk_at dksX2_back_3 16 rfl rfl)
theorem dX2_back_88 : decode cX2_back 88 = .ok (.iconst 5, 1) := dk_8 (dk_at dksX2_back_3 19 rfl rfl)
theorem dX2_back_89 : decode cX2_back 89 = .ok (.iconst 3, 1) := dk_6 (dk_at dksX2_back_3 20 rfl rfl)
theorem dX2_back_90 : decode cX2_back 90 = .ok (.iload_n 1, 1) := dk_27 (dk_at dksX2_back_3 21 rfl rfl)
theorem dX2_back_91 : decode cX2_back 91 = .ok (.imul, 1) := dk_104 (dk_at dksX2_back_3 22 rfl rfl)
theorem dX2_back_92 : decode cX2_back 92 = .ok (.iadd, 1) := dk_96 (dk_at dksX2_back_3 23 rfl rfl)
theorem dX2_back_93 : decode cX2_back 93 = .ok (.iaload, 1) := dk_46 (dk_at dksX2_back_4 0 rfl rfl)
theorem dX2_back_94 : decode cX2_back 94 = .ok (.iastore, 1) := dk_79 (dk_at dksX2_back_4 1 rfl rfl)
theorem dX2_back_95 : decode cX2_back 95 = .ok (.iinc 1 1, 3) := dk_132 1 1 (dk_at dksX2_back_4 2 rfl rfl)
theorem dX2_back_98 : decode cX2_back 98 = .ok (.goto (-59), 3) := dk_167 255 197 (dk_at dksX2_back_4 5 rfl rfl)
theorem dX2_back_101 : decode cX2_back 101 = .ok (.return_, 1) := dk_177 (dk_at dksX2_back_4 8 rfl rfl)
abbrev cX2_masts : ByteArray := prog_12_method_79_code
def yX2_masts : MethodName := ⟨RX2, "masts", "()I"⟩
def dkwX2_masts_3 : List UInt8 := [132, 3, 1, 167, 255, 210, 42, 182, 1, 40, 42, 27, 28, 182, 0, 126, 172]
abbrev dktX2_masts_3 : List UInt8 := dkwX2_masts_3 ++ []
def dkwX2_masts_2 : List UInt8 := [180, 0, 251, 158, 0, 17, 5, 42, 180, 0, 251, 104, 27, 161, 0, 7, 4, 167, 0, 4, 3, 96, 61]
abbrev dktX2_masts_2 : List UInt8 := dkwX2_masts_2 ++ dktX2_masts_3
def dkwX2_masts_1 : List UInt8 := [3, 61, 3, 62, 29, 42, 180, 1, 46, 162, 0, 44, 42, 42, 182, 1, 17, 3, 3, 182, 1, 13, 28, 42]
abbrev dktX2_masts_1 : List UInt8 := dkwX2_masts_1 ++ dktX2_masts_2
def dkwX2_masts_0 : List UInt8 := [42, 16, 247, 16, 247, 182, 1, 83, 154, 0, 6, 16, 250, 172, 42, 180, 1, 56, 60, 42, 182, 1, 49, 87]
abbrev dktX2_masts_0 : List UInt8 := dkwX2_masts_0 ++ dktX2_masts_1
theorem dksX2_masts_0 : cX2_masts.data.toList.drop 0 = dktX2_masts_0 := by decide +kernel
theorem dksX2_masts_1 : cX2_masts.data.toList.drop 24 = dktX2_masts_1 := dk_seg dksX2_masts_0 24 rfl rfl
theorem dksX2_masts_2 : cX2_masts.data.toList.drop 48 = dktX2_masts_2 := dk_seg dksX2_masts_1 24 rfl rfl
theorem dksX2_masts_3 : cX2_masts.data.toList.drop 71 = dktX2_masts_3 := dk_seg dksX2_masts_2 23 rfl rfl
theorem dX2_masts_0 : decode cX2_masts 0 = .ok (.aload_n 0, 1) := dk_42 (dk_at dksX2_masts_0 0 rfl rfl)
theorem dX2_masts_1 : decode cX2_masts 1 = .ok (.bipush (-9), 2) := dk_16 247 (dk_at dksX2_masts_0 1 rfl rfl)
theorem dX2_masts_3 : decode cX2_masts 3 = .ok (.bipush (-9), 2) := dk_16 247 (dk_at dksX2_masts_0 3 rfl rfl)
theorem dX2_masts_5 : decode cX2_masts 5 = .ok (.invokevirtual 339, 3) := dk_182 1 83 (dk_at dksX2_masts_0 5 rfl rfl)
theorem dX2_masts_8 : decode cX2_masts 8 = .ok (.ifCond .ne 6, 3) := dk_154 0 6 (dk_at dksX2_masts_0 8 rfl rfl)
theorem dX2_masts_11 : decode cX2_masts 11 = .ok (.bipush (-6), 2) := dk_16 250 (dk_at dksX2_masts_0 11 rfl rfl)
theorem dX2_masts_13 : decode cX2_masts 13 = .ok (.ireturn, 1) := dk_172 (dk_at dksX2_masts_0 13 rfl rfl)
theorem dX2_masts_14 : decode cX2_masts 14 = .ok (.aload_n 0, 1) := dk_42 (dk_at dksX2_masts_0 14 rfl rfl)
theorem dX2_masts_15 : decode cX2_masts 15 = .ok (.getfield 312, 3) := dk_180 1 56 (dk_at dksX2_masts_0 15 rfl rfl)
theorem dX2_masts_18 : decode cX2_masts 18 = .ok (.istore_n 1, 1) := dk_60 (dk_at dksX2_masts_0 18 rfl rfl)
theorem dX2_masts_19 : decode cX2_masts 19 = .ok (.aload_n 0, 1) := dk_42 (dk_at dksX2_masts_0 19 rfl rfl)
theorem dX2_masts_20 : decode cX2_masts 20 = .ok (.invokevirtual 305, 3) := dk_182 1 49 (dk_at dksX2_masts_0 20 rfl rfl)
theorem dX2_masts_23 : decode cX2_masts 23 = .ok (.pop, 1) := dk_87 (dk_at dksX2_masts_0 23 rfl rfl)
theorem dX2_masts_24 : decode cX2_masts 24 = .ok (.iconst 0, 1) := dk_3 (dk_at dksX2_masts_1 0 rfl rfl)
theorem dX2_masts_25 : decode cX2_masts 25 = .ok (.istore_n 2, 1) := dk_61 (dk_at dksX2_masts_1 1 rfl rfl)
theorem dX2_masts_26 : decode cX2_masts 26 = .ok (.iconst 0, 1) := dk_3 (dk_at dksX2_masts_1 2 rfl rfl)
theorem dX2_masts_27 : decode cX2_masts 27 = .ok (.istore_n 3, 1) := dk_62 (dk_at dksX2_masts_1 3 rfl rfl)
theorem dX2_masts_28 : decode cX2_masts 28 = .ok (.iload_n 3, 1) := dk_29 (dk_at dksX2_masts_1 4 rfl rfl)
theorem dX2_masts_29 : decode cX2_masts 29 = .ok (.aload_n 0, 1) := dk_42 (dk_at dksX2_masts_1 5 rfl rfl)
theorem dX2_masts_30 : decode cX2_masts 30 = .ok (.getfield 302, 3) := dk_180 1 46 (dk_at dksX2_masts_1 6 rfl rfl)
theorem dX2_masts_33 : decode cX2_masts 33 = .ok (.if_icmp .ge 44, 3) := dk_162 0 44 (dk_at dksX2_masts_1 9 rfl rfl)
theorem dX2_masts_36 : decode cX2_masts 36 = .ok (.aload_n 0, 1) := dk_42 (dk_at dksX2_masts_1 12 rfl rfl)
theorem dX2_masts_37 : decode cX2_masts 37 = .ok (.aload_n 0, 1) := dk_42 (dk_at dksX2_masts_1 13 rfl rfl)
theorem dX2_masts_38 : decode cX2_masts 38 = .ok (.invokevirtual 273, 3) := dk_182 1 17 (dk_at dksX2_masts_1 14 rfl rfl)
theorem dX2_masts_41 : decode cX2_masts 41 = .ok (.iconst 0, 1) := dk_3 (dk_at dksX2_masts_1 17 rfl rfl)
theorem dX2_masts_42 : decode cX2_masts 42 = .ok (.iconst 0, 1) := dk_3 (dk_at dksX2_masts_1 18 rfl rfl)
theorem dX2_masts_43 : decode cX2_masts 43 = .ok (.invokevirtual 269, 3) := dk_182 1 13 (dk_at dksX2_masts_1 19 rfl rfl)
theorem dX2_masts_46 : decode cX2_masts 46 = .ok (.iload_n 2, 1) := dk_28 (dk_at dksX2_masts_1 22 rfl rfl)
theorem dX2_masts_47 : decode cX2_masts 47 = .ok (.aload_n 0, 1) := dk_42 (dk_at dksX2_masts_1 23 rfl rfl)
theorem dX2_masts_48 : decode cX2_masts 48 = .ok (.getfield 251, 3) := dk_180 0 251 (dk_at dksX2_masts_2 0 rfl rfl)
theorem dX2_masts_51 : decode cX2_masts 51 = .ok (.ifCond .le 17, 3) := dk_158 0 17 (dk_at dksX2_masts_2 3 rfl rfl)
theorem dX2_masts_54 : decode cX2_masts 54 = .ok (.iconst 2, 1) := dk_5 (dk_at dksX2_masts_2 6 rfl rfl)
theorem dX2_masts_55 : decode cX2_masts 55 = .ok (.aload_n 0, 1) := dk_42 (dk_at dksX2_masts_2 7 rfl rfl)
theorem dX2_masts_56 : decode cX2_masts 56 = .ok (.getfield 251, 3) := dk_180 0 251 (dk_at dksX2_masts_2 8 rfl rfl)
theorem dX2_masts_59 : decode cX2_masts 59 = .ok (.imul, 1) := dk_104 (dk_at dksX2_masts_2 11 rfl rfl)
theorem dX2_masts_60 : decode cX2_masts 60 = .ok (.iload_n 1, 1) := dk_27 (dk_at dksX2_masts_2 12 rfl rfl)
theorem dX2_masts_61 : decode cX2_masts 61 = .ok (.if_icmp .lt 7, 3) := dk_161 0 7 (dk_at dksX2_masts_2 13 rfl rfl)
theorem dX2_masts_64 : decode cX2_masts 64 = .ok (.iconst 1, 1) := dk_4 (dk_at dksX2_masts_2 16 rfl rfl)
theorem dX2_masts_65 : decode cX2_masts 65 = .ok (.goto 4, 3) := dk_167 0 4 (dk_at dksX2_masts_2 17 rfl rfl)
theorem dX2_masts_68 : decode cX2_masts 68 = .ok (.iconst 0, 1) := dk_3 (dk_at dksX2_masts_2 20 rfl rfl)
theorem dX2_masts_69 : decode cX2_masts 69 = .ok (.iadd, 1) := dk_96 (dk_at dksX2_masts_2 21 rfl rfl)
theorem dX2_masts_70 : decode cX2_masts 70 = .ok (.istore_n 2, 1) := dk_61 (dk_at dksX2_masts_2 22 rfl rfl)
theorem dX2_masts_71 : decode cX2_masts 71 = .ok (.iinc 3 1, 3) := dk_132 3 1 (dk_at dksX2_masts_3 0 rfl rfl)
theorem dX2_masts_74 : decode cX2_masts 74 = .ok (.goto (-46), 3) := dk_167 255 210 (dk_at dksX2_masts_3 3 rfl rfl)
theorem dX2_masts_77 : decode cX2_masts 77 = .ok (.aload_n 0, 1) := dk_42 (dk_at dksX2_masts_3 6 rfl rfl)
theorem dX2_masts_78 : decode cX2_masts 78 = .ok (.invokevirtual 296, 3) := dk_182 1 40 (dk_at dksX2_masts_3 7 rfl rfl)
theorem dX2_masts_81 : decode cX2_masts 81 = .ok (.aload_n 0, 1) := dk_42 (dk_at dksX2_masts_3 10 rfl rfl)
theorem dX2_masts_82 : decode cX2_masts 82 = .ok (.iload_n 1, 1) := dk_27 (dk_at dksX2_masts_3 11 rfl rfl)
theorem dX2_masts_83 : decode cX2_masts 83 = .ok (.iload_n 2, 1) := dk_28 (dk_at dksX2_masts_3 12 rfl rfl)
theorem dX2_masts_84 : decode cX2_masts 84 = .ok (.invokevirtual 126, 3) := dk_182 0 126 (dk_at dksX2_masts_3 13 rfl rfl)
theorem dX2_masts_87 : decode cX2_masts 87 = .ok (.ireturn, 1) := dk_172 (dk_at dksX2_masts_3 16 rfl rfl)
abbrev cX2_laySums : ByteArray := prog_12_method_78_code
def yX2_laySums : MethodName := ⟨RX2, "laySums", "(II)Z"⟩
def dkwX2_laySums_11 : List UInt8 := [167, 0, 4, 3, 96, 181, 1, 77, 132, 3, 1, 167, 255, 49, 42, 182, 1, 40, 4, 172]
abbrev dktX2_laySums_11 : List UInt8 := dkwX2_laySums_11 ++ []
def dkwX2_laySums_10 : List UInt8 := [181, 1, 74, 42, 89, 180, 1, 77, 28, 155, 0, 16, 42, 180, 0, 80, 28, 51, 153, 0, 7, 4]
abbrev dktX2_laySums_10 : List UInt8 := dkwX2_laySums_10 ++ dktX2_laySums_11
def dkwX2_laySums_9 : List UInt8 := [181, 1, 71, 42, 89, 180, 1, 74, 27, 156, 0, 7, 9, 167, 0, 9, 42, 27, 182, 1, 80, 133, 97]
abbrev dktX2_laySums_9 : List UInt8 := dkwX2_laySums_9 ++ dktX2_laySums_10
def dkwX2_laySums_8 : List UInt8 := [181, 1, 68, 42, 89, 180, 1, 71, 27, 156, 0, 7, 9, 167, 0, 10, 42, 180, 0, 77, 27, 46, 133, 97]
abbrev dktX2_laySums_8 : List UInt8 := dkwX2_laySums_8 ++ dktX2_laySums_9
def dkwX2_laySums_7 : List UInt8 := [181, 1, 65, 42, 89, 180, 1, 68, 42, 180, 0, 245, 133, 42, 180, 0, 245, 4, 100, 133, 105, 97]
abbrev dktX2_laySums_7 : List UInt8 := dkwX2_laySums_7 ++ dktX2_laySums_8
def dkwX2_laySums_6 : List UInt8 := [181, 1, 62, 42, 89, 180, 1, 65, 42, 180, 0, 245, 133, 42, 180, 0, 203, 4, 100, 133, 105, 97]
abbrev dktX2_laySums_6 : List UInt8 := dkwX2_laySums_6 ++ dktX2_laySums_7
def dkwX2_laySums_5 : List UInt8 := [180, 1, 59, 42, 180, 1, 10, 133, 97, 181, 1, 59, 42, 89, 180, 1, 62, 42, 180, 0, 245, 133, 97]
abbrev dktX2_laySums_5 : List UInt8 := dkwX2_laySums_5 ++ dktX2_laySums_6
def dkwX2_laySums_4 : List UInt8 := [180, 1, 56, 164, 0, 10, 42, 180, 0, 251, 167, 0, 7, 42, 180, 1, 56, 181, 1, 56, 42, 89]
abbrev dktX2_laySums_4 : List UInt8 := dkwX2_laySums_4 ++ dktX2_laySums_5
def dkwX2_laySums_3 : List UInt8 := [3, 182, 1, 13, 42, 89, 180, 1, 53, 42, 180, 0, 251, 133, 97, 181, 1, 53, 42, 42, 180, 0, 251, 42]
abbrev dktX2_laySums_3 : List UInt8 := dkwX2_laySums_3 ++ dktX2_laySums_4
def dkwX2_laySums_2 : List UInt8 := [181, 1, 74, 42, 3, 181, 1, 77, 3, 62, 29, 42, 180, 1, 46, 162, 0, 205, 42, 42, 182, 1, 17, 3]
abbrev dktX2_laySums_2 : List UInt8 := dkwX2_laySums_2 ++ dktX2_laySums_3
def dkwX2_laySums_1 : List UInt8 := [42, 9, 181, 1, 62, 42, 9, 181, 1, 65, 42, 9, 181, 1, 68, 42, 9, 181, 1, 71, 42, 9]
abbrev dktX2_laySums_1 : List UInt8 := dkwX2_laySums_1 ++ dktX2_laySums_2
def dkwX2_laySums_0 : List UInt8 := [42, 182, 1, 49, 154, 0, 5, 3, 172, 42, 9, 181, 1, 53, 42, 3, 181, 1, 56, 42, 9, 181, 1, 59]
abbrev dktX2_laySums_0 : List UInt8 := dkwX2_laySums_0 ++ dktX2_laySums_1
theorem dksX2_laySums_0 : cX2_laySums.data.toList.drop 0 = dktX2_laySums_0 := by decide +kernel
theorem dksX2_laySums_1 : cX2_laySums.data.toList.drop 24 = dktX2_laySums_1 := dk_seg dksX2_laySums_0 24 rfl rfl
theorem dksX2_laySums_2 : cX2_laySums.data.toList.drop 46 = dktX2_laySums_2 := dk_seg dksX2_laySums_1 22 rfl rfl
theorem dksX2_laySums_3 : cX2_laySums.data.toList.drop 70 = dktX2_laySums_3 := dk_seg dksX2_laySums_2 24 rfl rfl
theorem dksX2_laySums_4 : cX2_laySums.data.toList.drop 94 = dktX2_laySums_4 := dk_seg dksX2_laySums_3 24 rfl rfl
theorem dksX2_laySums_5 : cX2_laySums.data.toList.drop 116 = dktX2_laySums_5 := dk_seg dksX2_laySums_4 22 rfl rfl
theorem dksX2_laySums_6 : cX2_laySums.data.toList.drop 139 = dktX2_laySums_6 := dk_seg dksX2_laySums_5 23 rfl rfl
theorem dksX2_laySums_7 : cX2_laySums.data.toList.drop 161 = dktX2_laySums_7 := dk_seg dksX2_laySums_6 22 rfl rfl
theorem dksX2_laySums_8 : cX2_laySums.data.toList.drop 183 = dktX2_laySums_8 := dk_seg dksX2_laySums_7 22 rfl rfl
theorem dksX2_laySums_9 : cX2_laySums.data.toList.drop 207 = dktX2_laySums_9 := dk_seg dksX2_laySums_8 24 rfl rfl
theorem dksX2_laySums_10 : cX2_laySums.data.toList.drop 230 = dktX2_laySums_10 := dk_seg dksX2_laySums_9 23 rfl rfl
theorem dksX2_laySums_11 : cX2_laySums.data.toList.drop 252 = dktX2_laySums_11 := dk_seg dksX2_laySums_10 22 rfl rfl
theorem dX2_laySums_0 : decode cX2_laySums 0 = .ok (.aload_n 0, 1) := dk_42 (dk_at dksX2_laySums_0 0 rfl rfl)
theorem dX2_laySums_1 : decode cX2_laySums 1 = .ok (.invokevirtual 305, 3) := dk_182 1 49 (dk_at dksX2_laySums_0 1 rfl rfl)
theorem dX2_laySums_4 : decode cX2_laySums 4 = .ok (.ifCond .ne 5, 3) := dk_154 0 5 (dk_at dksX2_laySums_0 4 rfl rfl)
theorem dX2_laySums_7 : decode cX2_laySums 7 = .ok (.iconst 0, 1) := dk_3 (dk_at dksX2_laySums_0 7 rfl rfl)
theorem dX2_laySums_8 : decode cX2_laySums 8 = .ok (.ireturn, 1) := dk_172 (dk_at dksX2_laySums_0 8 rfl rfl)
theorem dX2_laySums_9 : decode cX2_laySums 9 = .ok (.aload_n 0, 1) := dk_42 (dk_at dksX2_laySums_0 9 rfl rfl)
theorem dX2_laySums_10 : decode cX2_laySums 10 = .ok (.lconst 0, 1) := dk_9 (dk_at dksX2_laySums_0 10 rfl rfl)
theorem dX2_laySums_11 : decode cX2_laySums 11 = .ok (.putfield 309, 3) := dk_181 1 53 (dk_at dksX2_laySums_0 11 rfl rfl)
theorem dX2_laySums_14 : decode cX2_laySums 14 = .ok (.aload_n 0, 1) := dk_42 (dk_at dksX2_laySums_0 14 rfl rfl)
theorem dX2_laySums_15 : decode cX2_laySums 15 = .ok (.iconst 0, 1) := dk_3 (dk_at dksX2_laySums_0 15 rfl rfl)
theorem dX2_laySums_16 : decode cX2_laySums 16 = .ok (.putfield 312, 3) := dk_181 1 56 (dk_at dksX2_laySums_0 16 rfl rfl)
theorem dX2_laySums_19 : decode cX2_laySums 19 = .ok (.aload_n 0, 1) := dk_42 (dk_at dksX2_laySums_0 19 rfl rfl)
theorem dX2_laySums_20 : decode cX2_laySums 20 = .ok (.lconst 0, 1) := dk_9 (dk_at dksX2_laySums_0 20 rfl rfl)
theorem dX2_laySums_21 : decode cX2_laySums 21 = .ok (.putfield 315, 3) := dk_181 1 59 (dk_at dksX2_laySums_0 21 rfl rfl)
theorem dX2_laySums_24 : decode cX2_laySums 24 = .ok (.aload_n 0, 1) := dk_42 (dk_at dksX2_laySums_1 0 rfl rfl)
theorem dX2_laySums_25 : decode cX2_laySums 25 = .ok (.lconst 0, 1) := dk_9 (dk_at dksX2_laySums_1 1 rfl rfl)
theorem dX2_laySums_26 : decode cX2_laySums 26 = .ok (.putfield 318, 3) := dk_181 1 62 (dk_at dksX2_laySums_1 2 rfl rfl)
theorem dX2_laySums_29 : decode cX2_laySums 29 = .ok (.aload_n 0, 1) := dk_42 (dk_at dksX2_laySums_1 5 rfl rfl)
theorem dX2_laySums_30 : decode cX2_laySums 30 = .ok (.lconst 0, 1) := dk_9 (dk_at dksX2_laySums_1 6 rfl rfl)
theorem dX2_laySums_31 : decode cX2_laySums 31 = .ok (.putfield 321, 3) := dk_181 1 65 (dk_at dksX2_laySums_1 7 rfl rfl)
theorem dX2_laySums_34 : decode cX2_laySums 34 = .ok (.aload_n 0, 1) := dk_42 (dk_at dksX2_laySums_1 10 rfl rfl)
theorem dX2_laySums_35 : decode cX2_laySums 35 = .ok (.lconst 0, 1) := dk_9 (dk_at dksX2_laySums_1 11 rfl rfl)
theorem dX2_laySums_36 : decode cX2_laySums 36 = .ok (.putfield 324, 3) := dk_181 1 68 (dk_at dksX2_laySums_1 12 rfl rfl)
theorem dX2_laySums_39 : decode cX2_laySums 39 = .ok (.aload_n 0, 1) := dk_42 (dk_at dksX2_laySums_1 15 rfl rfl)
theorem dX2_laySums_40 : decode cX2_laySums 40 = .ok (.lconst 0, 1) := dk_9 (dk_at dksX2_laySums_1 16 rfl rfl)
theorem dX2_laySums_41 : decode cX2_laySums 41 = .ok (.putfield 327, 3) := dk_181 1 71 (dk_at dksX2_laySums_1 17 rfl rfl)
theorem dX2_laySums_44 : decode cX2_laySums 44 = .ok (.aload_n 0, 1) := dk_42 (dk_at dksX2_laySums_1 20 rfl rfl)
theorem dX2_laySums_45 : decode cX2_laySums 45 = .ok (.lconst 0, 1) := dk_9 (dk_at dksX2_laySums_1 21 rfl rfl)
theorem dX2_laySums_46 : decode cX2_laySums 46 = .ok (.putfield 330, 3) := dk_181 1 74 (dk_at dksX2_laySums_2 0 rfl rfl)
theorem dX2_laySums_49 : decode cX2_laySums 49 = .ok (.aload_n 0, 1) := dk_42 (dk_at dksX2_laySums_2 3 rfl rfl)
theorem dX2_laySums_50 : decode cX2_laySums 50 = .ok (.iconst 0, 1) := dk_3 (dk_at dksX2_laySums_2 4 rfl rfl)
theorem dX2_laySums_51 : decode cX2_laySums 51 = .ok (.putfield 333, 3) := dk_181 1 77 (dk_at dksX2_laySums_2 5 rfl rfl)
theorem dX2_laySums_54 : decode cX2_laySums 54 = .ok (.iconst 0, 1) := dk_3 (dk_at dksX2_laySums_2 8 rfl rfl)
theorem dX2_laySums_55 : decode cX2_laySums 55 = .ok (.istore_n 3, 1) := dk_62 (dk_at dksX2_laySums_2 9 rfl rfl)
theorem dX2_laySums_56 : decode cX2_laySums 56 = .ok (.iload_n 3, 1) := dk_29 (dk_at dksX2_laySums_2 10 rfl rfl)
theorem dX2_laySums_57 : decode cX2_laySums 57 = .ok (.aload_n 0, 1) := dk_42 (dk_at dksX2_laySums_2 11 rfl rfl)
theorem dX2_laySums_58 : decode cX2_laySums 58 = .ok (.getfield 302, 3) := dk_180 1 46 (dk_at dksX2_laySums_2 12 rfl rfl)
theorem dX2_laySums_61 : decode cX2_laySums 61 = .ok (.if_icmp .ge 205, 3) := dk_162 0 205 (dk_at dksX2_laySums_2 15 rfl rfl)
theorem dX2_laySums_64 : decode cX2_laySums 64 = .ok (.aload_n 0, 1) := dk_42 (dk_at dksX2_laySums_2 18 rfl rfl)
theorem dX2_laySums_65 : decode cX2_laySums 65 = .ok (.aload_n 0, 1) := dk_42 (dk_at dksX2_laySums_2 19 rfl rfl)
theorem dX2_laySums_66 : decode cX2_laySums 66 = .ok (.invokevirtual 273, 3) := dk_182 1 17 (dk_at dksX2_laySums_2 20 rfl rfl)
theorem dX2_laySums_69 : decode cX2_laySums 69 = .ok (.iconst 0, 1) := dk_3 (dk_at dksX2_laySums_2 23 rfl rfl)
theorem dX2_laySums_70 : decode cX2_laySums 70 = .ok (.iconst 0, 1) := dk_3 (dk_at dksX2_laySums_3 0 rfl rfl)
theorem dX2_laySums_71 : decode cX2_laySums 71 = .ok (.invokevirtual 269, 3) := dk_182 1 13 (dk_at dksX2_laySums_3 1 rfl rfl)
theorem dX2_laySums_74 : decode cX2_laySums 74 = .ok (.aload_n 0, 1) := dk_42 (dk_at dksX2_laySums_3 4 rfl rfl)
theorem dX2_laySums_75 : decode cX2_laySums 75 = .ok (.dup, 1) := dk_89 (dk_at dksX2_laySums_3 5 rfl rfl)
theorem dX2_laySums_76 : decode cX2_laySums 76 = .ok (.getfield 309, 3) := dk_180 1 53 (dk_at dksX2_laySums_3 6 rfl rfl)
theorem dX2_laySums_79 : decode cX2_laySums 79 = .ok (.aload_n 0, 1) := dk_42 (dk_at dksX2_laySums_3 9 rfl rfl)
theorem dX2_laySums_80 : decode cX2_laySums 80 = .ok (.getfield 251, 3) := dk_180 0 251 (dk_at dksX2_laySums_3 10 rfl rfl)
theorem dX2_laySums_83 : decode cX2_laySums 83 = .ok (.i2l, 1) := dk_133 (dk_at dksX2_laySums_3 13 rfl rfl)
theorem dX2_laySums_84 : decode cX2_laySums 84 = .ok (.ladd, 1) := dk_97 (dk_at dksX2_laySums_3 14 rfl rfl)
theorem dX2_laySums_85 : decode cX2_laySums 85 = .ok (.putfield 309, 3) := dk_181 1 53 (dk_at dksX2_laySums_3 15 rfl rfl)
theorem dX2_laySums_88 : decode cX2_laySums 88 = .ok (.aload_n 0, 1) := dk_42 (dk_at dksX2_laySums_3 18 rfl rfl)
theorem dX2_laySums_89 : decode cX2_laySums 89 = .ok (.aload_n 0, 1) := dk_42 (dk_at dksX2_laySums_3 19 rfl rfl)
theorem dX2_laySums_90 : decode cX2_laySums 90 = .ok (.getfield 251, 3) := dk_180 0 251 (dk_at dksX2_laySums_3 20 rfl rfl)
theorem dX2_laySums_93 : decode cX2_laySums 93 = .ok (.aload_n 0, 1) := dk_42 (dk_at dksX2_laySums_3 23 rfl rfl)
theorem dX2_laySums_94 : decode cX2_laySums 94 = .ok (.getfield 312, 3) := dk_180 1 56 (dk_at dksX2_laySums_4 0 rfl rfl)
theorem dX2_laySums_97 : decode cX2_laySums 97 = .ok (.if_icmp .le 10, 3) := dk_164 0 10 (dk_at dksX2_laySums_4 3 rfl rfl)
theorem dX2_laySums_100 : decode cX2_laySums 100 = .ok (.aload_n 0, 1) := dk_42 (dk_at dksX2_laySums_4 6 rfl rfl)
theorem dX2_laySums_101 : decode cX2_laySums 101 = .ok (.getfield 251, 3) := dk_180 0 251 (dk_at dksX2_laySums_4 7 rfl rfl)
theorem dX2_laySums_104 : decode cX2_laySums 104 = .ok (.goto 7, 3) := dk_167 0 7 (dk_at dksX2_laySums_4 10 rfl rfl)
theorem dX2_laySums_107 : decode cX2_laySums 107 = .ok (.aload_n 0, 1) := dk_42 (dk_at dksX2_laySums_4 13 rfl rfl)
theorem dX2_laySums_108 : decode cX2_laySums 108 = .ok (.getfield 312, 3) := dk_180 1 56 (dk_at dksX2_laySums_4 14 rfl rfl)
theorem dX2_laySums_111 : decode cX2_laySums 111 = .ok (.putfield 312, 3) := dk_181 1 56 (dk_at dksX2_laySums_4 17 rfl rfl)
theorem dX2_laySums_114 : decode cX2_laySums 114 = .ok (.aload_n 0, 1) := dk_42 (dk_at dksX2_laySums_4 20 rfl rfl)
theorem dX2_laySums_115 : decode cX2_laySums 115 = .ok (.dup, 1) := dk_89 (dk_at dksX2_laySums_4 21 rfl rfl)
theorem dX2_laySums_116 : decode cX2_laySums 116 = .ok (.getfield 315, 3) := dk_180 1 59 (dk_at dksX2_laySums_5 0 rfl rfl)
theorem dX2_laySums_119 : decode cX2_laySums 119 = .ok (.aload_n 0, 1) := dk_42 (dk_at dksX2_laySums_5 3 rfl rfl)
theorem dX2_laySums_120 : decode cX2_laySums 120 = .ok (.getfield 266, 3) := dk_180 1 10 (dk_at dksX2_laySums_5 4 rfl rfl)
theorem dX2_laySums_123 : decode cX2_laySums 123 = .ok (.i2l, 1) := dk_133 (dk_at dksX2_laySums_5 7 rfl rfl)
theorem dX2_laySums_124 : decode cX2_laySums 124 = .ok (.ladd, 1) := dk_97 (dk_at dksX2_laySums_5 8 rfl rfl)
theorem dX2_laySums_125 : decode cX2_laySums 125 = .ok (.putfield 315, 3) := dk_181 1 59 (dk_at dksX2_laySums_5 9 rfl rfl)
theorem dX2_laySums_128 : decode cX2_laySums 128 = .ok (.aload_n 0, 1) := dk_42 (dk_at dksX2_laySums_5 12 rfl rfl)
theorem dX2_laySums_129 : decode cX2_laySums 129 = .ok (.dup, 1) := dk_89 (dk_at dksX2_laySums_5 13 rfl rfl)
theorem dX2_laySums_130 : decode cX2_laySums 130 = .ok (.getfield 318, 3) := dk_180 1 62 (dk_at dksX2_laySums_5 14 rfl rfl)
theorem dX2_laySums_133 : decode cX2_laySums 133 = .ok (.aload_n 0, 1) := dk_42 (dk_at dksX2_laySums_5 17 rfl rfl)
theorem dX2_laySums_134 : decode cX2_laySums 134 = .ok (.getfield 245, 3) := dk_180 0 245 (dk_at dksX2_laySums_5 18 rfl rfl)
theorem dX2_laySums_137 : decode cX2_laySums 137 = .ok (.i2l, 1) := dk_133 (dk_at dksX2_laySums_5 21 rfl rfl)
theorem dX2_laySums_138 : decode cX2_laySums 138 = .ok (.ladd, 1) := dk_97 (dk_at dksX2_laySums_5 22 rfl rfl)
theorem dX2_laySums_139 : decode cX2_laySums 139 = .ok (.putfield 318, 3) := dk_181 1 62 (dk_at dksX2_laySums_6 0 rfl rfl)
theorem dX2_laySums_142 : decode cX2_laySums 142 = .ok (.aload_n 0, 1) := dk_42 (dk_at dksX2_laySums_6 3 rfl rfl)
theorem dX2_laySums_143 : decode cX2_laySums 143 = .ok (.dup, 1) := dk_89 (dk_at dksX2_laySums_6 4 rfl rfl)
theorem dX2_laySums_144 : decode cX2_laySums 144 = .ok (.getfield 321, 3) := dk_180 1 65 (dk_at dksX2_laySums_6 5 rfl rfl)
theorem dX2_laySums_147 : decode cX2_laySums 147 = .ok (.aload_n 0, 1) := dk_42 (dk_at dksX2_laySums_6 8 rfl rfl)
theorem dX2_laySums_148 : decode cX2_laySums 148 = .ok (.getfield 245, 3) := dk_180 0 245 (dk_at dksX2_laySums_6 9 rfl rfl)
theorem dX2_laySums_151 : decode cX2_laySums 151 = .ok (.i2l, 1) := dk_133 (dk_at dksX2_laySums_6 12 rfl rfl)
theorem dX2_laySums_152 : decode cX2_laySums 152 = .ok (.aload_n 0, 1) := dk_42 (dk_at dksX2_laySums_6 13 rfl rfl)
theorem dX2_laySums_153 : decode cX2_laySums 153 = .ok (.getfield 203, 3) := dk_180 0 203 (dk_at dksX2_laySums_6 14 rfl rfl)
theorem dX2_laySums_156 : decode cX2_laySums 156 = .ok (.iconst 1, 1) := dk_4 (dk_at dksX2_laySums_6 17 rfl rfl)
theorem dX2_laySums_157 : decode cX2_laySums 157 = .ok (.isub, 1) := dk_100 (dk_at dksX2_laySums_6 18 rfl rfl)
theorem dX2_laySums_158 : decode cX2_laySums 158 = .ok (.i2l, 1) := dk_133 (dk_at dksX2_laySums_6 19 rfl rfl)
theorem dX2_laySums_159 : decode cX2_laySums 159 = .ok (.lmul, 1) := dk_105 (dk_at dksX2_laySums_6 20 rfl rfl)
theorem dX2_laySums_160 : decode cX2_laySums 160 = .ok (.ladd, 1) := dk_97 (dk_at dksX2_laySums_6 21 rfl rfl)
theorem dX2_laySums_161 : decode cX2_laySums 161 = .ok (.putfield 321, 3) := dk_181 1 65 (dk_at dksX2_laySums_7 0 rfl rfl)
theorem dX2_laySums_164 : decode cX2_laySums 164 = .ok (.aload_n 0, 1) := dk_42 (dk_at dksX2_laySums_7 3 rfl rfl)
theorem dX2_laySums_165 : decode cX2_laySums 165 = .ok (.dup, 1) := dk_89 (dk_at dksX2_laySums_7 4 rfl rfl)
theorem dX2_laySums_166 : decode cX2_laySums 166 = .ok (.getfield 324, 3) := dk_180 1 68 (dk_at dksX2_laySums_7 5 rfl rfl)
theorem dX2_laySums_169 : decode cX2_laySums 169 = .ok (.aload_n 0, 1) := dk_42 (dk_at dksX2_laySums_7 8 rfl rfl)
theorem dX2_laySums_170 : decode cX2_laySums 170 = .ok (.getfield 245, 3) := dk_180 0 245 (dk_at dksX2_laySums_7 9 rfl rfl)
theorem dX2_laySums_173 : decode cX2_laySums 173 = .ok (.i2l, 1) := dk_133 (dk_at dksX2_laySums_7 12 rfl rfl)
theorem dX2_laySums_174 : decode cX2_laySums 174 = .ok (.aload_n 0, 1) := dk_42 (dk_at dksX2_laySums_7 13 rfl rfl)
theorem dX2_laySums_175 : decode cX2_laySums 175 = .ok (.getfield 245, 3) := dk_180 0 245 (dk_at dksX2_laySums_7 14 rfl rfl)
theorem dX2_laySums_178 : decode cX2_laySums 178 = .ok (.iconst 1, 1) := dk_4 (dk_at dksX2_laySums_7 17 rfl rfl)
theorem dX2_laySums_179 : decode cX2_laySums 179 = .ok (.isub, 1) := dk_100 (dk_at dksX2_laySums_7 18 rfl rfl)
theorem dX2_laySums_180 : decode cX2_laySums 180 = .ok (.i2l, 1) := dk_133 (dk_at dksX2_laySums_7 19 rfl rfl)
theorem dX2_laySums_181 : decode cX2_laySums 181 = .ok (.lmul, 1) := dk_105 (dk_at dksX2_laySums_7 20 rfl rfl)
theorem dX2_laySums_182 : decode cX2_laySums 182 = .ok (.ladd, 1) := dk_97 (dk_at dksX2_laySums_7 21 rfl rfl)
theorem dX2_laySums_183 : decode cX2_laySums 183 = .ok (.putfield 324, 3) := dk_181 1 68 (dk_at dksX2_laySums_8 0 rfl rfl)
theorem dX2_laySums_186 : decode cX2_laySums 186 = .ok (.aload_n 0, 1) := dk_42 (dk_at dksX2_laySums_8 3 rfl rfl)
theorem dX2_laySums_187 : decode cX2_laySums 187 = .ok (.dup, 1) := dk_89 (dk_at dksX2_laySums_8 4 rfl rfl)
theorem dX2_laySums_188 : decode cX2_laySums 188 = .ok (.getfield 327, 3) := dk_180 1 71 (dk_at dksX2_laySums_8 5 rfl rfl)
theorem dX2_laySums_191 : decode cX2_laySums 191 = .ok (.iload_n 1, 1) := dk_27 (dk_at dksX2_laySums_8 8 rfl rfl)
theorem dX2_laySums_192 : decode cX2_laySums 192 = .ok (.ifCond .ge 7, 3) := dk_156 0 7 (dk_at dksX2_laySums_8 9 rfl rfl)
theorem dX2_laySums_195 : decode cX2_laySums 195 = .ok (.lconst 0, 1) := dk_9 (dk_at dksX2_laySums_8 12 rfl rfl)
theorem dX2_laySums_196 : decode cX2_laySums 196 = .ok (.goto 10, 3) := dk_167 0 10 (dk_at dksX2_laySums_8 13 rfl rfl)
theorem dX2_laySums_199 : decode cX2_laySums 199 = .ok (.aload_n 0, 1) := dk_42 (dk_at dksX2_laySums_8 16 rfl rfl)
theorem dX2_laySums_200 : decode cX2_laySums 200 = .ok (.getfield 77, 3) := dk_180 0 77 (dk_at dksX2_laySums_8 17 rfl rfl)
theorem dX2_laySums_203 : decode cX2_laySums 203 = .ok (.iload_n 1, 1) := dk_27 (dk_at dksX2_laySums_8 20 rfl rfl)
theorem dX2_laySums_204 : decode cX2_laySums 204 = .ok (.iaload, 1) := dk_46 (dk_at dksX2_laySums_8 21 rfl rfl)
theorem dX2_laySums_205 : decode cX2_laySums 205 = .ok (.i2l, 1) := dk_133 (dk_at dksX2_laySums_8 22 rfl rfl)
theorem dX2_laySums_206 : decode cX2_laySums 206 = .ok (.ladd, 1) := dk_97 (dk_at dksX2_laySums_8 23 rfl rfl)
theorem dX2_laySums_207 : decode cX2_laySums 207 = .ok (.putfield 327, 3) := dk_181 1 71 (dk_at dksX2_laySums_9 0 rfl rfl)
theorem dX2_laySums_210 : decode cX2_laySums 210 = .ok (.aload_n 0, 1) := dk_42 (dk_at dksX2_laySums_9 3 rfl rfl)
theorem dX2_laySums_211 : decode cX2_laySums 211 = .ok (.dup, 1) := dk_89 (dk_at dksX2_laySums_9 4 rfl rfl)
theorem dX2_laySums_212 : decode cX2_laySums 212 = .ok (.getfield 330, 3) := dk_180 1 74 (dk_at dksX2_laySums_9 5 rfl rfl)
theorem dX2_laySums_215 : decode cX2_laySums 215 = .ok (.iload_n 1, 1) := dk_27 (dk_at dksX2_laySums_9 8 rfl rfl)
theorem dX2_laySums_216 : decode cX2_laySums 216 = .ok (.ifCond .ge 7, 3) := dk_156 0 7 (dk_at dksX2_laySums_9 9 rfl rfl)
theorem dX2_laySums_219 : decode cX2_laySums 219 = .ok (.lconst 0, 1) := dk_9 (dk_at dksX2_laySums_9 12 rfl rfl)
theorem dX2_laySums_220 : decode cX2_laySums 220 = .ok (.goto 9, 3) := dk_167 0 9 (dk_at dksX2_laySums_9 13 rfl rfl)
theorem dX2_laySums_223 : decode cX2_laySums 223 = .ok (.aload_n 0, 1) := dk_42 (dk_at dksX2_laySums_9 16 rfl rfl)
theorem dX2_laySums_224 : decode cX2_laySums 224 = .ok (.iload_n 1, 1) := dk_27 (dk_at dksX2_laySums_9 17 rfl rfl)
theorem dX2_laySums_225 : decode cX2_laySums 225 = .ok (.invokevirtual 336, 3) := dk_182 1 80 (dk_at dksX2_laySums_9 18 rfl rfl)
theorem dX2_laySums_228 : decode cX2_laySums 228 = .ok (.i2l, 1) := dk_133 (dk_at dksX2_laySums_9 21 rfl rfl)
theorem dX2_laySums_229 : decode cX2_laySums 229 = .ok (.ladd, 1) := dk_97 (dk_at dksX2_laySums_9 22 rfl rfl)
theorem dX2_laySums_230 : decode cX2_laySums 230 = .ok (.putfield 330, 3) := dk_181 1 74 (dk_at dksX2_laySums_10 0 rfl rfl)
theorem dX2_laySums_233 : decode cX2_laySums 233 = .ok (.aload_n 0, 1) := dk_42 (dk_at dksX2_laySums_10 3 rfl rfl)
theorem dX2_laySums_234 : decode cX2_laySums 234 = .ok (.dup, 1) := dk_89 (dk_at dksX2_laySums_10 4 rfl rfl)
theorem dX2_laySums_235 : decode cX2_laySums 235 = .ok (.getfield 333, 3) := dk_180 1 77 (dk_at dksX2_laySums_10 5 rfl rfl)
theorem dX2_laySums_238 : decode cX2_laySums 238 = .ok (.iload_n 2, 1) := dk_28 (dk_at dksX2_laySums_10 8 rfl rfl)
theorem dX2_laySums_239 : decode cX2_laySums 239 = .ok (.ifCond .lt 16, 3) := dk_155 0 16 (dk_at dksX2_laySums_10 9 rfl rfl)
theorem dX2_laySums_242 : decode cX2_laySums 242 = .ok (.aload_n 0, 1) := dk_42 (dk_at dksX2_laySums_10 12 rfl rfl)
theorem dX2_laySums_243 : decode cX2_laySums 243 = .ok (.getfield 80, 3) := dk_180 0 80 (dk_at dksX2_laySums_10 13 rfl rfl)
theorem dX2_laySums_246 : decode cX2_laySums 246 = .ok (.iload_n 2, 1) := dk_28 (dk_at dksX2_laySums_10 16 rfl rfl)
theorem dX2_laySums_247 : decode cX2_laySums 247 = .ok (.baload, 1) := dk_51 (dk_at dksX2_laySums_10 17 rfl rfl)
theorem dX2_laySums_248 : decode cX2_laySums 248 = .ok (.ifCond .eq 7, 3) := dk_153 0 7 (dk_at dksX2_laySums_10 18 rfl rfl)
theorem dX2_laySums_251 : decode cX2_laySums 251 = .ok (.iconst 1, 1) := dk_4 (dk_at dksX2_laySums_10 21 rfl rfl)
theorem dX2_laySums_252 : decode cX2_laySums 252 = .ok (.goto 4, 3) := dk_167 0 4 (dk_at dksX2_laySums_11 0 rfl rfl)
theorem dX2_laySums_255 : decode cX2_laySums 255 = .ok (.iconst 0, 1) := dk_3 (dk_at dksX2_laySums_11 3 rfl rfl)
theorem dX2_laySums_256 : decode cX2_laySums 256 = .ok (.iadd, 1) := dk_96 (dk_at dksX2_laySums_11 4 rfl rfl)
theorem dX2_laySums_257 : decode cX2_laySums 257 = .ok (.putfield 333, 3) := dk_181 1 77 (dk_at dksX2_laySums_11 5 rfl rfl)
theorem dX2_laySums_260 : decode cX2_laySums 260 = .ok (.iinc 3 1, 3) := dk_132 3 1 (dk_at dksX2_laySums_11 8 rfl rfl)
theorem dX2_laySums_263 : decode cX2_laySums 263 = .ok (.goto (-207), 3) := dk_167 255 49 (dk_at dksX2_laySums_11 11 rfl rfl)
theorem dX2_laySums_266 : decode cX2_laySums 266 = .ok (.aload_n 0, 1) := dk_42 (dk_at dksX2_laySums_11 14 rfl rfl)
theorem dX2_laySums_267 : decode cX2_laySums 267 = .ok (.invokevirtual 296, 3) := dk_182 1 40 (dk_at dksX2_laySums_11 15 rfl rfl)
theorem dX2_laySums_270 : decode cX2_laySums 270 = .ok (.iconst 1, 1) := dk_4 (dk_at dksX2_laySums_11 18 rfl rfl)
theorem dX2_laySums_271 : decode cX2_laySums 271 = .ok (.ireturn, 1) := dk_172 (dk_at dksX2_laySums_11 19 rfl rfl)
abbrev cX2_gainOf : ByteArray := prog_12_method_63_code
def yX2_gainOf : MethodName := ⟨RX2, "gainOf", "(I)I"⟩
def dkwX2_gainOf_1 : List UInt8 := [180, 0, 251, 108, 172]
abbrev dktX2_gainOf_1 : List UInt8 := dkwX2_gainOf_1 ++ []
def dkwX2_gainOf_0 : List UInt8 := [42, 180, 0, 251, 154, 0, 7, 3, 167, 0, 19, 42, 180, 1, 10, 42, 180, 0, 77, 27, 46, 104, 42]
abbrev dktX2_gainOf_0 : List UInt8 := dkwX2_gainOf_0 ++ dktX2_gainOf_1
theorem dksX2_gainOf_0 : cX2_gainOf.data.toList.drop 0 = dktX2_gainOf_0 := by decide +kernel
theorem dksX2_gainOf_1 : cX2_gainOf.data.toList.drop 23 = dktX2_gainOf_1 := dk_seg dksX2_gainOf_0 23 rfl rfl
theorem dX2_gainOf_0 : decode cX2_gainOf 0 = .ok (.aload_n 0, 1) := dk_42 (dk_at dksX2_gainOf_0 0 rfl rfl)
theorem dX2_gainOf_1 : decode cX2_gainOf 1 = .ok (.getfield 251, 3) := dk_180 0 251 (dk_at dksX2_gainOf_0 1 rfl rfl)
theorem dX2_gainOf_4 : decode cX2_gainOf 4 = .ok (.ifCond .ne 7, 3) := dk_154 0 7 (dk_at dksX2_gainOf_0 4 rfl rfl)
theorem dX2_gainOf_7 : decode cX2_gainOf 7 = .ok (.iconst 0, 1) := dk_3 (dk_at dksX2_gainOf_0 7 rfl rfl)
theorem dX2_gainOf_8 : decode cX2_gainOf 8 = .ok (.goto 19, 3) := dk_167 0 19 (dk_at dksX2_gainOf_0 8 rfl rfl)
theorem dX2_gainOf_11 : decode cX2_gainOf 11 = .ok (.aload_n 0, 1) := dk_42 (dk_at dksX2_gainOf_0 11 rfl rfl)
theorem dX2_gainOf_12 : decode cX2_gainOf 12 = .ok (.getfield 266, 3) := dk_180 1 10 (dk_at dksX2_gainOf_0 12 rfl rfl)
theorem dX2_gainOf_15 : decode cX2_gainOf 15 = .ok (.aload_n 0, 1) := dk_42 (dk_at dksX2_gainOf_0 15 rfl rfl)
theorem dX2_gainOf_16 : decode cX2_gainOf 16 = .ok (.getfield 77, 3) := dk_180 0 77 (dk_at dksX2_gainOf_0 16 rfl rfl)
theorem dX2_gainOf_19 : decode cX2_gainOf 19 = .ok (.iload_n 1, 1) := dk_27 (dk_at dksX2_gainOf_0 19 rfl rfl)
theorem dX2_gainOf_20 : decode cX2_gainOf 20 = .ok (.iaload, 1) := dk_46 (dk_at dksX2_gainOf_0 20 rfl rfl)
theorem dX2_gainOf_21 : decode cX2_gainOf 21 = .ok (.imul, 1) := dk_104 (dk_at dksX2_gainOf_0 21 rfl rfl)
theorem dX2_gainOf_22 : decode cX2_gainOf 22 = .ok (.aload_n 0, 1) := dk_42 (dk_at dksX2_gainOf_0 22 rfl rfl)
theorem dX2_gainOf_23 : decode cX2_gainOf 23 = .ok (.getfield 251, 3) := dk_180 0 251 (dk_at dksX2_gainOf_1 0 rfl rfl)
theorem dX2_gainOf_26 : decode cX2_gainOf 26 = .ok (.idiv, 1) := dk_108 (dk_at dksX2_gainOf_1 3 rfl rfl)
theorem dX2_gainOf_27 : decode cX2_gainOf 27 = .ok (.ireturn, 1) := dk_172 (dk_at dksX2_gainOf_1 4 rfl rfl)
abbrev cX2_together : ByteArray := prog_12_method_80_code
def yX2_together : MethodName := ⟨RX2, "together", "()I"⟩
def dkwX2_together_2 : List UInt8 := [172]
abbrev dktX2_together_2 : List UInt8 := dkwX2_together_2 ++ []
def dkwX2_together_1 : List UInt8 := [7, 182, 0, 118, 167, 0, 20, 42, 42, 180, 1, 68, 42, 180, 1, 65, 42, 180, 1, 62, 136, 182, 1, 86]
abbrev dktX2_together_1 : List UInt8 := dkwX2_together_1 ++ dktX2_together_2
def dkwX2_together_0 : List UInt8 := [42, 16, 247, 16, 247, 182, 1, 83, 154, 0, 6, 16, 250, 172, 42, 180, 1, 65, 9, 148, 154, 0, 11, 42]
abbrev dktX2_together_0 : List UInt8 := dkwX2_together_0 ++ dktX2_together_1
theorem dksX2_together_0 : cX2_together.data.toList.drop 0 = dktX2_together_0 := by decide +kernel
theorem dksX2_together_1 : cX2_together.data.toList.drop 24 = dktX2_together_1 := dk_seg dksX2_together_0 24 rfl rfl
theorem dksX2_together_2 : cX2_together.data.toList.drop 48 = dktX2_together_2 := dk_seg dksX2_together_1 24 rfl rfl
theorem dX2_together_0 : decode cX2_together 0 = .ok (.aload_n 0, 1) := dk_42 (dk_at dksX2_together_0 0 rfl rfl)
theorem dX2_together_1 : decode cX2_together 1 = .ok (.bipush (-9), 2) := dk_16 247 (dk_at dksX2_together_0 1 rfl rfl)
theorem dX2_together_3 : decode cX2_together 3 = .ok (.bipush (-9), 2) := dk_16 247 (dk_at dksX2_together_0 3 rfl rfl)
theorem dX2_together_5 : decode cX2_together 5 = .ok (.invokevirtual 339, 3) := dk_182 1 83 (dk_at dksX2_together_0 5 rfl rfl)
theorem dX2_together_8 : decode cX2_together 8 = .ok (.ifCond .ne 6, 3) := dk_154 0 6 (dk_at dksX2_together_0 8 rfl rfl)
theorem dX2_together_11 : decode cX2_together 11 = .ok (.bipush (-6), 2) := dk_16 250 (dk_at dksX2_together_0 11 rfl rfl)
theorem dX2_together_13 : decode cX2_together 13 = .ok (.ireturn, 1) := dk_172 (dk_at dksX2_together_0 13 rfl rfl)
theorem dX2_together_14 : decode cX2_together 14 = .ok (.aload_n 0, 1) := dk_42 (dk_at dksX2_together_0 14 rfl rfl)
theorem dX2_together_15 : decode cX2_together 15 = .ok (.getfield 321, 3) := dk_180 1 65 (dk_at dksX2_together_0 15 rfl rfl)
theorem dX2_together_18 : decode cX2_together 18 = .ok (.lconst 0, 1) := dk_9 (dk_at dksX2_together_0 18 rfl rfl)
theorem dX2_together_19 : decode cX2_together 19 = .ok (.lcmp, 1) := dk_148 (dk_at dksX2_together_0 19 rfl rfl)
theorem dX2_together_20 : decode cX2_together 20 = .ok (.ifCond .ne 11, 3) := dk_154 0 11 (dk_at dksX2_together_0 20 rfl rfl)
theorem dX2_together_23 : decode cX2_together 23 = .ok (.aload_n 0, 1) := dk_42 (dk_at dksX2_together_0 23 rfl rfl)
theorem dX2_together_24 : decode cX2_together 24 = .ok (.iconst 4, 1) := dk_7 (dk_at dksX2_together_1 0 rfl rfl)
theorem dX2_together_25 : decode cX2_together 25 = .ok (.invokevirtual 118, 3) := dk_182 0 118 (dk_at dksX2_together_1 1 rfl rfl)
theorem dX2_together_28 : decode cX2_together 28 = .ok (.goto 20, 3) := dk_167 0 20 (dk_at dksX2_together_1 4 rfl rfl)
theorem dX2_together_31 : decode cX2_together 31 = .ok (.aload_n 0, 1) := dk_42 (dk_at dksX2_together_1 7 rfl rfl)
theorem dX2_together_32 : decode cX2_together 32 = .ok (.aload_n 0, 1) := dk_42 (dk_at dksX2_together_1 8 rfl rfl)
theorem dX2_together_33 : decode cX2_together 33 = .ok (.getfield 324, 3) := dk_180 1 68 (dk_at dksX2_together_1 9 rfl rfl)
theorem dX2_together_36 : decode cX2_together 36 = .ok (.aload_n 0, 1) := dk_42 (dk_at dksX2_together_1 12 rfl rfl)
theorem dX2_together_37 : decode cX2_together 37 = .ok (.getfield 321, 3) := dk_180 1 65 (dk_at dksX2_together_1 13 rfl rfl)
theorem dX2_together_40 : decode cX2_together 40 = .ok (.aload_n 0, 1) := dk_42 (dk_at dksX2_together_1 16 rfl rfl)
theorem dX2_together_41 : decode cX2_together 41 = .ok (.getfield 318, 3) := dk_180 1 62 (dk_at dksX2_together_1 17 rfl rfl)
theorem dX2_together_44 : decode cX2_together 44 = .ok (.l2i, 1) := dk_136 (dk_at dksX2_together_1 20 rfl rfl)
theorem dX2_together_45 : decode cX2_together 45 = .ok (.invokevirtual 342, 3) := dk_182 1 86 (dk_at dksX2_together_1 21 rfl rfl)
theorem dX2_together_48 : decode cX2_together 48 = .ok (.ireturn, 1) := dk_172 (dk_at dksX2_together_2 0 rfl rfl)
abbrev cX2_fraction : ByteArray := prog_12_method_10_code
def yX2_fraction : MethodName := ⟨RX2, "fraction", "(JJI)I"⟩
def dkwX2_fraction_2 : List UInt8 := [21, 5, 172]
abbrev dktX2_fraction_2 : List UInt8 := dkwX2_fraction_2 ++ []
def dkwX2_fraction_1 : List UInt8 := [22, 10, 55, 8, 167, 255, 234, 42, 31, 22, 6, 109, 181, 0, 111, 42, 33, 22, 6, 109, 181, 0, 93]
abbrev dktX2_fraction_1 : List UInt8 := dkwX2_fraction_1 ++ dktX2_fraction_2
def dkwX2_fraction_0 : List UInt8 := [31, 55, 6, 33, 55, 8, 22, 8, 9, 148, 153, 0, 21, 22, 6, 22, 8, 113, 55, 10, 22, 8, 55, 6]
abbrev dktX2_fraction_0 : List UInt8 := dkwX2_fraction_0 ++ dktX2_fraction_1
theorem dksX2_fraction_0 : cX2_fraction.data.toList.drop 0 = dktX2_fraction_0 := by decide +kernel
theorem dksX2_fraction_1 : cX2_fraction.data.toList.drop 24 = dktX2_fraction_1 := dk_seg dksX2_fraction_0 24 rfl rfl
theorem dksX2_fraction_2 : cX2_fraction.data.toList.drop 47 = dktX2_fraction_2 := dk_seg dksX2_fraction_1 23 rfl rfl
theorem dX2_fraction_0 : decode cX2_fraction 0 = .ok (.lload_n 1, 1) := dk_31 (dk_at dksX2_fraction_0 0 rfl rfl)
theorem dX2_fraction_1 : decode cX2_fraction 1 = .ok (.lstore 6, 2) := dk_55 6 (dk_at dksX2_fraction_0 1 rfl rfl)
theorem dX2_fraction_3 : decode cX2_fraction 3 = .ok (.lload_n 3, 1) := dk_33 (dk_at dksX2_fraction_0 3 rfl rfl)
theorem dX2_fraction_4 : decode cX2_fraction 4 = .ok (.lstore 8, 2) := dk_55 8 (dk_at dksX2_fraction_0 4 rfl rfl)
theorem dX2_fraction_6 : decode cX2_fraction 6 = .ok (.lload 8, 2) := dk_22 8 (dk_at dksX2_fraction_0 6 rfl rfl)
theorem dX2_fraction_8 : decode cX2_fraction 8 = .ok (.lconst 0, 1) := dk_9 (dk_at dksX2_fraction_0 8 rfl rfl)
theorem dX2_fraction_9 : decode cX2_fraction 9 = .ok (.lcmp, 1) := dk_148 (dk_at dksX2_fraction_0 9 rfl rfl)
theorem dX2_fraction_10 : decode cX2_fraction 10 = .ok (.ifCond .eq 21, 3) := dk_153 0 21 (dk_at dksX2_fraction_0 10 rfl rfl)
theorem dX2_fraction_13 : decode cX2_fraction 13 = .ok (.lload 6, 2) := dk_22 6 (dk_at dksX2_fraction_0 13 rfl rfl)
theorem dX2_fraction_15 : decode cX2_fraction 15 = .ok (.lload 8, 2) := dk_22 8 (dk_at dksX2_fraction_0 15 rfl rfl)
theorem dX2_fraction_17 : decode cX2_fraction 17 = .ok (.lrem, 1) := dk_113 (dk_at dksX2_fraction_0 17 rfl rfl)
theorem dX2_fraction_18 : decode cX2_fraction 18 = .ok (.lstore 10, 2) := dk_55 10 (dk_at dksX2_fraction_0 18 rfl rfl)
theorem dX2_fraction_20 : decode cX2_fraction 20 = .ok (.lload 8, 2) := dk_22 8 (dk_at dksX2_fraction_0 20 rfl rfl)
theorem dX2_fraction_22 : decode cX2_fraction 22 = .ok (.lstore 6, 2) := dk_55 6 (dk_at dksX2_fraction_0 22 rfl rfl)
theorem dX2_fraction_24 : decode cX2_fraction 24 = .ok (.lload 10, 2) := dk_22 10 (dk_at dksX2_fraction_1 0 rfl rfl)
theorem dX2_fraction_26 : decode cX2_fraction 26 = .ok (.lstore 8, 2) := dk_55 8 (dk_at dksX2_fraction_1 2 rfl rfl)
theorem dX2_fraction_28 : decode cX2_fraction 28 = .ok (.goto (-22), 3) := dk_167 255 234 (dk_at dksX2_fraction_1 4 rfl rfl)
theorem dX2_fraction_31 : decode cX2_fraction 31 = .ok (.aload_n 0, 1) := dk_42 (dk_at dksX2_fraction_1 7 rfl rfl)
theorem dX2_fraction_32 : decode cX2_fraction 32 = .ok (.lload_n 1, 1) := dk_31 (dk_at dksX2_fraction_1 8 rfl rfl)
theorem dX2_fraction_33 : decode cX2_fraction 33 = .ok (.lload 6, 2) := dk_22 6 (dk_at dksX2_fraction_1 9 rfl rfl)
theorem dX2_fraction_35 : decode cX2_fraction 35 = .ok (.ldiv, 1) := dk_109 (dk_at dksX2_fraction_1 11 rfl rfl)
theorem dX2_fraction_36 : decode cX2_fraction 36 = .ok (.putfield 111, 3) := dk_181 0 111 (dk_at dksX2_fraction_1 12 rfl rfl)
theorem dX2_fraction_39 : decode cX2_fraction 39 = .ok (.aload_n 0, 1) := dk_42 (dk_at dksX2_fraction_1 15 rfl rfl)
theorem dX2_fraction_40 : decode cX2_fraction 40 = .ok (.lload_n 3, 1) := dk_33 (dk_at dksX2_fraction_1 16 rfl rfl)
theorem dX2_fraction_41 : decode cX2_fraction 41 = .ok (.lload 6, 2) := dk_22 6 (dk_at dksX2_fraction_1 17 rfl rfl)
theorem dX2_fraction_43 : decode cX2_fraction 43 = .ok (.ldiv, 1) := dk_109 (dk_at dksX2_fraction_1 19 rfl rfl)
theorem dX2_fraction_44 : decode cX2_fraction 44 = .ok (.putfield 93, 3) := dk_181 0 93 (dk_at dksX2_fraction_1 20 rfl rfl)
theorem dX2_fraction_47 : decode cX2_fraction 47 = .ok (.iload 5, 2) := dk_21 5 (dk_at dksX2_fraction_2 0 rfl rfl)
theorem dX2_fraction_49 : decode cX2_fraction 49 = .ok (.ireturn, 1) := dk_172 (dk_at dksX2_fraction_2 2 rfl rfl)
abbrev cX2_need : ByteArray := prog_12_method_81_code
def yX2_need : MethodName := ⟨RX2, "need", "()I"⟩
def dkwX2_need_9 : List UInt8 := [167, 255, 227, 28, 172]
abbrev dktX2_need_9 : List UInt8 := dkwX2_need_9 ++ []
def dkwX2_need_8 : List UInt8 := [162, 0, 27, 42, 180, 0, 44, 16, 7, 29, 104, 16, 6, 96, 42, 180, 0, 90, 29, 46, 79, 132, 3, 1]
abbrev dktX2_need_8 : List UInt8 := dkwX2_need_8 ++ dktX2_need_9
def dkwX2_need_7 : List UInt8 := [154, 0, 7, 29, 167, 0, 5, 16, 247, 61, 132, 3, 1, 167, 255, 150, 3, 62, 29, 42, 180, 0, 191]
abbrev dktX2_need_7 : List UInt8 := dkwX2_need_7 ++ dktX2_need_8
def dkwX2_need_6 : List UInt8 := [182, 1, 83, 153, 0, 28, 42, 180, 1, 65, 9, 148, 158, 0, 19, 42, 180, 1, 68, 42, 180, 1, 65, 148]
abbrev dktX2_need_6 : List UInt8 := dkwX2_need_6 ++ dktX2_need_7
def dkwX2_need_5 : List UInt8 := [167, 0, 10, 42, 180, 0, 90, 21, 4, 46, 79, 132, 4, 1, 167, 255, 210, 42, 16, 247, 16, 247]
abbrev dktX2_need_5 : List UInt8 := dkwX2_need_5 ++ dktX2_need_6
def dkwX2_need_4 : List UInt8 := [180, 0, 44, 16, 7, 21, 4, 104, 16, 6, 96, 42, 21, 4, 182, 0, 209, 7, 160, 0, 7, 29]
abbrev dktX2_need_4 : List UInt8 := dkwX2_need_4 ++ dktX2_need_5
def dkwX2_need_3 : List UInt8 := [162, 0, 106, 28, 16, 247, 160, 0, 100, 3, 54, 4, 21, 4, 42, 180, 0, 191, 162, 0, 43, 42]
abbrev dktX2_need_3 : List UInt8 := dkwX2_need_3 ++ dktX2_need_4
def dkwX2_need_2 : List UInt8 := [96, 46, 79, 132, 2, 1, 167, 255, 208, 27, 154, 0, 6, 16, 252, 172, 16, 247, 61, 3, 62, 29, 16, 100]
abbrev dktX2_need_2 : List UInt8 := dkwX2_need_2 ++ dktX2_need_3
def dkwX2_need_1 : List UInt8 := [160, 0, 7, 4, 167, 0, 4, 3, 60, 42, 180, 0, 90, 28, 42, 180, 0, 44, 16, 7, 28, 104, 16, 6]
abbrev dktX2_need_1 : List UInt8 := dkwX2_need_1 ++ dktX2_need_2
def dkwX2_need_0 : List UInt8 := [3, 60, 3, 61, 28, 42, 180, 0, 191, 162, 0, 46, 27, 154, 0, 12, 42, 28, 182, 0, 209, 7]
abbrev dktX2_need_0 : List UInt8 := dkwX2_need_0 ++ dktX2_need_1
theorem dksX2_need_0 : cX2_need.data.toList.drop 0 = dktX2_need_0 := by decide +kernel
theorem dksX2_need_1 : cX2_need.data.toList.drop 22 = dktX2_need_1 := dk_seg dksX2_need_0 22 rfl rfl
theorem dksX2_need_2 : cX2_need.data.toList.drop 46 = dktX2_need_2 := dk_seg dksX2_need_1 24 rfl rfl
theorem dksX2_need_3 : cX2_need.data.toList.drop 70 = dktX2_need_3 := dk_seg dksX2_need_2 24 rfl rfl
theorem dksX2_need_4 : cX2_need.data.toList.drop 92 = dktX2_need_4 := dk_seg dksX2_need_3 22 rfl rfl
theorem dksX2_need_5 : cX2_need.data.toList.drop 114 = dktX2_need_5 := dk_seg dksX2_need_4 22 rfl rfl
theorem dksX2_need_6 : cX2_need.data.toList.drop 136 = dktX2_need_6 := dk_seg dksX2_need_5 22 rfl rfl
theorem dksX2_need_7 : cX2_need.data.toList.drop 160 = dktX2_need_7 := dk_seg dksX2_need_6 24 rfl rfl
theorem dksX2_need_8 : cX2_need.data.toList.drop 183 = dktX2_need_8 := dk_seg dksX2_need_7 23 rfl rfl
theorem dksX2_need_9 : cX2_need.data.toList.drop 207 = dktX2_need_9 := dk_seg dksX2_need_8 24 rfl rfl
theorem dX2_need_0 : decode cX2_need 0 = .ok (.iconst 0, 1) := dk_3 (dk_at dksX2_need_0 0 rfl rfl)
theorem dX2_need_1 : decode cX2_need 1 = .ok (.istore_n 1, 1) := dk_60 (dk_at dksX2_need_0 1 rfl rfl)
theorem dX2_need_2 : decode cX2_need 2 = .ok (.iconst 0, 1) := dk_3 (dk_at dksX2_need_0 2 rfl rfl)
theorem dX2_need_3 : decode cX2_need 3 = .ok (.istore_n 2, 1) := dk_61 (dk_at dksX2_need_0 3 rfl rfl)
theorem dX2_need_4 : decode cX2_need 4 = .ok (.iload_n 2, 1) := dk_28 (dk_at dksX2_need_0 4 rfl rfl)
theorem dX2_need_5 : decode cX2_need 5 = .ok (.aload_n 0, 1) := dk_42 (dk_at dksX2_need_0 5 rfl rfl)
theorem dX2_need_6 : decode cX2_need 6 = .ok (.getfield 191, 3) := dk_180 0 191 (dk_at dksX2_need_0 6 rfl rfl)
theorem dX2_need_9 : decode cX2_need 9 = .ok (.if_icmp .ge 46, 3) := dk_162 0 46 (dk_at dksX2_need_0 9 rfl rfl)
theorem dX2_need_12 : decode cX2_need 12 = .ok (.iload_n 1, 1) := dk_27 (dk_at dksX2_need_0 12 rfl rfl)
theorem dX2_need_13 : decode cX2_need 13 = .ok (.ifCond .ne 12, 3) := dk_154 0 12 (dk_at dksX2_need_0 13 rfl rfl)
theorem dX2_need_16 : decode cX2_need 16 = .ok (.aload_n 0, 1) := dk_42 (dk_at dksX2_need_0 16 rfl rfl)
theorem dX2_need_17 : decode cX2_need 17 = .ok (.iload_n 2, 1) := dk_28 (dk_at dksX2_need_0 17 rfl rfl)
theorem dX2_need_18 : decode cX2_need 18 = .ok (.invokevirtual 209, 3) := dk_182 0 209 (dk_at dksX2_need_0 18 rfl rfl)
theorem dX2_need_21 : decode cX2_need 21 = .ok (.iconst 4, 1) := dk_7 (dk_at dksX2_need_0 21 rfl rfl)
theorem dX2_need_22 : decode cX2_need 22 = .ok (.if_icmp .ne 7, 3) := dk_160 0 7 (dk_at dksX2_need_1 0 rfl rfl)
theorem dX2_need_25 : decode cX2_need 25 = .ok (.iconst 1, 1) := dk_4 (dk_at dksX2_need_1 3 rfl rfl)
theorem dX2_need_26 : decode cX2_need 26 = .ok (.goto 4, 3) := dk_167 0 4 (dk_at dksX2_need_1 4 rfl rfl)
theorem dX2_need_29 : decode cX2_need 29 = .ok (.iconst 0, 1) := dk_3 (dk_at dksX2_need_1 7 rfl rfl)
theorem dX2_need_30 : decode cX2_need 30 = .ok (.istore_n 1, 1) := dk_60 (dk_at dksX2_need_1 8 rfl rfl)
theorem dX2_need_31 : decode cX2_need 31 = .ok (.aload_n 0, 1) := dk_42 (dk_at dksX2_need_1 9 rfl rfl)
theorem dX2_need_32 : decode cX2_need 32 = .ok (.getfield 90, 3) := dk_180 0 90 (dk_at dksX2_need_1 10 rfl rfl)
theorem dX2_need_35 : decode cX2_need 35 = .ok (.iload_n 2, 1) := dk_28 (dk_at dksX2_need_1 13 rfl rfl)
theorem dX2_need_36 : decode cX2_need 36 = .ok (.aload_n 0, 1) := dk_42 (dk_at dksX2_need_1 14 rfl rfl)
theorem dX2_need_37 : decode cX2_need 37 = .ok (.getfield 44, 3) := dk_180 0 44 (dk_at dksX2_need_1 15 rfl rfl)
theorem dX2_need_40 : decode cX2_need 40 = .ok (.bipush 7, 2) := dk_16 7 (dk_at dksX2_need_1 18 rfl rfl)
theorem dX2_need_42 : decode cX2_need 42 = .ok (.iload_n 2, 1) := dk_28 (dk_at dksX2_need_1 20 rfl rfl)
theorem dX2_need_43 : decode cX2_need 43 = .ok (.imul, 1) := dk_104 (dk_at dksX2_need_1 21 rfl rfl)
theorem dX2_need_44 : decode cX2_need 44 = .ok (.bipush 6, 2) := dk_16 6 (dk_at dksX2_need_1 22 rfl rfl)
theorem dX2_need_46 : decode cX2_need 46 = .ok (.iadd, 1) := dk_96 (dk_at dksX2_need_2 0 rfl rfl)
theorem dX2_need_47 : decode cX2_need 47 = .ok (.iaload, 1) := dk_46 (dk_at dksX2_need_2 1 rfl rfl)
theorem dX2_need_48 : decode cX2_need 48 = .ok (.iastore, 1) := dk_79 (dk_at dksX2_need_2 2 rfl rfl)
theorem dX2_need_49 : decode cX2_need 49 = .ok (.iinc 2 1, 3) := dk_132 2 1 (dk_at dksX2_need_2 3 rfl rfl)
theorem dX2_need_52 : decode cX2_need 52 = .ok (.goto (-48), 3) := dk_167 255 208 (dk_at dksX2_need_2 6 rfl rfl)
theorem dX2_need_55 : decode cX2_need 55 = .ok (.iload_n 1, 1) := dk_27 (dk_at dksX2_need_2 9 rfl rfl)
theorem dX2_need_56 : decode cX2_need 56 = .ok (.ifCond .ne 6, 3) := dk_154 0 6 (dk_at dksX2_need_2 10 rfl rfl)
theorem dX2_need_59 : decode cX2_need 59 = .ok (.bipush (-4), 2) := dk_16 252 (dk_at dksX2_need_2 13 rfl rfl)
theorem dX2_need_61 : decode cX2_need 61 = .ok (.ireturn, 1) := dk_172 (dk_at dksX2_need_2 15 rfl rfl)
theorem dX2_need_62 : decode cX2_need 62 = .ok (.bipush (-9), 2) := dk_16 247 (dk_at dksX2_need_2 16 rfl rfl)
theorem dX2_need_64 : decode cX2_need 64 = .ok (.istore_n 2, 1) := dk_61 (dk_at dksX2_need_2 18 rfl rfl)
theorem dX2_need_65 : decode cX2_need 65 = .ok (.iconst 0, 1) := dk_3 (dk_at dksX2_need_2 19 rfl rfl)
theorem dX2_need_66 : decode cX2_need 66 = .ok (.istore_n 3, 1) := dk_62 (dk_at dksX2_need_2 20 rfl rfl)
theorem dX2_need_67 : decode cX2_need 67 = .ok (.iload_n 3, 1) := dk_29 (dk_at dksX2_need_2 21 rfl rfl)
theorem dX2_need_68 : decode cX2_need 68 = .ok (.bipush 100, 2) := dk_16 100 (dk_at dksX2_need_2 22 rfl rfl)
theorem dX2_need_70 : decode cX2_need 70 = .ok (.if_icmp .ge 106, 3) := dk_162 0 106 (dk_at dksX2_need_3 0 rfl rfl)
theorem dX2_need_73 : decode cX2_need 73 = .ok (.iload_n 2, 1) := dk_28 (dk_at dksX2_need_3 3 rfl rfl)
theorem dX2_need_74 : decode cX2_need 74 = .ok (.bipush (-9), 2) := dk_16 247 (dk_at dksX2_need_3 4 rfl rfl)
theorem dX2_need_76 : decode cX2_need 76 = .ok (.if_icmp .ne 100, 3) := dk_160 0 100 (dk_at dksX2_need_3 6 rfl rfl)
theorem dX2_need_79 : decode cX2_need 79 = .ok (.iconst 0, 1) := dk_3 (dk_at dksX2_need_3 9 rfl rfl)
theorem dX2_need_80 : decode cX2_need 80 = .ok (.istore 4, 2) := dk_54 4 (dk_at dksX2_need_3 10 rfl rfl)
theorem dX2_need_82 : decode cX2_need 82 = .ok (.iload 4, 2) := dk_21 4 (dk_at dksX2_need_3 12 rfl rfl)
theorem dX2_need_84 : decode cX2_need 84 = .ok (.aload_n 0, 1) := dk_42 (dk_at dksX2_need_3 14 rfl rfl)
theorem dX2_need_85 : decode cX2_need 85 = .ok (.getfield 191, 3) := dk_180 0 191 (dk_at dksX2_need_3 15 rfl rfl)
theorem dX2_need_88 : decode cX2_need 88 = .ok (.if_icmp .ge 43, 3) := dk_162 0 43 (dk_at dksX2_need_3 18 rfl rfl)
theorem dX2_need_91 : decode cX2_need 91 = .ok (.aload_n 0, 1) := dk_42 (dk_at dksX2_need_3 21 rfl rfl)
theorem dX2_need_92 : decode cX2_need 92 = .ok (.getfield 44, 3) := dk_180 0 44 (dk_at dksX2_need_4 0 rfl rfl)
theorem dX2_need_95 : decode cX2_need 95 = .ok (.bipush 7, 2) := dk_16 7 (dk_at dksX2_need_4 3 rfl rfl)
theorem dX2_need_97 : decode cX2_need 97 = .ok (.iload 4, 2) := dk_21 4 (dk_at dksX2_need_4 5 rfl rfl)
theorem dX2_need_99 : decode cX2_need 99 = .ok (.imul, 1) := dk_104 (dk_at dksX2_need_4 7 rfl rfl)
theorem dX2_need_100 : decode cX2_need 100 = .ok (.bipush 6, 2) := dk_16 6 (dk_at dksX2_need_4 8 rfl rfl)
theorem dX2_need_102 : decode cX2_need 102 = .ok (.iadd, 1) := dk_96 (dk_at dksX2_need_4 10 rfl rfl)
theorem dX2_need_103 : decode cX2_need 103 = .ok (.aload_n 0, 1) := dk_42 (dk_at dksX2_need_4 11 rfl rfl)
theorem dX2_need_104 : decode cX2_need 104 = .ok (.iload 4, 2) := dk_21 4 (dk_at dksX2_need_4 12 rfl rfl)
theorem dX2_need_106 : decode cX2_need 106 = .ok (.invokevirtual 209, 3) := dk_182 0 209 (dk_at dksX2_need_4 14 rfl rfl)
theorem dX2_need_109 : decode cX2_need 109 = .ok (.iconst 4, 1) := dk_7 (dk_at dksX2_need_4 17 rfl rfl)
theorem dX2_need_110 : decode cX2_need 110 = .ok (.if_icmp .ne 7, 3) := dk_160 0 7 (dk_at dksX2_need_4 18 rfl rfl)
theorem dX2_need_113 : decode cX2_need 113 = .ok (.iload_n 3, 1) := dk_29 (dk_at dksX2_need_4 21 rfl rfl)
theorem dX2_need_114 : decode cX2_need 114 = .ok (.goto 10, 3) := dk_167 0 10 (dk_at dksX2_need_5 0 rfl rfl)
theorem dX2_need_117 : decode cX2_need 117 = .ok (.aload_n 0, 1) := dk_42 (dk_at dksX2_need_5 3 rfl rfl)
theorem dX2_need_118 : decode cX2_need 118 = .ok (.getfield 90, 3) := dk_180 0 90 (dk_at dksX2_need_5 4 rfl rfl)
theorem dX2_need_121 : decode cX2_need 121 = .ok (.iload 4, 2) := dk_21 4 (dk_at dksX2_need_5 7 rfl rfl)
theorem dX2_need_123 : decode cX2_need 123 = .ok (.iaload, 1) := dk_46 (dk_at dksX2_need_5 9 rfl rfl)
theorem dX2_need_124 : decode cX2_need 124 = .ok (.iastore, 1) := dk_79 (dk_at dksX2_need_5 10 rfl rfl)
theorem dX2_need_125 : decode cX2_need 125 = .ok (.iinc 4 1, 3) := dk_132 4 1 (dk_at dksX2_need_5 11 rfl rfl)
theorem dX2_need_128 : decode cX2_need 128 = .ok (.goto (-46), 3) := dk_167 255 210 (dk_at dksX2_need_5 14 rfl rfl)
theorem dX2_need_131 : decode cX2_need 131 = .ok (.aload_n 0, 1) := dk_42 (dk_at dksX2_need_5 17 rfl rfl)
theorem dX2_need_132 : decode cX2_need 132 = .ok (.bipush (-9), 2) := dk_16 247 (dk_at dksX2_need_5 18 rfl rfl)
theorem dX2_need_134 : decode cX2_need 134 = .ok (.bipush (-9), 2) := dk_16 247 (dk_at dksX2_need_5 20 rfl rfl)
theorem dX2_need_136 : decode cX2_need 136 = .ok (.invokevirtual 339, 3) := dk_182 1 83 (dk_at dksX2_need_6 0 rfl rfl)
theorem dX2_need_139 : decode cX2_need 139 = .ok (.ifCond .eq 28, 3) := dk_153 0 28 (dk_at dksX2_need_6 3 rfl rfl)
theorem dX2_need_142 : decode cX2_need 142 = .ok (.aload_n 0, 1) := dk_42 (dk_at dksX2_need_6 6 rfl rfl)
theorem dX2_need_143 : decode cX2_need 143 = .ok (.getfield 321, 3) := dk_180 1 65 (dk_at dksX2_need_6 7 rfl rfl)
theorem dX2_need_146 : decode cX2_need 146 = .ok (.lconst 0, 1) := dk_9 (dk_at dksX2_need_6 10 rfl rfl)
theorem dX2_need_147 : decode cX2_need 147 = .ok (.lcmp, 1) := dk_148 (dk_at dksX2_need_6 11 rfl rfl)
theorem dX2_need_148 : decode cX2_need 148 = .ok (.ifCond .le 19, 3) := dk_158 0 19 (dk_at dksX2_need_6 12 rfl rfl)
theorem dX2_need_151 : decode cX2_need 151 = .ok (.aload_n 0, 1) := dk_42 (dk_at dksX2_need_6 15 rfl rfl)
theorem dX2_need_152 : decode cX2_need 152 = .ok (.getfield 324, 3) := dk_180 1 68 (dk_at dksX2_need_6 16 rfl rfl)
theorem dX2_need_155 : decode cX2_need 155 = .ok (.aload_n 0, 1) := dk_42 (dk_at dksX2_need_6 19 rfl rfl)
theorem dX2_need_156 : decode cX2_need 156 = .ok (.getfield 321, 3) := dk_180 1 65 (dk_at dksX2_need_6 20 rfl rfl)
theorem dX2_need_159 : decode cX2_need 159 = .ok (.lcmp, 1) := dk_148 (dk_at dksX2_need_6 23 rfl rfl)
theorem dX2_need_160 : decode cX2_need 160 = .ok (.ifCond .ne 7, 3) := dk_154 0 7 (dk_at dksX2_need_7 0 rfl rfl)
theorem dX2_need_163 : decode cX2_need 163 = .ok (.iload_n 3, 1) := dk_29 (dk_at dksX2_need_7 3 rfl rfl)
theorem dX2_need_164 : decode cX2_need 164 = .ok (.goto 5, 3) := dk_167 0 5 (dk_at dksX2_need_7 4 rfl rfl)
theorem dX2_need_167 : decode cX2_need 167 = .ok (.bipush (-9), 2) := dk_16 247 (dk_at dksX2_need_7 7 rfl rfl)
theorem dX2_need_169 : decode cX2_need 169 = .ok (.istore_n 2, 1) := dk_61 (dk_at dksX2_need_7 9 rfl rfl)
theorem dX2_need_170 : decode cX2_need 170 = .ok (.iinc 3 1, 3) := dk_132 3 1 (dk_at dksX2_need_7 10 rfl rfl)
theorem dX2_need_173 : decode cX2_need 173 = .ok (.goto (-106), 3) := dk_167 255 150 (dk_at dksX2_need_7 13 rfl rfl)
theorem dX2_need_176 : decode cX2_need 176 = .ok (.iconst 0, 1) := dk_3 (dk_at dksX2_need_7 16 rfl rfl)
theorem dX2_need_177 : decode cX2_need 177 = .ok (.istore_n 3, 1) := dk_62 (dk_at dksX2_need_7 17 rfl rfl)
theorem dX2_need_178 : decode cX2_need 178 = .ok (.iload_n 3, 1) := dk_29 (dk_at dksX2_need_7 18 rfl rfl)
theorem dX2_need_179 : decode cX2_need 179 = .ok (.aload_n 0, 1) := dk_42 (dk_at dksX2_need_7 19 rfl rfl)
theorem dX2_need_180 : decode cX2_need 180 = .ok (.getfield 191, 3) := dk_180 0 191 (dk_at dksX2_need_7 20 rfl rfl)
theorem dX2_need_183 : decode cX2_need 183 = .ok (.if_icmp .ge 27, 3) := dk_162 0 27 (dk_at dksX2_need_8 0 rfl rfl)
theorem dX2_need_186 : decode cX2_need 186 = .ok (.aload_n 0, 1) := dk_42 (dk_at dksX2_need_8 3 rfl rfl)
theorem dX2_need_187 : decode cX2_need 187 = .ok (.getfield 44, 3) := dk_180 0 44 (dk_at dksX2_need_8 4 rfl rfl)
theorem dX2_need_190 : decode cX2_need 190 = .ok (.bipush 7, 2) := dk_16 7 (dk_at dksX2_need_8 7 rfl rfl)
theorem dX2_need_192 : decode cX2_need 192 = .ok (.iload_n 3, 1) := dk_29 (dk_at dksX2_need_8 9 rfl rfl)
theorem dX2_need_193 : decode cX2_need 193 = .ok (.imul, 1) := dk_104 (dk_at dksX2_need_8 10 rfl rfl)
theorem dX2_need_194 : decode cX2_need 194 = .ok (.bipush 6, 2) := dk_16 6 (dk_at dksX2_need_8 11 rfl rfl)
theorem dX2_need_196 : decode cX2_need 196 = .ok (.iadd, 1) := dk_96 (dk_at dksX2_need_8 13 rfl rfl)
theorem dX2_need_197 : decode cX2_need 197 = .ok (.aload_n 0, 1) := dk_42 (dk_at dksX2_need_8 14 rfl rfl)
theorem dX2_need_198 : decode cX2_need 198 = .ok (.getfield 90, 3) := dk_180 0 90 (dk_at dksX2_need_8 15 rfl rfl)
theorem dX2_need_201 : decode cX2_need 201 = .ok (.iload_n 3, 1) := dk_29 (dk_at dksX2_need_8 18 rfl rfl)
theorem dX2_need_202 : decode cX2_need 202 = .ok (.iaload, 1) := dk_46 (dk_at dksX2_need_8 19 rfl rfl)
theorem dX2_need_203 : decode cX2_need 203 = .ok (.iastore, 1) := dk_79 (dk_at dksX2_need_8 20 rfl rfl)
theorem dX2_need_204 : decode cX2_need 204 = .ok (.iinc 3 1, 3) := dk_132 3 1 (dk_at dksX2_need_8 21 rfl rfl)
theorem dX2_need_207 : decode cX2_need 207 = .ok (.goto (-29), 3) := dk_167 255 227 (dk_at dksX2_need_9 0 rfl rfl)
theorem dX2_need_210 : decode cX2_need 210 = .ok (.iload_n 2, 1) := dk_28 (dk_at dksX2_need_9 3 rfl rfl)
theorem dX2_need_211 : decode cX2_need 211 = .ok (.ireturn, 1) := dk_172 (dk_at dksX2_need_9 4 rfl rfl)
abbrev cX2_lost : ByteArray := prog_12_method_83_code
def yX2_lost : MethodName := ⟨RX2, "lost", "()I"⟩
def dkwX2_lost_6 : List UInt8 := [96, 172, 132, 7, 1, 167, 255, 172, 132, 5, 1, 167, 255, 145, 16, 247, 172]
abbrev dktX2_lost_6 : List UInt8 := dkwX2_lost_6 ++ []
def dkwX2_lost_5 : List UInt8 := [3, 54, 8, 42, 180, 0, 56, 21, 5, 21, 6, 79, 21, 8, 153, 0, 12, 16, 10, 21, 5, 104, 21, 7]
abbrev dktX2_lost_5 : List UInt8 := dkwX2_lost_5 ++ dktX2_lost_6
def dkwX2_lost_4 : List UInt8 := [148, 158, 0, 23, 42, 180, 1, 68, 42, 180, 1, 65, 31, 33, 184, 1, 90, 153, 0, 7, 4, 167, 0, 4]
abbrev dktX2_lost_4 : List UInt8 := dkwX2_lost_4 ++ dktX2_lost_5
def dkwX2_lost_3 : List UInt8 := [180, 0, 56, 21, 5, 21, 7, 79, 42, 16, 247, 16, 247, 182, 1, 83, 153, 0, 32, 42, 180, 1, 65, 9]
abbrev dktX2_lost_3 : List UInt8 := dkwX2_lost_3 ++ dktX2_lost_4
def dkwX2_lost_2 : List UInt8 := [162, 0, 108, 42, 180, 0, 56, 21, 5, 46, 54, 6, 3, 54, 7, 21, 7, 6, 162, 0, 84, 42]
abbrev dktX2_lost_2 : List UInt8 := dkwX2_lost_2 ++ dktX2_lost_3
def dkwX2_lost_1 : List UInt8 := [7, 182, 0, 118, 172, 42, 180, 1, 68, 64, 42, 180, 1, 65, 66, 3, 54, 5, 21, 5, 42, 180, 0, 97]
abbrev dktX2_lost_1 : List UInt8 := dkwX2_lost_1 ++ dktX2_lost_2
def dkwX2_lost_0 : List UInt8 := [42, 16, 247, 16, 247, 182, 1, 83, 154, 0, 6, 16, 250, 172, 42, 180, 1, 65, 9, 148, 154, 0, 9, 42]
abbrev dktX2_lost_0 : List UInt8 := dkwX2_lost_0 ++ dktX2_lost_1
theorem dksX2_lost_0 : cX2_lost.data.toList.drop 0 = dktX2_lost_0 := by decide +kernel
theorem dksX2_lost_1 : cX2_lost.data.toList.drop 24 = dktX2_lost_1 := dk_seg dksX2_lost_0 24 rfl rfl
theorem dksX2_lost_2 : cX2_lost.data.toList.drop 48 = dktX2_lost_2 := dk_seg dksX2_lost_1 24 rfl rfl
theorem dksX2_lost_3 : cX2_lost.data.toList.drop 70 = dktX2_lost_3 := dk_seg dksX2_lost_2 22 rfl rfl
theorem dksX2_lost_4 : cX2_lost.data.toList.drop 94 = dktX2_lost_4 := dk_seg dksX2_lost_3 24 rfl rfl
theorem dksX2_lost_5 : cX2_lost.data.toList.drop 118 = dktX2_lost_5 := dk_seg dksX2_lost_4 24 rfl rfl
theorem dksX2_lost_6 : cX2_lost.data.toList.drop 142 = dktX2_lost_6 := dk_seg dksX2_lost_5 24 rfl rfl
theorem dX2_lost_0 : decode cX2_lost 0 = .ok (.aload_n 0, 1) := dk_42 (dk_at dksX2_lost_0 0 rfl rfl)
theorem dX2_lost_1 : decode cX2_lost 1 = .ok (.bipush (-9), 2) := dk_16 247 (dk_at dksX2_lost_0 1 rfl rfl)
theorem dX2_lost_3 : decode cX2_lost 3 = .ok (.bipush (-9), 2) := dk_16 247 (dk_at dksX2_lost_0 3 rfl rfl)
theorem dX2_lost_5 : decode cX2_lost 5 = .ok (.invokevirtual 339, 3) := dk_182 1 83 (dk_at dksX2_lost_0 5 rfl rfl)
theorem dX2_lost_8 : decode cX2_lost 8 = .ok (.ifCond .ne 6, 3) := dk_154 0 6 (dk_at dksX2_lost_0 8 rfl rfl)
theorem dX2_lost_11 : decode cX2_lost 11 = .ok (.bipush (-6), 2) := dk_16 250 (dk_at dksX2_lost_0 11 rfl rfl)
theorem dX2_lost_13 : decode cX2_lost 13 = .ok (.ireturn, 1) := dk_172 (dk_at dksX2_lost_0 13 rfl rfl)
theorem dX2_lost_14 : decode cX2_lost 14 = .ok (.aload_n 0, 1) := dk_42 (dk_at dksX2_lost_0 14 rfl rfl)
theorem dX2_lost_15 : decode cX2_lost 15 = .ok (.getfield 321, 3) := dk_180 1 65 (dk_at dksX2_lost_0 15 rfl rfl)
theorem dX2_lost_18 : decode cX2_lost 18 = .ok (.lconst 0, 1) := dk_9 (dk_at dksX2_lost_0 18 rfl rfl)
theorem dX2_lost_19 : decode cX2_lost 19 = .ok (.lcmp, 1) := dk_148 (dk_at dksX2_lost_0 19 rfl rfl)
theorem dX2_lost_20 : decode cX2_lost 20 = .ok (.ifCond .ne 9, 3) := dk_154 0 9 (dk_at dksX2_lost_0 20 rfl rfl)
theorem dX2_lost_23 : decode cX2_lost 23 = .ok (.aload_n 0, 1) := dk_42 (dk_at dksX2_lost_0 23 rfl rfl)
theorem dX2_lost_24 : decode cX2_lost 24 = .ok (.iconst 4, 1) := dk_7 (dk_at dksX2_lost_1 0 rfl rfl)
theorem dX2_lost_25 : decode cX2_lost 25 = .ok (.invokevirtual 118, 3) := dk_182 0 118 (dk_at dksX2_lost_1 1 rfl rfl)
theorem dX2_lost_28 : decode cX2_lost 28 = .ok (.ireturn, 1) := dk_172 (dk_at dksX2_lost_1 4 rfl rfl)
theorem dX2_lost_29 : decode cX2_lost 29 = .ok (.aload_n 0, 1) := dk_42 (dk_at dksX2_lost_1 5 rfl rfl)
theorem dX2_lost_30 : decode cX2_lost 30 = .ok (.getfield 324, 3) := dk_180 1 68 (dk_at dksX2_lost_1 6 rfl rfl)
theorem dX2_lost_33 : decode cX2_lost 33 = .ok (.lstore_n 1, 1) := dk_64 (dk_at dksX2_lost_1 9 rfl rfl)
theorem dX2_lost_34 : decode cX2_lost 34 = .ok (.aload_n 0, 1) := dk_42 (dk_at dksX2_lost_1 10 rfl rfl)
theorem dX2_lost_35 : decode cX2_lost 35 = .ok (.getfield 321, 3) := dk_180 1 65 (dk_at dksX2_lost_1 11 rfl rfl)
theorem dX2_lost_38 : decode cX2_lost 38 = .ok (.lstore_n 3, 1) := dk_66 (dk_at dksX2_lost_1 14 rfl rfl)
theorem dX2_lost_39 : decode cX2_lost 39 = .ok (.iconst 0, 1) := dk_3 (dk_at dksX2_lost_1 15 rfl rfl)
theorem dX2_lost_40 : decode cX2_lost 40 = .ok (.istore 5, 2) := dk_54 5 (dk_at dksX2_lost_1 16 rfl rfl)
theorem dX2_lost_42 : decode cX2_lost 42 = .ok (.iload 5, 2) := dk_21 5 (dk_at dksX2_lost_1 18 rfl rfl)
theorem dX2_lost_44 : decode cX2_lost 44 = .ok (.aload_n 0, 1) := dk_42 (dk_at dksX2_lost_1 20 rfl rfl)
theorem dX2_lost_45 : decode cX2_lost 45 = .ok (.getfield 97, 3) := dk_180 0 97 (dk_at dksX2_lost_1 21 rfl rfl)
theorem dX2_lost_48 : decode cX2_lost 48 = .ok (.if_icmp .ge 108, 3) := dk_162 0 108 (dk_at dksX2_lost_2 0 rfl rfl)
theorem dX2_lost_51 : decode cX2_lost 51 = .ok (.aload_n 0, 1) := dk_42 (dk_at dksX2_lost_2 3 rfl rfl)
theorem dX2_lost_52 : decode cX2_lost 52 = .ok (.getfield 56, 3) := dk_180 0 56 (dk_at dksX2_lost_2 4 rfl rfl)
theorem dX2_lost_55 : decode cX2_lost 55 = .ok (.iload 5, 2) := dk_21 5 (dk_at dksX2_lost_2 7 rfl rfl)
theorem dX2_lost_57 : decode cX2_lost 57 = .ok (.iaload, 1) := dk_46 (dk_at dksX2_lost_2 9 rfl rfl)
theorem dX2_lost_58 : decode cX2_lost 58 = .ok (.istore 6, 2) := dk_54 6 (dk_at dksX2_lost_2 10 rfl rfl)
theorem dX2_lost_60 : decode cX2_lost 60 = .ok (.iconst 0, 1) := dk_3 (dk_at dksX2_lost_2 12 rfl rfl)
theorem dX2_lost_61 : decode cX2_lost 61 = .ok (.istore 7, 2) := dk_54 7 (dk_at dksX2_lost_2 13 rfl rfl)
theorem dX2_lost_63 : decode cX2_lost 63 = .ok (.iload 7, 2) := dk_21 7 (dk_at dksX2_lost_2 15 rfl rfl)
theorem dX2_lost_65 : decode cX2_lost 65 = .ok (.iconst 3, 1) := dk_6 (dk_at dksX2_lost_2 17 rfl rfl)
theorem dX2_lost_66 : decode cX2_lost 66 = .ok (.if_icmp .ge 84, 3) := dk_162 0 84 (dk_at dksX2_lost_2 18 rfl rfl)
theorem dX2_lost_69 : decode cX2_lost 69 = .ok (.aload_n 0, 1) := dk_42 (dk_at dksX2_lost_2 21 rfl rfl)
theorem dX2_lost_70 : decode cX2_lost 70 = .ok (.getfield 56, 3) := dk_180 0 56 (dk_at dksX2_lost_3 0 rfl rfl)
theorem dX2_lost_73 : decode cX2_lost 73 = .ok (.iload 5, 2) := dk_21 5 (dk_at dksX2_lost_3 3 rfl rfl)
theorem dX2_lost_75 : decode cX2_lost 75 = .ok (.iload 7, 2) := dk_21 7 (dk_at dksX2_lost_3 5 rfl rfl)
theorem dX2_lost_77 : decode cX2_lost 77 = .ok (.iastore, 1) := dk_79 (dk_at dksX2_lost_3 7 rfl rfl)
theorem dX2_lost_78 : decode cX2_lost 78 = .ok (.aload_n 0, 1) := dk_42 (dk_at dksX2_lost_3 8 rfl rfl)
theorem dX2_lost_79 : decode cX2_lost 79 = .ok (.bipush (-9), 2) := dk_16 247 (dk_at dksX2_lost_3 9 rfl rfl)
theorem dX2_lost_81 : decode cX2_lost 81 = .ok (.bipush (-9), 2) := dk_16 247 (dk_at dksX2_lost_3 11 rfl rfl)
theorem dX2_lost_83 : decode cX2_lost 83 = .ok (.invokevirtual 339, 3) := dk_182 1 83 (dk_at dksX2_lost_3 13 rfl rfl)
theorem dX2_lost_86 : decode cX2_lost 86 = .ok (.ifCond .eq 32, 3) := dk_153 0 32 (dk_at dksX2_lost_3 16 rfl rfl)
theorem dX2_lost_89 : decode cX2_lost 89 = .ok (.aload_n 0, 1) := dk_42 (dk_at dksX2_lost_3 19 rfl rfl)
theorem dX2_lost_90 : decode cX2_lost 90 = .ok (.getfield 321, 3) := dk_180 1 65 (dk_at dksX2_lost_3 20 rfl rfl)
theorem dX2_lost_93 : decode cX2_lost 93 = .ok (.lconst 0, 1) := dk_9 (dk_at dksX2_lost_3 23 rfl rfl)
theorem dX2_lost_94 : decode cX2_lost 94 = .ok (.lcmp, 1) := dk_148 (dk_at dksX2_lost_4 0 rfl rfl)
theorem dX2_lost_95 : decode cX2_lost 95 = .ok (.ifCond .le 23, 3) := dk_158 0 23 (dk_at dksX2_lost_4 1 rfl rfl)
theorem dX2_lost_98 : decode cX2_lost 98 = .ok (.aload_n 0, 1) := dk_42 (dk_at dksX2_lost_4 4 rfl rfl)
theorem dX2_lost_99 : decode cX2_lost 99 = .ok (.getfield 324, 3) := dk_180 1 68 (dk_at dksX2_lost_4 5 rfl rfl)
theorem dX2_lost_102 : decode cX2_lost 102 = .ok (.aload_n 0, 1) := dk_42 (dk_at dksX2_lost_4 8 rfl rfl)
theorem dX2_lost_103 : decode cX2_lost 103 = .ok (.getfield 321, 3) := dk_180 1 65 (dk_at dksX2_lost_4 9 rfl rfl)
theorem dX2_lost_106 : decode cX2_lost 106 = .ok (.lload_n 1, 1) := dk_31 (dk_at dksX2_lost_4 12 rfl rfl)
theorem dX2_lost_107 : decode cX2_lost 107 = .ok (.lload_n 3, 1) := dk_33 (dk_at dksX2_lost_4 13 rfl rfl)
theorem dX2_lost_108 : decode cX2_lost 108 = .ok (.invokestatic 346, 3) := dk_184 1 90 (dk_at dksX2_lost_4 14 rfl rfl)
theorem dX2_lost_111 : decode cX2_lost 111 = .ok (.ifCond .eq 7, 3) := dk_153 0 7 (dk_at dksX2_lost_4 17 rfl rfl)
theorem dX2_lost_114 : decode cX2_lost 114 = .ok (.iconst 1, 1) := dk_4 (dk_at dksX2_lost_4 20 rfl rfl)
theorem dX2_lost_115 : decode cX2_lost 115 = .ok (.goto 4, 3) := dk_167 0 4 (dk_at dksX2_lost_4 21 rfl rfl)
theorem dX2_lost_118 : decode cX2_lost 118 = .ok (.iconst 0, 1) := dk_3 (dk_at dksX2_lost_5 0 rfl rfl)
theorem dX2_lost_119 : decode cX2_lost 119 = .ok (.istore 8, 2) := dk_54 8 (dk_at dksX2_lost_5 1 rfl rfl)
theorem dX2_lost_121 : decode cX2_lost 121 = .ok (.aload_n 0, 1) := dk_42 (dk_at dksX2_lost_5 3 rfl rfl)
theorem dX2_lost_122 : decode cX2_lost 122 = .ok (.getfield 56, 3) := dk_180 0 56 (dk_at dksX2_lost_5 4 rfl rfl)
theorem dX2_lost_125 : decode cX2_lost 125 = .ok (.iload 5, 2) := dk_21 5 (dk_at dksX2_lost_5 7 rfl rfl)
theorem dX2_lost_127 : decode cX2_lost 127 = .ok (.iload 6, 2) := dk_21 6 (dk_at dksX2_lost_5 9 rfl rfl)
theorem dX2_lost_129 : decode cX2_lost 129 = .ok (.iastore, 1) := dk_79 (dk_at dksX2_lost_5 11 rfl rfl)
theorem dX2_lost_130 : decode cX2_lost 130 = .ok (.iload 8, 2) := dk_21 8 (dk_at dksX2_lost_5 12 rfl rfl)
theorem dX2_lost_132 : decode cX2_lost 132 = .ok (.ifCond .eq 12, 3) := dk_153 0 12 (dk_at dksX2_lost_5 14 rfl rfl)
theorem dX2_lost_135 : decode cX2_lost 135 = .ok (.bipush 10, 2) := dk_16 10 (dk_at dksX2_lost_5 17 rfl rfl)
theorem dX2_lost_137 : decode cX2_lost 137 = .ok (.iload 5, 2) := dk_21 5 (dk_at dksX2_lost_5 19 rfl rfl)
theorem dX2_lost_139 : decode cX2_lost 139 = .ok (.imul, 1) := dk_104 (dk_at dksX2_lost_5 21 rfl rfl)
theorem dX2_lost_140 : decode cX2_lost 140 = .ok (.iload 7, 2) := dk_21 7 (dk_at dksX2_lost_5 22 rfl rfl)
theorem dX2_lost_142 : decode cX2_lost 142 = .ok (.iadd, 1) := dk_96 (dk_at dksX2_lost_6 0 rfl rfl)
theorem dX2_lost_143 : decode cX2_lost 143 = .ok (.ireturn, 1) := dk_172 (dk_at dksX2_lost_6 1 rfl rfl)
theorem dX2_lost_144 : decode cX2_lost 144 = .ok (.iinc 7 1, 3) := dk_132 7 1 (dk_at dksX2_lost_6 2 rfl rfl)
theorem dX2_lost_147 : decode cX2_lost 147 = .ok (.goto (-84), 3) := dk_167 255 172 (dk_at dksX2_lost_6 5 rfl rfl)
theorem dX2_lost_150 : decode cX2_lost 150 = .ok (.iinc 5 1, 3) := dk_132 5 1 (dk_at dksX2_lost_6 8 rfl rfl)
theorem dX2_lost_153 : decode cX2_lost 153 = .ok (.goto (-111), 3) := dk_167 255 145 (dk_at dksX2_lost_6 11 rfl rfl)
theorem dX2_lost_156 : decode cX2_lost 156 = .ok (.bipush (-9), 2) := dk_16 247 (dk_at dksX2_lost_6 14 rfl rfl)
theorem dX2_lost_158 : decode cX2_lost 158 = .ok (.ireturn, 1) := dk_172 (dk_at dksX2_lost_6 16 rfl rfl)
abbrev cX2_isLess : ByteArray := prog_12_method_82_code
def yX2_isLess : MethodName := ⟨RX2, "isLess", "(JJJJ)Z"⟩
def dkwX2_isLess_0 : List UInt8 := [30, 22, 6, 105, 22, 4, 32, 105, 148, 156, 0, 7, 4, 167, 0, 4, 3, 172]
abbrev dktX2_isLess_0 : List UInt8 := dkwX2_isLess_0 ++ []
theorem dksX2_isLess_0 : cX2_isLess.data.toList.drop 0 = dktX2_isLess_0 := by decide +kernel
theorem dX2_isLess_0 : decode cX2_isLess 0 = .ok (.lload_n 0, 1) := dk_30 (dk_at dksX2_isLess_0 0 rfl rfl)
theorem dX2_isLess_1 : decode cX2_isLess 1 = .ok (.lload 6, 2) := dk_22 6 (dk_at dksX2_isLess_0 1 rfl rfl)
theorem dX2_isLess_3 : decode cX2_isLess 3 = .ok (.lmul, 1) := dk_105 (dk_at dksX2_isLess_0 3 rfl rfl)
theorem dX2_isLess_4 : decode cX2_isLess 4 = .ok (.lload 4, 2) := dk_22 4 (dk_at dksX2_isLess_0 4 rfl rfl)
theorem dX2_isLess_6 : decode cX2_isLess 6 = .ok (.lload_n 2, 1) := dk_32 (dk_at dksX2_isLess_0 6 rfl rfl)
theorem dX2_isLess_7 : decode cX2_isLess 7 = .ok (.lmul, 1) := dk_105 (dk_at dksX2_isLess_0 7 rfl rfl)
theorem dX2_isLess_8 : decode cX2_isLess 8 = .ok (.lcmp, 1) := dk_148 (dk_at dksX2_isLess_0 8 rfl rfl)
theorem dX2_isLess_9 : decode cX2_isLess 9 = .ok (.ifCond .ge 7, 3) := dk_156 0 7 (dk_at dksX2_isLess_0 9 rfl rfl)
theorem dX2_isLess_12 : decode cX2_isLess 12 = .ok (.iconst 1, 1) := dk_4 (dk_at dksX2_isLess_0 12 rfl rfl)
theorem dX2_isLess_13 : decode cX2_isLess 13 = .ok (.goto 4, 3) := dk_167 0 4 (dk_at dksX2_isLess_0 13 rfl rfl)
theorem dX2_isLess_16 : decode cX2_isLess 16 = .ok (.iconst 0, 1) := dk_3 (dk_at dksX2_isLess_0 16 rfl rfl)
theorem dX2_isLess_17 : decode cX2_isLess 17 = .ok (.ireturn, 1) := dk_172 (dk_at dksX2_isLess_0 17 rfl rfl)
abbrev cX2_share : ByteArray := prog_12_method_84_code
def yX2_share : MethodName := ⟨RX2, "share", "(I)I"⟩
def dkwX2_share_2 : List UInt8 := [180, 1, 53, 42, 180, 1, 71, 136, 182, 1, 86, 172]
abbrev dktX2_share_2 : List UInt8 := dkwX2_share_2 ++ []
def dkwX2_share_1 : List UInt8 := [180, 1, 53, 9, 148, 154, 0, 11, 42, 7, 182, 0, 118, 167, 0, 20, 42, 42, 180, 1, 71, 42]
abbrev dktX2_share_1 : List UInt8 := dkwX2_share_1 ++ dktX2_share_2
def dkwX2_share_0 : List UInt8 := [42, 27, 182, 0, 227, 154, 0, 5, 2, 172, 42, 27, 16, 247, 182, 1, 83, 154, 0, 6, 16, 250, 172, 42]
abbrev dktX2_share_0 : List UInt8 := dkwX2_share_0 ++ dktX2_share_1
theorem dksX2_share_0 : cX2_share.data.toList.drop 0 = dktX2_share_0 := by decide +kernel
theorem dksX2_share_1 : cX2_share.data.toList.drop 24 = dktX2_share_1 := dk_seg dksX2_share_0 24 rfl rfl
theorem dksX2_share_2 : cX2_share.data.toList.drop 46 = dktX2_share_2 := dk_seg dksX2_share_1 22 rfl rfl
theorem dX2_share_0 : decode cX2_share 0 = .ok (.aload_n 0, 1) := dk_42 (dk_at dksX2_share_0 0 rfl rfl)
theorem dX2_share_1 : decode cX2_share 1 = .ok (.iload_n 1, 1) := dk_27 (dk_at dksX2_share_0 1 rfl rfl)
theorem dX2_share_2 : decode cX2_share 2 = .ok (.invokevirtual 227, 3) := dk_182 0 227 (dk_at dksX2_share_0 2 rfl rfl)
theorem dX2_share_5 : decode cX2_share 5 = .ok (.ifCond .ne 5, 3) := dk_154 0 5 (dk_at dksX2_share_0 5 rfl rfl)
theorem dX2_share_8 : decode cX2_share 8 = .ok (.iconst (-1), 1) := dk_2 (dk_at dksX2_share_0 8 rfl rfl)
theorem dX2_share_9 : decode cX2_share 9 = .ok (.ireturn, 1) := dk_172 (dk_at dksX2_share_0 9 rfl rfl)
theorem dX2_share_10 : decode cX2_share 10 = .ok (.aload_n 0, 1) := dk_42 (dk_at dksX2_share_0 10 rfl rfl)
theorem dX2_share_11 : decode cX2_share 11 = .ok (.iload_n 1, 1) := dk_27 (dk_at dksX2_share_0 11 rfl rfl)
theorem dX2_share_12 : decode cX2_share 12 = .ok (.bipush (-9), 2) := dk_16 247 (dk_at dksX2_share_0 12 rfl rfl)
theorem dX2_share_14 : decode cX2_share 14 = .ok (.invokevirtual 339, 3) := dk_182 1 83 (dk_at dksX2_share_0 14 rfl rfl)
theorem dX2_share_17 : decode cX2_share 17 = .ok (.ifCond .ne 6, 3) := dk_154 0 6 (dk_at dksX2_share_0 17 rfl rfl)
theorem dX2_share_20 : decode cX2_share 20 = .ok (.bipush (-6), 2) := dk_16 250 (dk_at dksX2_share_0 20 rfl rfl)
theorem dX2_share_22 : decode cX2_share 22 = .ok (.ireturn, 1) := dk_172 (dk_at dksX2_share_0 22 rfl rfl)
theorem dX2_share_23 : decode cX2_share 23 = .ok (.aload_n 0, 1) := dk_42 (dk_at dksX2_share_0 23 rfl rfl)
theorem dX2_share_24 : decode cX2_share 24 = .ok (.getfield 309, 3) := dk_180 1 53 (dk_at dksX2_share_1 0 rfl rfl)
theorem dX2_share_27 : decode cX2_share 27 = .ok (.lconst 0, 1) := dk_9 (dk_at dksX2_share_1 3 rfl rfl)
theorem dX2_share_28 : decode cX2_share 28 = .ok (.lcmp, 1) := dk_148 (dk_at dksX2_share_1 4 rfl rfl)
theorem dX2_share_29 : decode cX2_share 29 = .ok (.ifCond .ne 11, 3) := dk_154 0 11 (dk_at dksX2_share_1 5 rfl rfl)
theorem dX2_share_32 : decode cX2_share 32 = .ok (.aload_n 0, 1) := dk_42 (dk_at dksX2_share_1 8 rfl rfl)
theorem dX2_share_33 : decode cX2_share 33 = .ok (.iconst 4, 1) := dk_7 (dk_at dksX2_share_1 9 rfl rfl)
theorem dX2_share_34 : decode cX2_share 34 = .ok (.invokevirtual 118, 3) := dk_182 0 118 (dk_at dksX2_share_1 10 rfl rfl)
theorem dX2_share_37 : decode cX2_share 37 = .ok (.goto 20, 3) := dk_167 0 20 (dk_at dksX2_share_1 13 rfl rfl)
theorem dX2_share_40 : decode cX2_share 40 = .ok (.aload_n 0, 1) := dk_42 (dk_at dksX2_share_1 16 rfl rfl)
theorem dX2_share_41 : decode cX2_share 41 = .ok (.aload_n 0, 1) := dk_42 (dk_at dksX2_share_1 17 rfl rfl)
theorem dX2_share_42 : decode cX2_share 42 = .ok (.getfield 327, 3) := dk_180 1 71 (dk_at dksX2_share_1 18 rfl rfl)
theorem dX2_share_45 : decode cX2_share 45 = .ok (.aload_n 0, 1) := dk_42 (dk_at dksX2_share_1 21 rfl rfl)
theorem dX2_share_46 : decode cX2_share 46 = .ok (.getfield 309, 3) := dk_180 1 53 (dk_at dksX2_share_2 0 rfl rfl)
theorem dX2_share_49 : decode cX2_share 49 = .ok (.aload_n 0, 1) := dk_42 (dk_at dksX2_share_2 3 rfl rfl)
theorem dX2_share_50 : decode cX2_share 50 = .ok (.getfield 327, 3) := dk_180 1 71 (dk_at dksX2_share_2 4 rfl rfl)
theorem dX2_share_53 : decode cX2_share 53 = .ok (.l2i, 1) := dk_136 (dk_at dksX2_share_2 7 rfl rfl)
theorem dX2_share_54 : decode cX2_share 54 = .ok (.invokevirtual 342, 3) := dk_182 1 86 (dk_at dksX2_share_2 8 rfl rfl)
theorem dX2_share_57 : decode cX2_share 57 = .ok (.ireturn, 1) := dk_172 (dk_at dksX2_share_2 11 rfl rfl)
abbrev cX2_seedlings : ByteArray := prog_12_method_85_code
def yX2_seedlings : MethodName := ⟨RX2, "seedlings", "()I"⟩
def dkwX2_seedlings_1 : List UInt8 := [182, 1, 86, 167, 0, 5, 16, 250, 172]
abbrev dktX2_seedlings_1 : List UInt8 := dkwX2_seedlings_1 ++ []
def dkwX2_seedlings_0 : List UInt8 := [42, 16, 247, 16, 247, 182, 1, 83, 153, 0, 20, 42, 42, 180, 1, 59, 42, 180, 1, 46, 133, 4]
abbrev dktX2_seedlings_0 : List UInt8 := dkwX2_seedlings_0 ++ dktX2_seedlings_1
theorem dksX2_seedlings_0 : cX2_seedlings.data.toList.drop 0 = dktX2_seedlings_0 := by decide +kernel
theorem dksX2_seedlings_1 : cX2_seedlings.data.toList.drop 22 = dktX2_seedlings_1 := dk_seg dksX2_seedlings_0 22 rfl rfl
theorem dX2_seedlings_0 : decode cX2_seedlings 0 = .ok (.aload_n 0, 1) := dk_42 (dk_at dksX2_seedlings_0 0 rfl rfl)
theorem dX2_seedlings_1 : decode cX2_seedlings 1 = .ok (.bipush (-9), 2) := dk_16 247 (dk_at dksX2_seedlings_0 1 rfl rfl)
theorem dX2_seedlings_3 : decode cX2_seedlings 3 = .ok (.bipush (-9), 2) := dk_16 247 (dk_at dksX2_seedlings_0 3 rfl rfl)
theorem dX2_seedlings_5 : decode cX2_seedlings 5 = .ok (.invokevirtual 339, 3) := dk_182 1 83 (dk_at dksX2_seedlings_0 5 rfl rfl)
theorem dX2_seedlings_8 : decode cX2_seedlings 8 = .ok (.ifCond .eq 20, 3) := dk_153 0 20 (dk_at dksX2_seedlings_0 8 rfl rfl)
theorem dX2_seedlings_11 : decode cX2_seedlings 11 = .ok (.aload_n 0, 1) := dk_42 (dk_at dksX2_seedlings_0 11 rfl rfl)
theorem dX2_seedlings_12 : decode cX2_seedlings 12 = .ok (.aload_n 0, 1) := dk_42 (dk_at dksX2_seedlings_0 12 rfl rfl)
theorem dX2_seedlings_13 : decode cX2_seedlings 13 = .ok (.getfield 315, 3) := dk_180 1 59 (dk_at dksX2_seedlings_0 13 rfl rfl)
theorem dX2_seedlings_16 : decode cX2_seedlings 16 = .ok (.aload_n 0, 1) := dk_42 (dk_at dksX2_seedlings_0 16 rfl rfl)
theorem dX2_seedlings_17 : decode cX2_seedlings 17 = .ok (.getfield 302, 3) := dk_180 1 46 (dk_at dksX2_seedlings_0 17 rfl rfl)
theorem dX2_seedlings_20 : decode cX2_seedlings 20 = .ok (.i2l, 1) := dk_133 (dk_at dksX2_seedlings_0 20 rfl rfl)
theorem dX2_seedlings_21 : decode cX2_seedlings 21 = .ok (.iconst 1, 1) := dk_4 (dk_at dksX2_seedlings_0 21 rfl rfl)
theorem dX2_seedlings_22 : decode cX2_seedlings 22 = .ok (.invokevirtual 342, 3) := dk_182 1 86 (dk_at dksX2_seedlings_1 0 rfl rfl)
theorem dX2_seedlings_25 : decode cX2_seedlings 25 = .ok (.goto 5, 3) := dk_167 0 5 (dk_at dksX2_seedlings_1 3 rfl rfl)
theorem dX2_seedlings_28 : decode cX2_seedlings 28 = .ok (.bipush (-6), 2) := dk_16 250 (dk_at dksX2_seedlings_1 6 rfl rfl)
theorem dX2_seedlings_30 : decode cX2_seedlings 30 = .ok (.ireturn, 1) := dk_172 (dk_at dksX2_seedlings_1 8 rfl rfl)
abbrev cX2_gain : ByteArray := prog_12_method_86_code
def yX2_gain : MethodName := ⟨RX2, "gain", "(I)I"⟩
def dkwX2_gain_1 : List UInt8 := [180, 1, 74, 42, 180, 1, 46, 133, 4, 182, 1, 86, 167, 0, 5, 16, 250, 172]
abbrev dktX2_gain_1 : List UInt8 := dkwX2_gain_1 ++ []
def dkwX2_gain_0 : List UInt8 := [42, 27, 182, 0, 227, 154, 0, 5, 2, 172, 42, 27, 16, 247, 182, 1, 83, 153, 0, 20, 42, 42]
abbrev dktX2_gain_0 : List UInt8 := dkwX2_gain_0 ++ dktX2_gain_1
theorem dksX2_gain_0 : cX2_gain.data.toList.drop 0 = dktX2_gain_0 := by decide +kernel
theorem dksX2_gain_1 : cX2_gain.data.toList.drop 22 = dktX2_gain_1 := dk_seg dksX2_gain_0 22 rfl rfl
theorem dX2_gain_0 : decode cX2_gain 0 = .ok (.aload_n 0, 1) := dk_42 (dk_at dksX2_gain_0 0 rfl rfl)
theorem dX2_gain_1 : decode cX2_gain 1 = .ok (.iload_n 1, 1) := dk_27 (dk_at dksX2_gain_0 1 rfl rfl)
theorem dX2_gain_2 : decode cX2_gain 2 = .ok (.invokevirtual 227, 3) := dk_182 0 227 (dk_at dksX2_gain_0 2 rfl rfl)
theorem dX2_gain_5 : decode cX2_gain 5 = .ok (.ifCond .ne 5, 3) := dk_154 0 5 (dk_at dksX2_gain_0 5 rfl rfl)
theorem dX2_gain_8 : decode cX2_gain 8 = .ok (.iconst (-1), 1) := dk_2 (dk_at dksX2_gain_0 8 rfl rfl)
theorem dX2_gain_9 : decode cX2_gain 9 = .ok (.ireturn, 1) := dk_172 (dk_at dksX2_gain_0 9 rfl rfl)
theorem dX2_gain_10 : decode cX2_gain 10 = .ok (.aload_n 0, 1) := dk_42 (dk_at dksX2_gain_0 10 rfl rfl)
theorem dX2_gain_11 : decode cX2_gain 11 = .ok (.iload_n 1, 1) := dk_27 (dk_at dksX2_gain_0 11 rfl rfl)
theorem dX2_gain_12 : decode cX2_gain 12 = .ok (.bipush (-9), 2) := dk_16 247 (dk_at dksX2_gain_0 12 rfl rfl)
theorem dX2_gain_14 : decode cX2_gain 14 = .ok (.invokevirtual 339, 3) := dk_182 1 83 (dk_at dksX2_gain_0 14 rfl rfl)
theorem dX2_gain_17 : decode cX2_gain 17 = .ok (.ifCond .eq 20, 3) := dk_153 0 20 (dk_at dksX2_gain_0 17 rfl rfl)
theorem dX2_gain_20 : decode cX2_gain 20 = .ok (.aload_n 0, 1) := dk_42 (dk_at dksX2_gain_0 20 rfl rfl)
theorem dX2_gain_21 : decode cX2_gain 21 = .ok (.aload_n 0, 1) := dk_42 (dk_at dksX2_gain_0 21 rfl rfl)
theorem dX2_gain_22 : decode cX2_gain 22 = .ok (.getfield 330, 3) := dk_180 1 74 (dk_at dksX2_gain_1 0 rfl rfl)
theorem dX2_gain_25 : decode cX2_gain 25 = .ok (.aload_n 0, 1) := dk_42 (dk_at dksX2_gain_1 3 rfl rfl)
theorem dX2_gain_26 : decode cX2_gain 26 = .ok (.getfield 302, 3) := dk_180 1 46 (dk_at dksX2_gain_1 4 rfl rfl)
theorem dX2_gain_29 : decode cX2_gain 29 = .ok (.i2l, 1) := dk_133 (dk_at dksX2_gain_1 7 rfl rfl)
theorem dX2_gain_30 : decode cX2_gain 30 = .ok (.iconst 1, 1) := dk_4 (dk_at dksX2_gain_1 8 rfl rfl)
theorem dX2_gain_31 : decode cX2_gain 31 = .ok (.invokevirtual 342, 3) := dk_182 1 86 (dk_at dksX2_gain_1 9 rfl rfl)
theorem dX2_gain_34 : decode cX2_gain 34 = .ok (.goto 5, 3) := dk_167 0 5 (dk_at dksX2_gain_1 12 rfl rfl)
theorem dX2_gain_37 : decode cX2_gain 37 = .ok (.bipush (-6), 2) := dk_16 250 (dk_at dksX2_gain_1 15 rfl rfl)
theorem dX2_gain_39 : decode cX2_gain 39 = .ok (.ireturn, 1) := dk_172 (dk_at dksX2_gain_1 17 rfl rfl)
abbrev cX2_starve : ByteArray := prog_12_method_87_code
def yX2_starve : MethodName := ⟨RX2, "starve", "(I)I"⟩
def dkwX2_starve_1 : List UInt8 := [167, 0, 5, 16, 250, 172]
abbrev dktX2_starve_1 : List UInt8 := dkwX2_starve_1 ++ []
def dkwX2_starve_0 : List UInt8 := [42, 27, 182, 0, 221, 154, 0, 5, 2, 172, 42, 16, 247, 27, 182, 1, 83, 153, 0, 10, 42, 180, 1, 77]
abbrev dktX2_starve_0 : List UInt8 := dkwX2_starve_0 ++ dktX2_starve_1
theorem dksX2_starve_0 : cX2_starve.data.toList.drop 0 = dktX2_starve_0 := by decide +kernel
theorem dksX2_starve_1 : cX2_starve.data.toList.drop 24 = dktX2_starve_1 := dk_seg dksX2_starve_0 24 rfl rfl
theorem dX2_starve_0 : decode cX2_starve 0 = .ok (.aload_n 0, 1) := dk_42 (dk_at dksX2_starve_0 0 rfl rfl)
theorem dX2_starve_1 : decode cX2_starve 1 = .ok (.iload_n 1, 1) := dk_27 (dk_at dksX2_starve_0 1 rfl rfl)
theorem dX2_starve_2 : decode cX2_starve 2 = .ok (.invokevirtual 221, 3) := dk_182 0 221 (dk_at dksX2_starve_0 2 rfl rfl)
theorem dX2_starve_5 : decode cX2_starve 5 = .ok (.ifCond .ne 5, 3) := dk_154 0 5 (dk_at dksX2_starve_0 5 rfl rfl)
theorem dX2_starve_8 : decode cX2_starve 8 = .ok (.iconst (-1), 1) := dk_2 (dk_at dksX2_starve_0 8 rfl rfl)
theorem dX2_starve_9 : decode cX2_starve 9 = .ok (.ireturn, 1) := dk_172 (dk_at dksX2_starve_0 9 rfl rfl)
theorem dX2_starve_10 : decode cX2_starve 10 = .ok (.aload_n 0, 1) := dk_42 (dk_at dksX2_starve_0 10 rfl rfl)
theorem dX2_starve_11 : decode cX2_starve 11 = .ok (.bipush (-9), 2) := dk_16 247 (dk_at dksX2_starve_0 11 rfl rfl)
theorem dX2_starve_13 : decode cX2_starve 13 = .ok (.iload_n 1, 1) := dk_27 (dk_at dksX2_starve_0 13 rfl rfl)
theorem dX2_starve_14 : decode cX2_starve 14 = .ok (.invokevirtual 339, 3) := dk_182 1 83 (dk_at dksX2_starve_0 14 rfl rfl)
theorem dX2_starve_17 : decode cX2_starve 17 = .ok (.ifCond .eq 10, 3) := dk_153 0 10 (dk_at dksX2_starve_0 17 rfl rfl)
theorem dX2_starve_20 : decode cX2_starve 20 = .ok (.aload_n 0, 1) := dk_42 (dk_at dksX2_starve_0 20 rfl rfl)
theorem dX2_starve_21 : decode cX2_starve 21 = .ok (.getfield 333, 3) := dk_180 1 77 (dk_at dksX2_starve_0 21 rfl rfl)
theorem dX2_starve_24 : decode cX2_starve 24 = .ok (.goto 5, 3) := dk_167 0 5 (dk_at dksX2_starve_1 0 rfl rfl)
theorem dX2_starve_27 : decode cX2_starve 27 = .ok (.bipush (-6), 2) := dk_16 250 (dk_at dksX2_starve_1 3 rfl rfl)
theorem dX2_starve_29 : decode cX2_starve 29 = .ok (.ireturn, 1) := dk_172 (dk_at dksX2_starve_1 5 rfl rfl)
abbrev cX2_better : ByteArray := prog_12_method_90_code
def yX2_better : MethodName := ⟨RX2, "better", "(II)I"⟩
def dkwX2_better_2 : List UInt8 := [182, 1, 86, 172]
abbrev dktX2_better_2 : List UInt8 := dkwX2_better_2 ++ []
def dkwX2_better_1 : List UInt8 := [62, 29, 16, 247, 160, 0, 8, 16, 250, 167, 0, 17, 42, 42, 180, 1, 94, 42, 180, 1, 97, 133, 29]
abbrev dktX2_better_1 : List UInt8 := dkwX2_better_1 ++ dktX2_better_2
def dkwX2_better_0 : List UInt8 := [42, 27, 182, 0, 227, 153, 0, 11, 42, 28, 182, 0, 212, 154, 0, 5, 2, 172, 42, 27, 28, 182, 1, 103]
abbrev dktX2_better_0 : List UInt8 := dkwX2_better_0 ++ dktX2_better_1
theorem dksX2_better_0 : cX2_better.data.toList.drop 0 = dktX2_better_0 := by decide +kernel
theorem dksX2_better_1 : cX2_better.data.toList.drop 24 = dktX2_better_1 := dk_seg dksX2_better_0 24 rfl rfl
theorem dksX2_better_2 : cX2_better.data.toList.drop 47 = dktX2_better_2 := dk_seg dksX2_better_1 23 rfl rfl
theorem dX2_better_0 : decode cX2_better 0 = .ok (.aload_n 0, 1) := dk_42 (dk_at dksX2_better_0 0 rfl rfl)
theorem dX2_better_1 : decode cX2_better 1 = .ok (.iload_n 1, 1) := dk_27 (dk_at dksX2_better_0 1 rfl rfl)
theorem dX2_better_2 : decode cX2_better 2 = .ok (.invokevirtual 227, 3) := dk_182 0 227 (dk_at dksX2_better_0 2 rfl rfl)
theorem dX2_better_5 : decode cX2_better 5 = .ok (.ifCond .eq 11, 3) := dk_153 0 11 (dk_at dksX2_better_0 5 rfl rfl)
theorem dX2_better_8 : decode cX2_better 8 = .ok (.aload_n 0, 1) := dk_42 (dk_at dksX2_better_0 8 rfl rfl)
theorem dX2_better_9 : decode cX2_better 9 = .ok (.iload_n 2, 1) := dk_28 (dk_at dksX2_better_0 9 rfl rfl)
theorem dX2_better_10 : decode cX2_better 10 = .ok (.invokevirtual 212, 3) := dk_182 0 212 (dk_at dksX2_better_0 10 rfl rfl)
theorem dX2_better_13 : decode cX2_better 13 = .ok (.ifCond .ne 5, 3) := dk_154 0 5 (dk_at dksX2_better_0 13 rfl rfl)
theorem dX2_better_16 : decode cX2_better 16 = .ok (.iconst (-1), 1) := dk_2 (dk_at dksX2_better_0 16 rfl rfl)
theorem dX2_better_17 : decode cX2_better 17 = .ok (.ireturn, 1) := dk_172 (dk_at dksX2_better_0 17 rfl rfl)
theorem dX2_better_18 : decode cX2_better 18 = .ok (.aload_n 0, 1) := dk_42 (dk_at dksX2_better_0 18 rfl rfl)
theorem dX2_better_19 : decode cX2_better 19 = .ok (.iload_n 1, 1) := dk_27 (dk_at dksX2_better_0 19 rfl rfl)
theorem dX2_better_20 : decode cX2_better 20 = .ok (.iload_n 2, 1) := dk_28 (dk_at dksX2_better_0 20 rfl rfl)
theorem dX2_better_21 : decode cX2_better 21 = .ok (.invokevirtual 359, 3) := dk_182 1 103 (dk_at dksX2_better_0 21 rfl rfl)
theorem dX2_better_24 : decode cX2_better 24 = .ok (.istore_n 3, 1) := dk_62 (dk_at dksX2_better_1 0 rfl rfl)
theorem dX2_better_25 : decode cX2_better 25 = .ok (.iload_n 3, 1) := dk_29 (dk_at dksX2_better_1 1 rfl rfl)
theorem dX2_better_26 : decode cX2_better 26 = .ok (.bipush (-9), 2) := dk_16 247 (dk_at dksX2_better_1 2 rfl rfl)
theorem dX2_better_28 : decode cX2_better 28 = .ok (.if_icmp .ne 8, 3) := dk_160 0 8 (dk_at dksX2_better_1 4 rfl rfl)
theorem dX2_better_31 : decode cX2_better 31 = .ok (.bipush (-6), 2) := dk_16 250 (dk_at dksX2_better_1 7 rfl rfl)
theorem dX2_better_33 : decode cX2_better 33 = .ok (.goto 17, 3) := dk_167 0 17 (dk_at dksX2_better_1 9 rfl rfl)
theorem dX2_better_36 : decode cX2_better 36 = .ok (.aload_n 0, 1) := dk_42 (dk_at dksX2_better_1 12 rfl rfl)
theorem dX2_better_37 : decode cX2_better 37 = .ok (.aload_n 0, 1) := dk_42 (dk_at dksX2_better_1 13 rfl rfl)
theorem dX2_better_38 : decode cX2_better 38 = .ok (.getfield 350, 3) := dk_180 1 94 (dk_at dksX2_better_1 14 rfl rfl)
theorem dX2_better_41 : decode cX2_better 41 = .ok (.aload_n 0, 1) := dk_42 (dk_at dksX2_better_1 17 rfl rfl)
theorem dX2_better_42 : decode cX2_better 42 = .ok (.getfield 353, 3) := dk_180 1 97 (dk_at dksX2_better_1 18 rfl rfl)
theorem dX2_better_45 : decode cX2_better 45 = .ok (.i2l, 1) := dk_133 (dk_at dksX2_better_1 21 rfl rfl)
theorem dX2_better_46 : decode cX2_better 46 = .ok (.iload_n 3, 1) := dk_29 (dk_at dksX2_better_1 22 rfl rfl)
theorem dX2_better_47 : decode cX2_better 47 = .ok (.invokevirtual 342, 3) := dk_182 1 86 (dk_at dksX2_better_2 0 rfl rfl)
theorem dX2_better_50 : decode cX2_better 50 = .ok (.ireturn, 1) := dk_172 (dk_at dksX2_better_2 3 rfl rfl)
abbrev cX2_howBy : ByteArray := prog_12_method_89_code
def yX2_howBy : MethodName := ⟨RX2, "howBy", "(II)I"⟩
def dkwX2_howBy_3 : List UInt8 := [180, 1, 97, 133, 33, 21, 5, 133, 184, 1, 90, 153, 0, 7, 5, 167, 0, 4, 3, 172]
abbrev dktX2_howBy_3 : List UInt8 := dkwX2_howBy_3 ++ []
def dkwX2_howBy_2 : List UInt8 := [180, 1, 94, 42, 180, 1, 97, 133, 184, 1, 90, 153, 0, 7, 4, 167, 0, 27, 42, 180, 1, 94, 42]
abbrev dktX2_howBy_2 : List UInt8 := dkwX2_howBy_2 ++ dktX2_howBy_3
def dkwX2_howBy_1 : List UInt8 := [180, 1, 97, 54, 5, 42, 27, 28, 182, 1, 100, 154, 0, 6, 16, 247, 172, 33, 21, 5, 133, 42]
abbrev dktX2_howBy_1 : List UInt8 := dkwX2_howBy_1 ++ dktX2_howBy_2
def dkwX2_howBy_0 : List UInt8 := [42, 27, 42, 180, 0, 65, 27, 46, 182, 1, 100, 154, 0, 6, 16, 247, 172, 42, 180, 1, 94, 66, 42]
abbrev dktX2_howBy_0 : List UInt8 := dkwX2_howBy_0 ++ dktX2_howBy_1
theorem dksX2_howBy_0 : cX2_howBy.data.toList.drop 0 = dktX2_howBy_0 := by decide +kernel
theorem dksX2_howBy_1 : cX2_howBy.data.toList.drop 23 = dktX2_howBy_1 := dk_seg dksX2_howBy_0 23 rfl rfl
theorem dksX2_howBy_2 : cX2_howBy.data.toList.drop 45 = dktX2_howBy_2 := dk_seg dksX2_howBy_1 22 rfl rfl
theorem dksX2_howBy_3 : cX2_howBy.data.toList.drop 68 = dktX2_howBy_3 := dk_seg dksX2_howBy_2 23 rfl rfl
theorem dX2_howBy_0 : decode cX2_howBy 0 = .ok (.aload_n 0, 1) := dk_42 (dk_at dksX2_howBy_0 0 rfl rfl)
theorem dX2_howBy_1 : decode cX2_howBy 1 = .ok (.iload_n 1, 1) := dk_27 (dk_at dksX2_howBy_0 1 rfl rfl)
theorem dX2_howBy_2 : decode cX2_howBy 2 = .ok (.aload_n 0, 1) := dk_42 (dk_at dksX2_howBy_0 2 rfl rfl)
theorem dX2_howBy_3 : decode cX2_howBy 3 = .ok (.getfield 65, 3) := dk_180 0 65 (dk_at dksX2_howBy_0 3 rfl rfl)
theorem dX2_howBy_6 : decode cX2_howBy 6 = .ok (.iload_n 1, 1) := dk_27 (dk_at dksX2_howBy_0 6 rfl rfl)
theorem dX2_howBy_7 : decode cX2_howBy 7 = .ok (.iaload, 1) := dk_46 (dk_at dksX2_howBy_0 7 rfl rfl)
theorem dX2_howBy_8 : decode cX2_howBy 8 = .ok (.invokevirtual 356, 3) := dk_182 1 100 (dk_at dksX2_howBy_0 8 rfl rfl)
theorem dX2_howBy_11 : decode cX2_howBy 11 = .ok (.ifCond .ne 6, 3) := dk_154 0 6 (dk_at dksX2_howBy_0 11 rfl rfl)
theorem dX2_howBy_14 : decode cX2_howBy 14 = .ok (.bipush (-9), 2) := dk_16 247 (dk_at dksX2_howBy_0 14 rfl rfl)
theorem dX2_howBy_16 : decode cX2_howBy 16 = .ok (.ireturn, 1) := dk_172 (dk_at dksX2_howBy_0 16 rfl rfl)
theorem dX2_howBy_17 : decode cX2_howBy 17 = .ok (.aload_n 0, 1) := dk_42 (dk_at dksX2_howBy_0 17 rfl rfl)
theorem dX2_howBy_18 : decode cX2_howBy 18 = .ok (.getfield 350, 3) := dk_180 1 94 (dk_at dksX2_howBy_0 18 rfl rfl)
theorem dX2_howBy_21 : decode cX2_howBy 21 = .ok (.lstore_n 3, 1) := dk_66 (dk_at dksX2_howBy_0 21 rfl rfl)
theorem dX2_howBy_22 : decode cX2_howBy 22 = .ok (.aload_n 0, 1) := dk_42 (dk_at dksX2_howBy_0 22 rfl rfl)
theorem dX2_howBy_23 : decode cX2_howBy 23 = .ok (.getfield 353, 3) := dk_180 1 97 (dk_at dksX2_howBy_1 0 rfl rfl)
theorem dX2_howBy_26 : decode cX2_howBy 26 = .ok (.istore 5, 2) := dk_54 5 (dk_at dksX2_howBy_1 3 rfl rfl)
theorem dX2_howBy_28 : decode cX2_howBy 28 = .ok (.aload_n 0, 1) := dk_42 (dk_at dksX2_howBy_1 5 rfl rfl)
theorem dX2_howBy_29 : decode cX2_howBy 29 = .ok (.iload_n 1, 1) := dk_27 (dk_at dksX2_howBy_1 6 rfl rfl)
theorem dX2_howBy_30 : decode cX2_howBy 30 = .ok (.iload_n 2, 1) := dk_28 (dk_at dksX2_howBy_1 7 rfl rfl)
theorem dX2_howBy_31 : decode cX2_howBy 31 = .ok (.invokevirtual 356, 3) := dk_182 1 100 (dk_at dksX2_howBy_1 8 rfl rfl)
theorem dX2_howBy_34 : decode cX2_howBy 34 = .ok (.ifCond .ne 6, 3) := dk_154 0 6 (dk_at dksX2_howBy_1 11 rfl rfl)
theorem dX2_howBy_37 : decode cX2_howBy 37 = .ok (.bipush (-9), 2) := dk_16 247 (dk_at dksX2_howBy_1 14 rfl rfl)
theorem dX2_howBy_39 : decode cX2_howBy 39 = .ok (.ireturn, 1) := dk_172 (dk_at dksX2_howBy_1 16 rfl rfl)
theorem dX2_howBy_40 : decode cX2_howBy 40 = .ok (.lload_n 3, 1) := dk_33 (dk_at dksX2_howBy_1 17 rfl rfl)
theorem dX2_howBy_41 : decode cX2_howBy 41 = .ok (.iload 5, 2) := dk_21 5 (dk_at dksX2_howBy_1 18 rfl rfl)
theorem dX2_howBy_43 : decode cX2_howBy 43 = .ok (.i2l, 1) := dk_133 (dk_at dksX2_howBy_1 20 rfl rfl)
theorem dX2_howBy_44 : decode cX2_howBy 44 = .ok (.aload_n 0, 1) := dk_42 (dk_at dksX2_howBy_1 21 rfl rfl)
theorem dX2_howBy_45 : decode cX2_howBy 45 = .ok (.getfield 350, 3) := dk_180 1 94 (dk_at dksX2_howBy_2 0 rfl rfl)
theorem dX2_howBy_48 : decode cX2_howBy 48 = .ok (.aload_n 0, 1) := dk_42 (dk_at dksX2_howBy_2 3 rfl rfl)
theorem dX2_howBy_49 : decode cX2_howBy 49 = .ok (.getfield 353, 3) := dk_180 1 97 (dk_at dksX2_howBy_2 4 rfl rfl)
theorem dX2_howBy_52 : decode cX2_howBy 52 = .ok (.i2l, 1) := dk_133 (dk_at dksX2_howBy_2 7 rfl rfl)
theorem dX2_howBy_53 : decode cX2_howBy 53 = .ok (.invokestatic 346, 3) := dk_184 1 90 (dk_at dksX2_howBy_2 8 rfl rfl)
theorem dX2_howBy_56 : decode cX2_howBy 56 = .ok (.ifCond .eq 7, 3) := dk_153 0 7 (dk_at dksX2_howBy_2 11 rfl rfl)
theorem dX2_howBy_59 : decode cX2_howBy 59 = .ok (.iconst 1, 1) := dk_4 (dk_at dksX2_howBy_2 14 rfl rfl)
theorem dX2_howBy_60 : decode cX2_howBy 60 = .ok (.goto 27, 3) := dk_167 0 27 (dk_at dksX2_howBy_2 15 rfl rfl)
theorem dX2_howBy_63 : decode cX2_howBy 63 = .ok (.aload_n 0, 1) := dk_42 (dk_at dksX2_howBy_2 18 rfl rfl)
theorem dX2_howBy_64 : decode cX2_howBy 64 = .ok (.getfield 350, 3) := dk_180 1 94 (dk_at dksX2_howBy_2 19 rfl rfl)
theorem dX2_howBy_67 : decode cX2_howBy 67 = .ok (.aload_n 0, 1) := dk_42 (dk_at dksX2_howBy_2 22 rfl rfl)
theorem dX2_howBy_68 : decode cX2_howBy 68 = .ok (.getfield 353, 3) := dk_180 1 97 (dk_at dksX2_howBy_3 0 rfl rfl)
theorem dX2_howBy_71 : decode cX2_howBy 71 = .ok (.i2l, 1) := dk_133 (dk_at dksX2_howBy_3 3 rfl rfl)
theorem dX2_howBy_72 : decode cX2_howBy 72 = .ok (.lload_n 3, 1) := dk_33 (dk_at dksX2_howBy_3 4 rfl rfl)
theorem dX2_howBy_73 : decode cX2_howBy 73 = .ok (.iload 5, 2) := dk_21 5 (dk_at dksX2_howBy_3 5 rfl rfl)
theorem dX2_howBy_75 : decode cX2_howBy 75 = .ok (.i2l, 1) := dk_133 (dk_at dksX2_howBy_3 7 rfl rfl)
theorem dX2_howBy_76 : decode cX2_howBy 76 = .ok (.invokestatic 346, 3) := dk_184 1 90 (dk_at dksX2_howBy_3 8 rfl rfl)
theorem dX2_howBy_79 : decode cX2_howBy 79 = .ok (.ifCond .eq 7, 3) := dk_153 0 7 (dk_at dksX2_howBy_3 11 rfl rfl)
theorem dX2_howBy_82 : decode cX2_howBy 82 = .ok (.iconst 2, 1) := dk_5 (dk_at dksX2_howBy_3 14 rfl rfl)
theorem dX2_howBy_83 : decode cX2_howBy 83 = .ok (.goto 4, 3) := dk_167 0 4 (dk_at dksX2_howBy_3 15 rfl rfl)
theorem dX2_howBy_86 : decode cX2_howBy 86 = .ok (.iconst 0, 1) := dk_3 (dk_at dksX2_howBy_3 18 rfl rfl)
theorem dX2_howBy_87 : decode cX2_howBy 87 = .ok (.ireturn, 1) := dk_172 (dk_at dksX2_howBy_3 19 rfl rfl)
abbrev cX2_laySort : ByteArray := prog_12_method_88_code
def yX2_laySort : MethodName := ⟨RX2, "laySort", "(II)Z"⟩
def dkwX2_laySort_2 : List UInt8 := [172]
abbrev dktX2_laySort_2 : List UInt8 := dkwX2_laySort_2 ++ []
def dkwX2_laySort_1 : List UInt8 := [180, 0, 65, 27, 29, 79, 42, 42, 180, 1, 74, 181, 1, 94, 42, 42, 180, 1, 46, 181, 1, 97, 21, 4]
abbrev dktX2_laySort_1 : List UInt8 := dkwX2_laySort_1 ++ dktX2_laySort_2
def dkwX2_laySort_0 : List UInt8 := [42, 180, 0, 65, 27, 46, 62, 42, 180, 0, 65, 27, 28, 79, 42, 27, 16, 247, 182, 1, 83, 54, 4, 42]
abbrev dktX2_laySort_0 : List UInt8 := dkwX2_laySort_0 ++ dktX2_laySort_1
theorem dksX2_laySort_0 : cX2_laySort.data.toList.drop 0 = dktX2_laySort_0 := by decide +kernel
theorem dksX2_laySort_1 : cX2_laySort.data.toList.drop 24 = dktX2_laySort_1 := dk_seg dksX2_laySort_0 24 rfl rfl
theorem dksX2_laySort_2 : cX2_laySort.data.toList.drop 48 = dktX2_laySort_2 := dk_seg dksX2_laySort_1 24 rfl rfl
theorem dX2_laySort_0 : decode cX2_laySort 0 = .ok (.aload_n 0, 1) := dk_42 (dk_at dksX2_laySort_0 0 rfl rfl)
theorem dX2_laySort_1 : decode cX2_laySort 1 = .ok (.getfield 65, 3) := dk_180 0 65 (dk_at dksX2_laySort_0 1 rfl rfl)
theorem dX2_laySort_4 : decode cX2_laySort 4 = .ok (.iload_n 1, 1) := dk_27 (dk_at dksX2_laySort_0 4 rfl rfl)
theorem dX2_laySort_5 : decode cX2_laySort 5 = .ok (.iaload, 1) := dk_46 (dk_at dksX2_laySort_0 5 rfl rfl)
theorem dX2_laySort_6 : decode cX2_laySort 6 = .ok (.istore_n 3, 1) := dk_62 (dk_at dksX2_laySort_0 6 rfl rfl)
theorem dX2_laySort_7 : decode cX2_laySort 7 = .ok (.aload_n 0, 1) := dk_42 (dk_at dksX2_laySort_0 7 rfl rfl)
theorem dX2_laySort_8 : decode cX2_laySort 8 = .ok (.getfield 65, 3) := dk_180 0 65 (dk_at dksX2_laySort_0 8 rfl rfl)
theorem dX2_laySort_11 : decode cX2_laySort 11 = .ok (.iload_n 1, 1) := dk_27 (dk_at dksX2_laySort_0 11 rfl rfl)
theorem dX2_laySort_12 : decode cX2_laySort 12 = .ok (.iload_n 2, 1) := dk_28 (dk_at dksX2_laySort_0 12 rfl rfl)
theorem dX2_laySort_13 : decode cX2_laySort 13 = .ok (.iastore, 1) := dk_79 (dk_at dksX2_laySort_0 13 rfl rfl)
theorem dX2_laySort_14 : decode cX2_laySort 14 = .ok (.aload_n 0, 1) := dk_42 (dk_at dksX2_laySort_0 14 rfl rfl)
theorem dX2_laySort_15 : decode cX2_laySort 15 = .ok (.iload_n 1, 1) := dk_27 (dk_at dksX2_laySort_0 15 rfl rfl)
theorem dX2_laySort_16 : decode cX2_laySort 16 = .ok (.bipush (-9), 2) := dk_16 247 (dk_at dksX2_laySort_0 16 rfl rfl)
theorem dX2_laySort_18 : decode cX2_laySort 18 = .ok (.invokevirtual 339, 3) := dk_182 1 83 (dk_at dksX2_laySort_0 18 rfl rfl)
theorem dX2_laySort_21 : decode cX2_laySort 21 = .ok (.istore 4, 2) := dk_54 4 (dk_at dksX2_laySort_0 21 rfl rfl)
theorem dX2_laySort_23 : decode cX2_laySort 23 = .ok (.aload_n 0, 1) := dk_42 (dk_at dksX2_laySort_0 23 rfl rfl)
theorem dX2_laySort_24 : decode cX2_laySort 24 = .ok (.getfield 65, 3) := dk_180 0 65 (dk_at dksX2_laySort_1 0 rfl rfl)
theorem dX2_laySort_27 : decode cX2_laySort 27 = .ok (.iload_n 1, 1) := dk_27 (dk_at dksX2_laySort_1 3 rfl rfl)
theorem dX2_laySort_28 : decode cX2_laySort 28 = .ok (.iload_n 3, 1) := dk_29 (dk_at dksX2_laySort_1 4 rfl rfl)
theorem dX2_laySort_29 : decode cX2_laySort 29 = .ok (.iastore, 1) := dk_79 (dk_at dksX2_laySort_1 5 rfl rfl)
theorem dX2_laySort_30 : decode cX2_laySort 30 = .ok (.aload_n 0, 1) := dk_42 (dk_at dksX2_laySort_1 6 rfl rfl)
theorem dX2_laySort_31 : decode cX2_laySort 31 = .ok (.aload_n 0, 1) := dk_42 (dk_at dksX2_laySort_1 7 rfl rfl)
theorem dX2_laySort_32 : decode cX2_laySort 32 = .ok (.getfield 330, 3) := dk_180 1 74 (dk_at dksX2_laySort_1 8 rfl rfl)
theorem dX2_laySort_35 : decode cX2_laySort 35 = .ok (.putfield 350, 3) := dk_181 1 94 (dk_at dksX2_laySort_1 11 rfl rfl)
theorem dX2_laySort_38 : decode cX2_laySort 38 = .ok (.aload_n 0, 1) := dk_42 (dk_at dksX2_laySort_1 14 rfl rfl)
theorem dX2_laySort_39 : decode cX2_laySort 39 = .ok (.aload_n 0, 1) := dk_42 (dk_at dksX2_laySort_1 15 rfl rfl)
theorem dX2_laySort_40 : decode cX2_laySort 40 = .ok (.getfield 302, 3) := dk_180 1 46 (dk_at dksX2_laySort_1 16 rfl rfl)
theorem dX2_laySort_43 : decode cX2_laySort 43 = .ok (.putfield 353, 3) := dk_181 1 97 (dk_at dksX2_laySort_1 19 rfl rfl)
theorem dX2_laySort_46 : decode cX2_laySort 46 = .ok (.iload 4, 2) := dk_21 4 (dk_at dksX2_laySort_1 22 rfl rfl)
theorem dX2_laySort_48 : decode cX2_laySort 48 = .ok (.ireturn, 1) := dk_172 (dk_at dksX2_laySort_2 0 rfl rfl)
abbrev cX2_hold : ByteArray := prog_12_method_91_code
def yX2_hold : MethodName := ⟨RX2, "hold", "()I"⟩
def dkwX2_hold_2 : List UInt8 := [28, 96, 172, 132, 2, 1, 167, 255, 228, 132, 1, 1, 167, 255, 212, 16, 247, 172]
abbrev dktX2_hold_2 : List UInt8 := dkwX2_hold_2 ++ []
def dkwX2_hold_1 : List UInt8 := [3, 61, 28, 42, 180, 0, 191, 162, 0, 26, 42, 27, 28, 182, 1, 103, 4, 160, 0, 10, 16, 10, 27, 104]
abbrev dktX2_hold_1 : List UInt8 := dkwX2_hold_1 ++ dktX2_hold_2
def dkwX2_hold_0 : List UInt8 := [42, 182, 1, 49, 154, 0, 6, 16, 250, 172, 42, 182, 1, 40, 3, 60, 27, 42, 180, 0, 203, 162, 0, 42]
abbrev dktX2_hold_0 : List UInt8 := dkwX2_hold_0 ++ dktX2_hold_1
theorem dksX2_hold_0 : cX2_hold.data.toList.drop 0 = dktX2_hold_0 := by decide +kernel
theorem dksX2_hold_1 : cX2_hold.data.toList.drop 24 = dktX2_hold_1 := dk_seg dksX2_hold_0 24 rfl rfl
theorem dksX2_hold_2 : cX2_hold.data.toList.drop 48 = dktX2_hold_2 := dk_seg dksX2_hold_1 24 rfl rfl
theorem dX2_hold_0 : decode cX2_hold 0 = .ok (.aload_n 0, 1) := dk_42 (dk_at dksX2_hold_0 0 rfl rfl)
theorem dX2_hold_1 : decode cX2_hold 1 = .ok (.invokevirtual 305, 3) := dk_182 1 49 (dk_at dksX2_hold_0 1 rfl rfl)
theorem dX2_hold_4 : decode cX2_hold 4 = .ok (.ifCond .ne 6, 3) := dk_154 0 6 (dk_at dksX2_hold_0 4 rfl rfl)
theorem dX2_hold_7 : decode cX2_hold 7 = .ok (.bipush (-6), 2) := dk_16 250 (dk_at dksX2_hold_0 7 rfl rfl)
theorem dX2_hold_9 : decode cX2_hold 9 = .ok (.ireturn, 1) := dk_172 (dk_at dksX2_hold_0 9 rfl rfl)
theorem dX2_hold_10 : decode cX2_hold 10 = .ok (.aload_n 0, 1) := dk_42 (dk_at dksX2_hold_0 10 rfl rfl)
theorem dX2_hold_11 : decode cX2_hold 11 = .ok (.invokevirtual 296, 3) := dk_182 1 40 (dk_at dksX2_hold_0 11 rfl rfl)
theorem dX2_hold_14 : decode cX2_hold 14 = .ok (.iconst 0, 1) := dk_3 (dk_at dksX2_hold_0 14 rfl rfl)
theorem dX2_hold_15 : decode cX2_hold 15 = .ok (.istore_n 1, 1) := dk_60 (dk_at dksX2_hold_0 15 rfl rfl)
theorem dX2_hold_16 : decode cX2_hold 16 = .ok (.iload_n 1, 1) := dk_27 (dk_at dksX2_hold_0 16 rfl rfl)
theorem dX2_hold_17 : decode cX2_hold 17 = .ok (.aload_n 0, 1) := dk_42 (dk_at dksX2_hold_0 17 rfl rfl)
theorem dX2_hold_18 : decode cX2_hold 18 = .ok (.getfield 203, 3) := dk_180 0 203 (dk_at dksX2_hold_0 18 rfl rfl)
theorem dX2_hold_21 : decode cX2_hold 21 = .ok (.if_icmp .ge 42, 3) := dk_162 0 42 (dk_at dksX2_hold_0 21 rfl rfl)
theorem dX2_hold_24 : decode cX2_hold 24 = .ok (.iconst 0, 1) := dk_3 (dk_at dksX2_hold_1 0 rfl rfl)
theorem dX2_hold_25 : decode cX2_hold 25 = .ok (.istore_n 2, 1) := dk_61 (dk_at dksX2_hold_1 1 rfl rfl)
theorem dX2_hold_26 : decode cX2_hold 26 = .ok (.iload_n 2, 1) := dk_28 (dk_at dksX2_hold_1 2 rfl rfl)
theorem dX2_hold_27 : decode cX2_hold 27 = .ok (.aload_n 0, 1) := dk_42 (dk_at dksX2_hold_1 3 rfl rfl)
theorem dX2_hold_28 : decode cX2_hold 28 = .ok (.getfield 191, 3) := dk_180 0 191 (dk_at dksX2_hold_1 4 rfl rfl)
theorem dX2_hold_31 : decode cX2_hold 31 = .ok (.if_icmp .ge 26, 3) := dk_162 0 26 (dk_at dksX2_hold_1 7 rfl rfl)
theorem dX2_hold_34 : decode cX2_hold 34 = .ok (.aload_n 0, 1) := dk_42 (dk_at dksX2_hold_1 10 rfl rfl)
theorem dX2_hold_35 : decode cX2_hold 35 = .ok (.iload_n 1, 1) := dk_27 (dk_at dksX2_hold_1 11 rfl rfl)
theorem dX2_hold_36 : decode cX2_hold 36 = .ok (.iload_n 2, 1) := dk_28 (dk_at dksX2_hold_1 12 rfl rfl)
theorem dX2_hold_37 : decode cX2_hold 37 = .ok (.invokevirtual 359, 3) := dk_182 1 103 (dk_at dksX2_hold_1 13 rfl rfl)
theorem dX2_hold_40 : decode cX2_hold 40 = .ok (.iconst 1, 1) := dk_4 (dk_at dksX2_hold_1 16 rfl rfl)
theorem dX2_hold_41 : decode cX2_hold 41 = .ok (.if_icmp .ne 10, 3) := dk_160 0 10 (dk_at dksX2_hold_1 17 rfl rfl)
theorem dX2_hold_44 : decode cX2_hold 44 = .ok (.bipush 10, 2) := dk_16 10 (dk_at dksX2_hold_1 20 rfl rfl)
theorem dX2_hold_46 : decode cX2_hold 46 = .ok (.iload_n 1, 1) := dk_27 (dk_at dksX2_hold_1 22 rfl rfl)
theorem dX2_hold_47 : decode cX2_hold 47 = .ok (.imul, 1) := dk_104 (dk_at dksX2_hold_1 23 rfl rfl)
theorem dX2_hold_48 : decode cX2_hold 48 = .ok (.iload_n 2, 1) := dk_28 (dk_at dksX2_hold_2 0 rfl rfl)
theorem dX2_hold_49 : decode cX2_hold 49 = .ok (.iadd, 1) := dk_96 (dk_at dksX2_hold_2 1 rfl rfl)
theorem dX2_hold_50 : decode cX2_hold 50 = .ok (.ireturn, 1) := dk_172 (dk_at dksX2_hold_2 2 rfl rfl)
theorem dX2_hold_51 : decode cX2_hold 51 = .ok (.iinc 2 1, 3) := dk_132 2 1 (dk_at dksX2_hold_2 3 rfl rfl)
theorem dX2_hold_54 : decode cX2_hold 54 = .ok (.goto (-28), 3) := dk_167 255 228 (dk_at dksX2_hold_2 6 rfl rfl)
theorem dX2_hold_57 : decode cX2_hold 57 = .ok (.iinc 1 1, 3) := dk_132 1 1 (dk_at dksX2_hold_2 9 rfl rfl)
theorem dX2_hold_60 : decode cX2_hold 60 = .ok (.goto (-44), 3) := dk_167 255 212 (dk_at dksX2_hold_2 12 rfl rfl)
theorem dX2_hold_63 : decode cX2_hold 63 = .ok (.bipush (-9), 2) := dk_16 247 (dk_at dksX2_hold_2 15 rfl rfl)
theorem dX2_hold_65 : decode cX2_hold 65 = .ok (.ireturn, 1) := dk_172 (dk_at dksX2_hold_2 17 rfl rfl)
abbrev cX2_step : ByteArray := prog_12_method_92_code
def yX2_step : MethodName := ⟨RX2, "step", "(II)I"⟩
def dkwX2_step_5 : List UInt8 := [182, 1, 40, 29, 172]
abbrev dktX2_step_5 : List UInt8 := dkwX2_step_5 ++ []
def dkwX2_step_4 : List UInt8 := [21, 5, 21, 6, 159, 0, 8, 21, 4, 167, 0, 5, 16, 247, 62, 132, 4, 1, 167, 255, 182, 42]
abbrev dktX2_step_4 : List UInt8 := dkwX2_step_4 ++ dktX2_step_5
def dkwX2_step_3 : List UInt8 := [167, 0, 4, 3, 54, 5, 42, 180, 0, 242, 27, 2, 130, 126, 153, 0, 7, 4, 167, 0, 4, 3, 54, 6]
abbrev dktX2_step_3 : List UInt8 := dkwX2_step_3 ++ dktX2_step_4
def dkwX2_step_2 : List UInt8 := [160, 0, 68, 42, 42, 182, 1, 17, 27, 3, 182, 1, 13, 42, 180, 0, 242, 27, 126, 153, 0, 7, 4]
abbrev dktX2_step_2 : List UInt8 := dkwX2_step_2 ++ dktX2_step_3
def dkwX2_step_1 : List UInt8 := [154, 0, 5, 2, 172, 42, 182, 1, 30, 16, 247, 62, 4, 54, 4, 21, 4, 28, 163, 0, 74, 29, 16, 247]
abbrev dktX2_step_1 : List UInt8 := dkwX2_step_1 ++ dktX2_step_2
def dkwX2_step_0 : List UInt8 := [27, 4, 4, 42, 180, 0, 203, 120, 5, 100, 184, 0, 104, 153, 0, 14, 28, 4, 17, 0, 200, 184, 0, 104]
abbrev dktX2_step_0 : List UInt8 := dkwX2_step_0 ++ dktX2_step_1
theorem dksX2_step_0 : cX2_step.data.toList.drop 0 = dktX2_step_0 := by decide +kernel
theorem dksX2_step_1 : cX2_step.data.toList.drop 24 = dktX2_step_1 := dk_seg dksX2_step_0 24 rfl rfl
theorem dksX2_step_2 : cX2_step.data.toList.drop 48 = dktX2_step_2 := dk_seg dksX2_step_1 24 rfl rfl
theorem dksX2_step_3 : cX2_step.data.toList.drop 71 = dktX2_step_3 := dk_seg dksX2_step_2 23 rfl rfl
theorem dksX2_step_4 : cX2_step.data.toList.drop 95 = dktX2_step_4 := dk_seg dksX2_step_3 24 rfl rfl
theorem dksX2_step_5 : cX2_step.data.toList.drop 117 = dktX2_step_5 := dk_seg dksX2_step_4 22 rfl rfl
theorem dX2_step_0 : decode cX2_step 0 = .ok (.iload_n 1, 1) := dk_27 (dk_at dksX2_step_0 0 rfl rfl)
theorem dX2_step_1 : decode cX2_step 1 = .ok (.iconst 1, 1) := dk_4 (dk_at dksX2_step_0 1 rfl rfl)
theorem dX2_step_2 : decode cX2_step 2 = .ok (.iconst 1, 1) := dk_4 (dk_at dksX2_step_0 2 rfl rfl)
theorem dX2_step_3 : decode cX2_step 3 = .ok (.aload_n 0, 1) := dk_42 (dk_at dksX2_step_0 3 rfl rfl)
theorem dX2_step_4 : decode cX2_step 4 = .ok (.getfield 203, 3) := dk_180 0 203 (dk_at dksX2_step_0 4 rfl rfl)
theorem dX2_step_7 : decode cX2_step 7 = .ok (.ishl, 1) := dk_120 (dk_at dksX2_step_0 7 rfl rfl)
theorem dX2_step_8 : decode cX2_step 8 = .ok (.iconst 2, 1) := dk_5 (dk_at dksX2_step_0 8 rfl rfl)
theorem dX2_step_9 : decode cX2_step 9 = .ok (.isub, 1) := dk_100 (dk_at dksX2_step_0 9 rfl rfl)
theorem dX2_step_10 : decode cX2_step 10 = .ok (.invokestatic 104, 3) := dk_184 0 104 (dk_at dksX2_step_0 10 rfl rfl)
theorem dX2_step_13 : decode cX2_step 13 = .ok (.ifCond .eq 14, 3) := dk_153 0 14 (dk_at dksX2_step_0 13 rfl rfl)
theorem dX2_step_16 : decode cX2_step 16 = .ok (.iload_n 2, 1) := dk_28 (dk_at dksX2_step_0 16 rfl rfl)
theorem dX2_step_17 : decode cX2_step 17 = .ok (.iconst 1, 1) := dk_4 (dk_at dksX2_step_0 17 rfl rfl)
theorem dX2_step_18 : decode cX2_step 18 = .ok (.sipush 200, 3) := dk_17 0 200 (dk_at dksX2_step_0 18 rfl rfl)
theorem dX2_step_21 : decode cX2_step 21 = .ok (.invokestatic 104, 3) := dk_184 0 104 (dk_at dksX2_step_0 21 rfl rfl)
theorem dX2_step_24 : decode cX2_step 24 = .ok (.ifCond .ne 5, 3) := dk_154 0 5 (dk_at dksX2_step_1 0 rfl rfl)
theorem dX2_step_27 : decode cX2_step 27 = .ok (.iconst (-1), 1) := dk_2 (dk_at dksX2_step_1 3 rfl rfl)
theorem dX2_step_28 : decode cX2_step 28 = .ok (.ireturn, 1) := dk_172 (dk_at dksX2_step_1 4 rfl rfl)
theorem dX2_step_29 : decode cX2_step 29 = .ok (.aload_n 0, 1) := dk_42 (dk_at dksX2_step_1 5 rfl rfl)
theorem dX2_step_30 : decode cX2_step 30 = .ok (.invokevirtual 286, 3) := dk_182 1 30 (dk_at dksX2_step_1 6 rfl rfl)
theorem dX2_step_33 : decode cX2_step 33 = .ok (.bipush (-9), 2) := dk_16 247 (dk_at dksX2_step_1 9 rfl rfl)
theorem dX2_step_35 : decode cX2_step 35 = .ok (.istore_n 3, 1) := dk_62 (dk_at dksX2_step_1 11 rfl rfl)
theorem dX2_step_36 : decode cX2_step 36 = .ok (.iconst 1, 1) := dk_4 (dk_at dksX2_step_1 12 rfl rfl)
theorem dX2_step_37 : decode cX2_step 37 = .ok (.istore 4, 2) := dk_54 4 (dk_at dksX2_step_1 13 rfl rfl)
theorem dX2_step_39 : decode cX2_step 39 = .ok (.iload 4, 2) := dk_21 4 (dk_at dksX2_step_1 15 rfl rfl)
theorem dX2_step_41 : decode cX2_step 41 = .ok (.iload_n 2, 1) := dk_28 (dk_at dksX2_step_1 17 rfl rfl)
theorem dX2_step_42 : decode cX2_step 42 = .ok (.if_icmp .gt 74, 3) := dk_163 0 74 (dk_at dksX2_step_1 18 rfl rfl)
theorem dX2_step_45 : decode cX2_step 45 = .ok (.iload_n 3, 1) := dk_29 (dk_at dksX2_step_1 21 rfl rfl)
theorem dX2_step_46 : decode cX2_step 46 = .ok (.bipush (-9), 2) := dk_16 247 (dk_at dksX2_step_1 22 rfl rfl)
theorem dX2_step_48 : decode cX2_step 48 = .ok (.if_icmp .ne 68, 3) := dk_160 0 68 (dk_at dksX2_step_2 0 rfl rfl)
theorem dX2_step_51 : decode cX2_step 51 = .ok (.aload_n 0, 1) := dk_42 (dk_at dksX2_step_2 3 rfl rfl)
theorem dX2_step_52 : decode cX2_step 52 = .ok (.aload_n 0, 1) := dk_42 (dk_at dksX2_step_2 4 rfl rfl)
theorem dX2_step_53 : decode cX2_step 53 = .ok (.invokevirtual 273, 3) := dk_182 1 17 (dk_at dksX2_step_2 5 rfl rfl)
theorem dX2_step_56 : decode cX2_step 56 = .ok (.iload_n 1, 1) := dk_27 (dk_at dksX2_step_2 8 rfl rfl)
theorem dX2_step_57 : decode cX2_step 57 = .ok (.iconst 0, 1) := dk_3 (dk_at dksX2_step_2 9 rfl rfl)
theorem dX2_step_58 : decode cX2_step 58 = .ok (.invokevirtual 269, 3) := dk_182 1 13 (dk_at dksX2_step_2 10 rfl rfl)
theorem dX2_step_61 : decode cX2_step 61 = .ok (.aload_n 0, 1) := dk_42 (dk_at dksX2_step_2 13 rfl rfl)
theorem dX2_step_62 : decode cX2_step 62 = .ok (.getfield 242, 3) := dk_180 0 242 (dk_at dksX2_step_2 14 rfl rfl)
theorem dX2_step_65 : decode cX2_step 65 = .ok (.iload_n 1, 1) := dk_27 (dk_at dksX2_step_2 17 rfl rfl)
theorem dX2_step_66 : decode cX2_step 66 = .ok (.iand, 1) := dk_126 (dk_at dksX2_step_2 18 rfl rfl)
theorem dX2_step_67 : decode cX2_step 67 = .ok (.ifCond .eq 7, 3) := dk_153 0 7 (dk_at dksX2_step_2 19 rfl rfl)
theorem dX2_step_70 : decode cX2_step 70 = .ok (.iconst 1, 1) := dk_4 (dk_at dksX2_step_2 22 rfl rfl)
theorem dX2_step_71 : decode cX2_step 71 = .ok (.goto 4, 3) := dk_167 0 4 (dk_at dksX2_step_3 0 rfl rfl)
theorem dX2_step_74 : decode cX2_step 74 = .ok (.iconst 0, 1) := dk_3 (dk_at dksX2_step_3 3 rfl rfl)
theorem dX2_step_75 : decode cX2_step 75 = .ok (.istore 5, 2) := dk_54 5 (dk_at dksX2_step_3 4 rfl rfl)
theorem dX2_step_77 : decode cX2_step 77 = .ok (.aload_n 0, 1) := dk_42 (dk_at dksX2_step_3 6 rfl rfl)
theorem dX2_step_78 : decode cX2_step 78 = .ok (.getfield 242, 3) := dk_180 0 242 (dk_at dksX2_step_3 7 rfl rfl)
theorem dX2_step_81 : decode cX2_step 81 = .ok (.iload_n 1, 1) := dk_27 (dk_at dksX2_step_3 10 rfl rfl)
theorem dX2_step_82 : decode cX2_step 82 = .ok (.iconst (-1), 1) := dk_2 (dk_at dksX2_step_3 11 rfl rfl)
theorem dX2_step_83 : decode cX2_step 83 = .ok (.ixor, 1) := dk_130 (dk_at dksX2_step_3 12 rfl rfl)
theorem dX2_step_84 : decode cX2_step 84 = .ok (.iand, 1) := dk_126 (dk_at dksX2_step_3 13 rfl rfl)
theorem dX2_step_85 : decode cX2_step 85 = .ok (.ifCond .eq 7, 3) := dk_153 0 7 (dk_at dksX2_step_3 14 rfl rfl)
theorem dX2_step_88 : decode cX2_step 88 = .ok (.iconst 1, 1) := dk_4 (dk_at dksX2_step_3 17 rfl rfl)
theorem dX2_step_89 : decode cX2_step 89 = .ok (.goto 4, 3) := dk_167 0 4 (dk_at dksX2_step_3 18 rfl rfl)
theorem dX2_step_92 : decode cX2_step 92 = .ok (.iconst 0, 1) := dk_3 (dk_at dksX2_step_3 21 rfl rfl)
theorem dX2_step_93 : decode cX2_step 93 = .ok (.istore 6, 2) := dk_54 6 (dk_at dksX2_step_3 22 rfl rfl)
theorem dX2_step_95 : decode cX2_step 95 = .ok (.iload 5, 2) := dk_21 5 (dk_at dksX2_step_4 0 rfl rfl)
theorem dX2_step_97 : decode cX2_step 97 = .ok (.iload 6, 2) := dk_21 6 (dk_at dksX2_step_4 2 rfl rfl)
theorem dX2_step_99 : decode cX2_step 99 = .ok (.if_icmp .eq 8, 3) := dk_159 0 8 (dk_at dksX2_step_4 4 rfl rfl)
theorem dX2_step_102 : decode cX2_step 102 = .ok (.iload 4, 2) := dk_21 4 (dk_at dksX2_step_4 7 rfl rfl)
theorem dX2_step_104 : decode cX2_step 104 = .ok (.goto 5, 3) := dk_167 0 5 (dk_at dksX2_step_4 9 rfl rfl)
theorem dX2_step_107 : decode cX2_step 107 = .ok (.bipush (-9), 2) := dk_16 247 (dk_at dksX2_step_4 12 rfl rfl)
theorem dX2_step_109 : decode cX2_step 109 = .ok (.istore_n 3, 1) := dk_62 (dk_at dksX2_step_4 14 rfl rfl)
theorem dX2_step_110 : decode cX2_step 110 = .ok (.iinc 4 1, 3) := dk_132 4 1 (dk_at dksX2_step_4 15 rfl rfl)
theorem dX2_step_113 : decode cX2_step 113 = .ok (.goto (-74), 3) := dk_167 255 182 (dk_at dksX2_step_4 18 rfl rfl)
theorem dX2_step_116 : decode cX2_step 116 = .ok (.aload_n 0, 1) := dk_42 (dk_at dksX2_step_4 21 rfl rfl)
theorem dX2_step_117 : decode cX2_step 117 = .ok (.invokevirtual 296, 3) := dk_182 1 40 (dk_at dksX2_step_5 0 rfl rfl)
theorem dX2_step_120 : decode cX2_step 120 = .ok (.iload_n 3, 1) := dk_29 (dk_at dksX2_step_5 3 rfl rfl)
theorem dX2_step_121 : decode cX2_step 121 = .ok (.ireturn, 1) := dk_172 (dk_at dksX2_step_5 4 rfl rfl)
abbrev cX2_hope : ByteArray := prog_12_method_94_code
def yX2_hope : MethodName := ⟨RX2, "hope", "(I)I"⟩
def dkwX2_hope_5 : List UInt8 := [65, 132, 6, 1, 167, 255, 164, 42, 32, 20, 1, 112, 27, 184, 1, 108, 4, 182, 1, 86, 172]
abbrev dktX2_hope_5 : List UInt8 := dkwX2_hope_5 ++ []
def dkwX2_hope_4 : List UInt8 := [180, 1, 10, 96, 54, 10, 132, 11, 1, 167, 255, 205, 42, 182, 1, 40, 32, 22, 8, 21, 10, 133, 105, 97]
abbrev dktX2_hope_4 : List UInt8 := dkwX2_hope_4 ++ dktX2_hope_5
def dkwX2_hope_3 : List UInt8 := [22, 8, 42, 180, 0, 59, 21, 12, 46, 133, 105, 55, 8, 42, 21, 12, 3, 3, 182, 1, 13, 21, 10, 42]
abbrev dktX2_hope_3 : List UInt8 := dkwX2_hope_3 ++ dktX2_hope_4
def dkwX2_hope_2 : List UInt8 := [3, 54, 10, 3, 54, 11, 21, 11, 27, 162, 0, 51, 21, 7, 6, 112, 54, 12, 21, 7, 6, 108, 54, 7]
abbrev dktX2_hope_2 : List UInt8 := dkwX2_hope_2 ++ dktX2_hope_3
def dkwX2_hope_1 : List UInt8 := [184, 1, 108, 55, 4, 3, 54, 6, 21, 6, 133, 22, 4, 148, 156, 0, 89, 21, 6, 54, 7, 10, 55, 8]
abbrev dktX2_hope_1 : List UInt8 := dkwX2_hope_1 ++ dktX2_hope_2
def dkwX2_hope_0 : List UInt8 := [27, 4, 16, 6, 184, 0, 104, 154, 0, 5, 2, 172, 42, 182, 1, 30, 9, 65, 20, 1, 106, 27]
abbrev dktX2_hope_0 : List UInt8 := dkwX2_hope_0 ++ dktX2_hope_1
theorem dksX2_hope_0 : cX2_hope.data.toList.drop 0 = dktX2_hope_0 := by decide +kernel
theorem dksX2_hope_1 : cX2_hope.data.toList.drop 22 = dktX2_hope_1 := dk_seg dksX2_hope_0 22 rfl rfl
theorem dksX2_hope_2 : cX2_hope.data.toList.drop 46 = dktX2_hope_2 := dk_seg dksX2_hope_1 24 rfl rfl
theorem dksX2_hope_3 : cX2_hope.data.toList.drop 70 = dktX2_hope_3 := dk_seg dksX2_hope_2 24 rfl rfl
theorem dksX2_hope_4 : cX2_hope.data.toList.drop 94 = dktX2_hope_4 := dk_seg dksX2_hope_3 24 rfl rfl
theorem dksX2_hope_5 : cX2_hope.data.toList.drop 118 = dktX2_hope_5 := dk_seg dksX2_hope_4 24 rfl rfl
theorem dX2_hope_0 : decode cX2_hope 0 = .ok (.iload_n 1, 1) := dk_27 (dk_at dksX2_hope_0 0 rfl rfl)
theorem dX2_hope_1 : decode cX2_hope 1 = .ok (.iconst 1, 1) := dk_4 (dk_at dksX2_hope_0 1 rfl rfl)
theorem dX2_hope_2 : decode cX2_hope 2 = .ok (.bipush 6, 2) := dk_16 6 (dk_at dksX2_hope_0 2 rfl rfl)
theorem dX2_hope_4 : decode cX2_hope 4 = .ok (.invokestatic 104, 3) := dk_184 0 104 (dk_at dksX2_hope_0 4 rfl rfl)
theorem dX2_hope_7 : decode cX2_hope 7 = .ok (.ifCond .ne 5, 3) := dk_154 0 5 (dk_at dksX2_hope_0 7 rfl rfl)
theorem dX2_hope_10 : decode cX2_hope 10 = .ok (.iconst (-1), 1) := dk_2 (dk_at dksX2_hope_0 10 rfl rfl)
theorem dX2_hope_11 : decode cX2_hope 11 = .ok (.ireturn, 1) := dk_172 (dk_at dksX2_hope_0 11 rfl rfl)
theorem dX2_hope_12 : decode cX2_hope 12 = .ok (.aload_n 0, 1) := dk_42 (dk_at dksX2_hope_0 12 rfl rfl)
theorem dX2_hope_13 : decode cX2_hope 13 = .ok (.invokevirtual 286, 3) := dk_182 1 30 (dk_at dksX2_hope_0 13 rfl rfl)
theorem dX2_hope_16 : decode cX2_hope 16 = .ok (.lconst 0, 1) := dk_9 (dk_at dksX2_hope_0 16 rfl rfl)
theorem dX2_hope_17 : decode cX2_hope 17 = .ok (.lstore_n 2, 1) := dk_65 (dk_at dksX2_hope_0 17 rfl rfl)
theorem dX2_hope_18 : decode cX2_hope 18 = .ok (.ldc2_w 362, 3) := dk_20 1 106 (dk_at dksX2_hope_0 18 rfl rfl)
theorem dX2_hope_21 : decode cX2_hope 21 = .ok (.iload_n 1, 1) := dk_27 (dk_at dksX2_hope_0 21 rfl rfl)
theorem dX2_hope_22 : decode cX2_hope 22 = .ok (.invokestatic 364, 3) := dk_184 1 108 (dk_at dksX2_hope_1 0 rfl rfl)
theorem dX2_hope_25 : decode cX2_hope 25 = .ok (.lstore 4, 2) := dk_55 4 (dk_at dksX2_hope_1 3 rfl rfl)
theorem dX2_hope_27 : decode cX2_hope 27 = .ok (.iconst 0, 1) := dk_3 (dk_at dksX2_hope_1 5 rfl rfl)
theorem dX2_hope_28 : decode cX2_hope 28 = .ok (.istore 6, 2) := dk_54 6 (dk_at dksX2_hope_1 6 rfl rfl)
theorem dX2_hope_30 : decode cX2_hope 30 = .ok (.iload 6, 2) := dk_21 6 (dk_at dksX2_hope_1 8 rfl rfl)
theorem dX2_hope_32 : decode cX2_hope 32 = .ok (.i2l, 1) := dk_133 (dk_at dksX2_hope_1 10 rfl rfl)
theorem dX2_hope_33 : decode cX2_hope 33 = .ok (.lload 4, 2) := dk_22 4 (dk_at dksX2_hope_1 11 rfl rfl)
theorem dX2_hope_35 : decode cX2_hope 35 = .ok (.lcmp, 1) := dk_148 (dk_at dksX2_hope_1 13 rfl rfl)
theorem dX2_hope_36 : decode cX2_hope 36 = .ok (.ifCond .ge 89, 3) := dk_156 0 89 (dk_at dksX2_hope_1 14 rfl rfl)
theorem dX2_hope_39 : decode cX2_hope 39 = .ok (.iload 6, 2) := dk_21 6 (dk_at dksX2_hope_1 17 rfl rfl)
theorem dX2_hope_41 : decode cX2_hope 41 = .ok (.istore 7, 2) := dk_54 7 (dk_at dksX2_hope_1 19 rfl rfl)
theorem dX2_hope_43 : decode cX2_hope 43 = .ok (.lconst 1, 1) := dk_10 (dk_at dksX2_hope_1 21 rfl rfl)
theorem dX2_hope_44 : decode cX2_hope 44 = .ok (.lstore 8, 2) := dk_55 8 (dk_at dksX2_hope_1 22 rfl rfl)
theorem dX2_hope_46 : decode cX2_hope 46 = .ok (.iconst 0, 1) := dk_3 (dk_at dksX2_hope_2 0 rfl rfl)
theorem dX2_hope_47 : decode cX2_hope 47 = .ok (.istore 10, 2) := dk_54 10 (dk_at dksX2_hope_2 1 rfl rfl)
theorem dX2_hope_49 : decode cX2_hope 49 = .ok (.iconst 0, 1) := dk_3 (dk_at dksX2_hope_2 3 rfl rfl)
theorem dX2_hope_50 : decode cX2_hope 50 = .ok (.istore 11, 2) := dk_54 11 (dk_at dksX2_hope_2 4 rfl rfl)
theorem dX2_hope_52 : decode cX2_hope 52 = .ok (.iload 11, 2) := dk_21 11 (dk_at dksX2_hope_2 6 rfl rfl)
theorem dX2_hope_54 : decode cX2_hope 54 = .ok (.iload_n 1, 1) := dk_27 (dk_at dksX2_hope_2 8 rfl rfl)
theorem dX2_hope_55 : decode cX2_hope 55 = .ok (.if_icmp .ge 51, 3) := dk_162 0 51 (dk_at dksX2_hope_2 9 rfl rfl)
theorem dX2_hope_58 : decode cX2_hope 58 = .ok (.iload 7, 2) := dk_21 7 (dk_at dksX2_hope_2 12 rfl rfl)
theorem dX2_hope_60 : decode cX2_hope 60 = .ok (.iconst 3, 1) := dk_6 (dk_at dksX2_hope_2 14 rfl rfl)
theorem dX2_hope_61 : decode cX2_hope 61 = .ok (.irem, 1) := dk_112 (dk_at dksX2_hope_2 15 rfl rfl)
theorem dX2_hope_62 : decode cX2_hope 62 = .ok (.istore 12, 2) := dk_54 12 (dk_at dksX2_hope_2 16 rfl rfl)
theorem dX2_hope_64 : decode cX2_hope 64 = .ok (.iload 7, 2) := dk_21 7 (dk_at dksX2_hope_2 18 rfl rfl)
theorem dX2_hope_66 : decode cX2_hope 66 = .ok (.iconst 3, 1) := dk_6 (dk_at dksX2_hope_2 20 rfl rfl)
theorem dX2_hope_67 : decode cX2_hope 67 = .ok (.idiv, 1) := dk_108 (dk_at dksX2_hope_2 21 rfl rfl)
theorem dX2_hope_68 : decode cX2_hope 68 = .ok (.istore 7, 2) := dk_54 7 (dk_at dksX2_hope_2 22 rfl rfl)
theorem dX2_hope_70 : decode cX2_hope 70 = .ok (.lload 8, 2) := dk_22 8 (dk_at dksX2_hope_3 0 rfl rfl)
theorem dX2_hope_72 : decode cX2_hope 72 = .ok (.aload_n 0, 1) := dk_42 (dk_at dksX2_hope_3 2 rfl rfl)
theorem dX2_hope_73 : decode cX2_hope 73 = .ok (.getfield 59, 3) := dk_180 0 59 (dk_at dksX2_hope_3 3 rfl rfl)
theorem dX2_hope_76 : decode cX2_hope 76 = .ok (.iload 12, 2) := dk_21 12 (dk_at dksX2_hope_3 6 rfl rfl)
theorem dX2_hope_78 : decode cX2_hope 78 = .ok (.iaload, 1) := dk_46 (dk_at dksX2_hope_3 8 rfl rfl)
theorem dX2_hope_79 : decode cX2_hope 79 = .ok (.i2l, 1) := dk_133 (dk_at dksX2_hope_3 9 rfl rfl)
theorem dX2_hope_80 : decode cX2_hope 80 = .ok (.lmul, 1) := dk_105 (dk_at dksX2_hope_3 10 rfl rfl)
theorem dX2_hope_81 : decode cX2_hope 81 = .ok (.lstore 8, 2) := dk_55 8 (dk_at dksX2_hope_3 11 rfl rfl)
theorem dX2_hope_83 : decode cX2_hope 83 = .ok (.aload_n 0, 1) := dk_42 (dk_at dksX2_hope_3 13 rfl rfl)
theorem dX2_hope_84 : decode cX2_hope 84 = .ok (.iload 12, 2) := dk_21 12 (dk_at dksX2_hope_3 14 rfl rfl)
theorem dX2_hope_86 : decode cX2_hope 86 = .ok (.iconst 0, 1) := dk_3 (dk_at dksX2_hope_3 16 rfl rfl)
theorem dX2_hope_87 : decode cX2_hope 87 = .ok (.iconst 0, 1) := dk_3 (dk_at dksX2_hope_3 17 rfl rfl)
theorem dX2_hope_88 : decode cX2_hope 88 = .ok (.invokevirtual 269, 3) := dk_182 1 13 (dk_at dksX2_hope_3 18 rfl rfl)
theorem dX2_hope_91 : decode cX2_hope 91 = .ok (.iload 10, 2) := dk_21 10 (dk_at dksX2_hope_3 21 rfl rfl)
theorem dX2_hope_93 : decode cX2_hope 93 = .ok (.aload_n 0, 1) := dk_42 (dk_at dksX2_hope_3 23 rfl rfl)
theorem dX2_hope_94 : decode cX2_hope 94 = .ok (.getfield 266, 3) := dk_180 1 10 (dk_at dksX2_hope_4 0 rfl rfl)
theorem dX2_hope_97 : decode cX2_hope 97 = .ok (.iadd, 1) := dk_96 (dk_at dksX2_hope_4 3 rfl rfl)
theorem dX2_hope_98 : decode cX2_hope 98 = .ok (.istore 10, 2) := dk_54 10 (dk_at dksX2_hope_4 4 rfl rfl)
theorem dX2_hope_100 : decode cX2_hope 100 = .ok (.iinc 11 1, 3) := dk_132 11 1 (dk_at dksX2_hope_4 6 rfl rfl)
theorem dX2_hope_103 : decode cX2_hope 103 = .ok (.goto (-51), 3) := dk_167 255 205 (dk_at dksX2_hope_4 9 rfl rfl)
theorem dX2_hope_106 : decode cX2_hope 106 = .ok (.aload_n 0, 1) := dk_42 (dk_at dksX2_hope_4 12 rfl rfl)
theorem dX2_hope_107 : decode cX2_hope 107 = .ok (.invokevirtual 296, 3) := dk_182 1 40 (dk_at dksX2_hope_4 13 rfl rfl)
theorem dX2_hope_110 : decode cX2_hope 110 = .ok (.lload_n 2, 1) := dk_32 (dk_at dksX2_hope_4 16 rfl rfl)
theorem dX2_hope_111 : decode cX2_hope 111 = .ok (.lload 8, 2) := dk_22 8 (dk_at dksX2_hope_4 17 rfl rfl)
theorem dX2_hope_113 : decode cX2_hope 113 = .ok (.iload 10, 2) := dk_21 10 (dk_at dksX2_hope_4 19 rfl rfl)
theorem dX2_hope_115 : decode cX2_hope 115 = .ok (.i2l, 1) := dk_133 (dk_at dksX2_hope_4 21 rfl rfl)
theorem dX2_hope_116 : decode cX2_hope 116 = .ok (.lmul, 1) := dk_105 (dk_at dksX2_hope_4 22 rfl rfl)
theorem dX2_hope_117 : decode cX2_hope 117 = .ok (.ladd, 1) := dk_97 (dk_at dksX2_hope_4 23 rfl rfl)
theorem dX2_hope_118 : decode cX2_hope 118 = .ok (.lstore_n 2, 1) := dk_65 (dk_at dksX2_hope_5 0 rfl rfl)
theorem dX2_hope_119 : decode cX2_hope 119 = .ok (.iinc 6 1, 3) := dk_132 6 1 (dk_at dksX2_hope_5 1 rfl rfl)
theorem dX2_hope_122 : decode cX2_hope 122 = .ok (.goto (-92), 3) := dk_167 255 164 (dk_at dksX2_hope_5 4 rfl rfl)
theorem dX2_hope_125 : decode cX2_hope 125 = .ok (.aload_n 0, 1) := dk_42 (dk_at dksX2_hope_5 7 rfl rfl)
theorem dX2_hope_126 : decode cX2_hope 126 = .ok (.lload_n 2, 1) := dk_32 (dk_at dksX2_hope_5 8 rfl rfl)
theorem dX2_hope_127 : decode cX2_hope 127 = .ok (.ldc2_w 368, 3) := dk_20 1 112 (dk_at dksX2_hope_5 9 rfl rfl)
theorem dX2_hope_130 : decode cX2_hope 130 = .ok (.iload_n 1, 1) := dk_27 (dk_at dksX2_hope_5 12 rfl rfl)
theorem dX2_hope_131 : decode cX2_hope 131 = .ok (.invokestatic 364, 3) := dk_184 1 108 (dk_at dksX2_hope_5 13 rfl rfl)
theorem dX2_hope_134 : decode cX2_hope 134 = .ok (.iconst 1, 1) := dk_4 (dk_at dksX2_hope_5 16 rfl rfl)
theorem dX2_hope_135 : decode cX2_hope 135 = .ok (.invokevirtual 342, 3) := dk_182 1 86 (dk_at dksX2_hope_5 17 rfl rfl)
theorem dX2_hope_138 : decode cX2_hope 138 = .ok (.ireturn, 1) := dk_172 (dk_at dksX2_hope_5 20 rfl rfl)
abbrev cX2_powerOf : ByteArray := prog_12_method_93_code
def yX2_powerOf : MethodName := ⟨RX2, "powerOf", "(JI)J"⟩
def dkwX2_powerOf_0 : List UInt8 := [10, 66, 3, 54, 5, 21, 5, 28, 162, 0, 13, 33, 30, 105, 66, 132, 5, 1, 167, 255, 243, 33, 173]
abbrev dktX2_powerOf_0 : List UInt8 := dkwX2_powerOf_0 ++ []
theorem dksX2_powerOf_0 : cX2_powerOf.data.toList.drop 0 = dktX2_powerOf_0 := by decide +kernel
theorem dX2_powerOf_0 : decode cX2_powerOf 0 = .ok (.lconst 1, 1) := dk_10 (dk_at dksX2_powerOf_0 0 rfl rfl)
theorem dX2_powerOf_1 : decode cX2_powerOf 1 = .ok (.lstore_n 3, 1) := dk_66 (dk_at dksX2_powerOf_0 1 rfl rfl)
theorem dX2_powerOf_2 : decode cX2_powerOf 2 = .ok (.iconst 0, 1) := dk_3 (dk_at dksX2_powerOf_0 2 rfl rfl)
theorem dX2_powerOf_3 : decode cX2_powerOf 3 = .ok (.istore 5, 2) := dk_54 5 (dk_at dksX2_powerOf_0 3 rfl rfl)
theorem dX2_powerOf_5 : decode cX2_powerOf 5 = .ok (.iload 5, 2) := dk_21 5 (dk_at dksX2_powerOf_0 5 rfl rfl)
theorem dX2_powerOf_7 : decode cX2_powerOf 7 = .ok (.iload_n 2, 1) := dk_28 (dk_at dksX2_powerOf_0 7 rfl rfl)
theorem dX2_powerOf_8 : decode cX2_powerOf 8 = .ok (.if_icmp .ge 13, 3) := dk_162 0 13 (dk_at dksX2_powerOf_0 8 rfl rfl)
theorem dX2_powerOf_11 : decode cX2_powerOf 11 = .ok (.lload_n 3, 1) := dk_33 (dk_at dksX2_powerOf_0 11 rfl rfl)
theorem dX2_powerOf_12 : decode cX2_powerOf 12 = .ok (.lload_n 0, 1) := dk_30 (dk_at dksX2_powerOf_0 12 rfl rfl)
theorem dX2_powerOf_13 : decode cX2_powerOf 13 = .ok (.lmul, 1) := dk_105 (dk_at dksX2_powerOf_0 13 rfl rfl)
theorem dX2_powerOf_14 : decode cX2_powerOf 14 = .ok (.lstore_n 3, 1) := dk_66 (dk_at dksX2_powerOf_0 14 rfl rfl)
theorem dX2_powerOf_15 : decode cX2_powerOf 15 = .ok (.iinc 5 1, 3) := dk_132 5 1 (dk_at dksX2_powerOf_0 15 rfl rfl)
theorem dX2_powerOf_18 : decode cX2_powerOf 18 = .ok (.goto (-13), 3) := dk_167 255 243 (dk_at dksX2_powerOf_0 18 rfl rfl)
theorem dX2_powerOf_21 : decode cX2_powerOf 21 = .ok (.lload_n 3, 1) := dk_33 (dk_at dksX2_powerOf_0 21 rfl rfl)
theorem dX2_powerOf_22 : decode cX2_powerOf 22 = .ok (.lreturn, 1) := dk_173 (dk_at dksX2_powerOf_0 22 rfl rfl)
abbrev cX2_period : ByteArray := prog_12_method_96_code
def yX2_period : MethodName := ⟨RX2, "period", "(I)I"⟩
def dkwX2_period_3 : List UInt8 := [132, 5, 1, 167, 255, 211, 29, 21, 4, 153, 0, 7, 3, 167, 0, 4, 4, 96, 62, 167, 255, 184, 29, 172]
abbrev dktX2_period_3 : List UInt8 := dkwX2_period_3 ++ []
def dkwX2_period_2 : List UInt8 := [21, 5, 182, 0, 122, 42, 27, 21, 5, 29, 100, 182, 0, 122, 160, 0, 7, 4, 167, 0, 4, 3, 54, 4]
abbrev dktX2_period_2 : List UInt8 := dkwX2_period_2 ++ dktX2_period_3
def dkwX2_period_1 : List UInt8 := [4, 54, 4, 29, 54, 5, 21, 5, 42, 180, 0, 13, 27, 46, 162, 0, 40, 21, 4, 153, 0, 26, 42, 27]
abbrev dktX2_period_1 : List UInt8 := dkwX2_period_1 ++ dktX2_period_2
def dkwX2_period_0 : List UInt8 := [42, 27, 16, 80, 182, 1, 114, 61, 28, 156, 0, 5, 28, 172, 4, 62, 3, 54, 4, 21, 4, 154, 0, 73]
abbrev dktX2_period_0 : List UInt8 := dkwX2_period_0 ++ dktX2_period_1
theorem dksX2_period_0 : cX2_period.data.toList.drop 0 = dktX2_period_0 := by decide +kernel
theorem dksX2_period_1 : cX2_period.data.toList.drop 24 = dktX2_period_1 := dk_seg dksX2_period_0 24 rfl rfl
theorem dksX2_period_2 : cX2_period.data.toList.drop 48 = dktX2_period_2 := dk_seg dksX2_period_1 24 rfl rfl
theorem dksX2_period_3 : cX2_period.data.toList.drop 72 = dktX2_period_3 := dk_seg dksX2_period_2 24 rfl rfl
theorem dX2_period_0 : decode cX2_period 0 = .ok (.aload_n 0, 1) := dk_42 (dk_at dksX2_period_0 0 rfl rfl)
theorem dX2_period_1 : decode cX2_period 1 = .ok (.iload_n 1, 1) := dk_27 (dk_at dksX2_period_0 1 rfl rfl)
theorem dX2_period_2 : decode cX2_period 2 = .ok (.bipush 80, 2) := dk_16 80 (dk_at dksX2_period_0 2 rfl rfl)
theorem dX2_period_4 : decode cX2_period 4 = .ok (.invokevirtual 370, 3) := dk_182 1 114 (dk_at dksX2_period_0 4 rfl rfl)
theorem dX2_period_7 : decode cX2_period 7 = .ok (.istore_n 2, 1) := dk_61 (dk_at dksX2_period_0 7 rfl rfl)
theorem dX2_period_8 : decode cX2_period 8 = .ok (.iload_n 2, 1) := dk_28 (dk_at dksX2_period_0 8 rfl rfl)
theorem dX2_period_9 : decode cX2_period 9 = .ok (.ifCond .ge 5, 3) := dk_156 0 5 (dk_at dksX2_period_0 9 rfl rfl)
theorem dX2_period_12 : decode cX2_period 12 = .ok (.iload_n 2, 1) := dk_28 (dk_at dksX2_period_0 12 rfl rfl)
theorem dX2_period_13 : decode cX2_period 13 = .ok (.ireturn, 1) := dk_172 (dk_at dksX2_period_0 13 rfl rfl)
theorem dX2_period_14 : decode cX2_period 14 = .ok (.iconst 1, 1) := dk_4 (dk_at dksX2_period_0 14 rfl rfl)
theorem dX2_period_15 : decode cX2_period 15 = .ok (.istore_n 3, 1) := dk_62 (dk_at dksX2_period_0 15 rfl rfl)
theorem dX2_period_16 : decode cX2_period 16 = .ok (.iconst 0, 1) := dk_3 (dk_at dksX2_period_0 16 rfl rfl)
theorem dX2_period_17 : decode cX2_period 17 = .ok (.istore 4, 2) := dk_54 4 (dk_at dksX2_period_0 17 rfl rfl)
theorem dX2_period_19 : decode cX2_period 19 = .ok (.iload 4, 2) := dk_21 4 (dk_at dksX2_period_0 19 rfl rfl)
theorem dX2_period_21 : decode cX2_period 21 = .ok (.ifCond .ne 73, 3) := dk_154 0 73 (dk_at dksX2_period_0 21 rfl rfl)
theorem dX2_period_24 : decode cX2_period 24 = .ok (.iconst 1, 1) := dk_4 (dk_at dksX2_period_1 0 rfl rfl)
theorem dX2_period_25 : decode cX2_period 25 = .ok (.istore 4, 2) := dk_54 4 (dk_at dksX2_period_1 1 rfl rfl)
theorem dX2_period_27 : decode cX2_period 27 = .ok (.iload_n 3, 1) := dk_29 (dk_at dksX2_period_1 3 rfl rfl)
theorem dX2_period_28 : decode cX2_period 28 = .ok (.istore 5, 2) := dk_54 5 (dk_at dksX2_period_1 4 rfl rfl)
theorem dX2_period_30 : decode cX2_period 30 = .ok (.iload 5, 2) := dk_21 5 (dk_at dksX2_period_1 6 rfl rfl)
theorem dX2_period_32 : decode cX2_period 32 = .ok (.aload_n 0, 1) := dk_42 (dk_at dksX2_period_1 8 rfl rfl)
theorem dX2_period_33 : decode cX2_period 33 = .ok (.getfield 13, 3) := dk_180 0 13 (dk_at dksX2_period_1 9 rfl rfl)
theorem dX2_period_36 : decode cX2_period 36 = .ok (.iload_n 1, 1) := dk_27 (dk_at dksX2_period_1 12 rfl rfl)
theorem dX2_period_37 : decode cX2_period 37 = .ok (.iaload, 1) := dk_46 (dk_at dksX2_period_1 13 rfl rfl)
theorem dX2_period_38 : decode cX2_period 38 = .ok (.if_icmp .ge 40, 3) := dk_162 0 40 (dk_at dksX2_period_1 14 rfl rfl)
theorem dX2_period_41 : decode cX2_period 41 = .ok (.iload 4, 2) := dk_21 4 (dk_at dksX2_period_1 17 rfl rfl)
theorem dX2_period_43 : decode cX2_period 43 = .ok (.ifCond .eq 26, 3) := dk_153 0 26 (dk_at dksX2_period_1 19 rfl rfl)
theorem dX2_period_46 : decode cX2_period 46 = .ok (.aload_n 0, 1) := dk_42 (dk_at dksX2_period_1 22 rfl rfl)
theorem dX2_period_47 : decode cX2_period 47 = .ok (.iload_n 1, 1) := dk_27 (dk_at dksX2_period_1 23 rfl rfl)
theorem dX2_period_48 : decode cX2_period 48 = .ok (.iload 5, 2) := dk_21 5 (dk_at dksX2_period_2 0 rfl rfl)
theorem dX2_period_50 : decode cX2_period 50 = .ok (.invokevirtual 122, 3) := dk_182 0 122 (dk_at dksX2_period_2 2 rfl rfl)
theorem dX2_period_53 : decode cX2_period 53 = .ok (.aload_n 0, 1) := dk_42 (dk_at dksX2_period_2 5 rfl rfl)
theorem dX2_period_54 : decode cX2_period 54 = .ok (.iload_n 1, 1) := dk_27 (dk_at dksX2_period_2 6 rfl rfl)
theorem dX2_period_55 : decode cX2_period 55 = .ok (.iload 5, 2) := dk_21 5 (dk_at dksX2_period_2 7 rfl rfl)
theorem dX2_period_57 : decode cX2_period 57 = .ok (.iload_n 3, 1) := dk_29 (dk_at dksX2_period_2 9 rfl rfl)
theorem dX2_period_58 : decode cX2_period 58 = .ok (.isub, 1) := dk_100 (dk_at dksX2_period_2 10 rfl rfl)
theorem dX2_period_59 : decode cX2_period 59 = .ok (.invokevirtual 122, 3) := dk_182 0 122 (dk_at dksX2_period_2 11 rfl rfl)
theorem dX2_period_62 : decode cX2_period 62 = .ok (.if_icmp .ne 7, 3) := dk_160 0 7 (dk_at dksX2_period_2 14 rfl rfl)
theorem dX2_period_65 : decode cX2_period 65 = .ok (.iconst 1, 1) := dk_4 (dk_at dksX2_period_2 17 rfl rfl)
theorem dX2_period_66 : decode cX2_period 66 = .ok (.goto 4, 3) := dk_167 0 4 (dk_at dksX2_period_2 18 rfl rfl)
theorem dX2_period_69 : decode cX2_period 69 = .ok (.iconst 0, 1) := dk_3 (dk_at dksX2_period_2 21 rfl rfl)
theorem dX2_period_70 : decode cX2_period 70 = .ok (.istore 4, 2) := dk_54 4 (dk_at dksX2_period_2 22 rfl rfl)
theorem dX2_period_72 : decode cX2_period 72 = .ok (.iinc 5 1, 3) := dk_132 5 1 (dk_at dksX2_period_3 0 rfl rfl)
theorem dX2_period_75 : decode cX2_period 75 = .ok (.goto (-45), 3) := dk_167 255 211 (dk_at dksX2_period_3 3 rfl rfl)
theorem dX2_period_78 : decode cX2_period 78 = .ok (.iload_n 3, 1) := dk_29 (dk_at dksX2_period_3 6 rfl rfl)
theorem dX2_period_79 : decode cX2_period 79 = .ok (.iload 4, 2) := dk_21 4 (dk_at dksX2_period_3 7 rfl rfl)
theorem dX2_period_81 : decode cX2_period 81 = .ok (.ifCond .eq 7, 3) := dk_153 0 7 (dk_at dksX2_period_3 9 rfl rfl)
theorem dX2_period_84 : decode cX2_period 84 = .ok (.iconst 0, 1) := dk_3 (dk_at dksX2_period_3 12 rfl rfl)
theorem dX2_period_85 : decode cX2_period 85 = .ok (.goto 4, 3) := dk_167 0 4 (dk_at dksX2_period_3 13 rfl rfl)
theorem dX2_period_88 : decode cX2_period 88 = .ok (.iconst 1, 1) := dk_4 (dk_at dksX2_period_3 16 rfl rfl)
theorem dX2_period_89 : decode cX2_period 89 = .ok (.iadd, 1) := dk_96 (dk_at dksX2_period_3 17 rfl rfl)
theorem dX2_period_90 : decode cX2_period 90 = .ok (.istore_n 3, 1) := dk_62 (dk_at dksX2_period_3 18 rfl rfl)
theorem dX2_period_91 : decode cX2_period 91 = .ok (.goto (-72), 3) := dk_167 255 184 (dk_at dksX2_period_3 19 rfl rfl)
theorem dX2_period_94 : decode cX2_period 94 = .ok (.iload_n 3, 1) := dk_29 (dk_at dksX2_period_3 22 rfl rfl)
theorem dX2_period_95 : decode cX2_period 95 = .ok (.ireturn, 1) := dk_172 (dk_at dksX2_period_3 23 rfl rfl)
abbrev cX2_needLayers : ByteArray := prog_12_method_95_code
def yX2_needLayers : MethodName := ⟨RX2, "needLayers", "(II)I"⟩
def dkwX2_needLayers_4 : List UInt8 := [3, 167, 0, 8, 42, 6, 182, 0, 118, 172]
abbrev dktX2_needLayers_4 : List UInt8 := dkwX2_needLayers_4 ++ []
def dkwX2_needLayers_3 : List UInt8 := [3, 4, 184, 0, 104, 153, 0, 7, 4, 167, 0, 4, 3, 62, 132, 4, 1, 167, 255, 217, 29, 153, 0, 7]
abbrev dktX2_needLayers_3 : List UInt8 := dkwX2_needLayers_3 ++ dktX2_needLayers_4
def dkwX2_needLayers_2 : List UInt8 := [54, 4, 21, 4, 42, 180, 0, 13, 27, 46, 162, 0, 34, 29, 153, 0, 22, 42, 27, 21, 4, 182, 0, 122]
abbrev dktX2_needLayers_2 : List UInt8 := dkwX2_needLayers_2 ++ dktX2_needLayers_3
def dkwX2_needLayers_1 : List UInt8 := [42, 180, 0, 13, 27, 46, 4, 28, 184, 0, 104, 154, 0, 9, 42, 8, 182, 0, 118, 172, 4, 62, 3]
abbrev dktX2_needLayers_1 : List UInt8 := dkwX2_needLayers_1 ++ dktX2_needLayers_2
def dkwX2_needLayers_0 : List UInt8 := [27, 184, 0, 114, 154, 0, 5, 2, 172, 42, 180, 0, 13, 27, 46, 156, 0, 9, 42, 4, 182, 0, 118, 172]
abbrev dktX2_needLayers_0 : List UInt8 := dkwX2_needLayers_0 ++ dktX2_needLayers_1
theorem dksX2_needLayers_0 : cX2_needLayers.data.toList.drop 0 = dktX2_needLayers_0 := by decide +kernel
theorem dksX2_needLayers_1 : cX2_needLayers.data.toList.drop 24 = dktX2_needLayers_1 := dk_seg dksX2_needLayers_0 24 rfl rfl
theorem dksX2_needLayers_2 : cX2_needLayers.data.toList.drop 47 = dktX2_needLayers_2 := dk_seg dksX2_needLayers_1 23 rfl rfl
theorem dksX2_needLayers_3 : cX2_needLayers.data.toList.drop 71 = dktX2_needLayers_3 := dk_seg dksX2_needLayers_2 24 rfl rfl
theorem dksX2_needLayers_4 : cX2_needLayers.data.toList.drop 95 = dktX2_needLayers_4 := dk_seg dksX2_needLayers_3 24 rfl rfl
theorem dX2_needLayers_0 : decode cX2_needLayers 0 = .ok (.iload_n 1, 1) := dk_27 (dk_at dksX2_needLayers_0 0 rfl rfl)
theorem dX2_needLayers_1 : decode cX2_needLayers 1 = .ok (.invokestatic 114, 3) := dk_184 0 114 (dk_at dksX2_needLayers_0 1 rfl rfl)
theorem dX2_needLayers_4 : decode cX2_needLayers 4 = .ok (.ifCond .ne 5, 3) := dk_154 0 5 (dk_at dksX2_needLayers_0 4 rfl rfl)
theorem dX2_needLayers_7 : decode cX2_needLayers 7 = .ok (.iconst (-1), 1) := dk_2 (dk_at dksX2_needLayers_0 7 rfl rfl)
theorem dX2_needLayers_8 : decode cX2_needLayers 8 = .ok (.ireturn, 1) := dk_172 (dk_at dksX2_needLayers_0 8 rfl rfl)
theorem dX2_needLayers_9 : decode cX2_needLayers 9 = .ok (.aload_n 0, 1) := dk_42 (dk_at dksX2_needLayers_0 9 rfl rfl)
theorem dX2_needLayers_10 : decode cX2_needLayers 10 = .ok (.getfield 13, 3) := dk_180 0 13 (dk_at dksX2_needLayers_0 10 rfl rfl)
theorem dX2_needLayers_13 : decode cX2_needLayers 13 = .ok (.iload_n 1, 1) := dk_27 (dk_at dksX2_needLayers_0 13 rfl rfl)
theorem dX2_needLayers_14 : decode cX2_needLayers 14 = .ok (.iaload, 1) := dk_46 (dk_at dksX2_needLayers_0 14 rfl rfl)
theorem dX2_needLayers_15 : decode cX2_needLayers 15 = .ok (.ifCond .ge 9, 3) := dk_156 0 9 (dk_at dksX2_needLayers_0 15 rfl rfl)
theorem dX2_needLayers_18 : decode cX2_needLayers 18 = .ok (.aload_n 0, 1) := dk_42 (dk_at dksX2_needLayers_0 18 rfl rfl)
theorem dX2_needLayers_19 : decode cX2_needLayers 19 = .ok (.iconst 1, 1) := dk_4 (dk_at dksX2_needLayers_0 19 rfl rfl)
theorem dX2_needLayers_20 : decode cX2_needLayers 20 = .ok (.invokevirtual 118, 3) := dk_182 0 118 (dk_at dksX2_needLayers_0 20 rfl rfl)
theorem dX2_needLayers_23 : decode cX2_needLayers 23 = .ok (.ireturn, 1) := dk_172 (dk_at dksX2_needLayers_0 23 rfl rfl)
theorem dX2_needLayers_24 : decode cX2_needLayers 24 = .ok (.aload_n 0, 1) := dk_42 (dk_at dksX2_needLayers_1 0 rfl rfl)
theorem dX2_needLayers_25 : decode cX2_needLayers 25 = .ok (.getfield 13, 3) := dk_180 0 13 (dk_at dksX2_needLayers_1 1 rfl rfl)
theorem dX2_needLayers_28 : decode cX2_needLayers 28 = .ok (.iload_n 1, 1) := dk_27 (dk_at dksX2_needLayers_1 4 rfl rfl)
theorem dX2_needLayers_29 : decode cX2_needLayers 29 = .ok (.iaload, 1) := dk_46 (dk_at dksX2_needLayers_1 5 rfl rfl)
theorem dX2_needLayers_30 : decode cX2_needLayers 30 = .ok (.iconst 1, 1) := dk_4 (dk_at dksX2_needLayers_1 6 rfl rfl)
theorem dX2_needLayers_31 : decode cX2_needLayers 31 = .ok (.iload_n 2, 1) := dk_28 (dk_at dksX2_needLayers_1 7 rfl rfl)
theorem dX2_needLayers_32 : decode cX2_needLayers 32 = .ok (.invokestatic 104, 3) := dk_184 0 104 (dk_at dksX2_needLayers_1 8 rfl rfl)
theorem dX2_needLayers_35 : decode cX2_needLayers 35 = .ok (.ifCond .ne 9, 3) := dk_154 0 9 (dk_at dksX2_needLayers_1 11 rfl rfl)
theorem dX2_needLayers_38 : decode cX2_needLayers 38 = .ok (.aload_n 0, 1) := dk_42 (dk_at dksX2_needLayers_1 14 rfl rfl)
theorem dX2_needLayers_39 : decode cX2_needLayers 39 = .ok (.iconst 5, 1) := dk_8 (dk_at dksX2_needLayers_1 15 rfl rfl)
theorem dX2_needLayers_40 : decode cX2_needLayers 40 = .ok (.invokevirtual 118, 3) := dk_182 0 118 (dk_at dksX2_needLayers_1 16 rfl rfl)
theorem dX2_needLayers_43 : decode cX2_needLayers 43 = .ok (.ireturn, 1) := dk_172 (dk_at dksX2_needLayers_1 19 rfl rfl)
theorem dX2_needLayers_44 : decode cX2_needLayers 44 = .ok (.iconst 1, 1) := dk_4 (dk_at dksX2_needLayers_1 20 rfl rfl)
theorem dX2_needLayers_45 : decode cX2_needLayers 45 = .ok (.istore_n 3, 1) := dk_62 (dk_at dksX2_needLayers_1 21 rfl rfl)
theorem dX2_needLayers_46 : decode cX2_needLayers 46 = .ok (.iconst 0, 1) := dk_3 (dk_at dksX2_needLayers_1 22 rfl rfl)
theorem dX2_needLayers_47 : decode cX2_needLayers 47 = .ok (.istore 4, 2) := dk_54 4 (dk_at dksX2_needLayers_2 0 rfl rfl)
theorem dX2_needLayers_49 : decode cX2_needLayers 49 = .ok (.iload 4, 2) := dk_21 4 (dk_at dksX2_needLayers_2 2 rfl rfl)
theorem dX2_needLayers_51 : decode cX2_needLayers 51 = .ok (.aload_n 0, 1) := dk_42 (dk_at dksX2_needLayers_2 4 rfl rfl)
theorem dX2_needLayers_52 : decode cX2_needLayers 52 = .ok (.getfield 13, 3) := dk_180 0 13 (dk_at dksX2_needLayers_2 5 rfl rfl)
theorem dX2_needLayers_55 : decode cX2_needLayers 55 = .ok (.iload_n 1, 1) := dk_27 (dk_at dksX2_needLayers_2 8 rfl rfl)
theorem dX2_needLayers_56 : decode cX2_needLayers 56 = .ok (.iaload, 1) := dk_46 (dk_at dksX2_needLayers_2 9 rfl rfl)
theorem dX2_needLayers_57 : decode cX2_needLayers 57 = .ok (.if_icmp .ge 34, 3) := dk_162 0 34 (dk_at dksX2_needLayers_2 10 rfl rfl)
theorem dX2_needLayers_60 : decode cX2_needLayers 60 = .ok (.iload_n 3, 1) := dk_29 (dk_at dksX2_needLayers_2 13 rfl rfl)
theorem dX2_needLayers_61 : decode cX2_needLayers 61 = .ok (.ifCond .eq 22, 3) := dk_153 0 22 (dk_at dksX2_needLayers_2 14 rfl rfl)
theorem dX2_needLayers_64 : decode cX2_needLayers 64 = .ok (.aload_n 0, 1) := dk_42 (dk_at dksX2_needLayers_2 17 rfl rfl)
theorem dX2_needLayers_65 : decode cX2_needLayers 65 = .ok (.iload_n 1, 1) := dk_27 (dk_at dksX2_needLayers_2 18 rfl rfl)
theorem dX2_needLayers_66 : decode cX2_needLayers 66 = .ok (.iload 4, 2) := dk_21 4 (dk_at dksX2_needLayers_2 19 rfl rfl)
theorem dX2_needLayers_68 : decode cX2_needLayers 68 = .ok (.invokevirtual 122, 3) := dk_182 0 122 (dk_at dksX2_needLayers_2 21 rfl rfl)
theorem dX2_needLayers_71 : decode cX2_needLayers 71 = .ok (.iconst 0, 1) := dk_3 (dk_at dksX2_needLayers_3 0 rfl rfl)
theorem dX2_needLayers_72 : decode cX2_needLayers 72 = .ok (.iconst 1, 1) := dk_4 (dk_at dksX2_needLayers_3 1 rfl rfl)
theorem dX2_needLayers_73 : decode cX2_needLayers 73 = .ok (.invokestatic 104, 3) := dk_184 0 104 (dk_at dksX2_needLayers_3 2 rfl rfl)
theorem dX2_needLayers_76 : decode cX2_needLayers 76 = .ok (.ifCond .eq 7, 3) := dk_153 0 7 (dk_at dksX2_needLayers_3 5 rfl rfl)
theorem dX2_needLayers_79 : decode cX2_needLayers 79 = .ok (.iconst 1, 1) := dk_4 (dk_at dksX2_needLayers_3 8 rfl rfl)
theorem dX2_needLayers_80 : decode cX2_needLayers 80 = .ok (.goto 4, 3) := dk_167 0 4 (dk_at dksX2_needLayers_3 9 rfl rfl)
theorem dX2_needLayers_83 : decode cX2_needLayers 83 = .ok (.iconst 0, 1) := dk_3 (dk_at dksX2_needLayers_3 12 rfl rfl)
theorem dX2_needLayers_84 : decode cX2_needLayers 84 = .ok (.istore_n 3, 1) := dk_62 (dk_at dksX2_needLayers_3 13 rfl rfl)
theorem dX2_needLayers_85 : decode cX2_needLayers 85 = .ok (.iinc 4 1, 3) := dk_132 4 1 (dk_at dksX2_needLayers_3 14 rfl rfl)
theorem dX2_needLayers_88 : decode cX2_needLayers 88 = .ok (.goto (-39), 3) := dk_167 255 217 (dk_at dksX2_needLayers_3 17 rfl rfl)
theorem dX2_needLayers_91 : decode cX2_needLayers 91 = .ok (.iload_n 3, 1) := dk_29 (dk_at dksX2_needLayers_3 20 rfl rfl)
theorem dX2_needLayers_92 : decode cX2_needLayers 92 = .ok (.ifCond .eq 7, 3) := dk_153 0 7 (dk_at dksX2_needLayers_3 21 rfl rfl)
theorem dX2_needLayers_95 : decode cX2_needLayers 95 = .ok (.iconst 0, 1) := dk_3 (dk_at dksX2_needLayers_4 0 rfl rfl)
theorem dX2_needLayers_96 : decode cX2_needLayers 96 = .ok (.goto 8, 3) := dk_167 0 8 (dk_at dksX2_needLayers_4 1 rfl rfl)
theorem dX2_needLayers_99 : decode cX2_needLayers 99 = .ok (.aload_n 0, 1) := dk_42 (dk_at dksX2_needLayers_4 4 rfl rfl)
theorem dX2_needLayers_100 : decode cX2_needLayers 100 = .ok (.iconst 3, 1) := dk_6 (dk_at dksX2_needLayers_4 5 rfl rfl)
theorem dX2_needLayers_101 : decode cX2_needLayers 101 = .ok (.invokevirtual 118, 3) := dk_182 0 118 (dk_at dksX2_needLayers_4 6 rfl rfl)
theorem dX2_needLayers_104 : decode cX2_needLayers 104 = .ok (.ireturn, 1) := dk_172 (dk_at dksX2_needLayers_4 9 rfl rfl)
abbrev cX2_guess : ByteArray := prog_12_method_98_code
def yX2_guess : MethodName := ⟨RX2, "guess", "(I)I"⟩
def dkwX2_guess_5 : List UInt8 := [132, 5, 1, 167, 255, 162, 42, 21, 4, 29, 182, 0, 126, 172]
abbrev dktX2_guess_5 : List UInt8 := dkwX2_guess_5 ++ []
def dkwX2_guess_4 : List UInt8 := [167, 0, 5, 21, 4, 54, 4, 132, 3, 1, 132, 7, 1, 167, 255, 194, 132, 6, 1, 167, 255, 178]
abbrev dktX2_guess_4 : List UInt8 := dkwX2_guess_4 ++ dktX2_guess_5
def dkwX2_guess_3 : List UInt8 := [153, 0, 32, 29, 154, 0, 21, 17, 39, 16, 21, 5, 104, 16, 100, 21, 6, 104, 96, 21, 7, 96]
abbrev dktX2_guess_3 : List UInt8 := dkwX2_guess_3 ++ dktX2_guess_4
def dkwX2_guess_2 : List UInt8 := [4, 96, 163, 0, 59, 21, 7, 16, 60, 163, 0, 52, 42, 27, 21, 5, 21, 6, 21, 7, 182, 1, 117]
abbrev dktX2_guess_2 : List UInt8 := dkwX2_guess_2 ++ dktX2_guess_3
def dkwX2_guess_1 : List UInt8 := [21, 5, 16, 9, 163, 0, 93, 3, 54, 6, 21, 6, 16, 60, 163, 0, 77, 4, 54, 7, 21, 7, 21, 6]
abbrev dktX2_guess_1 : List UInt8 := dkwX2_guess_1 ++ dktX2_guess_2
def dkwX2_guess_0 : List UInt8 := [42, 27, 16, 40, 182, 1, 114, 61, 28, 156, 0, 5, 28, 172, 3, 62, 16, 247, 54, 4, 4, 54, 5]
abbrev dktX2_guess_0 : List UInt8 := dkwX2_guess_0 ++ dktX2_guess_1
theorem dksX2_guess_0 : cX2_guess.data.toList.drop 0 = dktX2_guess_0 := by decide +kernel
theorem dksX2_guess_1 : cX2_guess.data.toList.drop 23 = dktX2_guess_1 := dk_seg dksX2_guess_0 23 rfl rfl
theorem dksX2_guess_2 : cX2_guess.data.toList.drop 47 = dktX2_guess_2 := dk_seg dksX2_guess_1 24 rfl rfl
theorem dksX2_guess_3 : cX2_guess.data.toList.drop 70 = dktX2_guess_3 := dk_seg dksX2_guess_2 23 rfl rfl
theorem dksX2_guess_4 : cX2_guess.data.toList.drop 92 = dktX2_guess_4 := dk_seg dksX2_guess_3 22 rfl rfl
theorem dksX2_guess_5 : cX2_guess.data.toList.drop 114 = dktX2_guess_5 := dk_seg dksX2_guess_4 22 rfl rfl
theorem dX2_guess_0 : decode cX2_guess 0 = .ok (.aload_n 0, 1) := dk_42 (dk_at dksX2_guess_0 0 rfl rfl)
theorem dX2_guess_1 : decode cX2_guess 1 = .ok (.iload_n 1, 1) := dk_27 (dk_at dksX2_guess_0 1 rfl rfl)
theorem dX2_guess_2 : decode cX2_guess 2 = .ok (.bipush 40, 2) := dk_16 40 (dk_at dksX2_guess_0 2 rfl rfl)
theorem dX2_guess_4 : decode cX2_guess 4 = .ok (.invokevirtual 370, 3) := dk_182 1 114 (dk_at dksX2_guess_0 4 rfl rfl)
theorem dX2_guess_7 : decode cX2_guess 7 = .ok (.istore_n 2, 1) := dk_61 (dk_at dksX2_guess_0 7 rfl rfl)
theorem dX2_guess_8 : decode cX2_guess 8 = .ok (.iload_n 2, 1) := dk_28 (dk_at dksX2_guess_0 8 rfl rfl)
theorem dX2_guess_9 : decode cX2_guess 9 = .ok (.ifCond .ge 5, 3) := dk_156 0 5 (dk_at dksX2_guess_0 9 rfl rfl)
theorem dX2_guess_12 : decode cX2_guess 12 = .ok (.iload_n 2, 1) := dk_28 (dk_at dksX2_guess_0 12 rfl rfl)
theorem dX2_guess_13 : decode cX2_guess 13 = .ok (.ireturn, 1) := dk_172 (dk_at dksX2_guess_0 13 rfl rfl)
theorem dX2_guess_14 : decode cX2_guess 14 = .ok (.iconst 0, 1) := dk_3 (dk_at dksX2_guess_0 14 rfl rfl)
theorem dX2_guess_15 : decode cX2_guess 15 = .ok (.istore_n 3, 1) := dk_62 (dk_at dksX2_guess_0 15 rfl rfl)
theorem dX2_guess_16 : decode cX2_guess 16 = .ok (.bipush (-9), 2) := dk_16 247 (dk_at dksX2_guess_0 16 rfl rfl)
theorem dX2_guess_18 : decode cX2_guess 18 = .ok (.istore 4, 2) := dk_54 4 (dk_at dksX2_guess_0 18 rfl rfl)
theorem dX2_guess_20 : decode cX2_guess 20 = .ok (.iconst 1, 1) := dk_4 (dk_at dksX2_guess_0 20 rfl rfl)
theorem dX2_guess_21 : decode cX2_guess 21 = .ok (.istore 5, 2) := dk_54 5 (dk_at dksX2_guess_0 21 rfl rfl)
theorem dX2_guess_23 : decode cX2_guess 23 = .ok (.iload 5, 2) := dk_21 5 (dk_at dksX2_guess_1 0 rfl rfl)
theorem dX2_guess_25 : decode cX2_guess 25 = .ok (.bipush 9, 2) := dk_16 9 (dk_at dksX2_guess_1 2 rfl rfl)
theorem dX2_guess_27 : decode cX2_guess 27 = .ok (.if_icmp .gt 93, 3) := dk_163 0 93 (dk_at dksX2_guess_1 4 rfl rfl)
theorem dX2_guess_30 : decode cX2_guess 30 = .ok (.iconst 0, 1) := dk_3 (dk_at dksX2_guess_1 7 rfl rfl)
theorem dX2_guess_31 : decode cX2_guess 31 = .ok (.istore 6, 2) := dk_54 6 (dk_at dksX2_guess_1 8 rfl rfl)
theorem dX2_guess_33 : decode cX2_guess 33 = .ok (.iload 6, 2) := dk_21 6 (dk_at dksX2_guess_1 10 rfl rfl)
theorem dX2_guess_35 : decode cX2_guess 35 = .ok (.bipush 60, 2) := dk_16 60 (dk_at dksX2_guess_1 12 rfl rfl)
theorem dX2_guess_37 : decode cX2_guess 37 = .ok (.if_icmp .gt 77, 3) := dk_163 0 77 (dk_at dksX2_guess_1 14 rfl rfl)
theorem dX2_guess_40 : decode cX2_guess 40 = .ok (.iconst 1, 1) := dk_4 (dk_at dksX2_guess_1 17 rfl rfl)
theorem dX2_guess_41 : decode cX2_guess 41 = .ok (.istore 7, 2) := dk_54 7 (dk_at dksX2_guess_1 18 rfl rfl)
theorem dX2_guess_43 : decode cX2_guess 43 = .ok (.iload 7, 2) := dk_21 7 (dk_at dksX2_guess_1 20 rfl rfl)
theorem dX2_guess_45 : decode cX2_guess 45 = .ok (.iload 6, 2) := dk_21 6 (dk_at dksX2_guess_1 22 rfl rfl)
theorem dX2_guess_47 : decode cX2_guess 47 = .ok (.iconst 1, 1) := dk_4 (dk_at dksX2_guess_2 0 rfl rfl)
theorem dX2_guess_48 : decode cX2_guess 48 = .ok (.iadd, 1) := dk_96 (dk_at dksX2_guess_2 1 rfl rfl)
theorem dX2_guess_49 : decode cX2_guess 49 = .ok (.if_icmp .gt 59, 3) := dk_163 0 59 (dk_at dksX2_guess_2 2 rfl rfl)
theorem dX2_guess_52 : decode cX2_guess 52 = .ok (.iload 7, 2) := dk_21 7 (dk_at dksX2_guess_2 5 rfl rfl)
theorem dX2_guess_54 : decode cX2_guess 54 = .ok (.bipush 60, 2) := dk_16 60 (dk_at dksX2_guess_2 7 rfl rfl)
theorem dX2_guess_56 : decode cX2_guess 56 = .ok (.if_icmp .gt 52, 3) := dk_163 0 52 (dk_at dksX2_guess_2 9 rfl rfl)
theorem dX2_guess_59 : decode cX2_guess 59 = .ok (.aload_n 0, 1) := dk_42 (dk_at dksX2_guess_2 12 rfl rfl)
theorem dX2_guess_60 : decode cX2_guess 60 = .ok (.iload_n 1, 1) := dk_27 (dk_at dksX2_guess_2 13 rfl rfl)
theorem dX2_guess_61 : decode cX2_guess 61 = .ok (.iload 5, 2) := dk_21 5 (dk_at dksX2_guess_2 14 rfl rfl)
theorem dX2_guess_63 : decode cX2_guess 63 = .ok (.iload 6, 2) := dk_21 6 (dk_at dksX2_guess_2 16 rfl rfl)
theorem dX2_guess_65 : decode cX2_guess 65 = .ok (.iload 7, 2) := dk_21 7 (dk_at dksX2_guess_2 18 rfl rfl)
theorem dX2_guess_67 : decode cX2_guess 67 = .ok (.invokevirtual 373, 3) := dk_182 1 117 (dk_at dksX2_guess_2 20 rfl rfl)
theorem dX2_guess_70 : decode cX2_guess 70 = .ok (.ifCond .eq 32, 3) := dk_153 0 32 (dk_at dksX2_guess_3 0 rfl rfl)
theorem dX2_guess_73 : decode cX2_guess 73 = .ok (.iload_n 3, 1) := dk_29 (dk_at dksX2_guess_3 3 rfl rfl)
theorem dX2_guess_74 : decode cX2_guess 74 = .ok (.ifCond .ne 21, 3) := dk_154 0 21 (dk_at dksX2_guess_3 4 rfl rfl)
theorem dX2_guess_77 : decode cX2_guess 77 = .ok (.sipush 10000, 3) := dk_17 39 16 (dk_at dksX2_guess_3 7 rfl rfl)
theorem dX2_guess_80 : decode cX2_guess 80 = .ok (.iload 5, 2) := dk_21 5 (dk_at dksX2_guess_3 10 rfl rfl)
theorem dX2_guess_82 : decode cX2_guess 82 = .ok (.imul, 1) := dk_104 (dk_at dksX2_guess_3 12 rfl rfl)
theorem dX2_guess_83 : decode cX2_guess 83 = .ok (.bipush 100, 2) := dk_16 100 (dk_at dksX2_guess_3 13 rfl rfl)
theorem dX2_guess_85 : decode cX2_guess 85 = .ok (.iload 6, 2) := dk_21 6 (dk_at dksX2_guess_3 15 rfl rfl)
theorem dX2_guess_87 : decode cX2_guess 87 = .ok (.imul, 1) := dk_104 (dk_at dksX2_guess_3 17 rfl rfl)
theorem dX2_guess_88 : decode cX2_guess 88 = .ok (.iadd, 1) := dk_96 (dk_at dksX2_guess_3 18 rfl rfl)
theorem dX2_guess_89 : decode cX2_guess 89 = .ok (.iload 7, 2) := dk_21 7 (dk_at dksX2_guess_3 19 rfl rfl)
theorem dX2_guess_91 : decode cX2_guess 91 = .ok (.iadd, 1) := dk_96 (dk_at dksX2_guess_3 21 rfl rfl)
theorem dX2_guess_92 : decode cX2_guess 92 = .ok (.goto 5, 3) := dk_167 0 5 (dk_at dksX2_guess_4 0 rfl rfl)
theorem dX2_guess_95 : decode cX2_guess 95 = .ok (.iload 4, 2) := dk_21 4 (dk_at dksX2_guess_4 3 rfl rfl)
theorem dX2_guess_97 : decode cX2_guess 97 = .ok (.istore 4, 2) := dk_54 4 (dk_at dksX2_guess_4 5 rfl rfl)
theorem dX2_guess_99 : decode cX2_guess 99 = .ok (.iinc 3 1, 3) := dk_132 3 1 (dk_at dksX2_guess_4 7 rfl rfl)
theorem dX2_guess_102 : decode cX2_guess 102 = .ok (.iinc 7 1, 3) := dk_132 7 1 (dk_at dksX2_guess_4 10 rfl rfl)
theorem dX2_guess_105 : decode cX2_guess 105 = .ok (.goto (-62), 3) := dk_167 255 194 (dk_at dksX2_guess_4 13 rfl rfl)
theorem dX2_guess_108 : decode cX2_guess 108 = .ok (.iinc 6 1, 3) := dk_132 6 1 (dk_at dksX2_guess_4 16 rfl rfl)
theorem dX2_guess_111 : decode cX2_guess 111 = .ok (.goto (-78), 3) := dk_167 255 178 (dk_at dksX2_guess_4 19 rfl rfl)
theorem dX2_guess_114 : decode cX2_guess 114 = .ok (.iinc 5 1, 3) := dk_132 5 1 (dk_at dksX2_guess_5 0 rfl rfl)
theorem dX2_guess_117 : decode cX2_guess 117 = .ok (.goto (-94), 3) := dk_167 255 162 (dk_at dksX2_guess_5 3 rfl rfl)
theorem dX2_guess_120 : decode cX2_guess 120 = .ok (.aload_n 0, 1) := dk_42 (dk_at dksX2_guess_5 6 rfl rfl)
theorem dX2_guess_121 : decode cX2_guess 121 = .ok (.iload 4, 2) := dk_21 4 (dk_at dksX2_guess_5 7 rfl rfl)
theorem dX2_guess_123 : decode cX2_guess 123 = .ok (.iload_n 3, 1) := dk_29 (dk_at dksX2_guess_5 9 rfl rfl)
theorem dX2_guess_124 : decode cX2_guess 124 = .ok (.invokevirtual 126, 3) := dk_182 0 126 (dk_at dksX2_guess_5 10 rfl rfl)
theorem dX2_guess_127 : decode cX2_guess 127 = .ok (.ireturn, 1) := dk_172 (dk_at dksX2_guess_5 13 rfl rfl)
abbrev cX2_fits : ByteArray := prog_12_method_97_code
def yX2_fits : MethodName := ⟨RX2, "fits", "(IIII)Z"⟩
def dkwX2_fits_4 : List UInt8 := [167, 255, 172, 21, 6, 172]
abbrev dktX2_fits_4 : List UInt8 := dkwX2_fits_4 ++ []
def dkwX2_fits_3 : List UInt8 := [3, 54, 6, 21, 5, 21, 5, 29, 164, 0, 8, 21, 4, 167, 0, 4, 3, 100, 54, 5, 132, 7, 1]
abbrev dktX2_fits_3 : List UInt8 := dkwX2_fits_3 ++ dktX2_fits_4
def dkwX2_fits_2 : List UInt8 := [3, 42, 27, 21, 7, 182, 0, 122, 4, 160, 0, 7, 4, 167, 0, 4, 3, 160, 0, 7, 4, 167, 0, 4]
abbrev dktX2_fits_2 : List UInt8 := dkwX2_fits_2 ++ dktX2_fits_3
def dkwX2_fits_1 : List UInt8 := [153, 0, 74, 16, 60, 21, 5, 28, 96, 184, 0, 158, 54, 5, 21, 5, 29, 164, 0, 7, 4, 167, 0, 4]
abbrev dktX2_fits_1 : List UInt8 := dkwX2_fits_1 ++ dktX2_fits_2
def dkwX2_fits_0 : List UInt8 := [3, 54, 5, 4, 54, 6, 3, 54, 7, 21, 7, 42, 180, 0, 13, 27, 46, 162, 0, 79, 21, 6]
abbrev dktX2_fits_0 : List UInt8 := dkwX2_fits_0 ++ dktX2_fits_1
theorem dksX2_fits_0 : cX2_fits.data.toList.drop 0 = dktX2_fits_0 := by decide +kernel
theorem dksX2_fits_1 : cX2_fits.data.toList.drop 22 = dktX2_fits_1 := dk_seg dksX2_fits_0 22 rfl rfl
theorem dksX2_fits_2 : cX2_fits.data.toList.drop 46 = dktX2_fits_2 := dk_seg dksX2_fits_1 24 rfl rfl
theorem dksX2_fits_3 : cX2_fits.data.toList.drop 70 = dktX2_fits_3 := dk_seg dksX2_fits_2 24 rfl rfl
theorem dksX2_fits_4 : cX2_fits.data.toList.drop 93 = dktX2_fits_4 := dk_seg dksX2_fits_3 23 rfl rfl
theorem dX2_fits_0 : decode cX2_fits 0 = .ok (.iconst 0, 1) := dk_3 (dk_at dksX2_fits_0 0 rfl rfl)
theorem dX2_fits_1 : decode cX2_fits 1 = .ok (.istore 5, 2) := dk_54 5 (dk_at dksX2_fits_0 1 rfl rfl)
theorem dX2_fits_3 : decode cX2_fits 3 = .ok (.iconst 1, 1) := dk_4 (dk_at dksX2_fits_0 3 rfl rfl)
theorem dX2_fits_4 : decode cX2_fits 4 = .ok (.istore 6, 2) := dk_54 6 (dk_at dksX2_fits_0 4 rfl rfl)
theorem dX2_fits_6 : decode cX2_fits 6 = .ok (.iconst 0, 1) := dk_3 (dk_at dksX2_fits_0 6 rfl rfl)
theorem dX2_fits_7 : decode cX2_fits 7 = .ok (.istore 7, 2) := dk_54 7 (dk_at dksX2_fits_0 7 rfl rfl)
theorem dX2_fits_9 : decode cX2_fits 9 = .ok (.iload 7, 2) := dk_21 7 (dk_at dksX2_fits_0 9 rfl rfl)
theorem dX2_fits_11 : decode cX2_fits 11 = .ok (.aload_n 0, 1) := dk_42 (dk_at dksX2_fits_0 11 rfl rfl)
theorem dX2_fits_12 : decode cX2_fits 12 = .ok (.getfield 13, 3) := dk_180 0 13 (dk_at dksX2_fits_0 12 rfl rfl)
theorem dX2_fits_15 : decode cX2_fits 15 = .ok (.iload_n 1, 1) := dk_27 (dk_at dksX2_fits_0 15 rfl rfl)
theorem dX2_fits_16 : decode cX2_fits 16 = .ok (.iaload, 1) := dk_46 (dk_at dksX2_fits_0 16 rfl rfl)
theorem dX2_fits_17 : decode cX2_fits 17 = .ok (.if_icmp .ge 79, 3) := dk_162 0 79 (dk_at dksX2_fits_0 17 rfl rfl)
theorem dX2_fits_20 : decode cX2_fits 20 = .ok (.iload 6, 2) := dk_21 6 (dk_at dksX2_fits_0 20 rfl rfl)
theorem dX2_fits_22 : decode cX2_fits 22 = .ok (.ifCond .eq 74, 3) := dk_153 0 74 (dk_at dksX2_fits_1 0 rfl rfl)
theorem dX2_fits_25 : decode cX2_fits 25 = .ok (.bipush 60, 2) := dk_16 60 (dk_at dksX2_fits_1 3 rfl rfl)
theorem dX2_fits_27 : decode cX2_fits 27 = .ok (.iload 5, 2) := dk_21 5 (dk_at dksX2_fits_1 5 rfl rfl)
theorem dX2_fits_29 : decode cX2_fits 29 = .ok (.iload_n 2, 1) := dk_28 (dk_at dksX2_fits_1 7 rfl rfl)
theorem dX2_fits_30 : decode cX2_fits 30 = .ok (.iadd, 1) := dk_96 (dk_at dksX2_fits_1 8 rfl rfl)
theorem dX2_fits_31 : decode cX2_fits 31 = .ok (.invokestatic 158, 3) := dk_184 0 158 (dk_at dksX2_fits_1 9 rfl rfl)
theorem dX2_fits_34 : decode cX2_fits 34 = .ok (.istore 5, 2) := dk_54 5 (dk_at dksX2_fits_1 12 rfl rfl)
theorem dX2_fits_36 : decode cX2_fits 36 = .ok (.iload 5, 2) := dk_21 5 (dk_at dksX2_fits_1 14 rfl rfl)
theorem dX2_fits_38 : decode cX2_fits 38 = .ok (.iload_n 3, 1) := dk_29 (dk_at dksX2_fits_1 16 rfl rfl)
theorem dX2_fits_39 : decode cX2_fits 39 = .ok (.if_icmp .le 7, 3) := dk_164 0 7 (dk_at dksX2_fits_1 17 rfl rfl)
theorem dX2_fits_42 : decode cX2_fits 42 = .ok (.iconst 1, 1) := dk_4 (dk_at dksX2_fits_1 20 rfl rfl)
theorem dX2_fits_43 : decode cX2_fits 43 = .ok (.goto 4, 3) := dk_167 0 4 (dk_at dksX2_fits_1 21 rfl rfl)
theorem dX2_fits_46 : decode cX2_fits 46 = .ok (.iconst 0, 1) := dk_3 (dk_at dksX2_fits_2 0 rfl rfl)
theorem dX2_fits_47 : decode cX2_fits 47 = .ok (.aload_n 0, 1) := dk_42 (dk_at dksX2_fits_2 1 rfl rfl)
theorem dX2_fits_48 : decode cX2_fits 48 = .ok (.iload_n 1, 1) := dk_27 (dk_at dksX2_fits_2 2 rfl rfl)
theorem dX2_fits_49 : decode cX2_fits 49 = .ok (.iload 7, 2) := dk_21 7 (dk_at dksX2_fits_2 3 rfl rfl)
theorem dX2_fits_51 : decode cX2_fits 51 = .ok (.invokevirtual 122, 3) := dk_182 0 122 (dk_at dksX2_fits_2 5 rfl rfl)
theorem dX2_fits_54 : decode cX2_fits 54 = .ok (.iconst 1, 1) := dk_4 (dk_at dksX2_fits_2 8 rfl rfl)
theorem dX2_fits_55 : decode cX2_fits 55 = .ok (.if_icmp .ne 7, 3) := dk_160 0 7 (dk_at dksX2_fits_2 9 rfl rfl)
theorem dX2_fits_58 : decode cX2_fits 58 = .ok (.iconst 1, 1) := dk_4 (dk_at dksX2_fits_2 12 rfl rfl)
theorem dX2_fits_59 : decode cX2_fits 59 = .ok (.goto 4, 3) := dk_167 0 4 (dk_at dksX2_fits_2 13 rfl rfl)
theorem dX2_fits_62 : decode cX2_fits 62 = .ok (.iconst 0, 1) := dk_3 (dk_at dksX2_fits_2 16 rfl rfl)
theorem dX2_fits_63 : decode cX2_fits 63 = .ok (.if_icmp .ne 7, 3) := dk_160 0 7 (dk_at dksX2_fits_2 17 rfl rfl)
theorem dX2_fits_66 : decode cX2_fits 66 = .ok (.iconst 1, 1) := dk_4 (dk_at dksX2_fits_2 20 rfl rfl)
theorem dX2_fits_67 : decode cX2_fits 67 = .ok (.goto 4, 3) := dk_167 0 4 (dk_at dksX2_fits_2 21 rfl rfl)
theorem dX2_fits_70 : decode cX2_fits 70 = .ok (.iconst 0, 1) := dk_3 (dk_at dksX2_fits_3 0 rfl rfl)
theorem dX2_fits_71 : decode cX2_fits 71 = .ok (.istore 6, 2) := dk_54 6 (dk_at dksX2_fits_3 1 rfl rfl)
theorem dX2_fits_73 : decode cX2_fits 73 = .ok (.iload 5, 2) := dk_21 5 (dk_at dksX2_fits_3 3 rfl rfl)
theorem dX2_fits_75 : decode cX2_fits 75 = .ok (.iload 5, 2) := dk_21 5 (dk_at dksX2_fits_3 5 rfl rfl)
theorem dX2_fits_77 : decode cX2_fits 77 = .ok (.iload_n 3, 1) := dk_29 (dk_at dksX2_fits_3 7 rfl rfl)
theorem dX2_fits_78 : decode cX2_fits 78 = .ok (.if_icmp .le 8, 3) := dk_164 0 8 (dk_at dksX2_fits_3 8 rfl rfl)
theorem dX2_fits_81 : decode cX2_fits 81 = .ok (.iload 4, 2) := dk_21 4 (dk_at dksX2_fits_3 11 rfl rfl)
theorem dX2_fits_83 : decode cX2_fits 83 = .ok (.goto 4, 3) := dk_167 0 4 (dk_at dksX2_fits_3 13 rfl rfl)
theorem dX2_fits_86 : decode cX2_fits 86 = .ok (.iconst 0, 1) := dk_3 (dk_at dksX2_fits_3 16 rfl rfl)
theorem dX2_fits_87 : decode cX2_fits 87 = .ok (.isub, 1) := dk_100 (dk_at dksX2_fits_3 17 rfl rfl)
theorem dX2_fits_88 : decode cX2_fits 88 = .ok (.istore 5, 2) := dk_54 5 (dk_at dksX2_fits_3 18 rfl rfl)
theorem dX2_fits_90 : decode cX2_fits 90 = .ok (.iinc 7 1, 3) := dk_132 7 1 (dk_at dksX2_fits_3 20 rfl rfl)
theorem dX2_fits_93 : decode cX2_fits 93 = .ok (.goto (-84), 3) := dk_167 255 172 (dk_at dksX2_fits_4 0 rfl rfl)
theorem dX2_fits_96 : decode cX2_fits 96 = .ok (.iload 6, 2) := dk_21 6 (dk_at dksX2_fits_4 3 rfl rfl)
theorem dX2_fits_98 : decode cX2_fits 98 = .ok (.ireturn, 1) := dk_172 (dk_at dksX2_fits_4 5 rfl rfl)
abbrev cX2_plan : ByteArray := prog_12_method_99_code
def yX2_plan : MethodName := ⟨RX2, "plan", "(II)I"⟩
def dkwX2_plan_7 : List UInt8 := [172]
abbrev dktX2_plan_7 : List UInt8 := dkwX2_plan_7 ++ []
def dkwX2_plan_6 : List UInt8 := [132, 5, 1, 167, 255, 146, 29, 16, 247, 160, 0, 8, 16, 247, 167, 0, 10, 42, 29, 21, 4, 182, 0, 126]
abbrev dktX2_plan_6 : List UInt8 := dkwX2_plan_6 ++ dktX2_plan_7
def dkwX2_plan_5 : List UInt8 := [161, 0, 23, 29, 16, 247, 159, 0, 10, 21, 6, 21, 4, 164, 0, 10, 21, 5, 62, 21, 6, 54, 4]
abbrev dktX2_plan_5 : List UInt8 := dkwX2_plan_5 ++ dktX2_plan_6
def dkwX2_plan_4 : List UInt8 := [54, 6, 21, 7, 42, 180, 1, 10, 96, 54, 7, 132, 8, 1, 167, 255, 199, 42, 182, 1, 40, 21, 7, 28]
abbrev dktX2_plan_4 : List UInt8 := dkwX2_plan_4 ++ dktX2_plan_5
def dkwX2_plan_3 : List UInt8 := [182, 1, 13, 21, 6, 21, 5, 21, 8, 184, 0, 239, 153, 0, 10, 42, 180, 0, 251, 167, 0, 4, 3, 96]
abbrev dktX2_plan_3 : List UInt8 := dkwX2_plan_3 ++ dktX2_plan_4
def dkwX2_plan_2 : List UInt8 := [54, 7, 3, 54, 8, 21, 8, 27, 162, 0, 57, 42, 42, 182, 1, 17, 3, 21, 5, 21, 8, 184, 0, 239]
abbrev dktX2_plan_2 : List UInt8 := dkwX2_plan_2 ++ dktX2_plan_3
def dkwX2_plan_1 : List UInt8 := [182, 1, 30, 16, 247, 62, 3, 54, 4, 3, 54, 5, 21, 5, 4, 27, 120, 162, 0, 108, 3, 54, 6, 3]
abbrev dktX2_plan_1 : List UInt8 := dkwX2_plan_1 ++ dktX2_plan_2
def dkwX2_plan_0 : List UInt8 := [27, 4, 16, 10, 184, 0, 104, 153, 0, 14, 28, 3, 17, 39, 15, 184, 0, 104, 154, 0, 5, 2, 172, 42]
abbrev dktX2_plan_0 : List UInt8 := dkwX2_plan_0 ++ dktX2_plan_1
theorem dksX2_plan_0 : cX2_plan.data.toList.drop 0 = dktX2_plan_0 := by decide +kernel
theorem dksX2_plan_1 : cX2_plan.data.toList.drop 24 = dktX2_plan_1 := dk_seg dksX2_plan_0 24 rfl rfl
theorem dksX2_plan_2 : cX2_plan.data.toList.drop 48 = dktX2_plan_2 := dk_seg dksX2_plan_1 24 rfl rfl
theorem dksX2_plan_3 : cX2_plan.data.toList.drop 72 = dktX2_plan_3 := dk_seg dksX2_plan_2 24 rfl rfl
theorem dksX2_plan_4 : cX2_plan.data.toList.drop 96 = dktX2_plan_4 := dk_seg dksX2_plan_3 24 rfl rfl
theorem dksX2_plan_5 : cX2_plan.data.toList.drop 120 = dktX2_plan_5 := dk_seg dksX2_plan_4 24 rfl rfl
theorem dksX2_plan_6 : cX2_plan.data.toList.drop 143 = dktX2_plan_6 := dk_seg dksX2_plan_5 23 rfl rfl
theorem dksX2_plan_7 : cX2_plan.data.toList.drop 167 = dktX2_plan_7 := dk_seg dksX2_plan_6 24 rfl rfl
theorem dX2_plan_0 : decode cX2_plan 0 = .ok (.iload_n 1, 1) := dk_27 (dk_at dksX2_plan_0 0 rfl rfl)
theorem dX2_plan_1 : decode cX2_plan 1 = .ok (.iconst 1, 1) := dk_4 (dk_at dksX2_plan_0 1 rfl rfl)
theorem dX2_plan_2 : decode cX2_plan 2 = .ok (.bipush 10, 2) := dk_16 10 (dk_at dksX2_plan_0 2 rfl rfl)
theorem dX2_plan_4 : decode cX2_plan 4 = .ok (.invokestatic 104, 3) := dk_184 0 104 (dk_at dksX2_plan_0 4 rfl rfl)
theorem dX2_plan_7 : decode cX2_plan 7 = .ok (.ifCond .eq 14, 3) := dk_153 0 14 (dk_at dksX2_plan_0 7 rfl rfl)
theorem dX2_plan_10 : decode cX2_plan 10 = .ok (.iload_n 2, 1) := dk_28 (dk_at dksX2_plan_0 10 rfl rfl)
theorem dX2_plan_11 : decode cX2_plan 11 = .ok (.iconst 0, 1) := dk_3 (dk_at dksX2_plan_0 11 rfl rfl)
theorem dX2_plan_12 : decode cX2_plan 12 = .ok (.sipush 9999, 3) := dk_17 39 15 (dk_at dksX2_plan_0 12 rfl rfl)
theorem dX2_plan_15 : decode cX2_plan 15 = .ok (.invokestatic 104, 3) := dk_184 0 104 (dk_at dksX2_plan_0 15 rfl rfl)
theorem dX2_plan_18 : decode cX2_plan 18 = .ok (.ifCond .ne 5, 3) := dk_154 0 5 (dk_at dksX2_plan_0 18 rfl rfl)
theorem dX2_plan_21 : decode cX2_plan 21 = .ok (.iconst (-1), 1) := dk_2 (dk_at dksX2_plan_0 21 rfl rfl)
theorem dX2_plan_22 : decode cX2_plan 22 = .ok (.ireturn, 1) := dk_172 (dk_at dksX2_plan_0 22 rfl rfl)
theorem dX2_plan_23 : decode cX2_plan 23 = .ok (.aload_n 0, 1) := dk_42 (dk_at dksX2_plan_0 23 rfl rfl)
theorem dX2_plan_24 : decode cX2_plan 24 = .ok (.invokevirtual 286, 3) := dk_182 1 30 (dk_at dksX2_plan_1 0 rfl rfl)
theorem dX2_plan_27 : decode cX2_plan 27 = .ok (.bipush (-9), 2) := dk_16 247 (dk_at dksX2_plan_1 3 rfl rfl)
theorem dX2_plan_29 : decode cX2_plan 29 = .ok (.istore_n 3, 1) := dk_62 (dk_at dksX2_plan_1 5 rfl rfl)
theorem dX2_plan_30 : decode cX2_plan 30 = .ok (.iconst 0, 1) := dk_3 (dk_at dksX2_plan_1 6 rfl rfl)
theorem dX2_plan_31 : decode cX2_plan 31 = .ok (.istore 4, 2) := dk_54 4 (dk_at dksX2_plan_1 7 rfl rfl)
theorem dX2_plan_33 : decode cX2_plan 33 = .ok (.iconst 0, 1) := dk_3 (dk_at dksX2_plan_1 9 rfl rfl)
theorem dX2_plan_34 : decode cX2_plan 34 = .ok (.istore 5, 2) := dk_54 5 (dk_at dksX2_plan_1 10 rfl rfl)
theorem dX2_plan_36 : decode cX2_plan 36 = .ok (.iload 5, 2) := dk_21 5 (dk_at dksX2_plan_1 12 rfl rfl)
theorem dX2_plan_38 : decode cX2_plan 38 = .ok (.iconst 1, 1) := dk_4 (dk_at dksX2_plan_1 14 rfl rfl)
theorem dX2_plan_39 : decode cX2_plan 39 = .ok (.iload_n 1, 1) := dk_27 (dk_at dksX2_plan_1 15 rfl rfl)
theorem dX2_plan_40 : decode cX2_plan 40 = .ok (.ishl, 1) := dk_120 (dk_at dksX2_plan_1 16 rfl rfl)
theorem dX2_plan_41 : decode cX2_plan 41 = .ok (.if_icmp .ge 108, 3) := dk_162 0 108 (dk_at dksX2_plan_1 17 rfl rfl)
theorem dX2_plan_44 : decode cX2_plan 44 = .ok (.iconst 0, 1) := dk_3 (dk_at dksX2_plan_1 20 rfl rfl)
theorem dX2_plan_45 : decode cX2_plan 45 = .ok (.istore 6, 2) := dk_54 6 (dk_at dksX2_plan_1 21 rfl rfl)
theorem dX2_plan_47 : decode cX2_plan 47 = .ok (.iconst 0, 1) := dk_3 (dk_at dksX2_plan_1 23 rfl rfl)
theorem dX2_plan_48 : decode cX2_plan 48 = .ok (.istore 7, 2) := dk_54 7 (dk_at dksX2_plan_2 0 rfl rfl)
theorem dX2_plan_50 : decode cX2_plan 50 = .ok (.iconst 0, 1) := dk_3 (dk_at dksX2_plan_2 2 rfl rfl)
theorem dX2_plan_51 : decode cX2_plan 51 = .ok (.istore 8, 2) := dk_54 8 (dk_at dksX2_plan_2 3 rfl rfl)
theorem dX2_plan_53 : decode cX2_plan 53 = .ok (.iload 8, 2) := dk_21 8 (dk_at dksX2_plan_2 5 rfl rfl)
theorem dX2_plan_55 : decode cX2_plan 55 = .ok (.iload_n 1, 1) := dk_27 (dk_at dksX2_plan_2 7 rfl rfl)
theorem dX2_plan_56 : decode cX2_plan 56 = .ok (.if_icmp .ge 57, 3) := dk_162 0 57 (dk_at dksX2_plan_2 8 rfl rfl)
theorem dX2_plan_59 : decode cX2_plan 59 = .ok (.aload_n 0, 1) := dk_42 (dk_at dksX2_plan_2 11 rfl rfl)
theorem dX2_plan_60 : decode cX2_plan 60 = .ok (.aload_n 0, 1) := dk_42 (dk_at dksX2_plan_2 12 rfl rfl)
theorem dX2_plan_61 : decode cX2_plan 61 = .ok (.invokevirtual 273, 3) := dk_182 1 17 (dk_at dksX2_plan_2 13 rfl rfl)
theorem dX2_plan_64 : decode cX2_plan 64 = .ok (.iconst 0, 1) := dk_3 (dk_at dksX2_plan_2 16 rfl rfl)
theorem dX2_plan_65 : decode cX2_plan 65 = .ok (.iload 5, 2) := dk_21 5 (dk_at dksX2_plan_2 17 rfl rfl)
theorem dX2_plan_67 : decode cX2_plan 67 = .ok (.iload 8, 2) := dk_21 8 (dk_at dksX2_plan_2 19 rfl rfl)
theorem dX2_plan_69 : decode cX2_plan 69 = .ok (.invokestatic 239, 3) := dk_184 0 239 (dk_at dksX2_plan_2 21 rfl rfl)
theorem dX2_plan_72 : decode cX2_plan 72 = .ok (.invokevirtual 269, 3) := dk_182 1 13 (dk_at dksX2_plan_3 0 rfl rfl)
theorem dX2_plan_75 : decode cX2_plan 75 = .ok (.iload 6, 2) := dk_21 6 (dk_at dksX2_plan_3 3 rfl rfl)
theorem dX2_plan_77 : decode cX2_plan 77 = .ok (.iload 5, 2) := dk_21 5 (dk_at dksX2_plan_3 5 rfl rfl)
theorem dX2_plan_79 : decode cX2_plan 79 = .ok (.iload 8, 2) := dk_21 8 (dk_at dksX2_plan_3 7 rfl rfl)
theorem dX2_plan_81 : decode cX2_plan 81 = .ok (.invokestatic 239, 3) := dk_184 0 239 (dk_at dksX2_plan_3 9 rfl rfl)
theorem dX2_plan_84 : decode cX2_plan 84 = .ok (.ifCond .eq 10, 3) := dk_153 0 10 (dk_at dksX2_plan_3 12 rfl rfl)
theorem dX2_plan_87 : decode cX2_plan 87 = .ok (.aload_n 0, 1) := dk_42 (dk_at dksX2_plan_3 15 rfl rfl)
theorem dX2_plan_88 : decode cX2_plan 88 = .ok (.getfield 251, 3) := dk_180 0 251 (dk_at dksX2_plan_3 16 rfl rfl)
theorem dX2_plan_91 : decode cX2_plan 91 = .ok (.goto 4, 3) := dk_167 0 4 (dk_at dksX2_plan_3 19 rfl rfl)
theorem dX2_plan_94 : decode cX2_plan 94 = .ok (.iconst 0, 1) := dk_3 (dk_at dksX2_plan_3 22 rfl rfl)
theorem dX2_plan_95 : decode cX2_plan 95 = .ok (.iadd, 1) := dk_96 (dk_at dksX2_plan_3 23 rfl rfl)
theorem dX2_plan_96 : decode cX2_plan 96 = .ok (.istore 6, 2) := dk_54 6 (dk_at dksX2_plan_4 0 rfl rfl)
theorem dX2_plan_98 : decode cX2_plan 98 = .ok (.iload 7, 2) := dk_21 7 (dk_at dksX2_plan_4 2 rfl rfl)
theorem dX2_plan_100 : decode cX2_plan 100 = .ok (.aload_n 0, 1) := dk_42 (dk_at dksX2_plan_4 4 rfl rfl)
theorem dX2_plan_101 : decode cX2_plan 101 = .ok (.getfield 266, 3) := dk_180 1 10 (dk_at dksX2_plan_4 5 rfl rfl)
theorem dX2_plan_104 : decode cX2_plan 104 = .ok (.iadd, 1) := dk_96 (dk_at dksX2_plan_4 8 rfl rfl)
theorem dX2_plan_105 : decode cX2_plan 105 = .ok (.istore 7, 2) := dk_54 7 (dk_at dksX2_plan_4 9 rfl rfl)
theorem dX2_plan_107 : decode cX2_plan 107 = .ok (.iinc 8 1, 3) := dk_132 8 1 (dk_at dksX2_plan_4 11 rfl rfl)
theorem dX2_plan_110 : decode cX2_plan 110 = .ok (.goto (-57), 3) := dk_167 255 199 (dk_at dksX2_plan_4 14 rfl rfl)
theorem dX2_plan_113 : decode cX2_plan 113 = .ok (.aload_n 0, 1) := dk_42 (dk_at dksX2_plan_4 17 rfl rfl)
theorem dX2_plan_114 : decode cX2_plan 114 = .ok (.invokevirtual 296, 3) := dk_182 1 40 (dk_at dksX2_plan_4 18 rfl rfl)
theorem dX2_plan_117 : decode cX2_plan 117 = .ok (.iload 7, 2) := dk_21 7 (dk_at dksX2_plan_4 21 rfl rfl)
theorem dX2_plan_119 : decode cX2_plan 119 = .ok (.iload_n 2, 1) := dk_28 (dk_at dksX2_plan_4 23 rfl rfl)
theorem dX2_plan_120 : decode cX2_plan 120 = .ok (.if_icmp .lt 23, 3) := dk_161 0 23 (dk_at dksX2_plan_5 0 rfl rfl)
theorem dX2_plan_123 : decode cX2_plan 123 = .ok (.iload_n 3, 1) := dk_29 (dk_at dksX2_plan_5 3 rfl rfl)
theorem dX2_plan_124 : decode cX2_plan 124 = .ok (.bipush (-9), 2) := dk_16 247 (dk_at dksX2_plan_5 4 rfl rfl)
theorem dX2_plan_126 : decode cX2_plan 126 = .ok (.if_icmp .eq 10, 3) := dk_159 0 10 (dk_at dksX2_plan_5 6 rfl rfl)
theorem dX2_plan_129 : decode cX2_plan 129 = .ok (.iload 6, 2) := dk_21 6 (dk_at dksX2_plan_5 9 rfl rfl)
theorem dX2_plan_131 : decode cX2_plan 131 = .ok (.iload 4, 2) := dk_21 4 (dk_at dksX2_plan_5 11 rfl rfl)
theorem dX2_plan_133 : decode cX2_plan 133 = .ok (.if_icmp .le 10, 3) := dk_164 0 10 (dk_at dksX2_plan_5 13 rfl rfl)
theorem dX2_plan_136 : decode cX2_plan 136 = .ok (.iload 5, 2) := dk_21 5 (dk_at dksX2_plan_5 16 rfl rfl)
theorem dX2_plan_138 : decode cX2_plan 138 = .ok (.istore_n 3, 1) := dk_62 (dk_at dksX2_plan_5 18 rfl rfl)
theorem dX2_plan_139 : decode cX2_plan 139 = .ok (.iload 6, 2) := dk_21 6 (dk_at dksX2_plan_5 19 rfl rfl)
theorem dX2_plan_141 : decode cX2_plan 141 = .ok (.istore 4, 2) := dk_54 4 (dk_at dksX2_plan_5 21 rfl rfl)
theorem dX2_plan_143 : decode cX2_plan 143 = .ok (.iinc 5 1, 3) := dk_132 5 1 (dk_at dksX2_plan_6 0 rfl rfl)
theorem dX2_plan_146 : decode cX2_plan 146 = .ok (.goto (-110), 3) := dk_167 255 146 (dk_at dksX2_plan_6 3 rfl rfl)
theorem dX2_plan_149 : decode cX2_plan 149 = .ok (.iload_n 3, 1) := dk_29 (dk_at dksX2_plan_6 6 rfl rfl)
theorem dX2_plan_150 : decode cX2_plan 150 = .ok (.bipush (-9), 2) := dk_16 247 (dk_at dksX2_plan_6 7 rfl rfl)
theorem dX2_plan_152 : decode cX2_plan 152 = .ok (.if_icmp .ne 8, 3) := dk_160 0 8 (dk_at dksX2_plan_6 9 rfl rfl)
theorem dX2_plan_155 : decode cX2_plan 155 = .ok (.bipush (-9), 2) := dk_16 247 (dk_at dksX2_plan_6 12 rfl rfl)
theorem dX2_plan_157 : decode cX2_plan 157 = .ok (.goto 10, 3) := dk_167 0 10 (dk_at dksX2_plan_6 14 rfl rfl)
theorem dX2_plan_160 : decode cX2_plan 160 = .ok (.aload_n 0, 1) := dk_42 (dk_at dksX2_plan_6 17 rfl rfl)
theorem dX2_plan_161 : decode cX2_plan 161 = .ok (.iload_n 3, 1) := dk_29 (dk_at dksX2_plan_6 18 rfl rfl)
theorem dX2_plan_162 : decode cX2_plan 162 = .ok (.iload 4, 2) := dk_21 4 (dk_at dksX2_plan_6 19 rfl rfl)
theorem dX2_plan_164 : decode cX2_plan 164 = .ok (.invokevirtual 126, 3) := dk_182 0 126 (dk_at dksX2_plan_6 21 rfl rfl)
theorem dX2_plan_167 : decode cX2_plan 167 = .ok (.ireturn, 1) := dk_172 (dk_at dksX2_plan_7 0 rfl rfl)
abbrev cX2_count : ByteArray := prog_12_method_101_code
def yX2_count : MethodName := ⟨RX2, "count", "(I)I"⟩
def dkwX2_count_0 : List UInt8 := [27, 3, 8, 184, 0, 104, 153, 0, 11, 42, 27, 182, 1, 120, 167, 0, 4, 2, 172]
abbrev dktX2_count_0 : List UInt8 := dkwX2_count_0 ++ []
theorem dksX2_count_0 : cX2_count.data.toList.drop 0 = dktX2_count_0 := by decide +kernel
theorem dX2_count_0 : decode cX2_count 0 = .ok (.iload_n 1, 1) := dk_27 (dk_at dksX2_count_0 0 rfl rfl)
theorem dX2_count_1 : decode cX2_count 1 = .ok (.iconst 0, 1) := dk_3 (dk_at dksX2_count_0 1 rfl rfl)
theorem dX2_count_2 : decode cX2_count 2 = .ok (.iconst 5, 1) := dk_8 (dk_at dksX2_count_0 2 rfl rfl)
theorem dX2_count_3 : decode cX2_count 3 = .ok (.invokestatic 104, 3) := dk_184 0 104 (dk_at dksX2_count_0 3 rfl rfl)
theorem dX2_count_6 : decode cX2_count 6 = .ok (.ifCond .eq 11, 3) := dk_153 0 11 (dk_at dksX2_count_0 6 rfl rfl)
theorem dX2_count_9 : decode cX2_count 9 = .ok (.aload_n 0, 1) := dk_42 (dk_at dksX2_count_0 9 rfl rfl)
theorem dX2_count_10 : decode cX2_count 10 = .ok (.iload_n 1, 1) := dk_27 (dk_at dksX2_count_0 10 rfl rfl)
theorem dX2_count_11 : decode cX2_count 11 = .ok (.invokevirtual 376, 3) := dk_182 1 120 (dk_at dksX2_count_0 11 rfl rfl)
theorem dX2_count_14 : decode cX2_count 14 = .ok (.goto 4, 3) := dk_167 0 4 (dk_at dksX2_count_0 14 rfl rfl)
theorem dX2_count_17 : decode cX2_count 17 = .ok (.iconst (-1), 1) := dk_2 (dk_at dksX2_count_0 17 rfl rfl)
theorem dX2_count_18 : decode cX2_count 18 = .ok (.ireturn, 1) := dk_172 (dk_at dksX2_count_0 18 rfl rfl)
abbrev cX2_counted : ByteArray := prog_12_method_100_code
def yX2_counted : MethodName := ⟨RX2, "counted", "(I)I"⟩
def dkwX2_counted_6 : List UInt8 := [160, 0, 10, 42, 180, 0, 194, 167, 0, 4, 28, 172]
abbrev dktX2_counted_6 : List UInt8 := dkwX2_counted_6 ++ []
def dkwX2_counted_5 : List UInt8 := [160, 0, 10, 42, 180, 0, 191, 167, 0, 28, 27, 6, 160, 0, 10, 42, 180, 0, 203, 167, 0, 16, 27, 8]
abbrev dktX2_counted_5 : List UInt8 := dkwX2_counted_5 ++ dktX2_counted_6
def dkwX2_counted_4 : List UInt8 := [29, 46, 182, 0, 215, 153, 0, 7, 4, 167, 0, 4, 3, 96, 61, 132, 3, 1, 167, 255, 219, 27, 5]
abbrev dktX2_counted_4 : List UInt8 := dkwX2_counted_4 ++ dktX2_counted_5
def dkwX2_counted_3 : List UInt8 := [167, 255, 226, 3, 62, 29, 42, 180, 0, 203, 162, 0, 35, 28, 27, 7, 160, 0, 20, 42, 42, 180, 0, 65]
abbrev dktX2_counted_3 : List UInt8 := dkwX2_counted_3 ++ dktX2_counted_4
def dkwX2_counted_2 : List UInt8 := [160, 0, 16, 42, 180, 0, 22, 29, 46, 155, 0, 7, 4, 167, 0, 4, 3, 96, 61, 132, 3, 1]
abbrev dktX2_counted_2 : List UInt8 := dkwX2_counted_2 ++ dktX2_counted_3
def dkwX2_counted_1 : List UInt8 := [4, 167, 0, 4, 3, 96, 61, 132, 3, 1, 167, 255, 226, 3, 62, 29, 7, 162, 0, 31, 28, 27, 4]
abbrev dktX2_counted_1 : List UInt8 := dkwX2_counted_1 ++ dktX2_counted_2
def dkwX2_counted_0 : List UInt8 := [3, 61, 3, 62, 29, 16, 6, 162, 0, 30, 28, 27, 154, 0, 16, 42, 180, 0, 13, 29, 46, 155, 0, 7]
abbrev dktX2_counted_0 : List UInt8 := dkwX2_counted_0 ++ dktX2_counted_1
theorem dksX2_counted_0 : cX2_counted.data.toList.drop 0 = dktX2_counted_0 := by decide +kernel
theorem dksX2_counted_1 : cX2_counted.data.toList.drop 24 = dktX2_counted_1 := dk_seg dksX2_counted_0 24 rfl rfl
theorem dksX2_counted_2 : cX2_counted.data.toList.drop 47 = dktX2_counted_2 := dk_seg dksX2_counted_1 23 rfl rfl
theorem dksX2_counted_3 : cX2_counted.data.toList.drop 69 = dktX2_counted_3 := dk_seg dksX2_counted_2 22 rfl rfl
theorem dksX2_counted_4 : cX2_counted.data.toList.drop 93 = dktX2_counted_4 := dk_seg dksX2_counted_3 24 rfl rfl
theorem dksX2_counted_5 : cX2_counted.data.toList.drop 116 = dktX2_counted_5 := dk_seg dksX2_counted_4 23 rfl rfl
theorem dksX2_counted_6 : cX2_counted.data.toList.drop 140 = dktX2_counted_6 := dk_seg dksX2_counted_5 24 rfl rfl
theorem dX2_counted_0 : decode cX2_counted 0 = .ok (.iconst 0, 1) := dk_3 (dk_at dksX2_counted_0 0 rfl rfl)
theorem dX2_counted_1 : decode cX2_counted 1 = .ok (.istore_n 2, 1) := dk_61 (dk_at dksX2_counted_0 1 rfl rfl)
theorem dX2_counted_2 : decode cX2_counted 2 = .ok (.iconst 0, 1) := dk_3 (dk_at dksX2_counted_0 2 rfl rfl)
theorem dX2_counted_3 : decode cX2_counted 3 = .ok (.istore_n 3, 1) := dk_62 (dk_at dksX2_counted_0 3 rfl rfl)
theorem dX2_counted_4 : decode cX2_counted 4 = .ok (.iload_n 3, 1) := dk_29 (dk_at dksX2_counted_0 4 rfl rfl)
theorem dX2_counted_5 : decode cX2_counted 5 = .ok (.bipush 6, 2) := dk_16 6 (dk_at dksX2_counted_0 5 rfl rfl)
theorem dX2_counted_7 : decode cX2_counted 7 = .ok (.if_icmp .ge 30, 3) := dk_162 0 30 (dk_at dksX2_counted_0 7 rfl rfl)
theorem dX2_counted_10 : decode cX2_counted 10 = .ok (.iload_n 2, 1) := dk_28 (dk_at dksX2_counted_0 10 rfl rfl)
theorem dX2_counted_11 : decode cX2_counted 11 = .ok (.iload_n 1, 1) := dk_27 (dk_at dksX2_counted_0 11 rfl rfl)
theorem dX2_counted_12 : decode cX2_counted 12 = .ok (.ifCond .ne 16, 3) := dk_154 0 16 (dk_at dksX2_counted_0 12 rfl rfl)
theorem dX2_counted_15 : decode cX2_counted 15 = .ok (.aload_n 0, 1) := dk_42 (dk_at dksX2_counted_0 15 rfl rfl)
theorem dX2_counted_16 : decode cX2_counted 16 = .ok (.getfield 13, 3) := dk_180 0 13 (dk_at dksX2_counted_0 16 rfl rfl)
theorem dX2_counted_19 : decode cX2_counted 19 = .ok (.iload_n 3, 1) := dk_29 (dk_at dksX2_counted_0 19 rfl rfl)
theorem dX2_counted_20 : decode cX2_counted 20 = .ok (.iaload, 1) := dk_46 (dk_at dksX2_counted_0 20 rfl rfl)
theorem dX2_counted_21 : decode cX2_counted 21 = .ok (.ifCond .lt 7, 3) := dk_155 0 7 (dk_at dksX2_counted_0 21 rfl rfl)
theorem dX2_counted_24 : decode cX2_counted 24 = .ok (.iconst 1, 1) := dk_4 (dk_at dksX2_counted_1 0 rfl rfl)
theorem dX2_counted_25 : decode cX2_counted 25 = .ok (.goto 4, 3) := dk_167 0 4 (dk_at dksX2_counted_1 1 rfl rfl)
theorem dX2_counted_28 : decode cX2_counted 28 = .ok (.iconst 0, 1) := dk_3 (dk_at dksX2_counted_1 4 rfl rfl)
theorem dX2_counted_29 : decode cX2_counted 29 = .ok (.iadd, 1) := dk_96 (dk_at dksX2_counted_1 5 rfl rfl)
theorem dX2_counted_30 : decode cX2_counted 30 = .ok (.istore_n 2, 1) := dk_61 (dk_at dksX2_counted_1 6 rfl rfl)
theorem dX2_counted_31 : decode cX2_counted 31 = .ok (.iinc 3 1, 3) := dk_132 3 1 (dk_at dksX2_counted_1 7 rfl rfl)
theorem dX2_counted_34 : decode cX2_counted 34 = .ok (.goto (-30), 3) := dk_167 255 226 (dk_at dksX2_counted_1 10 rfl rfl)
theorem dX2_counted_37 : decode cX2_counted 37 = .ok (.iconst 0, 1) := dk_3 (dk_at dksX2_counted_1 13 rfl rfl)
theorem dX2_counted_38 : decode cX2_counted 38 = .ok (.istore_n 3, 1) := dk_62 (dk_at dksX2_counted_1 14 rfl rfl)
theorem dX2_counted_39 : decode cX2_counted 39 = .ok (.iload_n 3, 1) := dk_29 (dk_at dksX2_counted_1 15 rfl rfl)
theorem dX2_counted_40 : decode cX2_counted 40 = .ok (.iconst 4, 1) := dk_7 (dk_at dksX2_counted_1 16 rfl rfl)
theorem dX2_counted_41 : decode cX2_counted 41 = .ok (.if_icmp .ge 31, 3) := dk_162 0 31 (dk_at dksX2_counted_1 17 rfl rfl)
theorem dX2_counted_44 : decode cX2_counted 44 = .ok (.iload_n 2, 1) := dk_28 (dk_at dksX2_counted_1 20 rfl rfl)
theorem dX2_counted_45 : decode cX2_counted 45 = .ok (.iload_n 1, 1) := dk_27 (dk_at dksX2_counted_1 21 rfl rfl)
theorem dX2_counted_46 : decode cX2_counted 46 = .ok (.iconst 1, 1) := dk_4 (dk_at dksX2_counted_1 22 rfl rfl)
theorem dX2_counted_47 : decode cX2_counted 47 = .ok (.if_icmp .ne 16, 3) := dk_160 0 16 (dk_at dksX2_counted_2 0 rfl rfl)
theorem dX2_counted_50 : decode cX2_counted 50 = .ok (.aload_n 0, 1) := dk_42 (dk_at dksX2_counted_2 3 rfl rfl)
theorem dX2_counted_51 : decode cX2_counted 51 = .ok (.getfield 22, 3) := dk_180 0 22 (dk_at dksX2_counted_2 4 rfl rfl)
theorem dX2_counted_54 : decode cX2_counted 54 = .ok (.iload_n 3, 1) := dk_29 (dk_at dksX2_counted_2 7 rfl rfl)
theorem dX2_counted_55 : decode cX2_counted 55 = .ok (.iaload, 1) := dk_46 (dk_at dksX2_counted_2 8 rfl rfl)
theorem dX2_counted_56 : decode cX2_counted 56 = .ok (.ifCond .lt 7, 3) := dk_155 0 7 (dk_at dksX2_counted_2 9 rfl rfl)
theorem dX2_counted_59 : decode cX2_counted 59 = .ok (.iconst 1, 1) := dk_4 (dk_at dksX2_counted_2 12 rfl rfl)
theorem dX2_counted_60 : decode cX2_counted 60 = .ok (.goto 4, 3) := dk_167 0 4 (dk_at dksX2_counted_2 13 rfl rfl)
theorem dX2_counted_63 : decode cX2_counted 63 = .ok (.iconst 0, 1) := dk_3 (dk_at dksX2_counted_2 16 rfl rfl)
theorem dX2_counted_64 : decode cX2_counted 64 = .ok (.iadd, 1) := dk_96 (dk_at dksX2_counted_2 17 rfl rfl)
theorem dX2_counted_65 : decode cX2_counted 65 = .ok (.istore_n 2, 1) := dk_61 (dk_at dksX2_counted_2 18 rfl rfl)
theorem dX2_counted_66 : decode cX2_counted 66 = .ok (.iinc 3 1, 3) := dk_132 3 1 (dk_at dksX2_counted_2 19 rfl rfl)
theorem dX2_counted_69 : decode cX2_counted 69 = .ok (.goto (-30), 3) := dk_167 255 226 (dk_at dksX2_counted_3 0 rfl rfl)
theorem dX2_counted_72 : decode cX2_counted 72 = .ok (.iconst 0, 1) := dk_3 (dk_at dksX2_counted_3 3 rfl rfl)
theorem dX2_counted_73 : decode cX2_counted 73 = .ok (.istore_n 3, 1) := dk_62 (dk_at dksX2_counted_3 4 rfl rfl)
theorem dX2_counted_74 : decode cX2_counted 74 = .ok (.iload_n 3, 1) := dk_29 (dk_at dksX2_counted_3 5 rfl rfl)
theorem dX2_counted_75 : decode cX2_counted 75 = .ok (.aload_n 0, 1) := dk_42 (dk_at dksX2_counted_3 6 rfl rfl)
theorem dX2_counted_76 : decode cX2_counted 76 = .ok (.getfield 203, 3) := dk_180 0 203 (dk_at dksX2_counted_3 7 rfl rfl)
theorem dX2_counted_79 : decode cX2_counted 79 = .ok (.if_icmp .ge 35, 3) := dk_162 0 35 (dk_at dksX2_counted_3 10 rfl rfl)
theorem dX2_counted_82 : decode cX2_counted 82 = .ok (.iload_n 2, 1) := dk_28 (dk_at dksX2_counted_3 13 rfl rfl)
theorem dX2_counted_83 : decode cX2_counted 83 = .ok (.iload_n 1, 1) := dk_27 (dk_at dksX2_counted_3 14 rfl rfl)
theorem dX2_counted_84 : decode cX2_counted 84 = .ok (.iconst 4, 1) := dk_7 (dk_at dksX2_counted_3 15 rfl rfl)
theorem dX2_counted_85 : decode cX2_counted 85 = .ok (.if_icmp .ne 20, 3) := dk_160 0 20 (dk_at dksX2_counted_3 16 rfl rfl)
theorem dX2_counted_88 : decode cX2_counted 88 = .ok (.aload_n 0, 1) := dk_42 (dk_at dksX2_counted_3 19 rfl rfl)
theorem dX2_counted_89 : decode cX2_counted 89 = .ok (.aload_n 0, 1) := dk_42 (dk_at dksX2_counted_3 20 rfl rfl)
theorem dX2_counted_90 : decode cX2_counted 90 = .ok (.getfield 65, 3) := dk_180 0 65 (dk_at dksX2_counted_3 21 rfl rfl)
theorem dX2_counted_93 : decode cX2_counted 93 = .ok (.iload_n 3, 1) := dk_29 (dk_at dksX2_counted_4 0 rfl rfl)
theorem dX2_counted_94 : decode cX2_counted 94 = .ok (.iaload, 1) := dk_46 (dk_at dksX2_counted_4 1 rfl rfl)
theorem dX2_counted_95 : decode cX2_counted 95 = .ok (.invokevirtual 215, 3) := dk_182 0 215 (dk_at dksX2_counted_4 2 rfl rfl)
theorem dX2_counted_98 : decode cX2_counted 98 = .ok (.ifCond .eq 7, 3) := dk_153 0 7 (dk_at dksX2_counted_4 5 rfl rfl)
theorem dX2_counted_101 : decode cX2_counted 101 = .ok (.iconst 1, 1) := dk_4 (dk_at dksX2_counted_4 8 rfl rfl)
theorem dX2_counted_102 : decode cX2_counted 102 = .ok (.goto 4, 3) := dk_167 0 4 (dk_at dksX2_counted_4 9 rfl rfl)
theorem dX2_counted_105 : decode cX2_counted 105 = .ok (.iconst 0, 1) := dk_3 (dk_at dksX2_counted_4 12 rfl rfl)
theorem dX2_counted_106 : decode cX2_counted 106 = .ok (.iadd, 1) := dk_96 (dk_at dksX2_counted_4 13 rfl rfl)
theorem dX2_counted_107 : decode cX2_counted 107 = .ok (.istore_n 2, 1) := dk_61 (dk_at dksX2_counted_4 14 rfl rfl)
theorem dX2_counted_108 : decode cX2_counted 108 = .ok (.iinc 3 1, 3) := dk_132 3 1 (dk_at dksX2_counted_4 15 rfl rfl)
theorem dX2_counted_111 : decode cX2_counted 111 = .ok (.goto (-37), 3) := dk_167 255 219 (dk_at dksX2_counted_4 18 rfl rfl)
theorem dX2_counted_114 : decode cX2_counted 114 = .ok (.iload_n 1, 1) := dk_27 (dk_at dksX2_counted_4 21 rfl rfl)
theorem dX2_counted_115 : decode cX2_counted 115 = .ok (.iconst 2, 1) := dk_5 (dk_at dksX2_counted_4 22 rfl rfl)
theorem dX2_counted_116 : decode cX2_counted 116 = .ok (.if_icmp .ne 10, 3) := dk_160 0 10 (dk_at dksX2_counted_5 0 rfl rfl)
theorem dX2_counted_119 : decode cX2_counted 119 = .ok (.aload_n 0, 1) := dk_42 (dk_at dksX2_counted_5 3 rfl rfl)
theorem dX2_counted_120 : decode cX2_counted 120 = .ok (.getfield 191, 3) := dk_180 0 191 (dk_at dksX2_counted_5 4 rfl rfl)
theorem dX2_counted_123 : decode cX2_counted 123 = .ok (.goto 28, 3) := dk_167 0 28 (dk_at dksX2_counted_5 7 rfl rfl)
theorem dX2_counted_126 : decode cX2_counted 126 = .ok (.iload_n 1, 1) := dk_27 (dk_at dksX2_counted_5 10 rfl rfl)
theorem dX2_counted_127 : decode cX2_counted 127 = .ok (.iconst 3, 1) := dk_6 (dk_at dksX2_counted_5 11 rfl rfl)
theorem dX2_counted_128 : decode cX2_counted 128 = .ok (.if_icmp .ne 10, 3) := dk_160 0 10 (dk_at dksX2_counted_5 12 rfl rfl)
theorem dX2_counted_131 : decode cX2_counted 131 = .ok (.aload_n 0, 1) := dk_42 (dk_at dksX2_counted_5 15 rfl rfl)
theorem dX2_counted_132 : decode cX2_counted 132 = .ok (.getfield 203, 3) := dk_180 0 203 (dk_at dksX2_counted_5 16 rfl rfl)
theorem dX2_counted_135 : decode cX2_counted 135 = .ok (.goto 16, 3) := dk_167 0 16 (dk_at dksX2_counted_5 19 rfl rfl)
theorem dX2_counted_138 : decode cX2_counted 138 = .ok (.iload_n 1, 1) := dk_27 (dk_at dksX2_counted_5 22 rfl rfl)
theorem dX2_counted_139 : decode cX2_counted 139 = .ok (.iconst 5, 1) := dk_8 (dk_at dksX2_counted_5 23 rfl rfl)
theorem dX2_counted_140 : decode cX2_counted 140 = .ok (.if_icmp .ne 10, 3) := dk_160 0 10 (dk_at dksX2_counted_6 0 rfl rfl)
theorem dX2_counted_143 : decode cX2_counted 143 = .ok (.aload_n 0, 1) := dk_42 (dk_at dksX2_counted_6 3 rfl rfl)
theorem dX2_counted_144 : decode cX2_counted 144 = .ok (.getfield 194, 3) := dk_180 0 194 (dk_at dksX2_counted_6 4 rfl rfl)
theorem dX2_counted_147 : decode cX2_counted 147 = .ok (.goto 4, 3) := dk_167 0 4 (dk_at dksX2_counted_6 7 rfl rfl)
theorem dX2_counted_150 : decode cX2_counted 150 = .ok (.iload_n 2, 1) := dk_28 (dk_at dksX2_counted_6 10 rfl rfl)
theorem dX2_counted_151 : decode cX2_counted 151 = .ok (.ireturn, 1) := dk_172 (dk_at dksX2_counted_6 11 rfl rfl)
abbrev cX2_digest : ByteArray := prog_12_method_104_code
def yX2_digest : MethodName := ⟨RX2, "digest", "()J"⟩
def dkwX2_digest_6 : List UInt8 := [167, 255, 208, 42, 180, 1, 125, 173]
abbrev dktX2_digest_6 : List UInt8 := dkwX2_digest_6 ++ []
def dkwX2_digest_5 : List UInt8 := [162, 0, 20, 42, 42, 27, 28, 182, 0, 135, 133, 182, 1, 128, 132, 2, 1, 167, 255, 232, 132, 1, 1]
abbrev dktX2_digest_5 : List UInt8 := dkwX2_digest_5 ++ dktX2_digest_6
def dkwX2_digest_4 : List UInt8 := [162, 0, 49, 42, 42, 180, 0, 22, 27, 46, 133, 182, 1, 128, 3, 61, 28, 42, 180, 0, 22, 27, 46]
abbrev dktX2_digest_4 : List UInt8 := dkwX2_digest_4 ++ dktX2_digest_5
def dkwX2_digest_3 : List UInt8 := [28, 182, 0, 122, 133, 182, 1, 128, 132, 2, 1, 167, 255, 232, 132, 1, 1, 167, 255, 207, 3, 60, 27, 7]
abbrev dktX2_digest_3 : List UInt8 := dkwX2_digest_3 ++ dktX2_digest_4
def dkwX2_digest_2 : List UInt8 := [180, 0, 13, 27, 46, 133, 182, 1, 128, 3, 61, 28, 42, 180, 0, 13, 27, 46, 162, 0, 20, 42, 42, 27]
abbrev dktX2_digest_2 : List UInt8 := dkwX2_digest_2 ++ dktX2_digest_3
def dkwX2_digest_1 : List UInt8 := [182, 1, 128, 132, 1, 1, 167, 255, 237, 42, 182, 1, 134, 3, 60, 27, 16, 6, 162, 0, 49, 42, 42]
abbrev dktX2_digest_1 : List UInt8 := dkwX2_digest_1 ++ dktX2_digest_2
def dkwX2_digest_0 : List UInt8 := [42, 20, 1, 132, 181, 1, 125, 3, 60, 27, 16, 6, 162, 0, 19, 42, 42, 27, 182, 1, 120, 133]
abbrev dktX2_digest_0 : List UInt8 := dkwX2_digest_0 ++ dktX2_digest_1
theorem dksX2_digest_0 : cX2_digest.data.toList.drop 0 = dktX2_digest_0 := by decide +kernel
theorem dksX2_digest_1 : cX2_digest.data.toList.drop 22 = dktX2_digest_1 := dk_seg dksX2_digest_0 22 rfl rfl
theorem dksX2_digest_2 : cX2_digest.data.toList.drop 45 = dktX2_digest_2 := dk_seg dksX2_digest_1 23 rfl rfl
theorem dksX2_digest_3 : cX2_digest.data.toList.drop 69 = dktX2_digest_3 := dk_seg dksX2_digest_2 24 rfl rfl
theorem dksX2_digest_4 : cX2_digest.data.toList.drop 93 = dktX2_digest_4 := dk_seg dksX2_digest_3 24 rfl rfl
theorem dksX2_digest_5 : cX2_digest.data.toList.drop 116 = dktX2_digest_5 := dk_seg dksX2_digest_4 23 rfl rfl
theorem dksX2_digest_6 : cX2_digest.data.toList.drop 139 = dktX2_digest_6 := dk_seg dksX2_digest_5 23 rfl rfl
theorem dX2_digest_0 : decode cX2_digest 0 = .ok (.aload_n 0, 1) := dk_42 (dk_at dksX2_digest_0 0 rfl rfl)
theorem dX2_digest_1 : decode cX2_digest 1 = .ok (.ldc2_w 388, 3) := dk_20 1 132 (dk_at dksX2_digest_0 1 rfl rfl)
theorem dX2_digest_4 : decode cX2_digest 4 = .ok (.putfield 381, 3) := dk_181 1 125 (dk_at dksX2_digest_0 4 rfl rfl)
theorem dX2_digest_7 : decode cX2_digest 7 = .ok (.iconst 0, 1) := dk_3 (dk_at dksX2_digest_0 7 rfl rfl)
theorem dX2_digest_8 : decode cX2_digest 8 = .ok (.istore_n 1, 1) := dk_60 (dk_at dksX2_digest_0 8 rfl rfl)
theorem dX2_digest_9 : decode cX2_digest 9 = .ok (.iload_n 1, 1) := dk_27 (dk_at dksX2_digest_0 9 rfl rfl)
theorem dX2_digest_10 : decode cX2_digest 10 = .ok (.bipush 6, 2) := dk_16 6 (dk_at dksX2_digest_0 10 rfl rfl)
theorem dX2_digest_12 : decode cX2_digest 12 = .ok (.if_icmp .ge 19, 3) := dk_162 0 19 (dk_at dksX2_digest_0 12 rfl rfl)
theorem dX2_digest_15 : decode cX2_digest 15 = .ok (.aload_n 0, 1) := dk_42 (dk_at dksX2_digest_0 15 rfl rfl)
theorem dX2_digest_16 : decode cX2_digest 16 = .ok (.aload_n 0, 1) := dk_42 (dk_at dksX2_digest_0 16 rfl rfl)
theorem dX2_digest_17 : decode cX2_digest 17 = .ok (.iload_n 1, 1) := dk_27 (dk_at dksX2_digest_0 17 rfl rfl)
theorem dX2_digest_18 : decode cX2_digest 18 = .ok (.invokevirtual 376, 3) := dk_182 1 120 (dk_at dksX2_digest_0 18 rfl rfl)
theorem dX2_digest_21 : decode cX2_digest 21 = .ok (.i2l, 1) := dk_133 (dk_at dksX2_digest_0 21 rfl rfl)
theorem dX2_digest_22 : decode cX2_digest 22 = .ok (.invokevirtual 384, 3) := dk_182 1 128 (dk_at dksX2_digest_1 0 rfl rfl)
theorem dX2_digest_25 : decode cX2_digest 25 = .ok (.iinc 1 1, 3) := dk_132 1 1 (dk_at dksX2_digest_1 3 rfl rfl)
theorem dX2_digest_28 : decode cX2_digest 28 = .ok (.goto (-19), 3) := dk_167 255 237 (dk_at dksX2_digest_1 6 rfl rfl)
theorem dX2_digest_31 : decode cX2_digest 31 = .ok (.aload_n 0, 1) := dk_42 (dk_at dksX2_digest_1 9 rfl rfl)
theorem dX2_digest_32 : decode cX2_digest 32 = .ok (.invokevirtual 390, 3) := dk_182 1 134 (dk_at dksX2_digest_1 10 rfl rfl)
theorem dX2_digest_35 : decode cX2_digest 35 = .ok (.iconst 0, 1) := dk_3 (dk_at dksX2_digest_1 13 rfl rfl)
theorem dX2_digest_36 : decode cX2_digest 36 = .ok (.istore_n 1, 1) := dk_60 (dk_at dksX2_digest_1 14 rfl rfl)
theorem dX2_digest_37 : decode cX2_digest 37 = .ok (.iload_n 1, 1) := dk_27 (dk_at dksX2_digest_1 15 rfl rfl)
theorem dX2_digest_38 : decode cX2_digest 38 = .ok (.bipush 6, 2) := dk_16 6 (dk_at dksX2_digest_1 16 rfl rfl)
theorem dX2_digest_40 : decode cX2_digest 40 = .ok (.if_icmp .ge 49, 3) := dk_162 0 49 (dk_at dksX2_digest_1 18 rfl rfl)
theorem dX2_digest_43 : decode cX2_digest 43 = .ok (.aload_n 0, 1) := dk_42 (dk_at dksX2_digest_1 21 rfl rfl)
theorem dX2_digest_44 : decode cX2_digest 44 = .ok (.aload_n 0, 1) := dk_42 (dk_at dksX2_digest_1 22 rfl rfl)
theorem dX2_digest_45 : decode cX2_digest 45 = .ok (.getfield 13, 3) := dk_180 0 13 (dk_at dksX2_digest_2 0 rfl rfl)
theorem dX2_digest_48 : decode cX2_digest 48 = .ok (.iload_n 1, 1) := dk_27 (dk_at dksX2_digest_2 3 rfl rfl)
theorem dX2_digest_49 : decode cX2_digest 49 = .ok (.iaload, 1) := dk_46 (dk_at dksX2_digest_2 4 rfl rfl)
theorem dX2_digest_50 : decode cX2_digest 50 = .ok (.i2l, 1) := dk_133 (dk_at dksX2_digest_2 5 rfl rfl)
theorem dX2_digest_51 : decode cX2_digest 51 = .ok (.invokevirtual 384, 3) := dk_182 1 128 (dk_at dksX2_digest_2 6 rfl rfl)
theorem dX2_digest_54 : decode cX2_digest 54 = .ok (.iconst 0, 1) := dk_3 (dk_at dksX2_digest_2 9 rfl rfl)
theorem dX2_digest_55 : decode cX2_digest 55 = .ok (.istore_n 2, 1) := dk_61 (dk_at dksX2_digest_2 10 rfl rfl)
theorem dX2_digest_56 : decode cX2_digest 56 = .ok (.iload_n 2, 1) := dk_28 (dk_at dksX2_digest_2 11 rfl rfl)
theorem dX2_digest_57 : decode cX2_digest 57 = .ok (.aload_n 0, 1) := dk_42 (dk_at dksX2_digest_2 12 rfl rfl)
theorem dX2_digest_58 : decode cX2_digest 58 = .ok (.getfield 13, 3) := dk_180 0 13 (dk_at dksX2_digest_2 13 rfl rfl)
theorem dX2_digest_61 : decode cX2_digest 61 = .ok (.iload_n 1, 1) := dk_27 (dk_at dksX2_digest_2 16 rfl rfl)
theorem dX2_digest_62 : decode cX2_digest 62 = .ok (.iaload, 1) := dk_46 (dk_at dksX2_digest_2 17 rfl rfl)
theorem dX2_digest_63 : decode cX2_digest 63 = .ok (.if_icmp .ge 20, 3) := dk_162 0 20 (dk_at dksX2_digest_2 18 rfl rfl)
theorem dX2_digest_66 : decode cX2_digest 66 = .ok (.aload_n 0, 1) := dk_42 (dk_at dksX2_digest_2 21 rfl rfl)
theorem dX2_digest_67 : decode cX2_digest 67 = .ok (.aload_n 0, 1) := dk_42 (dk_at dksX2_digest_2 22 rfl rfl)
theorem dX2_digest_68 : decode cX2_digest 68 = .ok (.iload_n 1, 1) := dk_27 (dk_at dksX2_digest_2 23 rfl rfl)
theorem dX2_digest_69 : decode cX2_digest 69 = .ok (.iload_n 2, 1) := dk_28 (dk_at dksX2_digest_3 0 rfl rfl)
theorem dX2_digest_70 : decode cX2_digest 70 = .ok (.invokevirtual 122, 3) := dk_182 0 122 (dk_at dksX2_digest_3 1 rfl rfl)
theorem dX2_digest_73 : decode cX2_digest 73 = .ok (.i2l, 1) := dk_133 (dk_at dksX2_digest_3 4 rfl rfl)
theorem dX2_digest_74 : decode cX2_digest 74 = .ok (.invokevirtual 384, 3) := dk_182 1 128 (dk_at dksX2_digest_3 5 rfl rfl)
theorem dX2_digest_77 : decode cX2_digest 77 = .ok (.iinc 2 1, 3) := dk_132 2 1 (dk_at dksX2_digest_3 8 rfl rfl)
theorem dX2_digest_80 : decode cX2_digest 80 = .ok (.goto (-24), 3) := dk_167 255 232 (dk_at dksX2_digest_3 11 rfl rfl)
theorem dX2_digest_83 : decode cX2_digest 83 = .ok (.iinc 1 1, 3) := dk_132 1 1 (dk_at dksX2_digest_3 14 rfl rfl)
theorem dX2_digest_86 : decode cX2_digest 86 = .ok (.goto (-49), 3) := dk_167 255 207 (dk_at dksX2_digest_3 17 rfl rfl)
theorem dX2_digest_89 : decode cX2_digest 89 = .ok (.iconst 0, 1) := dk_3 (dk_at dksX2_digest_3 20 rfl rfl)
theorem dX2_digest_90 : decode cX2_digest 90 = .ok (.istore_n 1, 1) := dk_60 (dk_at dksX2_digest_3 21 rfl rfl)
theorem dX2_digest_91 : decode cX2_digest 91 = .ok (.iload_n 1, 1) := dk_27 (dk_at dksX2_digest_3 22 rfl rfl)
theorem dX2_digest_92 : decode cX2_digest 92 = .ok (.iconst 4, 1) := dk_7 (dk_at dksX2_digest_3 23 rfl rfl)
theorem dX2_digest_93 : decode cX2_digest 93 = .ok (.if_icmp .ge 49, 3) := dk_162 0 49 (dk_at dksX2_digest_4 0 rfl rfl)
theorem dX2_digest_96 : decode cX2_digest 96 = .ok (.aload_n 0, 1) := dk_42 (dk_at dksX2_digest_4 3 rfl rfl)
theorem dX2_digest_97 : decode cX2_digest 97 = .ok (.aload_n 0, 1) := dk_42 (dk_at dksX2_digest_4 4 rfl rfl)
theorem dX2_digest_98 : decode cX2_digest 98 = .ok (.getfield 22, 3) := dk_180 0 22 (dk_at dksX2_digest_4 5 rfl rfl)
theorem dX2_digest_101 : decode cX2_digest 101 = .ok (.iload_n 1, 1) := dk_27 (dk_at dksX2_digest_4 8 rfl rfl)
theorem dX2_digest_102 : decode cX2_digest 102 = .ok (.iaload, 1) := dk_46 (dk_at dksX2_digest_4 9 rfl rfl)
theorem dX2_digest_103 : decode cX2_digest 103 = .ok (.i2l, 1) := dk_133 (dk_at dksX2_digest_4 10 rfl rfl)
theorem dX2_digest_104 : decode cX2_digest 104 = .ok (.invokevirtual 384, 3) := dk_182 1 128 (dk_at dksX2_digest_4 11 rfl rfl)
theorem dX2_digest_107 : decode cX2_digest 107 = .ok (.iconst 0, 1) := dk_3 (dk_at dksX2_digest_4 14 rfl rfl)
theorem dX2_digest_108 : decode cX2_digest 108 = .ok (.istore_n 2, 1) := dk_61 (dk_at dksX2_digest_4 15 rfl rfl)
theorem dX2_digest_109 : decode cX2_digest 109 = .ok (.iload_n 2, 1) := dk_28 (dk_at dksX2_digest_4 16 rfl rfl)
theorem dX2_digest_110 : decode cX2_digest 110 = .ok (.aload_n 0, 1) := dk_42 (dk_at dksX2_digest_4 17 rfl rfl)
theorem dX2_digest_111 : decode cX2_digest 111 = .ok (.getfield 22, 3) := dk_180 0 22 (dk_at dksX2_digest_4 18 rfl rfl)
theorem dX2_digest_114 : decode cX2_digest 114 = .ok (.iload_n 1, 1) := dk_27 (dk_at dksX2_digest_4 21 rfl rfl)
theorem dX2_digest_115 : decode cX2_digest 115 = .ok (.iaload, 1) := dk_46 (dk_at dksX2_digest_4 22 rfl rfl)
theorem dX2_digest_116 : decode cX2_digest 116 = .ok (.if_icmp .ge 20, 3) := dk_162 0 20 (dk_at dksX2_digest_5 0 rfl rfl)
theorem dX2_digest_119 : decode cX2_digest 119 = .ok (.aload_n 0, 1) := dk_42 (dk_at dksX2_digest_5 3 rfl rfl)
theorem dX2_digest_120 : decode cX2_digest 120 = .ok (.aload_n 0, 1) := dk_42 (dk_at dksX2_digest_5 4 rfl rfl)
theorem dX2_digest_121 : decode cX2_digest 121 = .ok (.iload_n 1, 1) := dk_27 (dk_at dksX2_digest_5 5 rfl rfl)
theorem dX2_digest_122 : decode cX2_digest 122 = .ok (.iload_n 2, 1) := dk_28 (dk_at dksX2_digest_5 6 rfl rfl)
theorem dX2_digest_123 : decode cX2_digest 123 = .ok (.invokevirtual 135, 3) := dk_182 0 135 (dk_at dksX2_digest_5 7 rfl rfl)
theorem dX2_digest_126 : decode cX2_digest 126 = .ok (.i2l, 1) := dk_133 (dk_at dksX2_digest_5 10 rfl rfl)
theorem dX2_digest_127 : decode cX2_digest 127 = .ok (.invokevirtual 384, 3) := dk_182 1 128 (dk_at dksX2_digest_5 11 rfl rfl)
theorem dX2_digest_130 : decode cX2_digest 130 = .ok (.iinc 2 1, 3) := dk_132 2 1 (dk_at dksX2_digest_5 14 rfl rfl)
theorem dX2_digest_133 : decode cX2_digest 133 = .ok (.goto (-24), 3) := dk_167 255 232 (dk_at dksX2_digest_5 17 rfl rfl)
theorem dX2_digest_136 : decode cX2_digest 136 = .ok (.iinc 1 1, 3) := dk_132 1 1 (dk_at dksX2_digest_5 20 rfl rfl)
theorem dX2_digest_139 : decode cX2_digest 139 = .ok (.goto (-48), 3) := dk_167 255 208 (dk_at dksX2_digest_6 0 rfl rfl)
theorem dX2_digest_142 : decode cX2_digest 142 = .ok (.aload_n 0, 1) := dk_42 (dk_at dksX2_digest_6 3 rfl rfl)
theorem dX2_digest_143 : decode cX2_digest 143 = .ok (.getfield 381, 3) := dk_180 1 125 (dk_at dksX2_digest_6 4 rfl rfl)
theorem dX2_digest_146 : decode cX2_digest 146 = .ok (.lreturn, 1) := dk_173 (dk_at dksX2_digest_6 7 rfl rfl)
abbrev cX2_mix : ByteArray := prog_12_method_102_code
def yX2_mix : MethodName := ⟨RX2, "mix", "(J)V"⟩
def dkwX2_mix_0 : List UInt8 := [42, 20, 1, 123, 42, 180, 1, 125, 105, 31, 97, 181, 1, 125, 177]
abbrev dktX2_mix_0 : List UInt8 := dkwX2_mix_0 ++ []
theorem dksX2_mix_0 : cX2_mix.data.toList.drop 0 = dktX2_mix_0 := by decide +kernel
theorem dX2_mix_0 : decode cX2_mix 0 = .ok (.aload_n 0, 1) := dk_42 (dk_at dksX2_mix_0 0 rfl rfl)
theorem dX2_mix_1 : decode cX2_mix 1 = .ok (.ldc2_w 379, 3) := dk_20 1 123 (dk_at dksX2_mix_0 1 rfl rfl)
theorem dX2_mix_4 : decode cX2_mix 4 = .ok (.aload_n 0, 1) := dk_42 (dk_at dksX2_mix_0 4 rfl rfl)
theorem dX2_mix_5 : decode cX2_mix 5 = .ok (.getfield 381, 3) := dk_180 1 125 (dk_at dksX2_mix_0 5 rfl rfl)
theorem dX2_mix_8 : decode cX2_mix 8 = .ok (.lmul, 1) := dk_105 (dk_at dksX2_mix_0 8 rfl rfl)
theorem dX2_mix_9 : decode cX2_mix 9 = .ok (.lload_n 1, 1) := dk_31 (dk_at dksX2_mix_0 9 rfl rfl)
theorem dX2_mix_10 : decode cX2_mix 10 = .ok (.ladd, 1) := dk_97 (dk_at dksX2_mix_0 10 rfl rfl)
theorem dX2_mix_11 : decode cX2_mix 11 = .ok (.putfield 381, 3) := dk_181 1 125 (dk_at dksX2_mix_0 11 rfl rfl)
theorem dX2_mix_14 : decode cX2_mix 14 = .ok (.return_, 1) := dk_177 (dk_at dksX2_mix_0 14 rfl rfl)
abbrev cX2_mixWood : ByteArray := prog_12_method_103_code
def yX2_mixWood : MethodName := ⟨RX2, "mixWood", "()V"⟩
def dkwX2_mixWood_8 : List UInt8 := [42, 27, 28, 182, 0, 230, 133, 182, 1, 128, 132, 2, 1, 167, 255, 237, 132, 1, 1, 167, 255, 221, 177]
abbrev dktX2_mixWood_8 : List UInt8 := dkwX2_mixWood_8 ++ []
def dkwX2_mixWood_7 : List UInt8 := [132, 1, 1, 167, 255, 234, 3, 60, 27, 42, 180, 0, 203, 162, 0, 33, 3, 61, 28, 7, 162, 0, 20, 42]
abbrev dktX2_mixWood_7 : List UInt8 := dkwX2_mixWood_7 ++ dktX2_mixWood_8
def dkwX2_mixWood_6 : List UInt8 := [167, 255, 237, 3, 60, 27, 42, 180, 0, 97, 162, 0, 20, 42, 42, 180, 0, 56, 27, 46, 133, 182, 1, 128]
abbrev dktX2_mixWood_6 : List UInt8 := dkwX2_mixWood_6 ++ dktX2_mixWood_7
def dkwX2_mixWood_5 : List UInt8 := [167, 255, 212, 3, 60, 27, 16, 9, 162, 0, 19, 42, 42, 27, 182, 0, 236, 133, 182, 1, 128, 132, 1, 1]
abbrev dktX2_mixWood_5 : List UInt8 := dkwX2_mixWood_5 ++ dktX2_mixWood_6
def dkwX2_mixWood_4 : List UInt8 := [180, 0, 50, 27, 46, 133, 182, 1, 128, 42, 42, 180, 0, 53, 27, 46, 133, 182, 1, 128, 132, 1, 1]
abbrev dktX2_mixWood_4 : List UInt8 := dkwX2_mixWood_4 ++ dktX2_mixWood_5
def dkwX2_mixWood_3 : List UInt8 := [3, 60, 27, 42, 180, 0, 194, 162, 0, 42, 42, 42, 180, 0, 47, 27, 46, 133, 182, 1, 128, 42, 42]
abbrev dktX2_mixWood_3 : List UInt8 := dkwX2_mixWood_3 ++ dktX2_mixWood_4
def dkwX2_mixWood_2 : List UInt8 := [182, 1, 128, 42, 42, 27, 42, 27, 182, 0, 209, 182, 0, 218, 133, 182, 1, 128, 132, 1, 1, 167, 255, 189]
abbrev dktX2_mixWood_2 : List UInt8 := dkwX2_mixWood_2 ++ dktX2_mixWood_3
def dkwX2_mixWood_1 : List UInt8 := [27, 104, 4, 96, 28, 96, 46, 133, 182, 1, 128, 132, 2, 1, 167, 255, 230, 42, 42, 27, 182, 0, 209, 133]
abbrev dktX2_mixWood_1 : List UInt8 := dkwX2_mixWood_1 ++ dktX2_mixWood_2
def dkwX2_mixWood_0 : List UInt8 := [3, 60, 27, 42, 180, 0, 191, 162, 0, 65, 3, 61, 28, 6, 162, 0, 27, 42, 42, 180, 0, 44, 16, 7]
abbrev dktX2_mixWood_0 : List UInt8 := dkwX2_mixWood_0 ++ dktX2_mixWood_1
theorem dksX2_mixWood_0 : cX2_mixWood.data.toList.drop 0 = dktX2_mixWood_0 := by decide +kernel
theorem dksX2_mixWood_1 : cX2_mixWood.data.toList.drop 24 = dktX2_mixWood_1 := dk_seg dksX2_mixWood_0 24 rfl rfl
theorem dksX2_mixWood_2 : cX2_mixWood.data.toList.drop 48 = dktX2_mixWood_2 := dk_seg dksX2_mixWood_1 24 rfl rfl
theorem dksX2_mixWood_3 : cX2_mixWood.data.toList.drop 72 = dktX2_mixWood_3 := dk_seg dksX2_mixWood_2 24 rfl rfl
theorem dksX2_mixWood_4 : cX2_mixWood.data.toList.drop 95 = dktX2_mixWood_4 := dk_seg dksX2_mixWood_3 23 rfl rfl
theorem dksX2_mixWood_5 : cX2_mixWood.data.toList.drop 118 = dktX2_mixWood_5 := dk_seg dksX2_mixWood_4 23 rfl rfl
theorem dksX2_mixWood_6 : cX2_mixWood.data.toList.drop 142 = dktX2_mixWood_6 := dk_seg dksX2_mixWood_5 24 rfl rfl
theorem dksX2_mixWood_7 : cX2_mixWood.data.toList.drop 166 = dktX2_mixWood_7 := dk_seg dksX2_mixWood_6 24 rfl rfl
theorem dksX2_mixWood_8 : cX2_mixWood.data.toList.drop 190 = dktX2_mixWood_8 := dk_seg dksX2_mixWood_7 24 rfl rfl
theorem dX2_mixWood_0 : decode cX2_mixWood 0 = .ok (.iconst 0, 1) := dk_3 (dk_at dksX2_mixWood_0 0 rfl rfl)
theorem dX2_mixWood_1 : decode cX2_mixWood 1 = .ok (.istore_n 1, 1) := dk_60 (dk_at dksX2_mixWood_0 1 rfl rfl)
theorem dX2_mixWood_2 : decode cX2_mixWood 2 = .ok (.iload_n 1, 1) := dk_27 (dk_at dksX2_mixWood_0 2 rfl rfl)
theorem dX2_mixWood_3 : decode cX2_mixWood 3 = .ok (.aload_n 0, 1) := dk_42 (dk_at dksX2_mixWood_0 3 rfl rfl)
theorem dX2_mixWood_4 : decode cX2_mixWood 4 = .ok (.getfield 191, 3) := dk_180 0 191 (dk_at dksX2_mixWood_0 4 rfl rfl)
theorem dX2_mixWood_7 : decode cX2_mixWood 7 = .ok (.if_icmp .ge 65, 3) := dk_162 0 65 (dk_at dksX2_mixWood_0 7 rfl rfl)
theorem dX2_mixWood_10 : decode cX2_mixWood 10 = .ok (.iconst 0, 1) := dk_3 (dk_at dksX2_mixWood_0 10 rfl rfl)
theorem dX2_mixWood_11 : decode cX2_mixWood 11 = .ok (.istore_n 2, 1) := dk_61 (dk_at dksX2_mixWood_0 11 rfl rfl)
theorem dX2_mixWood_12 : decode cX2_mixWood 12 = .ok (.iload_n 2, 1) := dk_28 (dk_at dksX2_mixWood_0 12 rfl rfl)
theorem dX2_mixWood_13 : decode cX2_mixWood 13 = .ok (.iconst 3, 1) := dk_6 (dk_at dksX2_mixWood_0 13 rfl rfl)
theorem dX2_mixWood_14 : decode cX2_mixWood 14 = .ok (.if_icmp .ge 27, 3) := dk_162 0 27 (dk_at dksX2_mixWood_0 14 rfl rfl)
theorem dX2_mixWood_17 : decode cX2_mixWood 17 = .ok (.aload_n 0, 1) := dk_42 (dk_at dksX2_mixWood_0 17 rfl rfl)
theorem dX2_mixWood_18 : decode cX2_mixWood 18 = .ok (.aload_n 0, 1) := dk_42 (dk_at dksX2_mixWood_0 18 rfl rfl)
theorem dX2_mixWood_19 : decode cX2_mixWood 19 = .ok (.getfield 44, 3) := dk_180 0 44 (dk_at dksX2_mixWood_0 19 rfl rfl)
theorem dX2_mixWood_22 : decode cX2_mixWood 22 = .ok (.bipush 7, 2) := dk_16 7 (dk_at dksX2_mixWood_0 22 rfl rfl)
theorem dX2_mixWood_24 : decode cX2_mixWood 24 = .ok (.iload_n 1, 1) := dk_27 (dk_at dksX2_mixWood_1 0 rfl rfl)
theorem dX2_mixWood_25 : decode cX2_mixWood 25 = .ok (.imul, 1) := dk_104 (dk_at dksX2_mixWood_1 1 rfl rfl)
theorem dX2_mixWood_26 : decode cX2_mixWood 26 = .ok (.iconst 1, 1) := dk_4 (dk_at dksX2_mixWood_1 2 rfl rfl)
theorem dX2_mixWood_27 : decode cX2_mixWood 27 = .ok (.iadd, 1) := dk_96 (dk_at dksX2_mixWood_1 3 rfl rfl)
theorem dX2_mixWood_28 : decode cX2_mixWood 28 = .ok (.iload_n 2, 1) := dk_28 (dk_at dksX2_mixWood_1 4 rfl rfl)
theorem dX2_mixWood_29 : decode cX2_mixWood 29 = .ok (.iadd, 1) := dk_96 (dk_at dksX2_mixWood_1 5 rfl rfl)
theorem dX2_mixWood_30 : decode cX2_mixWood 30 = .ok (.iaload, 1) := dk_46 (dk_at dksX2_mixWood_1 6 rfl rfl)
theorem dX2_mixWood_31 : decode cX2_mixWood 31 = .ok (.i2l, 1) := dk_133 (dk_at dksX2_mixWood_1 7 rfl rfl)
theorem dX2_mixWood_32 : decode cX2_mixWood 32 = .ok (.invokevirtual 384, 3) := dk_182 1 128 (dk_at dksX2_mixWood_1 8 rfl rfl)
theorem dX2_mixWood_35 : decode cX2_mixWood 35 = .ok (.iinc 2 1, 3) := dk_132 2 1 (dk_at dksX2_mixWood_1 11 rfl rfl)
theorem dX2_mixWood_38 : decode cX2_mixWood 38 = .ok (.goto (-26), 3) := dk_167 255 230 (dk_at dksX2_mixWood_1 14 rfl rfl)
theorem dX2_mixWood_41 : decode cX2_mixWood 41 = .ok (.aload_n 0, 1) := dk_42 (dk_at dksX2_mixWood_1 17 rfl rfl)
theorem dX2_mixWood_42 : decode cX2_mixWood 42 = .ok (.aload_n 0, 1) := dk_42 (dk_at dksX2_mixWood_1 18 rfl rfl)
theorem dX2_mixWood_43 : decode cX2_mixWood 43 = .ok (.iload_n 1, 1) := dk_27 (dk_at dksX2_mixWood_1 19 rfl rfl)
theorem dX2_mixWood_44 : decode cX2_mixWood 44 = .ok (.invokevirtual 209, 3) := dk_182 0 209 (dk_at dksX2_mixWood_1 20 rfl rfl)
theorem dX2_mixWood_47 : decode cX2_mixWood 47 = .ok (.i2l, 1) := dk_133 (dk_at dksX2_mixWood_1 23 rfl rfl)
theorem dX2_mixWood_48 : decode cX2_mixWood 48 = .ok (.invokevirtual 384, 3) := dk_182 1 128 (dk_at dksX2_mixWood_2 0 rfl rfl)
theorem dX2_mixWood_51 : decode cX2_mixWood 51 = .ok (.aload_n 0, 1) := dk_42 (dk_at dksX2_mixWood_2 3 rfl rfl)
theorem dX2_mixWood_52 : decode cX2_mixWood 52 = .ok (.aload_n 0, 1) := dk_42 (dk_at dksX2_mixWood_2 4 rfl rfl)
theorem dX2_mixWood_53 : decode cX2_mixWood 53 = .ok (.iload_n 1, 1) := dk_27 (dk_at dksX2_mixWood_2 5 rfl rfl)
theorem dX2_mixWood_54 : decode cX2_mixWood 54 = .ok (.aload_n 0, 1) := dk_42 (dk_at dksX2_mixWood_2 6 rfl rfl)
theorem dX2_mixWood_55 : decode cX2_mixWood 55 = .ok (.iload_n 1, 1) := dk_27 (dk_at dksX2_mixWood_2 7 rfl rfl)
theorem dX2_mixWood_56 : decode cX2_mixWood 56 = .ok (.invokevirtual 209, 3) := dk_182 0 209 (dk_at dksX2_mixWood_2 8 rfl rfl)
theorem dX2_mixWood_59 : decode cX2_mixWood 59 = .ok (.invokevirtual 218, 3) := dk_182 0 218 (dk_at dksX2_mixWood_2 11 rfl rfl)
theorem dX2_mixWood_62 : decode cX2_mixWood 62 = .ok (.i2l, 1) := dk_133 (dk_at dksX2_mixWood_2 14 rfl rfl)
theorem dX2_mixWood_63 : decode cX2_mixWood 63 = .ok (.invokevirtual 384, 3) := dk_182 1 128 (dk_at dksX2_mixWood_2 15 rfl rfl)
theorem dX2_mixWood_66 : decode cX2_mixWood 66 = .ok (.iinc 1 1, 3) := dk_132 1 1 (dk_at dksX2_mixWood_2 18 rfl rfl)
theorem dX2_mixWood_69 : decode cX2_mixWood 69 = .ok (.goto (-67), 3) := dk_167 255 189 (dk_at dksX2_mixWood_2 21 rfl rfl)
theorem dX2_mixWood_72 : decode cX2_mixWood 72 = .ok (.iconst 0, 1) := dk_3 (dk_at dksX2_mixWood_3 0 rfl rfl)
theorem dX2_mixWood_73 : decode cX2_mixWood 73 = .ok (.istore_n 1, 1) := dk_60 (dk_at dksX2_mixWood_3 1 rfl rfl)
theorem dX2_mixWood_74 : decode cX2_mixWood 74 = .ok (.iload_n 1, 1) := dk_27 (dk_at dksX2_mixWood_3 2 rfl rfl)
theorem dX2_mixWood_75 : decode cX2_mixWood 75 = .ok (.aload_n 0, 1) := dk_42 (dk_at dksX2_mixWood_3 3 rfl rfl)
theorem dX2_mixWood_76 : decode cX2_mixWood 76 = .ok (.getfield 194, 3) := dk_180 0 194 (dk_at dksX2_mixWood_3 4 rfl rfl)
theorem dX2_mixWood_79 : decode cX2_mixWood 79 = .ok (.if_icmp .ge 42, 3) := dk_162 0 42 (dk_at dksX2_mixWood_3 7 rfl rfl)
theorem dX2_mixWood_82 : decode cX2_mixWood 82 = .ok (.aload_n 0, 1) := dk_42 (dk_at dksX2_mixWood_3 10 rfl rfl)
theorem dX2_mixWood_83 : decode cX2_mixWood 83 = .ok (.aload_n 0, 1) := dk_42 (dk_at dksX2_mixWood_3 11 rfl rfl)
theorem dX2_mixWood_84 : decode cX2_mixWood 84 = .ok (.getfield 47, 3) := dk_180 0 47 (dk_at dksX2_mixWood_3 12 rfl rfl)
theorem dX2_mixWood_87 : decode cX2_mixWood 87 = .ok (.iload_n 1, 1) := dk_27 (dk_at dksX2_mixWood_3 15 rfl rfl)
theorem dX2_mixWood_88 : decode cX2_mixWood 88 = .ok (.iaload, 1) := dk_46 (dk_at dksX2_mixWood_3 16 rfl rfl)
theorem dX2_mixWood_89 : decode cX2_mixWood 89 = .ok (.i2l, 1) := dk_133 (dk_at dksX2_mixWood_3 17 rfl rfl)
theorem dX2_mixWood_90 : decode cX2_mixWood 90 = .ok (.invokevirtual 384, 3) := dk_182 1 128 (dk_at dksX2_mixWood_3 18 rfl rfl)
theorem dX2_mixWood_93 : decode cX2_mixWood 93 = .ok (.aload_n 0, 1) := dk_42 (dk_at dksX2_mixWood_3 21 rfl rfl)
theorem dX2_mixWood_94 : decode cX2_mixWood 94 = .ok (.aload_n 0, 1) := dk_42 (dk_at dksX2_mixWood_3 22 rfl rfl)
theorem dX2_mixWood_95 : decode cX2_mixWood 95 = .ok (.getfield 50, 3) := dk_180 0 50 (dk_at dksX2_mixWood_4 0 rfl rfl)
theorem dX2_mixWood_98 : decode cX2_mixWood 98 = .ok (.iload_n 1, 1) := dk_27 (dk_at dksX2_mixWood_4 3 rfl rfl)
theorem dX2_mixWood_99 : decode cX2_mixWood 99 = .ok (.iaload, 1) := dk_46 (dk_at dksX2_mixWood_4 4 rfl rfl)
theorem dX2_mixWood_100 : decode cX2_mixWood 100 = .ok (.i2l, 1) := dk_133 (dk_at dksX2_mixWood_4 5 rfl rfl)
theorem dX2_mixWood_101 : decode cX2_mixWood 101 = .ok (.invokevirtual 384, 3) := dk_182 1 128 (dk_at dksX2_mixWood_4 6 rfl rfl)
theorem dX2_mixWood_104 : decode cX2_mixWood 104 = .ok (.aload_n 0, 1) := dk_42 (dk_at dksX2_mixWood_4 9 rfl rfl)
theorem dX2_mixWood_105 : decode cX2_mixWood 105 = .ok (.aload_n 0, 1) := dk_42 (dk_at dksX2_mixWood_4 10 rfl rfl)
theorem dX2_mixWood_106 : decode cX2_mixWood 106 = .ok (.getfield 53, 3) := dk_180 0 53 (dk_at dksX2_mixWood_4 11 rfl rfl)
theorem dX2_mixWood_109 : decode cX2_mixWood 109 = .ok (.iload_n 1, 1) := dk_27 (dk_at dksX2_mixWood_4 14 rfl rfl)
theorem dX2_mixWood_110 : decode cX2_mixWood 110 = .ok (.iaload, 1) := dk_46 (dk_at dksX2_mixWood_4 15 rfl rfl)
theorem dX2_mixWood_111 : decode cX2_mixWood 111 = .ok (.i2l, 1) := dk_133 (dk_at dksX2_mixWood_4 16 rfl rfl)
theorem dX2_mixWood_112 : decode cX2_mixWood 112 = .ok (.invokevirtual 384, 3) := dk_182 1 128 (dk_at dksX2_mixWood_4 17 rfl rfl)
theorem dX2_mixWood_115 : decode cX2_mixWood 115 = .ok (.iinc 1 1, 3) := dk_132 1 1 (dk_at dksX2_mixWood_4 20 rfl rfl)
theorem dX2_mixWood_118 : decode cX2_mixWood 118 = .ok (.goto (-44), 3) := dk_167 255 212 (dk_at dksX2_mixWood_5 0 rfl rfl)
theorem dX2_mixWood_121 : decode cX2_mixWood 121 = .ok (.iconst 0, 1) := dk_3 (dk_at dksX2_mixWood_5 3 rfl rfl)
theorem dX2_mixWood_122 : decode cX2_mixWood 122 = .ok (.istore_n 1, 1) := dk_60 (dk_at dksX2_mixWood_5 4 rfl rfl)
theorem dX2_mixWood_123 : decode cX2_mixWood 123 = .ok (.iload_n 1, 1) := dk_27 (dk_at dksX2_mixWood_5 5 rfl rfl)
theorem dX2_mixWood_124 : decode cX2_mixWood 124 = .ok (.bipush 9, 2) := dk_16 9 (dk_at dksX2_mixWood_5 6 rfl rfl)
theorem dX2_mixWood_126 : decode cX2_mixWood 126 = .ok (.if_icmp .ge 19, 3) := dk_162 0 19 (dk_at dksX2_mixWood_5 8 rfl rfl)
theorem dX2_mixWood_129 : decode cX2_mixWood 129 = .ok (.aload_n 0, 1) := dk_42 (dk_at dksX2_mixWood_5 11 rfl rfl)
theorem dX2_mixWood_130 : decode cX2_mixWood 130 = .ok (.aload_n 0, 1) := dk_42 (dk_at dksX2_mixWood_5 12 rfl rfl)
theorem dX2_mixWood_131 : decode cX2_mixWood 131 = .ok (.iload_n 1, 1) := dk_27 (dk_at dksX2_mixWood_5 13 rfl rfl)
theorem dX2_mixWood_132 : decode cX2_mixWood 132 = .ok (.invokevirtual 236, 3) := dk_182 0 236 (dk_at dksX2_mixWood_5 14 rfl rfl)
theorem dX2_mixWood_135 : decode cX2_mixWood 135 = .ok (.i2l, 1) := dk_133 (dk_at dksX2_mixWood_5 17 rfl rfl)
theorem dX2_mixWood_136 : decode cX2_mixWood 136 = .ok (.invokevirtual 384, 3) := dk_182 1 128 (dk_at dksX2_mixWood_5 18 rfl rfl)
theorem dX2_mixWood_139 : decode cX2_mixWood 139 = .ok (.iinc 1 1, 3) := dk_132 1 1 (dk_at dksX2_mixWood_5 21 rfl rfl)
theorem dX2_mixWood_142 : decode cX2_mixWood 142 = .ok (.goto (-19), 3) := dk_167 255 237 (dk_at dksX2_mixWood_6 0 rfl rfl)
theorem dX2_mixWood_145 : decode cX2_mixWood 145 = .ok (.iconst 0, 1) := dk_3 (dk_at dksX2_mixWood_6 3 rfl rfl)
theorem dX2_mixWood_146 : decode cX2_mixWood 146 = .ok (.istore_n 1, 1) := dk_60 (dk_at dksX2_mixWood_6 4 rfl rfl)
theorem dX2_mixWood_147 : decode cX2_mixWood 147 = .ok (.iload_n 1, 1) := dk_27 (dk_at dksX2_mixWood_6 5 rfl rfl)
theorem dX2_mixWood_148 : decode cX2_mixWood 148 = .ok (.aload_n 0, 1) := dk_42 (dk_at dksX2_mixWood_6 6 rfl rfl)
theorem dX2_mixWood_149 : decode cX2_mixWood 149 = .ok (.getfield 97, 3) := dk_180 0 97 (dk_at dksX2_mixWood_6 7 rfl rfl)
theorem dX2_mixWood_152 : decode cX2_mixWood 152 = .ok (.if_icmp .ge 20, 3) := dk_162 0 20 (dk_at dksX2_mixWood_6 10 rfl rfl)
theorem dX2_mixWood_155 : decode cX2_mixWood 155 = .ok (.aload_n 0, 1) := dk_42 (dk_at dksX2_mixWood_6 13 rfl rfl)
theorem dX2_mixWood_156 : decode cX2_mixWood 156 = .ok (.aload_n 0, 1) := dk_42 (dk_at dksX2_mixWood_6 14 rfl rfl)
theorem dX2_mixWood_157 : decode cX2_mixWood 157 = .ok (.getfield 56, 3) := dk_180 0 56 (dk_at dksX2_mixWood_6 15 rfl rfl)
theorem dX2_mixWood_160 : decode cX2_mixWood 160 = .ok (.iload_n 1, 1) := dk_27 (dk_at dksX2_mixWood_6 18 rfl rfl)
theorem dX2_mixWood_161 : decode cX2_mixWood 161 = .ok (.iaload, 1) := dk_46 (dk_at dksX2_mixWood_6 19 rfl rfl)
theorem dX2_mixWood_162 : decode cX2_mixWood 162 = .ok (.i2l, 1) := dk_133 (dk_at dksX2_mixWood_6 20 rfl rfl)
theorem dX2_mixWood_163 : decode cX2_mixWood 163 = .ok (.invokevirtual 384, 3) := dk_182 1 128 (dk_at dksX2_mixWood_6 21 rfl rfl)
theorem dX2_mixWood_166 : decode cX2_mixWood 166 = .ok (.iinc 1 1, 3) := dk_132 1 1 (dk_at dksX2_mixWood_7 0 rfl rfl)
theorem dX2_mixWood_169 : decode cX2_mixWood 169 = .ok (.goto (-22), 3) := dk_167 255 234 (dk_at dksX2_mixWood_7 3 rfl rfl)
theorem dX2_mixWood_172 : decode cX2_mixWood 172 = .ok (.iconst 0, 1) := dk_3 (dk_at dksX2_mixWood_7 6 rfl rfl)
theorem dX2_mixWood_173 : decode cX2_mixWood 173 = .ok (.istore_n 1, 1) := dk_60 (dk_at dksX2_mixWood_7 7 rfl rfl)
theorem dX2_mixWood_174 : decode cX2_mixWood 174 = .ok (.iload_n 1, 1) := dk_27 (dk_at dksX2_mixWood_7 8 rfl rfl)
theorem dX2_mixWood_175 : decode cX2_mixWood 175 = .ok (.aload_n 0, 1) := dk_42 (dk_at dksX2_mixWood_7 9 rfl rfl)
theorem dX2_mixWood_176 : decode cX2_mixWood 176 = .ok (.getfield 203, 3) := dk_180 0 203 (dk_at dksX2_mixWood_7 10 rfl rfl)
theorem dX2_mixWood_179 : decode cX2_mixWood 179 = .ok (.if_icmp .ge 33, 3) := dk_162 0 33 (dk_at dksX2_mixWood_7 13 rfl rfl)
theorem dX2_mixWood_182 : decode cX2_mixWood 182 = .ok (.iconst 0, 1) := dk_3 (dk_at dksX2_mixWood_7 16 rfl rfl)
theorem dX2_mixWood_183 : decode cX2_mixWood 183 = .ok (.istore_n 2, 1) := dk_61 (dk_at dksX2_mixWood_7 17 rfl rfl)
theorem dX2_mixWood_184 : decode cX2_mixWood 184 = .ok (.iload_n 2, 1) := dk_28 (dk_at dksX2_mixWood_7 18 rfl rfl)
theorem dX2_mixWood_185 : decode cX2_mixWood 185 = .ok (.iconst 4, 1) := dk_7 (dk_at dksX2_mixWood_7 19 rfl rfl)
theorem dX2_mixWood_186 : decode cX2_mixWood 186 = .ok (.if_icmp .ge 20, 3) := dk_162 0 20 (dk_at dksX2_mixWood_7 20 rfl rfl)
theorem dX2_mixWood_189 : decode cX2_mixWood 189 = .ok (.aload_n 0, 1) := dk_42 (dk_at dksX2_mixWood_7 23 rfl rfl)
theorem dX2_mixWood_190 : decode cX2_mixWood 190 = .ok (.aload_n 0, 1) := dk_42 (dk_at dksX2_mixWood_8 0 rfl rfl)
theorem dX2_mixWood_191 : decode cX2_mixWood 191 = .ok (.iload_n 1, 1) := dk_27 (dk_at dksX2_mixWood_8 1 rfl rfl)
theorem dX2_mixWood_192 : decode cX2_mixWood 192 = .ok (.iload_n 2, 1) := dk_28 (dk_at dksX2_mixWood_8 2 rfl rfl)
theorem dX2_mixWood_193 : decode cX2_mixWood 193 = .ok (.invokevirtual 230, 3) := dk_182 0 230 (dk_at dksX2_mixWood_8 3 rfl rfl)
theorem dX2_mixWood_196 : decode cX2_mixWood 196 = .ok (.i2l, 1) := dk_133 (dk_at dksX2_mixWood_8 6 rfl rfl)
theorem dX2_mixWood_197 : decode cX2_mixWood 197 = .ok (.invokevirtual 384, 3) := dk_182 1 128 (dk_at dksX2_mixWood_8 7 rfl rfl)
theorem dX2_mixWood_200 : decode cX2_mixWood 200 = .ok (.iinc 2 1, 3) := dk_132 2 1 (dk_at dksX2_mixWood_8 10 rfl rfl)
theorem dX2_mixWood_203 : decode cX2_mixWood 203 = .ok (.goto (-19), 3) := dk_167 255 237 (dk_at dksX2_mixWood_8 13 rfl rfl)
theorem dX2_mixWood_206 : decode cX2_mixWood 206 = .ok (.iinc 1 1, 3) := dk_132 1 1 (dk_at dksX2_mixWood_8 16 rfl rfl)
theorem dX2_mixWood_209 : decode cX2_mixWood 209 = .ok (.goto (-35), 3) := dk_167 255 221 (dk_at dksX2_mixWood_8 19 rfl rfl)
theorem dX2_mixWood_212 : decode cX2_mixWood 212 = .ok (.return_, 1) := dk_177 (dk_at dksX2_mixWood_8 22 rfl rfl)
theorem q109 : (Jvm.Cond.initialized "AcornYearsModel") ∈ lw_all := lw_g (lw_at lw_m1 3 rfl) rfl
theorem q1188 : (Jvm.Cond.instantiable "AcornYearsModel" (61 : Nat)) ∈ lw_all := lw_g (lw_at lw_m5 122 rfl) rfl
theorem q1190 : (Jvm.Cond.instanceMethod ({ cls := "AcornYearsModel", name := "<init>", desc := "()V" } : Jvm.MethodName)) ∈ lw_all := lw_g (lw_at lw_m5 124 rfl) rfl
theorem q1191 : (Jvm.Cond.code ({ cls := "AcornYearsModel", name := "<init>", desc := "()V" } : Jvm.MethodName) prog_12_method_1_code (2 : Nat) (Option.none : Option Jvm.ClassFile.FieldType)) ∈ lw_all := lw_g (lw_at lw_m5 125 rfl) rfl
theorem q1192 : (Jvm.Cond.methodLink "AcornYearsModel" (1 : Nat) ({ cls := "java/lang/Object", name := "<init>", desc := "()V" } : Jvm.MethodName)) ∈ lw_all := lw_g (lw_at lw_m5 126 rfl) rfl
theorem q1193 : (Jvm.Cond.fieldLink "AcornYearsModel" (101 : Nat) "AcornYearsModel" "latest" "I") ∈ lw_all := lw_g (lw_at lw_m5 127 rfl) rfl
theorem q1194 : (Jvm.Cond.fieldLink "AcornYearsModel" (7 : Nat) "AcornYearsModel" "came" "[I") ∈ lw_all := lw_g (lw_at lw_m5 128 rfl) rfl
theorem q1195 : (Jvm.Cond.fieldLink "AcornYearsModel" (108 : Nat) "AcornYearsModel" "asked" "I") ∈ lw_all := lw_g (lw_at lw_m5 129 rfl) rfl
theorem q1196 : (Jvm.Cond.fieldLink "AcornYearsModel" (111 : Nat) "AcornYearsModel" "upper" "J") ∈ lw_all := lw_g (lw_at lw_m5 130 rfl) rfl
theorem q1197 : (Jvm.Cond.fieldLink "AcornYearsModel" (93 : Nat) "AcornYearsModel" "lower" "J") ∈ lw_all := lw_g (lw_at lw_m5 131 rfl) rfl
theorem q1198 : (Jvm.Cond.fieldLink "AcornYearsModel" (13 : Nat) "AcornYearsModel" "sizes" "[I") ∈ lw_all := lw_g (lw_at lw_m5 132 rfl) rfl
theorem q1199 : (Jvm.Cond.fieldLink "AcornYearsModel" (16 : Nat) "AcornYearsModel" "rows" "[I") ∈ lw_all := lw_g (lw_at lw_m5 133 rfl) rfl
theorem q1200 : (Jvm.Cond.fieldLink "AcornYearsModel" (19 : Nat) "AcornYearsModel" "copied" "[I") ∈ lw_all := lw_g (lw_at lw_m5 134 rfl) rfl
theorem q1201 : (Jvm.Cond.fieldLink "AcornYearsModel" (22 : Nat) "AcornYearsModel" "textSizes" "[I") ∈ lw_all := lw_g (lw_at lw_m5 135 rfl) rfl
theorem q1202 : (Jvm.Cond.fieldLink "AcornYearsModel" (25 : Nat) "AcornYearsModel" "bytes" "[B") ∈ lw_all := lw_g (lw_at lw_m5 136 rfl) rfl
theorem q1203 : (Jvm.Cond.fieldLink "AcornYearsModel" (132 : Nat) "AcornYearsModel" "readAt" "I") ∈ lw_all := lw_g (lw_at lw_m5 137 rfl) rfl
theorem q1204 : (Jvm.Cond.fieldLink "AcornYearsModel" (138 : Nat) "AcornYearsModel" "readNumber" "I") ∈ lw_all := lw_g (lw_at lw_m5 138 rfl) rfl
theorem q1205 : (Jvm.Cond.fieldLink "AcornYearsModel" (144 : Nat) "AcornYearsModel" "readSorts" "I") ∈ lw_all := lw_g (lw_at lw_m5 139 rfl) rfl
theorem q1206 : (Jvm.Cond.fieldLink "AcornYearsModel" (29 : Nat) "AcornYearsModel" "readSort" "[I") ∈ lw_all := lw_g (lw_at lw_m5 140 rfl) rfl
theorem q1207 : (Jvm.Cond.fieldLink "AcornYearsModel" (161 : Nat) "AcornYearsModel" "readEaters" "I") ∈ lw_all := lw_g (lw_at lw_m5 141 rfl) rfl
theorem q1208 : (Jvm.Cond.fieldLink "AcornYearsModel" (32 : Nat) "AcornYearsModel" "readEater" "[I") ∈ lw_all := lw_g (lw_at lw_m5 142 rfl) rfl
theorem q1209 : (Jvm.Cond.fieldLink "AcornYearsModel" (35 : Nat) "AcornYearsModel" "readJay" "[I") ∈ lw_all := lw_g (lw_at lw_m5 143 rfl) rfl
theorem q1210 : (Jvm.Cond.fieldLink "AcornYearsModel" (164 : Nat) "AcornYearsModel" "readLong" "I") ∈ lw_all := lw_g (lw_at lw_m5 144 rfl) rfl
theorem q1211 : (Jvm.Cond.fieldLink "AcornYearsModel" (38 : Nat) "AcornYearsModel" "readCalendar" "[I") ∈ lw_all := lw_g (lw_at lw_m5 145 rfl) rfl
theorem q1212 : (Jvm.Cond.fieldLink "AcornYearsModel" (41 : Nat) "AcornYearsModel" "readChances" "[I") ∈ lw_all := lw_g (lw_at lw_m5 146 rfl) rfl
theorem q1213 : (Jvm.Cond.fieldLink "AcornYearsModel" (191 : Nat) "AcornYearsModel" "sortMany" "I") ∈ lw_all := lw_g (lw_at lw_m5 147 rfl) rfl
theorem q1214 : (Jvm.Cond.fieldLink "AcornYearsModel" (44 : Nat) "AcornYearsModel" "sorts" "[I") ∈ lw_all := lw_g (lw_at lw_m5 148 rfl) rfl
theorem q1215 : (Jvm.Cond.fieldLink "AcornYearsModel" (194 : Nat) "AcornYearsModel" "eaterMany" "I") ∈ lw_all := lw_g (lw_at lw_m5 149 rfl) rfl
theorem q1216 : (Jvm.Cond.fieldLink "AcornYearsModel" (47 : Nat) "AcornYearsModel" "eats" "[I") ∈ lw_all := lw_g (lw_at lw_m5 150 rfl) rfl
theorem q1217 : (Jvm.Cond.fieldLink "AcornYearsModel" (50 : Nat) "AcornYearsModel" "grows" "[I") ∈ lw_all := lw_g (lw_at lw_m5 151 rfl) rfl
theorem q1218 : (Jvm.Cond.fieldLink "AcornYearsModel" (53 : Nat) "AcornYearsModel" "comesMore" "[I") ∈ lw_all := lw_g (lw_at lw_m5 152 rfl) rfl
theorem q1219 : (Jvm.Cond.fieldLink "AcornYearsModel" (197 : Nat) "AcornYearsModel" "hides" "I") ∈ lw_all := lw_g (lw_at lw_m5 153 rfl) rfl
theorem q1220 : (Jvm.Cond.fieldLink "AcornYearsModel" (200 : Nat) "AcornYearsModel" "forgets" "I") ∈ lw_all := lw_g (lw_at lw_m5 154 rfl) rfl
theorem q1221 : (Jvm.Cond.fieldLink "AcornYearsModel" (97 : Nat) "AcornYearsModel" "calendarLong" "I") ∈ lw_all := lw_g (lw_at lw_m5 155 rfl) rfl
theorem q1222 : (Jvm.Cond.fieldLink "AcornYearsModel" (56 : Nat) "AcornYearsModel" "calendar" "[I") ∈ lw_all := lw_g (lw_at lw_m5 156 rfl) rfl
theorem q1223 : (Jvm.Cond.fieldLink "AcornYearsModel" (59 : Nat) "AcornYearsModel" "chances" "[I") ∈ lw_all := lw_g (lw_at lw_m5 157 rfl) rfl
theorem q1224 : (Jvm.Cond.fieldLink "AcornYearsModel" (206 : Nat) "AcornYearsModel" "year" "I") ∈ lw_all := lw_g (lw_at lw_m5 158 rfl) rfl
theorem q1225 : (Jvm.Cond.fieldLink "AcornYearsModel" (62 : Nat) "AcornYearsModel" "mouse" "[I") ∈ lw_all := lw_g (lw_at lw_m5 159 rfl) rfl
theorem q1226 : (Jvm.Cond.fieldLink "AcornYearsModel" (203 : Nat) "AcornYearsModel" "treeMany" "I") ∈ lw_all := lw_g (lw_at lw_m5 160 rfl) rfl
theorem q1227 : (Jvm.Cond.fieldLink "AcornYearsModel" (65 : Nat) "AcornYearsModel" "sortOf" "[I") ∈ lw_all := lw_g (lw_at lw_m5 161 rfl) rfl
theorem q1228 : (Jvm.Cond.fieldLink "AcornYearsModel" (68 : Nat) "AcornYearsModel" "store" "[I") ∈ lw_all := lw_g (lw_at lw_m5 162 rfl) rfl
theorem q1229 : (Jvm.Cond.fieldLink "AcornYearsModel" (71 : Nat) "AcornYearsModel" "bloomed" "[I") ∈ lw_all := lw_g (lw_at lw_m5 163 rfl) rfl
theorem q1230 : (Jvm.Cond.fieldLink "AcornYearsModel" (74 : Nat) "AcornYearsModel" "lastBloom" "[I") ∈ lw_all := lw_g (lw_at lw_m5 164 rfl) rfl
theorem q1231 : (Jvm.Cond.fieldLink "AcornYearsModel" (251 : Nat) "AcornYearsModel" "acorns" "I") ∈ lw_all := lw_g (lw_at lw_m5 165 rfl) rfl
theorem q1232 : (Jvm.Cond.fieldLink "AcornYearsModel" (266 : Nat) "AcornYearsModel" "seedlings" "I") ∈ lw_all := lw_g (lw_at lw_m5 166 rfl) rfl
theorem q1233 : (Jvm.Cond.fieldLink "AcornYearsModel" (245 : Nat) "AcornYearsModel" "blooming" "I") ∈ lw_all := lw_g (lw_at lw_m5 167 rfl) rfl
theorem q1234 : (Jvm.Cond.fieldLink "AcornYearsModel" (242 : Nat) "AcornYearsModel" "bloomSet" "I") ∈ lw_all := lw_g (lw_at lw_m5 168 rfl) rfl
theorem q1235 : (Jvm.Cond.fieldLink "AcornYearsModel" (77 : Nat) "AcornYearsModel" "acornsOf" "[I") ∈ lw_all := lw_g (lw_at lw_m5 169 rfl) rfl
theorem q1236 : (Jvm.Cond.fieldLink "AcornYearsModel" (80 : Nat) "AcornYearsModel" "starved" "[Z") ∈ lw_all := lw_g (lw_at lw_m5 170 rfl) rfl
theorem q1237 : (Jvm.Cond.fieldLink "AcornYearsModel" (84 : Nat) "AcornYearsModel" "walkers" "[I") ∈ lw_all := lw_g (lw_at lw_m5 171 rfl) rfl
theorem q1238 : (Jvm.Cond.fieldLink "AcornYearsModel" (87 : Nat) "AcornYearsModel" "kept" "[I") ∈ lw_all := lw_g (lw_at lw_m5 172 rfl) rfl
theorem q1239 : (Jvm.Cond.fieldLink "AcornYearsModel" (299 : Nat) "AcornYearsModel" "since" "I") ∈ lw_all := lw_g (lw_at lw_m5 173 rfl) rfl
theorem q1240 : (Jvm.Cond.fieldLink "AcornYearsModel" (302 : Nat) "AcornYearsModel" "round" "I") ∈ lw_all := lw_g (lw_at lw_m5 174 rfl) rfl
theorem q1241 : (Jvm.Cond.fieldLink "AcornYearsModel" (309 : Nat) "AcornYearsModel" "ringAcorns" "J") ∈ lw_all := lw_g (lw_at lw_m5 175 rfl) rfl
theorem q1242 : (Jvm.Cond.fieldLink "AcornYearsModel" (312 : Nat) "AcornYearsModel" "ringMost" "I") ∈ lw_all := lw_g (lw_at lw_m5 176 rfl) rfl
theorem q1243 : (Jvm.Cond.fieldLink "AcornYearsModel" (315 : Nat) "AcornYearsModel" "ringSeedlings" "J") ∈ lw_all := lw_g (lw_at lw_m5 177 rfl) rfl
theorem q1244 : (Jvm.Cond.fieldLink "AcornYearsModel" (318 : Nat) "AcornYearsModel" "ringBlooms" "J") ∈ lw_all := lw_g (lw_at lw_m5 178 rfl) rfl
theorem q1245 : (Jvm.Cond.fieldLink "AcornYearsModel" (321 : Nat) "AcornYearsModel" "ringOnes" "J") ∈ lw_all := lw_g (lw_at lw_m5 179 rfl) rfl
theorem q1246 : (Jvm.Cond.fieldLink "AcornYearsModel" (324 : Nat) "AcornYearsModel" "ringBoth" "J") ∈ lw_all := lw_g (lw_at lw_m5 180 rfl) rfl
theorem q1247 : (Jvm.Cond.fieldLink "AcornYearsModel" (327 : Nat) "AcornYearsModel" "treeAcorns" "J") ∈ lw_all := lw_g (lw_at lw_m5 181 rfl) rfl
theorem q1248 : (Jvm.Cond.fieldLink "AcornYearsModel" (330 : Nat) "AcornYearsModel" "treeGain" "J") ∈ lw_all := lw_g (lw_at lw_m5 182 rfl) rfl
theorem q1249 : (Jvm.Cond.fieldLink "AcornYearsModel" (333 : Nat) "AcornYearsModel" "ringStarved" "I") ∈ lw_all := lw_g (lw_at lw_m5 183 rfl) rfl
theorem q1250 : (Jvm.Cond.fieldLink "AcornYearsModel" (90 : Nat) "AcornYearsModel" "wasNumber" "[I") ∈ lw_all := lw_g (lw_at lw_m5 184 rfl) rfl
theorem q1251 : (Jvm.Cond.fieldLink "AcornYearsModel" (350 : Nat) "AcornYearsModel" "byGain" "J") ∈ lw_all := lw_g (lw_at lw_m5 185 rfl) rfl
theorem q1252 : (Jvm.Cond.fieldLink "AcornYearsModel" (353 : Nat) "AcornYearsModel" "byRound" "I") ∈ lw_all := lw_g (lw_at lw_m5 186 rfl) rfl
theorem q1253 : (Jvm.Cond.fieldLink "AcornYearsModel" (381 : Nat) "AcornYearsModel" "h" "J") ∈ lw_all := lw_g (lw_at lw_m5 187 rfl) rfl
theorem q1254 : (Jvm.Cond.lays "AcornYearsModel" "AcornYearsModel" "latest" "I") ∈ lw_all := lw_g (lw_at lw_m5 188 rfl) rfl
theorem q1255 : (Jvm.Cond.soleField "AcornYearsModel" "latest") ∈ lw_all := lw_g (lw_at lw_m5 189 rfl) rfl
theorem q1256 : (Jvm.Cond.laysFinal "AcornYearsModel" "AcornYearsModel" "came" "[I") ∈ lw_all := lw_g (lw_at lw_m5 190 rfl) rfl
theorem q1257 : (Jvm.Cond.soleField "AcornYearsModel" "came") ∈ lw_all := lw_g (lw_at lw_m5 191 rfl) rfl
theorem q1258 : (Jvm.Cond.lays "AcornYearsModel" "AcornYearsModel" "asked" "I") ∈ lw_all := lw_g (lw_at lw_m5 192 rfl) rfl
theorem q1259 : (Jvm.Cond.soleField "AcornYearsModel" "asked") ∈ lw_all := lw_g (lw_at lw_m5 193 rfl) rfl
theorem q1260 : (Jvm.Cond.lays "AcornYearsModel" "AcornYearsModel" "upper" "J") ∈ lw_all := lw_g (lw_at lw_m5 194 rfl) rfl
theorem q1261 : (Jvm.Cond.soleField "AcornYearsModel" "upper") ∈ lw_all := lw_g (lw_at lw_m5 195 rfl) rfl
theorem q1262 : (Jvm.Cond.lays "AcornYearsModel" "AcornYearsModel" "lower" "J") ∈ lw_all := lw_g (lw_at lw_m5 196 rfl) rfl
theorem q1263 : (Jvm.Cond.soleField "AcornYearsModel" "lower") ∈ lw_all := lw_g (lw_at lw_m5 197 rfl) rfl
theorem q1264 : (Jvm.Cond.laysFinal "AcornYearsModel" "AcornYearsModel" "sizes" "[I") ∈ lw_all := lw_g (lw_at lw_m5 198 rfl) rfl
theorem q1265 : (Jvm.Cond.soleField "AcornYearsModel" "sizes") ∈ lw_all := lw_g (lw_at lw_m5 199 rfl) rfl
theorem q1266 : (Jvm.Cond.laysFinal "AcornYearsModel" "AcornYearsModel" "rows" "[I") ∈ lw_all := lw_g (lw_at lw_m5 200 rfl) rfl
theorem q1267 : (Jvm.Cond.soleField "AcornYearsModel" "rows") ∈ lw_all := lw_g (lw_at lw_m5 201 rfl) rfl
theorem q1268 : (Jvm.Cond.laysFinal "AcornYearsModel" "AcornYearsModel" "copied" "[I") ∈ lw_all := lw_g (lw_at lw_m5 202 rfl) rfl
theorem q1269 : (Jvm.Cond.soleField "AcornYearsModel" "copied") ∈ lw_all := lw_g (lw_at lw_m5 203 rfl) rfl
theorem q1270 : (Jvm.Cond.laysFinal "AcornYearsModel" "AcornYearsModel" "textSizes" "[I") ∈ lw_all := lw_g (lw_at lw_m5 204 rfl) rfl
theorem q1271 : (Jvm.Cond.soleField "AcornYearsModel" "textSizes") ∈ lw_all := lw_g (lw_at lw_m5 205 rfl) rfl
theorem q1272 : (Jvm.Cond.laysFinal "AcornYearsModel" "AcornYearsModel" "bytes" "[B") ∈ lw_all := lw_g (lw_at lw_m5 206 rfl) rfl
theorem q1273 : (Jvm.Cond.soleField "AcornYearsModel" "bytes") ∈ lw_all := lw_g (lw_at lw_m5 207 rfl) rfl
theorem q1274 : (Jvm.Cond.lays "AcornYearsModel" "AcornYearsModel" "readAt" "I") ∈ lw_all := lw_g (lw_at lw_m5 208 rfl) rfl
theorem q1275 : (Jvm.Cond.soleField "AcornYearsModel" "readAt") ∈ lw_all := lw_g (lw_at lw_m5 209 rfl) rfl
theorem q1276 : (Jvm.Cond.lays "AcornYearsModel" "AcornYearsModel" "readNumber" "I") ∈ lw_all := lw_g (lw_at lw_m5 210 rfl) rfl
theorem q1277 : (Jvm.Cond.soleField "AcornYearsModel" "readNumber") ∈ lw_all := lw_g (lw_at lw_m5 211 rfl) rfl
theorem q1278 : (Jvm.Cond.lays "AcornYearsModel" "AcornYearsModel" "readSorts" "I") ∈ lw_all := lw_g (lw_at lw_m5 212 rfl) rfl
theorem q1279 : (Jvm.Cond.soleField "AcornYearsModel" "readSorts") ∈ lw_all := lw_g (lw_at lw_m5 213 rfl) rfl
theorem q1280 : (Jvm.Cond.laysFinal "AcornYearsModel" "AcornYearsModel" "readSort" "[I") ∈ lw_all := lw_g (lw_at lw_m5 214 rfl) rfl
theorem q1281 : (Jvm.Cond.soleField "AcornYearsModel" "readSort") ∈ lw_all := lw_g (lw_at lw_m5 215 rfl) rfl
theorem q1282 : (Jvm.Cond.lays "AcornYearsModel" "AcornYearsModel" "readEaters" "I") ∈ lw_all := lw_g (lw_at lw_m5 216 rfl) rfl
theorem q1283 : (Jvm.Cond.soleField "AcornYearsModel" "readEaters") ∈ lw_all := lw_g (lw_at lw_m5 217 rfl) rfl
theorem q1284 : (Jvm.Cond.laysFinal "AcornYearsModel" "AcornYearsModel" "readEater" "[I") ∈ lw_all := lw_g (lw_at lw_m5 218 rfl) rfl
theorem q1285 : (Jvm.Cond.soleField "AcornYearsModel" "readEater") ∈ lw_all := lw_g (lw_at lw_m5 219 rfl) rfl
theorem q1286 : (Jvm.Cond.laysFinal "AcornYearsModel" "AcornYearsModel" "readJay" "[I") ∈ lw_all := lw_g (lw_at lw_m5 220 rfl) rfl
theorem q1287 : (Jvm.Cond.soleField "AcornYearsModel" "readJay") ∈ lw_all := lw_g (lw_at lw_m5 221 rfl) rfl
theorem q1288 : (Jvm.Cond.lays "AcornYearsModel" "AcornYearsModel" "readLong" "I") ∈ lw_all := lw_g (lw_at lw_m5 222 rfl) rfl
theorem q1289 : (Jvm.Cond.soleField "AcornYearsModel" "readLong") ∈ lw_all := lw_g (lw_at lw_m5 223 rfl) rfl
theorem q1290 : (Jvm.Cond.laysFinal "AcornYearsModel" "AcornYearsModel" "readCalendar" "[I") ∈ lw_all := lw_g (lw_at lw_m5 224 rfl) rfl
theorem q1291 : (Jvm.Cond.soleField "AcornYearsModel" "readCalendar") ∈ lw_all := lw_g (lw_at lw_m5 225 rfl) rfl
theorem q1292 : (Jvm.Cond.laysFinal "AcornYearsModel" "AcornYearsModel" "readChances" "[I") ∈ lw_all := lw_g (lw_at lw_m5 226 rfl) rfl
theorem q1293 : (Jvm.Cond.soleField "AcornYearsModel" "readChances") ∈ lw_all := lw_g (lw_at lw_m5 227 rfl) rfl
theorem q1294 : (Jvm.Cond.lays "AcornYearsModel" "AcornYearsModel" "sortMany" "I") ∈ lw_all := lw_g (lw_at lw_m5 228 rfl) rfl
theorem q1295 : (Jvm.Cond.soleField "AcornYearsModel" "sortMany") ∈ lw_all := lw_g (lw_at lw_m5 229 rfl) rfl
theorem q1296 : (Jvm.Cond.laysFinal "AcornYearsModel" "AcornYearsModel" "sorts" "[I") ∈ lw_all := lw_g (lw_at lw_m5 230 rfl) rfl
theorem q1297 : (Jvm.Cond.soleField "AcornYearsModel" "sorts") ∈ lw_all := lw_g (lw_at lw_m5 231 rfl) rfl
theorem q1298 : (Jvm.Cond.lays "AcornYearsModel" "AcornYearsModel" "eaterMany" "I") ∈ lw_all := lw_g (lw_at lw_m5 232 rfl) rfl
theorem q1299 : (Jvm.Cond.soleField "AcornYearsModel" "eaterMany") ∈ lw_all := lw_g (lw_at lw_m5 233 rfl) rfl
theorem q1300 : (Jvm.Cond.laysFinal "AcornYearsModel" "AcornYearsModel" "eats" "[I") ∈ lw_all := lw_g (lw_at lw_m5 234 rfl) rfl
theorem q1301 : (Jvm.Cond.soleField "AcornYearsModel" "eats") ∈ lw_all := lw_g (lw_at lw_m5 235 rfl) rfl
theorem q1302 : (Jvm.Cond.laysFinal "AcornYearsModel" "AcornYearsModel" "grows" "[I") ∈ lw_all := lw_g (lw_at lw_m5 236 rfl) rfl
theorem q1303 : (Jvm.Cond.soleField "AcornYearsModel" "grows") ∈ lw_all := lw_g (lw_at lw_m5 237 rfl) rfl
theorem q1304 : (Jvm.Cond.laysFinal "AcornYearsModel" "AcornYearsModel" "comesMore" "[I") ∈ lw_all := lw_g (lw_at lw_m5 238 rfl) rfl
theorem q1305 : (Jvm.Cond.soleField "AcornYearsModel" "comesMore") ∈ lw_all := lw_g (lw_at lw_m5 239 rfl) rfl
theorem q1306 : (Jvm.Cond.lays "AcornYearsModel" "AcornYearsModel" "hides" "I") ∈ lw_all := lw_g (lw_at lw_m6 0 rfl) rfl
theorem q1307 : (Jvm.Cond.soleField "AcornYearsModel" "hides") ∈ lw_all := lw_g (lw_at lw_m6 1 rfl) rfl
theorem q1308 : (Jvm.Cond.lays "AcornYearsModel" "AcornYearsModel" "forgets" "I") ∈ lw_all := lw_g (lw_at lw_m6 2 rfl) rfl
theorem q1309 : (Jvm.Cond.soleField "AcornYearsModel" "forgets") ∈ lw_all := lw_g (lw_at lw_m6 3 rfl) rfl
theorem q1310 : (Jvm.Cond.lays "AcornYearsModel" "AcornYearsModel" "calendarLong" "I") ∈ lw_all := lw_g (lw_at lw_m6 4 rfl) rfl
theorem q1311 : (Jvm.Cond.soleField "AcornYearsModel" "calendarLong") ∈ lw_all := lw_g (lw_at lw_m6 5 rfl) rfl
theorem q1312 : (Jvm.Cond.laysFinal "AcornYearsModel" "AcornYearsModel" "calendar" "[I") ∈ lw_all := lw_g (lw_at lw_m6 6 rfl) rfl
theorem q1313 : (Jvm.Cond.soleField "AcornYearsModel" "calendar") ∈ lw_all := lw_g (lw_at lw_m6 7 rfl) rfl
theorem q1314 : (Jvm.Cond.laysFinal "AcornYearsModel" "AcornYearsModel" "chances" "[I") ∈ lw_all := lw_g (lw_at lw_m6 8 rfl) rfl
theorem q1315 : (Jvm.Cond.soleField "AcornYearsModel" "chances") ∈ lw_all := lw_g (lw_at lw_m6 9 rfl) rfl
theorem q1316 : (Jvm.Cond.lays "AcornYearsModel" "AcornYearsModel" "year" "I") ∈ lw_all := lw_g (lw_at lw_m6 10 rfl) rfl
theorem q1317 : (Jvm.Cond.soleField "AcornYearsModel" "year") ∈ lw_all := lw_g (lw_at lw_m6 11 rfl) rfl
theorem q1318 : (Jvm.Cond.laysFinal "AcornYearsModel" "AcornYearsModel" "mouse" "[I") ∈ lw_all := lw_g (lw_at lw_m6 12 rfl) rfl
theorem q1319 : (Jvm.Cond.soleField "AcornYearsModel" "mouse") ∈ lw_all := lw_g (lw_at lw_m6 13 rfl) rfl
theorem q1320 : (Jvm.Cond.lays "AcornYearsModel" "AcornYearsModel" "treeMany" "I") ∈ lw_all := lw_g (lw_at lw_m6 14 rfl) rfl
theorem q1321 : (Jvm.Cond.soleField "AcornYearsModel" "treeMany") ∈ lw_all := lw_g (lw_at lw_m6 15 rfl) rfl
theorem q1322 : (Jvm.Cond.laysFinal "AcornYearsModel" "AcornYearsModel" "sortOf" "[I") ∈ lw_all := lw_g (lw_at lw_m6 16 rfl) rfl
theorem q1323 : (Jvm.Cond.soleField "AcornYearsModel" "sortOf") ∈ lw_all := lw_g (lw_at lw_m6 17 rfl) rfl
theorem q1324 : (Jvm.Cond.laysFinal "AcornYearsModel" "AcornYearsModel" "store" "[I") ∈ lw_all := lw_g (lw_at lw_m6 18 rfl) rfl
theorem q1325 : (Jvm.Cond.soleField "AcornYearsModel" "store") ∈ lw_all := lw_g (lw_at lw_m6 19 rfl) rfl
theorem q1326 : (Jvm.Cond.laysFinal "AcornYearsModel" "AcornYearsModel" "bloomed" "[I") ∈ lw_all := lw_g (lw_at lw_m6 20 rfl) rfl
theorem q1327 : (Jvm.Cond.soleField "AcornYearsModel" "bloomed") ∈ lw_all := lw_g (lw_at lw_m6 21 rfl) rfl
theorem q1328 : (Jvm.Cond.laysFinal "AcornYearsModel" "AcornYearsModel" "lastBloom" "[I") ∈ lw_all := lw_g (lw_at lw_m6 22 rfl) rfl
theorem q1329 : (Jvm.Cond.soleField "AcornYearsModel" "lastBloom") ∈ lw_all := lw_g (lw_at lw_m6 23 rfl) rfl
theorem q1330 : (Jvm.Cond.lays "AcornYearsModel" "AcornYearsModel" "acorns" "I") ∈ lw_all := lw_g (lw_at lw_m6 24 rfl) rfl
theorem q1331 : (Jvm.Cond.soleField "AcornYearsModel" "acorns") ∈ lw_all := lw_g (lw_at lw_m6 25 rfl) rfl
theorem q1332 : (Jvm.Cond.lays "AcornYearsModel" "AcornYearsModel" "seedlings" "I") ∈ lw_all := lw_g (lw_at lw_m6 26 rfl) rfl
theorem q1333 : (Jvm.Cond.soleField "AcornYearsModel" "seedlings") ∈ lw_all := lw_g (lw_at lw_m6 27 rfl) rfl
theorem q1334 : (Jvm.Cond.lays "AcornYearsModel" "AcornYearsModel" "blooming" "I") ∈ lw_all := lw_g (lw_at lw_m6 28 rfl) rfl
theorem q1335 : (Jvm.Cond.soleField "AcornYearsModel" "blooming") ∈ lw_all := lw_g (lw_at lw_m6 29 rfl) rfl
theorem q1336 : (Jvm.Cond.lays "AcornYearsModel" "AcornYearsModel" "bloomSet" "I") ∈ lw_all := lw_g (lw_at lw_m6 30 rfl) rfl
theorem q1337 : (Jvm.Cond.soleField "AcornYearsModel" "bloomSet") ∈ lw_all := lw_g (lw_at lw_m6 31 rfl) rfl
theorem q1338 : (Jvm.Cond.laysFinal "AcornYearsModel" "AcornYearsModel" "acornsOf" "[I") ∈ lw_all := lw_g (lw_at lw_m6 32 rfl) rfl
theorem q1339 : (Jvm.Cond.soleField "AcornYearsModel" "acornsOf") ∈ lw_all := lw_g (lw_at lw_m6 33 rfl) rfl
theorem q1340 : (Jvm.Cond.laysFinal "AcornYearsModel" "AcornYearsModel" "starved" "[Z") ∈ lw_all := lw_g (lw_at lw_m6 34 rfl) rfl
theorem q1341 : (Jvm.Cond.soleField "AcornYearsModel" "starved") ∈ lw_all := lw_g (lw_at lw_m6 35 rfl) rfl
theorem q1342 : (Jvm.Cond.laysFinal "AcornYearsModel" "AcornYearsModel" "walkers" "[I") ∈ lw_all := lw_g (lw_at lw_m6 36 rfl) rfl
theorem q1343 : (Jvm.Cond.soleField "AcornYearsModel" "walkers") ∈ lw_all := lw_g (lw_at lw_m6 37 rfl) rfl
theorem q1344 : (Jvm.Cond.laysFinal "AcornYearsModel" "AcornYearsModel" "kept" "[I") ∈ lw_all := lw_g (lw_at lw_m6 38 rfl) rfl
theorem q1345 : (Jvm.Cond.soleField "AcornYearsModel" "kept") ∈ lw_all := lw_g (lw_at lw_m6 39 rfl) rfl
theorem q1346 : (Jvm.Cond.lays "AcornYearsModel" "AcornYearsModel" "since" "I") ∈ lw_all := lw_g (lw_at lw_m6 40 rfl) rfl
theorem q1347 : (Jvm.Cond.soleField "AcornYearsModel" "since") ∈ lw_all := lw_g (lw_at lw_m6 41 rfl) rfl
theorem q1348 : (Jvm.Cond.lays "AcornYearsModel" "AcornYearsModel" "round" "I") ∈ lw_all := lw_g (lw_at lw_m6 42 rfl) rfl
theorem q1349 : (Jvm.Cond.soleField "AcornYearsModel" "round") ∈ lw_all := lw_g (lw_at lw_m6 43 rfl) rfl
theorem q1350 : (Jvm.Cond.lays "AcornYearsModel" "AcornYearsModel" "ringAcorns" "J") ∈ lw_all := lw_g (lw_at lw_m6 44 rfl) rfl
theorem q1351 : (Jvm.Cond.soleField "AcornYearsModel" "ringAcorns") ∈ lw_all := lw_g (lw_at lw_m6 45 rfl) rfl
theorem q1352 : (Jvm.Cond.lays "AcornYearsModel" "AcornYearsModel" "ringMost" "I") ∈ lw_all := lw_g (lw_at lw_m6 46 rfl) rfl
theorem q1353 : (Jvm.Cond.soleField "AcornYearsModel" "ringMost") ∈ lw_all := lw_g (lw_at lw_m6 47 rfl) rfl
theorem q1354 : (Jvm.Cond.lays "AcornYearsModel" "AcornYearsModel" "ringSeedlings" "J") ∈ lw_all := lw_g (lw_at lw_m6 48 rfl) rfl
theorem q1355 : (Jvm.Cond.soleField "AcornYearsModel" "ringSeedlings") ∈ lw_all := lw_g (lw_at lw_m6 49 rfl) rfl
theorem q1356 : (Jvm.Cond.lays "AcornYearsModel" "AcornYearsModel" "ringBlooms" "J") ∈ lw_all := lw_g (lw_at lw_m6 50 rfl) rfl
theorem q1357 : (Jvm.Cond.soleField "AcornYearsModel" "ringBlooms") ∈ lw_all := lw_g (lw_at lw_m6 51 rfl) rfl
theorem q1358 : (Jvm.Cond.lays "AcornYearsModel" "AcornYearsModel" "ringOnes" "J") ∈ lw_all := lw_g (lw_at lw_m6 52 rfl) rfl
theorem q1359 : (Jvm.Cond.soleField "AcornYearsModel" "ringOnes") ∈ lw_all := lw_g (lw_at lw_m6 53 rfl) rfl
theorem q1360 : (Jvm.Cond.lays "AcornYearsModel" "AcornYearsModel" "ringBoth" "J") ∈ lw_all := lw_g (lw_at lw_m6 54 rfl) rfl
theorem q1361 : (Jvm.Cond.soleField "AcornYearsModel" "ringBoth") ∈ lw_all := lw_g (lw_at lw_m6 55 rfl) rfl
theorem q1362 : (Jvm.Cond.lays "AcornYearsModel" "AcornYearsModel" "treeAcorns" "J") ∈ lw_all := lw_g (lw_at lw_m6 56 rfl) rfl
theorem q1363 : (Jvm.Cond.soleField "AcornYearsModel" "treeAcorns") ∈ lw_all := lw_g (lw_at lw_m6 57 rfl) rfl
theorem q1364 : (Jvm.Cond.lays "AcornYearsModel" "AcornYearsModel" "treeGain" "J") ∈ lw_all := lw_g (lw_at lw_m6 58 rfl) rfl
theorem q1365 : (Jvm.Cond.soleField "AcornYearsModel" "treeGain") ∈ lw_all := lw_g (lw_at lw_m6 59 rfl) rfl
theorem q1366 : (Jvm.Cond.lays "AcornYearsModel" "AcornYearsModel" "ringStarved" "I") ∈ lw_all := lw_g (lw_at lw_m6 60 rfl) rfl
theorem q1367 : (Jvm.Cond.soleField "AcornYearsModel" "ringStarved") ∈ lw_all := lw_g (lw_at lw_m6 61 rfl) rfl
theorem q1368 : (Jvm.Cond.laysFinal "AcornYearsModel" "AcornYearsModel" "wasNumber" "[I") ∈ lw_all := lw_g (lw_at lw_m6 62 rfl) rfl
theorem q1369 : (Jvm.Cond.soleField "AcornYearsModel" "wasNumber") ∈ lw_all := lw_g (lw_at lw_m6 63 rfl) rfl
theorem q1370 : (Jvm.Cond.lays "AcornYearsModel" "AcornYearsModel" "byGain" "J") ∈ lw_all := lw_g (lw_at lw_m6 64 rfl) rfl
theorem q1371 : (Jvm.Cond.soleField "AcornYearsModel" "byGain") ∈ lw_all := lw_g (lw_at lw_m6 65 rfl) rfl
theorem q1372 : (Jvm.Cond.lays "AcornYearsModel" "AcornYearsModel" "byRound" "I") ∈ lw_all := lw_g (lw_at lw_m6 66 rfl) rfl
theorem q1373 : (Jvm.Cond.soleField "AcornYearsModel" "byRound") ∈ lw_all := lw_g (lw_at lw_m6 67 rfl) rfl
theorem q1374 : (Jvm.Cond.lays "AcornYearsModel" "AcornYearsModel" "h" "J") ∈ lw_all := lw_g (lw_at lw_m6 68 rfl) rfl
theorem q1375 : (Jvm.Cond.soleField "AcornYearsModel" "h") ∈ lw_all := lw_g (lw_at lw_m6 69 rfl) rfl
theorem q1376 : (Jvm.Cond.superclass "AcornYearsModel" "java/lang/Object") ∈ lw_all := lw_g (lw_at lw_m6 70 rfl) rfl
theorem q1378 : (Jvm.Cond.instanceMethod ({ cls := "AcornYearsModel", name := "finding", desc := "()I" } : Jvm.MethodName)) ∈ lw_all := lw_g (lw_at lw_m6 72 rfl) rfl
theorem q1379 : (Jvm.Cond.selects "AcornYearsModel" ({ cls := "AcornYearsModel", name := "finding", desc := "()I" } : Jvm.MethodName) ({ cls := "AcornYearsModel", name := "finding", desc := "()I" } : Jvm.MethodName)) ∈ lw_all := lw_g (lw_at lw_m6 73 rfl) rfl
theorem q1380 : (Jvm.Cond.code ({ cls := "AcornYearsModel", name := "finding", desc := "()I" } : Jvm.MethodName) prog_12_method_6_code (1 : Nat) (Option.some Jvm.ClassFile.FieldType.int)) ∈ lw_all := lw_g (lw_at lw_m6 74 rfl) rfl
theorem q1382 : (Jvm.Cond.instanceMethod ({ cls := "AcornYearsModel", name := "findings", desc := "(I)I" } : Jvm.MethodName)) ∈ lw_all := lw_g (lw_at lw_m6 76 rfl) rfl
theorem q1383 : (Jvm.Cond.selects "AcornYearsModel" ({ cls := "AcornYearsModel", name := "findings", desc := "(I)I" } : Jvm.MethodName) ({ cls := "AcornYearsModel", name := "findings", desc := "(I)I" } : Jvm.MethodName)) ∈ lw_all := lw_g (lw_at lw_m6 77 rfl) rfl
theorem q1384 : (Jvm.Cond.code ({ cls := "AcornYearsModel", name := "findings", desc := "(I)I" } : Jvm.MethodName) prog_12_method_7_code (2 : Nat) (Option.some Jvm.ClassFile.FieldType.int)) ∈ lw_all := lw_g (lw_at lw_m6 78 rfl) rfl
theorem q1385 : (Jvm.Cond.methodLink "AcornYearsModel" (104 : Nat) ({ cls := "AcornYearsModel", name := "in", desc := "(III)Z" } : Jvm.MethodName)) ∈ lw_all := lw_g (lw_at lw_m6 79 rfl) rfl
theorem q1386 : (Jvm.Cond.static ({ cls := "AcornYearsModel", name := "in", desc := "(III)Z" } : Jvm.MethodName)) ∈ lw_all := lw_g (lw_at lw_m6 80 rfl) rfl
theorem q1387 : (Jvm.Cond.code ({ cls := "AcornYearsModel", name := "in", desc := "(III)Z" } : Jvm.MethodName) prog_12_method_2_code (3 : Nat) (Option.some Jvm.ClassFile.FieldType.boolean)) ∈ lw_all := lw_g (lw_at lw_m6 81 rfl) rfl
theorem q1389 : (Jvm.Cond.instanceMethod ({ cls := "AcornYearsModel", name := "asked", desc := "()I" } : Jvm.MethodName)) ∈ lw_all := lw_g (lw_at lw_m6 83 rfl) rfl
theorem q1390 : (Jvm.Cond.selects "AcornYearsModel" ({ cls := "AcornYearsModel", name := "asked", desc := "()I" } : Jvm.MethodName) ({ cls := "AcornYearsModel", name := "asked", desc := "()I" } : Jvm.MethodName)) ∈ lw_all := lw_g (lw_at lw_m6 84 rfl) rfl
theorem q1391 : (Jvm.Cond.code ({ cls := "AcornYearsModel", name := "asked", desc := "()I" } : Jvm.MethodName) prog_12_method_9_code (1 : Nat) (Option.some Jvm.ClassFile.FieldType.int)) ∈ lw_all := lw_g (lw_at lw_m6 85 rfl) rfl
theorem q1393 : (Jvm.Cond.instanceMethod ({ cls := "AcornYearsModel", name := "upper", desc := "()J" } : Jvm.MethodName)) ∈ lw_all := lw_g (lw_at lw_m6 87 rfl) rfl
theorem q1394 : (Jvm.Cond.selects "AcornYearsModel" ({ cls := "AcornYearsModel", name := "upper", desc := "()J" } : Jvm.MethodName) ({ cls := "AcornYearsModel", name := "upper", desc := "()J" } : Jvm.MethodName)) ∈ lw_all := lw_g (lw_at lw_m6 88 rfl) rfl
theorem q1395 : (Jvm.Cond.code ({ cls := "AcornYearsModel", name := "upper", desc := "()J" } : Jvm.MethodName) prog_12_method_11_code (1 : Nat) (Option.some Jvm.ClassFile.FieldType.long)) ∈ lw_all := lw_g (lw_at lw_m6 89 rfl) rfl
theorem q1397 : (Jvm.Cond.instanceMethod ({ cls := "AcornYearsModel", name := "lower", desc := "()J" } : Jvm.MethodName)) ∈ lw_all := lw_g (lw_at lw_m6 91 rfl) rfl
theorem q1398 : (Jvm.Cond.selects "AcornYearsModel" ({ cls := "AcornYearsModel", name := "lower", desc := "()J" } : Jvm.MethodName) ({ cls := "AcornYearsModel", name := "lower", desc := "()J" } : Jvm.MethodName)) ∈ lw_all := lw_g (lw_at lw_m6 92 rfl) rfl
theorem q1399 : (Jvm.Cond.code ({ cls := "AcornYearsModel", name := "lower", desc := "()J" } : Jvm.MethodName) prog_12_method_12_code (1 : Nat) (Option.some Jvm.ClassFile.FieldType.long)) ∈ lw_all := lw_g (lw_at lw_m6 93 rfl) rfl
theorem q1401 : (Jvm.Cond.instanceMethod ({ cls := "AcornYearsModel", name := "row", desc := "(II)I" } : Jvm.MethodName)) ∈ lw_all := lw_g (lw_at lw_m6 95 rfl) rfl
theorem q1402 : (Jvm.Cond.selects "AcornYearsModel" ({ cls := "AcornYearsModel", name := "row", desc := "(II)I" } : Jvm.MethodName) ({ cls := "AcornYearsModel", name := "row", desc := "(II)I" } : Jvm.MethodName)) ∈ lw_all := lw_g (lw_at lw_m6 96 rfl) rfl
theorem q1403 : (Jvm.Cond.code ({ cls := "AcornYearsModel", name := "row", desc := "(II)I" } : Jvm.MethodName) prog_12_method_15_code (4 : Nat) (Option.some Jvm.ClassFile.FieldType.int)) ∈ lw_all := lw_g (lw_at lw_m6 97 rfl) rfl
theorem q1404 : (Jvm.Cond.methodLink "AcornYearsModel" (114 : Nat) ({ cls := "AcornYearsModel", name := "isRow", desc := "(I)Z" } : Jvm.MethodName)) ∈ lw_all := lw_g (lw_at lw_m6 98 rfl) rfl
theorem q1405 : (Jvm.Cond.static ({ cls := "AcornYearsModel", name := "isRow", desc := "(I)Z" } : Jvm.MethodName)) ∈ lw_all := lw_g (lw_at lw_m6 99 rfl) rfl
theorem q1406 : (Jvm.Cond.code ({ cls := "AcornYearsModel", name := "isRow", desc := "(I)Z" } : Jvm.MethodName) prog_12_method_13_code (1 : Nat) (Option.some Jvm.ClassFile.FieldType.boolean)) ∈ lw_all := lw_g (lw_at lw_m6 100 rfl) rfl
theorem q1407 : (Jvm.Cond.methodLink "AcornYearsModel" (118 : Nat) ({ cls := "AcornYearsModel", name := "meets", desc := "(I)I" } : Jvm.MethodName)) ∈ lw_all := lw_g (lw_at lw_m6 101 rfl) rfl
theorem q1408 : (Jvm.Cond.privateMethod ({ cls := "AcornYearsModel", name := "meets", desc := "(I)I" } : Jvm.MethodName)) ∈ lw_tbl := lw_at lw_m6 102 rfl
theorem q1409 : (Jvm.Cond.instanceMethod ({ cls := "AcornYearsModel", name := "meets", desc := "(I)I" } : Jvm.MethodName)) ∈ lw_all := lw_g (lw_at lw_m6 103 rfl) rfl
theorem q1410 : (Jvm.Cond.code ({ cls := "AcornYearsModel", name := "meets", desc := "(I)I" } : Jvm.MethodName) prog_12_method_5_code (2 : Nat) (Option.some Jvm.ClassFile.FieldType.int)) ∈ lw_all := lw_g (lw_at lw_m6 104 rfl) rfl
theorem q1412 : (Jvm.Cond.instanceMethod ({ cls := "AcornYearsModel", name := "lay", desc := "(III)I" } : Jvm.MethodName)) ∈ lw_all := lw_g (lw_at lw_m6 106 rfl) rfl
theorem q1413 : (Jvm.Cond.selects "AcornYearsModel" ({ cls := "AcornYearsModel", name := "lay", desc := "(III)I" } : Jvm.MethodName) ({ cls := "AcornYearsModel", name := "lay", desc := "(III)I" } : Jvm.MethodName)) ∈ lw_all := lw_g (lw_at lw_m6 107 rfl) rfl
theorem q1414 : (Jvm.Cond.code ({ cls := "AcornYearsModel", name := "lay", desc := "(III)I" } : Jvm.MethodName) prog_12_method_16_code (5 : Nat) (Option.some Jvm.ClassFile.FieldType.int)) ∈ lw_all := lw_g (lw_at lw_m6 108 rfl) rfl
theorem q1415 : (Jvm.Cond.methodLink "AcornYearsModel" (122 : Nat) ({ cls := "AcornYearsModel", name := "rowAt", desc := "(II)I" } : Jvm.MethodName)) ∈ lw_all := lw_g (lw_at lw_m6 109 rfl) rfl
theorem q1416 : (Jvm.Cond.privateMethod ({ cls := "AcornYearsModel", name := "rowAt", desc := "(II)I" } : Jvm.MethodName)) ∈ lw_tbl := lw_at lw_m6 110 rfl
theorem q1417 : (Jvm.Cond.instanceMethod ({ cls := "AcornYearsModel", name := "rowAt", desc := "(II)I" } : Jvm.MethodName)) ∈ lw_all := lw_g (lw_at lw_m6 111 rfl) rfl
theorem q1418 : (Jvm.Cond.code ({ cls := "AcornYearsModel", name := "rowAt", desc := "(II)I" } : Jvm.MethodName) prog_12_method_14_code (3 : Nat) (Option.some Jvm.ClassFile.FieldType.int)) ∈ lw_all := lw_g (lw_at lw_m6 112 rfl) rfl
theorem q1419 : (Jvm.Cond.methodLink "AcornYearsModel" (126 : Nat) ({ cls := "AcornYearsModel", name := "tells", desc := "(II)I" } : Jvm.MethodName)) ∈ lw_all := lw_g (lw_at lw_m6 113 rfl) rfl
theorem q1420 : (Jvm.Cond.privateMethod ({ cls := "AcornYearsModel", name := "tells", desc := "(II)I" } : Jvm.MethodName)) ∈ lw_tbl := lw_at lw_m6 114 rfl
theorem q1421 : (Jvm.Cond.instanceMethod ({ cls := "AcornYearsModel", name := "tells", desc := "(II)I" } : Jvm.MethodName)) ∈ lw_all := lw_g (lw_at lw_m6 115 rfl) rfl
theorem q1422 : (Jvm.Cond.code ({ cls := "AcornYearsModel", name := "tells", desc := "(II)I" } : Jvm.MethodName) prog_12_method_8_code (3 : Nat) (Option.some Jvm.ClassFile.FieldType.int)) ∈ lw_all := lw_g (lw_at lw_m6 116 rfl) rfl
theorem q1424 : (Jvm.Cond.instanceMethod ({ cls := "AcornYearsModel", name := "at", desc := "(II)I" } : Jvm.MethodName)) ∈ lw_all := lw_g (lw_at lw_m6 118 rfl) rfl
theorem q1425 : (Jvm.Cond.selects "AcornYearsModel" ({ cls := "AcornYearsModel", name := "at", desc := "(II)I" } : Jvm.MethodName) ({ cls := "AcornYearsModel", name := "at", desc := "(II)I" } : Jvm.MethodName)) ∈ lw_all := lw_g (lw_at lw_m6 119 rfl) rfl
theorem q1426 : (Jvm.Cond.code ({ cls := "AcornYearsModel", name := "at", desc := "(II)I" } : Jvm.MethodName) prog_12_method_17_code (3 : Nat) (Option.some Jvm.ClassFile.FieldType.int)) ∈ lw_all := lw_g (lw_at lw_m6 120 rfl) rfl
theorem q1428 : (Jvm.Cond.instanceMethod ({ cls := "AcornYearsModel", name := "tear", desc := "(I)I" } : Jvm.MethodName)) ∈ lw_all := lw_g (lw_at lw_m6 122 rfl) rfl
theorem q1429 : (Jvm.Cond.selects "AcornYearsModel" ({ cls := "AcornYearsModel", name := "tear", desc := "(I)I" } : Jvm.MethodName) ({ cls := "AcornYearsModel", name := "tear", desc := "(I)I" } : Jvm.MethodName)) ∈ lw_all := lw_g (lw_at lw_m6 123 rfl) rfl
theorem q1430 : (Jvm.Cond.code ({ cls := "AcornYearsModel", name := "tear", desc := "(I)I" } : Jvm.MethodName) prog_12_method_18_code (2 : Nat) (Option.some Jvm.ClassFile.FieldType.int)) ∈ lw_all := lw_g (lw_at lw_m6 124 rfl) rfl
theorem q1432 : (Jvm.Cond.instanceMethod ({ cls := "AcornYearsModel", name := "copy", desc := "(IIIII)I" } : Jvm.MethodName)) ∈ lw_all := lw_g (lw_at lw_m6 126 rfl) rfl
theorem q1433 : (Jvm.Cond.selects "AcornYearsModel" ({ cls := "AcornYearsModel", name := "copy", desc := "(IIIII)I" } : Jvm.MethodName) ({ cls := "AcornYearsModel", name := "copy", desc := "(IIIII)I" } : Jvm.MethodName)) ∈ lw_all := lw_g (lw_at lw_m6 127 rfl) rfl
theorem q1434 : (Jvm.Cond.code ({ cls := "AcornYearsModel", name := "copy", desc := "(IIIII)I" } : Jvm.MethodName) prog_12_method_19_code (7 : Nat) (Option.some Jvm.ClassFile.FieldType.int)) ∈ lw_all := lw_g (lw_at lw_m6 128 rfl) rfl
theorem q1436 : (Jvm.Cond.instanceMethod ({ cls := "AcornYearsModel", name := "mean", desc := "(I)I" } : Jvm.MethodName)) ∈ lw_all := lw_g (lw_at lw_m6 130 rfl) rfl
theorem q1437 : (Jvm.Cond.selects "AcornYearsModel" ({ cls := "AcornYearsModel", name := "mean", desc := "(I)I" } : Jvm.MethodName) ({ cls := "AcornYearsModel", name := "mean", desc := "(I)I" } : Jvm.MethodName)) ∈ lw_all := lw_g (lw_at lw_m6 131 rfl) rfl
theorem q1438 : (Jvm.Cond.code ({ cls := "AcornYearsModel", name := "mean", desc := "(I)I" } : Jvm.MethodName) prog_12_method_20_code (5 : Nat) (Option.some Jvm.ClassFile.FieldType.int)) ∈ lw_all := lw_g (lw_at lw_m6 132 rfl) rfl
theorem q1440 : (Jvm.Cond.instanceMethod ({ cls := "AcornYearsModel", name := "text", desc := "(II)I" } : Jvm.MethodName)) ∈ lw_all := lw_g (lw_at lw_m6 134 rfl) rfl
theorem q1441 : (Jvm.Cond.selects "AcornYearsModel" ({ cls := "AcornYearsModel", name := "text", desc := "(II)I" } : Jvm.MethodName) ({ cls := "AcornYearsModel", name := "text", desc := "(II)I" } : Jvm.MethodName)) ∈ lw_all := lw_g (lw_at lw_m6 135 rfl) rfl
theorem q1442 : (Jvm.Cond.code ({ cls := "AcornYearsModel", name := "text", desc := "(II)I" } : Jvm.MethodName) prog_12_method_22_code (4 : Nat) (Option.some Jvm.ClassFile.FieldType.int)) ∈ lw_all := lw_g (lw_at lw_m6 136 rfl) rfl
theorem q1443 : (Jvm.Cond.methodLink "AcornYearsModel" (129 : Nat) ({ cls := "AcornYearsModel", name := "isText", desc := "(I)Z" } : Jvm.MethodName)) ∈ lw_all := lw_g (lw_at lw_m6 137 rfl) rfl
theorem q1444 : (Jvm.Cond.static ({ cls := "AcornYearsModel", name := "isText", desc := "(I)Z" } : Jvm.MethodName)) ∈ lw_all := lw_g (lw_at lw_m6 138 rfl) rfl
theorem q1445 : (Jvm.Cond.code ({ cls := "AcornYearsModel", name := "isText", desc := "(I)Z" } : Jvm.MethodName) prog_12_method_21_code (1 : Nat) (Option.some Jvm.ClassFile.FieldType.boolean)) ∈ lw_all := lw_g (lw_at lw_m6 139 rfl) rfl
theorem q1447 : (Jvm.Cond.instanceMethod ({ cls := "AcornYearsModel", name := "put", desc := "(III)I" } : Jvm.MethodName)) ∈ lw_all := lw_g (lw_at lw_m6 141 rfl) rfl
theorem q1448 : (Jvm.Cond.selects "AcornYearsModel" ({ cls := "AcornYearsModel", name := "put", desc := "(III)I" } : Jvm.MethodName) ({ cls := "AcornYearsModel", name := "put", desc := "(III)I" } : Jvm.MethodName)) ∈ lw_all := lw_g (lw_at lw_m6 142 rfl) rfl
theorem q1449 : (Jvm.Cond.code ({ cls := "AcornYearsModel", name := "put", desc := "(III)I" } : Jvm.MethodName) prog_12_method_23_code (5 : Nat) (Option.some Jvm.ClassFile.FieldType.int)) ∈ lw_all := lw_g (lw_at lw_m6 143 rfl) rfl
theorem q1451 : (Jvm.Cond.instanceMethod ({ cls := "AcornYearsModel", name := "fault", desc := "(I)I" } : Jvm.MethodName)) ∈ lw_all := lw_g (lw_at lw_m6 145 rfl) rfl
theorem q1452 : (Jvm.Cond.selects "AcornYearsModel" ({ cls := "AcornYearsModel", name := "fault", desc := "(I)I" } : Jvm.MethodName) ({ cls := "AcornYearsModel", name := "fault", desc := "(I)I" } : Jvm.MethodName)) ∈ lw_all := lw_g (lw_at lw_m6 146 rfl) rfl
theorem q1453 : (Jvm.Cond.code ({ cls := "AcornYearsModel", name := "fault", desc := "(I)I" } : Jvm.MethodName) prog_12_method_37_code (2 : Nat) (Option.some Jvm.ClassFile.FieldType.int)) ∈ lw_all := lw_g (lw_at lw_m6 147 rfl) rfl
theorem q1454 : (Jvm.Cond.methodLink "AcornYearsModel" (188 : Nat) ({ cls := "AcornYearsModel", name := "faultOf", desc := "(I)I" } : Jvm.MethodName)) ∈ lw_all := lw_g (lw_at lw_m6 148 rfl) rfl
theorem q1455 : (Jvm.Cond.privateMethod ({ cls := "AcornYearsModel", name := "faultOf", desc := "(I)I" } : Jvm.MethodName)) ∈ lw_tbl := lw_at lw_m6 149 rfl
theorem q1456 : (Jvm.Cond.instanceMethod ({ cls := "AcornYearsModel", name := "faultOf", desc := "(I)I" } : Jvm.MethodName)) ∈ lw_all := lw_g (lw_at lw_m6 150 rfl) rfl
theorem q1457 : (Jvm.Cond.code ({ cls := "AcornYearsModel", name := "faultOf", desc := "(I)I" } : Jvm.MethodName) prog_12_method_36_code (3 : Nat) (Option.some Jvm.ClassFile.FieldType.int)) ∈ lw_all := lw_g (lw_at lw_m6 151 rfl) rfl
theorem q1458 : (Jvm.Cond.methodLink "AcornYearsModel" (135 : Nat) ({ cls := "AcornYearsModel", name := "byteAt", desc := "(II)I" } : Jvm.MethodName)) ∈ lw_all := lw_g (lw_at lw_m6 152 rfl) rfl
theorem q1459 : (Jvm.Cond.privateMethod ({ cls := "AcornYearsModel", name := "byteAt", desc := "(II)I" } : Jvm.MethodName)) ∈ lw_tbl := lw_at lw_m6 153 rfl
theorem q1460 : (Jvm.Cond.instanceMethod ({ cls := "AcornYearsModel", name := "byteAt", desc := "(II)I" } : Jvm.MethodName)) ∈ lw_all := lw_g (lw_at lw_m6 154 rfl) rfl
theorem q1461 : (Jvm.Cond.code ({ cls := "AcornYearsModel", name := "byteAt", desc := "(II)I" } : Jvm.MethodName) prog_12_method_24_code (3 : Nat) (Option.some Jvm.ClassFile.FieldType.int)) ∈ lw_all := lw_g (lw_at lw_m6 155 rfl) rfl
theorem q1462 : (Jvm.Cond.methodLink "AcornYearsModel" (185 : Nat) ({ cls := "AcornYearsModel", name := "readsItem", desc := "(I)Z" } : Jvm.MethodName)) ∈ lw_all := lw_g (lw_at lw_m6 156 rfl) rfl
theorem q1463 : (Jvm.Cond.privateMethod ({ cls := "AcornYearsModel", name := "readsItem", desc := "(I)Z" } : Jvm.MethodName)) ∈ lw_tbl := lw_at lw_m6 157 rfl
theorem q1464 : (Jvm.Cond.instanceMethod ({ cls := "AcornYearsModel", name := "readsItem", desc := "(I)Z" } : Jvm.MethodName)) ∈ lw_all := lw_g (lw_at lw_m6 158 rfl) rfl
theorem q1465 : (Jvm.Cond.code ({ cls := "AcornYearsModel", name := "readsItem", desc := "(I)Z" } : Jvm.MethodName) prog_12_method_35_code (3 : Nat) (Option.some Jvm.ClassFile.FieldType.boolean)) ∈ lw_all := lw_g (lw_at lw_m6 159 rfl) rfl
theorem q1466 : (Jvm.Cond.methodLink "AcornYearsModel" (167 : Nat) ({ cls := "AcornYearsModel", name := "kindOf", desc := "(I)I" } : Jvm.MethodName)) ∈ lw_all := lw_g (lw_at lw_m6 160 rfl) rfl
theorem q1467 : (Jvm.Cond.static ({ cls := "AcornYearsModel", name := "kindOf", desc := "(I)I" } : Jvm.MethodName)) ∈ lw_all := lw_g (lw_at lw_m6 161 rfl) rfl
theorem q1468 : (Jvm.Cond.code ({ cls := "AcornYearsModel", name := "kindOf", desc := "(I)I" } : Jvm.MethodName) prog_12_method_28_code (1 : Nat) (Option.some Jvm.ClassFile.FieldType.int)) ∈ lw_all := lw_g (lw_at lw_m6 162 rfl) rfl
theorem q1469 : (Jvm.Cond.methodLink "AcornYearsModel" (170 : Nat) ({ cls := "AcornYearsModel", name := "readsSort", desc := "(II)Z" } : Jvm.MethodName)) ∈ lw_all := lw_g (lw_at lw_m6 163 rfl) rfl
theorem q1470 : (Jvm.Cond.privateMethod ({ cls := "AcornYearsModel", name := "readsSort", desc := "(II)Z" } : Jvm.MethodName)) ∈ lw_tbl := lw_at lw_m6 164 rfl
theorem q1471 : (Jvm.Cond.instanceMethod ({ cls := "AcornYearsModel", name := "readsSort", desc := "(II)Z" } : Jvm.MethodName)) ∈ lw_all := lw_g (lw_at lw_m6 165 rfl) rfl
theorem q1472 : (Jvm.Cond.code ({ cls := "AcornYearsModel", name := "readsSort", desc := "(II)Z" } : Jvm.MethodName) prog_12_method_29_code (5 : Nat) (Option.some Jvm.ClassFile.FieldType.boolean)) ∈ lw_all := lw_g (lw_at lw_m6 166 rfl) rfl
theorem q1473 : (Jvm.Cond.methodLink "AcornYearsModel" (147 : Nat) ({ cls := "AcornYearsModel", name := "reads", desc := "(IIII)Z" } : Jvm.MethodName)) ∈ lw_all := lw_g (lw_at lw_m6 167 rfl) rfl
theorem q1474 : (Jvm.Cond.privateMethod ({ cls := "AcornYearsModel", name := "reads", desc := "(IIII)Z" } : Jvm.MethodName)) ∈ lw_tbl := lw_at lw_m6 168 rfl
theorem q1475 : (Jvm.Cond.instanceMethod ({ cls := "AcornYearsModel", name := "reads", desc := "(IIII)Z" } : Jvm.MethodName)) ∈ lw_all := lw_g (lw_at lw_m6 169 rfl) rfl
theorem q1476 : (Jvm.Cond.code ({ cls := "AcornYearsModel", name := "reads", desc := "(IIII)Z" } : Jvm.MethodName) prog_12_method_26_code (6 : Nat) (Option.some Jvm.ClassFile.FieldType.boolean)) ∈ lw_all := lw_g (lw_at lw_m6 170 rfl) rfl
theorem q1477 : (Jvm.Cond.methodLink "AcornYearsModel" (141 : Nat) ({ cls := "AcornYearsModel", name := "isFigure", desc := "(I)Z" } : Jvm.MethodName)) ∈ lw_all := lw_g (lw_at lw_m6 171 rfl) rfl
theorem q1478 : (Jvm.Cond.privateMethod ({ cls := "AcornYearsModel", name := "isFigure", desc := "(I)Z" } : Jvm.MethodName)) ∈ lw_tbl := lw_at lw_m6 172 rfl
theorem q1479 : (Jvm.Cond.instanceMethod ({ cls := "AcornYearsModel", name := "isFigure", desc := "(I)Z" } : Jvm.MethodName)) ∈ lw_all := lw_g (lw_at lw_m6 173 rfl) rfl
theorem q1480 : (Jvm.Cond.code ({ cls := "AcornYearsModel", name := "isFigure", desc := "(I)Z" } : Jvm.MethodName) prog_12_method_25_code (2 : Nat) (Option.some Jvm.ClassFile.FieldType.boolean)) ∈ lw_all := lw_g (lw_at lw_m6 174 rfl) rfl
theorem q1481 : (Jvm.Cond.methodLink "AcornYearsModel" (151 : Nat) ({ cls := "AcornYearsModel", name := "readsMore", desc := "(III)Z" } : Jvm.MethodName)) ∈ lw_all := lw_g (lw_at lw_m6 175 rfl) rfl
theorem q1482 : (Jvm.Cond.privateMethod ({ cls := "AcornYearsModel", name := "readsMore", desc := "(III)Z" } : Jvm.MethodName)) ∈ lw_tbl := lw_at lw_m6 176 rfl
theorem q1483 : (Jvm.Cond.instanceMethod ({ cls := "AcornYearsModel", name := "readsMore", desc := "(III)Z" } : Jvm.MethodName)) ∈ lw_all := lw_g (lw_at lw_m6 177 rfl) rfl
theorem q1484 : (Jvm.Cond.code ({ cls := "AcornYearsModel", name := "readsMore", desc := "(III)Z" } : Jvm.MethodName) prog_12_method_30_code (6 : Nat) (Option.some Jvm.ClassFile.FieldType.boolean)) ∈ lw_all := lw_g (lw_at lw_m6 178 rfl) rfl
theorem q1485 : (Jvm.Cond.methodLink "AcornYearsModel" (154 : Nat) ({ cls := "AcornYearsModel", name := "sign", desc := "(II)Z" } : Jvm.MethodName)) ∈ lw_all := lw_g (lw_at lw_m6 179 rfl) rfl
theorem q1486 : (Jvm.Cond.privateMethod ({ cls := "AcornYearsModel", name := "sign", desc := "(II)Z" } : Jvm.MethodName)) ∈ lw_tbl := lw_at lw_m6 180 rfl
theorem q1487 : (Jvm.Cond.instanceMethod ({ cls := "AcornYearsModel", name := "sign", desc := "(II)Z" } : Jvm.MethodName)) ∈ lw_all := lw_g (lw_at lw_m6 181 rfl) rfl
theorem q1488 : (Jvm.Cond.code ({ cls := "AcornYearsModel", name := "sign", desc := "(II)Z" } : Jvm.MethodName) prog_12_method_27_code (4 : Nat) (Option.some Jvm.ClassFile.FieldType.boolean)) ∈ lw_all := lw_g (lw_at lw_m6 182 rfl) rfl
theorem q1489 : (Jvm.Cond.methodLink "AcornYearsModel" (158 : Nat) ({ cls := "AcornYearsModel", name := "lesser", desc := "(II)I" } : Jvm.MethodName)) ∈ lw_all := lw_g (lw_at lw_m6 183 rfl) rfl
theorem q1490 : (Jvm.Cond.static ({ cls := "AcornYearsModel", name := "lesser", desc := "(II)I" } : Jvm.MethodName)) ∈ lw_all := lw_g (lw_at lw_m6 184 rfl) rfl
theorem q1491 : (Jvm.Cond.code ({ cls := "AcornYearsModel", name := "lesser", desc := "(II)I" } : Jvm.MethodName) prog_12_method_4_code (2 : Nat) (Option.some Jvm.ClassFile.FieldType.int)) ∈ lw_all := lw_g (lw_at lw_m6 185 rfl) rfl
theorem q1492 : (Jvm.Cond.methodLink "AcornYearsModel" (173 : Nat) ({ cls := "AcornYearsModel", name := "readsEater", desc := "(I)Z" } : Jvm.MethodName)) ∈ lw_all := lw_g (lw_at lw_m6 186 rfl) rfl
theorem q1493 : (Jvm.Cond.privateMethod ({ cls := "AcornYearsModel", name := "readsEater", desc := "(I)Z" } : Jvm.MethodName)) ∈ lw_tbl := lw_at lw_m6 187 rfl
theorem q1494 : (Jvm.Cond.instanceMethod ({ cls := "AcornYearsModel", name := "readsEater", desc := "(I)Z" } : Jvm.MethodName)) ∈ lw_all := lw_g (lw_at lw_m6 188 rfl) rfl
theorem q1495 : (Jvm.Cond.code ({ cls := "AcornYearsModel", name := "readsEater", desc := "(I)Z" } : Jvm.MethodName) prog_12_method_31_code (4 : Nat) (Option.some Jvm.ClassFile.FieldType.boolean)) ∈ lw_all := lw_g (lw_at lw_m6 189 rfl) rfl
theorem q1496 : (Jvm.Cond.methodLink "AcornYearsModel" (176 : Nat) ({ cls := "AcornYearsModel", name := "readsJay", desc := "(I)Z" } : Jvm.MethodName)) ∈ lw_all := lw_g (lw_at lw_m6 190 rfl) rfl
theorem q1497 : (Jvm.Cond.privateMethod ({ cls := "AcornYearsModel", name := "readsJay", desc := "(I)Z" } : Jvm.MethodName)) ∈ lw_tbl := lw_at lw_m6 191 rfl
theorem q1498 : (Jvm.Cond.instanceMethod ({ cls := "AcornYearsModel", name := "readsJay", desc := "(I)Z" } : Jvm.MethodName)) ∈ lw_all := lw_g (lw_at lw_m6 192 rfl) rfl
theorem q1499 : (Jvm.Cond.code ({ cls := "AcornYearsModel", name := "readsJay", desc := "(I)Z" } : Jvm.MethodName) prog_12_method_32_code (2 : Nat) (Option.some Jvm.ClassFile.FieldType.boolean)) ∈ lw_all := lw_g (lw_at lw_m6 193 rfl) rfl
theorem q1500 : (Jvm.Cond.methodLink "AcornYearsModel" (179 : Nat) ({ cls := "AcornYearsModel", name := "readsCalendar", desc := "(I)Z" } : Jvm.MethodName)) ∈ lw_all := lw_g (lw_at lw_m6 194 rfl) rfl
theorem q1501 : (Jvm.Cond.privateMethod ({ cls := "AcornYearsModel", name := "readsCalendar", desc := "(I)Z" } : Jvm.MethodName)) ∈ lw_tbl := lw_at lw_m6 195 rfl
theorem q1502 : (Jvm.Cond.instanceMethod ({ cls := "AcornYearsModel", name := "readsCalendar", desc := "(I)Z" } : Jvm.MethodName)) ∈ lw_all := lw_g (lw_at lw_m6 196 rfl) rfl
theorem q1503 : (Jvm.Cond.code ({ cls := "AcornYearsModel", name := "readsCalendar", desc := "(I)Z" } : Jvm.MethodName) prog_12_method_33_code (2 : Nat) (Option.some Jvm.ClassFile.FieldType.boolean)) ∈ lw_all := lw_g (lw_at lw_m6 197 rfl) rfl
theorem q1504 : (Jvm.Cond.methodLink "AcornYearsModel" (182 : Nat) ({ cls := "AcornYearsModel", name := "readsChances", desc := "(I)Z" } : Jvm.MethodName)) ∈ lw_all := lw_g (lw_at lw_m6 198 rfl) rfl
theorem q1505 : (Jvm.Cond.privateMethod ({ cls := "AcornYearsModel", name := "readsChances", desc := "(I)Z" } : Jvm.MethodName)) ∈ lw_tbl := lw_at lw_m6 199 rfl
theorem q1506 : (Jvm.Cond.instanceMethod ({ cls := "AcornYearsModel", name := "readsChances", desc := "(I)Z" } : Jvm.MethodName)) ∈ lw_all := lw_g (lw_at lw_m6 200 rfl) rfl
theorem q1507 : (Jvm.Cond.code ({ cls := "AcornYearsModel", name := "readsChances", desc := "(I)Z" } : Jvm.MethodName) prog_12_method_34_code (4 : Nat) (Option.some Jvm.ClassFile.FieldType.boolean)) ∈ lw_all := lw_g (lw_at lw_m6 201 rfl) rfl
theorem q1509 : (Jvm.Cond.instanceMethod ({ cls := "AcornYearsModel", name := "wood", desc := "(I)I" } : Jvm.MethodName)) ∈ lw_all := lw_g (lw_at lw_m6 203 rfl) rfl
theorem q1510 : (Jvm.Cond.selects "AcornYearsModel" ({ cls := "AcornYearsModel", name := "wood", desc := "(I)I" } : Jvm.MethodName) ({ cls := "AcornYearsModel", name := "wood", desc := "(I)I" } : Jvm.MethodName)) ∈ lw_all := lw_g (lw_at lw_m6 204 rfl) rfl
theorem q1511 : (Jvm.Cond.code ({ cls := "AcornYearsModel", name := "wood", desc := "(I)I" } : Jvm.MethodName) prog_12_method_38_code (3 : Nat) (Option.some Jvm.ClassFile.FieldType.int)) ∈ lw_all := lw_g (lw_at lw_m6 205 rfl) rfl
theorem q1513 : (Jvm.Cond.instanceMethod ({ cls := "AcornYearsModel", name := "about", desc := "(II)I" } : Jvm.MethodName)) ∈ lw_all := lw_g (lw_at lw_m6 207 rfl) rfl
theorem q1514 : (Jvm.Cond.selects "AcornYearsModel" ({ cls := "AcornYearsModel", name := "about", desc := "(II)I" } : Jvm.MethodName) ({ cls := "AcornYearsModel", name := "about", desc := "(II)I" } : Jvm.MethodName)) ∈ lw_all := lw_g (lw_at lw_m6 208 rfl) rfl
theorem q1515 : (Jvm.Cond.code ({ cls := "AcornYearsModel", name := "about", desc := "(II)I" } : Jvm.MethodName) prog_12_method_42_code (3 : Nat) (Option.some Jvm.ClassFile.FieldType.int)) ∈ lw_all := lw_g (lw_at lw_m6 209 rfl) rfl
theorem q1516 : (Jvm.Cond.methodLink "AcornYearsModel" (212 : Nat) ({ cls := "AcornYearsModel", name := "isSort", desc := "(I)Z" } : Jvm.MethodName)) ∈ lw_all := lw_g (lw_at lw_m6 210 rfl) rfl
theorem q1517 : (Jvm.Cond.privateMethod ({ cls := "AcornYearsModel", name := "isSort", desc := "(I)Z" } : Jvm.MethodName)) ∈ lw_tbl := lw_at lw_m6 211 rfl
theorem q1518 : (Jvm.Cond.instanceMethod ({ cls := "AcornYearsModel", name := "isSort", desc := "(I)Z" } : Jvm.MethodName)) ∈ lw_all := lw_g (lw_at lw_m6 212 rfl) rfl
theorem q1519 : (Jvm.Cond.code ({ cls := "AcornYearsModel", name := "isSort", desc := "(I)Z" } : Jvm.MethodName) prog_12_method_39_code (2 : Nat) (Option.some Jvm.ClassFile.FieldType.boolean)) ∈ lw_all := lw_g (lw_at lw_m6 213 rfl) rfl
theorem q1520 : (Jvm.Cond.methodLink "AcornYearsModel" (209 : Nat) ({ cls := "AcornYearsModel", name := "kind", desc := "(I)I" } : Jvm.MethodName)) ∈ lw_all := lw_g (lw_at lw_m6 214 rfl) rfl
theorem q1521 : (Jvm.Cond.privateMethod ({ cls := "AcornYearsModel", name := "kind", desc := "(I)I" } : Jvm.MethodName)) ∈ lw_tbl := lw_at lw_m6 215 rfl
theorem q1522 : (Jvm.Cond.instanceMethod ({ cls := "AcornYearsModel", name := "kind", desc := "(I)I" } : Jvm.MethodName)) ∈ lw_all := lw_g (lw_at lw_m6 216 rfl) rfl
theorem q1523 : (Jvm.Cond.code ({ cls := "AcornYearsModel", name := "kind", desc := "(I)I" } : Jvm.MethodName) prog_12_method_40_code (2 : Nat) (Option.some Jvm.ClassFile.FieldType.int)) ∈ lw_all := lw_g (lw_at lw_m6 217 rfl) rfl
theorem q1525 : (Jvm.Cond.instanceMethod ({ cls := "AcornYearsModel", name := "mark", desc := "(II)I" } : Jvm.MethodName)) ∈ lw_all := lw_g (lw_at lw_m6 219 rfl) rfl
theorem q1526 : (Jvm.Cond.selects "AcornYearsModel" ({ cls := "AcornYearsModel", name := "mark", desc := "(II)I" } : Jvm.MethodName) ({ cls := "AcornYearsModel", name := "mark", desc := "(II)I" } : Jvm.MethodName)) ∈ lw_all := lw_g (lw_at lw_m6 220 rfl) rfl
theorem q1527 : (Jvm.Cond.code ({ cls := "AcornYearsModel", name := "mark", desc := "(II)I" } : Jvm.MethodName) prog_12_method_44_code (4 : Nat) (Option.some Jvm.ClassFile.FieldType.int)) ∈ lw_all := lw_g (lw_at lw_m6 221 rfl) rfl
theorem q1528 : (Jvm.Cond.methodLink "AcornYearsModel" (215 : Nat) ({ cls := "AcornYearsModel", name := "isSaver", desc := "(I)Z" } : Jvm.MethodName)) ∈ lw_all := lw_g (lw_at lw_m6 222 rfl) rfl
theorem q1529 : (Jvm.Cond.privateMethod ({ cls := "AcornYearsModel", name := "isSaver", desc := "(I)Z" } : Jvm.MethodName)) ∈ lw_tbl := lw_at lw_m6 223 rfl
theorem q1530 : (Jvm.Cond.instanceMethod ({ cls := "AcornYearsModel", name := "isSaver", desc := "(I)Z" } : Jvm.MethodName)) ∈ lw_all := lw_g (lw_at lw_m6 224 rfl) rfl
theorem q1531 : (Jvm.Cond.code ({ cls := "AcornYearsModel", name := "isSaver", desc := "(I)Z" } : Jvm.MethodName) prog_12_method_41_code (2 : Nat) (Option.some Jvm.ClassFile.FieldType.boolean)) ∈ lw_all := lw_g (lw_at lw_m6 225 rfl) rfl
theorem q1532 : (Jvm.Cond.methodLink "AcornYearsModel" (218 : Nat) ({ cls := "AcornYearsModel", name := "markOf", desc := "(II)I" } : Jvm.MethodName)) ∈ lw_all := lw_g (lw_at lw_m6 226 rfl) rfl
theorem q1533 : (Jvm.Cond.privateMethod ({ cls := "AcornYearsModel", name := "markOf", desc := "(II)I" } : Jvm.MethodName)) ∈ lw_tbl := lw_at lw_m6 227 rfl
theorem q1534 : (Jvm.Cond.instanceMethod ({ cls := "AcornYearsModel", name := "markOf", desc := "(II)I" } : Jvm.MethodName)) ∈ lw_all := lw_g (lw_at lw_m6 228 rfl) rfl
theorem q1535 : (Jvm.Cond.code ({ cls := "AcornYearsModel", name := "markOf", desc := "(II)I" } : Jvm.MethodName) prog_12_method_43_code (4 : Nat) (Option.some Jvm.ClassFile.FieldType.int)) ∈ lw_all := lw_g (lw_at lw_m6 229 rfl) rfl
theorem q1537 : (Jvm.Cond.instanceMethod ({ cls := "AcornYearsModel", name := "spring", desc := "(II)I" } : Jvm.MethodName)) ∈ lw_all := lw_g (lw_at lw_m6 231 rfl) rfl
theorem q1538 : (Jvm.Cond.selects "AcornYearsModel" ({ cls := "AcornYearsModel", name := "spring", desc := "(II)I" } : Jvm.MethodName) ({ cls := "AcornYearsModel", name := "spring", desc := "(II)I" } : Jvm.MethodName)) ∈ lw_all := lw_g (lw_at lw_m6 232 rfl) rfl
theorem q1539 : (Jvm.Cond.code ({ cls := "AcornYearsModel", name := "spring", desc := "(II)I" } : Jvm.MethodName) prog_12_method_45_code (4 : Nat) (Option.some Jvm.ClassFile.FieldType.int)) ∈ lw_all := lw_g (lw_at lw_m6 233 rfl) rfl
theorem q1541 : (Jvm.Cond.instanceMethod ({ cls := "AcornYearsModel", name := "jay", desc := "(II)I" } : Jvm.MethodName)) ∈ lw_all := lw_g (lw_at lw_m6 235 rfl) rfl
theorem q1542 : (Jvm.Cond.selects "AcornYearsModel" ({ cls := "AcornYearsModel", name := "jay", desc := "(II)I" } : Jvm.MethodName) ({ cls := "AcornYearsModel", name := "jay", desc := "(II)I" } : Jvm.MethodName)) ∈ lw_all := lw_g (lw_at lw_m6 236 rfl) rfl
theorem q1543 : (Jvm.Cond.code ({ cls := "AcornYearsModel", name := "jay", desc := "(II)I" } : Jvm.MethodName) prog_12_method_46_code (3 : Nat) (Option.some Jvm.ClassFile.FieldType.int)) ∈ lw_all := lw_g (lw_at lw_m6 237 rfl) rfl
theorem q1545 : (Jvm.Cond.instanceMethod ({ cls := "AcornYearsModel", name := "mice", desc := "(II)I" } : Jvm.MethodName)) ∈ lw_all := lw_g (lw_at lw_m6 239 rfl) rfl
theorem q1546 : (Jvm.Cond.selects "AcornYearsModel" ({ cls := "AcornYearsModel", name := "mice", desc := "(II)I" } : Jvm.MethodName) ({ cls := "AcornYearsModel", name := "mice", desc := "(II)I" } : Jvm.MethodName)) ∈ lw_all := lw_g (lw_at lw_m7 0 rfl) rfl
theorem q1547 : (Jvm.Cond.code ({ cls := "AcornYearsModel", name := "mice", desc := "(II)I" } : Jvm.MethodName) prog_12_method_48_code (4 : Nat) (Option.some Jvm.ClassFile.FieldType.int)) ∈ lw_all := lw_g (lw_at lw_m7 1 rfl) rfl
theorem q1548 : (Jvm.Cond.methodLink "AcornYearsModel" (221 : Nat) ({ cls := "AcornYearsModel", name := "isEater", desc := "(I)Z" } : Jvm.MethodName)) ∈ lw_all := lw_g (lw_at lw_m7 2 rfl) rfl
theorem q1549 : (Jvm.Cond.privateMethod ({ cls := "AcornYearsModel", name := "isEater", desc := "(I)Z" } : Jvm.MethodName)) ∈ lw_tbl := lw_at lw_m7 3 rfl
theorem q1550 : (Jvm.Cond.instanceMethod ({ cls := "AcornYearsModel", name := "isEater", desc := "(I)Z" } : Jvm.MethodName)) ∈ lw_all := lw_g (lw_at lw_m7 4 rfl) rfl
theorem q1551 : (Jvm.Cond.code ({ cls := "AcornYearsModel", name := "isEater", desc := "(I)Z" } : Jvm.MethodName) prog_12_method_47_code (2 : Nat) (Option.some Jvm.ClassFile.FieldType.boolean)) ∈ lw_all := lw_g (lw_at lw_m7 5 rfl) rfl
theorem q1553 : (Jvm.Cond.instanceMethod ({ cls := "AcornYearsModel", name := "plant", desc := "(II)I" } : Jvm.MethodName)) ∈ lw_all := lw_g (lw_at lw_m7 7 rfl) rfl
theorem q1554 : (Jvm.Cond.selects "AcornYearsModel" ({ cls := "AcornYearsModel", name := "plant", desc := "(II)I" } : Jvm.MethodName) ({ cls := "AcornYearsModel", name := "plant", desc := "(II)I" } : Jvm.MethodName)) ∈ lw_all := lw_g (lw_at lw_m7 8 rfl) rfl
theorem q1555 : (Jvm.Cond.code ({ cls := "AcornYearsModel", name := "plant", desc := "(II)I" } : Jvm.MethodName) prog_12_method_51_code (3 : Nat) (Option.some Jvm.ClassFile.FieldType.int)) ∈ lw_all := lw_g (lw_at lw_m7 9 rfl) rfl
theorem q1556 : (Jvm.Cond.methodLink "AcornYearsModel" (224 : Nat) ({ cls := "AcornYearsModel", name := "grow", desc := "(II)I" } : Jvm.MethodName)) ∈ lw_all := lw_g (lw_at lw_m7 10 rfl) rfl
theorem q1557 : (Jvm.Cond.privateMethod ({ cls := "AcornYearsModel", name := "grow", desc := "(II)I" } : Jvm.MethodName)) ∈ lw_tbl := lw_at lw_m7 11 rfl
theorem q1558 : (Jvm.Cond.instanceMethod ({ cls := "AcornYearsModel", name := "grow", desc := "(II)I" } : Jvm.MethodName)) ∈ lw_all := lw_g (lw_at lw_m7 12 rfl) rfl
theorem q1559 : (Jvm.Cond.code ({ cls := "AcornYearsModel", name := "grow", desc := "(II)I" } : Jvm.MethodName) prog_12_method_50_code (3 : Nat) (Option.some Jvm.ClassFile.FieldType.int)) ∈ lw_all := lw_g (lw_at lw_m7 13 rfl) rfl
theorem q1561 : (Jvm.Cond.instanceMethod ({ cls := "AcornYearsModel", name := "plants", desc := "(I)I" } : Jvm.MethodName)) ∈ lw_all := lw_g (lw_at lw_m7 15 rfl) rfl
theorem q1562 : (Jvm.Cond.selects "AcornYearsModel" ({ cls := "AcornYearsModel", name := "plants", desc := "(I)I" } : Jvm.MethodName) ({ cls := "AcornYearsModel", name := "plants", desc := "(I)I" } : Jvm.MethodName)) ∈ lw_all := lw_g (lw_at lw_m7 16 rfl) rfl
theorem q1563 : (Jvm.Cond.code ({ cls := "AcornYearsModel", name := "plants", desc := "(I)I" } : Jvm.MethodName) prog_12_method_52_code (5 : Nat) (Option.some Jvm.ClassFile.FieldType.int)) ∈ lw_all := lw_g (lw_at lw_m7 17 rfl) rfl
theorem q1565 : (Jvm.Cond.instanceMethod ({ cls := "AcornYearsModel", name := "told", desc := "(II)I" } : Jvm.MethodName)) ∈ lw_all := lw_g (lw_at lw_m7 19 rfl) rfl
theorem q1566 : (Jvm.Cond.selects "AcornYearsModel" ({ cls := "AcornYearsModel", name := "told", desc := "(II)I" } : Jvm.MethodName) ({ cls := "AcornYearsModel", name := "told", desc := "(II)I" } : Jvm.MethodName)) ∈ lw_all := lw_g (lw_at lw_m7 20 rfl) rfl
theorem q1567 : (Jvm.Cond.code ({ cls := "AcornYearsModel", name := "told", desc := "(II)I" } : Jvm.MethodName) prog_12_method_54_code (3 : Nat) (Option.some Jvm.ClassFile.FieldType.int)) ∈ lw_all := lw_g (lw_at lw_m7 21 rfl) rfl
theorem q1568 : (Jvm.Cond.methodLink "AcornYearsModel" (227 : Nat) ({ cls := "AcornYearsModel", name := "isTree", desc := "(I)Z" } : Jvm.MethodName)) ∈ lw_all := lw_g (lw_at lw_m7 22 rfl) rfl
theorem q1569 : (Jvm.Cond.privateMethod ({ cls := "AcornYearsModel", name := "isTree", desc := "(I)Z" } : Jvm.MethodName)) ∈ lw_tbl := lw_at lw_m7 23 rfl
theorem q1570 : (Jvm.Cond.instanceMethod ({ cls := "AcornYearsModel", name := "isTree", desc := "(I)Z" } : Jvm.MethodName)) ∈ lw_all := lw_g (lw_at lw_m7 24 rfl) rfl
theorem q1571 : (Jvm.Cond.code ({ cls := "AcornYearsModel", name := "isTree", desc := "(I)Z" } : Jvm.MethodName) prog_12_method_49_code (2 : Nat) (Option.some Jvm.ClassFile.FieldType.boolean)) ∈ lw_all := lw_g (lw_at lw_m7 25 rfl) rfl
theorem q1572 : (Jvm.Cond.methodLink "AcornYearsModel" (230 : Nat) ({ cls := "AcornYearsModel", name := "treeTells", desc := "(II)I" } : Jvm.MethodName)) ∈ lw_all := lw_g (lw_at lw_m7 26 rfl) rfl
theorem q1573 : (Jvm.Cond.privateMethod ({ cls := "AcornYearsModel", name := "treeTells", desc := "(II)I" } : Jvm.MethodName)) ∈ lw_tbl := lw_at lw_m7 27 rfl
theorem q1574 : (Jvm.Cond.instanceMethod ({ cls := "AcornYearsModel", name := "treeTells", desc := "(II)I" } : Jvm.MethodName)) ∈ lw_all := lw_g (lw_at lw_m7 28 rfl) rfl
theorem q1575 : (Jvm.Cond.code ({ cls := "AcornYearsModel", name := "treeTells", desc := "(II)I" } : Jvm.MethodName) prog_12_method_53_code (3 : Nat) (Option.some Jvm.ClassFile.FieldType.int)) ∈ lw_all := lw_g (lw_at lw_m7 29 rfl) rfl
theorem q1577 : (Jvm.Cond.instanceMethod ({ cls := "AcornYearsModel", name := "now", desc := "(I)I" } : Jvm.MethodName)) ∈ lw_all := lw_g (lw_at lw_m7 31 rfl) rfl
theorem q1578 : (Jvm.Cond.selects "AcornYearsModel" ({ cls := "AcornYearsModel", name := "now", desc := "(I)I" } : Jvm.MethodName) ({ cls := "AcornYearsModel", name := "now", desc := "(I)I" } : Jvm.MethodName)) ∈ lw_all := lw_g (lw_at lw_m7 32 rfl) rfl
theorem q1579 : (Jvm.Cond.code ({ cls := "AcornYearsModel", name := "now", desc := "(I)I" } : Jvm.MethodName) prog_12_method_57_code (2 : Nat) (Option.some Jvm.ClassFile.FieldType.int)) ∈ lw_all := lw_g (lw_at lw_m7 33 rfl) rfl
theorem q1580 : (Jvm.Cond.methodLink "AcornYearsModel" (236 : Nat) ({ cls := "AcornYearsModel", name := "nowTells", desc := "(I)I" } : Jvm.MethodName)) ∈ lw_all := lw_g (lw_at lw_m7 34 rfl) rfl
theorem q1581 : (Jvm.Cond.privateMethod ({ cls := "AcornYearsModel", name := "nowTells", desc := "(I)I" } : Jvm.MethodName)) ∈ lw_tbl := lw_at lw_m7 35 rfl
theorem q1582 : (Jvm.Cond.instanceMethod ({ cls := "AcornYearsModel", name := "nowTells", desc := "(I)I" } : Jvm.MethodName)) ∈ lw_all := lw_g (lw_at lw_m7 36 rfl) rfl
theorem q1583 : (Jvm.Cond.code ({ cls := "AcornYearsModel", name := "nowTells", desc := "(I)I" } : Jvm.MethodName) prog_12_method_56_code (2 : Nat) (Option.some Jvm.ClassFile.FieldType.int)) ∈ lw_all := lw_g (lw_at lw_m7 37 rfl) rfl
theorem q1584 : (Jvm.Cond.methodLink "AcornYearsModel" (233 : Nat) ({ cls := "AcornYearsModel", name := "mouseOf", desc := "(I)I" } : Jvm.MethodName)) ∈ lw_all := lw_g (lw_at lw_m7 38 rfl) rfl
theorem q1585 : (Jvm.Cond.privateMethod ({ cls := "AcornYearsModel", name := "mouseOf", desc := "(I)I" } : Jvm.MethodName)) ∈ lw_tbl := lw_at lw_m7 39 rfl
theorem q1586 : (Jvm.Cond.instanceMethod ({ cls := "AcornYearsModel", name := "mouseOf", desc := "(I)I" } : Jvm.MethodName)) ∈ lw_all := lw_g (lw_at lw_m7 40 rfl) rfl
theorem q1587 : (Jvm.Cond.code ({ cls := "AcornYearsModel", name := "mouseOf", desc := "(I)I" } : Jvm.MethodName) prog_12_method_55_code (2 : Nat) (Option.some Jvm.ClassFile.FieldType.int)) ∈ lw_all := lw_g (lw_at lw_m7 41 rfl) rfl
theorem q1589 : (Jvm.Cond.instanceMethod ({ cls := "AcornYearsModel", name := "next", desc := "(I)I" } : Jvm.MethodName)) ∈ lw_all := lw_g (lw_at lw_m7 43 rfl) rfl
theorem q1590 : (Jvm.Cond.selects "AcornYearsModel" ({ cls := "AcornYearsModel", name := "next", desc := "(I)I" } : Jvm.MethodName) ({ cls := "AcornYearsModel", name := "next", desc := "(I)I" } : Jvm.MethodName)) ∈ lw_all := lw_g (lw_at lw_m7 44 rfl) rfl
theorem q1591 : (Jvm.Cond.code ({ cls := "AcornYearsModel", name := "next", desc := "(I)I" } : Jvm.MethodName) prog_12_method_65_code (2 : Nat) (Option.some Jvm.ClassFile.FieldType.int)) ∈ lw_all := lw_g (lw_at lw_m7 45 rfl) rfl
theorem q1592 : (Jvm.Cond.methodLink "AcornYearsModel" (269 : Nat) ({ cls := "AcornYearsModel", name := "passes", desc := "(IIZ)V" } : Jvm.MethodName)) ∈ lw_all := lw_g (lw_at lw_m7 46 rfl) rfl
theorem q1593 : (Jvm.Cond.privateMethod ({ cls := "AcornYearsModel", name := "passes", desc := "(IIZ)V" } : Jvm.MethodName)) ∈ lw_tbl := lw_at lw_m7 47 rfl
theorem q1594 : (Jvm.Cond.instanceMethod ({ cls := "AcornYearsModel", name := "passes", desc := "(IIZ)V" } : Jvm.MethodName)) ∈ lw_all := lw_g (lw_at lw_m7 48 rfl) rfl
theorem q1595 : (Jvm.Cond.code ({ cls := "AcornYearsModel", name := "passes", desc := "(IIZ)V" } : Jvm.MethodName) prog_12_method_60_code (5 : Nat) (Option.none : Option Jvm.ClassFile.FieldType)) ∈ lw_all := lw_g (lw_at lw_m7 49 rfl) rfl
theorem q1596 : (Jvm.Cond.methodLink "AcornYearsModel" (248 : Nat) ({ cls := "AcornYearsModel", name := "doesBloom", desc := "(II)Z" } : Jvm.MethodName)) ∈ lw_all := lw_g (lw_at lw_m7 50 rfl) rfl
theorem q1597 : (Jvm.Cond.privateMethod ({ cls := "AcornYearsModel", name := "doesBloom", desc := "(II)Z" } : Jvm.MethodName)) ∈ lw_tbl := lw_at lw_m7 51 rfl
theorem q1598 : (Jvm.Cond.instanceMethod ({ cls := "AcornYearsModel", name := "doesBloom", desc := "(II)Z" } : Jvm.MethodName)) ∈ lw_all := lw_g (lw_at lw_m7 52 rfl) rfl
theorem q1599 : (Jvm.Cond.code ({ cls := "AcornYearsModel", name := "doesBloom", desc := "(II)Z" } : Jvm.MethodName) prog_12_method_58_code (4 : Nat) (Option.some Jvm.ClassFile.FieldType.boolean)) ∈ lw_all := lw_g (lw_at lw_m7 53 rfl) rfl
theorem q1600 : (Jvm.Cond.methodLink "AcornYearsModel" (239 : Nat) ({ cls := "AcornYearsModel", name := "has", desc := "(II)Z" } : Jvm.MethodName)) ∈ lw_all := lw_g (lw_at lw_m7 54 rfl) rfl
theorem q1601 : (Jvm.Cond.static ({ cls := "AcornYearsModel", name := "has", desc := "(II)Z" } : Jvm.MethodName)) ∈ lw_all := lw_g (lw_at lw_m7 55 rfl) rfl
theorem q1602 : (Jvm.Cond.code ({ cls := "AcornYearsModel", name := "has", desc := "(II)Z" } : Jvm.MethodName) prog_12_method_3_code (2 : Nat) (Option.some Jvm.ClassFile.FieldType.boolean)) ∈ lw_all := lw_g (lw_at lw_m7 56 rfl) rfl
theorem q1603 : (Jvm.Cond.methodLink "AcornYearsModel" (254 : Nat) ({ cls := "AcornYearsModel", name := "sets", desc := "(III)I" } : Jvm.MethodName)) ∈ lw_all := lw_g (lw_at lw_m7 57 rfl) rfl
theorem q1604 : (Jvm.Cond.privateMethod ({ cls := "AcornYearsModel", name := "sets", desc := "(III)I" } : Jvm.MethodName)) ∈ lw_tbl := lw_at lw_m7 58 rfl
theorem q1605 : (Jvm.Cond.instanceMethod ({ cls := "AcornYearsModel", name := "sets", desc := "(III)I" } : Jvm.MethodName)) ∈ lw_all := lw_g (lw_at lw_m7 59 rfl) rfl
theorem q1606 : (Jvm.Cond.code ({ cls := "AcornYearsModel", name := "sets", desc := "(III)I" } : Jvm.MethodName) prog_12_method_61_code (6 : Nat) (Option.some Jvm.ClassFile.FieldType.int)) ∈ lw_all := lw_g (lw_at lw_m7 60 rfl) rfl
theorem q1607 : (Jvm.Cond.methodLink "AcornYearsModel" (262 : Nat) ({ cls := "AcornYearsModel", name := "halfMany", desc := "(IIZ)I" } : Jvm.MethodName)) ∈ lw_all := lw_g (lw_at lw_m7 61 rfl) rfl
theorem q1608 : (Jvm.Cond.privateMethod ({ cls := "AcornYearsModel", name := "halfMany", desc := "(IIZ)I" } : Jvm.MethodName)) ∈ lw_tbl := lw_at lw_m7 62 rfl
theorem q1609 : (Jvm.Cond.instanceMethod ({ cls := "AcornYearsModel", name := "halfMany", desc := "(IIZ)I" } : Jvm.MethodName)) ∈ lw_all := lw_g (lw_at lw_m7 63 rfl) rfl
theorem q1610 : (Jvm.Cond.code ({ cls := "AcornYearsModel", name := "halfMany", desc := "(IIZ)I" } : Jvm.MethodName) prog_12_method_59_code (6 : Nat) (Option.some Jvm.ClassFile.FieldType.int)) ∈ lw_all := lw_g (lw_at lw_m7 64 rfl) rfl
theorem q1611 : (Jvm.Cond.methodLink "AcornYearsModel" (258 : Nat) ({ cls := "AcornYearsModel", name := "eaten", desc := "(I)V" } : Jvm.MethodName)) ∈ lw_all := lw_g (lw_at lw_m7 65 rfl) rfl
theorem q1612 : (Jvm.Cond.privateMethod ({ cls := "AcornYearsModel", name := "eaten", desc := "(I)V" } : Jvm.MethodName)) ∈ lw_tbl := lw_at lw_m7 66 rfl
theorem q1613 : (Jvm.Cond.instanceMethod ({ cls := "AcornYearsModel", name := "eaten", desc := "(I)V" } : Jvm.MethodName)) ∈ lw_all := lw_g (lw_at lw_m7 67 rfl) rfl
theorem q1614 : (Jvm.Cond.code ({ cls := "AcornYearsModel", name := "eaten", desc := "(I)V" } : Jvm.MethodName) prog_12_method_62_code (9 : Nat) (Option.none : Option Jvm.ClassFile.FieldType)) ∈ lw_all := lw_g (lw_at lw_m7 68 rfl) rfl
theorem q1616 : (Jvm.Cond.instanceMethod ({ cls := "AcornYearsModel", name := "run", desc := "(I)I" } : Jvm.MethodName)) ∈ lw_all := lw_g (lw_at lw_m7 70 rfl) rfl
theorem q1617 : (Jvm.Cond.selects "AcornYearsModel" ({ cls := "AcornYearsModel", name := "run", desc := "(I)I" } : Jvm.MethodName) ({ cls := "AcornYearsModel", name := "run", desc := "(I)I" } : Jvm.MethodName)) ∈ lw_all := lw_g (lw_at lw_m7 71 rfl) rfl
theorem q1618 : (Jvm.Cond.code ({ cls := "AcornYearsModel", name := "run", desc := "(I)I" } : Jvm.MethodName) prog_12_method_66_code (5 : Nat) (Option.some Jvm.ClassFile.FieldType.int)) ∈ lw_all := lw_g (lw_at lw_m7 72 rfl) rfl
theorem q1619 : (Jvm.Cond.methodLink "AcornYearsModel" (273 : Nat) ({ cls := "AcornYearsModel", name := "mayNow", desc := "()I" } : Jvm.MethodName)) ∈ lw_all := lw_g (lw_at lw_m7 73 rfl) rfl
theorem q1620 : (Jvm.Cond.privateMethod ({ cls := "AcornYearsModel", name := "mayNow", desc := "()I" } : Jvm.MethodName)) ∈ lw_tbl := lw_at lw_m7 74 rfl
theorem q1621 : (Jvm.Cond.instanceMethod ({ cls := "AcornYearsModel", name := "mayNow", desc := "()I" } : Jvm.MethodName)) ∈ lw_all := lw_g (lw_at lw_m7 75 rfl) rfl
theorem q1622 : (Jvm.Cond.code ({ cls := "AcornYearsModel", name := "mayNow", desc := "()I" } : Jvm.MethodName) prog_12_method_64_code (1 : Nat) (Option.some Jvm.ClassFile.FieldType.int)) ∈ lw_all := lw_g (lw_at lw_m7 76 rfl) rfl
theorem q1624 : (Jvm.Cond.instanceMethod ({ cls := "AcornYearsModel", name := "image", desc := "(I)I" } : Jvm.MethodName)) ∈ lw_all := lw_g (lw_at lw_m7 78 rfl) rfl
theorem q1625 : (Jvm.Cond.selects "AcornYearsModel" ({ cls := "AcornYearsModel", name := "image", desc := "(I)I" } : Jvm.MethodName) ({ cls := "AcornYearsModel", name := "image", desc := "(I)I" } : Jvm.MethodName)) ∈ lw_all := lw_g (lw_at lw_m7 79 rfl) rfl
theorem q1626 : (Jvm.Cond.code ({ cls := "AcornYearsModel", name := "image", desc := "(I)I" } : Jvm.MethodName) prog_12_method_67_code (4 : Nat) (Option.some Jvm.ClassFile.FieldType.int)) ∈ lw_all := lw_g (lw_at lw_m7 80 rfl) rfl
theorem q1628 : (Jvm.Cond.instanceMethod ({ cls := "AcornYearsModel", name := "on", desc := "(I)I" } : Jvm.MethodName)) ∈ lw_all := lw_g (lw_at lw_m7 82 rfl) rfl
theorem q1629 : (Jvm.Cond.selects "AcornYearsModel" ({ cls := "AcornYearsModel", name := "on", desc := "(I)I" } : Jvm.MethodName) ({ cls := "AcornYearsModel", name := "on", desc := "(I)I" } : Jvm.MethodName)) ∈ lw_all := lw_g (lw_at lw_m7 83 rfl) rfl
theorem q1630 : (Jvm.Cond.code ({ cls := "AcornYearsModel", name := "on", desc := "(I)I" } : Jvm.MethodName) prog_12_method_69_code (3 : Nat) (Option.some Jvm.ClassFile.FieldType.int)) ∈ lw_all := lw_g (lw_at lw_m7 84 rfl) rfl
theorem q1631 : (Jvm.Cond.methodLink "AcornYearsModel" (277 : Nat) ({ cls := "AcornYearsModel", name := "isImage", desc := "(I)Z" } : Jvm.MethodName)) ∈ lw_all := lw_g (lw_at lw_m7 85 rfl) rfl
theorem q1632 : (Jvm.Cond.privateMethod ({ cls := "AcornYearsModel", name := "isImage", desc := "(I)Z" } : Jvm.MethodName)) ∈ lw_tbl := lw_at lw_m7 86 rfl
theorem q1633 : (Jvm.Cond.instanceMethod ({ cls := "AcornYearsModel", name := "isImage", desc := "(I)Z" } : Jvm.MethodName)) ∈ lw_all := lw_g (lw_at lw_m7 87 rfl) rfl
theorem q1634 : (Jvm.Cond.code ({ cls := "AcornYearsModel", name := "isImage", desc := "(I)Z" } : Jvm.MethodName) prog_12_method_68_code (7 : Nat) (Option.some Jvm.ClassFile.FieldType.boolean)) ∈ lw_all := lw_g (lw_at lw_m7 88 rfl) rfl
theorem q1636 : (Jvm.Cond.instanceMethod ({ cls := "AcornYearsModel", name := "ring", desc := "()I" } : Jvm.MethodName)) ∈ lw_all := lw_g (lw_at lw_m7 90 rfl) rfl
theorem q1637 : (Jvm.Cond.selects "AcornYearsModel" ({ cls := "AcornYearsModel", name := "ring", desc := "()I" } : Jvm.MethodName) ({ cls := "AcornYearsModel", name := "ring", desc := "()I" } : Jvm.MethodName)) ∈ lw_all := lw_g (lw_at lw_m7 91 rfl) rfl
theorem q1638 : (Jvm.Cond.code ({ cls := "AcornYearsModel", name := "ring", desc := "()I" } : Jvm.MethodName) prog_12_method_77_code (1 : Nat) (Option.some Jvm.ClassFile.FieldType.int)) ∈ lw_all := lw_g (lw_at lw_m7 92 rfl) rfl
theorem q1639 : (Jvm.Cond.methodLink "AcornYearsModel" (305 : Nat) ({ cls := "AcornYearsModel", name := "layRing", desc := "()Z" } : Jvm.MethodName)) ∈ lw_all := lw_g (lw_at lw_m7 93 rfl) rfl
theorem q1640 : (Jvm.Cond.privateMethod ({ cls := "AcornYearsModel", name := "layRing", desc := "()Z" } : Jvm.MethodName)) ∈ lw_tbl := lw_at lw_m7 94 rfl
theorem q1641 : (Jvm.Cond.instanceMethod ({ cls := "AcornYearsModel", name := "layRing", desc := "()Z" } : Jvm.MethodName)) ∈ lw_all := lw_g (lw_at lw_m7 95 rfl) rfl
theorem q1642 : (Jvm.Cond.code ({ cls := "AcornYearsModel", name := "layRing", desc := "()Z" } : Jvm.MethodName) prog_12_method_76_code (4 : Nat) (Option.some Jvm.ClassFile.FieldType.boolean)) ∈ lw_all := lw_g (lw_at lw_m7 96 rfl) rfl
theorem q1643 : (Jvm.Cond.methodLink "AcornYearsModel" (286 : Nat) ({ cls := "AcornYearsModel", name := "keep", desc := "()V" } : Jvm.MethodName)) ∈ lw_all := lw_g (lw_at lw_m7 97 rfl) rfl
theorem q1644 : (Jvm.Cond.privateMethod ({ cls := "AcornYearsModel", name := "keep", desc := "()V" } : Jvm.MethodName)) ∈ lw_tbl := lw_at lw_m7 98 rfl
theorem q1645 : (Jvm.Cond.instanceMethod ({ cls := "AcornYearsModel", name := "keep", desc := "()V" } : Jvm.MethodName)) ∈ lw_all := lw_g (lw_at lw_m7 99 rfl) rfl
theorem q1646 : (Jvm.Cond.code ({ cls := "AcornYearsModel", name := "keep", desc := "()V" } : Jvm.MethodName) prog_12_method_70_code (3 : Nat) (Option.none : Option Jvm.ClassFile.FieldType)) ∈ lw_all := lw_g (lw_at lw_m7 100 rfl) rfl
theorem q1647 : (Jvm.Cond.methodLink "AcornYearsModel" (283 : Nat) ({ cls := "AcornYearsModel", name := "stand", desc := "(I)V" } : Jvm.MethodName)) ∈ lw_all := lw_g (lw_at lw_m7 101 rfl) rfl
theorem q1648 : (Jvm.Cond.privateMethod ({ cls := "AcornYearsModel", name := "stand", desc := "(I)V" } : Jvm.MethodName)) ∈ lw_tbl := lw_at lw_m7 102 rfl
theorem q1649 : (Jvm.Cond.instanceMethod ({ cls := "AcornYearsModel", name := "stand", desc := "(I)V" } : Jvm.MethodName)) ∈ lw_all := lw_g (lw_at lw_m7 103 rfl) rfl
theorem q1650 : (Jvm.Cond.code ({ cls := "AcornYearsModel", name := "stand", desc := "(I)V" } : Jvm.MethodName) prog_12_method_72_code (4 : Nat) (Option.none : Option Jvm.ClassFile.FieldType)) ∈ lw_all := lw_g (lw_at lw_m7 104 rfl) rfl
theorem q1651 : (Jvm.Cond.methodLink "AcornYearsModel" (289 : Nat) ({ cls := "AcornYearsModel", name := "walk", desc := "(II)V" } : Jvm.MethodName)) ∈ lw_all := lw_g (lw_at lw_m7 105 rfl) rfl
theorem q1652 : (Jvm.Cond.privateMethod ({ cls := "AcornYearsModel", name := "walk", desc := "(II)V" } : Jvm.MethodName)) ∈ lw_tbl := lw_at lw_m7 106 rfl
theorem q1653 : (Jvm.Cond.instanceMethod ({ cls := "AcornYearsModel", name := "walk", desc := "(II)V" } : Jvm.MethodName)) ∈ lw_all := lw_g (lw_at lw_m7 107 rfl) rfl
theorem q1654 : (Jvm.Cond.code ({ cls := "AcornYearsModel", name := "walk", desc := "(II)V" } : Jvm.MethodName) prog_12_method_74_code (4 : Nat) (Option.none : Option Jvm.ClassFile.FieldType)) ∈ lw_all := lw_g (lw_at lw_m7 108 rfl) rfl
theorem q1655 : (Jvm.Cond.methodLink "AcornYearsModel" (280 : Nat) ({ cls := "AcornYearsModel", name := "goTo", desc := "(I)V" } : Jvm.MethodName)) ∈ lw_all := lw_g (lw_at lw_m7 109 rfl) rfl
theorem q1656 : (Jvm.Cond.privateMethod ({ cls := "AcornYearsModel", name := "goTo", desc := "(I)V" } : Jvm.MethodName)) ∈ lw_tbl := lw_at lw_m7 110 rfl
theorem q1657 : (Jvm.Cond.instanceMethod ({ cls := "AcornYearsModel", name := "goTo", desc := "(I)V" } : Jvm.MethodName)) ∈ lw_all := lw_g (lw_at lw_m7 111 rfl) rfl
theorem q1658 : (Jvm.Cond.code ({ cls := "AcornYearsModel", name := "goTo", desc := "(I)V" } : Jvm.MethodName) prog_12_method_73_code (4 : Nat) (Option.none : Option Jvm.ClassFile.FieldType)) ∈ lw_all := lw_g (lw_at lw_m7 112 rfl) rfl
theorem q1659 : (Jvm.Cond.methodLink "AcornYearsModel" (293 : Nat) ({ cls := "AcornYearsModel", name := "areAlike", desc := "(II)Z" } : Jvm.MethodName)) ∈ lw_all := lw_g (lw_at lw_m7 113 rfl) rfl
theorem q1660 : (Jvm.Cond.privateMethod ({ cls := "AcornYearsModel", name := "areAlike", desc := "(II)Z" } : Jvm.MethodName)) ∈ lw_tbl := lw_at lw_m7 114 rfl
theorem q1661 : (Jvm.Cond.instanceMethod ({ cls := "AcornYearsModel", name := "areAlike", desc := "(II)Z" } : Jvm.MethodName)) ∈ lw_all := lw_g (lw_at lw_m7 115 rfl) rfl
theorem q1662 : (Jvm.Cond.code ({ cls := "AcornYearsModel", name := "areAlike", desc := "(II)Z" } : Jvm.MethodName) prog_12_method_75_code (8 : Nat) (Option.some Jvm.ClassFile.FieldType.boolean)) ∈ lw_all := lw_g (lw_at lw_m7 116 rfl) rfl
theorem q1663 : (Jvm.Cond.methodLink "AcornYearsModel" (296 : Nat) ({ cls := "AcornYearsModel", name := "back", desc := "()V" } : Jvm.MethodName)) ∈ lw_all := lw_g (lw_at lw_m7 117 rfl) rfl
theorem q1664 : (Jvm.Cond.privateMethod ({ cls := "AcornYearsModel", name := "back", desc := "()V" } : Jvm.MethodName)) ∈ lw_tbl := lw_at lw_m7 118 rfl
theorem q1665 : (Jvm.Cond.instanceMethod ({ cls := "AcornYearsModel", name := "back", desc := "()V" } : Jvm.MethodName)) ∈ lw_all := lw_g (lw_at lw_m7 119 rfl) rfl
theorem q1666 : (Jvm.Cond.code ({ cls := "AcornYearsModel", name := "back", desc := "()V" } : Jvm.MethodName) prog_12_method_71_code (2 : Nat) (Option.none : Option Jvm.ClassFile.FieldType)) ∈ lw_all := lw_g (lw_at lw_m7 120 rfl) rfl
theorem q1668 : (Jvm.Cond.instanceMethod ({ cls := "AcornYearsModel", name := "masts", desc := "()I" } : Jvm.MethodName)) ∈ lw_all := lw_g (lw_at lw_m7 122 rfl) rfl
theorem q1669 : (Jvm.Cond.selects "AcornYearsModel" ({ cls := "AcornYearsModel", name := "masts", desc := "()I" } : Jvm.MethodName) ({ cls := "AcornYearsModel", name := "masts", desc := "()I" } : Jvm.MethodName)) ∈ lw_all := lw_g (lw_at lw_m7 123 rfl) rfl
theorem q1670 : (Jvm.Cond.code ({ cls := "AcornYearsModel", name := "masts", desc := "()I" } : Jvm.MethodName) prog_12_method_79_code (4 : Nat) (Option.some Jvm.ClassFile.FieldType.int)) ∈ lw_all := lw_g (lw_at lw_m7 124 rfl) rfl
theorem q1671 : (Jvm.Cond.methodLink "AcornYearsModel" (339 : Nat) ({ cls := "AcornYearsModel", name := "laySums", desc := "(II)Z" } : Jvm.MethodName)) ∈ lw_all := lw_g (lw_at lw_m7 125 rfl) rfl
theorem q1672 : (Jvm.Cond.privateMethod ({ cls := "AcornYearsModel", name := "laySums", desc := "(II)Z" } : Jvm.MethodName)) ∈ lw_tbl := lw_at lw_m7 126 rfl
theorem q1673 : (Jvm.Cond.instanceMethod ({ cls := "AcornYearsModel", name := "laySums", desc := "(II)Z" } : Jvm.MethodName)) ∈ lw_all := lw_g (lw_at lw_m7 127 rfl) rfl
theorem q1674 : (Jvm.Cond.code ({ cls := "AcornYearsModel", name := "laySums", desc := "(II)Z" } : Jvm.MethodName) prog_12_method_78_code (4 : Nat) (Option.some Jvm.ClassFile.FieldType.boolean)) ∈ lw_all := lw_g (lw_at lw_m7 128 rfl) rfl
theorem q1675 : (Jvm.Cond.methodLink "AcornYearsModel" (336 : Nat) ({ cls := "AcornYearsModel", name := "gainOf", desc := "(I)I" } : Jvm.MethodName)) ∈ lw_all := lw_g (lw_at lw_m7 129 rfl) rfl
theorem q1676 : (Jvm.Cond.privateMethod ({ cls := "AcornYearsModel", name := "gainOf", desc := "(I)I" } : Jvm.MethodName)) ∈ lw_tbl := lw_at lw_m7 130 rfl
theorem q1677 : (Jvm.Cond.instanceMethod ({ cls := "AcornYearsModel", name := "gainOf", desc := "(I)I" } : Jvm.MethodName)) ∈ lw_all := lw_g (lw_at lw_m7 131 rfl) rfl
theorem q1678 : (Jvm.Cond.code ({ cls := "AcornYearsModel", name := "gainOf", desc := "(I)I" } : Jvm.MethodName) prog_12_method_63_code (2 : Nat) (Option.some Jvm.ClassFile.FieldType.int)) ∈ lw_all := lw_g (lw_at lw_m7 132 rfl) rfl
theorem q1680 : (Jvm.Cond.instanceMethod ({ cls := "AcornYearsModel", name := "together", desc := "()I" } : Jvm.MethodName)) ∈ lw_all := lw_g (lw_at lw_m7 134 rfl) rfl
theorem q1681 : (Jvm.Cond.selects "AcornYearsModel" ({ cls := "AcornYearsModel", name := "together", desc := "()I" } : Jvm.MethodName) ({ cls := "AcornYearsModel", name := "together", desc := "()I" } : Jvm.MethodName)) ∈ lw_all := lw_g (lw_at lw_m7 135 rfl) rfl
theorem q1682 : (Jvm.Cond.code ({ cls := "AcornYearsModel", name := "together", desc := "()I" } : Jvm.MethodName) prog_12_method_80_code (1 : Nat) (Option.some Jvm.ClassFile.FieldType.int)) ∈ lw_all := lw_g (lw_at lw_m7 136 rfl) rfl
theorem q1683 : (Jvm.Cond.methodLink "AcornYearsModel" (342 : Nat) ({ cls := "AcornYearsModel", name := "fraction", desc := "(JJI)I" } : Jvm.MethodName)) ∈ lw_all := lw_g (lw_at lw_m7 137 rfl) rfl
theorem q1684 : (Jvm.Cond.privateMethod ({ cls := "AcornYearsModel", name := "fraction", desc := "(JJI)I" } : Jvm.MethodName)) ∈ lw_tbl := lw_at lw_m7 138 rfl
theorem q1685 : (Jvm.Cond.instanceMethod ({ cls := "AcornYearsModel", name := "fraction", desc := "(JJI)I" } : Jvm.MethodName)) ∈ lw_all := lw_g (lw_at lw_m7 139 rfl) rfl
theorem q1686 : (Jvm.Cond.code ({ cls := "AcornYearsModel", name := "fraction", desc := "(JJI)I" } : Jvm.MethodName) prog_12_method_10_code (12 : Nat) (Option.some Jvm.ClassFile.FieldType.int)) ∈ lw_all := lw_g (lw_at lw_m7 140 rfl) rfl
theorem q1688 : (Jvm.Cond.instanceMethod ({ cls := "AcornYearsModel", name := "need", desc := "()I" } : Jvm.MethodName)) ∈ lw_all := lw_g (lw_at lw_m7 142 rfl) rfl
theorem q1689 : (Jvm.Cond.selects "AcornYearsModel" ({ cls := "AcornYearsModel", name := "need", desc := "()I" } : Jvm.MethodName) ({ cls := "AcornYearsModel", name := "need", desc := "()I" } : Jvm.MethodName)) ∈ lw_all := lw_g (lw_at lw_m7 143 rfl) rfl
theorem q1690 : (Jvm.Cond.code ({ cls := "AcornYearsModel", name := "need", desc := "()I" } : Jvm.MethodName) prog_12_method_81_code (5 : Nat) (Option.some Jvm.ClassFile.FieldType.int)) ∈ lw_all := lw_g (lw_at lw_m7 144 rfl) rfl
theorem q1692 : (Jvm.Cond.instanceMethod ({ cls := "AcornYearsModel", name := "lost", desc := "()I" } : Jvm.MethodName)) ∈ lw_all := lw_g (lw_at lw_m7 146 rfl) rfl
theorem q1693 : (Jvm.Cond.selects "AcornYearsModel" ({ cls := "AcornYearsModel", name := "lost", desc := "()I" } : Jvm.MethodName) ({ cls := "AcornYearsModel", name := "lost", desc := "()I" } : Jvm.MethodName)) ∈ lw_all := lw_g (lw_at lw_m7 147 rfl) rfl
theorem q1694 : (Jvm.Cond.code ({ cls := "AcornYearsModel", name := "lost", desc := "()I" } : Jvm.MethodName) prog_12_method_83_code (9 : Nat) (Option.some Jvm.ClassFile.FieldType.int)) ∈ lw_all := lw_g (lw_at lw_m7 148 rfl) rfl
theorem q1695 : (Jvm.Cond.methodLink "AcornYearsModel" (346 : Nat) ({ cls := "AcornYearsModel", name := "isLess", desc := "(JJJJ)Z" } : Jvm.MethodName)) ∈ lw_all := lw_g (lw_at lw_m7 149 rfl) rfl
theorem q1696 : (Jvm.Cond.static ({ cls := "AcornYearsModel", name := "isLess", desc := "(JJJJ)Z" } : Jvm.MethodName)) ∈ lw_all := lw_g (lw_at lw_m7 150 rfl) rfl
theorem q1697 : (Jvm.Cond.code ({ cls := "AcornYearsModel", name := "isLess", desc := "(JJJJ)Z" } : Jvm.MethodName) prog_12_method_82_code (8 : Nat) (Option.some Jvm.ClassFile.FieldType.boolean)) ∈ lw_all := lw_g (lw_at lw_m7 151 rfl) rfl
theorem q1699 : (Jvm.Cond.instanceMethod ({ cls := "AcornYearsModel", name := "share", desc := "(I)I" } : Jvm.MethodName)) ∈ lw_all := lw_g (lw_at lw_m7 153 rfl) rfl
theorem q1700 : (Jvm.Cond.selects "AcornYearsModel" ({ cls := "AcornYearsModel", name := "share", desc := "(I)I" } : Jvm.MethodName) ({ cls := "AcornYearsModel", name := "share", desc := "(I)I" } : Jvm.MethodName)) ∈ lw_all := lw_g (lw_at lw_m7 154 rfl) rfl
theorem q1701 : (Jvm.Cond.code ({ cls := "AcornYearsModel", name := "share", desc := "(I)I" } : Jvm.MethodName) prog_12_method_84_code (2 : Nat) (Option.some Jvm.ClassFile.FieldType.int)) ∈ lw_all := lw_g (lw_at lw_m7 155 rfl) rfl
theorem q1703 : (Jvm.Cond.instanceMethod ({ cls := "AcornYearsModel", name := "seedlings", desc := "()I" } : Jvm.MethodName)) ∈ lw_all := lw_g (lw_at lw_m7 157 rfl) rfl
theorem q1704 : (Jvm.Cond.selects "AcornYearsModel" ({ cls := "AcornYearsModel", name := "seedlings", desc := "()I" } : Jvm.MethodName) ({ cls := "AcornYearsModel", name := "seedlings", desc := "()I" } : Jvm.MethodName)) ∈ lw_all := lw_g (lw_at lw_m7 158 rfl) rfl
theorem q1705 : (Jvm.Cond.code ({ cls := "AcornYearsModel", name := "seedlings", desc := "()I" } : Jvm.MethodName) prog_12_method_85_code (1 : Nat) (Option.some Jvm.ClassFile.FieldType.int)) ∈ lw_all := lw_g (lw_at lw_m7 159 rfl) rfl
theorem q1707 : (Jvm.Cond.instanceMethod ({ cls := "AcornYearsModel", name := "gain", desc := "(I)I" } : Jvm.MethodName)) ∈ lw_all := lw_g (lw_at lw_m7 161 rfl) rfl
theorem q1708 : (Jvm.Cond.selects "AcornYearsModel" ({ cls := "AcornYearsModel", name := "gain", desc := "(I)I" } : Jvm.MethodName) ({ cls := "AcornYearsModel", name := "gain", desc := "(I)I" } : Jvm.MethodName)) ∈ lw_all := lw_g (lw_at lw_m7 162 rfl) rfl
theorem q1709 : (Jvm.Cond.code ({ cls := "AcornYearsModel", name := "gain", desc := "(I)I" } : Jvm.MethodName) prog_12_method_86_code (2 : Nat) (Option.some Jvm.ClassFile.FieldType.int)) ∈ lw_all := lw_g (lw_at lw_m7 163 rfl) rfl
theorem q1711 : (Jvm.Cond.instanceMethod ({ cls := "AcornYearsModel", name := "starve", desc := "(I)I" } : Jvm.MethodName)) ∈ lw_all := lw_g (lw_at lw_m7 165 rfl) rfl
theorem q1712 : (Jvm.Cond.selects "AcornYearsModel" ({ cls := "AcornYearsModel", name := "starve", desc := "(I)I" } : Jvm.MethodName) ({ cls := "AcornYearsModel", name := "starve", desc := "(I)I" } : Jvm.MethodName)) ∈ lw_all := lw_g (lw_at lw_m7 166 rfl) rfl
theorem q1713 : (Jvm.Cond.code ({ cls := "AcornYearsModel", name := "starve", desc := "(I)I" } : Jvm.MethodName) prog_12_method_87_code (2 : Nat) (Option.some Jvm.ClassFile.FieldType.int)) ∈ lw_all := lw_g (lw_at lw_m7 167 rfl) rfl
theorem q1715 : (Jvm.Cond.instanceMethod ({ cls := "AcornYearsModel", name := "better", desc := "(II)I" } : Jvm.MethodName)) ∈ lw_all := lw_g (lw_at lw_m7 169 rfl) rfl
theorem q1716 : (Jvm.Cond.selects "AcornYearsModel" ({ cls := "AcornYearsModel", name := "better", desc := "(II)I" } : Jvm.MethodName) ({ cls := "AcornYearsModel", name := "better", desc := "(II)I" } : Jvm.MethodName)) ∈ lw_all := lw_g (lw_at lw_m7 170 rfl) rfl
theorem q1717 : (Jvm.Cond.code ({ cls := "AcornYearsModel", name := "better", desc := "(II)I" } : Jvm.MethodName) prog_12_method_90_code (4 : Nat) (Option.some Jvm.ClassFile.FieldType.int)) ∈ lw_all := lw_g (lw_at lw_m7 171 rfl) rfl
theorem q1718 : (Jvm.Cond.methodLink "AcornYearsModel" (359 : Nat) ({ cls := "AcornYearsModel", name := "howBy", desc := "(II)I" } : Jvm.MethodName)) ∈ lw_all := lw_g (lw_at lw_m7 172 rfl) rfl
theorem q1719 : (Jvm.Cond.privateMethod ({ cls := "AcornYearsModel", name := "howBy", desc := "(II)I" } : Jvm.MethodName)) ∈ lw_tbl := lw_at lw_m7 173 rfl
theorem q1720 : (Jvm.Cond.instanceMethod ({ cls := "AcornYearsModel", name := "howBy", desc := "(II)I" } : Jvm.MethodName)) ∈ lw_all := lw_g (lw_at lw_m7 174 rfl) rfl
theorem q1721 : (Jvm.Cond.code ({ cls := "AcornYearsModel", name := "howBy", desc := "(II)I" } : Jvm.MethodName) prog_12_method_89_code (6 : Nat) (Option.some Jvm.ClassFile.FieldType.int)) ∈ lw_all := lw_g (lw_at lw_m7 175 rfl) rfl
theorem q1722 : (Jvm.Cond.methodLink "AcornYearsModel" (356 : Nat) ({ cls := "AcornYearsModel", name := "laySort", desc := "(II)Z" } : Jvm.MethodName)) ∈ lw_all := lw_g (lw_at lw_m7 176 rfl) rfl
theorem q1723 : (Jvm.Cond.privateMethod ({ cls := "AcornYearsModel", name := "laySort", desc := "(II)Z" } : Jvm.MethodName)) ∈ lw_tbl := lw_at lw_m7 177 rfl
theorem q1724 : (Jvm.Cond.instanceMethod ({ cls := "AcornYearsModel", name := "laySort", desc := "(II)Z" } : Jvm.MethodName)) ∈ lw_all := lw_g (lw_at lw_m7 178 rfl) rfl
theorem q1725 : (Jvm.Cond.code ({ cls := "AcornYearsModel", name := "laySort", desc := "(II)Z" } : Jvm.MethodName) prog_12_method_88_code (5 : Nat) (Option.some Jvm.ClassFile.FieldType.boolean)) ∈ lw_all := lw_g (lw_at lw_m7 179 rfl) rfl
theorem q1727 : (Jvm.Cond.instanceMethod ({ cls := "AcornYearsModel", name := "hold", desc := "()I" } : Jvm.MethodName)) ∈ lw_all := lw_g (lw_at lw_m7 181 rfl) rfl
theorem q1728 : (Jvm.Cond.selects "AcornYearsModel" ({ cls := "AcornYearsModel", name := "hold", desc := "()I" } : Jvm.MethodName) ({ cls := "AcornYearsModel", name := "hold", desc := "()I" } : Jvm.MethodName)) ∈ lw_all := lw_g (lw_at lw_m7 182 rfl) rfl
theorem q1729 : (Jvm.Cond.code ({ cls := "AcornYearsModel", name := "hold", desc := "()I" } : Jvm.MethodName) prog_12_method_91_code (3 : Nat) (Option.some Jvm.ClassFile.FieldType.int)) ∈ lw_all := lw_g (lw_at lw_m7 183 rfl) rfl
theorem q1731 : (Jvm.Cond.instanceMethod ({ cls := "AcornYearsModel", name := "step", desc := "(II)I" } : Jvm.MethodName)) ∈ lw_all := lw_g (lw_at lw_m7 185 rfl) rfl
theorem q1732 : (Jvm.Cond.selects "AcornYearsModel" ({ cls := "AcornYearsModel", name := "step", desc := "(II)I" } : Jvm.MethodName) ({ cls := "AcornYearsModel", name := "step", desc := "(II)I" } : Jvm.MethodName)) ∈ lw_all := lw_g (lw_at lw_m7 186 rfl) rfl
theorem q1733 : (Jvm.Cond.code ({ cls := "AcornYearsModel", name := "step", desc := "(II)I" } : Jvm.MethodName) prog_12_method_92_code (7 : Nat) (Option.some Jvm.ClassFile.FieldType.int)) ∈ lw_all := lw_g (lw_at lw_m7 187 rfl) rfl
theorem q1735 : (Jvm.Cond.instanceMethod ({ cls := "AcornYearsModel", name := "hope", desc := "(I)I" } : Jvm.MethodName)) ∈ lw_all := lw_g (lw_at lw_m7 189 rfl) rfl
theorem q1736 : (Jvm.Cond.selects "AcornYearsModel" ({ cls := "AcornYearsModel", name := "hope", desc := "(I)I" } : Jvm.MethodName) ({ cls := "AcornYearsModel", name := "hope", desc := "(I)I" } : Jvm.MethodName)) ∈ lw_all := lw_g (lw_at lw_m7 190 rfl) rfl
theorem q1737 : (Jvm.Cond.code ({ cls := "AcornYearsModel", name := "hope", desc := "(I)I" } : Jvm.MethodName) prog_12_method_94_code (13 : Nat) (Option.some Jvm.ClassFile.FieldType.int)) ∈ lw_all := lw_g (lw_at lw_m7 191 rfl) rfl
theorem q1738 : (Jvm.Cond.constantLong "AcornYearsModel" (362 : Nat) (3 : Int64)) ∈ lw_all := lw_g (lw_at lw_m7 192 rfl) rfl
theorem q1739 : (Jvm.Cond.methodLink "AcornYearsModel" (364 : Nat) ({ cls := "AcornYearsModel", name := "powerOf", desc := "(JI)J" } : Jvm.MethodName)) ∈ lw_all := lw_g (lw_at lw_m7 193 rfl) rfl
theorem q1740 : (Jvm.Cond.static ({ cls := "AcornYearsModel", name := "powerOf", desc := "(JI)J" } : Jvm.MethodName)) ∈ lw_all := lw_g (lw_at lw_m7 194 rfl) rfl
theorem q1741 : (Jvm.Cond.code ({ cls := "AcornYearsModel", name := "powerOf", desc := "(JI)J" } : Jvm.MethodName) prog_12_method_93_code (6 : Nat) (Option.some Jvm.ClassFile.FieldType.long)) ∈ lw_all := lw_g (lw_at lw_m7 195 rfl) rfl
theorem q1742 : (Jvm.Cond.constantLong "AcornYearsModel" (368 : Nat) (12 : Int64)) ∈ lw_all := lw_g (lw_at lw_m7 196 rfl) rfl
theorem q1744 : (Jvm.Cond.instanceMethod ({ cls := "AcornYearsModel", name := "period", desc := "(I)I" } : Jvm.MethodName)) ∈ lw_all := lw_g (lw_at lw_m7 198 rfl) rfl
theorem q1745 : (Jvm.Cond.selects "AcornYearsModel" ({ cls := "AcornYearsModel", name := "period", desc := "(I)I" } : Jvm.MethodName) ({ cls := "AcornYearsModel", name := "period", desc := "(I)I" } : Jvm.MethodName)) ∈ lw_all := lw_g (lw_at lw_m7 199 rfl) rfl
theorem q1746 : (Jvm.Cond.code ({ cls := "AcornYearsModel", name := "period", desc := "(I)I" } : Jvm.MethodName) prog_12_method_96_code (6 : Nat) (Option.some Jvm.ClassFile.FieldType.int)) ∈ lw_all := lw_g (lw_at lw_m7 200 rfl) rfl
theorem q1747 : (Jvm.Cond.methodLink "AcornYearsModel" (370 : Nat) ({ cls := "AcornYearsModel", name := "needLayers", desc := "(II)I" } : Jvm.MethodName)) ∈ lw_all := lw_g (lw_at lw_m7 201 rfl) rfl
theorem q1748 : (Jvm.Cond.privateMethod ({ cls := "AcornYearsModel", name := "needLayers", desc := "(II)I" } : Jvm.MethodName)) ∈ lw_tbl := lw_at lw_m7 202 rfl
theorem q1749 : (Jvm.Cond.instanceMethod ({ cls := "AcornYearsModel", name := "needLayers", desc := "(II)I" } : Jvm.MethodName)) ∈ lw_all := lw_g (lw_at lw_m7 203 rfl) rfl
theorem q1750 : (Jvm.Cond.code ({ cls := "AcornYearsModel", name := "needLayers", desc := "(II)I" } : Jvm.MethodName) prog_12_method_95_code (5 : Nat) (Option.some Jvm.ClassFile.FieldType.int)) ∈ lw_all := lw_g (lw_at lw_m7 204 rfl) rfl
theorem q1752 : (Jvm.Cond.instanceMethod ({ cls := "AcornYearsModel", name := "guess", desc := "(I)I" } : Jvm.MethodName)) ∈ lw_all := lw_g (lw_at lw_m7 206 rfl) rfl
theorem q1753 : (Jvm.Cond.selects "AcornYearsModel" ({ cls := "AcornYearsModel", name := "guess", desc := "(I)I" } : Jvm.MethodName) ({ cls := "AcornYearsModel", name := "guess", desc := "(I)I" } : Jvm.MethodName)) ∈ lw_all := lw_g (lw_at lw_m7 207 rfl) rfl
theorem q1754 : (Jvm.Cond.code ({ cls := "AcornYearsModel", name := "guess", desc := "(I)I" } : Jvm.MethodName) prog_12_method_98_code (8 : Nat) (Option.some Jvm.ClassFile.FieldType.int)) ∈ lw_all := lw_g (lw_at lw_m7 208 rfl) rfl
theorem q1755 : (Jvm.Cond.methodLink "AcornYearsModel" (373 : Nat) ({ cls := "AcornYearsModel", name := "fits", desc := "(IIII)Z" } : Jvm.MethodName)) ∈ lw_all := lw_g (lw_at lw_m7 209 rfl) rfl
theorem q1756 : (Jvm.Cond.privateMethod ({ cls := "AcornYearsModel", name := "fits", desc := "(IIII)Z" } : Jvm.MethodName)) ∈ lw_tbl := lw_at lw_m7 210 rfl
theorem q1757 : (Jvm.Cond.instanceMethod ({ cls := "AcornYearsModel", name := "fits", desc := "(IIII)Z" } : Jvm.MethodName)) ∈ lw_all := lw_g (lw_at lw_m7 211 rfl) rfl
theorem q1758 : (Jvm.Cond.code ({ cls := "AcornYearsModel", name := "fits", desc := "(IIII)Z" } : Jvm.MethodName) prog_12_method_97_code (8 : Nat) (Option.some Jvm.ClassFile.FieldType.boolean)) ∈ lw_all := lw_g (lw_at lw_m7 212 rfl) rfl
theorem q1760 : (Jvm.Cond.instanceMethod ({ cls := "AcornYearsModel", name := "plan", desc := "(II)I" } : Jvm.MethodName)) ∈ lw_all := lw_g (lw_at lw_m7 214 rfl) rfl
theorem q1761 : (Jvm.Cond.selects "AcornYearsModel" ({ cls := "AcornYearsModel", name := "plan", desc := "(II)I" } : Jvm.MethodName) ({ cls := "AcornYearsModel", name := "plan", desc := "(II)I" } : Jvm.MethodName)) ∈ lw_all := lw_g (lw_at lw_m7 215 rfl) rfl
theorem q1762 : (Jvm.Cond.code ({ cls := "AcornYearsModel", name := "plan", desc := "(II)I" } : Jvm.MethodName) prog_12_method_99_code (9 : Nat) (Option.some Jvm.ClassFile.FieldType.int)) ∈ lw_all := lw_g (lw_at lw_m7 216 rfl) rfl
theorem q1764 : (Jvm.Cond.instanceMethod ({ cls := "AcornYearsModel", name := "count", desc := "(I)I" } : Jvm.MethodName)) ∈ lw_all := lw_g (lw_at lw_m7 218 rfl) rfl
theorem q1765 : (Jvm.Cond.selects "AcornYearsModel" ({ cls := "AcornYearsModel", name := "count", desc := "(I)I" } : Jvm.MethodName) ({ cls := "AcornYearsModel", name := "count", desc := "(I)I" } : Jvm.MethodName)) ∈ lw_all := lw_g (lw_at lw_m7 219 rfl) rfl
theorem q1766 : (Jvm.Cond.code ({ cls := "AcornYearsModel", name := "count", desc := "(I)I" } : Jvm.MethodName) prog_12_method_101_code (2 : Nat) (Option.some Jvm.ClassFile.FieldType.int)) ∈ lw_all := lw_g (lw_at lw_m7 220 rfl) rfl
theorem q1767 : (Jvm.Cond.methodLink "AcornYearsModel" (376 : Nat) ({ cls := "AcornYearsModel", name := "counted", desc := "(I)I" } : Jvm.MethodName)) ∈ lw_all := lw_g (lw_at lw_m7 221 rfl) rfl
theorem q1768 : (Jvm.Cond.privateMethod ({ cls := "AcornYearsModel", name := "counted", desc := "(I)I" } : Jvm.MethodName)) ∈ lw_tbl := lw_at lw_m7 222 rfl
theorem q1769 : (Jvm.Cond.instanceMethod ({ cls := "AcornYearsModel", name := "counted", desc := "(I)I" } : Jvm.MethodName)) ∈ lw_all := lw_g (lw_at lw_m7 223 rfl) rfl
theorem q1770 : (Jvm.Cond.code ({ cls := "AcornYearsModel", name := "counted", desc := "(I)I" } : Jvm.MethodName) prog_12_method_100_code (4 : Nat) (Option.some Jvm.ClassFile.FieldType.int)) ∈ lw_all := lw_g (lw_at lw_m7 224 rfl) rfl
theorem q1772 : (Jvm.Cond.instanceMethod ({ cls := "AcornYearsModel", name := "digest", desc := "()J" } : Jvm.MethodName)) ∈ lw_all := lw_g (lw_at lw_m7 226 rfl) rfl
theorem q1773 : (Jvm.Cond.selects "AcornYearsModel" ({ cls := "AcornYearsModel", name := "digest", desc := "()J" } : Jvm.MethodName) ({ cls := "AcornYearsModel", name := "digest", desc := "()J" } : Jvm.MethodName)) ∈ lw_all := lw_g (lw_at lw_m7 227 rfl) rfl
theorem q1774 : (Jvm.Cond.code ({ cls := "AcornYearsModel", name := "digest", desc := "()J" } : Jvm.MethodName) prog_12_method_104_code (3 : Nat) (Option.some Jvm.ClassFile.FieldType.long)) ∈ lw_all := lw_g (lw_at lw_m7 228 rfl) rfl
theorem q1775 : (Jvm.Cond.constantLong "AcornYearsModel" (388 : Nat) (17 : Int64)) ∈ lw_all := lw_g (lw_at lw_m7 229 rfl) rfl
theorem q1776 : (Jvm.Cond.methodLink "AcornYearsModel" (384 : Nat) ({ cls := "AcornYearsModel", name := "mix", desc := "(J)V" } : Jvm.MethodName)) ∈ lw_all := lw_g (lw_at lw_m7 230 rfl) rfl
theorem q1777 : (Jvm.Cond.privateMethod ({ cls := "AcornYearsModel", name := "mix", desc := "(J)V" } : Jvm.MethodName)) ∈ lw_tbl := lw_at lw_m7 231 rfl
theorem q1778 : (Jvm.Cond.instanceMethod ({ cls := "AcornYearsModel", name := "mix", desc := "(J)V" } : Jvm.MethodName)) ∈ lw_all := lw_g (lw_at lw_m7 232 rfl) rfl
theorem q1779 : (Jvm.Cond.code ({ cls := "AcornYearsModel", name := "mix", desc := "(J)V" } : Jvm.MethodName) prog_12_method_102_code (3 : Nat) (Option.none : Option Jvm.ClassFile.FieldType)) ∈ lw_all := lw_g (lw_at lw_m7 233 rfl) rfl
theorem q1780 : (Jvm.Cond.constantLong "AcornYearsModel" (379 : Nat) (31 : Int64)) ∈ lw_all := lw_g (lw_at lw_m7 234 rfl) rfl
theorem q1781 : (Jvm.Cond.methodLink "AcornYearsModel" (390 : Nat) ({ cls := "AcornYearsModel", name := "mixWood", desc := "()V" } : Jvm.MethodName)) ∈ lw_all := lw_g (lw_at lw_m7 235 rfl) rfl
theorem q1782 : (Jvm.Cond.privateMethod ({ cls := "AcornYearsModel", name := "mixWood", desc := "()V" } : Jvm.MethodName)) ∈ lw_tbl := lw_at lw_m7 236 rfl
theorem q1783 : (Jvm.Cond.instanceMethod ({ cls := "AcornYearsModel", name := "mixWood", desc := "()V" } : Jvm.MethodName)) ∈ lw_all := lw_g (lw_at lw_m7 237 rfl) rfl
theorem q1784 : (Jvm.Cond.code ({ cls := "AcornYearsModel", name := "mixWood", desc := "()V" } : Jvm.MethodName) prog_12_method_103_code (3 : Nat) (Option.none : Option Jvm.ClassFile.FieldType)) ∈ lw_all := lw_g (lw_at lw_m7 238 rfl) rfl
theorem in_X2 : ∀ w ∈ wsX20, w ∈ lw_all := lw_in wsX20 [1254, 1256, 1258, 1260, 1262, 1264, 1266, 1268, 1270, 1272, 1274, 1276, 1278, 1280, 1282, 1284, 1286, 1288, 1290, 1292, 1294, 1296, 1298, 1300, 1302, 1304, 1306, 1308, 1310, 1312, 1314, 1316, 1318, 1320, 1322, 1324, 1326, 1328, 1330, 1332, 1334, 1336, 1338, 1340, 1342, 1344, 1346, 1348, 1350, 1352, 1354, 1356, 1358, 1360, 1362, 1364, 1366, 1368, 1370, 1372, 1374] (by decide +kernel) (by decide +kernel)
