/-! AcornYears -/
set_option maxRecDepth 100000
def RX0 : String := "AcornYears"
def TX0 : u_T := fun k => match k with
  | 0 => ("AcornYears", "finding", "I", false)
  | 1 => ("AcornYears", "findings", "[I", true)
  | 2 => ("AcornYears", "asked", "I", false)
  | 3 => ("AcornYears", "upper", "J", false)
  | 4 => ("AcornYears", "lower", "J", false)
  | 5 => ("AcornYears", "rows", "[[I", true)
  | 6 => ("AcornYears", "texts", "[[B", true)
  | 7 => ("AcornYears", "sorts", "[LAcornYears$Sort;", false)
  | 8 => ("AcornYears", "calendar", "[B", false)
  | 9 => ("AcornYears", "chances", "[I", true)
  | 10 => ("AcornYears", "hides", "I", false)
  | 11 => ("AcornYears", "forgets", "I", false)
  | 12 => ("AcornYears", "eaterMany", "I", false)
  | 13 => ("AcornYears", "firstMice", "[I", true)
  | 14 => ("AcornYears", "eats", "[I", true)
  | 15 => ("AcornYears", "grows", "[I", true)
  | 16 => ("AcornYears", "come", "[I", true)
  | 17 => ("AcornYears", "reading", "[B", false)
  | 18 => ("AcornYears", "readAt", "I", false)
  | 19 => ("AcornYears", "readNumber", "I", false)
  | 20 => ("AcornYears", "readSorts", "[LAcornYears$Sort;", true)
  | 21 => ("AcornYears", "readMany", "I", false)
  | 22 => ("AcornYears", "readCalendar", "[B", false)
  | 23 => ("AcornYears", "readChances", "[I", true)
  | 24 => ("AcornYears", "readHides", "I", false)
  | 25 => ("AcornYears", "readForgets", "I", false)
  | 26 => ("AcornYears", "readEaters", "I", false)
  | 27 => ("AcornYears", "readMice", "[I", true)
  | 28 => ("AcornYears", "readEats", "[I", true)
  | 29 => ("AcornYears", "readGrows", "[I", true)
  | 30 => ("AcornYears", "readCome", "[I", true)
  | 31 => ("AcornYears", "trees", "[LAcornYears$Tree;", true)
  | 32 => ("AcornYears", "treeMany", "I", false)
  | 33 => ("AcornYears", "wood", "LAcornYears$Wood;", true)
  | 34 => ("AcornYears", "trial", "LAcornYears$Wood;", true)
  | 35 => ("AcornYears", "needed", "I", false)
  | 36 => ("AcornYears", "half", "I", false)
  | 37 => ("AcornYears", "halfAll", "[I", true)
  | 38 => ("AcornYears", "halfBlooming", "[I", true)
  | 39 => ("AcornYears", "states", "[S", true)
  | 40 => ("AcornYears", "board", "[S", true)
  | 41 => ("AcornYears", "since", "I", false)
  | 42 => ("AcornYears", "ring", "I", false)
  | 43 => ("AcornYears", "most", "I", false)
  | 44 => ("AcornYears", "masts", "I", false)
  | 45 => ("AcornYears", "pairs", "J", false)
  | 46 => ("AcornYears", "blooms", "J", false)
  | 47 => ("AcornYears", "allAcorns", "J", false)
  | 48 => ("AcornYears", "allSeedlings", "J", false)
  | 49 => ("AcornYears", "acornsOf", "[J", true)
  | 50 => ("AcornYears", "gainsOf", "[J", true)
  | 51 => ("AcornYears", "starving", "[I", true)
  | 52 => ("AcornYears", "acornsBy", "[I", true)
  | _ => ("AcornYears", "h", "J", false)
def tyX0 : Nat → FieldType := fun k => match k with
  | 0 => .int
  | 1 => .array .int
  | 2 => .int
  | 3 => .long
  | 4 => .long
  | 5 => .array (.array .int)
  | 6 => .array (.array .byte)
  | 7 => .array (.object "AcornYears$Sort")
  | 8 => .array .byte
  | 9 => .array .int
  | 10 => .int
  | 11 => .int
  | 12 => .int
  | 13 => .array .int
  | 14 => .array .int
  | 15 => .array .int
  | 16 => .array .int
  | 17 => .array .byte
  | 18 => .int
  | 19 => .int
  | 20 => .array (.object "AcornYears$Sort")
  | 21 => .int
  | 22 => .array .byte
  | 23 => .array .int
  | 24 => .int
  | 25 => .int
  | 26 => .int
  | 27 => .array .int
  | 28 => .array .int
  | 29 => .array .int
  | 30 => .array .int
  | 31 => .array (.object "AcornYears$Tree")
  | 32 => .int
  | 33 => .object "AcornYears$Wood"
  | 34 => .object "AcornYears$Wood"
  | 35 => .int
  | 36 => .int
  | 37 => .array .int
  | 38 => .array .int
  | 39 => .array .short
  | 40 => .array .short
  | 41 => .int
  | 42 => .int
  | 43 => .int
  | 44 => .int
  | 45 => .long
  | 46 => .long
  | 47 => .long
  | 48 => .long
  | 49 => .array .long
  | 50 => .array .long
  | 51 => .array .int
  | 52 => .array .int
  | _ => .long
abbrev wsX00 : List Cond := u_ws RX0 TX0 54
set_option maxRecDepth 100000 in
theorem nmX0 : ∀ a, a < 54 → ∀ b, b < 54 → a ≠ b → (TX0 a).2.1 ≠ (TX0 b).2.1 := by decide +kernel
set_option maxRecDepth 100000 in
theorem tyX0_ok : ∀ k, k < 54 → parseFieldDescriptor (TX0 k).2.2.1 = some (tyX0 k) := by decide +kernel
abbrev cX0_init : ByteArray := prog_1_method_6_code
def yX0_init : MethodName := ⟨RX0, "<init>", "()V"⟩
def dkwX0_init_10 : List UInt8 := [181, 0, 126, 3, 60, 27, 6, 162, 0, 16, 42, 180, 0, 44, 27, 7, 79, 132, 1, 1, 167, 255, 241, 177]
abbrev dktX0_init_10 : List UInt8 := dkwX0_init_10 ++ []
def dkwX0_init_9 : List UInt8 := [188, 10, 181, 0, 120, 42, 17, 7, 208, 188, 10, 181, 0, 123, 42, 4, 188, 8, 89, 3, 4, 84]
abbrev dktX0_init_9 : List UInt8 := dkwX0_init_9 ++ dktX0_init_10
def dkwX0_init_8 : List UInt8 := [188, 9, 181, 0, 110, 42, 16, 24, 188, 11, 181, 0, 113, 42, 16, 24, 188, 11, 181, 0, 117, 42, 5]
abbrev dktX0_init_8 : List UInt8 := dkwX0_init_8 ++ dktX0_init_9
def dkwX0_init_7 : List UInt8 := [188, 10, 181, 0, 99, 42, 5, 188, 10, 181, 0, 102, 42, 18, 105, 188, 9, 181, 0, 106, 42, 17, 32, 0]
abbrev dktX0_init_7 : List UInt8 := dkwX0_init_7 ++ dktX0_init_8
def dkwX0_init_6 : List UInt8 := [187, 0, 83, 89, 183, 0, 85, 181, 0, 90, 42, 16, 247, 181, 0, 93, 42, 16, 247, 181, 0, 96, 42, 5]
abbrev dktX0_init_6 : List UInt8 := dkwX0_init_6 ++ dktX0_init_7
def dkwX0_init_5 : List UInt8 := [181, 0, 74, 42, 16, 24, 189, 0, 77, 181, 0, 79, 42, 187, 0, 83, 89, 183, 0, 85, 181, 0, 86, 42]
abbrev dktX0_init_5 : List UInt8 := dkwX0_init_5 ++ dktX0_init_6
def dkwX0_init_4 : List UInt8 := [5, 188, 10, 181, 0, 65, 42, 5, 188, 10, 181, 0, 68, 42, 5, 188, 10, 181, 0, 71, 42, 5, 188, 10]
abbrev dktX0_init_4 : List UInt8 := dkwX0_init_4 ++ dktX0_init_5
def dkwX0_init_3 : List UInt8 := [42, 5, 188, 10, 181, 0, 56, 42, 16, 6, 189, 0, 38, 181, 0, 59, 42, 6, 188, 10, 181, 0, 62, 42]
abbrev dktX0_init_3 : List UInt8 := dkwX0_init_3 ++ dktX0_init_4
def dkwX0_init_2 : List UInt8 := [181, 0, 44, 42, 5, 188, 10, 181, 0, 47, 42, 5, 188, 10, 181, 0, 50, 42, 5, 188, 10, 181, 0, 53]
abbrev dktX0_init_2 : List UInt8 := dkwX0_init_2 ++ dktX0_init_3
def dkwX0_init_1 : List UInt8 := [181, 0, 28, 42, 7, 189, 0, 32, 181, 0, 34, 42, 3, 189, 0, 38, 181, 0, 40, 42, 6, 188, 10]
abbrev dktX0_init_1 : List UInt8 := dkwX0_init_1 ++ dktX0_init_2
def dkwX0_init_0 : List UInt8 := [42, 183, 0, 21, 42, 16, 6, 188, 10, 181, 0, 7, 42, 10, 181, 0, 18, 42, 16, 6, 189, 0, 27]
abbrev dktX0_init_0 : List UInt8 := dkwX0_init_0 ++ dktX0_init_1
theorem dksX0_init_0 : cX0_init.data.toList.drop 0 = dktX0_init_0 := by decide +kernel
theorem dksX0_init_1 : cX0_init.data.toList.drop 23 = dktX0_init_1 := dk_seg dksX0_init_0 23 rfl rfl
theorem dksX0_init_2 : cX0_init.data.toList.drop 46 = dktX0_init_2 := dk_seg dksX0_init_1 23 rfl rfl
theorem dksX0_init_3 : cX0_init.data.toList.drop 70 = dktX0_init_3 := dk_seg dksX0_init_2 24 rfl rfl
theorem dksX0_init_4 : cX0_init.data.toList.drop 94 = dktX0_init_4 := dk_seg dksX0_init_3 24 rfl rfl
theorem dksX0_init_5 : cX0_init.data.toList.drop 118 = dktX0_init_5 := dk_seg dksX0_init_4 24 rfl rfl
theorem dksX0_init_6 : cX0_init.data.toList.drop 142 = dktX0_init_6 := dk_seg dksX0_init_5 24 rfl rfl
theorem dksX0_init_7 : cX0_init.data.toList.drop 166 = dktX0_init_7 := dk_seg dksX0_init_6 24 rfl rfl
theorem dksX0_init_8 : cX0_init.data.toList.drop 190 = dktX0_init_8 := dk_seg dksX0_init_7 24 rfl rfl
theorem dksX0_init_9 : cX0_init.data.toList.drop 213 = dktX0_init_9 := dk_seg dksX0_init_8 23 rfl rfl
theorem dksX0_init_10 : cX0_init.data.toList.drop 235 = dktX0_init_10 := dk_seg dksX0_init_9 22 rfl rfl
theorem dX0_init_0 : decode cX0_init 0 = .ok (.aload_n 0, 1) := dk_42 (dk_at dksX0_init_0 0 rfl rfl)
theorem dX0_init_1 : decode cX0_init 1 = .ok (.invokespecial 21, 3) := dk_183 0 21 (dk_at dksX0_init_0 1 rfl rfl)
theorem dX0_init_4 : decode cX0_init 4 = .ok (.aload_n 0, 1) := dk_42 (dk_at dksX0_init_0 4 rfl rfl)
theorem dX0_init_5 : decode cX0_init 5 = .ok (.bipush 6, 2) := dk_16 6 (dk_at dksX0_init_0 5 rfl rfl)
theorem dX0_init_7 : decode cX0_init 7 = .ok (.newarray .int, 2) := dk_188_10 (dk_at dksX0_init_0 7 rfl rfl)
theorem dX0_init_9 : decode cX0_init 9 = .ok (.putfield 7, 3) := dk_181 0 7 (dk_at dksX0_init_0 9 rfl rfl)
theorem dX0_init_12 : decode cX0_init 12 = .ok (.aload_n 0, 1) := dk_42 (dk_at dksX0_init_0 12 rfl rfl)
theorem dX0_init_13 : decode cX0_init 13 = .ok (.lconst 1, 1) := dk_10 (dk_at dksX0_init_0 13 rfl rfl)
theorem dX0_init_14 : decode cX0_init 14 = .ok (.putfield 18, 3) := dk_181 0 18 (dk_at dksX0_init_0 14 rfl rfl)
theorem dX0_init_17 : decode cX0_init 17 = .ok (.aload_n 0, 1) := dk_42 (dk_at dksX0_init_0 17 rfl rfl)
theorem dX0_init_18 : decode cX0_init 18 = .ok (.bipush 6, 2) := dk_16 6 (dk_at dksX0_init_0 18 rfl rfl)
theorem dX0_init_20 : decode cX0_init 20 = .ok (.anewarray 27, 3) := dk_189 0 27 (dk_at dksX0_init_0 20 rfl rfl)
theorem dX0_init_23 : decode cX0_init 23 = .ok (.putfield 28, 3) := dk_181 0 28 (dk_at dksX0_init_1 0 rfl rfl)
theorem dX0_init_26 : decode cX0_init 26 = .ok (.aload_n 0, 1) := dk_42 (dk_at dksX0_init_1 3 rfl rfl)
theorem dX0_init_27 : decode cX0_init 27 = .ok (.iconst 4, 1) := dk_7 (dk_at dksX0_init_1 4 rfl rfl)
theorem dX0_init_28 : decode cX0_init 28 = .ok (.anewarray 32, 3) := dk_189 0 32 (dk_at dksX0_init_1 5 rfl rfl)
theorem dX0_init_31 : decode cX0_init 31 = .ok (.putfield 34, 3) := dk_181 0 34 (dk_at dksX0_init_1 8 rfl rfl)
theorem dX0_init_34 : decode cX0_init 34 = .ok (.aload_n 0, 1) := dk_42 (dk_at dksX0_init_1 11 rfl rfl)
theorem dX0_init_35 : decode cX0_init 35 = .ok (.iconst 0, 1) := dk_3 (dk_at dksX0_init_1 12 rfl rfl)
theorem dX0_init_36 : decode cX0_init 36 = .ok (.anewarray 38, 3) := dk_189 0 38 (dk_at dksX0_init_1 13 rfl rfl)
theorem dX0_init_39 : decode cX0_init 39 = .ok (.putfield 40, 3) := dk_181 0 40 (dk_at dksX0_init_1 16 rfl rfl)
theorem dX0_init_42 : decode cX0_init 42 = .ok (.aload_n 0, 1) := dk_42 (dk_at dksX0_init_1 19 rfl rfl)
theorem dX0_init_43 : decode cX0_init 43 = .ok (.iconst 3, 1) := dk_6 (dk_at dksX0_init_1 20 rfl rfl)
theorem dX0_init_44 : decode cX0_init 44 = .ok (.newarray .int, 2) := dk_188_10 (dk_at dksX0_init_1 21 rfl rfl)
theorem dX0_init_46 : decode cX0_init 46 = .ok (.putfield 44, 3) := dk_181 0 44 (dk_at dksX0_init_2 0 rfl rfl)
theorem dX0_init_49 : decode cX0_init 49 = .ok (.aload_n 0, 1) := dk_42 (dk_at dksX0_init_2 3 rfl rfl)
theorem dX0_init_50 : decode cX0_init 50 = .ok (.iconst 2, 1) := dk_5 (dk_at dksX0_init_2 4 rfl rfl)
theorem dX0_init_51 : decode cX0_init 51 = .ok (.newarray .int, 2) := dk_188_10 (dk_at dksX0_init_2 5 rfl rfl)
theorem dX0_init_53 : decode cX0_init 53 = .ok (.putfield 47, 3) := dk_181 0 47 (dk_at dksX0_init_2 7 rfl rfl)
theorem dX0_init_56 : decode cX0_init 56 = .ok (.aload_n 0, 1) := dk_42 (dk_at dksX0_init_2 10 rfl rfl)
theorem dX0_init_57 : decode cX0_init 57 = .ok (.iconst 2, 1) := dk_5 (dk_at dksX0_init_2 11 rfl rfl)
theorem dX0_init_58 : decode cX0_init 58 = .ok (.newarray .int, 2) := dk_188_10 (dk_at dksX0_init_2 12 rfl rfl)
theorem dX0_init_60 : decode cX0_init 60 = .ok (.putfield 50, 3) := dk_181 0 50 (dk_at dksX0_init_2 14 rfl rfl)
theorem dX0_init_63 : decode cX0_init 63 = .ok (.aload_n 0, 1) := dk_42 (dk_at dksX0_init_2 17 rfl rfl)
theorem dX0_init_64 : decode cX0_init 64 = .ok (.iconst 2, 1) := dk_5 (dk_at dksX0_init_2 18 rfl rfl)
theorem dX0_init_65 : decode cX0_init 65 = .ok (.newarray .int, 2) := dk_188_10 (dk_at dksX0_init_2 19 rfl rfl)
theorem dX0_init_67 : decode cX0_init 67 = .ok (.putfield 53, 3) := dk_181 0 53 (dk_at dksX0_init_2 21 rfl rfl)
theorem dX0_init_70 : decode cX0_init 70 = .ok (.aload_n 0, 1) := dk_42 (dk_at dksX0_init_3 0 rfl rfl)
theorem dX0_init_71 : decode cX0_init 71 = .ok (.iconst 2, 1) := dk_5 (dk_at dksX0_init_3 1 rfl rfl)
theorem dX0_init_72 : decode cX0_init 72 = .ok (.newarray .int, 2) := dk_188_10 (dk_at dksX0_init_3 2 rfl rfl)
theorem dX0_init_74 : decode cX0_init 74 = .ok (.putfield 56, 3) := dk_181 0 56 (dk_at dksX0_init_3 4 rfl rfl)
theorem dX0_init_77 : decode cX0_init 77 = .ok (.aload_n 0, 1) := dk_42 (dk_at dksX0_init_3 7 rfl rfl)
theorem dX0_init_78 : decode cX0_init 78 = .ok (.bipush 6, 2) := dk_16 6 (dk_at dksX0_init_3 8 rfl rfl)
theorem dX0_init_80 : decode cX0_init 80 = .ok (.anewarray 38, 3) := dk_189 0 38 (dk_at dksX0_init_3 10 rfl rfl)
theorem dX0_init_83 : decode cX0_init 83 = .ok (.putfield 59, 3) := dk_181 0 59 (dk_at dksX0_init_3 13 rfl rfl)
theorem dX0_init_86 : decode cX0_init 86 = .ok (.aload_n 0, 1) := dk_42 (dk_at dksX0_init_3 16 rfl rfl)
theorem dX0_init_87 : decode cX0_init 87 = .ok (.iconst 3, 1) := dk_6 (dk_at dksX0_init_3 17 rfl rfl)
theorem dX0_init_88 : decode cX0_init 88 = .ok (.newarray .int, 2) := dk_188_10 (dk_at dksX0_init_3 18 rfl rfl)
theorem dX0_init_90 : decode cX0_init 90 = .ok (.putfield 62, 3) := dk_181 0 62 (dk_at dksX0_init_3 20 rfl rfl)
theorem dX0_init_93 : decode cX0_init 93 = .ok (.aload_n 0, 1) := dk_42 (dk_at dksX0_init_3 23 rfl rfl)
theorem dX0_init_94 : decode cX0_init 94 = .ok (.iconst 2, 1) := dk_5 (dk_at dksX0_init_4 0 rfl rfl)
theorem dX0_init_95 : decode cX0_init 95 = .ok (.newarray .int, 2) := dk_188_10 (dk_at dksX0_init_4 1 rfl rfl)
theorem dX0_init_97 : decode cX0_init 97 = .ok (.putfield 65, 3) := dk_181 0 65 (dk_at dksX0_init_4 3 rfl rfl)
theorem dX0_init_100 : decode cX0_init 100 = .ok (.aload_n 0, 1) := dk_42 (dk_at dksX0_init_4 6 rfl rfl)
theorem dX0_init_101 : decode cX0_init 101 = .ok (.iconst 2, 1) := dk_5 (dk_at dksX0_init_4 7 rfl rfl)
theorem dX0_init_102 : decode cX0_init 102 = .ok (.newarray .int, 2) := dk_188_10 (dk_at dksX0_init_4 8 rfl rfl)
theorem dX0_init_104 : decode cX0_init 104 = .ok (.putfield 68, 3) := dk_181 0 68 (dk_at dksX0_init_4 10 rfl rfl)
theorem dX0_init_107 : decode cX0_init 107 = .ok (.aload_n 0, 1) := dk_42 (dk_at dksX0_init_4 13 rfl rfl)
theorem dX0_init_108 : decode cX0_init 108 = .ok (.iconst 2, 1) := dk_5 (dk_at dksX0_init_4 14 rfl rfl)
theorem dX0_init_109 : decode cX0_init 109 = .ok (.newarray .int, 2) := dk_188_10 (dk_at dksX0_init_4 15 rfl rfl)
theorem dX0_init_111 : decode cX0_init 111 = .ok (.putfield 71, 3) := dk_181 0 71 (dk_at dksX0_init_4 17 rfl rfl)
theorem dX0_init_114 : decode cX0_init 114 = .ok (.aload_n 0, 1) := dk_42 (dk_at dksX0_init_4 20 rfl rfl)
theorem dX0_init_115 : decode cX0_init 115 = .ok (.iconst 2, 1) := dk_5 (dk_at dksX0_init_4 21 rfl rfl)
theorem dX0_init_116 : decode cX0_init 116 = .ok (.newarray .int, 2) := dk_188_10 (dk_at dksX0_init_4 22 rfl rfl)
theorem dX0_init_118 : decode cX0_init 118 = .ok (.putfield 74, 3) := dk_181 0 74 (dk_at dksX0_init_5 0 rfl rfl)
theorem dX0_init_121 : decode cX0_init 121 = .ok (.aload_n 0, 1) := dk_42 (dk_at dksX0_init_5 3 rfl rfl)
theorem dX0_init_122 : decode cX0_init 122 = .ok (.bipush 24, 2) := dk_16 24 (dk_at dksX0_init_5 4 rfl rfl)
theorem dX0_init_124 : decode cX0_init 124 = .ok (.anewarray 77, 3) := dk_189 0 77 (dk_at dksX0_init_5 6 rfl rfl)
theorem dX0_init_127 : decode cX0_init 127 = .ok (.putfield 79, 3) := dk_181 0 79 (dk_at dksX0_init_5 9 rfl rfl)
theorem dX0_init_130 : decode cX0_init 130 = .ok (.aload_n 0, 1) := dk_42 (dk_at dksX0_init_5 12 rfl rfl)
theorem dX0_init_131 : decode cX0_init 131 = .ok (.new 83, 3) := dk_187 0 83 (dk_at dksX0_init_5 13 rfl rfl)
theorem dX0_init_134 : decode cX0_init 134 = .ok (.dup, 1) := dk_89 (dk_at dksX0_init_5 16 rfl rfl)
theorem dX0_init_135 : decode cX0_init 135 = .ok (.invokespecial 85, 3) := dk_183 0 85 (dk_at dksX0_init_5 17 rfl rfl)
theorem dX0_init_138 : decode cX0_init 138 = .ok (.putfield 86, 3) := dk_181 0 86 (dk_at dksX0_init_5 20 rfl rfl)
theorem dX0_init_141 : decode cX0_init 141 = .ok (.aload_n 0, 1) := dk_42 (dk_at dksX0_init_5 23 rfl rfl)
theorem dX0_init_142 : decode cX0_init 142 = .ok (.new 83, 3) := dk_187 0 83 (dk_at dksX0_init_6 0 rfl rfl)
theorem dX0_init_145 : decode cX0_init 145 = .ok (.dup, 1) := dk_89 (dk_at dksX0_init_6 3 rfl rfl)
theorem dX0_init_146 : decode cX0_init 146 = .ok (.invokespecial 85, 3) := dk_183 0 85 (dk_at dksX0_init_6 4 rfl rfl)
theorem dX0_init_149 : decode cX0_init 149 = .ok (.putfield 90, 3) := dk_181 0 90 (dk_at dksX0_init_6 7 rfl rfl)
theorem dX0_init_152 : decode cX0_init 152 = .ok (.aload_n 0, 1) := dk_42 (dk_at dksX0_init_6 10 rfl rfl)
theorem dX0_init_153 : decode cX0_init 153 = .ok (.bipush (-9), 2) := dk_16 247 (dk_at dksX0_init_6 11 rfl rfl)
theorem dX0_init_155 : decode cX0_init 155 = .ok (.putfield 93, 3) := dk_181 0 93 (dk_at dksX0_init_6 13 rfl rfl)
theorem dX0_init_158 : decode cX0_init 158 = .ok (.aload_n 0, 1) := dk_42 (dk_at dksX0_init_6 16 rfl rfl)
theorem dX0_init_159 : decode cX0_init 159 = .ok (.bipush (-9), 2) := dk_16 247 (dk_at dksX0_init_6 17 rfl rfl)
theorem dX0_init_161 : decode cX0_init 161 = .ok (.putfield 96, 3) := dk_181 0 96 (dk_at dksX0_init_6 19 rfl rfl)
theorem dX0_init_164 : decode cX0_init 164 = .ok (.aload_n 0, 1) := dk_42 (dk_at dksX0_init_6 22 rfl rfl)
theorem dX0_init_165 : decode cX0_init 165 = .ok (.iconst 2, 1) := dk_5 (dk_at dksX0_init_6 23 rfl rfl)
theorem dX0_init_166 : decode cX0_init 166 = .ok (.newarray .int, 2) := dk_188_10 (dk_at dksX0_init_7 0 rfl rfl)
theorem dX0_init_168 : decode cX0_init 168 = .ok (.putfield 99, 3) := dk_181 0 99 (dk_at dksX0_init_7 2 rfl rfl)
theorem dX0_init_171 : decode cX0_init 171 = .ok (.aload_n 0, 1) := dk_42 (dk_at dksX0_init_7 5 rfl rfl)
theorem dX0_init_172 : decode cX0_init 172 = .ok (.iconst 2, 1) := dk_5 (dk_at dksX0_init_7 6 rfl rfl)
theorem dX0_init_173 : decode cX0_init 173 = .ok (.newarray .int, 2) := dk_188_10 (dk_at dksX0_init_7 7 rfl rfl)
theorem dX0_init_175 : decode cX0_init 175 = .ok (.putfield 102, 3) := dk_181 0 102 (dk_at dksX0_init_7 9 rfl rfl)
theorem dX0_init_178 : decode cX0_init 178 = .ok (.aload_n 0, 1) := dk_42 (dk_at dksX0_init_7 12 rfl rfl)
theorem dX0_init_179 : decode cX0_init 179 = .ok (.ldc 105, 2) := dk_18 105 (dk_at dksX0_init_7 13 rfl rfl)
theorem dX0_init_181 : decode cX0_init 181 = .ok (.newarray .short, 2) := dk_188_9 (dk_at dksX0_init_7 15 rfl rfl)
theorem dX0_init_183 : decode cX0_init 183 = .ok (.putfield 106, 3) := dk_181 0 106 (dk_at dksX0_init_7 17 rfl rfl)
theorem dX0_init_186 : decode cX0_init 186 = .ok (.aload_n 0, 1) := dk_42 (dk_at dksX0_init_7 20 rfl rfl)
theorem dX0_init_187 : decode cX0_init 187 = .ok (.sipush 8192, 3) := dk_17 32 0 (dk_at dksX0_init_7 21 rfl rfl)
theorem dX0_init_190 : decode cX0_init 190 = .ok (.newarray .short, 2) := dk_188_9 (dk_at dksX0_init_8 0 rfl rfl)
theorem dX0_init_192 : decode cX0_init 192 = .ok (.putfield 110, 3) := dk_181 0 110 (dk_at dksX0_init_8 2 rfl rfl)
theorem dX0_init_195 : decode cX0_init 195 = .ok (.aload_n 0, 1) := dk_42 (dk_at dksX0_init_8 5 rfl rfl)
theorem dX0_init_196 : decode cX0_init 196 = .ok (.bipush 24, 2) := dk_16 24 (dk_at dksX0_init_8 6 rfl rfl)
theorem dX0_init_198 : decode cX0_init 198 = .ok (.newarray .long, 2) := dk_188_11 (dk_at dksX0_init_8 8 rfl rfl)
theorem dX0_init_200 : decode cX0_init 200 = .ok (.putfield 113, 3) := dk_181 0 113 (dk_at dksX0_init_8 10 rfl rfl)
theorem dX0_init_203 : decode cX0_init 203 = .ok (.aload_n 0, 1) := dk_42 (dk_at dksX0_init_8 13 rfl rfl)
theorem dX0_init_204 : decode cX0_init 204 = .ok (.bipush 24, 2) := dk_16 24 (dk_at dksX0_init_8 14 rfl rfl)
theorem dX0_init_206 : decode cX0_init 206 = .ok (.newarray .long, 2) := dk_188_11 (dk_at dksX0_init_8 16 rfl rfl)
theorem dX0_init_208 : decode cX0_init 208 = .ok (.putfield 117, 3) := dk_181 0 117 (dk_at dksX0_init_8 18 rfl rfl)
theorem dX0_init_211 : decode cX0_init 211 = .ok (.aload_n 0, 1) := dk_42 (dk_at dksX0_init_8 21 rfl rfl)
theorem dX0_init_212 : decode cX0_init 212 = .ok (.iconst 2, 1) := dk_5 (dk_at dksX0_init_8 22 rfl rfl)
theorem dX0_init_213 : decode cX0_init 213 = .ok (.newarray .int, 2) := dk_188_10 (dk_at dksX0_init_9 0 rfl rfl)
theorem dX0_init_215 : decode cX0_init 215 = .ok (.putfield 120, 3) := dk_181 0 120 (dk_at dksX0_init_9 2 rfl rfl)
theorem dX0_init_218 : decode cX0_init 218 = .ok (.aload_n 0, 1) := dk_42 (dk_at dksX0_init_9 5 rfl rfl)
theorem dX0_init_219 : decode cX0_init 219 = .ok (.sipush 2000, 3) := dk_17 7 208 (dk_at dksX0_init_9 6 rfl rfl)
theorem dX0_init_222 : decode cX0_init 222 = .ok (.newarray .int, 2) := dk_188_10 (dk_at dksX0_init_9 9 rfl rfl)
theorem dX0_init_224 : decode cX0_init 224 = .ok (.putfield 123, 3) := dk_181 0 123 (dk_at dksX0_init_9 11 rfl rfl)
theorem dX0_init_227 : decode cX0_init 227 = .ok (.aload_n 0, 1) := dk_42 (dk_at dksX0_init_9 14 rfl rfl)
theorem dX0_init_228 : decode cX0_init 228 = .ok (.iconst 1, 1) := dk_4 (dk_at dksX0_init_9 15 rfl rfl)
theorem dX0_init_229 : decode cX0_init 229 = .ok (.newarray .byte, 2) := dk_188_8 (dk_at dksX0_init_9 16 rfl rfl)
theorem dX0_init_231 : decode cX0_init 231 = .ok (.dup, 1) := dk_89 (dk_at dksX0_init_9 18 rfl rfl)
theorem dX0_init_232 : decode cX0_init 232 = .ok (.iconst 0, 1) := dk_3 (dk_at dksX0_init_9 19 rfl rfl)
theorem dX0_init_233 : decode cX0_init 233 = .ok (.iconst 1, 1) := dk_4 (dk_at dksX0_init_9 20 rfl rfl)
theorem dX0_init_234 : decode cX0_init 234 = .ok (.bastore, 1) := dk_84 (dk_at dksX0_init_9 21 rfl rfl)
theorem dX0_init_235 : decode cX0_init 235 = .ok (.putfield 126, 3) := dk_181 0 126 (dk_at dksX0_init_10 0 rfl rfl)
theorem dX0_init_238 : decode cX0_init 238 = .ok (.iconst 0, 1) := dk_3 (dk_at dksX0_init_10 3 rfl rfl)
theorem dX0_init_239 : decode cX0_init 239 = .ok (.istore_n 1, 1) := dk_60 (dk_at dksX0_init_10 4 rfl rfl)
theorem dX0_init_240 : decode cX0_init 240 = .ok (.iload_n 1, 1) := dk_27 (dk_at dksX0_init_10 5 rfl rfl)
theorem dX0_init_241 : decode cX0_init 241 = .ok (.iconst 3, 1) := dk_6 (dk_at dksX0_init_10 6 rfl rfl)
theorem dX0_init_242 : decode cX0_init 242 = .ok (.if_icmp .ge 16, 3) := dk_162 0 16 (dk_at dksX0_init_10 7 rfl rfl)
theorem dX0_init_245 : decode cX0_init 245 = .ok (.aload_n 0, 1) := dk_42 (dk_at dksX0_init_10 10 rfl rfl)
theorem dX0_init_246 : decode cX0_init 246 = .ok (.getfield 44, 3) := dk_180 0 44 (dk_at dksX0_init_10 11 rfl rfl)
theorem dX0_init_249 : decode cX0_init 249 = .ok (.iload_n 1, 1) := dk_27 (dk_at dksX0_init_10 14 rfl rfl)
theorem dX0_init_250 : decode cX0_init 250 = .ok (.iconst 4, 1) := dk_7 (dk_at dksX0_init_10 15 rfl rfl)
theorem dX0_init_251 : decode cX0_init 251 = .ok (.iastore, 1) := dk_79 (dk_at dksX0_init_10 16 rfl rfl)
theorem dX0_init_252 : decode cX0_init 252 = .ok (.iinc 1 1, 3) := dk_132 1 1 (dk_at dksX0_init_10 17 rfl rfl)
theorem dX0_init_255 : decode cX0_init 255 = .ok (.goto (-15), 3) := dk_167 255 241 (dk_at dksX0_init_10 20 rfl rfl)
theorem dX0_init_258 : decode cX0_init 258 = .ok (.return_, 1) := dk_177 (dk_at dksX0_init_10 23 rfl rfl)
abbrev cX0_row : ByteArray := prog_1_method_9_code
def yX0_row : MethodName := ⟨RX0, "row", "(II)I"⟩
def dkwX0_row_1 : List UInt8 := [28, 172, 78, 42, 8, 182, 0, 139, 172]
abbrev dktX0_row_1 : List UInt8 := dkwX0_row_1 ++ []
def dkwX0_row_0 : List UInt8 := [27, 184, 0, 133, 153, 0, 9, 28, 16, 80, 164, 0, 5, 2, 172, 42, 180, 0, 28, 27, 28, 188, 10, 83]
abbrev dktX0_row_0 : List UInt8 := dkwX0_row_0 ++ dktX0_row_1
theorem dksX0_row_0 : cX0_row.data.toList.drop 0 = dktX0_row_0 := by decide +kernel
theorem dksX0_row_1 : cX0_row.data.toList.drop 24 = dktX0_row_1 := dk_seg dksX0_row_0 24 rfl rfl
theorem dX0_row_0 : decode cX0_row 0 = .ok (.iload_n 1, 1) := dk_27 (dk_at dksX0_row_0 0 rfl rfl)
theorem dX0_row_1 : decode cX0_row 1 = .ok (.invokestatic 133, 3) := dk_184 0 133 (dk_at dksX0_row_0 1 rfl rfl)
theorem dX0_row_4 : decode cX0_row 4 = .ok (.ifCond .eq 9, 3) := dk_153 0 9 (dk_at dksX0_row_0 4 rfl rfl)
theorem dX0_row_7 : decode cX0_row 7 = .ok (.iload_n 2, 1) := dk_28 (dk_at dksX0_row_0 7 rfl rfl)
theorem dX0_row_8 : decode cX0_row 8 = .ok (.bipush 80, 2) := dk_16 80 (dk_at dksX0_row_0 8 rfl rfl)
theorem dX0_row_10 : decode cX0_row 10 = .ok (.if_icmp .le 5, 3) := dk_164 0 5 (dk_at dksX0_row_0 10 rfl rfl)
theorem dX0_row_13 : decode cX0_row 13 = .ok (.iconst (-1), 1) := dk_2 (dk_at dksX0_row_0 13 rfl rfl)
theorem dX0_row_14 : decode cX0_row 14 = .ok (.ireturn, 1) := dk_172 (dk_at dksX0_row_0 14 rfl rfl)
theorem dX0_row_15 : decode cX0_row 15 = .ok (.aload_n 0, 1) := dk_42 (dk_at dksX0_row_0 15 rfl rfl)
theorem dX0_row_16 : decode cX0_row 16 = .ok (.getfield 28, 3) := dk_180 0 28 (dk_at dksX0_row_0 16 rfl rfl)
theorem dX0_row_19 : decode cX0_row 19 = .ok (.iload_n 1, 1) := dk_27 (dk_at dksX0_row_0 19 rfl rfl)
theorem dX0_row_20 : decode cX0_row 20 = .ok (.iload_n 2, 1) := dk_28 (dk_at dksX0_row_0 20 rfl rfl)
theorem dX0_row_21 : decode cX0_row 21 = .ok (.newarray .int, 2) := dk_188_10 (dk_at dksX0_row_0 21 rfl rfl)
theorem dX0_row_23 : decode cX0_row 23 = .ok (.aastore, 1) := dk_83 (dk_at dksX0_row_0 23 rfl rfl)
theorem dX0_row_24 : decode cX0_row 24 = .ok (.iload_n 2, 1) := dk_28 (dk_at dksX0_row_1 0 rfl rfl)
theorem dX0_row_25 : decode cX0_row 25 = .ok (.ireturn, 1) := dk_172 (dk_at dksX0_row_1 1 rfl rfl)
theorem dX0_row_26 : decode cX0_row 26 = .ok (.astore_n 3, 1) := dk_78 (dk_at dksX0_row_1 2 rfl rfl)
theorem dX0_row_27 : decode cX0_row 27 = .ok (.aload_n 0, 1) := dk_42 (dk_at dksX0_row_1 3 rfl rfl)
theorem dX0_row_28 : decode cX0_row 28 = .ok (.iconst 5, 1) := dk_8 (dk_at dksX0_row_1 4 rfl rfl)
theorem dX0_row_29 : decode cX0_row 29 = .ok (.invokevirtual 139, 3) := dk_182 0 139 (dk_at dksX0_row_1 5 rfl rfl)
theorem dX0_row_32 : decode cX0_row 32 = .ok (.ireturn, 1) := dk_172 (dk_at dksX0_row_1 8 rfl rfl)
abbrev cX0_isRow : ByteArray := prog_1_method_7_code
def yX0_isRow : MethodName := ⟨RX0, "isRow", "(I)Z"⟩
def dkwX0_isRow_0 : List UInt8 := [26, 3, 8, 184, 0, 129, 172]
abbrev dktX0_isRow_0 : List UInt8 := dkwX0_isRow_0 ++ []
theorem dksX0_isRow_0 : cX0_isRow.data.toList.drop 0 = dktX0_isRow_0 := by decide +kernel
theorem dX0_isRow_0 : decode cX0_isRow 0 = .ok (.iload_n 0, 1) := dk_26 (dk_at dksX0_isRow_0 0 rfl rfl)
theorem dX0_isRow_1 : decode cX0_isRow 1 = .ok (.iconst 0, 1) := dk_3 (dk_at dksX0_isRow_0 1 rfl rfl)
theorem dX0_isRow_2 : decode cX0_isRow 2 = .ok (.iconst 5, 1) := dk_8 (dk_at dksX0_isRow_0 2 rfl rfl)
theorem dX0_isRow_3 : decode cX0_isRow 3 = .ok (.invokestatic 129, 3) := dk_184 0 129 (dk_at dksX0_isRow_0 3 rfl rfl)
theorem dX0_isRow_6 : decode cX0_isRow 6 = .ok (.ireturn, 1) := dk_172 (dk_at dksX0_isRow_0 6 rfl rfl)
abbrev cX0_isIn : ByteArray := prog_1_method_1_code
def yX0_isIn : MethodName := ⟨RX0, "isIn", "(III)Z"⟩
def dkwX0_isIn_0 : List UInt8 := [26, 27, 161, 0, 12, 26, 28, 163, 0, 7, 4, 167, 0, 4, 3, 172]
abbrev dktX0_isIn_0 : List UInt8 := dkwX0_isIn_0 ++ []
theorem dksX0_isIn_0 : cX0_isIn.data.toList.drop 0 = dktX0_isIn_0 := by decide +kernel
theorem dX0_isIn_0 : decode cX0_isIn 0 = .ok (.iload_n 0, 1) := dk_26 (dk_at dksX0_isIn_0 0 rfl rfl)
theorem dX0_isIn_1 : decode cX0_isIn 1 = .ok (.iload_n 1, 1) := dk_27 (dk_at dksX0_isIn_0 1 rfl rfl)
theorem dX0_isIn_2 : decode cX0_isIn 2 = .ok (.if_icmp .lt 12, 3) := dk_161 0 12 (dk_at dksX0_isIn_0 2 rfl rfl)
theorem dX0_isIn_5 : decode cX0_isIn 5 = .ok (.iload_n 0, 1) := dk_26 (dk_at dksX0_isIn_0 5 rfl rfl)
theorem dX0_isIn_6 : decode cX0_isIn 6 = .ok (.iload_n 2, 1) := dk_28 (dk_at dksX0_isIn_0 6 rfl rfl)
theorem dX0_isIn_7 : decode cX0_isIn 7 = .ok (.if_icmp .gt 7, 3) := dk_163 0 7 (dk_at dksX0_isIn_0 7 rfl rfl)
theorem dX0_isIn_10 : decode cX0_isIn 10 = .ok (.iconst 1, 1) := dk_4 (dk_at dksX0_isIn_0 10 rfl rfl)
theorem dX0_isIn_11 : decode cX0_isIn 11 = .ok (.goto 4, 3) := dk_167 0 4 (dk_at dksX0_isIn_0 11 rfl rfl)
theorem dX0_isIn_14 : decode cX0_isIn 14 = .ok (.iconst 0, 1) := dk_3 (dk_at dksX0_isIn_0 14 rfl rfl)
theorem dX0_isIn_15 : decode cX0_isIn 15 = .ok (.ireturn, 1) := dk_172 (dk_at dksX0_isIn_0 15 rfl rfl)
abbrev cX0_met : ByteArray := prog_1_method_3_code
def yX0_met : MethodName := ⟨RX0, "met", "(I)I"⟩
def dkwX0_met_0 : List UInt8 := [42, 27, 181, 0, 3, 42, 180, 0, 7, 27, 92, 46, 4, 96, 79, 16, 253, 172]
abbrev dktX0_met_0 : List UInt8 := dkwX0_met_0 ++ []
theorem dksX0_met_0 : cX0_met.data.toList.drop 0 = dktX0_met_0 := by decide +kernel
theorem dX0_met_0 : decode cX0_met 0 = .ok (.aload_n 0, 1) := dk_42 (dk_at dksX0_met_0 0 rfl rfl)
theorem dX0_met_1 : decode cX0_met 1 = .ok (.iload_n 1, 1) := dk_27 (dk_at dksX0_met_0 1 rfl rfl)
theorem dX0_met_2 : decode cX0_met 2 = .ok (.putfield 3, 3) := dk_181 0 3 (dk_at dksX0_met_0 2 rfl rfl)
theorem dX0_met_5 : decode cX0_met 5 = .ok (.aload_n 0, 1) := dk_42 (dk_at dksX0_met_0 5 rfl rfl)
theorem dX0_met_6 : decode cX0_met 6 = .ok (.getfield 7, 3) := dk_180 0 7 (dk_at dksX0_met_0 6 rfl rfl)
theorem dX0_met_9 : decode cX0_met 9 = .ok (.iload_n 1, 1) := dk_27 (dk_at dksX0_met_0 9 rfl rfl)
theorem dX0_met_10 : decode cX0_met 10 = .ok (.dup2, 1) := dk_92 (dk_at dksX0_met_0 10 rfl rfl)
theorem dX0_met_11 : decode cX0_met 11 = .ok (.iaload, 1) := dk_46 (dk_at dksX0_met_0 11 rfl rfl)
theorem dX0_met_12 : decode cX0_met 12 = .ok (.iconst 1, 1) := dk_4 (dk_at dksX0_met_0 12 rfl rfl)
theorem dX0_met_13 : decode cX0_met 13 = .ok (.iadd, 1) := dk_96 (dk_at dksX0_met_0 13 rfl rfl)
theorem dX0_met_14 : decode cX0_met 14 = .ok (.iastore, 1) := dk_79 (dk_at dksX0_met_0 14 rfl rfl)
theorem dX0_met_15 : decode cX0_met 15 = .ok (.bipush (-3), 2) := dk_16 253 (dk_at dksX0_met_0 15 rfl rfl)
theorem dX0_met_17 : decode cX0_met 17 = .ok (.ireturn, 1) := dk_172 (dk_at dksX0_met_0 17 rfl rfl)
abbrev cX0_lay : ByteArray := prog_1_method_10_code
def yX0_lay : MethodName := ⟨RX0, "lay", "(III)I"⟩
def dkwX0_lay_1 : List UInt8 := [21, 4, 172]
abbrev dktX0_lay_1 : List UInt8 := dkwX0_lay_1 ++ []
def dkwX0_lay_0 : List UInt8 := [42, 27, 28, 182, 0, 143, 54, 4, 21, 4, 4, 160, 0, 12, 42, 180, 0, 28, 27, 50, 28, 29, 79]
abbrev dktX0_lay_0 : List UInt8 := dkwX0_lay_0 ++ dktX0_lay_1
theorem dksX0_lay_0 : cX0_lay.data.toList.drop 0 = dktX0_lay_0 := by decide +kernel
theorem dksX0_lay_1 : cX0_lay.data.toList.drop 23 = dktX0_lay_1 := dk_seg dksX0_lay_0 23 rfl rfl
theorem dX0_lay_0 : decode cX0_lay 0 = .ok (.aload_n 0, 1) := dk_42 (dk_at dksX0_lay_0 0 rfl rfl)
theorem dX0_lay_1 : decode cX0_lay 1 = .ok (.iload_n 1, 1) := dk_27 (dk_at dksX0_lay_0 1 rfl rfl)
theorem dX0_lay_2 : decode cX0_lay 2 = .ok (.iload_n 2, 1) := dk_28 (dk_at dksX0_lay_0 2 rfl rfl)
theorem dX0_lay_3 : decode cX0_lay 3 = .ok (.invokevirtual 143, 3) := dk_182 0 143 (dk_at dksX0_lay_0 3 rfl rfl)
theorem dX0_lay_6 : decode cX0_lay 6 = .ok (.istore 4, 2) := dk_54 4 (dk_at dksX0_lay_0 6 rfl rfl)
theorem dX0_lay_8 : decode cX0_lay 8 = .ok (.iload 4, 2) := dk_21 4 (dk_at dksX0_lay_0 8 rfl rfl)
theorem dX0_lay_10 : decode cX0_lay 10 = .ok (.iconst 1, 1) := dk_4 (dk_at dksX0_lay_0 10 rfl rfl)
theorem dX0_lay_11 : decode cX0_lay 11 = .ok (.if_icmp .ne 12, 3) := dk_160 0 12 (dk_at dksX0_lay_0 11 rfl rfl)
theorem dX0_lay_14 : decode cX0_lay 14 = .ok (.aload_n 0, 1) := dk_42 (dk_at dksX0_lay_0 14 rfl rfl)
theorem dX0_lay_15 : decode cX0_lay 15 = .ok (.getfield 28, 3) := dk_180 0 28 (dk_at dksX0_lay_0 15 rfl rfl)
theorem dX0_lay_18 : decode cX0_lay 18 = .ok (.iload_n 1, 1) := dk_27 (dk_at dksX0_lay_0 18 rfl rfl)
theorem dX0_lay_19 : decode cX0_lay 19 = .ok (.aaload, 1) := dk_50 (dk_at dksX0_lay_0 19 rfl rfl)
theorem dX0_lay_20 : decode cX0_lay 20 = .ok (.iload_n 2, 1) := dk_28 (dk_at dksX0_lay_0 20 rfl rfl)
theorem dX0_lay_21 : decode cX0_lay 21 = .ok (.iload_n 3, 1) := dk_29 (dk_at dksX0_lay_0 21 rfl rfl)
theorem dX0_lay_22 : decode cX0_lay 22 = .ok (.iastore, 1) := dk_79 (dk_at dksX0_lay_0 22 rfl rfl)
theorem dX0_lay_23 : decode cX0_lay 23 = .ok (.iload 4, 2) := dk_21 4 (dk_at dksX0_lay_1 0 rfl rfl)
theorem dX0_lay_25 : decode cX0_lay 25 = .ok (.ireturn, 1) := dk_172 (dk_at dksX0_lay_1 2 rfl rfl)
abbrev cX0_at : ByteArray := prog_1_method_11_code
def yX0_at : MethodName := ⟨RX0, "at", "(II)I"⟩
def dkwX0_at_1 : List UInt8 := [42, 4, 182, 0, 139, 172, 78, 42, 5, 182, 0, 139, 172]
abbrev dktX0_at_1 : List UInt8 := dkwX0_at_1 ++ []
def dkwX0_at_0 : List UInt8 := [27, 184, 0, 133, 154, 0, 5, 2, 172, 42, 42, 180, 0, 28, 27, 50, 28, 46, 4, 182, 0, 147, 172, 78]
abbrev dktX0_at_0 : List UInt8 := dkwX0_at_0 ++ dktX0_at_1
theorem dksX0_at_0 : cX0_at.data.toList.drop 0 = dktX0_at_0 := by decide +kernel
theorem dksX0_at_1 : cX0_at.data.toList.drop 24 = dktX0_at_1 := dk_seg dksX0_at_0 24 rfl rfl
theorem dX0_at_0 : decode cX0_at 0 = .ok (.iload_n 1, 1) := dk_27 (dk_at dksX0_at_0 0 rfl rfl)
theorem dX0_at_1 : decode cX0_at 1 = .ok (.invokestatic 133, 3) := dk_184 0 133 (dk_at dksX0_at_0 1 rfl rfl)
theorem dX0_at_4 : decode cX0_at 4 = .ok (.ifCond .ne 5, 3) := dk_154 0 5 (dk_at dksX0_at_0 4 rfl rfl)
theorem dX0_at_7 : decode cX0_at 7 = .ok (.iconst (-1), 1) := dk_2 (dk_at dksX0_at_0 7 rfl rfl)
theorem dX0_at_8 : decode cX0_at 8 = .ok (.ireturn, 1) := dk_172 (dk_at dksX0_at_0 8 rfl rfl)
theorem dX0_at_9 : decode cX0_at 9 = .ok (.aload_n 0, 1) := dk_42 (dk_at dksX0_at_0 9 rfl rfl)
theorem dX0_at_10 : decode cX0_at 10 = .ok (.aload_n 0, 1) := dk_42 (dk_at dksX0_at_0 10 rfl rfl)
theorem dX0_at_11 : decode cX0_at 11 = .ok (.getfield 28, 3) := dk_180 0 28 (dk_at dksX0_at_0 11 rfl rfl)
theorem dX0_at_14 : decode cX0_at 14 = .ok (.iload_n 1, 1) := dk_27 (dk_at dksX0_at_0 14 rfl rfl)
theorem dX0_at_15 : decode cX0_at 15 = .ok (.aaload, 1) := dk_50 (dk_at dksX0_at_0 15 rfl rfl)
theorem dX0_at_16 : decode cX0_at 16 = .ok (.iload_n 2, 1) := dk_28 (dk_at dksX0_at_0 16 rfl rfl)
theorem dX0_at_17 : decode cX0_at 17 = .ok (.iaload, 1) := dk_46 (dk_at dksX0_at_0 17 rfl rfl)
theorem dX0_at_18 : decode cX0_at 18 = .ok (.iconst 1, 1) := dk_4 (dk_at dksX0_at_0 18 rfl rfl)
theorem dX0_at_19 : decode cX0_at 19 = .ok (.invokevirtual 147, 3) := dk_182 0 147 (dk_at dksX0_at_0 19 rfl rfl)
theorem dX0_at_22 : decode cX0_at 22 = .ok (.ireturn, 1) := dk_172 (dk_at dksX0_at_0 22 rfl rfl)
theorem dX0_at_23 : decode cX0_at 23 = .ok (.astore_n 3, 1) := dk_78 (dk_at dksX0_at_0 23 rfl rfl)
theorem dX0_at_24 : decode cX0_at 24 = .ok (.aload_n 0, 1) := dk_42 (dk_at dksX0_at_1 0 rfl rfl)
theorem dX0_at_25 : decode cX0_at 25 = .ok (.iconst 1, 1) := dk_4 (dk_at dksX0_at_1 1 rfl rfl)
theorem dX0_at_26 : decode cX0_at 26 = .ok (.invokevirtual 139, 3) := dk_182 0 139 (dk_at dksX0_at_1 2 rfl rfl)
theorem dX0_at_29 : decode cX0_at 29 = .ok (.ireturn, 1) := dk_172 (dk_at dksX0_at_1 5 rfl rfl)
theorem dX0_at_30 : decode cX0_at 30 = .ok (.astore_n 3, 1) := dk_78 (dk_at dksX0_at_1 6 rfl rfl)
theorem dX0_at_31 : decode cX0_at 31 = .ok (.aload_n 0, 1) := dk_42 (dk_at dksX0_at_1 7 rfl rfl)
theorem dX0_at_32 : decode cX0_at 32 = .ok (.iconst 2, 1) := dk_5 (dk_at dksX0_at_1 8 rfl rfl)
theorem dX0_at_33 : decode cX0_at 33 = .ok (.invokevirtual 139, 3) := dk_182 0 139 (dk_at dksX0_at_1 9 rfl rfl)
theorem dX0_at_36 : decode cX0_at 36 = .ok (.ireturn, 1) := dk_172 (dk_at dksX0_at_1 12 rfl rfl)
abbrev cX0_ask : ByteArray := prog_1_method_4_code
def yX0_ask : MethodName := ⟨RX0, "ask", "(II)I"⟩
def dkwX0_ask_0 : List UInt8 := [42, 27, 181, 0, 11, 28, 172]
abbrev dktX0_ask_0 : List UInt8 := dkwX0_ask_0 ++ []
theorem dksX0_ask_0 : cX0_ask.data.toList.drop 0 = dktX0_ask_0 := by decide +kernel
theorem dX0_ask_0 : decode cX0_ask 0 = .ok (.aload_n 0, 1) := dk_42 (dk_at dksX0_ask_0 0 rfl rfl)
theorem dX0_ask_1 : decode cX0_ask 1 = .ok (.iload_n 1, 1) := dk_27 (dk_at dksX0_ask_0 1 rfl rfl)
theorem dX0_ask_2 : decode cX0_ask 2 = .ok (.putfield 11, 3) := dk_181 0 11 (dk_at dksX0_ask_0 2 rfl rfl)
theorem dX0_ask_5 : decode cX0_ask 5 = .ok (.iload_n 2, 1) := dk_28 (dk_at dksX0_ask_0 5 rfl rfl)
theorem dX0_ask_6 : decode cX0_ask 6 = .ok (.ireturn, 1) := dk_172 (dk_at dksX0_ask_0 6 rfl rfl)
abbrev cX0_tear : ByteArray := prog_1_method_12_code
def yX0_tear : MethodName := ⟨RX0, "tear", "(I)I"⟩
def dkwX0_tear_1 : List UInt8 := [42, 180, 0, 28, 27, 1, 83, 4, 172]
abbrev dktX0_tear_1 : List UInt8 := dkwX0_tear_1 ++ []
def dkwX0_tear_0 : List UInt8 := [27, 184, 0, 133, 154, 0, 5, 2, 172, 42, 180, 0, 28, 27, 50, 199, 0, 9, 42, 4, 182, 0, 139, 172]
abbrev dktX0_tear_0 : List UInt8 := dkwX0_tear_0 ++ dktX0_tear_1
theorem dksX0_tear_0 : cX0_tear.data.toList.drop 0 = dktX0_tear_0 := by decide +kernel
theorem dksX0_tear_1 : cX0_tear.data.toList.drop 24 = dktX0_tear_1 := dk_seg dksX0_tear_0 24 rfl rfl
theorem dX0_tear_0 : decode cX0_tear 0 = .ok (.iload_n 1, 1) := dk_27 (dk_at dksX0_tear_0 0 rfl rfl)
theorem dX0_tear_1 : decode cX0_tear 1 = .ok (.invokestatic 133, 3) := dk_184 0 133 (dk_at dksX0_tear_0 1 rfl rfl)
theorem dX0_tear_4 : decode cX0_tear 4 = .ok (.ifCond .ne 5, 3) := dk_154 0 5 (dk_at dksX0_tear_0 4 rfl rfl)
theorem dX0_tear_7 : decode cX0_tear 7 = .ok (.iconst (-1), 1) := dk_2 (dk_at dksX0_tear_0 7 rfl rfl)
theorem dX0_tear_8 : decode cX0_tear 8 = .ok (.ireturn, 1) := dk_172 (dk_at dksX0_tear_0 8 rfl rfl)
theorem dX0_tear_9 : decode cX0_tear 9 = .ok (.aload_n 0, 1) := dk_42 (dk_at dksX0_tear_0 9 rfl rfl)
theorem dX0_tear_10 : decode cX0_tear 10 = .ok (.getfield 28, 3) := dk_180 0 28 (dk_at dksX0_tear_0 10 rfl rfl)
theorem dX0_tear_13 : decode cX0_tear 13 = .ok (.iload_n 1, 1) := dk_27 (dk_at dksX0_tear_0 13 rfl rfl)
theorem dX0_tear_14 : decode cX0_tear 14 = .ok (.aaload, 1) := dk_50 (dk_at dksX0_tear_0 14 rfl rfl)
theorem dX0_tear_15 : decode cX0_tear 15 = .ok (.ifnonnull 9, 3) := dk_199 0 9 (dk_at dksX0_tear_0 15 rfl rfl)
theorem dX0_tear_18 : decode cX0_tear 18 = .ok (.aload_n 0, 1) := dk_42 (dk_at dksX0_tear_0 18 rfl rfl)
theorem dX0_tear_19 : decode cX0_tear 19 = .ok (.iconst 1, 1) := dk_4 (dk_at dksX0_tear_0 19 rfl rfl)
theorem dX0_tear_20 : decode cX0_tear 20 = .ok (.invokevirtual 139, 3) := dk_182 0 139 (dk_at dksX0_tear_0 20 rfl rfl)
theorem dX0_tear_23 : decode cX0_tear 23 = .ok (.ireturn, 1) := dk_172 (dk_at dksX0_tear_0 23 rfl rfl)
theorem dX0_tear_24 : decode cX0_tear 24 = .ok (.aload_n 0, 1) := dk_42 (dk_at dksX0_tear_1 0 rfl rfl)
theorem dX0_tear_25 : decode cX0_tear 25 = .ok (.getfield 28, 3) := dk_180 0 28 (dk_at dksX0_tear_1 1 rfl rfl)
theorem dX0_tear_28 : decode cX0_tear 28 = .ok (.iload_n 1, 1) := dk_27 (dk_at dksX0_tear_1 4 rfl rfl)
theorem dX0_tear_29 : decode cX0_tear 29 = .ok (.aconst_null, 1) := dk_1 (dk_at dksX0_tear_1 5 rfl rfl)
theorem dX0_tear_30 : decode cX0_tear 30 = .ok (.aastore, 1) := dk_83 (dk_at dksX0_tear_1 6 rfl rfl)
theorem dX0_tear_31 : decode cX0_tear 31 = .ok (.iconst 1, 1) := dk_4 (dk_at dksX0_tear_1 7 rfl rfl)
theorem dX0_tear_32 : decode cX0_tear 32 = .ok (.ireturn, 1) := dk_172 (dk_at dksX0_tear_1 8 rfl rfl)
abbrev cX0_copy : ByteArray := prog_1_method_13_code
def yX0_copy : MethodName := ⟨RX0, "copy", "(IIIII)I"⟩
def dkwX0_copy_2 : List UInt8 := [4, 172, 58, 6, 42, 4, 182, 0, 139, 172, 58, 6, 42, 5, 182, 0, 139, 172]
abbrev dktX0_copy_2 : List UInt8 := dkwX0_copy_2 ++ []
def dkwX0_copy_1 : List UInt8 := [182, 0, 139, 172, 42, 180, 0, 28, 27, 50, 28, 42, 180, 0, 28, 29, 50, 21, 4, 21, 5, 184, 0, 154]
abbrev dktX0_copy_1 : List UInt8 := dkwX0_copy_1 ++ dktX0_copy_2
def dkwX0_copy_0 : List UInt8 := [27, 184, 0, 133, 153, 0, 10, 29, 184, 0, 133, 154, 0, 5, 2, 172, 21, 5, 156, 0, 9, 42, 8]
abbrev dktX0_copy_0 : List UInt8 := dkwX0_copy_0 ++ dktX0_copy_1
theorem dksX0_copy_0 : cX0_copy.data.toList.drop 0 = dktX0_copy_0 := by decide +kernel
theorem dksX0_copy_1 : cX0_copy.data.toList.drop 23 = dktX0_copy_1 := dk_seg dksX0_copy_0 23 rfl rfl
theorem dksX0_copy_2 : cX0_copy.data.toList.drop 47 = dktX0_copy_2 := dk_seg dksX0_copy_1 24 rfl rfl
theorem dX0_copy_0 : decode cX0_copy 0 = .ok (.iload_n 1, 1) := dk_27 (dk_at dksX0_copy_0 0 rfl rfl)
theorem dX0_copy_1 : decode cX0_copy 1 = .ok (.invokestatic 133, 3) := dk_184 0 133 (dk_at dksX0_copy_0 1 rfl rfl)
theorem dX0_copy_4 : decode cX0_copy 4 = .ok (.ifCond .eq 10, 3) := dk_153 0 10 (dk_at dksX0_copy_0 4 rfl rfl)
theorem dX0_copy_7 : decode cX0_copy 7 = .ok (.iload_n 3, 1) := dk_29 (dk_at dksX0_copy_0 7 rfl rfl)
theorem dX0_copy_8 : decode cX0_copy 8 = .ok (.invokestatic 133, 3) := dk_184 0 133 (dk_at dksX0_copy_0 8 rfl rfl)
theorem dX0_copy_11 : decode cX0_copy 11 = .ok (.ifCond .ne 5, 3) := dk_154 0 5 (dk_at dksX0_copy_0 11 rfl rfl)
theorem dX0_copy_14 : decode cX0_copy 14 = .ok (.iconst (-1), 1) := dk_2 (dk_at dksX0_copy_0 14 rfl rfl)
theorem dX0_copy_15 : decode cX0_copy 15 = .ok (.ireturn, 1) := dk_172 (dk_at dksX0_copy_0 15 rfl rfl)
theorem dX0_copy_16 : decode cX0_copy 16 = .ok (.iload 5, 2) := dk_21 5 (dk_at dksX0_copy_0 16 rfl rfl)
theorem dX0_copy_18 : decode cX0_copy 18 = .ok (.ifCond .ge 9, 3) := dk_156 0 9 (dk_at dksX0_copy_0 18 rfl rfl)
theorem dX0_copy_21 : decode cX0_copy 21 = .ok (.aload_n 0, 1) := dk_42 (dk_at dksX0_copy_0 21 rfl rfl)
theorem dX0_copy_22 : decode cX0_copy 22 = .ok (.iconst 5, 1) := dk_8 (dk_at dksX0_copy_0 22 rfl rfl)
theorem dX0_copy_23 : decode cX0_copy 23 = .ok (.invokevirtual 139, 3) := dk_182 0 139 (dk_at dksX0_copy_1 0 rfl rfl)
theorem dX0_copy_26 : decode cX0_copy 26 = .ok (.ireturn, 1) := dk_172 (dk_at dksX0_copy_1 3 rfl rfl)
theorem dX0_copy_27 : decode cX0_copy 27 = .ok (.aload_n 0, 1) := dk_42 (dk_at dksX0_copy_1 4 rfl rfl)
theorem dX0_copy_28 : decode cX0_copy 28 = .ok (.getfield 28, 3) := dk_180 0 28 (dk_at dksX0_copy_1 5 rfl rfl)
theorem dX0_copy_31 : decode cX0_copy 31 = .ok (.iload_n 1, 1) := dk_27 (dk_at dksX0_copy_1 8 rfl rfl)
theorem dX0_copy_32 : decode cX0_copy 32 = .ok (.aaload, 1) := dk_50 (dk_at dksX0_copy_1 9 rfl rfl)
theorem dX0_copy_33 : decode cX0_copy 33 = .ok (.iload_n 2, 1) := dk_28 (dk_at dksX0_copy_1 10 rfl rfl)
theorem dX0_copy_34 : decode cX0_copy 34 = .ok (.aload_n 0, 1) := dk_42 (dk_at dksX0_copy_1 11 rfl rfl)
theorem dX0_copy_35 : decode cX0_copy 35 = .ok (.getfield 28, 3) := dk_180 0 28 (dk_at dksX0_copy_1 12 rfl rfl)
theorem dX0_copy_38 : decode cX0_copy 38 = .ok (.iload_n 3, 1) := dk_29 (dk_at dksX0_copy_1 15 rfl rfl)
theorem dX0_copy_39 : decode cX0_copy 39 = .ok (.aaload, 1) := dk_50 (dk_at dksX0_copy_1 16 rfl rfl)
theorem dX0_copy_40 : decode cX0_copy 40 = .ok (.iload 4, 2) := dk_21 4 (dk_at dksX0_copy_1 17 rfl rfl)
theorem dX0_copy_42 : decode cX0_copy 42 = .ok (.iload 5, 2) := dk_21 5 (dk_at dksX0_copy_1 19 rfl rfl)
theorem dX0_copy_44 : decode cX0_copy 44 = .ok (.invokestatic 154, 3) := dk_184 0 154 (dk_at dksX0_copy_1 21 rfl rfl)
theorem dX0_copy_47 : decode cX0_copy 47 = .ok (.iconst 1, 1) := dk_4 (dk_at dksX0_copy_2 0 rfl rfl)
theorem dX0_copy_48 : decode cX0_copy 48 = .ok (.ireturn, 1) := dk_172 (dk_at dksX0_copy_2 1 rfl rfl)
theorem dX0_copy_49 : decode cX0_copy 49 = .ok (.astore 6, 2) := dk_58 6 (dk_at dksX0_copy_2 2 rfl rfl)
theorem dX0_copy_51 : decode cX0_copy 51 = .ok (.aload_n 0, 1) := dk_42 (dk_at dksX0_copy_2 4 rfl rfl)
theorem dX0_copy_52 : decode cX0_copy 52 = .ok (.iconst 1, 1) := dk_4 (dk_at dksX0_copy_2 5 rfl rfl)
theorem dX0_copy_53 : decode cX0_copy 53 = .ok (.invokevirtual 139, 3) := dk_182 0 139 (dk_at dksX0_copy_2 6 rfl rfl)
theorem dX0_copy_56 : decode cX0_copy 56 = .ok (.ireturn, 1) := dk_172 (dk_at dksX0_copy_2 9 rfl rfl)
theorem dX0_copy_57 : decode cX0_copy 57 = .ok (.astore 6, 2) := dk_58 6 (dk_at dksX0_copy_2 10 rfl rfl)
theorem dX0_copy_59 : decode cX0_copy 59 = .ok (.aload_n 0, 1) := dk_42 (dk_at dksX0_copy_2 12 rfl rfl)
theorem dX0_copy_60 : decode cX0_copy 60 = .ok (.iconst 2, 1) := dk_5 (dk_at dksX0_copy_2 13 rfl rfl)
theorem dX0_copy_61 : decode cX0_copy 61 = .ok (.invokevirtual 139, 3) := dk_182 0 139 (dk_at dksX0_copy_2 14 rfl rfl)
theorem dX0_copy_64 : decode cX0_copy 64 = .ok (.ireturn, 1) := dk_172 (dk_at dksX0_copy_2 17 rfl rfl)
abbrev cX0_mean : ByteArray := prog_1_method_14_code
def yX0_mean : MethodName := ⟨RX0, "mean", "(I)I"⟩
def dkwX0_mean_3 : List UInt8 := [42, 4, 182, 0, 139, 172, 77, 42, 7, 182, 0, 139, 172]
abbrev dktX0_mean_3 : List UInt8 := dkwX0_mean_3 ++ []
def dkwX0_mean_2 : List UInt8 := [132, 6, 1, 167, 255, 233, 42, 32, 42, 180, 0, 28, 27, 50, 190, 133, 109, 136, 4, 182, 0, 147, 172, 77]
abbrev dktX0_mean_2 : List UInt8 := dkwX0_mean_2 ++ dktX0_mean_3
def dkwX0_mean_1 : List UInt8 := [3, 54, 6, 21, 6, 21, 5, 162, 0, 22, 25, 4, 21, 6, 46, 54, 7, 32, 21, 7, 133, 97, 65]
abbrev dktX0_mean_1 : List UInt8 := dkwX0_mean_1 ++ dktX0_mean_2
def dkwX0_mean_0 : List UInt8 := [27, 184, 0, 133, 154, 0, 5, 2, 172, 9, 65, 42, 180, 0, 28, 27, 50, 58, 4, 25, 4, 190, 54, 5]
abbrev dktX0_mean_0 : List UInt8 := dkwX0_mean_0 ++ dktX0_mean_1
theorem dksX0_mean_0 : cX0_mean.data.toList.drop 0 = dktX0_mean_0 := by decide +kernel
theorem dksX0_mean_1 : cX0_mean.data.toList.drop 24 = dktX0_mean_1 := dk_seg dksX0_mean_0 24 rfl rfl
theorem dksX0_mean_2 : cX0_mean.data.toList.drop 47 = dktX0_mean_2 := dk_seg dksX0_mean_1 23 rfl rfl
theorem dksX0_mean_3 : cX0_mean.data.toList.drop 71 = dktX0_mean_3 := dk_seg dksX0_mean_2 24 rfl rfl
theorem dX0_mean_0 : decode cX0_mean 0 = .ok (.iload_n 1, 1) := dk_27 (dk_at dksX0_mean_0 0 rfl rfl)
theorem dX0_mean_1 : decode cX0_mean 1 = .ok (.invokestatic 133, 3) := dk_184 0 133 (dk_at dksX0_mean_0 1 rfl rfl)
theorem dX0_mean_4 : decode cX0_mean 4 = .ok (.ifCond .ne 5, 3) := dk_154 0 5 (dk_at dksX0_mean_0 4 rfl rfl)
theorem dX0_mean_7 : decode cX0_mean 7 = .ok (.iconst (-1), 1) := dk_2 (dk_at dksX0_mean_0 7 rfl rfl)
theorem dX0_mean_8 : decode cX0_mean 8 = .ok (.ireturn, 1) := dk_172 (dk_at dksX0_mean_0 8 rfl rfl)
theorem dX0_mean_9 : decode cX0_mean 9 = .ok (.lconst 0, 1) := dk_9 (dk_at dksX0_mean_0 9 rfl rfl)
theorem dX0_mean_10 : decode cX0_mean 10 = .ok (.lstore_n 2, 1) := dk_65 (dk_at dksX0_mean_0 10 rfl rfl)
theorem dX0_mean_11 : decode cX0_mean 11 = .ok (.aload_n 0, 1) := dk_42 (dk_at dksX0_mean_0 11 rfl rfl)
theorem dX0_mean_12 : decode cX0_mean 12 = .ok (.getfield 28, 3) := dk_180 0 28 (dk_at dksX0_mean_0 12 rfl rfl)
theorem dX0_mean_15 : decode cX0_mean 15 = .ok (.iload_n 1, 1) := dk_27 (dk_at dksX0_mean_0 15 rfl rfl)
theorem dX0_mean_16 : decode cX0_mean 16 = .ok (.aaload, 1) := dk_50 (dk_at dksX0_mean_0 16 rfl rfl)
theorem dX0_mean_17 : decode cX0_mean 17 = .ok (.astore 4, 2) := dk_58 4 (dk_at dksX0_mean_0 17 rfl rfl)
theorem dX0_mean_19 : decode cX0_mean 19 = .ok (.aload 4, 2) := dk_25 4 (dk_at dksX0_mean_0 19 rfl rfl)
theorem dX0_mean_21 : decode cX0_mean 21 = .ok (.arraylength, 1) := dk_190 (dk_at dksX0_mean_0 21 rfl rfl)
theorem dX0_mean_22 : decode cX0_mean 22 = .ok (.istore 5, 2) := dk_54 5 (dk_at dksX0_mean_0 22 rfl rfl)
theorem dX0_mean_24 : decode cX0_mean 24 = .ok (.iconst 0, 1) := dk_3 (dk_at dksX0_mean_1 0 rfl rfl)
theorem dX0_mean_25 : decode cX0_mean 25 = .ok (.istore 6, 2) := dk_54 6 (dk_at dksX0_mean_1 1 rfl rfl)
theorem dX0_mean_27 : decode cX0_mean 27 = .ok (.iload 6, 2) := dk_21 6 (dk_at dksX0_mean_1 3 rfl rfl)
theorem dX0_mean_29 : decode cX0_mean 29 = .ok (.iload 5, 2) := dk_21 5 (dk_at dksX0_mean_1 5 rfl rfl)
theorem dX0_mean_31 : decode cX0_mean 31 = .ok (.if_icmp .ge 22, 3) := dk_162 0 22 (dk_at dksX0_mean_1 7 rfl rfl)
theorem dX0_mean_34 : decode cX0_mean 34 = .ok (.aload 4, 2) := dk_25 4 (dk_at dksX0_mean_1 10 rfl rfl)
theorem dX0_mean_36 : decode cX0_mean 36 = .ok (.iload 6, 2) := dk_21 6 (dk_at dksX0_mean_1 12 rfl rfl)
theorem dX0_mean_38 : decode cX0_mean 38 = .ok (.iaload, 1) := dk_46 (dk_at dksX0_mean_1 14 rfl rfl)
theorem dX0_mean_39 : decode cX0_mean 39 = .ok (.istore 7, 2) := dk_54 7 (dk_at dksX0_mean_1 15 rfl rfl)
theorem dX0_mean_41 : decode cX0_mean 41 = .ok (.lload_n 2, 1) := dk_32 (dk_at dksX0_mean_1 17 rfl rfl)
theorem dX0_mean_42 : decode cX0_mean 42 = .ok (.iload 7, 2) := dk_21 7 (dk_at dksX0_mean_1 18 rfl rfl)
theorem dX0_mean_44 : decode cX0_mean 44 = .ok (.i2l, 1) := dk_133 (dk_at dksX0_mean_1 20 rfl rfl)
theorem dX0_mean_45 : decode cX0_mean 45 = .ok (.ladd, 1) := dk_97 (dk_at dksX0_mean_1 21 rfl rfl)
theorem dX0_mean_46 : decode cX0_mean 46 = .ok (.lstore_n 2, 1) := dk_65 (dk_at dksX0_mean_1 22 rfl rfl)
theorem dX0_mean_47 : decode cX0_mean 47 = .ok (.iinc 6 1, 3) := dk_132 6 1 (dk_at dksX0_mean_2 0 rfl rfl)
theorem dX0_mean_50 : decode cX0_mean 50 = .ok (.goto (-23), 3) := dk_167 255 233 (dk_at dksX0_mean_2 3 rfl rfl)
theorem dX0_mean_53 : decode cX0_mean 53 = .ok (.aload_n 0, 1) := dk_42 (dk_at dksX0_mean_2 6 rfl rfl)
theorem dX0_mean_54 : decode cX0_mean 54 = .ok (.lload_n 2, 1) := dk_32 (dk_at dksX0_mean_2 7 rfl rfl)
theorem dX0_mean_55 : decode cX0_mean 55 = .ok (.aload_n 0, 1) := dk_42 (dk_at dksX0_mean_2 8 rfl rfl)
theorem dX0_mean_56 : decode cX0_mean 56 = .ok (.getfield 28, 3) := dk_180 0 28 (dk_at dksX0_mean_2 9 rfl rfl)
theorem dX0_mean_59 : decode cX0_mean 59 = .ok (.iload_n 1, 1) := dk_27 (dk_at dksX0_mean_2 12 rfl rfl)
theorem dX0_mean_60 : decode cX0_mean 60 = .ok (.aaload, 1) := dk_50 (dk_at dksX0_mean_2 13 rfl rfl)
theorem dX0_mean_61 : decode cX0_mean 61 = .ok (.arraylength, 1) := dk_190 (dk_at dksX0_mean_2 14 rfl rfl)
theorem dX0_mean_62 : decode cX0_mean 62 = .ok (.i2l, 1) := dk_133 (dk_at dksX0_mean_2 15 rfl rfl)
theorem dX0_mean_63 : decode cX0_mean 63 = .ok (.ldiv, 1) := dk_109 (dk_at dksX0_mean_2 16 rfl rfl)
theorem dX0_mean_64 : decode cX0_mean 64 = .ok (.l2i, 1) := dk_136 (dk_at dksX0_mean_2 17 rfl rfl)
theorem dX0_mean_65 : decode cX0_mean 65 = .ok (.iconst 1, 1) := dk_4 (dk_at dksX0_mean_2 18 rfl rfl)
theorem dX0_mean_66 : decode cX0_mean 66 = .ok (.invokevirtual 147, 3) := dk_182 0 147 (dk_at dksX0_mean_2 19 rfl rfl)
theorem dX0_mean_69 : decode cX0_mean 69 = .ok (.ireturn, 1) := dk_172 (dk_at dksX0_mean_2 22 rfl rfl)
theorem dX0_mean_70 : decode cX0_mean 70 = .ok (.astore_n 2, 1) := dk_77 (dk_at dksX0_mean_2 23 rfl rfl)
theorem dX0_mean_71 : decode cX0_mean 71 = .ok (.aload_n 0, 1) := dk_42 (dk_at dksX0_mean_3 0 rfl rfl)
theorem dX0_mean_72 : decode cX0_mean 72 = .ok (.iconst 1, 1) := dk_4 (dk_at dksX0_mean_3 1 rfl rfl)
theorem dX0_mean_73 : decode cX0_mean 73 = .ok (.invokevirtual 139, 3) := dk_182 0 139 (dk_at dksX0_mean_3 2 rfl rfl)
theorem dX0_mean_76 : decode cX0_mean 76 = .ok (.ireturn, 1) := dk_172 (dk_at dksX0_mean_3 5 rfl rfl)
theorem dX0_mean_77 : decode cX0_mean 77 = .ok (.astore_n 2, 1) := dk_77 (dk_at dksX0_mean_3 6 rfl rfl)
theorem dX0_mean_78 : decode cX0_mean 78 = .ok (.aload_n 0, 1) := dk_42 (dk_at dksX0_mean_3 7 rfl rfl)
theorem dX0_mean_79 : decode cX0_mean 79 = .ok (.iconst 4, 1) := dk_7 (dk_at dksX0_mean_3 8 rfl rfl)
theorem dX0_mean_80 : decode cX0_mean 80 = .ok (.invokevirtual 139, 3) := dk_182 0 139 (dk_at dksX0_mean_3 9 rfl rfl)
theorem dX0_mean_83 : decode cX0_mean 83 = .ok (.ireturn, 1) := dk_172 (dk_at dksX0_mean_3 12 rfl rfl)
abbrev cX0_text : ByteArray := prog_1_method_15_code
def yX0_text : MethodName := ⟨RX0, "text", "(II)I"⟩
def dkwX0_text_2 : List UInt8 := [172, 78, 42, 8, 182, 0, 139, 172]
abbrev dktX0_text_2 : List UInt8 := dkwX0_text_2 ++ []
def dkwX0_text_1 : List UInt8 := [28, 162, 0, 15, 45, 21, 4, 16, 32, 84, 132, 4, 1, 167, 255, 241, 42, 180, 0, 34, 27, 45, 83, 28]
abbrev dktX0_text_1 : List UInt8 := dkwX0_text_1 ++ dktX0_text_2
def dkwX0_text_0 : List UInt8 := [27, 184, 0, 164, 153, 0, 9, 28, 16, 80, 164, 0, 5, 2, 172, 28, 188, 8, 78, 3, 54, 4, 21, 4]
abbrev dktX0_text_0 : List UInt8 := dkwX0_text_0 ++ dktX0_text_1
theorem dksX0_text_0 : cX0_text.data.toList.drop 0 = dktX0_text_0 := by decide +kernel
theorem dksX0_text_1 : cX0_text.data.toList.drop 24 = dktX0_text_1 := dk_seg dksX0_text_0 24 rfl rfl
theorem dksX0_text_2 : cX0_text.data.toList.drop 48 = dktX0_text_2 := dk_seg dksX0_text_1 24 rfl rfl
theorem dX0_text_0 : decode cX0_text 0 = .ok (.iload_n 1, 1) := dk_27 (dk_at dksX0_text_0 0 rfl rfl)
theorem dX0_text_1 : decode cX0_text 1 = .ok (.invokestatic 164, 3) := dk_184 0 164 (dk_at dksX0_text_0 1 rfl rfl)
theorem dX0_text_4 : decode cX0_text 4 = .ok (.ifCond .eq 9, 3) := dk_153 0 9 (dk_at dksX0_text_0 4 rfl rfl)
theorem dX0_text_7 : decode cX0_text 7 = .ok (.iload_n 2, 1) := dk_28 (dk_at dksX0_text_0 7 rfl rfl)
theorem dX0_text_8 : decode cX0_text 8 = .ok (.bipush 80, 2) := dk_16 80 (dk_at dksX0_text_0 8 rfl rfl)
theorem dX0_text_10 : decode cX0_text 10 = .ok (.if_icmp .le 5, 3) := dk_164 0 5 (dk_at dksX0_text_0 10 rfl rfl)
theorem dX0_text_13 : decode cX0_text 13 = .ok (.iconst (-1), 1) := dk_2 (dk_at dksX0_text_0 13 rfl rfl)
theorem dX0_text_14 : decode cX0_text 14 = .ok (.ireturn, 1) := dk_172 (dk_at dksX0_text_0 14 rfl rfl)
theorem dX0_text_15 : decode cX0_text 15 = .ok (.iload_n 2, 1) := dk_28 (dk_at dksX0_text_0 15 rfl rfl)
theorem dX0_text_16 : decode cX0_text 16 = .ok (.newarray .byte, 2) := dk_188_8 (dk_at dksX0_text_0 16 rfl rfl)
theorem dX0_text_18 : decode cX0_text 18 = .ok (.astore_n 3, 1) := dk_78 (dk_at dksX0_text_0 18 rfl rfl)
theorem dX0_text_19 : decode cX0_text 19 = .ok (.iconst 0, 1) := dk_3 (dk_at dksX0_text_0 19 rfl rfl)
theorem dX0_text_20 : decode cX0_text 20 = .ok (.istore 4, 2) := dk_54 4 (dk_at dksX0_text_0 20 rfl rfl)
theorem dX0_text_22 : decode cX0_text 22 = .ok (.iload 4, 2) := dk_21 4 (dk_at dksX0_text_0 22 rfl rfl)
theorem dX0_text_24 : decode cX0_text 24 = .ok (.iload_n 2, 1) := dk_28 (dk_at dksX0_text_1 0 rfl rfl)
theorem dX0_text_25 : decode cX0_text 25 = .ok (.if_icmp .ge 15, 3) := dk_162 0 15 (dk_at dksX0_text_1 1 rfl rfl)
theorem dX0_text_28 : decode cX0_text 28 = .ok (.aload_n 3, 1) := dk_45 (dk_at dksX0_text_1 4 rfl rfl)
theorem dX0_text_29 : decode cX0_text 29 = .ok (.iload 4, 2) := dk_21 4 (dk_at dksX0_text_1 5 rfl rfl)
theorem dX0_text_31 : decode cX0_text 31 = .ok (.bipush 32, 2) := dk_16 32 (dk_at dksX0_text_1 7 rfl rfl)
theorem dX0_text_33 : decode cX0_text 33 = .ok (.bastore, 1) := dk_84 (dk_at dksX0_text_1 9 rfl rfl)
theorem dX0_text_34 : decode cX0_text 34 = .ok (.iinc 4 1, 3) := dk_132 4 1 (dk_at dksX0_text_1 10 rfl rfl)
theorem dX0_text_37 : decode cX0_text 37 = .ok (.goto (-15), 3) := dk_167 255 241 (dk_at dksX0_text_1 13 rfl rfl)
theorem dX0_text_40 : decode cX0_text 40 = .ok (.aload_n 0, 1) := dk_42 (dk_at dksX0_text_1 16 rfl rfl)
theorem dX0_text_41 : decode cX0_text 41 = .ok (.getfield 34, 3) := dk_180 0 34 (dk_at dksX0_text_1 17 rfl rfl)
theorem dX0_text_44 : decode cX0_text 44 = .ok (.iload_n 1, 1) := dk_27 (dk_at dksX0_text_1 20 rfl rfl)
theorem dX0_text_45 : decode cX0_text 45 = .ok (.aload_n 3, 1) := dk_45 (dk_at dksX0_text_1 21 rfl rfl)
theorem dX0_text_46 : decode cX0_text 46 = .ok (.aastore, 1) := dk_83 (dk_at dksX0_text_1 22 rfl rfl)
theorem dX0_text_47 : decode cX0_text 47 = .ok (.iload_n 2, 1) := dk_28 (dk_at dksX0_text_1 23 rfl rfl)
theorem dX0_text_48 : decode cX0_text 48 = .ok (.ireturn, 1) := dk_172 (dk_at dksX0_text_2 0 rfl rfl)
theorem dX0_text_49 : decode cX0_text 49 = .ok (.astore_n 3, 1) := dk_78 (dk_at dksX0_text_2 1 rfl rfl)
theorem dX0_text_50 : decode cX0_text 50 = .ok (.aload_n 0, 1) := dk_42 (dk_at dksX0_text_2 2 rfl rfl)
theorem dX0_text_51 : decode cX0_text 51 = .ok (.iconst 5, 1) := dk_8 (dk_at dksX0_text_2 3 rfl rfl)
theorem dX0_text_52 : decode cX0_text 52 = .ok (.invokevirtual 139, 3) := dk_182 0 139 (dk_at dksX0_text_2 4 rfl rfl)
theorem dX0_text_55 : decode cX0_text 55 = .ok (.ireturn, 1) := dk_172 (dk_at dksX0_text_2 7 rfl rfl)
abbrev cX0_isText : ByteArray := prog_1_method_8_code
def yX0_isText : MethodName := ⟨RX0, "isText", "(I)Z"⟩
def dkwX0_isText_0 : List UInt8 := [26, 3, 6, 184, 0, 129, 172]
abbrev dktX0_isText_0 : List UInt8 := dkwX0_isText_0 ++ []
theorem dksX0_isText_0 : cX0_isText.data.toList.drop 0 = dktX0_isText_0 := by decide +kernel
theorem dX0_isText_0 : decode cX0_isText 0 = .ok (.iload_n 0, 1) := dk_26 (dk_at dksX0_isText_0 0 rfl rfl)
theorem dX0_isText_1 : decode cX0_isText 1 = .ok (.iconst 0, 1) := dk_3 (dk_at dksX0_isText_0 1 rfl rfl)
theorem dX0_isText_2 : decode cX0_isText 2 = .ok (.iconst 3, 1) := dk_6 (dk_at dksX0_isText_0 2 rfl rfl)
theorem dX0_isText_3 : decode cX0_isText 3 = .ok (.invokestatic 129, 3) := dk_184 0 129 (dk_at dksX0_isText_0 3 rfl rfl)
theorem dX0_isText_6 : decode cX0_isText 6 = .ok (.ireturn, 1) := dk_172 (dk_at dksX0_isText_0 6 rfl rfl)
abbrev cX0_put : ByteArray := prog_1_method_16_code
def yX0_put : MethodName := ⟨RX0, "put", "(III)I"⟩
def dkwX0_put_2 : List UInt8 := [182, 0, 139, 172]
abbrev dktX0_put_2 : List UInt8 := dkwX0_put_2 ++ []
def dkwX0_put_1 : List UInt8 := [50, 28, 29, 145, 84, 21, 4, 17, 3, 232, 96, 172, 58, 4, 42, 4, 182, 0, 139, 172, 58, 4, 42, 5]
abbrev dktX0_put_1 : List UInt8 := dkwX0_put_1 ++ dktX0_put_2
def dkwX0_put_0 : List UInt8 := [27, 184, 0, 164, 154, 0, 5, 2, 172, 42, 180, 0, 34, 27, 50, 28, 51, 54, 4, 42, 180, 0, 34, 27]
abbrev dktX0_put_0 : List UInt8 := dkwX0_put_0 ++ dktX0_put_1
theorem dksX0_put_0 : cX0_put.data.toList.drop 0 = dktX0_put_0 := by decide +kernel
theorem dksX0_put_1 : cX0_put.data.toList.drop 24 = dktX0_put_1 := dk_seg dksX0_put_0 24 rfl rfl
theorem dksX0_put_2 : cX0_put.data.toList.drop 48 = dktX0_put_2 := dk_seg dksX0_put_1 24 rfl rfl
theorem dX0_put_0 : decode cX0_put 0 = .ok (.iload_n 1, 1) := dk_27 (dk_at dksX0_put_0 0 rfl rfl)
theorem dX0_put_1 : decode cX0_put 1 = .ok (.invokestatic 164, 3) := dk_184 0 164 (dk_at dksX0_put_0 1 rfl rfl)
theorem dX0_put_4 : decode cX0_put 4 = .ok (.ifCond .ne 5, 3) := dk_154 0 5 (dk_at dksX0_put_0 4 rfl rfl)
theorem dX0_put_7 : decode cX0_put 7 = .ok (.iconst (-1), 1) := dk_2 (dk_at dksX0_put_0 7 rfl rfl)
theorem dX0_put_8 : decode cX0_put 8 = .ok (.ireturn, 1) := dk_172 (dk_at dksX0_put_0 8 rfl rfl)
theorem dX0_put_9 : decode cX0_put 9 = .ok (.aload_n 0, 1) := dk_42 (dk_at dksX0_put_0 9 rfl rfl)
theorem dX0_put_10 : decode cX0_put 10 = .ok (.getfield 34, 3) := dk_180 0 34 (dk_at dksX0_put_0 10 rfl rfl)
theorem dX0_put_13 : decode cX0_put 13 = .ok (.iload_n 1, 1) := dk_27 (dk_at dksX0_put_0 13 rfl rfl)
theorem dX0_put_14 : decode cX0_put 14 = .ok (.aaload, 1) := dk_50 (dk_at dksX0_put_0 14 rfl rfl)
theorem dX0_put_15 : decode cX0_put 15 = .ok (.iload_n 2, 1) := dk_28 (dk_at dksX0_put_0 15 rfl rfl)
theorem dX0_put_16 : decode cX0_put 16 = .ok (.baload, 1) := dk_51 (dk_at dksX0_put_0 16 rfl rfl)
theorem dX0_put_17 : decode cX0_put 17 = .ok (.istore 4, 2) := dk_54 4 (dk_at dksX0_put_0 17 rfl rfl)
theorem dX0_put_19 : decode cX0_put 19 = .ok (.aload_n 0, 1) := dk_42 (dk_at dksX0_put_0 19 rfl rfl)
theorem dX0_put_20 : decode cX0_put 20 = .ok (.getfield 34, 3) := dk_180 0 34 (dk_at dksX0_put_0 20 rfl rfl)
theorem dX0_put_23 : decode cX0_put 23 = .ok (.iload_n 1, 1) := dk_27 (dk_at dksX0_put_0 23 rfl rfl)
theorem dX0_put_24 : decode cX0_put 24 = .ok (.aaload, 1) := dk_50 (dk_at dksX0_put_1 0 rfl rfl)
theorem dX0_put_25 : decode cX0_put 25 = .ok (.iload_n 2, 1) := dk_28 (dk_at dksX0_put_1 1 rfl rfl)
theorem dX0_put_26 : decode cX0_put 26 = .ok (.iload_n 3, 1) := dk_29 (dk_at dksX0_put_1 2 rfl rfl)
theorem dX0_put_27 : decode cX0_put 27 = .ok (.i2b, 1) := dk_145 (dk_at dksX0_put_1 3 rfl rfl)
theorem dX0_put_28 : decode cX0_put 28 = .ok (.bastore, 1) := dk_84 (dk_at dksX0_put_1 4 rfl rfl)
theorem dX0_put_29 : decode cX0_put 29 = .ok (.iload 4, 2) := dk_21 4 (dk_at dksX0_put_1 5 rfl rfl)
theorem dX0_put_31 : decode cX0_put 31 = .ok (.sipush 1000, 3) := dk_17 3 232 (dk_at dksX0_put_1 7 rfl rfl)
theorem dX0_put_34 : decode cX0_put 34 = .ok (.iadd, 1) := dk_96 (dk_at dksX0_put_1 10 rfl rfl)
theorem dX0_put_35 : decode cX0_put 35 = .ok (.ireturn, 1) := dk_172 (dk_at dksX0_put_1 11 rfl rfl)
theorem dX0_put_36 : decode cX0_put 36 = .ok (.astore 4, 2) := dk_58 4 (dk_at dksX0_put_1 12 rfl rfl)
theorem dX0_put_38 : decode cX0_put 38 = .ok (.aload_n 0, 1) := dk_42 (dk_at dksX0_put_1 14 rfl rfl)
theorem dX0_put_39 : decode cX0_put 39 = .ok (.iconst 1, 1) := dk_4 (dk_at dksX0_put_1 15 rfl rfl)
theorem dX0_put_40 : decode cX0_put 40 = .ok (.invokevirtual 139, 3) := dk_182 0 139 (dk_at dksX0_put_1 16 rfl rfl)
theorem dX0_put_43 : decode cX0_put 43 = .ok (.ireturn, 1) := dk_172 (dk_at dksX0_put_1 19 rfl rfl)
theorem dX0_put_44 : decode cX0_put 44 = .ok (.astore 4, 2) := dk_58 4 (dk_at dksX0_put_1 20 rfl rfl)
theorem dX0_put_46 : decode cX0_put 46 = .ok (.aload_n 0, 1) := dk_42 (dk_at dksX0_put_1 22 rfl rfl)
theorem dX0_put_47 : decode cX0_put 47 = .ok (.iconst 2, 1) := dk_5 (dk_at dksX0_put_1 23 rfl rfl)
theorem dX0_put_48 : decode cX0_put 48 = .ok (.invokevirtual 139, 3) := dk_182 0 139 (dk_at dksX0_put_2 0 rfl rfl)
theorem dX0_put_51 : decode cX0_put 51 = .ok (.ireturn, 1) := dk_172 (dk_at dksX0_put_2 3 rfl rfl)
abbrev cX0_fault : ByteArray := prog_1_method_32_code
def yX0_fault : MethodName := ⟨RX0, "fault", "(I)I"⟩
def dkwX0_fault_1 : List UInt8 := [167, 0, 13, 42, 42, 180, 0, 34, 27, 50, 182, 1, 7, 172]
abbrev dktX0_fault_1 : List UInt8 := dkwX0_fault_1 ++ []
def dkwX0_fault_0 : List UInt8 := [27, 184, 0, 164, 154, 0, 5, 2, 172, 42, 180, 0, 34, 27, 50, 199, 0, 11, 42, 4, 182, 0, 139]
abbrev dktX0_fault_0 : List UInt8 := dkwX0_fault_0 ++ dktX0_fault_1
theorem dksX0_fault_0 : cX0_fault.data.toList.drop 0 = dktX0_fault_0 := by decide +kernel
theorem dksX0_fault_1 : cX0_fault.data.toList.drop 23 = dktX0_fault_1 := dk_seg dksX0_fault_0 23 rfl rfl
theorem dX0_fault_0 : decode cX0_fault 0 = .ok (.iload_n 1, 1) := dk_27 (dk_at dksX0_fault_0 0 rfl rfl)
theorem dX0_fault_1 : decode cX0_fault 1 = .ok (.invokestatic 164, 3) := dk_184 0 164 (dk_at dksX0_fault_0 1 rfl rfl)
theorem dX0_fault_4 : decode cX0_fault 4 = .ok (.ifCond .ne 5, 3) := dk_154 0 5 (dk_at dksX0_fault_0 4 rfl rfl)
theorem dX0_fault_7 : decode cX0_fault 7 = .ok (.iconst (-1), 1) := dk_2 (dk_at dksX0_fault_0 7 rfl rfl)
theorem dX0_fault_8 : decode cX0_fault 8 = .ok (.ireturn, 1) := dk_172 (dk_at dksX0_fault_0 8 rfl rfl)
theorem dX0_fault_9 : decode cX0_fault 9 = .ok (.aload_n 0, 1) := dk_42 (dk_at dksX0_fault_0 9 rfl rfl)
theorem dX0_fault_10 : decode cX0_fault 10 = .ok (.getfield 34, 3) := dk_180 0 34 (dk_at dksX0_fault_0 10 rfl rfl)
theorem dX0_fault_13 : decode cX0_fault 13 = .ok (.iload_n 1, 1) := dk_27 (dk_at dksX0_fault_0 13 rfl rfl)
theorem dX0_fault_14 : decode cX0_fault 14 = .ok (.aaload, 1) := dk_50 (dk_at dksX0_fault_0 14 rfl rfl)
theorem dX0_fault_15 : decode cX0_fault 15 = .ok (.ifnonnull 11, 3) := dk_199 0 11 (dk_at dksX0_fault_0 15 rfl rfl)
theorem dX0_fault_18 : decode cX0_fault 18 = .ok (.aload_n 0, 1) := dk_42 (dk_at dksX0_fault_0 18 rfl rfl)
theorem dX0_fault_19 : decode cX0_fault 19 = .ok (.iconst 1, 1) := dk_4 (dk_at dksX0_fault_0 19 rfl rfl)
theorem dX0_fault_20 : decode cX0_fault 20 = .ok (.invokevirtual 139, 3) := dk_182 0 139 (dk_at dksX0_fault_0 20 rfl rfl)
theorem dX0_fault_23 : decode cX0_fault 23 = .ok (.goto 13, 3) := dk_167 0 13 (dk_at dksX0_fault_1 0 rfl rfl)
theorem dX0_fault_26 : decode cX0_fault 26 = .ok (.aload_n 0, 1) := dk_42 (dk_at dksX0_fault_1 3 rfl rfl)
theorem dX0_fault_27 : decode cX0_fault 27 = .ok (.aload_n 0, 1) := dk_42 (dk_at dksX0_fault_1 4 rfl rfl)
theorem dX0_fault_28 : decode cX0_fault 28 = .ok (.getfield 34, 3) := dk_180 0 34 (dk_at dksX0_fault_1 5 rfl rfl)
theorem dX0_fault_31 : decode cX0_fault 31 = .ok (.iload_n 1, 1) := dk_27 (dk_at dksX0_fault_1 8 rfl rfl)
theorem dX0_fault_32 : decode cX0_fault 32 = .ok (.aaload, 1) := dk_50 (dk_at dksX0_fault_1 9 rfl rfl)
theorem dX0_fault_33 : decode cX0_fault 33 = .ok (.invokevirtual 263, 3) := dk_182 1 7 (dk_at dksX0_fault_1 10 rfl rfl)
theorem dX0_fault_36 : decode cX0_fault 36 = .ok (.ireturn, 1) := dk_172 (dk_at dksX0_fault_1 13 rfl rfl)
abbrev cX0_goesOn : ByteArray := prog_1_method_31_code
def yX0_goesOn : MethodName := ⟨RX0, "goesOn", "([B)I"⟩
def dkwX0_goesOn_4 : List UInt8 := [167, 0, 5, 16, 247, 172]
abbrev dktX0_goesOn_4 : List UInt8 := dkwX0_goesOn_4 ++ []
def dkwX0_goesOn_3 : List UInt8 := [182, 1, 4, 154, 0, 8, 42, 180, 0, 167, 172, 167, 255, 187, 42, 180, 0, 196, 154, 0, 8, 43, 190]
abbrev dktX0_goesOn_3 : List UInt8 := dkwX0_goesOn_3 ++ dktX0_goesOn_4
def dkwX0_goesOn_2 : List UInt8 := [28, 182, 1, 1, 154, 0, 8, 42, 180, 0, 167, 172, 42, 89, 180, 0, 167, 4, 96, 181, 0, 167, 42, 28]
abbrev dktX0_goesOn_2 : List UInt8 := dkwX0_goesOn_2 ++ dktX0_goesOn_3
def dkwX0_goesOn_1 : List UInt8 := [182, 0, 173, 61, 28, 16, 32, 160, 0, 16, 42, 89, 180, 0, 167, 4, 96, 181, 0, 167, 167, 255, 226, 42]
abbrev dktX0_goesOn_1 : List UInt8 := dkwX0_goesOn_1 ++ dktX0_goesOn_2
def dkwX0_goesOn_0 : List UInt8 := [42, 43, 181, 0, 170, 42, 3, 181, 0, 167, 42, 182, 0, 254, 42, 180, 0, 167, 43, 190, 162, 0, 66, 42]
abbrev dktX0_goesOn_0 : List UInt8 := dkwX0_goesOn_0 ++ dktX0_goesOn_1
theorem dksX0_goesOn_0 : cX0_goesOn.data.toList.drop 0 = dktX0_goesOn_0 := by decide +kernel
theorem dksX0_goesOn_1 : cX0_goesOn.data.toList.drop 24 = dktX0_goesOn_1 := dk_seg dksX0_goesOn_0 24 rfl rfl
theorem dksX0_goesOn_2 : cX0_goesOn.data.toList.drop 48 = dktX0_goesOn_2 := dk_seg dksX0_goesOn_1 24 rfl rfl
theorem dksX0_goesOn_3 : cX0_goesOn.data.toList.drop 72 = dktX0_goesOn_3 := dk_seg dksX0_goesOn_2 24 rfl rfl
theorem dksX0_goesOn_4 : cX0_goesOn.data.toList.drop 95 = dktX0_goesOn_4 := dk_seg dksX0_goesOn_3 23 rfl rfl
theorem dX0_goesOn_0 : decode cX0_goesOn 0 = .ok (.aload_n 0, 1) := dk_42 (dk_at dksX0_goesOn_0 0 rfl rfl)
theorem dX0_goesOn_1 : decode cX0_goesOn 1 = .ok (.aload_n 1, 1) := dk_43 (dk_at dksX0_goesOn_0 1 rfl rfl)
theorem dX0_goesOn_2 : decode cX0_goesOn 2 = .ok (.putfield 170, 3) := dk_181 0 170 (dk_at dksX0_goesOn_0 2 rfl rfl)
theorem dX0_goesOn_5 : decode cX0_goesOn 5 = .ok (.aload_n 0, 1) := dk_42 (dk_at dksX0_goesOn_0 5 rfl rfl)
theorem dX0_goesOn_6 : decode cX0_goesOn 6 = .ok (.iconst 0, 1) := dk_3 (dk_at dksX0_goesOn_0 6 rfl rfl)
theorem dX0_goesOn_7 : decode cX0_goesOn 7 = .ok (.putfield 167, 3) := dk_181 0 167 (dk_at dksX0_goesOn_0 7 rfl rfl)
theorem dX0_goesOn_10 : decode cX0_goesOn 10 = .ok (.aload_n 0, 1) := dk_42 (dk_at dksX0_goesOn_0 10 rfl rfl)
theorem dX0_goesOn_11 : decode cX0_goesOn 11 = .ok (.invokevirtual 254, 3) := dk_182 0 254 (dk_at dksX0_goesOn_0 11 rfl rfl)
theorem dX0_goesOn_14 : decode cX0_goesOn 14 = .ok (.aload_n 0, 1) := dk_42 (dk_at dksX0_goesOn_0 14 rfl rfl)
theorem dX0_goesOn_15 : decode cX0_goesOn 15 = .ok (.getfield 167, 3) := dk_180 0 167 (dk_at dksX0_goesOn_0 15 rfl rfl)
theorem dX0_goesOn_18 : decode cX0_goesOn 18 = .ok (.aload_n 1, 1) := dk_43 (dk_at dksX0_goesOn_0 18 rfl rfl)
theorem dX0_goesOn_19 : decode cX0_goesOn 19 = .ok (.arraylength, 1) := dk_190 (dk_at dksX0_goesOn_0 19 rfl rfl)
theorem dX0_goesOn_20 : decode cX0_goesOn 20 = .ok (.if_icmp .ge 66, 3) := dk_162 0 66 (dk_at dksX0_goesOn_0 20 rfl rfl)
theorem dX0_goesOn_23 : decode cX0_goesOn 23 = .ok (.aload_n 0, 1) := dk_42 (dk_at dksX0_goesOn_0 23 rfl rfl)
theorem dX0_goesOn_24 : decode cX0_goesOn 24 = .ok (.invokevirtual 173, 3) := dk_182 0 173 (dk_at dksX0_goesOn_1 0 rfl rfl)
theorem dX0_goesOn_27 : decode cX0_goesOn 27 = .ok (.istore_n 2, 1) := dk_61 (dk_at dksX0_goesOn_1 3 rfl rfl)
theorem dX0_goesOn_28 : decode cX0_goesOn 28 = .ok (.iload_n 2, 1) := dk_28 (dk_at dksX0_goesOn_1 4 rfl rfl)
theorem dX0_goesOn_29 : decode cX0_goesOn 29 = .ok (.bipush 32, 2) := dk_16 32 (dk_at dksX0_goesOn_1 5 rfl rfl)
theorem dX0_goesOn_31 : decode cX0_goesOn 31 = .ok (.if_icmp .ne 16, 3) := dk_160 0 16 (dk_at dksX0_goesOn_1 7 rfl rfl)
theorem dX0_goesOn_34 : decode cX0_goesOn 34 = .ok (.aload_n 0, 1) := dk_42 (dk_at dksX0_goesOn_1 10 rfl rfl)
theorem dX0_goesOn_35 : decode cX0_goesOn 35 = .ok (.dup, 1) := dk_89 (dk_at dksX0_goesOn_1 11 rfl rfl)
theorem dX0_goesOn_36 : decode cX0_goesOn 36 = .ok (.getfield 167, 3) := dk_180 0 167 (dk_at dksX0_goesOn_1 12 rfl rfl)
theorem dX0_goesOn_39 : decode cX0_goesOn 39 = .ok (.iconst 1, 1) := dk_4 (dk_at dksX0_goesOn_1 15 rfl rfl)
theorem dX0_goesOn_40 : decode cX0_goesOn 40 = .ok (.iadd, 1) := dk_96 (dk_at dksX0_goesOn_1 16 rfl rfl)
theorem dX0_goesOn_41 : decode cX0_goesOn 41 = .ok (.putfield 167, 3) := dk_181 0 167 (dk_at dksX0_goesOn_1 17 rfl rfl)
theorem dX0_goesOn_44 : decode cX0_goesOn 44 = .ok (.goto (-30), 3) := dk_167 255 226 (dk_at dksX0_goesOn_1 20 rfl rfl)
theorem dX0_goesOn_47 : decode cX0_goesOn 47 = .ok (.aload_n 0, 1) := dk_42 (dk_at dksX0_goesOn_1 23 rfl rfl)
theorem dX0_goesOn_48 : decode cX0_goesOn 48 = .ok (.iload_n 2, 1) := dk_28 (dk_at dksX0_goesOn_2 0 rfl rfl)
theorem dX0_goesOn_49 : decode cX0_goesOn 49 = .ok (.invokevirtual 257, 3) := dk_182 1 1 (dk_at dksX0_goesOn_2 1 rfl rfl)
theorem dX0_goesOn_52 : decode cX0_goesOn 52 = .ok (.ifCond .ne 8, 3) := dk_154 0 8 (dk_at dksX0_goesOn_2 4 rfl rfl)
theorem dX0_goesOn_55 : decode cX0_goesOn 55 = .ok (.aload_n 0, 1) := dk_42 (dk_at dksX0_goesOn_2 7 rfl rfl)
theorem dX0_goesOn_56 : decode cX0_goesOn 56 = .ok (.getfield 167, 3) := dk_180 0 167 (dk_at dksX0_goesOn_2 8 rfl rfl)
theorem dX0_goesOn_59 : decode cX0_goesOn 59 = .ok (.ireturn, 1) := dk_172 (dk_at dksX0_goesOn_2 11 rfl rfl)
theorem dX0_goesOn_60 : decode cX0_goesOn 60 = .ok (.aload_n 0, 1) := dk_42 (dk_at dksX0_goesOn_2 12 rfl rfl)
theorem dX0_goesOn_61 : decode cX0_goesOn 61 = .ok (.dup, 1) := dk_89 (dk_at dksX0_goesOn_2 13 rfl rfl)
theorem dX0_goesOn_62 : decode cX0_goesOn 62 = .ok (.getfield 167, 3) := dk_180 0 167 (dk_at dksX0_goesOn_2 14 rfl rfl)
theorem dX0_goesOn_65 : decode cX0_goesOn 65 = .ok (.iconst 1, 1) := dk_4 (dk_at dksX0_goesOn_2 17 rfl rfl)
theorem dX0_goesOn_66 : decode cX0_goesOn 66 = .ok (.iadd, 1) := dk_96 (dk_at dksX0_goesOn_2 18 rfl rfl)
theorem dX0_goesOn_67 : decode cX0_goesOn 67 = .ok (.putfield 167, 3) := dk_181 0 167 (dk_at dksX0_goesOn_2 19 rfl rfl)
theorem dX0_goesOn_70 : decode cX0_goesOn 70 = .ok (.aload_n 0, 1) := dk_42 (dk_at dksX0_goesOn_2 22 rfl rfl)
theorem dX0_goesOn_71 : decode cX0_goesOn 71 = .ok (.iload_n 2, 1) := dk_28 (dk_at dksX0_goesOn_2 23 rfl rfl)
theorem dX0_goesOn_72 : decode cX0_goesOn 72 = .ok (.invokevirtual 260, 3) := dk_182 1 4 (dk_at dksX0_goesOn_3 0 rfl rfl)
theorem dX0_goesOn_75 : decode cX0_goesOn 75 = .ok (.ifCond .ne 8, 3) := dk_154 0 8 (dk_at dksX0_goesOn_3 3 rfl rfl)
theorem dX0_goesOn_78 : decode cX0_goesOn 78 = .ok (.aload_n 0, 1) := dk_42 (dk_at dksX0_goesOn_3 6 rfl rfl)
theorem dX0_goesOn_79 : decode cX0_goesOn 79 = .ok (.getfield 167, 3) := dk_180 0 167 (dk_at dksX0_goesOn_3 7 rfl rfl)
theorem dX0_goesOn_82 : decode cX0_goesOn 82 = .ok (.ireturn, 1) := dk_172 (dk_at dksX0_goesOn_3 10 rfl rfl)
theorem dX0_goesOn_83 : decode cX0_goesOn 83 = .ok (.goto (-69), 3) := dk_167 255 187 (dk_at dksX0_goesOn_3 11 rfl rfl)
theorem dX0_goesOn_86 : decode cX0_goesOn 86 = .ok (.aload_n 0, 1) := dk_42 (dk_at dksX0_goesOn_3 14 rfl rfl)
theorem dX0_goesOn_87 : decode cX0_goesOn 87 = .ok (.getfield 196, 3) := dk_180 0 196 (dk_at dksX0_goesOn_3 15 rfl rfl)
theorem dX0_goesOn_90 : decode cX0_goesOn 90 = .ok (.ifCond .ne 8, 3) := dk_154 0 8 (dk_at dksX0_goesOn_3 18 rfl rfl)
theorem dX0_goesOn_93 : decode cX0_goesOn 93 = .ok (.aload_n 1, 1) := dk_43 (dk_at dksX0_goesOn_3 21 rfl rfl)
theorem dX0_goesOn_94 : decode cX0_goesOn 94 = .ok (.arraylength, 1) := dk_190 (dk_at dksX0_goesOn_3 22 rfl rfl)
theorem dX0_goesOn_95 : decode cX0_goesOn 95 = .ok (.goto 5, 3) := dk_167 0 5 (dk_at dksX0_goesOn_4 0 rfl rfl)
theorem dX0_goesOn_98 : decode cX0_goesOn 98 = .ok (.bipush (-9), 2) := dk_16 247 (dk_at dksX0_goesOn_4 3 rfl rfl)
theorem dX0_goesOn_100 : decode cX0_goesOn 100 = .ok (.ireturn, 1) := dk_172 (dk_at dksX0_goesOn_4 5 rfl rfl)
abbrev cX0_wipe : ByteArray := prog_1_method_30_code
def yX0_wipe : MethodName := ⟨RX0, "wipe", "()V"⟩
def dkwX0_wipe_2 : List UInt8 := [167, 255, 241, 177]
abbrev dktX0_wipe_2 : List UInt8 := dkwX0_wipe_2 ++ []
def dkwX0_wipe_1 : List UInt8 := [89, 3, 4, 84, 181, 0, 232, 3, 60, 27, 6, 162, 0, 16, 42, 180, 0, 62, 27, 7, 79, 132, 1, 1]
abbrev dktX0_wipe_1 : List UInt8 := dkwX0_wipe_1 ++ dktX0_wipe_2
def dkwX0_wipe_0 : List UInt8 := [42, 3, 181, 0, 196, 42, 3, 181, 0, 223, 42, 3, 181, 0, 226, 42, 3, 181, 0, 229, 42, 4, 188, 8]
abbrev dktX0_wipe_0 : List UInt8 := dkwX0_wipe_0 ++ dktX0_wipe_1
theorem dksX0_wipe_0 : cX0_wipe.data.toList.drop 0 = dktX0_wipe_0 := by decide +kernel
theorem dksX0_wipe_1 : cX0_wipe.data.toList.drop 24 = dktX0_wipe_1 := dk_seg dksX0_wipe_0 24 rfl rfl
theorem dksX0_wipe_2 : cX0_wipe.data.toList.drop 48 = dktX0_wipe_2 := dk_seg dksX0_wipe_1 24 rfl rfl
theorem dX0_wipe_0 : decode cX0_wipe 0 = .ok (.aload_n 0, 1) := dk_42 (dk_at dksX0_wipe_0 0 rfl rfl)
theorem dX0_wipe_1 : decode cX0_wipe 1 = .ok (.iconst 0, 1) := dk_3 (dk_at dksX0_wipe_0 1 rfl rfl)
theorem dX0_wipe_2 : decode cX0_wipe 2 = .ok (.putfield 196, 3) := dk_181 0 196 (dk_at dksX0_wipe_0 2 rfl rfl)
theorem dX0_wipe_5 : decode cX0_wipe 5 = .ok (.aload_n 0, 1) := dk_42 (dk_at dksX0_wipe_0 5 rfl rfl)
theorem dX0_wipe_6 : decode cX0_wipe 6 = .ok (.iconst 0, 1) := dk_3 (dk_at dksX0_wipe_0 6 rfl rfl)
theorem dX0_wipe_7 : decode cX0_wipe 7 = .ok (.putfield 223, 3) := dk_181 0 223 (dk_at dksX0_wipe_0 7 rfl rfl)
theorem dX0_wipe_10 : decode cX0_wipe 10 = .ok (.aload_n 0, 1) := dk_42 (dk_at dksX0_wipe_0 10 rfl rfl)
theorem dX0_wipe_11 : decode cX0_wipe 11 = .ok (.iconst 0, 1) := dk_3 (dk_at dksX0_wipe_0 11 rfl rfl)
theorem dX0_wipe_12 : decode cX0_wipe 12 = .ok (.putfield 226, 3) := dk_181 0 226 (dk_at dksX0_wipe_0 12 rfl rfl)
theorem dX0_wipe_15 : decode cX0_wipe 15 = .ok (.aload_n 0, 1) := dk_42 (dk_at dksX0_wipe_0 15 rfl rfl)
theorem dX0_wipe_16 : decode cX0_wipe 16 = .ok (.iconst 0, 1) := dk_3 (dk_at dksX0_wipe_0 16 rfl rfl)
theorem dX0_wipe_17 : decode cX0_wipe 17 = .ok (.putfield 229, 3) := dk_181 0 229 (dk_at dksX0_wipe_0 17 rfl rfl)
theorem dX0_wipe_20 : decode cX0_wipe 20 = .ok (.aload_n 0, 1) := dk_42 (dk_at dksX0_wipe_0 20 rfl rfl)
theorem dX0_wipe_21 : decode cX0_wipe 21 = .ok (.iconst 1, 1) := dk_4 (dk_at dksX0_wipe_0 21 rfl rfl)
theorem dX0_wipe_22 : decode cX0_wipe 22 = .ok (.newarray .byte, 2) := dk_188_8 (dk_at dksX0_wipe_0 22 rfl rfl)
theorem dX0_wipe_24 : decode cX0_wipe 24 = .ok (.dup, 1) := dk_89 (dk_at dksX0_wipe_1 0 rfl rfl)
theorem dX0_wipe_25 : decode cX0_wipe 25 = .ok (.iconst 0, 1) := dk_3 (dk_at dksX0_wipe_1 1 rfl rfl)
theorem dX0_wipe_26 : decode cX0_wipe 26 = .ok (.iconst 1, 1) := dk_4 (dk_at dksX0_wipe_1 2 rfl rfl)
theorem dX0_wipe_27 : decode cX0_wipe 27 = .ok (.bastore, 1) := dk_84 (dk_at dksX0_wipe_1 3 rfl rfl)
theorem dX0_wipe_28 : decode cX0_wipe 28 = .ok (.putfield 232, 3) := dk_181 0 232 (dk_at dksX0_wipe_1 4 rfl rfl)
theorem dX0_wipe_31 : decode cX0_wipe 31 = .ok (.iconst 0, 1) := dk_3 (dk_at dksX0_wipe_1 7 rfl rfl)
theorem dX0_wipe_32 : decode cX0_wipe 32 = .ok (.istore_n 1, 1) := dk_60 (dk_at dksX0_wipe_1 8 rfl rfl)
theorem dX0_wipe_33 : decode cX0_wipe 33 = .ok (.iload_n 1, 1) := dk_27 (dk_at dksX0_wipe_1 9 rfl rfl)
theorem dX0_wipe_34 : decode cX0_wipe 34 = .ok (.iconst 3, 1) := dk_6 (dk_at dksX0_wipe_1 10 rfl rfl)
theorem dX0_wipe_35 : decode cX0_wipe 35 = .ok (.if_icmp .ge 16, 3) := dk_162 0 16 (dk_at dksX0_wipe_1 11 rfl rfl)
theorem dX0_wipe_38 : decode cX0_wipe 38 = .ok (.aload_n 0, 1) := dk_42 (dk_at dksX0_wipe_1 14 rfl rfl)
theorem dX0_wipe_39 : decode cX0_wipe 39 = .ok (.getfield 62, 3) := dk_180 0 62 (dk_at dksX0_wipe_1 15 rfl rfl)
theorem dX0_wipe_42 : decode cX0_wipe 42 = .ok (.iload_n 1, 1) := dk_27 (dk_at dksX0_wipe_1 18 rfl rfl)
theorem dX0_wipe_43 : decode cX0_wipe 43 = .ok (.iconst 4, 1) := dk_7 (dk_at dksX0_wipe_1 19 rfl rfl)
theorem dX0_wipe_44 : decode cX0_wipe 44 = .ok (.iastore, 1) := dk_79 (dk_at dksX0_wipe_1 20 rfl rfl)
theorem dX0_wipe_45 : decode cX0_wipe 45 = .ok (.iinc 1 1, 3) := dk_132 1 1 (dk_at dksX0_wipe_1 21 rfl rfl)
theorem dX0_wipe_48 : decode cX0_wipe 48 = .ok (.goto (-15), 3) := dk_167 255 241 (dk_at dksX0_wipe_2 0 rfl rfl)
theorem dX0_wipe_51 : decode cX0_wipe 51 = .ok (.return_, 1) := dk_177 (dk_at dksX0_wipe_2 3 rfl rfl)
abbrev cX0_here : ByteArray := prog_1_method_17_code
def yX0_here : MethodName := ⟨RX0, "here", "()I"⟩
def dkwX0_here_1 : List UInt8 := [16, 247, 172]
abbrev dktX0_here_1 : List UInt8 := dkwX0_here_1 ++ []
def dkwX0_here_0 : List UInt8 := [42, 180, 0, 167, 42, 180, 0, 170, 190, 162, 0, 15, 42, 180, 0, 170, 42, 180, 0, 167, 51, 167, 0, 5]
abbrev dktX0_here_0 : List UInt8 := dkwX0_here_0 ++ dktX0_here_1
theorem dksX0_here_0 : cX0_here.data.toList.drop 0 = dktX0_here_0 := by decide +kernel
theorem dksX0_here_1 : cX0_here.data.toList.drop 24 = dktX0_here_1 := dk_seg dksX0_here_0 24 rfl rfl
theorem dX0_here_0 : decode cX0_here 0 = .ok (.aload_n 0, 1) := dk_42 (dk_at dksX0_here_0 0 rfl rfl)
theorem dX0_here_1 : decode cX0_here 1 = .ok (.getfield 167, 3) := dk_180 0 167 (dk_at dksX0_here_0 1 rfl rfl)
theorem dX0_here_4 : decode cX0_here 4 = .ok (.aload_n 0, 1) := dk_42 (dk_at dksX0_here_0 4 rfl rfl)
theorem dX0_here_5 : decode cX0_here 5 = .ok (.getfield 170, 3) := dk_180 0 170 (dk_at dksX0_here_0 5 rfl rfl)
theorem dX0_here_8 : decode cX0_here 8 = .ok (.arraylength, 1) := dk_190 (dk_at dksX0_here_0 8 rfl rfl)
theorem dX0_here_9 : decode cX0_here 9 = .ok (.if_icmp .ge 15, 3) := dk_162 0 15 (dk_at dksX0_here_0 9 rfl rfl)
theorem dX0_here_12 : decode cX0_here 12 = .ok (.aload_n 0, 1) := dk_42 (dk_at dksX0_here_0 12 rfl rfl)
theorem dX0_here_13 : decode cX0_here 13 = .ok (.getfield 170, 3) := dk_180 0 170 (dk_at dksX0_here_0 13 rfl rfl)
theorem dX0_here_16 : decode cX0_here 16 = .ok (.aload_n 0, 1) := dk_42 (dk_at dksX0_here_0 16 rfl rfl)
theorem dX0_here_17 : decode cX0_here 17 = .ok (.getfield 167, 3) := dk_180 0 167 (dk_at dksX0_here_0 17 rfl rfl)
theorem dX0_here_20 : decode cX0_here 20 = .ok (.baload, 1) := dk_51 (dk_at dksX0_here_0 20 rfl rfl)
theorem dX0_here_21 : decode cX0_here 21 = .ok (.goto 5, 3) := dk_167 0 5 (dk_at dksX0_here_0 21 rfl rfl)
theorem dX0_here_24 : decode cX0_here 24 = .ok (.bipush (-9), 2) := dk_16 247 (dk_at dksX0_here_1 0 rfl rfl)
theorem dX0_here_26 : decode cX0_here 26 = .ok (.ireturn, 1) := dk_172 (dk_at dksX0_here_1 2 rfl rfl)
abbrev cX0_mayBegin : ByteArray := prog_1_method_29_code
def yX0_mayBegin : MethodName := ⟨RX0, "mayBegin", "(I)Z"⟩
def dkwX0_mayBegin_2 : List UInt8 := [160, 0, 7, 4, 167, 0, 4, 3, 172]
abbrev dktX0_mayBegin_2 : List UInt8 := dkwX0_mayBegin_2 ++ []
def dkwX0_mayBegin_1 : List UInt8 := [180, 0, 223, 5, 161, 0, 21, 27, 16, 106, 159, 0, 15, 27, 16, 99, 159, 0, 9, 27, 16, 109]
abbrev dktX0_mayBegin_1 : List UInt8 := dkwX0_mayBegin_1 ++ dktX0_mayBegin_2
def dkwX0_mayBegin_0 : List UInt8 := [27, 184, 0, 251, 153, 0, 12, 42, 180, 0, 196, 16, 6, 161, 0, 35, 27, 16, 101, 160, 0, 11, 42]
abbrev dktX0_mayBegin_0 : List UInt8 := dkwX0_mayBegin_0 ++ dktX0_mayBegin_1
theorem dksX0_mayBegin_0 : cX0_mayBegin.data.toList.drop 0 = dktX0_mayBegin_0 := by decide +kernel
theorem dksX0_mayBegin_1 : cX0_mayBegin.data.toList.drop 23 = dktX0_mayBegin_1 := dk_seg dksX0_mayBegin_0 23 rfl rfl
theorem dksX0_mayBegin_2 : cX0_mayBegin.data.toList.drop 45 = dktX0_mayBegin_2 := dk_seg dksX0_mayBegin_1 22 rfl rfl
theorem dX0_mayBegin_0 : decode cX0_mayBegin 0 = .ok (.iload_n 1, 1) := dk_27 (dk_at dksX0_mayBegin_0 0 rfl rfl)
theorem dX0_mayBegin_1 : decode cX0_mayBegin 1 = .ok (.invokestatic 251, 3) := dk_184 0 251 (dk_at dksX0_mayBegin_0 1 rfl rfl)
theorem dX0_mayBegin_4 : decode cX0_mayBegin 4 = .ok (.ifCond .eq 12, 3) := dk_153 0 12 (dk_at dksX0_mayBegin_0 4 rfl rfl)
theorem dX0_mayBegin_7 : decode cX0_mayBegin 7 = .ok (.aload_n 0, 1) := dk_42 (dk_at dksX0_mayBegin_0 7 rfl rfl)
theorem dX0_mayBegin_8 : decode cX0_mayBegin 8 = .ok (.getfield 196, 3) := dk_180 0 196 (dk_at dksX0_mayBegin_0 8 rfl rfl)
theorem dX0_mayBegin_11 : decode cX0_mayBegin 11 = .ok (.bipush 6, 2) := dk_16 6 (dk_at dksX0_mayBegin_0 11 rfl rfl)
theorem dX0_mayBegin_13 : decode cX0_mayBegin 13 = .ok (.if_icmp .lt 35, 3) := dk_161 0 35 (dk_at dksX0_mayBegin_0 13 rfl rfl)
theorem dX0_mayBegin_16 : decode cX0_mayBegin 16 = .ok (.iload_n 1, 1) := dk_27 (dk_at dksX0_mayBegin_0 16 rfl rfl)
theorem dX0_mayBegin_17 : decode cX0_mayBegin 17 = .ok (.bipush 101, 2) := dk_16 101 (dk_at dksX0_mayBegin_0 17 rfl rfl)
theorem dX0_mayBegin_19 : decode cX0_mayBegin 19 = .ok (.if_icmp .ne 11, 3) := dk_160 0 11 (dk_at dksX0_mayBegin_0 19 rfl rfl)
theorem dX0_mayBegin_22 : decode cX0_mayBegin 22 = .ok (.aload_n 0, 1) := dk_42 (dk_at dksX0_mayBegin_0 22 rfl rfl)
theorem dX0_mayBegin_23 : decode cX0_mayBegin 23 = .ok (.getfield 223, 3) := dk_180 0 223 (dk_at dksX0_mayBegin_1 0 rfl rfl)
theorem dX0_mayBegin_26 : decode cX0_mayBegin 26 = .ok (.iconst 2, 1) := dk_5 (dk_at dksX0_mayBegin_1 3 rfl rfl)
theorem dX0_mayBegin_27 : decode cX0_mayBegin 27 = .ok (.if_icmp .lt 21, 3) := dk_161 0 21 (dk_at dksX0_mayBegin_1 4 rfl rfl)
theorem dX0_mayBegin_30 : decode cX0_mayBegin 30 = .ok (.iload_n 1, 1) := dk_27 (dk_at dksX0_mayBegin_1 7 rfl rfl)
theorem dX0_mayBegin_31 : decode cX0_mayBegin 31 = .ok (.bipush 106, 2) := dk_16 106 (dk_at dksX0_mayBegin_1 8 rfl rfl)
theorem dX0_mayBegin_33 : decode cX0_mayBegin 33 = .ok (.if_icmp .eq 15, 3) := dk_159 0 15 (dk_at dksX0_mayBegin_1 10 rfl rfl)
theorem dX0_mayBegin_36 : decode cX0_mayBegin 36 = .ok (.iload_n 1, 1) := dk_27 (dk_at dksX0_mayBegin_1 13 rfl rfl)
theorem dX0_mayBegin_37 : decode cX0_mayBegin 37 = .ok (.bipush 99, 2) := dk_16 99 (dk_at dksX0_mayBegin_1 14 rfl rfl)
theorem dX0_mayBegin_39 : decode cX0_mayBegin 39 = .ok (.if_icmp .eq 9, 3) := dk_159 0 9 (dk_at dksX0_mayBegin_1 16 rfl rfl)
theorem dX0_mayBegin_42 : decode cX0_mayBegin 42 = .ok (.iload_n 1, 1) := dk_27 (dk_at dksX0_mayBegin_1 19 rfl rfl)
theorem dX0_mayBegin_43 : decode cX0_mayBegin 43 = .ok (.bipush 109, 2) := dk_16 109 (dk_at dksX0_mayBegin_1 20 rfl rfl)
theorem dX0_mayBegin_45 : decode cX0_mayBegin 45 = .ok (.if_icmp .ne 7, 3) := dk_160 0 7 (dk_at dksX0_mayBegin_2 0 rfl rfl)
theorem dX0_mayBegin_48 : decode cX0_mayBegin 48 = .ok (.iconst 1, 1) := dk_4 (dk_at dksX0_mayBegin_2 3 rfl rfl)
theorem dX0_mayBegin_49 : decode cX0_mayBegin 49 = .ok (.goto 4, 3) := dk_167 0 4 (dk_at dksX0_mayBegin_2 4 rfl rfl)
theorem dX0_mayBegin_52 : decode cX0_mayBegin 52 = .ok (.iconst 0, 1) := dk_3 (dk_at dksX0_mayBegin_2 7 rfl rfl)
theorem dX0_mayBegin_53 : decode cX0_mayBegin 53 = .ok (.ireturn, 1) := dk_172 (dk_at dksX0_mayBegin_2 8 rfl rfl)
abbrev cX0_isSortLetter : ByteArray := prog_1_method_28_code
def yX0_isSortLetter : MethodName := ⟨RX0, "isSortLetter", "(I)Z"⟩
def dkwX0_isSortLetter_1 : List UInt8 := [26, 16, 79, 160, 0, 7, 4, 167, 0, 4, 3, 172]
abbrev dktX0_isSortLetter_1 : List UInt8 := dkwX0_isSortLetter_1 ++ []
def dkwX0_isSortLetter_0 : List UInt8 := [26, 16, 84, 159, 0, 27, 26, 16, 86, 159, 0, 21, 26, 16, 87, 159, 0, 15, 26, 16, 78, 159, 0, 9]
abbrev dktX0_isSortLetter_0 : List UInt8 := dkwX0_isSortLetter_0 ++ dktX0_isSortLetter_1
theorem dksX0_isSortLetter_0 : cX0_isSortLetter.data.toList.drop 0 = dktX0_isSortLetter_0 := by decide +kernel
theorem dksX0_isSortLetter_1 : cX0_isSortLetter.data.toList.drop 24 = dktX0_isSortLetter_1 := dk_seg dksX0_isSortLetter_0 24 rfl rfl
theorem dX0_isSortLetter_0 : decode cX0_isSortLetter 0 = .ok (.iload_n 0, 1) := dk_26 (dk_at dksX0_isSortLetter_0 0 rfl rfl)
theorem dX0_isSortLetter_1 : decode cX0_isSortLetter 1 = .ok (.bipush 84, 2) := dk_16 84 (dk_at dksX0_isSortLetter_0 1 rfl rfl)
theorem dX0_isSortLetter_3 : decode cX0_isSortLetter 3 = .ok (.if_icmp .eq 27, 3) := dk_159 0 27 (dk_at dksX0_isSortLetter_0 3 rfl rfl)
theorem dX0_isSortLetter_6 : decode cX0_isSortLetter 6 = .ok (.iload_n 0, 1) := dk_26 (dk_at dksX0_isSortLetter_0 6 rfl rfl)
theorem dX0_isSortLetter_7 : decode cX0_isSortLetter 7 = .ok (.bipush 86, 2) := dk_16 86 (dk_at dksX0_isSortLetter_0 7 rfl rfl)
theorem dX0_isSortLetter_9 : decode cX0_isSortLetter 9 = .ok (.if_icmp .eq 21, 3) := dk_159 0 21 (dk_at dksX0_isSortLetter_0 9 rfl rfl)
theorem dX0_isSortLetter_12 : decode cX0_isSortLetter 12 = .ok (.iload_n 0, 1) := dk_26 (dk_at dksX0_isSortLetter_0 12 rfl rfl)
theorem dX0_isSortLetter_13 : decode cX0_isSortLetter 13 = .ok (.bipush 87, 2) := dk_16 87 (dk_at dksX0_isSortLetter_0 13 rfl rfl)
theorem dX0_isSortLetter_15 : decode cX0_isSortLetter 15 = .ok (.if_icmp .eq 15, 3) := dk_159 0 15 (dk_at dksX0_isSortLetter_0 15 rfl rfl)
theorem dX0_isSortLetter_18 : decode cX0_isSortLetter 18 = .ok (.iload_n 0, 1) := dk_26 (dk_at dksX0_isSortLetter_0 18 rfl rfl)
theorem dX0_isSortLetter_19 : decode cX0_isSortLetter 19 = .ok (.bipush 78, 2) := dk_16 78 (dk_at dksX0_isSortLetter_0 19 rfl rfl)
theorem dX0_isSortLetter_21 : decode cX0_isSortLetter 21 = .ok (.if_icmp .eq 9, 3) := dk_159 0 9 (dk_at dksX0_isSortLetter_0 21 rfl rfl)
theorem dX0_isSortLetter_24 : decode cX0_isSortLetter 24 = .ok (.iload_n 0, 1) := dk_26 (dk_at dksX0_isSortLetter_1 0 rfl rfl)
theorem dX0_isSortLetter_25 : decode cX0_isSortLetter 25 = .ok (.bipush 79, 2) := dk_16 79 (dk_at dksX0_isSortLetter_1 1 rfl rfl)
theorem dX0_isSortLetter_27 : decode cX0_isSortLetter 27 = .ok (.if_icmp .ne 7, 3) := dk_160 0 7 (dk_at dksX0_isSortLetter_1 3 rfl rfl)
theorem dX0_isSortLetter_30 : decode cX0_isSortLetter 30 = .ok (.iconst 1, 1) := dk_4 (dk_at dksX0_isSortLetter_1 6 rfl rfl)
theorem dX0_isSortLetter_31 : decode cX0_isSortLetter 31 = .ok (.goto 4, 3) := dk_167 0 4 (dk_at dksX0_isSortLetter_1 7 rfl rfl)
theorem dX0_isSortLetter_34 : decode cX0_isSortLetter 34 = .ok (.iconst 0, 1) := dk_3 (dk_at dksX0_isSortLetter_1 10 rfl rfl)
theorem dX0_isSortLetter_35 : decode cX0_isSortLetter 35 = .ok (.ireturn, 1) := dk_172 (dk_at dksX0_isSortLetter_1 11 rfl rfl)
abbrev cX0_readsItem : ByteArray := prog_1_method_27_code
def yX0_readsItem : MethodName := ⟨RX0, "readsItem", "(I)Z"⟩
def dkwX0_readsItem_3 : List UInt8 := [182, 0, 248, 172]
abbrev dktX0_readsItem_3 : List UInt8 := dkwX0_readsItem_3 ++ []
def dkwX0_readsItem_2 : List UInt8 := [42, 182, 0, 235, 172, 42, 182, 0, 239, 172, 42, 182, 0, 242, 172, 42, 182, 0, 245, 172, 42, 27]
abbrev dktX0_readsItem_2 : List UInt8 := dkwX0_readsItem_2 ++ dktX0_readsItem_3
def dkwX0_readsItem_1 : List UInt8 := [171, 0, 0, 0, 0, 0, 63, 0, 0, 0, 4, 0, 0, 0, 99, 0, 0, 0, 53, 0, 0, 0, 101, 0, 0, 0, 43, 0, 0, 0, 106, 0, 0, 0, 48, 0, 0, 0, 109, 0, 0, 0, 58]
abbrev dktX0_readsItem_1 : List UInt8 := dkwX0_readsItem_1 ++ dktX0_readsItem_2
def dkwX0_readsItem_0 : List UInt8 := [27]
abbrev dktX0_readsItem_0 : List UInt8 := dkwX0_readsItem_0 ++ dktX0_readsItem_1
theorem dksX0_readsItem_0 : cX0_readsItem.data.toList.drop 0 = dktX0_readsItem_0 := by decide +kernel
theorem dksX0_readsItem_1 : cX0_readsItem.data.toList.drop 1 = dktX0_readsItem_1 := dk_seg dksX0_readsItem_0 1 rfl rfl
theorem dksX0_readsItem_2 : cX0_readsItem.data.toList.drop 44 = dktX0_readsItem_2 := dk_seg dksX0_readsItem_1 43 rfl rfl
theorem dksX0_readsItem_3 : cX0_readsItem.data.toList.drop 66 = dktX0_readsItem_3 := dk_seg dksX0_readsItem_2 22 rfl rfl
theorem dX0_readsItem_0 : decode cX0_readsItem 0 = .ok (.iload_n 1, 1) := dk_27 (dk_at dksX0_readsItem_0 0 rfl rfl)
theorem dX0_readsItem_1 : decode cX0_readsItem 1 = .ok (.lookupswitch 63 #[(99, 53), (101, 43), (106, 48), (109, 58)], 43) := by decide +kernel
theorem dX0_readsItem_44 : decode cX0_readsItem 44 = .ok (.aload_n 0, 1) := dk_42 (dk_at dksX0_readsItem_2 0 rfl rfl)
theorem dX0_readsItem_45 : decode cX0_readsItem 45 = .ok (.invokevirtual 235, 3) := dk_182 0 235 (dk_at dksX0_readsItem_2 1 rfl rfl)
theorem dX0_readsItem_48 : decode cX0_readsItem 48 = .ok (.ireturn, 1) := dk_172 (dk_at dksX0_readsItem_2 4 rfl rfl)
theorem dX0_readsItem_49 : decode cX0_readsItem 49 = .ok (.aload_n 0, 1) := dk_42 (dk_at dksX0_readsItem_2 5 rfl rfl)
theorem dX0_readsItem_50 : decode cX0_readsItem 50 = .ok (.invokevirtual 239, 3) := dk_182 0 239 (dk_at dksX0_readsItem_2 6 rfl rfl)
theorem dX0_readsItem_53 : decode cX0_readsItem 53 = .ok (.ireturn, 1) := dk_172 (dk_at dksX0_readsItem_2 9 rfl rfl)
theorem dX0_readsItem_54 : decode cX0_readsItem 54 = .ok (.aload_n 0, 1) := dk_42 (dk_at dksX0_readsItem_2 10 rfl rfl)
theorem dX0_readsItem_55 : decode cX0_readsItem 55 = .ok (.invokevirtual 242, 3) := dk_182 0 242 (dk_at dksX0_readsItem_2 11 rfl rfl)
theorem dX0_readsItem_58 : decode cX0_readsItem 58 = .ok (.ireturn, 1) := dk_172 (dk_at dksX0_readsItem_2 14 rfl rfl)
theorem dX0_readsItem_59 : decode cX0_readsItem 59 = .ok (.aload_n 0, 1) := dk_42 (dk_at dksX0_readsItem_2 15 rfl rfl)
theorem dX0_readsItem_60 : decode cX0_readsItem 60 = .ok (.invokevirtual 245, 3) := dk_182 0 245 (dk_at dksX0_readsItem_2 16 rfl rfl)
theorem dX0_readsItem_63 : decode cX0_readsItem 63 = .ok (.ireturn, 1) := dk_172 (dk_at dksX0_readsItem_2 19 rfl rfl)
theorem dX0_readsItem_64 : decode cX0_readsItem 64 = .ok (.aload_n 0, 1) := dk_42 (dk_at dksX0_readsItem_2 20 rfl rfl)
theorem dX0_readsItem_65 : decode cX0_readsItem 65 = .ok (.iload_n 1, 1) := dk_27 (dk_at dksX0_readsItem_2 21 rfl rfl)
theorem dX0_readsItem_66 : decode cX0_readsItem 66 = .ok (.invokevirtual 248, 3) := dk_182 0 248 (dk_at dksX0_readsItem_3 0 rfl rfl)
theorem dX0_readsItem_69 : decode cX0_readsItem 69 = .ok (.ireturn, 1) := dk_172 (dk_at dksX0_readsItem_3 3 rfl rfl)
abbrev cX0_readsEaters : ByteArray := prog_1_method_23_code
def yX0_readsEaters : MethodName := ⟨RX0, "readsEaters", "()Z"⟩
def dkwX0_readsEaters_5 : List UInt8 := [42, 180, 0, 177, 79, 42, 89, 180, 0, 223, 4, 96, 181, 0, 223, 4, 172]
abbrev dktX0_readsEaters_5 : List UInt8 := dkwX0_readsEaters_5 ++ []
def dkwX0_readsEaters_4 : List UInt8 := [182, 0, 199, 153, 0, 14, 42, 4, 3, 16, 9, 182, 0, 180, 154, 0, 5, 3, 172, 42, 180, 0, 74, 27]
abbrev dktX0_readsEaters_4 : List UInt8 := dkwX0_readsEaters_4 ++ dktX0_readsEaters_5
def dkwX0_readsEaters_3 : List UInt8 := [16, 9, 182, 0, 180, 154, 0, 5, 3, 172, 42, 180, 0, 71, 27, 42, 180, 0, 177, 79, 42, 16, 44]
abbrev dktX0_readsEaters_3 : List UInt8 := dkwX0_readsEaters_3 ++ dktX0_readsEaters_4
def dkwX0_readsEaters_2 : List UInt8 := [3, 172, 42, 180, 0, 68, 27, 42, 180, 0, 177, 79, 42, 16, 44, 182, 0, 199, 153, 0, 14, 42, 4, 3]
abbrev dktX0_readsEaters_2 : List UInt8 := dkwX0_readsEaters_2 ++ dktX0_readsEaters_3
def dkwX0_readsEaters_1 : List UInt8 := [180, 0, 177, 79, 42, 16, 44, 182, 0, 199, 153, 0, 14, 42, 4, 4, 16, 9, 182, 0, 180, 154, 0, 5]
abbrev dktX0_readsEaters_1 : List UInt8 := dkwX0_readsEaters_1 ++ dktX0_readsEaters_2
def dkwX0_readsEaters_0 : List UInt8 := [42, 180, 0, 223, 60, 42, 5, 3, 16, 99, 182, 0, 180, 154, 0, 5, 3, 172, 42, 180, 0, 65, 27, 42]
abbrev dktX0_readsEaters_0 : List UInt8 := dkwX0_readsEaters_0 ++ dktX0_readsEaters_1
theorem dksX0_readsEaters_0 : cX0_readsEaters.data.toList.drop 0 = dktX0_readsEaters_0 := by decide +kernel
theorem dksX0_readsEaters_1 : cX0_readsEaters.data.toList.drop 24 = dktX0_readsEaters_1 := dk_seg dksX0_readsEaters_0 24 rfl rfl
theorem dksX0_readsEaters_2 : cX0_readsEaters.data.toList.drop 48 = dktX0_readsEaters_2 := dk_seg dksX0_readsEaters_1 24 rfl rfl
theorem dksX0_readsEaters_3 : cX0_readsEaters.data.toList.drop 72 = dktX0_readsEaters_3 := dk_seg dksX0_readsEaters_2 24 rfl rfl
theorem dksX0_readsEaters_4 : cX0_readsEaters.data.toList.drop 95 = dktX0_readsEaters_4 := dk_seg dksX0_readsEaters_3 23 rfl rfl
theorem dksX0_readsEaters_5 : cX0_readsEaters.data.toList.drop 119 = dktX0_readsEaters_5 := dk_seg dksX0_readsEaters_4 24 rfl rfl
theorem dX0_readsEaters_0 : decode cX0_readsEaters 0 = .ok (.aload_n 0, 1) := dk_42 (dk_at dksX0_readsEaters_0 0 rfl rfl)
theorem dX0_readsEaters_1 : decode cX0_readsEaters 1 = .ok (.getfield 223, 3) := dk_180 0 223 (dk_at dksX0_readsEaters_0 1 rfl rfl)
theorem dX0_readsEaters_4 : decode cX0_readsEaters 4 = .ok (.istore_n 1, 1) := dk_60 (dk_at dksX0_readsEaters_0 4 rfl rfl)
theorem dX0_readsEaters_5 : decode cX0_readsEaters 5 = .ok (.aload_n 0, 1) := dk_42 (dk_at dksX0_readsEaters_0 5 rfl rfl)
theorem dX0_readsEaters_6 : decode cX0_readsEaters 6 = .ok (.iconst 2, 1) := dk_5 (dk_at dksX0_readsEaters_0 6 rfl rfl)
theorem dX0_readsEaters_7 : decode cX0_readsEaters 7 = .ok (.iconst 0, 1) := dk_3 (dk_at dksX0_readsEaters_0 7 rfl rfl)
theorem dX0_readsEaters_8 : decode cX0_readsEaters 8 = .ok (.bipush 99, 2) := dk_16 99 (dk_at dksX0_readsEaters_0 8 rfl rfl)
theorem dX0_readsEaters_10 : decode cX0_readsEaters 10 = .ok (.invokevirtual 180, 3) := dk_182 0 180 (dk_at dksX0_readsEaters_0 10 rfl rfl)
theorem dX0_readsEaters_13 : decode cX0_readsEaters 13 = .ok (.ifCond .ne 5, 3) := dk_154 0 5 (dk_at dksX0_readsEaters_0 13 rfl rfl)
theorem dX0_readsEaters_16 : decode cX0_readsEaters 16 = .ok (.iconst 0, 1) := dk_3 (dk_at dksX0_readsEaters_0 16 rfl rfl)
theorem dX0_readsEaters_17 : decode cX0_readsEaters 17 = .ok (.ireturn, 1) := dk_172 (dk_at dksX0_readsEaters_0 17 rfl rfl)
theorem dX0_readsEaters_18 : decode cX0_readsEaters 18 = .ok (.aload_n 0, 1) := dk_42 (dk_at dksX0_readsEaters_0 18 rfl rfl)
theorem dX0_readsEaters_19 : decode cX0_readsEaters 19 = .ok (.getfield 65, 3) := dk_180 0 65 (dk_at dksX0_readsEaters_0 19 rfl rfl)
theorem dX0_readsEaters_22 : decode cX0_readsEaters 22 = .ok (.iload_n 1, 1) := dk_27 (dk_at dksX0_readsEaters_0 22 rfl rfl)
theorem dX0_readsEaters_23 : decode cX0_readsEaters 23 = .ok (.aload_n 0, 1) := dk_42 (dk_at dksX0_readsEaters_0 23 rfl rfl)
theorem dX0_readsEaters_24 : decode cX0_readsEaters 24 = .ok (.getfield 177, 3) := dk_180 0 177 (dk_at dksX0_readsEaters_1 0 rfl rfl)
theorem dX0_readsEaters_27 : decode cX0_readsEaters 27 = .ok (.iastore, 1) := dk_79 (dk_at dksX0_readsEaters_1 3 rfl rfl)
theorem dX0_readsEaters_28 : decode cX0_readsEaters 28 = .ok (.aload_n 0, 1) := dk_42 (dk_at dksX0_readsEaters_1 4 rfl rfl)
theorem dX0_readsEaters_29 : decode cX0_readsEaters 29 = .ok (.bipush 44, 2) := dk_16 44 (dk_at dksX0_readsEaters_1 5 rfl rfl)
theorem dX0_readsEaters_31 : decode cX0_readsEaters 31 = .ok (.invokevirtual 199, 3) := dk_182 0 199 (dk_at dksX0_readsEaters_1 7 rfl rfl)
theorem dX0_readsEaters_34 : decode cX0_readsEaters 34 = .ok (.ifCond .eq 14, 3) := dk_153 0 14 (dk_at dksX0_readsEaters_1 10 rfl rfl)
theorem dX0_readsEaters_37 : decode cX0_readsEaters 37 = .ok (.aload_n 0, 1) := dk_42 (dk_at dksX0_readsEaters_1 13 rfl rfl)
theorem dX0_readsEaters_38 : decode cX0_readsEaters 38 = .ok (.iconst 1, 1) := dk_4 (dk_at dksX0_readsEaters_1 14 rfl rfl)
theorem dX0_readsEaters_39 : decode cX0_readsEaters 39 = .ok (.iconst 1, 1) := dk_4 (dk_at dksX0_readsEaters_1 15 rfl rfl)
theorem dX0_readsEaters_40 : decode cX0_readsEaters 40 = .ok (.bipush 9, 2) := dk_16 9 (dk_at dksX0_readsEaters_1 16 rfl rfl)
theorem dX0_readsEaters_42 : decode cX0_readsEaters 42 = .ok (.invokevirtual 180, 3) := dk_182 0 180 (dk_at dksX0_readsEaters_1 18 rfl rfl)
theorem dX0_readsEaters_45 : decode cX0_readsEaters 45 = .ok (.ifCond .ne 5, 3) := dk_154 0 5 (dk_at dksX0_readsEaters_1 21 rfl rfl)
theorem dX0_readsEaters_48 : decode cX0_readsEaters 48 = .ok (.iconst 0, 1) := dk_3 (dk_at dksX0_readsEaters_2 0 rfl rfl)
theorem dX0_readsEaters_49 : decode cX0_readsEaters 49 = .ok (.ireturn, 1) := dk_172 (dk_at dksX0_readsEaters_2 1 rfl rfl)
theorem dX0_readsEaters_50 : decode cX0_readsEaters 50 = .ok (.aload_n 0, 1) := dk_42 (dk_at dksX0_readsEaters_2 2 rfl rfl)
theorem dX0_readsEaters_51 : decode cX0_readsEaters 51 = .ok (.getfield 68, 3) := dk_180 0 68 (dk_at dksX0_readsEaters_2 3 rfl rfl)
theorem dX0_readsEaters_54 : decode cX0_readsEaters 54 = .ok (.iload_n 1, 1) := dk_27 (dk_at dksX0_readsEaters_2 6 rfl rfl)
theorem dX0_readsEaters_55 : decode cX0_readsEaters 55 = .ok (.aload_n 0, 1) := dk_42 (dk_at dksX0_readsEaters_2 7 rfl rfl)
theorem dX0_readsEaters_56 : decode cX0_readsEaters 56 = .ok (.getfield 177, 3) := dk_180 0 177 (dk_at dksX0_readsEaters_2 8 rfl rfl)
theorem dX0_readsEaters_59 : decode cX0_readsEaters 59 = .ok (.iastore, 1) := dk_79 (dk_at dksX0_readsEaters_2 11 rfl rfl)
theorem dX0_readsEaters_60 : decode cX0_readsEaters 60 = .ok (.aload_n 0, 1) := dk_42 (dk_at dksX0_readsEaters_2 12 rfl rfl)
theorem dX0_readsEaters_61 : decode cX0_readsEaters 61 = .ok (.bipush 44, 2) := dk_16 44 (dk_at dksX0_readsEaters_2 13 rfl rfl)
theorem dX0_readsEaters_63 : decode cX0_readsEaters 63 = .ok (.invokevirtual 199, 3) := dk_182 0 199 (dk_at dksX0_readsEaters_2 15 rfl rfl)
theorem dX0_readsEaters_66 : decode cX0_readsEaters 66 = .ok (.ifCond .eq 14, 3) := dk_153 0 14 (dk_at dksX0_readsEaters_2 18 rfl rfl)
theorem dX0_readsEaters_69 : decode cX0_readsEaters 69 = .ok (.aload_n 0, 1) := dk_42 (dk_at dksX0_readsEaters_2 21 rfl rfl)
theorem dX0_readsEaters_70 : decode cX0_readsEaters 70 = .ok (.iconst 1, 1) := dk_4 (dk_at dksX0_readsEaters_2 22 rfl rfl)
theorem dX0_readsEaters_71 : decode cX0_readsEaters 71 = .ok (.iconst 0, 1) := dk_3 (dk_at dksX0_readsEaters_2 23 rfl rfl)
theorem dX0_readsEaters_72 : decode cX0_readsEaters 72 = .ok (.bipush 9, 2) := dk_16 9 (dk_at dksX0_readsEaters_3 0 rfl rfl)
theorem dX0_readsEaters_74 : decode cX0_readsEaters 74 = .ok (.invokevirtual 180, 3) := dk_182 0 180 (dk_at dksX0_readsEaters_3 2 rfl rfl)
theorem dX0_readsEaters_77 : decode cX0_readsEaters 77 = .ok (.ifCond .ne 5, 3) := dk_154 0 5 (dk_at dksX0_readsEaters_3 5 rfl rfl)
theorem dX0_readsEaters_80 : decode cX0_readsEaters 80 = .ok (.iconst 0, 1) := dk_3 (dk_at dksX0_readsEaters_3 8 rfl rfl)
theorem dX0_readsEaters_81 : decode cX0_readsEaters 81 = .ok (.ireturn, 1) := dk_172 (dk_at dksX0_readsEaters_3 9 rfl rfl)
theorem dX0_readsEaters_82 : decode cX0_readsEaters 82 = .ok (.aload_n 0, 1) := dk_42 (dk_at dksX0_readsEaters_3 10 rfl rfl)
theorem dX0_readsEaters_83 : decode cX0_readsEaters 83 = .ok (.getfield 71, 3) := dk_180 0 71 (dk_at dksX0_readsEaters_3 11 rfl rfl)
theorem dX0_readsEaters_86 : decode cX0_readsEaters 86 = .ok (.iload_n 1, 1) := dk_27 (dk_at dksX0_readsEaters_3 14 rfl rfl)
theorem dX0_readsEaters_87 : decode cX0_readsEaters 87 = .ok (.aload_n 0, 1) := dk_42 (dk_at dksX0_readsEaters_3 15 rfl rfl)
theorem dX0_readsEaters_88 : decode cX0_readsEaters 88 = .ok (.getfield 177, 3) := dk_180 0 177 (dk_at dksX0_readsEaters_3 16 rfl rfl)
theorem dX0_readsEaters_91 : decode cX0_readsEaters 91 = .ok (.iastore, 1) := dk_79 (dk_at dksX0_readsEaters_3 19 rfl rfl)
theorem dX0_readsEaters_92 : decode cX0_readsEaters 92 = .ok (.aload_n 0, 1) := dk_42 (dk_at dksX0_readsEaters_3 20 rfl rfl)
theorem dX0_readsEaters_93 : decode cX0_readsEaters 93 = .ok (.bipush 44, 2) := dk_16 44 (dk_at dksX0_readsEaters_3 21 rfl rfl)
theorem dX0_readsEaters_95 : decode cX0_readsEaters 95 = .ok (.invokevirtual 199, 3) := dk_182 0 199 (dk_at dksX0_readsEaters_4 0 rfl rfl)
theorem dX0_readsEaters_98 : decode cX0_readsEaters 98 = .ok (.ifCond .eq 14, 3) := dk_153 0 14 (dk_at dksX0_readsEaters_4 3 rfl rfl)
theorem dX0_readsEaters_101 : decode cX0_readsEaters 101 = .ok (.aload_n 0, 1) := dk_42 (dk_at dksX0_readsEaters_4 6 rfl rfl)
theorem dX0_readsEaters_102 : decode cX0_readsEaters 102 = .ok (.iconst 1, 1) := dk_4 (dk_at dksX0_readsEaters_4 7 rfl rfl)
theorem dX0_readsEaters_103 : decode cX0_readsEaters 103 = .ok (.iconst 0, 1) := dk_3 (dk_at dksX0_readsEaters_4 8 rfl rfl)
theorem dX0_readsEaters_104 : decode cX0_readsEaters 104 = .ok (.bipush 9, 2) := dk_16 9 (dk_at dksX0_readsEaters_4 9 rfl rfl)
theorem dX0_readsEaters_106 : decode cX0_readsEaters 106 = .ok (.invokevirtual 180, 3) := dk_182 0 180 (dk_at dksX0_readsEaters_4 11 rfl rfl)
theorem dX0_readsEaters_109 : decode cX0_readsEaters 109 = .ok (.ifCond .ne 5, 3) := dk_154 0 5 (dk_at dksX0_readsEaters_4 14 rfl rfl)
theorem dX0_readsEaters_112 : decode cX0_readsEaters 112 = .ok (.iconst 0, 1) := dk_3 (dk_at dksX0_readsEaters_4 17 rfl rfl)
theorem dX0_readsEaters_113 : decode cX0_readsEaters 113 = .ok (.ireturn, 1) := dk_172 (dk_at dksX0_readsEaters_4 18 rfl rfl)
theorem dX0_readsEaters_114 : decode cX0_readsEaters 114 = .ok (.aload_n 0, 1) := dk_42 (dk_at dksX0_readsEaters_4 19 rfl rfl)
theorem dX0_readsEaters_115 : decode cX0_readsEaters 115 = .ok (.getfield 74, 3) := dk_180 0 74 (dk_at dksX0_readsEaters_4 20 rfl rfl)
theorem dX0_readsEaters_118 : decode cX0_readsEaters 118 = .ok (.iload_n 1, 1) := dk_27 (dk_at dksX0_readsEaters_4 23 rfl rfl)
theorem dX0_readsEaters_119 : decode cX0_readsEaters 119 = .ok (.aload_n 0, 1) := dk_42 (dk_at dksX0_readsEaters_5 0 rfl rfl)
theorem dX0_readsEaters_120 : decode cX0_readsEaters 120 = .ok (.getfield 177, 3) := dk_180 0 177 (dk_at dksX0_readsEaters_5 1 rfl rfl)
theorem dX0_readsEaters_123 : decode cX0_readsEaters 123 = .ok (.iastore, 1) := dk_79 (dk_at dksX0_readsEaters_5 4 rfl rfl)
theorem dX0_readsEaters_124 : decode cX0_readsEaters 124 = .ok (.aload_n 0, 1) := dk_42 (dk_at dksX0_readsEaters_5 5 rfl rfl)
theorem dX0_readsEaters_125 : decode cX0_readsEaters 125 = .ok (.dup, 1) := dk_89 (dk_at dksX0_readsEaters_5 6 rfl rfl)
theorem dX0_readsEaters_126 : decode cX0_readsEaters 126 = .ok (.getfield 223, 3) := dk_180 0 223 (dk_at dksX0_readsEaters_5 7 rfl rfl)
theorem dX0_readsEaters_129 : decode cX0_readsEaters 129 = .ok (.iconst 1, 1) := dk_4 (dk_at dksX0_readsEaters_5 10 rfl rfl)
theorem dX0_readsEaters_130 : decode cX0_readsEaters 130 = .ok (.iadd, 1) := dk_96 (dk_at dksX0_readsEaters_5 11 rfl rfl)
theorem dX0_readsEaters_131 : decode cX0_readsEaters 131 = .ok (.putfield 223, 3) := dk_181 0 223 (dk_at dksX0_readsEaters_5 12 rfl rfl)
theorem dX0_readsEaters_134 : decode cX0_readsEaters 134 = .ok (.iconst 1, 1) := dk_4 (dk_at dksX0_readsEaters_5 15 rfl rfl)
theorem dX0_readsEaters_135 : decode cX0_readsEaters 135 = .ok (.ireturn, 1) := dk_172 (dk_at dksX0_readsEaters_5 16 rfl rfl)
abbrev cX0_readsNumber : ByteArray := prog_1_method_19_code
def yX0_readsNumber : MethodName := ⟨RX0, "readsNumber", "(III)Z"⟩
def dkwX0_readsNumber_4 : List UInt8 := [3, 172]
abbrev dktX0_readsNumber_4 : List UInt8 := dkwX0_readsNumber_4 ++ []
def dkwX0_readsNumber_3 : List UInt8 := [180, 0, 167, 21, 4, 164, 0, 19, 42, 180, 0, 177, 28, 29, 184, 0, 129, 153, 0, 7, 4, 167, 0, 4]
abbrev dktX0_readsNumber_3 : List UInt8 := dkwX0_readsNumber_3 ++ dktX0_readsNumber_4
def dkwX0_readsNumber_2 : List UInt8 := [182, 0, 173, 96, 16, 48, 100, 181, 0, 177, 42, 89, 180, 0, 167, 4, 96, 181, 0, 167, 167, 255, 202, 42]
abbrev dktX0_readsNumber_2 : List UInt8 := dkwX0_readsNumber_2 ++ dktX0_readsNumber_3
def dkwX0_readsNumber_1 : List UInt8 := [182, 0, 173, 16, 48, 16, 57, 184, 0, 129, 153, 0, 35, 42, 16, 10, 42, 180, 0, 177, 104, 42]
abbrev dktX0_readsNumber_1 : List UInt8 := dkwX0_readsNumber_1 ++ dktX0_readsNumber_2
def dkwX0_readsNumber_0 : List UInt8 := [42, 180, 0, 167, 54, 4, 42, 3, 181, 0, 177, 42, 180, 0, 167, 21, 4, 100, 27, 162, 0, 49, 42]
abbrev dktX0_readsNumber_0 : List UInt8 := dkwX0_readsNumber_0 ++ dktX0_readsNumber_1
theorem dksX0_readsNumber_0 : cX0_readsNumber.data.toList.drop 0 = dktX0_readsNumber_0 := by decide +kernel
theorem dksX0_readsNumber_1 : cX0_readsNumber.data.toList.drop 23 = dktX0_readsNumber_1 := dk_seg dksX0_readsNumber_0 23 rfl rfl
theorem dksX0_readsNumber_2 : cX0_readsNumber.data.toList.drop 45 = dktX0_readsNumber_2 := dk_seg dksX0_readsNumber_1 22 rfl rfl
theorem dksX0_readsNumber_3 : cX0_readsNumber.data.toList.drop 69 = dktX0_readsNumber_3 := dk_seg dksX0_readsNumber_2 24 rfl rfl
theorem dksX0_readsNumber_4 : cX0_readsNumber.data.toList.drop 93 = dktX0_readsNumber_4 := dk_seg dksX0_readsNumber_3 24 rfl rfl
theorem dX0_readsNumber_0 : decode cX0_readsNumber 0 = .ok (.aload_n 0, 1) := dk_42 (dk_at dksX0_readsNumber_0 0 rfl rfl)
theorem dX0_readsNumber_1 : decode cX0_readsNumber 1 = .ok (.getfield 167, 3) := dk_180 0 167 (dk_at dksX0_readsNumber_0 1 rfl rfl)
theorem dX0_readsNumber_4 : decode cX0_readsNumber 4 = .ok (.istore 4, 2) := dk_54 4 (dk_at dksX0_readsNumber_0 4 rfl rfl)
theorem dX0_readsNumber_6 : decode cX0_readsNumber 6 = .ok (.aload_n 0, 1) := dk_42 (dk_at dksX0_readsNumber_0 6 rfl rfl)
theorem dX0_readsNumber_7 : decode cX0_readsNumber 7 = .ok (.iconst 0, 1) := dk_3 (dk_at dksX0_readsNumber_0 7 rfl rfl)
theorem dX0_readsNumber_8 : decode cX0_readsNumber 8 = .ok (.putfield 177, 3) := dk_181 0 177 (dk_at dksX0_readsNumber_0 8 rfl rfl)
theorem dX0_readsNumber_11 : decode cX0_readsNumber 11 = .ok (.aload_n 0, 1) := dk_42 (dk_at dksX0_readsNumber_0 11 rfl rfl)
theorem dX0_readsNumber_12 : decode cX0_readsNumber 12 = .ok (.getfield 167, 3) := dk_180 0 167 (dk_at dksX0_readsNumber_0 12 rfl rfl)
theorem dX0_readsNumber_15 : decode cX0_readsNumber 15 = .ok (.iload 4, 2) := dk_21 4 (dk_at dksX0_readsNumber_0 15 rfl rfl)
theorem dX0_readsNumber_17 : decode cX0_readsNumber 17 = .ok (.isub, 1) := dk_100 (dk_at dksX0_readsNumber_0 17 rfl rfl)
theorem dX0_readsNumber_18 : decode cX0_readsNumber 18 = .ok (.iload_n 1, 1) := dk_27 (dk_at dksX0_readsNumber_0 18 rfl rfl)
theorem dX0_readsNumber_19 : decode cX0_readsNumber 19 = .ok (.if_icmp .ge 49, 3) := dk_162 0 49 (dk_at dksX0_readsNumber_0 19 rfl rfl)
theorem dX0_readsNumber_22 : decode cX0_readsNumber 22 = .ok (.aload_n 0, 1) := dk_42 (dk_at dksX0_readsNumber_0 22 rfl rfl)
theorem dX0_readsNumber_23 : decode cX0_readsNumber 23 = .ok (.invokevirtual 173, 3) := dk_182 0 173 (dk_at dksX0_readsNumber_1 0 rfl rfl)
theorem dX0_readsNumber_26 : decode cX0_readsNumber 26 = .ok (.bipush 48, 2) := dk_16 48 (dk_at dksX0_readsNumber_1 3 rfl rfl)
theorem dX0_readsNumber_28 : decode cX0_readsNumber 28 = .ok (.bipush 57, 2) := dk_16 57 (dk_at dksX0_readsNumber_1 5 rfl rfl)
theorem dX0_readsNumber_30 : decode cX0_readsNumber 30 = .ok (.invokestatic 129, 3) := dk_184 0 129 (dk_at dksX0_readsNumber_1 7 rfl rfl)
theorem dX0_readsNumber_33 : decode cX0_readsNumber 33 = .ok (.ifCond .eq 35, 3) := dk_153 0 35 (dk_at dksX0_readsNumber_1 10 rfl rfl)
theorem dX0_readsNumber_36 : decode cX0_readsNumber 36 = .ok (.aload_n 0, 1) := dk_42 (dk_at dksX0_readsNumber_1 13 rfl rfl)
theorem dX0_readsNumber_37 : decode cX0_readsNumber 37 = .ok (.bipush 10, 2) := dk_16 10 (dk_at dksX0_readsNumber_1 14 rfl rfl)
theorem dX0_readsNumber_39 : decode cX0_readsNumber 39 = .ok (.aload_n 0, 1) := dk_42 (dk_at dksX0_readsNumber_1 16 rfl rfl)
theorem dX0_readsNumber_40 : decode cX0_readsNumber 40 = .ok (.getfield 177, 3) := dk_180 0 177 (dk_at dksX0_readsNumber_1 17 rfl rfl)
theorem dX0_readsNumber_43 : decode cX0_readsNumber 43 = .ok (.imul, 1) := dk_104 (dk_at dksX0_readsNumber_1 20 rfl rfl)
theorem dX0_readsNumber_44 : decode cX0_readsNumber 44 = .ok (.aload_n 0, 1) := dk_42 (dk_at dksX0_readsNumber_1 21 rfl rfl)
theorem dX0_readsNumber_45 : decode cX0_readsNumber 45 = .ok (.invokevirtual 173, 3) := dk_182 0 173 (dk_at dksX0_readsNumber_2 0 rfl rfl)
theorem dX0_readsNumber_48 : decode cX0_readsNumber 48 = .ok (.iadd, 1) := dk_96 (dk_at dksX0_readsNumber_2 3 rfl rfl)
theorem dX0_readsNumber_49 : decode cX0_readsNumber 49 = .ok (.bipush 48, 2) := dk_16 48 (dk_at dksX0_readsNumber_2 4 rfl rfl)
theorem dX0_readsNumber_51 : decode cX0_readsNumber 51 = .ok (.isub, 1) := dk_100 (dk_at dksX0_readsNumber_2 6 rfl rfl)
theorem dX0_readsNumber_52 : decode cX0_readsNumber 52 = .ok (.putfield 177, 3) := dk_181 0 177 (dk_at dksX0_readsNumber_2 7 rfl rfl)
theorem dX0_readsNumber_55 : decode cX0_readsNumber 55 = .ok (.aload_n 0, 1) := dk_42 (dk_at dksX0_readsNumber_2 10 rfl rfl)
theorem dX0_readsNumber_56 : decode cX0_readsNumber 56 = .ok (.dup, 1) := dk_89 (dk_at dksX0_readsNumber_2 11 rfl rfl)
theorem dX0_readsNumber_57 : decode cX0_readsNumber 57 = .ok (.getfield 167, 3) := dk_180 0 167 (dk_at dksX0_readsNumber_2 12 rfl rfl)
theorem dX0_readsNumber_60 : decode cX0_readsNumber 60 = .ok (.iconst 1, 1) := dk_4 (dk_at dksX0_readsNumber_2 15 rfl rfl)
theorem dX0_readsNumber_61 : decode cX0_readsNumber 61 = .ok (.iadd, 1) := dk_96 (dk_at dksX0_readsNumber_2 16 rfl rfl)
theorem dX0_readsNumber_62 : decode cX0_readsNumber 62 = .ok (.putfield 167, 3) := dk_181 0 167 (dk_at dksX0_readsNumber_2 17 rfl rfl)
theorem dX0_readsNumber_65 : decode cX0_readsNumber 65 = .ok (.goto (-54), 3) := dk_167 255 202 (dk_at dksX0_readsNumber_2 20 rfl rfl)
theorem dX0_readsNumber_68 : decode cX0_readsNumber 68 = .ok (.aload_n 0, 1) := dk_42 (dk_at dksX0_readsNumber_2 23 rfl rfl)
theorem dX0_readsNumber_69 : decode cX0_readsNumber 69 = .ok (.getfield 167, 3) := dk_180 0 167 (dk_at dksX0_readsNumber_3 0 rfl rfl)
theorem dX0_readsNumber_72 : decode cX0_readsNumber 72 = .ok (.iload 4, 2) := dk_21 4 (dk_at dksX0_readsNumber_3 3 rfl rfl)
theorem dX0_readsNumber_74 : decode cX0_readsNumber 74 = .ok (.if_icmp .le 19, 3) := dk_164 0 19 (dk_at dksX0_readsNumber_3 5 rfl rfl)
theorem dX0_readsNumber_77 : decode cX0_readsNumber 77 = .ok (.aload_n 0, 1) := dk_42 (dk_at dksX0_readsNumber_3 8 rfl rfl)
theorem dX0_readsNumber_78 : decode cX0_readsNumber 78 = .ok (.getfield 177, 3) := dk_180 0 177 (dk_at dksX0_readsNumber_3 9 rfl rfl)
theorem dX0_readsNumber_81 : decode cX0_readsNumber 81 = .ok (.iload_n 2, 1) := dk_28 (dk_at dksX0_readsNumber_3 12 rfl rfl)
theorem dX0_readsNumber_82 : decode cX0_readsNumber 82 = .ok (.iload_n 3, 1) := dk_29 (dk_at dksX0_readsNumber_3 13 rfl rfl)
theorem dX0_readsNumber_83 : decode cX0_readsNumber 83 = .ok (.invokestatic 129, 3) := dk_184 0 129 (dk_at dksX0_readsNumber_3 14 rfl rfl)
theorem dX0_readsNumber_86 : decode cX0_readsNumber 86 = .ok (.ifCond .eq 7, 3) := dk_153 0 7 (dk_at dksX0_readsNumber_3 17 rfl rfl)
theorem dX0_readsNumber_89 : decode cX0_readsNumber 89 = .ok (.iconst 1, 1) := dk_4 (dk_at dksX0_readsNumber_3 20 rfl rfl)
theorem dX0_readsNumber_90 : decode cX0_readsNumber 90 = .ok (.goto 4, 3) := dk_167 0 4 (dk_at dksX0_readsNumber_3 21 rfl rfl)
theorem dX0_readsNumber_93 : decode cX0_readsNumber 93 = .ok (.iconst 0, 1) := dk_3 (dk_at dksX0_readsNumber_4 0 rfl rfl)
theorem dX0_readsNumber_94 : decode cX0_readsNumber 94 = .ok (.ireturn, 1) := dk_172 (dk_at dksX0_readsNumber_4 1 rfl rfl)
abbrev cX0_reads : ByteArray := prog_1_method_18_code
def yX0_reads : MethodName := ⟨RX0, "reads", "(I)Z"⟩
def dkwX0_reads_1 : List UInt8 := [167, 0, 4, 3, 96, 181, 0, 167, 28, 172]
abbrev dktX0_reads_1 : List UInt8 := dkwX0_reads_1 ++ []
def dkwX0_reads_0 : List UInt8 := [42, 182, 0, 173, 27, 160, 0, 7, 4, 167, 0, 4, 3, 61, 42, 89, 180, 0, 167, 28, 153, 0, 7, 4]
abbrev dktX0_reads_0 : List UInt8 := dkwX0_reads_0 ++ dktX0_reads_1
theorem dksX0_reads_0 : cX0_reads.data.toList.drop 0 = dktX0_reads_0 := by decide +kernel
theorem dksX0_reads_1 : cX0_reads.data.toList.drop 24 = dktX0_reads_1 := dk_seg dksX0_reads_0 24 rfl rfl
theorem dX0_reads_0 : decode cX0_reads 0 = .ok (.aload_n 0, 1) := dk_42 (dk_at dksX0_reads_0 0 rfl rfl)
theorem dX0_reads_1 : decode cX0_reads 1 = .ok (.invokevirtual 173, 3) := dk_182 0 173 (dk_at dksX0_reads_0 1 rfl rfl)
theorem dX0_reads_4 : decode cX0_reads 4 = .ok (.iload_n 1, 1) := dk_27 (dk_at dksX0_reads_0 4 rfl rfl)
theorem dX0_reads_5 : decode cX0_reads 5 = .ok (.if_icmp .ne 7, 3) := dk_160 0 7 (dk_at dksX0_reads_0 5 rfl rfl)
theorem dX0_reads_8 : decode cX0_reads 8 = .ok (.iconst 1, 1) := dk_4 (dk_at dksX0_reads_0 8 rfl rfl)
theorem dX0_reads_9 : decode cX0_reads 9 = .ok (.goto 4, 3) := dk_167 0 4 (dk_at dksX0_reads_0 9 rfl rfl)
theorem dX0_reads_12 : decode cX0_reads 12 = .ok (.iconst 0, 1) := dk_3 (dk_at dksX0_reads_0 12 rfl rfl)
theorem dX0_reads_13 : decode cX0_reads 13 = .ok (.istore_n 2, 1) := dk_61 (dk_at dksX0_reads_0 13 rfl rfl)
theorem dX0_reads_14 : decode cX0_reads 14 = .ok (.aload_n 0, 1) := dk_42 (dk_at dksX0_reads_0 14 rfl rfl)
theorem dX0_reads_15 : decode cX0_reads 15 = .ok (.dup, 1) := dk_89 (dk_at dksX0_reads_0 15 rfl rfl)
theorem dX0_reads_16 : decode cX0_reads 16 = .ok (.getfield 167, 3) := dk_180 0 167 (dk_at dksX0_reads_0 16 rfl rfl)
theorem dX0_reads_19 : decode cX0_reads 19 = .ok (.iload_n 2, 1) := dk_28 (dk_at dksX0_reads_0 19 rfl rfl)
theorem dX0_reads_20 : decode cX0_reads 20 = .ok (.ifCond .eq 7, 3) := dk_153 0 7 (dk_at dksX0_reads_0 20 rfl rfl)
theorem dX0_reads_23 : decode cX0_reads 23 = .ok (.iconst 1, 1) := dk_4 (dk_at dksX0_reads_0 23 rfl rfl)
theorem dX0_reads_24 : decode cX0_reads 24 = .ok (.goto 4, 3) := dk_167 0 4 (dk_at dksX0_reads_1 0 rfl rfl)
theorem dX0_reads_27 : decode cX0_reads 27 = .ok (.iconst 0, 1) := dk_3 (dk_at dksX0_reads_1 3 rfl rfl)
theorem dX0_reads_28 : decode cX0_reads 28 = .ok (.iadd, 1) := dk_96 (dk_at dksX0_reads_1 4 rfl rfl)
theorem dX0_reads_29 : decode cX0_reads 29 = .ok (.putfield 167, 3) := dk_181 0 167 (dk_at dksX0_reads_1 5 rfl rfl)
theorem dX0_reads_32 : decode cX0_reads 32 = .ok (.iload_n 2, 1) := dk_28 (dk_at dksX0_reads_1 8 rfl rfl)
theorem dX0_reads_33 : decode cX0_reads 33 = .ok (.ireturn, 1) := dk_172 (dk_at dksX0_reads_1 9 rfl rfl)
abbrev cX0_readsJay : ByteArray := prog_1_method_24_code
def yX0_readsJay : MethodName := ⟨RX0, "readsJay", "()Z"⟩
def dkwX0_readsJay_2 : List UInt8 := [42, 180, 0, 177, 181, 0, 229, 27, 172]
abbrev dktX0_readsJay_2 : List UInt8 := dkwX0_readsJay_2 ++ []
def dkwX0_readsJay_1 : List UInt8 := [182, 0, 199, 153, 0, 18, 42, 5, 3, 16, 12, 182, 0, 180, 153, 0, 7, 4, 167, 0, 4, 3, 60, 42]
abbrev dktX0_readsJay_1 : List UInt8 := dkwX0_readsJay_1 ++ dktX0_readsJay_2
def dkwX0_readsJay_0 : List UInt8 := [42, 5, 3, 16, 99, 182, 0, 180, 154, 0, 5, 3, 172, 42, 42, 180, 0, 177, 181, 0, 226, 42, 16, 44]
abbrev dktX0_readsJay_0 : List UInt8 := dkwX0_readsJay_0 ++ dktX0_readsJay_1
theorem dksX0_readsJay_0 : cX0_readsJay.data.toList.drop 0 = dktX0_readsJay_0 := by decide +kernel
theorem dksX0_readsJay_1 : cX0_readsJay.data.toList.drop 24 = dktX0_readsJay_1 := dk_seg dksX0_readsJay_0 24 rfl rfl
theorem dksX0_readsJay_2 : cX0_readsJay.data.toList.drop 48 = dktX0_readsJay_2 := dk_seg dksX0_readsJay_1 24 rfl rfl
theorem dX0_readsJay_0 : decode cX0_readsJay 0 = .ok (.aload_n 0, 1) := dk_42 (dk_at dksX0_readsJay_0 0 rfl rfl)
theorem dX0_readsJay_1 : decode cX0_readsJay 1 = .ok (.iconst 2, 1) := dk_5 (dk_at dksX0_readsJay_0 1 rfl rfl)
theorem dX0_readsJay_2 : decode cX0_readsJay 2 = .ok (.iconst 0, 1) := dk_3 (dk_at dksX0_readsJay_0 2 rfl rfl)
theorem dX0_readsJay_3 : decode cX0_readsJay 3 = .ok (.bipush 99, 2) := dk_16 99 (dk_at dksX0_readsJay_0 3 rfl rfl)
theorem dX0_readsJay_5 : decode cX0_readsJay 5 = .ok (.invokevirtual 180, 3) := dk_182 0 180 (dk_at dksX0_readsJay_0 5 rfl rfl)
theorem dX0_readsJay_8 : decode cX0_readsJay 8 = .ok (.ifCond .ne 5, 3) := dk_154 0 5 (dk_at dksX0_readsJay_0 8 rfl rfl)
theorem dX0_readsJay_11 : decode cX0_readsJay 11 = .ok (.iconst 0, 1) := dk_3 (dk_at dksX0_readsJay_0 11 rfl rfl)
theorem dX0_readsJay_12 : decode cX0_readsJay 12 = .ok (.ireturn, 1) := dk_172 (dk_at dksX0_readsJay_0 12 rfl rfl)
theorem dX0_readsJay_13 : decode cX0_readsJay 13 = .ok (.aload_n 0, 1) := dk_42 (dk_at dksX0_readsJay_0 13 rfl rfl)
theorem dX0_readsJay_14 : decode cX0_readsJay 14 = .ok (.aload_n 0, 1) := dk_42 (dk_at dksX0_readsJay_0 14 rfl rfl)
theorem dX0_readsJay_15 : decode cX0_readsJay 15 = .ok (.getfield 177, 3) := dk_180 0 177 (dk_at dksX0_readsJay_0 15 rfl rfl)
theorem dX0_readsJay_18 : decode cX0_readsJay 18 = .ok (.putfield 226, 3) := dk_181 0 226 (dk_at dksX0_readsJay_0 18 rfl rfl)
theorem dX0_readsJay_21 : decode cX0_readsJay 21 = .ok (.aload_n 0, 1) := dk_42 (dk_at dksX0_readsJay_0 21 rfl rfl)
theorem dX0_readsJay_22 : decode cX0_readsJay 22 = .ok (.bipush 44, 2) := dk_16 44 (dk_at dksX0_readsJay_0 22 rfl rfl)
theorem dX0_readsJay_24 : decode cX0_readsJay 24 = .ok (.invokevirtual 199, 3) := dk_182 0 199 (dk_at dksX0_readsJay_1 0 rfl rfl)
theorem dX0_readsJay_27 : decode cX0_readsJay 27 = .ok (.ifCond .eq 18, 3) := dk_153 0 18 (dk_at dksX0_readsJay_1 3 rfl rfl)
theorem dX0_readsJay_30 : decode cX0_readsJay 30 = .ok (.aload_n 0, 1) := dk_42 (dk_at dksX0_readsJay_1 6 rfl rfl)
theorem dX0_readsJay_31 : decode cX0_readsJay 31 = .ok (.iconst 2, 1) := dk_5 (dk_at dksX0_readsJay_1 7 rfl rfl)
theorem dX0_readsJay_32 : decode cX0_readsJay 32 = .ok (.iconst 0, 1) := dk_3 (dk_at dksX0_readsJay_1 8 rfl rfl)
theorem dX0_readsJay_33 : decode cX0_readsJay 33 = .ok (.bipush 12, 2) := dk_16 12 (dk_at dksX0_readsJay_1 9 rfl rfl)
theorem dX0_readsJay_35 : decode cX0_readsJay 35 = .ok (.invokevirtual 180, 3) := dk_182 0 180 (dk_at dksX0_readsJay_1 11 rfl rfl)
theorem dX0_readsJay_38 : decode cX0_readsJay 38 = .ok (.ifCond .eq 7, 3) := dk_153 0 7 (dk_at dksX0_readsJay_1 14 rfl rfl)
theorem dX0_readsJay_41 : decode cX0_readsJay 41 = .ok (.iconst 1, 1) := dk_4 (dk_at dksX0_readsJay_1 17 rfl rfl)
theorem dX0_readsJay_42 : decode cX0_readsJay 42 = .ok (.goto 4, 3) := dk_167 0 4 (dk_at dksX0_readsJay_1 18 rfl rfl)
theorem dX0_readsJay_45 : decode cX0_readsJay 45 = .ok (.iconst 0, 1) := dk_3 (dk_at dksX0_readsJay_1 21 rfl rfl)
theorem dX0_readsJay_46 : decode cX0_readsJay 46 = .ok (.istore_n 1, 1) := dk_60 (dk_at dksX0_readsJay_1 22 rfl rfl)
theorem dX0_readsJay_47 : decode cX0_readsJay 47 = .ok (.aload_n 0, 1) := dk_42 (dk_at dksX0_readsJay_1 23 rfl rfl)
theorem dX0_readsJay_48 : decode cX0_readsJay 48 = .ok (.aload_n 0, 1) := dk_42 (dk_at dksX0_readsJay_2 0 rfl rfl)
theorem dX0_readsJay_49 : decode cX0_readsJay 49 = .ok (.getfield 177, 3) := dk_180 0 177 (dk_at dksX0_readsJay_2 1 rfl rfl)
theorem dX0_readsJay_52 : decode cX0_readsJay 52 = .ok (.putfield 229, 3) := dk_181 0 229 (dk_at dksX0_readsJay_2 4 rfl rfl)
theorem dX0_readsJay_55 : decode cX0_readsJay 55 = .ok (.iload_n 1, 1) := dk_27 (dk_at dksX0_readsJay_2 7 rfl rfl)
theorem dX0_readsJay_56 : decode cX0_readsJay 56 = .ok (.ireturn, 1) := dk_172 (dk_at dksX0_readsJay_2 8 rfl rfl)
abbrev cX0_readsCalendar : ByteArray := prog_1_method_25_code
def yX0_readsCalendar : MethodName := ⟨RX0, "readsCalendar", "()Z"⟩
def dkwX0_readsCalendar_4 : List UInt8 := [172]
abbrev dktX0_readsCalendar_4 : List UInt8 := dkwX0_readsCalendar_4 ++ []
def dkwX0_readsCalendar_3 : List UInt8 := [100, 145, 84, 132, 3, 1, 167, 255, 232, 42, 44, 181, 0, 232, 44, 190, 158, 0, 7, 4, 167, 0, 4, 3]
abbrev dktX0_readsCalendar_3 : List UInt8 := dkwX0_readsCalendar_3 ++ dktX0_readsCalendar_4
def dkwX0_readsCalendar_2 : List UInt8 := [100, 188, 8, 77, 3, 62, 29, 44, 190, 162, 0, 24, 44, 29, 42, 180, 0, 170, 27, 29, 96, 51, 16, 48]
abbrev dktX0_readsCalendar_2 : List UInt8 := dkwX0_readsCalendar_2 ++ dktX0_readsCalendar_3
def dkwX0_readsCalendar_1 : List UInt8 := [184, 0, 129, 153, 0, 16, 42, 89, 180, 0, 167, 4, 96, 181, 0, 167, 167, 255, 221, 42, 180, 0, 167, 27]
abbrev dktX0_readsCalendar_1 : List UInt8 := dkwX0_readsCalendar_1 ++ dktX0_readsCalendar_2
def dkwX0_readsCalendar_0 : List UInt8 := [42, 180, 0, 167, 60, 42, 180, 0, 167, 27, 100, 16, 8, 162, 0, 30, 42, 182, 0, 173, 16, 48, 16, 50]
abbrev dktX0_readsCalendar_0 : List UInt8 := dkwX0_readsCalendar_0 ++ dktX0_readsCalendar_1
theorem dksX0_readsCalendar_0 : cX0_readsCalendar.data.toList.drop 0 = dktX0_readsCalendar_0 := by decide +kernel
theorem dksX0_readsCalendar_1 : cX0_readsCalendar.data.toList.drop 24 = dktX0_readsCalendar_1 := dk_seg dksX0_readsCalendar_0 24 rfl rfl
theorem dksX0_readsCalendar_2 : cX0_readsCalendar.data.toList.drop 48 = dktX0_readsCalendar_2 := dk_seg dksX0_readsCalendar_1 24 rfl rfl
theorem dksX0_readsCalendar_3 : cX0_readsCalendar.data.toList.drop 72 = dktX0_readsCalendar_3 := dk_seg dksX0_readsCalendar_2 24 rfl rfl
theorem dksX0_readsCalendar_4 : cX0_readsCalendar.data.toList.drop 96 = dktX0_readsCalendar_4 := dk_seg dksX0_readsCalendar_3 24 rfl rfl
theorem dX0_readsCalendar_0 : decode cX0_readsCalendar 0 = .ok (.aload_n 0, 1) := dk_42 (dk_at dksX0_readsCalendar_0 0 rfl rfl)
theorem dX0_readsCalendar_1 : decode cX0_readsCalendar 1 = .ok (.getfield 167, 3) := dk_180 0 167 (dk_at dksX0_readsCalendar_0 1 rfl rfl)
theorem dX0_readsCalendar_4 : decode cX0_readsCalendar 4 = .ok (.istore_n 1, 1) := dk_60 (dk_at dksX0_readsCalendar_0 4 rfl rfl)
theorem dX0_readsCalendar_5 : decode cX0_readsCalendar 5 = .ok (.aload_n 0, 1) := dk_42 (dk_at dksX0_readsCalendar_0 5 rfl rfl)
theorem dX0_readsCalendar_6 : decode cX0_readsCalendar 6 = .ok (.getfield 167, 3) := dk_180 0 167 (dk_at dksX0_readsCalendar_0 6 rfl rfl)
theorem dX0_readsCalendar_9 : decode cX0_readsCalendar 9 = .ok (.iload_n 1, 1) := dk_27 (dk_at dksX0_readsCalendar_0 9 rfl rfl)
theorem dX0_readsCalendar_10 : decode cX0_readsCalendar 10 = .ok (.isub, 1) := dk_100 (dk_at dksX0_readsCalendar_0 10 rfl rfl)
theorem dX0_readsCalendar_11 : decode cX0_readsCalendar 11 = .ok (.bipush 8, 2) := dk_16 8 (dk_at dksX0_readsCalendar_0 11 rfl rfl)
theorem dX0_readsCalendar_13 : decode cX0_readsCalendar 13 = .ok (.if_icmp .ge 30, 3) := dk_162 0 30 (dk_at dksX0_readsCalendar_0 13 rfl rfl)
theorem dX0_readsCalendar_16 : decode cX0_readsCalendar 16 = .ok (.aload_n 0, 1) := dk_42 (dk_at dksX0_readsCalendar_0 16 rfl rfl)
theorem dX0_readsCalendar_17 : decode cX0_readsCalendar 17 = .ok (.invokevirtual 173, 3) := dk_182 0 173 (dk_at dksX0_readsCalendar_0 17 rfl rfl)
theorem dX0_readsCalendar_20 : decode cX0_readsCalendar 20 = .ok (.bipush 48, 2) := dk_16 48 (dk_at dksX0_readsCalendar_0 20 rfl rfl)
theorem dX0_readsCalendar_22 : decode cX0_readsCalendar 22 = .ok (.bipush 50, 2) := dk_16 50 (dk_at dksX0_readsCalendar_0 22 rfl rfl)
theorem dX0_readsCalendar_24 : decode cX0_readsCalendar 24 = .ok (.invokestatic 129, 3) := dk_184 0 129 (dk_at dksX0_readsCalendar_1 0 rfl rfl)
theorem dX0_readsCalendar_27 : decode cX0_readsCalendar 27 = .ok (.ifCond .eq 16, 3) := dk_153 0 16 (dk_at dksX0_readsCalendar_1 3 rfl rfl)
theorem dX0_readsCalendar_30 : decode cX0_readsCalendar 30 = .ok (.aload_n 0, 1) := dk_42 (dk_at dksX0_readsCalendar_1 6 rfl rfl)
theorem dX0_readsCalendar_31 : decode cX0_readsCalendar 31 = .ok (.dup, 1) := dk_89 (dk_at dksX0_readsCalendar_1 7 rfl rfl)
theorem dX0_readsCalendar_32 : decode cX0_readsCalendar 32 = .ok (.getfield 167, 3) := dk_180 0 167 (dk_at dksX0_readsCalendar_1 8 rfl rfl)
theorem dX0_readsCalendar_35 : decode cX0_readsCalendar 35 = .ok (.iconst 1, 1) := dk_4 (dk_at dksX0_readsCalendar_1 11 rfl rfl)
theorem dX0_readsCalendar_36 : decode cX0_readsCalendar 36 = .ok (.iadd, 1) := dk_96 (dk_at dksX0_readsCalendar_1 12 rfl rfl)
theorem dX0_readsCalendar_37 : decode cX0_readsCalendar 37 = .ok (.putfield 167, 3) := dk_181 0 167 (dk_at dksX0_readsCalendar_1 13 rfl rfl)
theorem dX0_readsCalendar_40 : decode cX0_readsCalendar 40 = .ok (.goto (-35), 3) := dk_167 255 221 (dk_at dksX0_readsCalendar_1 16 rfl rfl)
theorem dX0_readsCalendar_43 : decode cX0_readsCalendar 43 = .ok (.aload_n 0, 1) := dk_42 (dk_at dksX0_readsCalendar_1 19 rfl rfl)
theorem dX0_readsCalendar_44 : decode cX0_readsCalendar 44 = .ok (.getfield 167, 3) := dk_180 0 167 (dk_at dksX0_readsCalendar_1 20 rfl rfl)
theorem dX0_readsCalendar_47 : decode cX0_readsCalendar 47 = .ok (.iload_n 1, 1) := dk_27 (dk_at dksX0_readsCalendar_1 23 rfl rfl)
theorem dX0_readsCalendar_48 : decode cX0_readsCalendar 48 = .ok (.isub, 1) := dk_100 (dk_at dksX0_readsCalendar_2 0 rfl rfl)
theorem dX0_readsCalendar_49 : decode cX0_readsCalendar 49 = .ok (.newarray .byte, 2) := dk_188_8 (dk_at dksX0_readsCalendar_2 1 rfl rfl)
theorem dX0_readsCalendar_51 : decode cX0_readsCalendar 51 = .ok (.astore_n 2, 1) := dk_77 (dk_at dksX0_readsCalendar_2 3 rfl rfl)
theorem dX0_readsCalendar_52 : decode cX0_readsCalendar 52 = .ok (.iconst 0, 1) := dk_3 (dk_at dksX0_readsCalendar_2 4 rfl rfl)
theorem dX0_readsCalendar_53 : decode cX0_readsCalendar 53 = .ok (.istore_n 3, 1) := dk_62 (dk_at dksX0_readsCalendar_2 5 rfl rfl)
theorem dX0_readsCalendar_54 : decode cX0_readsCalendar 54 = .ok (.iload_n 3, 1) := dk_29 (dk_at dksX0_readsCalendar_2 6 rfl rfl)
theorem dX0_readsCalendar_55 : decode cX0_readsCalendar 55 = .ok (.aload_n 2, 1) := dk_44 (dk_at dksX0_readsCalendar_2 7 rfl rfl)
theorem dX0_readsCalendar_56 : decode cX0_readsCalendar 56 = .ok (.arraylength, 1) := dk_190 (dk_at dksX0_readsCalendar_2 8 rfl rfl)
theorem dX0_readsCalendar_57 : decode cX0_readsCalendar 57 = .ok (.if_icmp .ge 24, 3) := dk_162 0 24 (dk_at dksX0_readsCalendar_2 9 rfl rfl)
theorem dX0_readsCalendar_60 : decode cX0_readsCalendar 60 = .ok (.aload_n 2, 1) := dk_44 (dk_at dksX0_readsCalendar_2 12 rfl rfl)
theorem dX0_readsCalendar_61 : decode cX0_readsCalendar 61 = .ok (.iload_n 3, 1) := dk_29 (dk_at dksX0_readsCalendar_2 13 rfl rfl)
theorem dX0_readsCalendar_62 : decode cX0_readsCalendar 62 = .ok (.aload_n 0, 1) := dk_42 (dk_at dksX0_readsCalendar_2 14 rfl rfl)
theorem dX0_readsCalendar_63 : decode cX0_readsCalendar 63 = .ok (.getfield 170, 3) := dk_180 0 170 (dk_at dksX0_readsCalendar_2 15 rfl rfl)
theorem dX0_readsCalendar_66 : decode cX0_readsCalendar 66 = .ok (.iload_n 1, 1) := dk_27 (dk_at dksX0_readsCalendar_2 18 rfl rfl)
theorem dX0_readsCalendar_67 : decode cX0_readsCalendar 67 = .ok (.iload_n 3, 1) := dk_29 (dk_at dksX0_readsCalendar_2 19 rfl rfl)
theorem dX0_readsCalendar_68 : decode cX0_readsCalendar 68 = .ok (.iadd, 1) := dk_96 (dk_at dksX0_readsCalendar_2 20 rfl rfl)
theorem dX0_readsCalendar_69 : decode cX0_readsCalendar 69 = .ok (.baload, 1) := dk_51 (dk_at dksX0_readsCalendar_2 21 rfl rfl)
theorem dX0_readsCalendar_70 : decode cX0_readsCalendar 70 = .ok (.bipush 48, 2) := dk_16 48 (dk_at dksX0_readsCalendar_2 22 rfl rfl)
theorem dX0_readsCalendar_72 : decode cX0_readsCalendar 72 = .ok (.isub, 1) := dk_100 (dk_at dksX0_readsCalendar_3 0 rfl rfl)
theorem dX0_readsCalendar_73 : decode cX0_readsCalendar 73 = .ok (.i2b, 1) := dk_145 (dk_at dksX0_readsCalendar_3 1 rfl rfl)
theorem dX0_readsCalendar_74 : decode cX0_readsCalendar 74 = .ok (.bastore, 1) := dk_84 (dk_at dksX0_readsCalendar_3 2 rfl rfl)
theorem dX0_readsCalendar_75 : decode cX0_readsCalendar 75 = .ok (.iinc 3 1, 3) := dk_132 3 1 (dk_at dksX0_readsCalendar_3 3 rfl rfl)
theorem dX0_readsCalendar_78 : decode cX0_readsCalendar 78 = .ok (.goto (-24), 3) := dk_167 255 232 (dk_at dksX0_readsCalendar_3 6 rfl rfl)
theorem dX0_readsCalendar_81 : decode cX0_readsCalendar 81 = .ok (.aload_n 0, 1) := dk_42 (dk_at dksX0_readsCalendar_3 9 rfl rfl)
theorem dX0_readsCalendar_82 : decode cX0_readsCalendar 82 = .ok (.aload_n 2, 1) := dk_44 (dk_at dksX0_readsCalendar_3 10 rfl rfl)
theorem dX0_readsCalendar_83 : decode cX0_readsCalendar 83 = .ok (.putfield 232, 3) := dk_181 0 232 (dk_at dksX0_readsCalendar_3 11 rfl rfl)
theorem dX0_readsCalendar_86 : decode cX0_readsCalendar 86 = .ok (.aload_n 2, 1) := dk_44 (dk_at dksX0_readsCalendar_3 14 rfl rfl)
theorem dX0_readsCalendar_87 : decode cX0_readsCalendar 87 = .ok (.arraylength, 1) := dk_190 (dk_at dksX0_readsCalendar_3 15 rfl rfl)
theorem dX0_readsCalendar_88 : decode cX0_readsCalendar 88 = .ok (.ifCond .le 7, 3) := dk_158 0 7 (dk_at dksX0_readsCalendar_3 16 rfl rfl)
theorem dX0_readsCalendar_91 : decode cX0_readsCalendar 91 = .ok (.iconst 1, 1) := dk_4 (dk_at dksX0_readsCalendar_3 19 rfl rfl)
theorem dX0_readsCalendar_92 : decode cX0_readsCalendar 92 = .ok (.goto 4, 3) := dk_167 0 4 (dk_at dksX0_readsCalendar_3 20 rfl rfl)
theorem dX0_readsCalendar_95 : decode cX0_readsCalendar 95 = .ok (.iconst 0, 1) := dk_3 (dk_at dksX0_readsCalendar_3 23 rfl rfl)
theorem dX0_readsCalendar_96 : decode cX0_readsCalendar 96 = .ok (.ireturn, 1) := dk_172 (dk_at dksX0_readsCalendar_4 0 rfl rfl)
abbrev cX0_readsChances : ByteArray := prog_1_method_26_code
def yX0_readsChances : MethodName := ⟨RX0, "readsChances", "()Z"⟩
def dkwX0_readsChances_2 : List UInt8 := [180, 0, 177, 96, 60, 132, 2, 1, 167, 255, 205, 27, 16, 12, 160, 0, 7, 4, 167, 0, 4, 3, 172]
abbrev dktX0_readsChances_2 : List UInt8 := dkwX0_readsChances_2 ++ []
def dkwX0_readsChances_1 : List UInt8 := [3, 16, 12, 182, 0, 180, 154, 0, 5, 3, 172, 42, 180, 0, 62, 28, 42, 180, 0, 177, 79, 27, 42]
abbrev dktX0_readsChances_1 : List UInt8 := dkwX0_readsChances_1 ++ dktX0_readsChances_2
def dkwX0_readsChances_0 : List UInt8 := [3, 60, 3, 61, 28, 6, 162, 0, 52, 28, 158, 0, 12, 42, 16, 44, 182, 0, 199, 153, 0, 14, 42, 5]
abbrev dktX0_readsChances_0 : List UInt8 := dkwX0_readsChances_0 ++ dktX0_readsChances_1
theorem dksX0_readsChances_0 : cX0_readsChances.data.toList.drop 0 = dktX0_readsChances_0 := by decide +kernel
theorem dksX0_readsChances_1 : cX0_readsChances.data.toList.drop 24 = dktX0_readsChances_1 := dk_seg dksX0_readsChances_0 24 rfl rfl
theorem dksX0_readsChances_2 : cX0_readsChances.data.toList.drop 47 = dktX0_readsChances_2 := dk_seg dksX0_readsChances_1 23 rfl rfl
theorem dX0_readsChances_0 : decode cX0_readsChances 0 = .ok (.iconst 0, 1) := dk_3 (dk_at dksX0_readsChances_0 0 rfl rfl)
theorem dX0_readsChances_1 : decode cX0_readsChances 1 = .ok (.istore_n 1, 1) := dk_60 (dk_at dksX0_readsChances_0 1 rfl rfl)
theorem dX0_readsChances_2 : decode cX0_readsChances 2 = .ok (.iconst 0, 1) := dk_3 (dk_at dksX0_readsChances_0 2 rfl rfl)
theorem dX0_readsChances_3 : decode cX0_readsChances 3 = .ok (.istore_n 2, 1) := dk_61 (dk_at dksX0_readsChances_0 3 rfl rfl)
theorem dX0_readsChances_4 : decode cX0_readsChances 4 = .ok (.iload_n 2, 1) := dk_28 (dk_at dksX0_readsChances_0 4 rfl rfl)
theorem dX0_readsChances_5 : decode cX0_readsChances 5 = .ok (.iconst 3, 1) := dk_6 (dk_at dksX0_readsChances_0 5 rfl rfl)
theorem dX0_readsChances_6 : decode cX0_readsChances 6 = .ok (.if_icmp .ge 52, 3) := dk_162 0 52 (dk_at dksX0_readsChances_0 6 rfl rfl)
theorem dX0_readsChances_9 : decode cX0_readsChances 9 = .ok (.iload_n 2, 1) := dk_28 (dk_at dksX0_readsChances_0 9 rfl rfl)
theorem dX0_readsChances_10 : decode cX0_readsChances 10 = .ok (.ifCond .le 12, 3) := dk_158 0 12 (dk_at dksX0_readsChances_0 10 rfl rfl)
theorem dX0_readsChances_13 : decode cX0_readsChances 13 = .ok (.aload_n 0, 1) := dk_42 (dk_at dksX0_readsChances_0 13 rfl rfl)
theorem dX0_readsChances_14 : decode cX0_readsChances 14 = .ok (.bipush 44, 2) := dk_16 44 (dk_at dksX0_readsChances_0 14 rfl rfl)
theorem dX0_readsChances_16 : decode cX0_readsChances 16 = .ok (.invokevirtual 199, 3) := dk_182 0 199 (dk_at dksX0_readsChances_0 16 rfl rfl)
theorem dX0_readsChances_19 : decode cX0_readsChances 19 = .ok (.ifCond .eq 14, 3) := dk_153 0 14 (dk_at dksX0_readsChances_0 19 rfl rfl)
theorem dX0_readsChances_22 : decode cX0_readsChances 22 = .ok (.aload_n 0, 1) := dk_42 (dk_at dksX0_readsChances_0 22 rfl rfl)
theorem dX0_readsChances_23 : decode cX0_readsChances 23 = .ok (.iconst 2, 1) := dk_5 (dk_at dksX0_readsChances_0 23 rfl rfl)
theorem dX0_readsChances_24 : decode cX0_readsChances 24 = .ok (.iconst 0, 1) := dk_3 (dk_at dksX0_readsChances_1 0 rfl rfl)
theorem dX0_readsChances_25 : decode cX0_readsChances 25 = .ok (.bipush 12, 2) := dk_16 12 (dk_at dksX0_readsChances_1 1 rfl rfl)
theorem dX0_readsChances_27 : decode cX0_readsChances 27 = .ok (.invokevirtual 180, 3) := dk_182 0 180 (dk_at dksX0_readsChances_1 3 rfl rfl)
theorem dX0_readsChances_30 : decode cX0_readsChances 30 = .ok (.ifCond .ne 5, 3) := dk_154 0 5 (dk_at dksX0_readsChances_1 6 rfl rfl)
theorem dX0_readsChances_33 : decode cX0_readsChances 33 = .ok (.iconst 0, 1) := dk_3 (dk_at dksX0_readsChances_1 9 rfl rfl)
theorem dX0_readsChances_34 : decode cX0_readsChances 34 = .ok (.ireturn, 1) := dk_172 (dk_at dksX0_readsChances_1 10 rfl rfl)
theorem dX0_readsChances_35 : decode cX0_readsChances 35 = .ok (.aload_n 0, 1) := dk_42 (dk_at dksX0_readsChances_1 11 rfl rfl)
theorem dX0_readsChances_36 : decode cX0_readsChances 36 = .ok (.getfield 62, 3) := dk_180 0 62 (dk_at dksX0_readsChances_1 12 rfl rfl)
theorem dX0_readsChances_39 : decode cX0_readsChances 39 = .ok (.iload_n 2, 1) := dk_28 (dk_at dksX0_readsChances_1 15 rfl rfl)
theorem dX0_readsChances_40 : decode cX0_readsChances 40 = .ok (.aload_n 0, 1) := dk_42 (dk_at dksX0_readsChances_1 16 rfl rfl)
theorem dX0_readsChances_41 : decode cX0_readsChances 41 = .ok (.getfield 177, 3) := dk_180 0 177 (dk_at dksX0_readsChances_1 17 rfl rfl)
theorem dX0_readsChances_44 : decode cX0_readsChances 44 = .ok (.iastore, 1) := dk_79 (dk_at dksX0_readsChances_1 20 rfl rfl)
theorem dX0_readsChances_45 : decode cX0_readsChances 45 = .ok (.iload_n 1, 1) := dk_27 (dk_at dksX0_readsChances_1 21 rfl rfl)
theorem dX0_readsChances_46 : decode cX0_readsChances 46 = .ok (.aload_n 0, 1) := dk_42 (dk_at dksX0_readsChances_1 22 rfl rfl)
theorem dX0_readsChances_47 : decode cX0_readsChances 47 = .ok (.getfield 177, 3) := dk_180 0 177 (dk_at dksX0_readsChances_2 0 rfl rfl)
theorem dX0_readsChances_50 : decode cX0_readsChances 50 = .ok (.iadd, 1) := dk_96 (dk_at dksX0_readsChances_2 3 rfl rfl)
theorem dX0_readsChances_51 : decode cX0_readsChances 51 = .ok (.istore_n 1, 1) := dk_60 (dk_at dksX0_readsChances_2 4 rfl rfl)
theorem dX0_readsChances_52 : decode cX0_readsChances 52 = .ok (.iinc 2 1, 3) := dk_132 2 1 (dk_at dksX0_readsChances_2 5 rfl rfl)
theorem dX0_readsChances_55 : decode cX0_readsChances 55 = .ok (.goto (-51), 3) := dk_167 255 205 (dk_at dksX0_readsChances_2 8 rfl rfl)
theorem dX0_readsChances_58 : decode cX0_readsChances 58 = .ok (.iload_n 1, 1) := dk_27 (dk_at dksX0_readsChances_2 11 rfl rfl)
theorem dX0_readsChances_59 : decode cX0_readsChances 59 = .ok (.bipush 12, 2) := dk_16 12 (dk_at dksX0_readsChances_2 12 rfl rfl)
theorem dX0_readsChances_61 : decode cX0_readsChances 61 = .ok (.if_icmp .ne 7, 3) := dk_160 0 7 (dk_at dksX0_readsChances_2 14 rfl rfl)
theorem dX0_readsChances_64 : decode cX0_readsChances 64 = .ok (.iconst 1, 1) := dk_4 (dk_at dksX0_readsChances_2 17 rfl rfl)
theorem dX0_readsChances_65 : decode cX0_readsChances 65 = .ok (.goto 4, 3) := dk_167 0 4 (dk_at dksX0_readsChances_2 18 rfl rfl)
theorem dX0_readsChances_68 : decode cX0_readsChances 68 = .ok (.iconst 0, 1) := dk_3 (dk_at dksX0_readsChances_2 21 rfl rfl)
theorem dX0_readsChances_69 : decode cX0_readsChances 69 = .ok (.ireturn, 1) := dk_172 (dk_at dksX0_readsChances_2 22 rfl rfl)
abbrev cX0_readsSort : ByteArray := prog_1_method_20_code
def yX0_readsSort : MethodName := ⟨RX0, "readsSort", "(I)Z"⟩
def dkwX0_readsSort_4 : List UInt8 := [180, 0, 196, 4, 96, 181, 0, 196, 4, 172]
abbrev dktX0_readsSort_4 : List UInt8 := dkwX0_readsSort_4 ++ []
def dkwX0_readsSort_3 : List UInt8 := [182, 0, 192, 78, 45, 199, 0, 5, 3, 172, 42, 180, 0, 59, 42, 180, 0, 196, 45, 83, 42, 89]
abbrev dktX0_readsSort_3 : List UInt8 := dkwX0_readsSort_3 ++ dktX0_readsSort_4
def dkwX0_readsSort_2 : List UInt8 := [44, 183, 0, 185, 167, 0, 23, 27, 16, 87, 160, 0, 11, 42, 44, 182, 0, 188, 167, 0, 9, 42, 27, 44]
abbrev dktX0_readsSort_2 : List UInt8 := dkwX0_readsSort_2 ++ dktX0_readsSort_3
def dkwX0_readsSort_1 : List UInt8 := [44, 29, 42, 180, 0, 177, 145, 84, 132, 3, 1, 167, 255, 227, 27, 16, 84, 160, 0, 14, 187, 0, 183, 89]
abbrev dktX0_readsSort_1 : List UInt8 := dkwX0_readsSort_1 ++ dktX0_readsSort_2
def dkwX0_readsSort_0 : List UInt8 := [6, 188, 8, 77, 3, 62, 29, 6, 162, 0, 30, 42, 4, 3, 16, 9, 182, 0, 180, 154, 0, 5, 3, 172]
abbrev dktX0_readsSort_0 : List UInt8 := dkwX0_readsSort_0 ++ dktX0_readsSort_1
theorem dksX0_readsSort_0 : cX0_readsSort.data.toList.drop 0 = dktX0_readsSort_0 := by decide +kernel
theorem dksX0_readsSort_1 : cX0_readsSort.data.toList.drop 24 = dktX0_readsSort_1 := dk_seg dksX0_readsSort_0 24 rfl rfl
theorem dksX0_readsSort_2 : cX0_readsSort.data.toList.drop 48 = dktX0_readsSort_2 := dk_seg dksX0_readsSort_1 24 rfl rfl
theorem dksX0_readsSort_3 : cX0_readsSort.data.toList.drop 72 = dktX0_readsSort_3 := dk_seg dksX0_readsSort_2 24 rfl rfl
theorem dksX0_readsSort_4 : cX0_readsSort.data.toList.drop 94 = dktX0_readsSort_4 := dk_seg dksX0_readsSort_3 22 rfl rfl
theorem dX0_readsSort_0 : decode cX0_readsSort 0 = .ok (.iconst 3, 1) := dk_6 (dk_at dksX0_readsSort_0 0 rfl rfl)
theorem dX0_readsSort_1 : decode cX0_readsSort 1 = .ok (.newarray .byte, 2) := dk_188_8 (dk_at dksX0_readsSort_0 1 rfl rfl)
theorem dX0_readsSort_3 : decode cX0_readsSort 3 = .ok (.astore_n 2, 1) := dk_77 (dk_at dksX0_readsSort_0 3 rfl rfl)
theorem dX0_readsSort_4 : decode cX0_readsSort 4 = .ok (.iconst 0, 1) := dk_3 (dk_at dksX0_readsSort_0 4 rfl rfl)
theorem dX0_readsSort_5 : decode cX0_readsSort 5 = .ok (.istore_n 3, 1) := dk_62 (dk_at dksX0_readsSort_0 5 rfl rfl)
theorem dX0_readsSort_6 : decode cX0_readsSort 6 = .ok (.iload_n 3, 1) := dk_29 (dk_at dksX0_readsSort_0 6 rfl rfl)
theorem dX0_readsSort_7 : decode cX0_readsSort 7 = .ok (.iconst 3, 1) := dk_6 (dk_at dksX0_readsSort_0 7 rfl rfl)
theorem dX0_readsSort_8 : decode cX0_readsSort 8 = .ok (.if_icmp .ge 30, 3) := dk_162 0 30 (dk_at dksX0_readsSort_0 8 rfl rfl)
theorem dX0_readsSort_11 : decode cX0_readsSort 11 = .ok (.aload_n 0, 1) := dk_42 (dk_at dksX0_readsSort_0 11 rfl rfl)
theorem dX0_readsSort_12 : decode cX0_readsSort 12 = .ok (.iconst 1, 1) := dk_4 (dk_at dksX0_readsSort_0 12 rfl rfl)
theorem dX0_readsSort_13 : decode cX0_readsSort 13 = .ok (.iconst 0, 1) := dk_3 (dk_at dksX0_readsSort_0 13 rfl rfl)
theorem dX0_readsSort_14 : decode cX0_readsSort 14 = .ok (.bipush 9, 2) := dk_16 9 (dk_at dksX0_readsSort_0 14 rfl rfl)
theorem dX0_readsSort_16 : decode cX0_readsSort 16 = .ok (.invokevirtual 180, 3) := dk_182 0 180 (dk_at dksX0_readsSort_0 16 rfl rfl)
theorem dX0_readsSort_19 : decode cX0_readsSort 19 = .ok (.ifCond .ne 5, 3) := dk_154 0 5 (dk_at dksX0_readsSort_0 19 rfl rfl)
theorem dX0_readsSort_22 : decode cX0_readsSort 22 = .ok (.iconst 0, 1) := dk_3 (dk_at dksX0_readsSort_0 22 rfl rfl)
theorem dX0_readsSort_23 : decode cX0_readsSort 23 = .ok (.ireturn, 1) := dk_172 (dk_at dksX0_readsSort_0 23 rfl rfl)
theorem dX0_readsSort_24 : decode cX0_readsSort 24 = .ok (.aload_n 2, 1) := dk_44 (dk_at dksX0_readsSort_1 0 rfl rfl)
theorem dX0_readsSort_25 : decode cX0_readsSort 25 = .ok (.iload_n 3, 1) := dk_29 (dk_at dksX0_readsSort_1 1 rfl rfl)
theorem dX0_readsSort_26 : decode cX0_readsSort 26 = .ok (.aload_n 0, 1) := dk_42 (dk_at dksX0_readsSort_1 2 rfl rfl)
theorem dX0_readsSort_27 : decode cX0_readsSort 27 = .ok (.getfield 177, 3) := dk_180 0 177 (dk_at dksX0_readsSort_1 3 rfl rfl)
theorem dX0_readsSort_30 : decode cX0_readsSort 30 = .ok (.i2b, 1) := dk_145 (dk_at dksX0_readsSort_1 6 rfl rfl)
theorem dX0_readsSort_31 : decode cX0_readsSort 31 = .ok (.bastore, 1) := dk_84 (dk_at dksX0_readsSort_1 7 rfl rfl)
theorem dX0_readsSort_32 : decode cX0_readsSort 32 = .ok (.iinc 3 1, 3) := dk_132 3 1 (dk_at dksX0_readsSort_1 8 rfl rfl)
theorem dX0_readsSort_35 : decode cX0_readsSort 35 = .ok (.goto (-29), 3) := dk_167 255 227 (dk_at dksX0_readsSort_1 11 rfl rfl)
theorem dX0_readsSort_38 : decode cX0_readsSort 38 = .ok (.iload_n 1, 1) := dk_27 (dk_at dksX0_readsSort_1 14 rfl rfl)
theorem dX0_readsSort_39 : decode cX0_readsSort 39 = .ok (.bipush 84, 2) := dk_16 84 (dk_at dksX0_readsSort_1 15 rfl rfl)
theorem dX0_readsSort_41 : decode cX0_readsSort 41 = .ok (.if_icmp .ne 14, 3) := dk_160 0 14 (dk_at dksX0_readsSort_1 17 rfl rfl)
theorem dX0_readsSort_44 : decode cX0_readsSort 44 = .ok (.new 183, 3) := dk_187 0 183 (dk_at dksX0_readsSort_1 20 rfl rfl)
theorem dX0_readsSort_47 : decode cX0_readsSort 47 = .ok (.dup, 1) := dk_89 (dk_at dksX0_readsSort_1 23 rfl rfl)
theorem dX0_readsSort_48 : decode cX0_readsSort 48 = .ok (.aload_n 2, 1) := dk_44 (dk_at dksX0_readsSort_2 0 rfl rfl)
theorem dX0_readsSort_49 : decode cX0_readsSort 49 = .ok (.invokespecial 185, 3) := dk_183 0 185 (dk_at dksX0_readsSort_2 1 rfl rfl)
theorem dX0_readsSort_52 : decode cX0_readsSort 52 = .ok (.goto 23, 3) := dk_167 0 23 (dk_at dksX0_readsSort_2 4 rfl rfl)
theorem dX0_readsSort_55 : decode cX0_readsSort 55 = .ok (.iload_n 1, 1) := dk_27 (dk_at dksX0_readsSort_2 7 rfl rfl)
theorem dX0_readsSort_56 : decode cX0_readsSort 56 = .ok (.bipush 87, 2) := dk_16 87 (dk_at dksX0_readsSort_2 8 rfl rfl)
theorem dX0_readsSort_58 : decode cX0_readsSort 58 = .ok (.if_icmp .ne 11, 3) := dk_160 0 11 (dk_at dksX0_readsSort_2 10 rfl rfl)
theorem dX0_readsSort_61 : decode cX0_readsSort 61 = .ok (.aload_n 0, 1) := dk_42 (dk_at dksX0_readsSort_2 13 rfl rfl)
theorem dX0_readsSort_62 : decode cX0_readsSort 62 = .ok (.aload_n 2, 1) := dk_44 (dk_at dksX0_readsSort_2 14 rfl rfl)
theorem dX0_readsSort_63 : decode cX0_readsSort 63 = .ok (.invokevirtual 188, 3) := dk_182 0 188 (dk_at dksX0_readsSort_2 15 rfl rfl)
theorem dX0_readsSort_66 : decode cX0_readsSort 66 = .ok (.goto 9, 3) := dk_167 0 9 (dk_at dksX0_readsSort_2 18 rfl rfl)
theorem dX0_readsSort_69 : decode cX0_readsSort 69 = .ok (.aload_n 0, 1) := dk_42 (dk_at dksX0_readsSort_2 21 rfl rfl)
theorem dX0_readsSort_70 : decode cX0_readsSort 70 = .ok (.iload_n 1, 1) := dk_27 (dk_at dksX0_readsSort_2 22 rfl rfl)
theorem dX0_readsSort_71 : decode cX0_readsSort 71 = .ok (.aload_n 2, 1) := dk_44 (dk_at dksX0_readsSort_2 23 rfl rfl)
theorem dX0_readsSort_72 : decode cX0_readsSort 72 = .ok (.invokevirtual 192, 3) := dk_182 0 192 (dk_at dksX0_readsSort_3 0 rfl rfl)
theorem dX0_readsSort_75 : decode cX0_readsSort 75 = .ok (.astore_n 3, 1) := dk_78 (dk_at dksX0_readsSort_3 3 rfl rfl)
theorem dX0_readsSort_76 : decode cX0_readsSort 76 = .ok (.aload_n 3, 1) := dk_45 (dk_at dksX0_readsSort_3 4 rfl rfl)
theorem dX0_readsSort_77 : decode cX0_readsSort 77 = .ok (.ifnonnull 5, 3) := dk_199 0 5 (dk_at dksX0_readsSort_3 5 rfl rfl)
theorem dX0_readsSort_80 : decode cX0_readsSort 80 = .ok (.iconst 0, 1) := dk_3 (dk_at dksX0_readsSort_3 8 rfl rfl)
theorem dX0_readsSort_81 : decode cX0_readsSort 81 = .ok (.ireturn, 1) := dk_172 (dk_at dksX0_readsSort_3 9 rfl rfl)
theorem dX0_readsSort_82 : decode cX0_readsSort 82 = .ok (.aload_n 0, 1) := dk_42 (dk_at dksX0_readsSort_3 10 rfl rfl)
theorem dX0_readsSort_83 : decode cX0_readsSort 83 = .ok (.getfield 59, 3) := dk_180 0 59 (dk_at dksX0_readsSort_3 11 rfl rfl)
theorem dX0_readsSort_86 : decode cX0_readsSort 86 = .ok (.aload_n 0, 1) := dk_42 (dk_at dksX0_readsSort_3 14 rfl rfl)
theorem dX0_readsSort_87 : decode cX0_readsSort 87 = .ok (.getfield 196, 3) := dk_180 0 196 (dk_at dksX0_readsSort_3 15 rfl rfl)
theorem dX0_readsSort_90 : decode cX0_readsSort 90 = .ok (.aload_n 3, 1) := dk_45 (dk_at dksX0_readsSort_3 18 rfl rfl)
theorem dX0_readsSort_91 : decode cX0_readsSort 91 = .ok (.aastore, 1) := dk_83 (dk_at dksX0_readsSort_3 19 rfl rfl)
theorem dX0_readsSort_92 : decode cX0_readsSort 92 = .ok (.aload_n 0, 1) := dk_42 (dk_at dksX0_readsSort_3 20 rfl rfl)
theorem dX0_readsSort_93 : decode cX0_readsSort 93 = .ok (.dup, 1) := dk_89 (dk_at dksX0_readsSort_3 21 rfl rfl)
theorem dX0_readsSort_94 : decode cX0_readsSort 94 = .ok (.getfield 196, 3) := dk_180 0 196 (dk_at dksX0_readsSort_4 0 rfl rfl)
theorem dX0_readsSort_97 : decode cX0_readsSort 97 = .ok (.iconst 1, 1) := dk_4 (dk_at dksX0_readsSort_4 3 rfl rfl)
theorem dX0_readsSort_98 : decode cX0_readsSort 98 = .ok (.iadd, 1) := dk_96 (dk_at dksX0_readsSort_4 4 rfl rfl)
theorem dX0_readsSort_99 : decode cX0_readsSort 99 = .ok (.putfield 196, 3) := dk_181 0 196 (dk_at dksX0_readsSort_4 5 rfl rfl)
theorem dX0_readsSort_102 : decode cX0_readsSort 102 = .ok (.iconst 1, 1) := dk_4 (dk_at dksX0_readsSort_4 8 rfl rfl)
theorem dX0_readsSort_103 : decode cX0_readsSort 103 = .ok (.ireturn, 1) := dk_172 (dk_at dksX0_readsSort_4 9 rfl rfl)
abbrev cX0_readsWarm : ByteArray := prog_1_method_21_code
def yX0_readsWarm : MethodName := ⟨RX0, "readsWarm", "([B)LAcornYears$Sort;"⟩
def dkwX0_readsWarm_2 : List UInt8 := [187, 0, 202, 89, 43, 28, 42, 180, 0, 177, 183, 0, 204, 167, 0, 4, 1, 176]
abbrev dktX0_readsWarm_2 : List UInt8 := dkwX0_readsWarm_2 ++ []
def dkwX0_readsWarm_1 : List UInt8 := [180, 0, 177, 61, 42, 16, 45, 182, 0, 199, 153, 0, 30, 42, 5, 4, 16, 60, 182, 0, 180, 153, 0, 19]
abbrev dktX0_readsWarm_1 : List UInt8 := dkwX0_readsWarm_1 ++ dktX0_readsWarm_2
def dkwX0_readsWarm_0 : List UInt8 := [42, 16, 64, 182, 0, 199, 153, 0, 13, 42, 4, 3, 5, 182, 0, 180, 154, 0, 5, 1, 176, 42]
abbrev dktX0_readsWarm_0 : List UInt8 := dkwX0_readsWarm_0 ++ dktX0_readsWarm_1
theorem dksX0_readsWarm_0 : cX0_readsWarm.data.toList.drop 0 = dktX0_readsWarm_0 := by decide +kernel
theorem dksX0_readsWarm_1 : cX0_readsWarm.data.toList.drop 22 = dktX0_readsWarm_1 := dk_seg dksX0_readsWarm_0 22 rfl rfl
theorem dksX0_readsWarm_2 : cX0_readsWarm.data.toList.drop 46 = dktX0_readsWarm_2 := dk_seg dksX0_readsWarm_1 24 rfl rfl
theorem dX0_readsWarm_0 : decode cX0_readsWarm 0 = .ok (.aload_n 0, 1) := dk_42 (dk_at dksX0_readsWarm_0 0 rfl rfl)
theorem dX0_readsWarm_1 : decode cX0_readsWarm 1 = .ok (.bipush 64, 2) := dk_16 64 (dk_at dksX0_readsWarm_0 1 rfl rfl)
theorem dX0_readsWarm_3 : decode cX0_readsWarm 3 = .ok (.invokevirtual 199, 3) := dk_182 0 199 (dk_at dksX0_readsWarm_0 3 rfl rfl)
theorem dX0_readsWarm_6 : decode cX0_readsWarm 6 = .ok (.ifCond .eq 13, 3) := dk_153 0 13 (dk_at dksX0_readsWarm_0 6 rfl rfl)
theorem dX0_readsWarm_9 : decode cX0_readsWarm 9 = .ok (.aload_n 0, 1) := dk_42 (dk_at dksX0_readsWarm_0 9 rfl rfl)
theorem dX0_readsWarm_10 : decode cX0_readsWarm 10 = .ok (.iconst 1, 1) := dk_4 (dk_at dksX0_readsWarm_0 10 rfl rfl)
theorem dX0_readsWarm_11 : decode cX0_readsWarm 11 = .ok (.iconst 0, 1) := dk_3 (dk_at dksX0_readsWarm_0 11 rfl rfl)
theorem dX0_readsWarm_12 : decode cX0_readsWarm 12 = .ok (.iconst 2, 1) := dk_5 (dk_at dksX0_readsWarm_0 12 rfl rfl)
theorem dX0_readsWarm_13 : decode cX0_readsWarm 13 = .ok (.invokevirtual 180, 3) := dk_182 0 180 (dk_at dksX0_readsWarm_0 13 rfl rfl)
theorem dX0_readsWarm_16 : decode cX0_readsWarm 16 = .ok (.ifCond .ne 5, 3) := dk_154 0 5 (dk_at dksX0_readsWarm_0 16 rfl rfl)
theorem dX0_readsWarm_19 : decode cX0_readsWarm 19 = .ok (.aconst_null, 1) := dk_1 (dk_at dksX0_readsWarm_0 19 rfl rfl)
theorem dX0_readsWarm_20 : decode cX0_readsWarm 20 = .ok (.areturn, 1) := dk_176 (dk_at dksX0_readsWarm_0 20 rfl rfl)
theorem dX0_readsWarm_21 : decode cX0_readsWarm 21 = .ok (.aload_n 0, 1) := dk_42 (dk_at dksX0_readsWarm_0 21 rfl rfl)
theorem dX0_readsWarm_22 : decode cX0_readsWarm 22 = .ok (.getfield 177, 3) := dk_180 0 177 (dk_at dksX0_readsWarm_1 0 rfl rfl)
theorem dX0_readsWarm_25 : decode cX0_readsWarm 25 = .ok (.istore_n 2, 1) := dk_61 (dk_at dksX0_readsWarm_1 3 rfl rfl)
theorem dX0_readsWarm_26 : decode cX0_readsWarm 26 = .ok (.aload_n 0, 1) := dk_42 (dk_at dksX0_readsWarm_1 4 rfl rfl)
theorem dX0_readsWarm_27 : decode cX0_readsWarm 27 = .ok (.bipush 45, 2) := dk_16 45 (dk_at dksX0_readsWarm_1 5 rfl rfl)
theorem dX0_readsWarm_29 : decode cX0_readsWarm 29 = .ok (.invokevirtual 199, 3) := dk_182 0 199 (dk_at dksX0_readsWarm_1 7 rfl rfl)
theorem dX0_readsWarm_32 : decode cX0_readsWarm 32 = .ok (.ifCond .eq 30, 3) := dk_153 0 30 (dk_at dksX0_readsWarm_1 10 rfl rfl)
theorem dX0_readsWarm_35 : decode cX0_readsWarm 35 = .ok (.aload_n 0, 1) := dk_42 (dk_at dksX0_readsWarm_1 13 rfl rfl)
theorem dX0_readsWarm_36 : decode cX0_readsWarm 36 = .ok (.iconst 2, 1) := dk_5 (dk_at dksX0_readsWarm_1 14 rfl rfl)
theorem dX0_readsWarm_37 : decode cX0_readsWarm 37 = .ok (.iconst 1, 1) := dk_4 (dk_at dksX0_readsWarm_1 15 rfl rfl)
theorem dX0_readsWarm_38 : decode cX0_readsWarm 38 = .ok (.bipush 60, 2) := dk_16 60 (dk_at dksX0_readsWarm_1 16 rfl rfl)
theorem dX0_readsWarm_40 : decode cX0_readsWarm 40 = .ok (.invokevirtual 180, 3) := dk_182 0 180 (dk_at dksX0_readsWarm_1 18 rfl rfl)
theorem dX0_readsWarm_43 : decode cX0_readsWarm 43 = .ok (.ifCond .eq 19, 3) := dk_153 0 19 (dk_at dksX0_readsWarm_1 21 rfl rfl)
theorem dX0_readsWarm_46 : decode cX0_readsWarm 46 = .ok (.new 202, 3) := dk_187 0 202 (dk_at dksX0_readsWarm_2 0 rfl rfl)
theorem dX0_readsWarm_49 : decode cX0_readsWarm 49 = .ok (.dup, 1) := dk_89 (dk_at dksX0_readsWarm_2 3 rfl rfl)
theorem dX0_readsWarm_50 : decode cX0_readsWarm 50 = .ok (.aload_n 1, 1) := dk_43 (dk_at dksX0_readsWarm_2 4 rfl rfl)
theorem dX0_readsWarm_51 : decode cX0_readsWarm 51 = .ok (.iload_n 2, 1) := dk_28 (dk_at dksX0_readsWarm_2 5 rfl rfl)
theorem dX0_readsWarm_52 : decode cX0_readsWarm 52 = .ok (.aload_n 0, 1) := dk_42 (dk_at dksX0_readsWarm_2 6 rfl rfl)
theorem dX0_readsWarm_53 : decode cX0_readsWarm 53 = .ok (.getfield 177, 3) := dk_180 0 177 (dk_at dksX0_readsWarm_2 7 rfl rfl)
theorem dX0_readsWarm_56 : decode cX0_readsWarm 56 = .ok (.invokespecial 204, 3) := dk_183 0 204 (dk_at dksX0_readsWarm_2 10 rfl rfl)
theorem dX0_readsWarm_59 : decode cX0_readsWarm 59 = .ok (.goto 4, 3) := dk_167 0 4 (dk_at dksX0_readsWarm_2 13 rfl rfl)
theorem dX0_readsWarm_62 : decode cX0_readsWarm 62 = .ok (.aconst_null, 1) := dk_1 (dk_at dksX0_readsWarm_2 16 rfl rfl)
theorem dX0_readsWarm_63 : decode cX0_readsWarm 63 = .ok (.areturn, 1) := dk_176 (dk_at dksX0_readsWarm_2 17 rfl rfl)
abbrev cX0_readsSaver : ByteArray := prog_1_method_22_code
def yX0_readsSaver : MethodName := ⟨RX0, "readsSaver", "(I[B)LAcornYears$Sort;"⟩
def dkwX0_readsSaver_7 : List UInt8 := [1, 176]
abbrev dktX0_readsSaver_7 : List UInt8 := dkwX0_readsSaver_7 ++ []
def dkwX0_readsSaver_6 : List UInt8 := [182, 0, 180, 153, 0, 21, 187, 0, 220, 89, 44, 29, 21, 4, 42, 180, 0, 177, 183, 0, 222, 167, 0, 4]
abbrev dktX0_readsSaver_6 : List UInt8 := dkwX0_readsSaver_6 ++ dktX0_readsSaver_7
def dkwX0_readsSaver_5 : List UInt8 := [183, 0, 217, 167, 0, 4, 1, 176, 42, 16, 126, 182, 0, 199, 153, 0, 32, 42, 4, 5, 16, 9]
abbrev dktX0_readsSaver_5 : List UInt8 := dkwX0_readsSaver_5 ++ dktX0_readsSaver_6
def dkwX0_readsSaver_4 : List UInt8 := [5, 3, 16, 99, 182, 0, 180, 153, 0, 21, 187, 0, 215, 89, 44, 29, 21, 4, 42, 180, 0, 177]
abbrev dktX0_readsSaver_4 : List UInt8 := dkwX0_readsSaver_4 ++ dktX0_readsSaver_5
def dkwX0_readsSaver_3 : List UInt8 := [44, 29, 21, 4, 183, 0, 214, 176, 27, 16, 78, 160, 0, 43, 42, 16, 38, 182, 0, 199, 153, 0, 32, 42]
abbrev dktX0_readsSaver_3 : List UInt8 := dkwX0_readsSaver_3 ++ dktX0_readsSaver_4
def dkwX0_readsSaver_2 : List UInt8 := [182, 0, 180, 154, 0, 5, 1, 176, 42, 180, 0, 177, 54, 4, 27, 16, 86, 160, 0, 15, 187, 0, 212, 89]
abbrev dktX0_readsSaver_2 : List UInt8 := dkwX0_readsSaver_2 ++ dktX0_readsSaver_3
def dkwX0_readsSaver_1 : List UInt8 := [180, 0, 177, 62, 42, 16, 45, 182, 0, 199, 153, 0, 20, 42, 5, 4, 16, 60, 29, 4, 96, 184, 0, 207]
abbrev dktX0_readsSaver_1 : List UInt8 := dkwX0_readsSaver_1 ++ dktX0_readsSaver_2
def dkwX0_readsSaver_0 : List UInt8 := [42, 16, 62, 182, 0, 199, 153, 0, 14, 42, 5, 3, 16, 60, 182, 0, 180, 154, 0, 5, 1, 176, 42]
abbrev dktX0_readsSaver_0 : List UInt8 := dkwX0_readsSaver_0 ++ dktX0_readsSaver_1
theorem dksX0_readsSaver_0 : cX0_readsSaver.data.toList.drop 0 = dktX0_readsSaver_0 := by decide +kernel
theorem dksX0_readsSaver_1 : cX0_readsSaver.data.toList.drop 23 = dktX0_readsSaver_1 := dk_seg dksX0_readsSaver_0 23 rfl rfl
theorem dksX0_readsSaver_2 : cX0_readsSaver.data.toList.drop 47 = dktX0_readsSaver_2 := dk_seg dksX0_readsSaver_1 24 rfl rfl
theorem dksX0_readsSaver_3 : cX0_readsSaver.data.toList.drop 71 = dktX0_readsSaver_3 := dk_seg dksX0_readsSaver_2 24 rfl rfl
theorem dksX0_readsSaver_4 : cX0_readsSaver.data.toList.drop 95 = dktX0_readsSaver_4 := dk_seg dksX0_readsSaver_3 24 rfl rfl
theorem dksX0_readsSaver_5 : cX0_readsSaver.data.toList.drop 117 = dktX0_readsSaver_5 := dk_seg dksX0_readsSaver_4 22 rfl rfl
theorem dksX0_readsSaver_6 : cX0_readsSaver.data.toList.drop 139 = dktX0_readsSaver_6 := dk_seg dksX0_readsSaver_5 22 rfl rfl
theorem dksX0_readsSaver_7 : cX0_readsSaver.data.toList.drop 163 = dktX0_readsSaver_7 := dk_seg dksX0_readsSaver_6 24 rfl rfl
theorem dX0_readsSaver_0 : decode cX0_readsSaver 0 = .ok (.aload_n 0, 1) := dk_42 (dk_at dksX0_readsSaver_0 0 rfl rfl)
theorem dX0_readsSaver_1 : decode cX0_readsSaver 1 = .ok (.bipush 62, 2) := dk_16 62 (dk_at dksX0_readsSaver_0 1 rfl rfl)
theorem dX0_readsSaver_3 : decode cX0_readsSaver 3 = .ok (.invokevirtual 199, 3) := dk_182 0 199 (dk_at dksX0_readsSaver_0 3 rfl rfl)
theorem dX0_readsSaver_6 : decode cX0_readsSaver 6 = .ok (.ifCond .eq 14, 3) := dk_153 0 14 (dk_at dksX0_readsSaver_0 6 rfl rfl)
theorem dX0_readsSaver_9 : decode cX0_readsSaver 9 = .ok (.aload_n 0, 1) := dk_42 (dk_at dksX0_readsSaver_0 9 rfl rfl)
theorem dX0_readsSaver_10 : decode cX0_readsSaver 10 = .ok (.iconst 2, 1) := dk_5 (dk_at dksX0_readsSaver_0 10 rfl rfl)
theorem dX0_readsSaver_11 : decode cX0_readsSaver 11 = .ok (.iconst 0, 1) := dk_3 (dk_at dksX0_readsSaver_0 11 rfl rfl)
theorem dX0_readsSaver_12 : decode cX0_readsSaver 12 = .ok (.bipush 60, 2) := dk_16 60 (dk_at dksX0_readsSaver_0 12 rfl rfl)
theorem dX0_readsSaver_14 : decode cX0_readsSaver 14 = .ok (.invokevirtual 180, 3) := dk_182 0 180 (dk_at dksX0_readsSaver_0 14 rfl rfl)
theorem dX0_readsSaver_17 : decode cX0_readsSaver 17 = .ok (.ifCond .ne 5, 3) := dk_154 0 5 (dk_at dksX0_readsSaver_0 17 rfl rfl)
theorem dX0_readsSaver_20 : decode cX0_readsSaver 20 = .ok (.aconst_null, 1) := dk_1 (dk_at dksX0_readsSaver_0 20 rfl rfl)
theorem dX0_readsSaver_21 : decode cX0_readsSaver 21 = .ok (.areturn, 1) := dk_176 (dk_at dksX0_readsSaver_0 21 rfl rfl)
theorem dX0_readsSaver_22 : decode cX0_readsSaver 22 = .ok (.aload_n 0, 1) := dk_42 (dk_at dksX0_readsSaver_0 22 rfl rfl)
theorem dX0_readsSaver_23 : decode cX0_readsSaver 23 = .ok (.getfield 177, 3) := dk_180 0 177 (dk_at dksX0_readsSaver_1 0 rfl rfl)
theorem dX0_readsSaver_26 : decode cX0_readsSaver 26 = .ok (.istore_n 3, 1) := dk_62 (dk_at dksX0_readsSaver_1 3 rfl rfl)
theorem dX0_readsSaver_27 : decode cX0_readsSaver 27 = .ok (.aload_n 0, 1) := dk_42 (dk_at dksX0_readsSaver_1 4 rfl rfl)
theorem dX0_readsSaver_28 : decode cX0_readsSaver 28 = .ok (.bipush 45, 2) := dk_16 45 (dk_at dksX0_readsSaver_1 5 rfl rfl)
theorem dX0_readsSaver_30 : decode cX0_readsSaver 30 = .ok (.invokevirtual 199, 3) := dk_182 0 199 (dk_at dksX0_readsSaver_1 7 rfl rfl)
theorem dX0_readsSaver_33 : decode cX0_readsSaver 33 = .ok (.ifCond .eq 20, 3) := dk_153 0 20 (dk_at dksX0_readsSaver_1 10 rfl rfl)
theorem dX0_readsSaver_36 : decode cX0_readsSaver 36 = .ok (.aload_n 0, 1) := dk_42 (dk_at dksX0_readsSaver_1 13 rfl rfl)
theorem dX0_readsSaver_37 : decode cX0_readsSaver 37 = .ok (.iconst 2, 1) := dk_5 (dk_at dksX0_readsSaver_1 14 rfl rfl)
theorem dX0_readsSaver_38 : decode cX0_readsSaver 38 = .ok (.iconst 1, 1) := dk_4 (dk_at dksX0_readsSaver_1 15 rfl rfl)
theorem dX0_readsSaver_39 : decode cX0_readsSaver 39 = .ok (.bipush 60, 2) := dk_16 60 (dk_at dksX0_readsSaver_1 16 rfl rfl)
theorem dX0_readsSaver_41 : decode cX0_readsSaver 41 = .ok (.iload_n 3, 1) := dk_29 (dk_at dksX0_readsSaver_1 18 rfl rfl)
theorem dX0_readsSaver_42 : decode cX0_readsSaver 42 = .ok (.iconst 1, 1) := dk_4 (dk_at dksX0_readsSaver_1 19 rfl rfl)
theorem dX0_readsSaver_43 : decode cX0_readsSaver 43 = .ok (.iadd, 1) := dk_96 (dk_at dksX0_readsSaver_1 20 rfl rfl)
theorem dX0_readsSaver_44 : decode cX0_readsSaver 44 = .ok (.invokestatic 207, 3) := dk_184 0 207 (dk_at dksX0_readsSaver_1 21 rfl rfl)
theorem dX0_readsSaver_47 : decode cX0_readsSaver 47 = .ok (.invokevirtual 180, 3) := dk_182 0 180 (dk_at dksX0_readsSaver_2 0 rfl rfl)
theorem dX0_readsSaver_50 : decode cX0_readsSaver 50 = .ok (.ifCond .ne 5, 3) := dk_154 0 5 (dk_at dksX0_readsSaver_2 3 rfl rfl)
theorem dX0_readsSaver_53 : decode cX0_readsSaver 53 = .ok (.aconst_null, 1) := dk_1 (dk_at dksX0_readsSaver_2 6 rfl rfl)
theorem dX0_readsSaver_54 : decode cX0_readsSaver 54 = .ok (.areturn, 1) := dk_176 (dk_at dksX0_readsSaver_2 7 rfl rfl)
theorem dX0_readsSaver_55 : decode cX0_readsSaver 55 = .ok (.aload_n 0, 1) := dk_42 (dk_at dksX0_readsSaver_2 8 rfl rfl)
theorem dX0_readsSaver_56 : decode cX0_readsSaver 56 = .ok (.getfield 177, 3) := dk_180 0 177 (dk_at dksX0_readsSaver_2 9 rfl rfl)
theorem dX0_readsSaver_59 : decode cX0_readsSaver 59 = .ok (.istore 4, 2) := dk_54 4 (dk_at dksX0_readsSaver_2 12 rfl rfl)
theorem dX0_readsSaver_61 : decode cX0_readsSaver 61 = .ok (.iload_n 1, 1) := dk_27 (dk_at dksX0_readsSaver_2 14 rfl rfl)
theorem dX0_readsSaver_62 : decode cX0_readsSaver 62 = .ok (.bipush 86, 2) := dk_16 86 (dk_at dksX0_readsSaver_2 15 rfl rfl)
theorem dX0_readsSaver_64 : decode cX0_readsSaver 64 = .ok (.if_icmp .ne 15, 3) := dk_160 0 15 (dk_at dksX0_readsSaver_2 17 rfl rfl)
theorem dX0_readsSaver_67 : decode cX0_readsSaver 67 = .ok (.new 212, 3) := dk_187 0 212 (dk_at dksX0_readsSaver_2 20 rfl rfl)
theorem dX0_readsSaver_70 : decode cX0_readsSaver 70 = .ok (.dup, 1) := dk_89 (dk_at dksX0_readsSaver_2 23 rfl rfl)
theorem dX0_readsSaver_71 : decode cX0_readsSaver 71 = .ok (.aload_n 2, 1) := dk_44 (dk_at dksX0_readsSaver_3 0 rfl rfl)
theorem dX0_readsSaver_72 : decode cX0_readsSaver 72 = .ok (.iload_n 3, 1) := dk_29 (dk_at dksX0_readsSaver_3 1 rfl rfl)
theorem dX0_readsSaver_73 : decode cX0_readsSaver 73 = .ok (.iload 4, 2) := dk_21 4 (dk_at dksX0_readsSaver_3 2 rfl rfl)
theorem dX0_readsSaver_75 : decode cX0_readsSaver 75 = .ok (.invokespecial 214, 3) := dk_183 0 214 (dk_at dksX0_readsSaver_3 4 rfl rfl)
theorem dX0_readsSaver_78 : decode cX0_readsSaver 78 = .ok (.areturn, 1) := dk_176 (dk_at dksX0_readsSaver_3 7 rfl rfl)
theorem dX0_readsSaver_79 : decode cX0_readsSaver 79 = .ok (.iload_n 1, 1) := dk_27 (dk_at dksX0_readsSaver_3 8 rfl rfl)
theorem dX0_readsSaver_80 : decode cX0_readsSaver 80 = .ok (.bipush 78, 2) := dk_16 78 (dk_at dksX0_readsSaver_3 9 rfl rfl)
theorem dX0_readsSaver_82 : decode cX0_readsSaver 82 = .ok (.if_icmp .ne 43, 3) := dk_160 0 43 (dk_at dksX0_readsSaver_3 11 rfl rfl)
theorem dX0_readsSaver_85 : decode cX0_readsSaver 85 = .ok (.aload_n 0, 1) := dk_42 (dk_at dksX0_readsSaver_3 14 rfl rfl)
theorem dX0_readsSaver_86 : decode cX0_readsSaver 86 = .ok (.bipush 38, 2) := dk_16 38 (dk_at dksX0_readsSaver_3 15 rfl rfl)
theorem dX0_readsSaver_88 : decode cX0_readsSaver 88 = .ok (.invokevirtual 199, 3) := dk_182 0 199 (dk_at dksX0_readsSaver_3 17 rfl rfl)
theorem dX0_readsSaver_91 : decode cX0_readsSaver 91 = .ok (.ifCond .eq 32, 3) := dk_153 0 32 (dk_at dksX0_readsSaver_3 20 rfl rfl)
theorem dX0_readsSaver_94 : decode cX0_readsSaver 94 = .ok (.aload_n 0, 1) := dk_42 (dk_at dksX0_readsSaver_3 23 rfl rfl)
theorem dX0_readsSaver_95 : decode cX0_readsSaver 95 = .ok (.iconst 2, 1) := dk_5 (dk_at dksX0_readsSaver_4 0 rfl rfl)
theorem dX0_readsSaver_96 : decode cX0_readsSaver 96 = .ok (.iconst 0, 1) := dk_3 (dk_at dksX0_readsSaver_4 1 rfl rfl)
theorem dX0_readsSaver_97 : decode cX0_readsSaver 97 = .ok (.bipush 99, 2) := dk_16 99 (dk_at dksX0_readsSaver_4 2 rfl rfl)
theorem dX0_readsSaver_99 : decode cX0_readsSaver 99 = .ok (.invokevirtual 180, 3) := dk_182 0 180 (dk_at dksX0_readsSaver_4 4 rfl rfl)
theorem dX0_readsSaver_102 : decode cX0_readsSaver 102 = .ok (.ifCond .eq 21, 3) := dk_153 0 21 (dk_at dksX0_readsSaver_4 7 rfl rfl)
theorem dX0_readsSaver_105 : decode cX0_readsSaver 105 = .ok (.new 215, 3) := dk_187 0 215 (dk_at dksX0_readsSaver_4 10 rfl rfl)
theorem dX0_readsSaver_108 : decode cX0_readsSaver 108 = .ok (.dup, 1) := dk_89 (dk_at dksX0_readsSaver_4 13 rfl rfl)
theorem dX0_readsSaver_109 : decode cX0_readsSaver 109 = .ok (.aload_n 2, 1) := dk_44 (dk_at dksX0_readsSaver_4 14 rfl rfl)
theorem dX0_readsSaver_110 : decode cX0_readsSaver 110 = .ok (.iload_n 3, 1) := dk_29 (dk_at dksX0_readsSaver_4 15 rfl rfl)
theorem dX0_readsSaver_111 : decode cX0_readsSaver 111 = .ok (.iload 4, 2) := dk_21 4 (dk_at dksX0_readsSaver_4 16 rfl rfl)
theorem dX0_readsSaver_113 : decode cX0_readsSaver 113 = .ok (.aload_n 0, 1) := dk_42 (dk_at dksX0_readsSaver_4 18 rfl rfl)
theorem dX0_readsSaver_114 : decode cX0_readsSaver 114 = .ok (.getfield 177, 3) := dk_180 0 177 (dk_at dksX0_readsSaver_4 19 rfl rfl)
theorem dX0_readsSaver_117 : decode cX0_readsSaver 117 = .ok (.invokespecial 217, 3) := dk_183 0 217 (dk_at dksX0_readsSaver_5 0 rfl rfl)
theorem dX0_readsSaver_120 : decode cX0_readsSaver 120 = .ok (.goto 4, 3) := dk_167 0 4 (dk_at dksX0_readsSaver_5 3 rfl rfl)
theorem dX0_readsSaver_123 : decode cX0_readsSaver 123 = .ok (.aconst_null, 1) := dk_1 (dk_at dksX0_readsSaver_5 6 rfl rfl)
theorem dX0_readsSaver_124 : decode cX0_readsSaver 124 = .ok (.areturn, 1) := dk_176 (dk_at dksX0_readsSaver_5 7 rfl rfl)
theorem dX0_readsSaver_125 : decode cX0_readsSaver 125 = .ok (.aload_n 0, 1) := dk_42 (dk_at dksX0_readsSaver_5 8 rfl rfl)
theorem dX0_readsSaver_126 : decode cX0_readsSaver 126 = .ok (.bipush 126, 2) := dk_16 126 (dk_at dksX0_readsSaver_5 9 rfl rfl)
theorem dX0_readsSaver_128 : decode cX0_readsSaver 128 = .ok (.invokevirtual 199, 3) := dk_182 0 199 (dk_at dksX0_readsSaver_5 11 rfl rfl)
theorem dX0_readsSaver_131 : decode cX0_readsSaver 131 = .ok (.ifCond .eq 32, 3) := dk_153 0 32 (dk_at dksX0_readsSaver_5 14 rfl rfl)
theorem dX0_readsSaver_134 : decode cX0_readsSaver 134 = .ok (.aload_n 0, 1) := dk_42 (dk_at dksX0_readsSaver_5 17 rfl rfl)
theorem dX0_readsSaver_135 : decode cX0_readsSaver 135 = .ok (.iconst 1, 1) := dk_4 (dk_at dksX0_readsSaver_5 18 rfl rfl)
theorem dX0_readsSaver_136 : decode cX0_readsSaver 136 = .ok (.iconst 2, 1) := dk_5 (dk_at dksX0_readsSaver_5 19 rfl rfl)
theorem dX0_readsSaver_137 : decode cX0_readsSaver 137 = .ok (.bipush 9, 2) := dk_16 9 (dk_at dksX0_readsSaver_5 20 rfl rfl)
theorem dX0_readsSaver_139 : decode cX0_readsSaver 139 = .ok (.invokevirtual 180, 3) := dk_182 0 180 (dk_at dksX0_readsSaver_6 0 rfl rfl)
theorem dX0_readsSaver_142 : decode cX0_readsSaver 142 = .ok (.ifCond .eq 21, 3) := dk_153 0 21 (dk_at dksX0_readsSaver_6 3 rfl rfl)
theorem dX0_readsSaver_145 : decode cX0_readsSaver 145 = .ok (.new 220, 3) := dk_187 0 220 (dk_at dksX0_readsSaver_6 6 rfl rfl)
theorem dX0_readsSaver_148 : decode cX0_readsSaver 148 = .ok (.dup, 1) := dk_89 (dk_at dksX0_readsSaver_6 9 rfl rfl)
theorem dX0_readsSaver_149 : decode cX0_readsSaver 149 = .ok (.aload_n 2, 1) := dk_44 (dk_at dksX0_readsSaver_6 10 rfl rfl)
theorem dX0_readsSaver_150 : decode cX0_readsSaver 150 = .ok (.iload_n 3, 1) := dk_29 (dk_at dksX0_readsSaver_6 11 rfl rfl)
theorem dX0_readsSaver_151 : decode cX0_readsSaver 151 = .ok (.iload 4, 2) := dk_21 4 (dk_at dksX0_readsSaver_6 12 rfl rfl)
theorem dX0_readsSaver_153 : decode cX0_readsSaver 153 = .ok (.aload_n 0, 1) := dk_42 (dk_at dksX0_readsSaver_6 14 rfl rfl)
theorem dX0_readsSaver_154 : decode cX0_readsSaver 154 = .ok (.getfield 177, 3) := dk_180 0 177 (dk_at dksX0_readsSaver_6 15 rfl rfl)
theorem dX0_readsSaver_157 : decode cX0_readsSaver 157 = .ok (.invokespecial 222, 3) := dk_183 0 222 (dk_at dksX0_readsSaver_6 18 rfl rfl)
theorem dX0_readsSaver_160 : decode cX0_readsSaver 160 = .ok (.goto 4, 3) := dk_167 0 4 (dk_at dksX0_readsSaver_6 21 rfl rfl)
theorem dX0_readsSaver_163 : decode cX0_readsSaver 163 = .ok (.aconst_null, 1) := dk_1 (dk_at dksX0_readsSaver_7 0 rfl rfl)
theorem dX0_readsSaver_164 : decode cX0_readsSaver 164 = .ok (.areturn, 1) := dk_176 (dk_at dksX0_readsSaver_7 1 rfl rfl)
abbrev cX0_wood : ByteArray := prog_1_method_33_code
def yX0_wood : MethodName := ⟨RX0, "wood", "(I)I"⟩
def dkwX0_wood_8 : List UInt8 := [180, 0, 47, 3, 42, 180, 0, 86, 180, 1, 26, 3, 5, 184, 0, 154, 42, 180, 0, 196, 172]
abbrev dktX0_wood_8 : List UInt8 := dkwX0_wood_8 ++ []
def dkwX0_wood_7 : List UInt8 := [180, 0, 56, 3, 5, 184, 0, 154, 42, 3, 181, 1, 20, 42, 180, 0, 86, 3, 181, 1, 23, 42]
abbrev dktX0_wood_7 : List UInt8 := dkwX0_wood_7 ++ dktX0_wood_8
def dkwX0_wood_6 : List UInt8 := [184, 0, 154, 42, 180, 0, 71, 3, 42, 180, 0, 53, 3, 5, 184, 0, 154, 42, 180, 0, 74, 3, 42]
abbrev dktX0_wood_6 : List UInt8 := dkwX0_wood_6 ++ dktX0_wood_7
def dkwX0_wood_5 : List UInt8 := [180, 0, 65, 3, 42, 180, 0, 47, 3, 5, 184, 0, 154, 42, 180, 0, 68, 3, 42, 180, 0, 50, 3, 5]
abbrev dktX0_wood_5 : List UInt8 := dkwX0_wood_5 ++ dktX0_wood_6
def dkwX0_wood_4 : List UInt8 := [180, 0, 226, 181, 1, 11, 42, 42, 180, 0, 229, 181, 1, 14, 42, 42, 180, 0, 223, 181, 1, 17, 42]
abbrev dktX0_wood_4 : List UInt8 := dkwX0_wood_4 ++ dktX0_wood_5
def dkwX0_wood_3 : List UInt8 := [42, 180, 0, 232, 181, 0, 126, 42, 180, 0, 62, 3, 42, 180, 0, 44, 3, 6, 184, 0, 154, 42, 42]
abbrev dktX0_wood_3 : List UInt8 := dkwX0_wood_3 ++ dktX0_wood_4
def dkwX0_wood_2 : List UInt8 := [189, 0, 38, 181, 0, 40, 42, 180, 0, 59, 3, 42, 180, 0, 40, 3, 42, 180, 0, 196, 184, 0, 154, 42]
abbrev dktX0_wood_2 : List UInt8 := dkwX0_wood_2 ++ dktX0_wood_3
def dkwX0_wood_1 : List UInt8 := [42, 42, 180, 0, 34, 27, 50, 182, 1, 7, 16, 247, 159, 0, 6, 16, 252, 172, 42, 42, 180, 0, 196]
abbrev dktX0_wood_1 : List UInt8 := dkwX0_wood_1 ++ dktX0_wood_2
def dkwX0_wood_0 : List UInt8 := [27, 184, 0, 164, 154, 0, 5, 2, 172, 42, 180, 0, 34, 27, 50, 199, 0, 9, 42, 4, 182, 0, 139, 172]
abbrev dktX0_wood_0 : List UInt8 := dkwX0_wood_0 ++ dktX0_wood_1
theorem dksX0_wood_0 : cX0_wood.data.toList.drop 0 = dktX0_wood_0 := by decide +kernel
theorem dksX0_wood_1 : cX0_wood.data.toList.drop 24 = dktX0_wood_1 := dk_seg dksX0_wood_0 24 rfl rfl
theorem dksX0_wood_2 : cX0_wood.data.toList.drop 47 = dktX0_wood_2 := dk_seg dksX0_wood_1 23 rfl rfl
theorem dksX0_wood_3 : cX0_wood.data.toList.drop 71 = dktX0_wood_3 := dk_seg dksX0_wood_2 24 rfl rfl
theorem dksX0_wood_4 : cX0_wood.data.toList.drop 94 = dktX0_wood_4 := dk_seg dksX0_wood_3 23 rfl rfl
theorem dksX0_wood_5 : cX0_wood.data.toList.drop 117 = dktX0_wood_5 := dk_seg dksX0_wood_4 23 rfl rfl
theorem dksX0_wood_6 : cX0_wood.data.toList.drop 141 = dktX0_wood_6 := dk_seg dksX0_wood_5 24 rfl rfl
theorem dksX0_wood_7 : cX0_wood.data.toList.drop 164 = dktX0_wood_7 := dk_seg dksX0_wood_6 23 rfl rfl
theorem dksX0_wood_8 : cX0_wood.data.toList.drop 186 = dktX0_wood_8 := dk_seg dksX0_wood_7 22 rfl rfl
theorem dX0_wood_0 : decode cX0_wood 0 = .ok (.iload_n 1, 1) := dk_27 (dk_at dksX0_wood_0 0 rfl rfl)
theorem dX0_wood_1 : decode cX0_wood 1 = .ok (.invokestatic 164, 3) := dk_184 0 164 (dk_at dksX0_wood_0 1 rfl rfl)
theorem dX0_wood_4 : decode cX0_wood 4 = .ok (.ifCond .ne 5, 3) := dk_154 0 5 (dk_at dksX0_wood_0 4 rfl rfl)
theorem dX0_wood_7 : decode cX0_wood 7 = .ok (.iconst (-1), 1) := dk_2 (dk_at dksX0_wood_0 7 rfl rfl)
theorem dX0_wood_8 : decode cX0_wood 8 = .ok (.ireturn, 1) := dk_172 (dk_at dksX0_wood_0 8 rfl rfl)
theorem dX0_wood_9 : decode cX0_wood 9 = .ok (.aload_n 0, 1) := dk_42 (dk_at dksX0_wood_0 9 rfl rfl)
theorem dX0_wood_10 : decode cX0_wood 10 = .ok (.getfield 34, 3) := dk_180 0 34 (dk_at dksX0_wood_0 10 rfl rfl)
theorem dX0_wood_13 : decode cX0_wood 13 = .ok (.iload_n 1, 1) := dk_27 (dk_at dksX0_wood_0 13 rfl rfl)
theorem dX0_wood_14 : decode cX0_wood 14 = .ok (.aaload, 1) := dk_50 (dk_at dksX0_wood_0 14 rfl rfl)
theorem dX0_wood_15 : decode cX0_wood 15 = .ok (.ifnonnull 9, 3) := dk_199 0 9 (dk_at dksX0_wood_0 15 rfl rfl)
theorem dX0_wood_18 : decode cX0_wood 18 = .ok (.aload_n 0, 1) := dk_42 (dk_at dksX0_wood_0 18 rfl rfl)
theorem dX0_wood_19 : decode cX0_wood 19 = .ok (.iconst 1, 1) := dk_4 (dk_at dksX0_wood_0 19 rfl rfl)
theorem dX0_wood_20 : decode cX0_wood 20 = .ok (.invokevirtual 139, 3) := dk_182 0 139 (dk_at dksX0_wood_0 20 rfl rfl)
theorem dX0_wood_23 : decode cX0_wood 23 = .ok (.ireturn, 1) := dk_172 (dk_at dksX0_wood_0 23 rfl rfl)
theorem dX0_wood_24 : decode cX0_wood 24 = .ok (.aload_n 0, 1) := dk_42 (dk_at dksX0_wood_1 0 rfl rfl)
theorem dX0_wood_25 : decode cX0_wood 25 = .ok (.aload_n 0, 1) := dk_42 (dk_at dksX0_wood_1 1 rfl rfl)
theorem dX0_wood_26 : decode cX0_wood 26 = .ok (.getfield 34, 3) := dk_180 0 34 (dk_at dksX0_wood_1 2 rfl rfl)
theorem dX0_wood_29 : decode cX0_wood 29 = .ok (.iload_n 1, 1) := dk_27 (dk_at dksX0_wood_1 5 rfl rfl)
theorem dX0_wood_30 : decode cX0_wood 30 = .ok (.aaload, 1) := dk_50 (dk_at dksX0_wood_1 6 rfl rfl)
theorem dX0_wood_31 : decode cX0_wood 31 = .ok (.invokevirtual 263, 3) := dk_182 1 7 (dk_at dksX0_wood_1 7 rfl rfl)
theorem dX0_wood_34 : decode cX0_wood 34 = .ok (.bipush (-9), 2) := dk_16 247 (dk_at dksX0_wood_1 10 rfl rfl)
theorem dX0_wood_36 : decode cX0_wood 36 = .ok (.if_icmp .eq 6, 3) := dk_159 0 6 (dk_at dksX0_wood_1 12 rfl rfl)
theorem dX0_wood_39 : decode cX0_wood 39 = .ok (.bipush (-4), 2) := dk_16 252 (dk_at dksX0_wood_1 15 rfl rfl)
theorem dX0_wood_41 : decode cX0_wood 41 = .ok (.ireturn, 1) := dk_172 (dk_at dksX0_wood_1 17 rfl rfl)
theorem dX0_wood_42 : decode cX0_wood 42 = .ok (.aload_n 0, 1) := dk_42 (dk_at dksX0_wood_1 18 rfl rfl)
theorem dX0_wood_43 : decode cX0_wood 43 = .ok (.aload_n 0, 1) := dk_42 (dk_at dksX0_wood_1 19 rfl rfl)
theorem dX0_wood_44 : decode cX0_wood 44 = .ok (.getfield 196, 3) := dk_180 0 196 (dk_at dksX0_wood_1 20 rfl rfl)
theorem dX0_wood_47 : decode cX0_wood 47 = .ok (.anewarray 38, 3) := dk_189 0 38 (dk_at dksX0_wood_2 0 rfl rfl)
theorem dX0_wood_50 : decode cX0_wood 50 = .ok (.putfield 40, 3) := dk_181 0 40 (dk_at dksX0_wood_2 3 rfl rfl)
theorem dX0_wood_53 : decode cX0_wood 53 = .ok (.aload_n 0, 1) := dk_42 (dk_at dksX0_wood_2 6 rfl rfl)
theorem dX0_wood_54 : decode cX0_wood 54 = .ok (.getfield 59, 3) := dk_180 0 59 (dk_at dksX0_wood_2 7 rfl rfl)
theorem dX0_wood_57 : decode cX0_wood 57 = .ok (.iconst 0, 1) := dk_3 (dk_at dksX0_wood_2 10 rfl rfl)
theorem dX0_wood_58 : decode cX0_wood 58 = .ok (.aload_n 0, 1) := dk_42 (dk_at dksX0_wood_2 11 rfl rfl)
theorem dX0_wood_59 : decode cX0_wood 59 = .ok (.getfield 40, 3) := dk_180 0 40 (dk_at dksX0_wood_2 12 rfl rfl)
theorem dX0_wood_62 : decode cX0_wood 62 = .ok (.iconst 0, 1) := dk_3 (dk_at dksX0_wood_2 15 rfl rfl)
theorem dX0_wood_63 : decode cX0_wood 63 = .ok (.aload_n 0, 1) := dk_42 (dk_at dksX0_wood_2 16 rfl rfl)
theorem dX0_wood_64 : decode cX0_wood 64 = .ok (.getfield 196, 3) := dk_180 0 196 (dk_at dksX0_wood_2 17 rfl rfl)
theorem dX0_wood_67 : decode cX0_wood 67 = .ok (.invokestatic 154, 3) := dk_184 0 154 (dk_at dksX0_wood_2 20 rfl rfl)
theorem dX0_wood_70 : decode cX0_wood 70 = .ok (.aload_n 0, 1) := dk_42 (dk_at dksX0_wood_2 23 rfl rfl)
theorem dX0_wood_71 : decode cX0_wood 71 = .ok (.aload_n 0, 1) := dk_42 (dk_at dksX0_wood_3 0 rfl rfl)
theorem dX0_wood_72 : decode cX0_wood 72 = .ok (.getfield 232, 3) := dk_180 0 232 (dk_at dksX0_wood_3 1 rfl rfl)
theorem dX0_wood_75 : decode cX0_wood 75 = .ok (.putfield 126, 3) := dk_181 0 126 (dk_at dksX0_wood_3 4 rfl rfl)
theorem dX0_wood_78 : decode cX0_wood 78 = .ok (.aload_n 0, 1) := dk_42 (dk_at dksX0_wood_3 7 rfl rfl)
theorem dX0_wood_79 : decode cX0_wood 79 = .ok (.getfield 62, 3) := dk_180 0 62 (dk_at dksX0_wood_3 8 rfl rfl)
theorem dX0_wood_82 : decode cX0_wood 82 = .ok (.iconst 0, 1) := dk_3 (dk_at dksX0_wood_3 11 rfl rfl)
theorem dX0_wood_83 : decode cX0_wood 83 = .ok (.aload_n 0, 1) := dk_42 (dk_at dksX0_wood_3 12 rfl rfl)
theorem dX0_wood_84 : decode cX0_wood 84 = .ok (.getfield 44, 3) := dk_180 0 44 (dk_at dksX0_wood_3 13 rfl rfl)
theorem dX0_wood_87 : decode cX0_wood 87 = .ok (.iconst 0, 1) := dk_3 (dk_at dksX0_wood_3 16 rfl rfl)
theorem dX0_wood_88 : decode cX0_wood 88 = .ok (.iconst 3, 1) := dk_6 (dk_at dksX0_wood_3 17 rfl rfl)
theorem dX0_wood_89 : decode cX0_wood 89 = .ok (.invokestatic 154, 3) := dk_184 0 154 (dk_at dksX0_wood_3 18 rfl rfl)
theorem dX0_wood_92 : decode cX0_wood 92 = .ok (.aload_n 0, 1) := dk_42 (dk_at dksX0_wood_3 21 rfl rfl)
theorem dX0_wood_93 : decode cX0_wood 93 = .ok (.aload_n 0, 1) := dk_42 (dk_at dksX0_wood_3 22 rfl rfl)
theorem dX0_wood_94 : decode cX0_wood 94 = .ok (.getfield 226, 3) := dk_180 0 226 (dk_at dksX0_wood_4 0 rfl rfl)
theorem dX0_wood_97 : decode cX0_wood 97 = .ok (.putfield 267, 3) := dk_181 1 11 (dk_at dksX0_wood_4 3 rfl rfl)
theorem dX0_wood_100 : decode cX0_wood 100 = .ok (.aload_n 0, 1) := dk_42 (dk_at dksX0_wood_4 6 rfl rfl)
theorem dX0_wood_101 : decode cX0_wood 101 = .ok (.aload_n 0, 1) := dk_42 (dk_at dksX0_wood_4 7 rfl rfl)
theorem dX0_wood_102 : decode cX0_wood 102 = .ok (.getfield 229, 3) := dk_180 0 229 (dk_at dksX0_wood_4 8 rfl rfl)
theorem dX0_wood_105 : decode cX0_wood 105 = .ok (.putfield 270, 3) := dk_181 1 14 (dk_at dksX0_wood_4 11 rfl rfl)
theorem dX0_wood_108 : decode cX0_wood 108 = .ok (.aload_n 0, 1) := dk_42 (dk_at dksX0_wood_4 14 rfl rfl)
theorem dX0_wood_109 : decode cX0_wood 109 = .ok (.aload_n 0, 1) := dk_42 (dk_at dksX0_wood_4 15 rfl rfl)
theorem dX0_wood_110 : decode cX0_wood 110 = .ok (.getfield 223, 3) := dk_180 0 223 (dk_at dksX0_wood_4 16 rfl rfl)
theorem dX0_wood_113 : decode cX0_wood 113 = .ok (.putfield 273, 3) := dk_181 1 17 (dk_at dksX0_wood_4 19 rfl rfl)
theorem dX0_wood_116 : decode cX0_wood 116 = .ok (.aload_n 0, 1) := dk_42 (dk_at dksX0_wood_4 22 rfl rfl)
theorem dX0_wood_117 : decode cX0_wood 117 = .ok (.getfield 65, 3) := dk_180 0 65 (dk_at dksX0_wood_5 0 rfl rfl)
theorem dX0_wood_120 : decode cX0_wood 120 = .ok (.iconst 0, 1) := dk_3 (dk_at dksX0_wood_5 3 rfl rfl)
theorem dX0_wood_121 : decode cX0_wood 121 = .ok (.aload_n 0, 1) := dk_42 (dk_at dksX0_wood_5 4 rfl rfl)
theorem dX0_wood_122 : decode cX0_wood 122 = .ok (.getfield 47, 3) := dk_180 0 47 (dk_at dksX0_wood_5 5 rfl rfl)
theorem dX0_wood_125 : decode cX0_wood 125 = .ok (.iconst 0, 1) := dk_3 (dk_at dksX0_wood_5 8 rfl rfl)
theorem dX0_wood_126 : decode cX0_wood 126 = .ok (.iconst 2, 1) := dk_5 (dk_at dksX0_wood_5 9 rfl rfl)
theorem dX0_wood_127 : decode cX0_wood 127 = .ok (.invokestatic 154, 3) := dk_184 0 154 (dk_at dksX0_wood_5 10 rfl rfl)
theorem dX0_wood_130 : decode cX0_wood 130 = .ok (.aload_n 0, 1) := dk_42 (dk_at dksX0_wood_5 13 rfl rfl)
theorem dX0_wood_131 : decode cX0_wood 131 = .ok (.getfield 68, 3) := dk_180 0 68 (dk_at dksX0_wood_5 14 rfl rfl)
theorem dX0_wood_134 : decode cX0_wood 134 = .ok (.iconst 0, 1) := dk_3 (dk_at dksX0_wood_5 17 rfl rfl)
theorem dX0_wood_135 : decode cX0_wood 135 = .ok (.aload_n 0, 1) := dk_42 (dk_at dksX0_wood_5 18 rfl rfl)
theorem dX0_wood_136 : decode cX0_wood 136 = .ok (.getfield 50, 3) := dk_180 0 50 (dk_at dksX0_wood_5 19 rfl rfl)
theorem dX0_wood_139 : decode cX0_wood 139 = .ok (.iconst 0, 1) := dk_3 (dk_at dksX0_wood_5 22 rfl rfl)
theorem dX0_wood_140 : decode cX0_wood 140 = .ok (.iconst 2, 1) := dk_5 (dk_at dksX0_wood_5 23 rfl rfl)
theorem dX0_wood_141 : decode cX0_wood 141 = .ok (.invokestatic 154, 3) := dk_184 0 154 (dk_at dksX0_wood_6 0 rfl rfl)
theorem dX0_wood_144 : decode cX0_wood 144 = .ok (.aload_n 0, 1) := dk_42 (dk_at dksX0_wood_6 3 rfl rfl)
theorem dX0_wood_145 : decode cX0_wood 145 = .ok (.getfield 71, 3) := dk_180 0 71 (dk_at dksX0_wood_6 4 rfl rfl)
theorem dX0_wood_148 : decode cX0_wood 148 = .ok (.iconst 0, 1) := dk_3 (dk_at dksX0_wood_6 7 rfl rfl)
theorem dX0_wood_149 : decode cX0_wood 149 = .ok (.aload_n 0, 1) := dk_42 (dk_at dksX0_wood_6 8 rfl rfl)
theorem dX0_wood_150 : decode cX0_wood 150 = .ok (.getfield 53, 3) := dk_180 0 53 (dk_at dksX0_wood_6 9 rfl rfl)
theorem dX0_wood_153 : decode cX0_wood 153 = .ok (.iconst 0, 1) := dk_3 (dk_at dksX0_wood_6 12 rfl rfl)
theorem dX0_wood_154 : decode cX0_wood 154 = .ok (.iconst 2, 1) := dk_5 (dk_at dksX0_wood_6 13 rfl rfl)
theorem dX0_wood_155 : decode cX0_wood 155 = .ok (.invokestatic 154, 3) := dk_184 0 154 (dk_at dksX0_wood_6 14 rfl rfl)
theorem dX0_wood_158 : decode cX0_wood 158 = .ok (.aload_n 0, 1) := dk_42 (dk_at dksX0_wood_6 17 rfl rfl)
theorem dX0_wood_159 : decode cX0_wood 159 = .ok (.getfield 74, 3) := dk_180 0 74 (dk_at dksX0_wood_6 18 rfl rfl)
theorem dX0_wood_162 : decode cX0_wood 162 = .ok (.iconst 0, 1) := dk_3 (dk_at dksX0_wood_6 21 rfl rfl)
theorem dX0_wood_163 : decode cX0_wood 163 = .ok (.aload_n 0, 1) := dk_42 (dk_at dksX0_wood_6 22 rfl rfl)
theorem dX0_wood_164 : decode cX0_wood 164 = .ok (.getfield 56, 3) := dk_180 0 56 (dk_at dksX0_wood_7 0 rfl rfl)
theorem dX0_wood_167 : decode cX0_wood 167 = .ok (.iconst 0, 1) := dk_3 (dk_at dksX0_wood_7 3 rfl rfl)
theorem dX0_wood_168 : decode cX0_wood 168 = .ok (.iconst 2, 1) := dk_5 (dk_at dksX0_wood_7 4 rfl rfl)
theorem dX0_wood_169 : decode cX0_wood 169 = .ok (.invokestatic 154, 3) := dk_184 0 154 (dk_at dksX0_wood_7 5 rfl rfl)
theorem dX0_wood_172 : decode cX0_wood 172 = .ok (.aload_n 0, 1) := dk_42 (dk_at dksX0_wood_7 8 rfl rfl)
theorem dX0_wood_173 : decode cX0_wood 173 = .ok (.iconst 0, 1) := dk_3 (dk_at dksX0_wood_7 9 rfl rfl)
theorem dX0_wood_174 : decode cX0_wood 174 = .ok (.putfield 276, 3) := dk_181 1 20 (dk_at dksX0_wood_7 10 rfl rfl)
theorem dX0_wood_177 : decode cX0_wood 177 = .ok (.aload_n 0, 1) := dk_42 (dk_at dksX0_wood_7 13 rfl rfl)
theorem dX0_wood_178 : decode cX0_wood 178 = .ok (.getfield 86, 3) := dk_180 0 86 (dk_at dksX0_wood_7 14 rfl rfl)
theorem dX0_wood_181 : decode cX0_wood 181 = .ok (.iconst 0, 1) := dk_3 (dk_at dksX0_wood_7 17 rfl rfl)
theorem dX0_wood_182 : decode cX0_wood 182 = .ok (.putfield 279, 3) := dk_181 1 23 (dk_at dksX0_wood_7 18 rfl rfl)
theorem dX0_wood_185 : decode cX0_wood 185 = .ok (.aload_n 0, 1) := dk_42 (dk_at dksX0_wood_7 21 rfl rfl)
theorem dX0_wood_186 : decode cX0_wood 186 = .ok (.getfield 47, 3) := dk_180 0 47 (dk_at dksX0_wood_8 0 rfl rfl)
theorem dX0_wood_189 : decode cX0_wood 189 = .ok (.iconst 0, 1) := dk_3 (dk_at dksX0_wood_8 3 rfl rfl)
theorem dX0_wood_190 : decode cX0_wood 190 = .ok (.aload_n 0, 1) := dk_42 (dk_at dksX0_wood_8 4 rfl rfl)
theorem dX0_wood_191 : decode cX0_wood 191 = .ok (.getfield 86, 3) := dk_180 0 86 (dk_at dksX0_wood_8 5 rfl rfl)
theorem dX0_wood_194 : decode cX0_wood 194 = .ok (.getfield 282, 3) := dk_180 1 26 (dk_at dksX0_wood_8 8 rfl rfl)
theorem dX0_wood_197 : decode cX0_wood 197 = .ok (.iconst 0, 1) := dk_3 (dk_at dksX0_wood_8 11 rfl rfl)
theorem dX0_wood_198 : decode cX0_wood 198 = .ok (.iconst 2, 1) := dk_5 (dk_at dksX0_wood_8 12 rfl rfl)
theorem dX0_wood_199 : decode cX0_wood 199 = .ok (.invokestatic 154, 3) := dk_184 0 154 (dk_at dksX0_wood_8 13 rfl rfl)
theorem dX0_wood_202 : decode cX0_wood 202 = .ok (.aload_n 0, 1) := dk_42 (dk_at dksX0_wood_8 16 rfl rfl)
theorem dX0_wood_203 : decode cX0_wood 203 = .ok (.getfield 196, 3) := dk_180 0 196 (dk_at dksX0_wood_8 17 rfl rfl)
theorem dX0_wood_206 : decode cX0_wood 206 = .ok (.ireturn, 1) := dk_172 (dk_at dksX0_wood_8 20 rfl rfl)
abbrev cX0_plant : ByteArray := prog_1_method_38_code
def yX0_plant : MethodName := ⟨RX0, "plant", "(II)I"⟩
def dkwX0_plant_1 : List UInt8 := [16, 24, 160, 0, 8, 16, 254, 167, 0, 9, 42, 27, 28, 182, 1, 38, 172]
abbrev dktX0_plant_1 : List UInt8 := dkwX0_plant_1 ++ []
def dkwX0_plant_0 : List UInt8 := [42, 27, 182, 1, 35, 153, 0, 13, 28, 3, 16, 60, 184, 0, 129, 154, 0, 5, 2, 172, 42, 180, 1, 20]
abbrev dktX0_plant_0 : List UInt8 := dkwX0_plant_0 ++ dktX0_plant_1
theorem dksX0_plant_0 : cX0_plant.data.toList.drop 0 = dktX0_plant_0 := by decide +kernel
theorem dksX0_plant_1 : cX0_plant.data.toList.drop 24 = dktX0_plant_1 := dk_seg dksX0_plant_0 24 rfl rfl
theorem dX0_plant_0 : decode cX0_plant 0 = .ok (.aload_n 0, 1) := dk_42 (dk_at dksX0_plant_0 0 rfl rfl)
theorem dX0_plant_1 : decode cX0_plant 1 = .ok (.iload_n 1, 1) := dk_27 (dk_at dksX0_plant_0 1 rfl rfl)
theorem dX0_plant_2 : decode cX0_plant 2 = .ok (.invokevirtual 291, 3) := dk_182 1 35 (dk_at dksX0_plant_0 2 rfl rfl)
theorem dX0_plant_5 : decode cX0_plant 5 = .ok (.ifCond .eq 13, 3) := dk_153 0 13 (dk_at dksX0_plant_0 5 rfl rfl)
theorem dX0_plant_8 : decode cX0_plant 8 = .ok (.iload_n 2, 1) := dk_28 (dk_at dksX0_plant_0 8 rfl rfl)
theorem dX0_plant_9 : decode cX0_plant 9 = .ok (.iconst 0, 1) := dk_3 (dk_at dksX0_plant_0 9 rfl rfl)
theorem dX0_plant_10 : decode cX0_plant 10 = .ok (.bipush 60, 2) := dk_16 60 (dk_at dksX0_plant_0 10 rfl rfl)
theorem dX0_plant_12 : decode cX0_plant 12 = .ok (.invokestatic 129, 3) := dk_184 0 129 (dk_at dksX0_plant_0 12 rfl rfl)
theorem dX0_plant_15 : decode cX0_plant 15 = .ok (.ifCond .ne 5, 3) := dk_154 0 5 (dk_at dksX0_plant_0 15 rfl rfl)
theorem dX0_plant_18 : decode cX0_plant 18 = .ok (.iconst (-1), 1) := dk_2 (dk_at dksX0_plant_0 18 rfl rfl)
theorem dX0_plant_19 : decode cX0_plant 19 = .ok (.ireturn, 1) := dk_172 (dk_at dksX0_plant_0 19 rfl rfl)
theorem dX0_plant_20 : decode cX0_plant 20 = .ok (.aload_n 0, 1) := dk_42 (dk_at dksX0_plant_0 20 rfl rfl)
theorem dX0_plant_21 : decode cX0_plant 21 = .ok (.getfield 276, 3) := dk_180 1 20 (dk_at dksX0_plant_0 21 rfl rfl)
theorem dX0_plant_24 : decode cX0_plant 24 = .ok (.bipush 24, 2) := dk_16 24 (dk_at dksX0_plant_1 0 rfl rfl)
theorem dX0_plant_26 : decode cX0_plant 26 = .ok (.if_icmp .ne 8, 3) := dk_160 0 8 (dk_at dksX0_plant_1 2 rfl rfl)
theorem dX0_plant_29 : decode cX0_plant 29 = .ok (.bipush (-2), 2) := dk_16 254 (dk_at dksX0_plant_1 5 rfl rfl)
theorem dX0_plant_31 : decode cX0_plant 31 = .ok (.goto 9, 3) := dk_167 0 9 (dk_at dksX0_plant_1 7 rfl rfl)
theorem dX0_plant_34 : decode cX0_plant 34 = .ok (.aload_n 0, 1) := dk_42 (dk_at dksX0_plant_1 10 rfl rfl)
theorem dX0_plant_35 : decode cX0_plant 35 = .ok (.iload_n 1, 1) := dk_27 (dk_at dksX0_plant_1 11 rfl rfl)
theorem dX0_plant_36 : decode cX0_plant 36 = .ok (.iload_n 2, 1) := dk_28 (dk_at dksX0_plant_1 12 rfl rfl)
theorem dX0_plant_37 : decode cX0_plant 37 = .ok (.invokevirtual 294, 3) := dk_182 1 38 (dk_at dksX0_plant_1 13 rfl rfl)
theorem dX0_plant_40 : decode cX0_plant 40 = .ok (.ireturn, 1) := dk_172 (dk_at dksX0_plant_1 16 rfl rfl)
abbrev cX0_isSort : ByteArray := prog_1_method_34_code
def yX0_isSort : MethodName := ⟨RX0, "isSort", "(I)Z"⟩
def dkwX0_isSort_0 : List UInt8 := [27, 3, 42, 180, 0, 40, 190, 4, 100, 184, 0, 129, 172]
abbrev dktX0_isSort_0 : List UInt8 := dkwX0_isSort_0 ++ []
theorem dksX0_isSort_0 : cX0_isSort.data.toList.drop 0 = dktX0_isSort_0 := by decide +kernel
theorem dX0_isSort_0 : decode cX0_isSort 0 = .ok (.iload_n 1, 1) := dk_27 (dk_at dksX0_isSort_0 0 rfl rfl)
theorem dX0_isSort_1 : decode cX0_isSort 1 = .ok (.iconst 0, 1) := dk_3 (dk_at dksX0_isSort_0 1 rfl rfl)
theorem dX0_isSort_2 : decode cX0_isSort 2 = .ok (.aload_n 0, 1) := dk_42 (dk_at dksX0_isSort_0 2 rfl rfl)
theorem dX0_isSort_3 : decode cX0_isSort 3 = .ok (.getfield 40, 3) := dk_180 0 40 (dk_at dksX0_isSort_0 3 rfl rfl)
theorem dX0_isSort_6 : decode cX0_isSort 6 = .ok (.arraylength, 1) := dk_190 (dk_at dksX0_isSort_0 6 rfl rfl)
theorem dX0_isSort_7 : decode cX0_isSort 7 = .ok (.iconst 1, 1) := dk_4 (dk_at dksX0_isSort_0 7 rfl rfl)
theorem dX0_isSort_8 : decode cX0_isSort 8 = .ok (.isub, 1) := dk_100 (dk_at dksX0_isSort_0 8 rfl rfl)
theorem dX0_isSort_9 : decode cX0_isSort 9 = .ok (.invokestatic 129, 3) := dk_184 0 129 (dk_at dksX0_isSort_0 9 rfl rfl)
theorem dX0_isSort_12 : decode cX0_isSort 12 = .ok (.ireturn, 1) := dk_172 (dk_at dksX0_isSort_0 12 rfl rfl)
abbrev cX0_newTree : ByteArray := prog_1_method_37_code
def yX0_newTree : MethodName := ⟨RX0, "newTree", "(II)I"⟩
def dkwX0_newTree_1 : List UInt8 := [42, 180, 1, 20, 28, 79, 42, 89, 180, 1, 20, 4, 96, 181, 1, 20, 42, 180, 1, 20, 4, 100, 172]
abbrev dktX0_newTree_1 : List UInt8 := dkwX0_newTree_1 ++ []
def dkwX0_newTree_0 : List UInt8 := [42, 180, 0, 79, 42, 180, 1, 20, 187, 0, 77, 89, 27, 183, 1, 29, 83, 42, 180, 0, 86, 180, 1, 32]
abbrev dktX0_newTree_0 : List UInt8 := dkwX0_newTree_0 ++ dktX0_newTree_1
theorem dksX0_newTree_0 : cX0_newTree.data.toList.drop 0 = dktX0_newTree_0 := by decide +kernel
theorem dksX0_newTree_1 : cX0_newTree.data.toList.drop 24 = dktX0_newTree_1 := dk_seg dksX0_newTree_0 24 rfl rfl
theorem dX0_newTree_0 : decode cX0_newTree 0 = .ok (.aload_n 0, 1) := dk_42 (dk_at dksX0_newTree_0 0 rfl rfl)
theorem dX0_newTree_1 : decode cX0_newTree 1 = .ok (.getfield 79, 3) := dk_180 0 79 (dk_at dksX0_newTree_0 1 rfl rfl)
theorem dX0_newTree_4 : decode cX0_newTree 4 = .ok (.aload_n 0, 1) := dk_42 (dk_at dksX0_newTree_0 4 rfl rfl)
theorem dX0_newTree_5 : decode cX0_newTree 5 = .ok (.getfield 276, 3) := dk_180 1 20 (dk_at dksX0_newTree_0 5 rfl rfl)
theorem dX0_newTree_8 : decode cX0_newTree 8 = .ok (.new 77, 3) := dk_187 0 77 (dk_at dksX0_newTree_0 8 rfl rfl)
theorem dX0_newTree_11 : decode cX0_newTree 11 = .ok (.dup, 1) := dk_89 (dk_at dksX0_newTree_0 11 rfl rfl)
theorem dX0_newTree_12 : decode cX0_newTree 12 = .ok (.iload_n 1, 1) := dk_27 (dk_at dksX0_newTree_0 12 rfl rfl)
theorem dX0_newTree_13 : decode cX0_newTree 13 = .ok (.invokespecial 285, 3) := dk_183 1 29 (dk_at dksX0_newTree_0 13 rfl rfl)
theorem dX0_newTree_16 : decode cX0_newTree 16 = .ok (.aastore, 1) := dk_83 (dk_at dksX0_newTree_0 16 rfl rfl)
theorem dX0_newTree_17 : decode cX0_newTree 17 = .ok (.aload_n 0, 1) := dk_42 (dk_at dksX0_newTree_0 17 rfl rfl)
theorem dX0_newTree_18 : decode cX0_newTree 18 = .ok (.getfield 86, 3) := dk_180 0 86 (dk_at dksX0_newTree_0 18 rfl rfl)
theorem dX0_newTree_21 : decode cX0_newTree 21 = .ok (.getfield 288, 3) := dk_180 1 32 (dk_at dksX0_newTree_0 21 rfl rfl)
theorem dX0_newTree_24 : decode cX0_newTree 24 = .ok (.aload_n 0, 1) := dk_42 (dk_at dksX0_newTree_1 0 rfl rfl)
theorem dX0_newTree_25 : decode cX0_newTree 25 = .ok (.getfield 276, 3) := dk_180 1 20 (dk_at dksX0_newTree_1 1 rfl rfl)
theorem dX0_newTree_28 : decode cX0_newTree 28 = .ok (.iload_n 2, 1) := dk_28 (dk_at dksX0_newTree_1 4 rfl rfl)
theorem dX0_newTree_29 : decode cX0_newTree 29 = .ok (.iastore, 1) := dk_79 (dk_at dksX0_newTree_1 5 rfl rfl)
theorem dX0_newTree_30 : decode cX0_newTree 30 = .ok (.aload_n 0, 1) := dk_42 (dk_at dksX0_newTree_1 6 rfl rfl)
theorem dX0_newTree_31 : decode cX0_newTree 31 = .ok (.dup, 1) := dk_89 (dk_at dksX0_newTree_1 7 rfl rfl)
theorem dX0_newTree_32 : decode cX0_newTree 32 = .ok (.getfield 276, 3) := dk_180 1 20 (dk_at dksX0_newTree_1 8 rfl rfl)
theorem dX0_newTree_35 : decode cX0_newTree 35 = .ok (.iconst 1, 1) := dk_4 (dk_at dksX0_newTree_1 11 rfl rfl)
theorem dX0_newTree_36 : decode cX0_newTree 36 = .ok (.iadd, 1) := dk_96 (dk_at dksX0_newTree_1 12 rfl rfl)
theorem dX0_newTree_37 : decode cX0_newTree 37 = .ok (.putfield 276, 3) := dk_181 1 20 (dk_at dksX0_newTree_1 13 rfl rfl)
theorem dX0_newTree_40 : decode cX0_newTree 40 = .ok (.aload_n 0, 1) := dk_42 (dk_at dksX0_newTree_1 16 rfl rfl)
theorem dX0_newTree_41 : decode cX0_newTree 41 = .ok (.getfield 276, 3) := dk_180 1 20 (dk_at dksX0_newTree_1 17 rfl rfl)
theorem dX0_newTree_44 : decode cX0_newTree 44 = .ok (.iconst 1, 1) := dk_4 (dk_at dksX0_newTree_1 20 rfl rfl)
theorem dX0_newTree_45 : decode cX0_newTree 45 = .ok (.isub, 1) := dk_100 (dk_at dksX0_newTree_1 21 rfl rfl)
theorem dX0_newTree_46 : decode cX0_newTree 46 = .ok (.ireturn, 1) := dk_172 (dk_at dksX0_newTree_1 22 rfl rfl)
abbrev cX0_plants : ByteArray := prog_1_method_39_code
def yX0_plants : MethodName := ⟨RX0, "plants", "(I)I"⟩
def dkwX0_plants_6 : List UInt8 := [42, 180, 0, 28, 27, 50, 5, 29, 104, 4, 96, 46, 182, 1, 38, 87, 132, 3, 1, 167, 255, 221, 28, 172]
abbrev dktX0_plants_6 : List UInt8 := dkwX0_plants_6 ++ []
def dkwX0_plants_5 : List UInt8 := [132, 3, 1, 167, 255, 204, 3, 62, 29, 28, 162, 0, 36, 42, 42, 180, 0, 28, 27, 50, 5, 29, 104, 46]
abbrev dktX0_plants_5 : List UInt8 := dkwX0_plants_5 ++ dktX0_plants_6
def dkwX0_plants_4 : List UInt8 := [27, 50, 5, 29, 104, 4, 96, 46, 3, 16, 60, 184, 0, 129, 154, 0, 9, 42, 6, 182, 0, 139, 172]
abbrev dktX0_plants_4 : List UInt8 := dkwX0_plants_4 ++ dktX0_plants_5
def dkwX0_plants_3 : List UInt8 := [162, 0, 53, 42, 42, 180, 0, 28, 27, 50, 5, 29, 104, 46, 182, 1, 35, 153, 0, 24, 42, 180, 0, 28]
abbrev dktX0_plants_3 : List UInt8 := dkwX0_plants_3 ++ dktX0_plants_4
def dkwX0_plants_2 : List UInt8 := [8, 182, 0, 139, 172, 42, 180, 1, 20, 28, 96, 16, 24, 164, 0, 6, 16, 254, 172, 3, 62, 29, 28]
abbrev dktX0_plants_2 : List UInt8 := dkwX0_plants_2 ++ dktX0_plants_3
def dkwX0_plants_1 : List UInt8 := [42, 180, 0, 28, 27, 50, 190, 5, 108, 61, 42, 180, 0, 28, 27, 50, 190, 5, 28, 104, 159, 0, 9, 42]
abbrev dktX0_plants_1 : List UInt8 := dkwX0_plants_1 ++ dktX0_plants_2
def dkwX0_plants_0 : List UInt8 := [27, 184, 0, 133, 154, 0, 5, 2, 172, 42, 180, 0, 28, 27, 50, 199, 0, 9, 42, 4, 182, 0, 139, 172]
abbrev dktX0_plants_0 : List UInt8 := dkwX0_plants_0 ++ dktX0_plants_1
theorem dksX0_plants_0 : cX0_plants.data.toList.drop 0 = dktX0_plants_0 := by decide +kernel
theorem dksX0_plants_1 : cX0_plants.data.toList.drop 24 = dktX0_plants_1 := dk_seg dksX0_plants_0 24 rfl rfl
theorem dksX0_plants_2 : cX0_plants.data.toList.drop 48 = dktX0_plants_2 := dk_seg dksX0_plants_1 24 rfl rfl
theorem dksX0_plants_3 : cX0_plants.data.toList.drop 71 = dktX0_plants_3 := dk_seg dksX0_plants_2 23 rfl rfl
theorem dksX0_plants_4 : cX0_plants.data.toList.drop 95 = dktX0_plants_4 := dk_seg dksX0_plants_3 24 rfl rfl
theorem dksX0_plants_5 : cX0_plants.data.toList.drop 118 = dktX0_plants_5 := dk_seg dksX0_plants_4 23 rfl rfl
theorem dksX0_plants_6 : cX0_plants.data.toList.drop 142 = dktX0_plants_6 := dk_seg dksX0_plants_5 24 rfl rfl
theorem dX0_plants_0 : decode cX0_plants 0 = .ok (.iload_n 1, 1) := dk_27 (dk_at dksX0_plants_0 0 rfl rfl)
theorem dX0_plants_1 : decode cX0_plants 1 = .ok (.invokestatic 133, 3) := dk_184 0 133 (dk_at dksX0_plants_0 1 rfl rfl)
theorem dX0_plants_4 : decode cX0_plants 4 = .ok (.ifCond .ne 5, 3) := dk_154 0 5 (dk_at dksX0_plants_0 4 rfl rfl)
theorem dX0_plants_7 : decode cX0_plants 7 = .ok (.iconst (-1), 1) := dk_2 (dk_at dksX0_plants_0 7 rfl rfl)
theorem dX0_plants_8 : decode cX0_plants 8 = .ok (.ireturn, 1) := dk_172 (dk_at dksX0_plants_0 8 rfl rfl)
theorem dX0_plants_9 : decode cX0_plants 9 = .ok (.aload_n 0, 1) := dk_42 (dk_at dksX0_plants_0 9 rfl rfl)
theorem dX0_plants_10 : decode cX0_plants 10 = .ok (.getfield 28, 3) := dk_180 0 28 (dk_at dksX0_plants_0 10 rfl rfl)
theorem dX0_plants_13 : decode cX0_plants 13 = .ok (.iload_n 1, 1) := dk_27 (dk_at dksX0_plants_0 13 rfl rfl)
theorem dX0_plants_14 : decode cX0_plants 14 = .ok (.aaload, 1) := dk_50 (dk_at dksX0_plants_0 14 rfl rfl)
theorem dX0_plants_15 : decode cX0_plants 15 = .ok (.ifnonnull 9, 3) := dk_199 0 9 (dk_at dksX0_plants_0 15 rfl rfl)
theorem dX0_plants_18 : decode cX0_plants 18 = .ok (.aload_n 0, 1) := dk_42 (dk_at dksX0_plants_0 18 rfl rfl)
theorem dX0_plants_19 : decode cX0_plants 19 = .ok (.iconst 1, 1) := dk_4 (dk_at dksX0_plants_0 19 rfl rfl)
theorem dX0_plants_20 : decode cX0_plants 20 = .ok (.invokevirtual 139, 3) := dk_182 0 139 (dk_at dksX0_plants_0 20 rfl rfl)
theorem dX0_plants_23 : decode cX0_plants 23 = .ok (.ireturn, 1) := dk_172 (dk_at dksX0_plants_0 23 rfl rfl)
theorem dX0_plants_24 : decode cX0_plants 24 = .ok (.aload_n 0, 1) := dk_42 (dk_at dksX0_plants_1 0 rfl rfl)
theorem dX0_plants_25 : decode cX0_plants 25 = .ok (.getfield 28, 3) := dk_180 0 28 (dk_at dksX0_plants_1 1 rfl rfl)
theorem dX0_plants_28 : decode cX0_plants 28 = .ok (.iload_n 1, 1) := dk_27 (dk_at dksX0_plants_1 4 rfl rfl)
theorem dX0_plants_29 : decode cX0_plants 29 = .ok (.aaload, 1) := dk_50 (dk_at dksX0_plants_1 5 rfl rfl)
theorem dX0_plants_30 : decode cX0_plants 30 = .ok (.arraylength, 1) := dk_190 (dk_at dksX0_plants_1 6 rfl rfl)
theorem dX0_plants_31 : decode cX0_plants 31 = .ok (.iconst 2, 1) := dk_5 (dk_at dksX0_plants_1 7 rfl rfl)
theorem dX0_plants_32 : decode cX0_plants 32 = .ok (.idiv, 1) := dk_108 (dk_at dksX0_plants_1 8 rfl rfl)
theorem dX0_plants_33 : decode cX0_plants 33 = .ok (.istore_n 2, 1) := dk_61 (dk_at dksX0_plants_1 9 rfl rfl)
theorem dX0_plants_34 : decode cX0_plants 34 = .ok (.aload_n 0, 1) := dk_42 (dk_at dksX0_plants_1 10 rfl rfl)
theorem dX0_plants_35 : decode cX0_plants 35 = .ok (.getfield 28, 3) := dk_180 0 28 (dk_at dksX0_plants_1 11 rfl rfl)
theorem dX0_plants_38 : decode cX0_plants 38 = .ok (.iload_n 1, 1) := dk_27 (dk_at dksX0_plants_1 14 rfl rfl)
theorem dX0_plants_39 : decode cX0_plants 39 = .ok (.aaload, 1) := dk_50 (dk_at dksX0_plants_1 15 rfl rfl)
theorem dX0_plants_40 : decode cX0_plants 40 = .ok (.arraylength, 1) := dk_190 (dk_at dksX0_plants_1 16 rfl rfl)
theorem dX0_plants_41 : decode cX0_plants 41 = .ok (.iconst 2, 1) := dk_5 (dk_at dksX0_plants_1 17 rfl rfl)
theorem dX0_plants_42 : decode cX0_plants 42 = .ok (.iload_n 2, 1) := dk_28 (dk_at dksX0_plants_1 18 rfl rfl)
theorem dX0_plants_43 : decode cX0_plants 43 = .ok (.imul, 1) := dk_104 (dk_at dksX0_plants_1 19 rfl rfl)
theorem dX0_plants_44 : decode cX0_plants 44 = .ok (.if_icmp .eq 9, 3) := dk_159 0 9 (dk_at dksX0_plants_1 20 rfl rfl)
theorem dX0_plants_47 : decode cX0_plants 47 = .ok (.aload_n 0, 1) := dk_42 (dk_at dksX0_plants_1 23 rfl rfl)
theorem dX0_plants_48 : decode cX0_plants 48 = .ok (.iconst 5, 1) := dk_8 (dk_at dksX0_plants_2 0 rfl rfl)
theorem dX0_plants_49 : decode cX0_plants 49 = .ok (.invokevirtual 139, 3) := dk_182 0 139 (dk_at dksX0_plants_2 1 rfl rfl)
theorem dX0_plants_52 : decode cX0_plants 52 = .ok (.ireturn, 1) := dk_172 (dk_at dksX0_plants_2 4 rfl rfl)
theorem dX0_plants_53 : decode cX0_plants 53 = .ok (.aload_n 0, 1) := dk_42 (dk_at dksX0_plants_2 5 rfl rfl)
theorem dX0_plants_54 : decode cX0_plants 54 = .ok (.getfield 276, 3) := dk_180 1 20 (dk_at dksX0_plants_2 6 rfl rfl)
theorem dX0_plants_57 : decode cX0_plants 57 = .ok (.iload_n 2, 1) := dk_28 (dk_at dksX0_plants_2 9 rfl rfl)
theorem dX0_plants_58 : decode cX0_plants 58 = .ok (.iadd, 1) := dk_96 (dk_at dksX0_plants_2 10 rfl rfl)
theorem dX0_plants_59 : decode cX0_plants 59 = .ok (.bipush 24, 2) := dk_16 24 (dk_at dksX0_plants_2 11 rfl rfl)
theorem dX0_plants_61 : decode cX0_plants 61 = .ok (.if_icmp .le 6, 3) := dk_164 0 6 (dk_at dksX0_plants_2 13 rfl rfl)
theorem dX0_plants_64 : decode cX0_plants 64 = .ok (.bipush (-2), 2) := dk_16 254 (dk_at dksX0_plants_2 16 rfl rfl)
theorem dX0_plants_66 : decode cX0_plants 66 = .ok (.ireturn, 1) := dk_172 (dk_at dksX0_plants_2 18 rfl rfl)
theorem dX0_plants_67 : decode cX0_plants 67 = .ok (.iconst 0, 1) := dk_3 (dk_at dksX0_plants_2 19 rfl rfl)
theorem dX0_plants_68 : decode cX0_plants 68 = .ok (.istore_n 3, 1) := dk_62 (dk_at dksX0_plants_2 20 rfl rfl)
theorem dX0_plants_69 : decode cX0_plants 69 = .ok (.iload_n 3, 1) := dk_29 (dk_at dksX0_plants_2 21 rfl rfl)
theorem dX0_plants_70 : decode cX0_plants 70 = .ok (.iload_n 2, 1) := dk_28 (dk_at dksX0_plants_2 22 rfl rfl)
theorem dX0_plants_71 : decode cX0_plants 71 = .ok (.if_icmp .ge 53, 3) := dk_162 0 53 (dk_at dksX0_plants_3 0 rfl rfl)
theorem dX0_plants_74 : decode cX0_plants 74 = .ok (.aload_n 0, 1) := dk_42 (dk_at dksX0_plants_3 3 rfl rfl)
theorem dX0_plants_75 : decode cX0_plants 75 = .ok (.aload_n 0, 1) := dk_42 (dk_at dksX0_plants_3 4 rfl rfl)
theorem dX0_plants_76 : decode cX0_plants 76 = .ok (.getfield 28, 3) := dk_180 0 28 (dk_at dksX0_plants_3 5 rfl rfl)
theorem dX0_plants_79 : decode cX0_plants 79 = .ok (.iload_n 1, 1) := dk_27 (dk_at dksX0_plants_3 8 rfl rfl)
theorem dX0_plants_80 : decode cX0_plants 80 = .ok (.aaload, 1) := dk_50 (dk_at dksX0_plants_3 9 rfl rfl)
theorem dX0_plants_81 : decode cX0_plants 81 = .ok (.iconst 2, 1) := dk_5 (dk_at dksX0_plants_3 10 rfl rfl)
theorem dX0_plants_82 : decode cX0_plants 82 = .ok (.iload_n 3, 1) := dk_29 (dk_at dksX0_plants_3 11 rfl rfl)
theorem dX0_plants_83 : decode cX0_plants 83 = .ok (.imul, 1) := dk_104 (dk_at dksX0_plants_3 12 rfl rfl)
theorem dX0_plants_84 : decode cX0_plants 84 = .ok (.iaload, 1) := dk_46 (dk_at dksX0_plants_3 13 rfl rfl)
theorem dX0_plants_85 : decode cX0_plants 85 = .ok (.invokevirtual 291, 3) := dk_182 1 35 (dk_at dksX0_plants_3 14 rfl rfl)
theorem dX0_plants_88 : decode cX0_plants 88 = .ok (.ifCond .eq 24, 3) := dk_153 0 24 (dk_at dksX0_plants_3 17 rfl rfl)
theorem dX0_plants_91 : decode cX0_plants 91 = .ok (.aload_n 0, 1) := dk_42 (dk_at dksX0_plants_3 20 rfl rfl)
theorem dX0_plants_92 : decode cX0_plants 92 = .ok (.getfield 28, 3) := dk_180 0 28 (dk_at dksX0_plants_3 21 rfl rfl)
theorem dX0_plants_95 : decode cX0_plants 95 = .ok (.iload_n 1, 1) := dk_27 (dk_at dksX0_plants_4 0 rfl rfl)
theorem dX0_plants_96 : decode cX0_plants 96 = .ok (.aaload, 1) := dk_50 (dk_at dksX0_plants_4 1 rfl rfl)
theorem dX0_plants_97 : decode cX0_plants 97 = .ok (.iconst 2, 1) := dk_5 (dk_at dksX0_plants_4 2 rfl rfl)
theorem dX0_plants_98 : decode cX0_plants 98 = .ok (.iload_n 3, 1) := dk_29 (dk_at dksX0_plants_4 3 rfl rfl)
theorem dX0_plants_99 : decode cX0_plants 99 = .ok (.imul, 1) := dk_104 (dk_at dksX0_plants_4 4 rfl rfl)
theorem dX0_plants_100 : decode cX0_plants 100 = .ok (.iconst 1, 1) := dk_4 (dk_at dksX0_plants_4 5 rfl rfl)
theorem dX0_plants_101 : decode cX0_plants 101 = .ok (.iadd, 1) := dk_96 (dk_at dksX0_plants_4 6 rfl rfl)
theorem dX0_plants_102 : decode cX0_plants 102 = .ok (.iaload, 1) := dk_46 (dk_at dksX0_plants_4 7 rfl rfl)
theorem dX0_plants_103 : decode cX0_plants 103 = .ok (.iconst 0, 1) := dk_3 (dk_at dksX0_plants_4 8 rfl rfl)
theorem dX0_plants_104 : decode cX0_plants 104 = .ok (.bipush 60, 2) := dk_16 60 (dk_at dksX0_plants_4 9 rfl rfl)
theorem dX0_plants_106 : decode cX0_plants 106 = .ok (.invokestatic 129, 3) := dk_184 0 129 (dk_at dksX0_plants_4 11 rfl rfl)
theorem dX0_plants_109 : decode cX0_plants 109 = .ok (.ifCond .ne 9, 3) := dk_154 0 9 (dk_at dksX0_plants_4 14 rfl rfl)
theorem dX0_plants_112 : decode cX0_plants 112 = .ok (.aload_n 0, 1) := dk_42 (dk_at dksX0_plants_4 17 rfl rfl)
theorem dX0_plants_113 : decode cX0_plants 113 = .ok (.iconst 3, 1) := dk_6 (dk_at dksX0_plants_4 18 rfl rfl)
theorem dX0_plants_114 : decode cX0_plants 114 = .ok (.invokevirtual 139, 3) := dk_182 0 139 (dk_at dksX0_plants_4 19 rfl rfl)
theorem dX0_plants_117 : decode cX0_plants 117 = .ok (.ireturn, 1) := dk_172 (dk_at dksX0_plants_4 22 rfl rfl)
theorem dX0_plants_118 : decode cX0_plants 118 = .ok (.iinc 3 1, 3) := dk_132 3 1 (dk_at dksX0_plants_5 0 rfl rfl)
theorem dX0_plants_121 : decode cX0_plants 121 = .ok (.goto (-52), 3) := dk_167 255 204 (dk_at dksX0_plants_5 3 rfl rfl)
theorem dX0_plants_124 : decode cX0_plants 124 = .ok (.iconst 0, 1) := dk_3 (dk_at dksX0_plants_5 6 rfl rfl)
theorem dX0_plants_125 : decode cX0_plants 125 = .ok (.istore_n 3, 1) := dk_62 (dk_at dksX0_plants_5 7 rfl rfl)
theorem dX0_plants_126 : decode cX0_plants 126 = .ok (.iload_n 3, 1) := dk_29 (dk_at dksX0_plants_5 8 rfl rfl)
theorem dX0_plants_127 : decode cX0_plants 127 = .ok (.iload_n 2, 1) := dk_28 (dk_at dksX0_plants_5 9 rfl rfl)
theorem dX0_plants_128 : decode cX0_plants 128 = .ok (.if_icmp .ge 36, 3) := dk_162 0 36 (dk_at dksX0_plants_5 10 rfl rfl)
theorem dX0_plants_131 : decode cX0_plants 131 = .ok (.aload_n 0, 1) := dk_42 (dk_at dksX0_plants_5 13 rfl rfl)
theorem dX0_plants_132 : decode cX0_plants 132 = .ok (.aload_n 0, 1) := dk_42 (dk_at dksX0_plants_5 14 rfl rfl)
theorem dX0_plants_133 : decode cX0_plants 133 = .ok (.getfield 28, 3) := dk_180 0 28 (dk_at dksX0_plants_5 15 rfl rfl)
theorem dX0_plants_136 : decode cX0_plants 136 = .ok (.iload_n 1, 1) := dk_27 (dk_at dksX0_plants_5 18 rfl rfl)
theorem dX0_plants_137 : decode cX0_plants 137 = .ok (.aaload, 1) := dk_50 (dk_at dksX0_plants_5 19 rfl rfl)
theorem dX0_plants_138 : decode cX0_plants 138 = .ok (.iconst 2, 1) := dk_5 (dk_at dksX0_plants_5 20 rfl rfl)
theorem dX0_plants_139 : decode cX0_plants 139 = .ok (.iload_n 3, 1) := dk_29 (dk_at dksX0_plants_5 21 rfl rfl)
theorem dX0_plants_140 : decode cX0_plants 140 = .ok (.imul, 1) := dk_104 (dk_at dksX0_plants_5 22 rfl rfl)
theorem dX0_plants_141 : decode cX0_plants 141 = .ok (.iaload, 1) := dk_46 (dk_at dksX0_plants_5 23 rfl rfl)
theorem dX0_plants_142 : decode cX0_plants 142 = .ok (.aload_n 0, 1) := dk_42 (dk_at dksX0_plants_6 0 rfl rfl)
theorem dX0_plants_143 : decode cX0_plants 143 = .ok (.getfield 28, 3) := dk_180 0 28 (dk_at dksX0_plants_6 1 rfl rfl)
theorem dX0_plants_146 : decode cX0_plants 146 = .ok (.iload_n 1, 1) := dk_27 (dk_at dksX0_plants_6 4 rfl rfl)
theorem dX0_plants_147 : decode cX0_plants 147 = .ok (.aaload, 1) := dk_50 (dk_at dksX0_plants_6 5 rfl rfl)
theorem dX0_plants_148 : decode cX0_plants 148 = .ok (.iconst 2, 1) := dk_5 (dk_at dksX0_plants_6 6 rfl rfl)
theorem dX0_plants_149 : decode cX0_plants 149 = .ok (.iload_n 3, 1) := dk_29 (dk_at dksX0_plants_6 7 rfl rfl)
theorem dX0_plants_150 : decode cX0_plants 150 = .ok (.imul, 1) := dk_104 (dk_at dksX0_plants_6 8 rfl rfl)
theorem dX0_plants_151 : decode cX0_plants 151 = .ok (.iconst 1, 1) := dk_4 (dk_at dksX0_plants_6 9 rfl rfl)
theorem dX0_plants_152 : decode cX0_plants 152 = .ok (.iadd, 1) := dk_96 (dk_at dksX0_plants_6 10 rfl rfl)
theorem dX0_plants_153 : decode cX0_plants 153 = .ok (.iaload, 1) := dk_46 (dk_at dksX0_plants_6 11 rfl rfl)
theorem dX0_plants_154 : decode cX0_plants 154 = .ok (.invokevirtual 294, 3) := dk_182 1 38 (dk_at dksX0_plants_6 12 rfl rfl)
theorem dX0_plants_157 : decode cX0_plants 157 = .ok (.pop, 1) := dk_87 (dk_at dksX0_plants_6 15 rfl rfl)
theorem dX0_plants_158 : decode cX0_plants 158 = .ok (.iinc 3 1, 3) := dk_132 3 1 (dk_at dksX0_plants_6 16 rfl rfl)
theorem dX0_plants_161 : decode cX0_plants 161 = .ok (.goto (-35), 3) := dk_167 255 221 (dk_at dksX0_plants_6 19 rfl rfl)
theorem dX0_plants_164 : decode cX0_plants 164 = .ok (.iload_n 2, 1) := dk_28 (dk_at dksX0_plants_6 22 rfl rfl)
theorem dX0_plants_165 : decode cX0_plants 165 = .ok (.ireturn, 1) := dk_172 (dk_at dksX0_plants_6 23 rfl rfl)
abbrev cX0_about : ByteArray := prog_1_method_41_code
def yX0_about : MethodName := ⟨RX0, "about", "(II)I"⟩
def dkwX0_about_1 : List UInt8 := [4, 182, 0, 147, 167, 0, 4, 2, 172]
abbrev dktX0_about_1 : List UInt8 := dkwX0_about_1 ++ []
def dkwX0_about_0 : List UInt8 := [42, 27, 182, 1, 35, 153, 0, 26, 28, 3, 6, 184, 0, 129, 153, 0, 17, 42, 42, 27, 28, 182, 1, 47]
abbrev dktX0_about_0 : List UInt8 := dkwX0_about_0 ++ dktX0_about_1
theorem dksX0_about_0 : cX0_about.data.toList.drop 0 = dktX0_about_0 := by decide +kernel
theorem dksX0_about_1 : cX0_about.data.toList.drop 24 = dktX0_about_1 := dk_seg dksX0_about_0 24 rfl rfl
theorem dX0_about_0 : decode cX0_about 0 = .ok (.aload_n 0, 1) := dk_42 (dk_at dksX0_about_0 0 rfl rfl)
theorem dX0_about_1 : decode cX0_about 1 = .ok (.iload_n 1, 1) := dk_27 (dk_at dksX0_about_0 1 rfl rfl)
theorem dX0_about_2 : decode cX0_about 2 = .ok (.invokevirtual 291, 3) := dk_182 1 35 (dk_at dksX0_about_0 2 rfl rfl)
theorem dX0_about_5 : decode cX0_about 5 = .ok (.ifCond .eq 26, 3) := dk_153 0 26 (dk_at dksX0_about_0 5 rfl rfl)
theorem dX0_about_8 : decode cX0_about 8 = .ok (.iload_n 2, 1) := dk_28 (dk_at dksX0_about_0 8 rfl rfl)
theorem dX0_about_9 : decode cX0_about 9 = .ok (.iconst 0, 1) := dk_3 (dk_at dksX0_about_0 9 rfl rfl)
theorem dX0_about_10 : decode cX0_about 10 = .ok (.iconst 3, 1) := dk_6 (dk_at dksX0_about_0 10 rfl rfl)
theorem dX0_about_11 : decode cX0_about 11 = .ok (.invokestatic 129, 3) := dk_184 0 129 (dk_at dksX0_about_0 11 rfl rfl)
theorem dX0_about_14 : decode cX0_about 14 = .ok (.ifCond .eq 17, 3) := dk_153 0 17 (dk_at dksX0_about_0 14 rfl rfl)
theorem dX0_about_17 : decode cX0_about 17 = .ok (.aload_n 0, 1) := dk_42 (dk_at dksX0_about_0 17 rfl rfl)
theorem dX0_about_18 : decode cX0_about 18 = .ok (.aload_n 0, 1) := dk_42 (dk_at dksX0_about_0 18 rfl rfl)
theorem dX0_about_19 : decode cX0_about 19 = .ok (.iload_n 1, 1) := dk_27 (dk_at dksX0_about_0 19 rfl rfl)
theorem dX0_about_20 : decode cX0_about 20 = .ok (.iload_n 2, 1) := dk_28 (dk_at dksX0_about_0 20 rfl rfl)
theorem dX0_about_21 : decode cX0_about 21 = .ok (.invokevirtual 303, 3) := dk_182 1 47 (dk_at dksX0_about_0 21 rfl rfl)
theorem dX0_about_24 : decode cX0_about 24 = .ok (.iconst 1, 1) := dk_4 (dk_at dksX0_about_1 0 rfl rfl)
theorem dX0_about_25 : decode cX0_about 25 = .ok (.invokevirtual 147, 3) := dk_182 0 147 (dk_at dksX0_about_1 1 rfl rfl)
theorem dX0_about_28 : decode cX0_about 28 = .ok (.goto 4, 3) := dk_167 0 4 (dk_at dksX0_about_1 4 rfl rfl)
theorem dX0_about_31 : decode cX0_about 31 = .ok (.iconst (-1), 1) := dk_2 (dk_at dksX0_about_1 7 rfl rfl)
theorem dX0_about_32 : decode cX0_about 32 = .ok (.ireturn, 1) := dk_172 (dk_at dksX0_about_1 8 rfl rfl)
abbrev cX0_aboutOf : ByteArray := prog_1_method_40_code
def yX0_aboutOf : MethodName := ⟨RX0, "aboutOf", "(II)I"⟩
def dkwX0_aboutOf_1 : List UInt8 := [182, 1, 44, 172]
abbrev dktX0_aboutOf_1 : List UInt8 := dkwX0_aboutOf_1 ++ []
def dkwX0_aboutOf_0 : List UInt8 := [28, 6, 162, 0, 16, 42, 180, 0, 40, 27, 50, 28, 182, 1, 41, 167, 0, 12, 42, 180, 0, 40, 27, 50]
abbrev dktX0_aboutOf_0 : List UInt8 := dkwX0_aboutOf_0 ++ dktX0_aboutOf_1
theorem dksX0_aboutOf_0 : cX0_aboutOf.data.toList.drop 0 = dktX0_aboutOf_0 := by decide +kernel
theorem dksX0_aboutOf_1 : cX0_aboutOf.data.toList.drop 24 = dktX0_aboutOf_1 := dk_seg dksX0_aboutOf_0 24 rfl rfl
theorem dX0_aboutOf_0 : decode cX0_aboutOf 0 = .ok (.iload_n 2, 1) := dk_28 (dk_at dksX0_aboutOf_0 0 rfl rfl)
theorem dX0_aboutOf_1 : decode cX0_aboutOf 1 = .ok (.iconst 3, 1) := dk_6 (dk_at dksX0_aboutOf_0 1 rfl rfl)
theorem dX0_aboutOf_2 : decode cX0_aboutOf 2 = .ok (.if_icmp .ge 16, 3) := dk_162 0 16 (dk_at dksX0_aboutOf_0 2 rfl rfl)
theorem dX0_aboutOf_5 : decode cX0_aboutOf 5 = .ok (.aload_n 0, 1) := dk_42 (dk_at dksX0_aboutOf_0 5 rfl rfl)
theorem dX0_aboutOf_6 : decode cX0_aboutOf 6 = .ok (.getfield 40, 3) := dk_180 0 40 (dk_at dksX0_aboutOf_0 6 rfl rfl)
theorem dX0_aboutOf_9 : decode cX0_aboutOf 9 = .ok (.iload_n 1, 1) := dk_27 (dk_at dksX0_aboutOf_0 9 rfl rfl)
theorem dX0_aboutOf_10 : decode cX0_aboutOf 10 = .ok (.aaload, 1) := dk_50 (dk_at dksX0_aboutOf_0 10 rfl rfl)
theorem dX0_aboutOf_11 : decode cX0_aboutOf 11 = .ok (.iload_n 2, 1) := dk_28 (dk_at dksX0_aboutOf_0 11 rfl rfl)
theorem dX0_aboutOf_12 : decode cX0_aboutOf 12 = .ok (.invokevirtual 297, 3) := dk_182 1 41 (dk_at dksX0_aboutOf_0 12 rfl rfl)
theorem dX0_aboutOf_15 : decode cX0_aboutOf 15 = .ok (.goto 12, 3) := dk_167 0 12 (dk_at dksX0_aboutOf_0 15 rfl rfl)
theorem dX0_aboutOf_18 : decode cX0_aboutOf 18 = .ok (.aload_n 0, 1) := dk_42 (dk_at dksX0_aboutOf_0 18 rfl rfl)
theorem dX0_aboutOf_19 : decode cX0_aboutOf 19 = .ok (.getfield 40, 3) := dk_180 0 40 (dk_at dksX0_aboutOf_0 19 rfl rfl)
theorem dX0_aboutOf_22 : decode cX0_aboutOf 22 = .ok (.iload_n 1, 1) := dk_27 (dk_at dksX0_aboutOf_0 22 rfl rfl)
theorem dX0_aboutOf_23 : decode cX0_aboutOf 23 = .ok (.aaload, 1) := dk_50 (dk_at dksX0_aboutOf_0 23 rfl rfl)
theorem dX0_aboutOf_24 : decode cX0_aboutOf 24 = .ok (.invokevirtual 300, 3) := dk_182 1 44 (dk_at dksX0_aboutOf_1 0 rfl rfl)
theorem dX0_aboutOf_27 : decode cX0_aboutOf 27 = .ok (.ireturn, 1) := dk_172 (dk_at dksX0_aboutOf_1 3 rfl rfl)
abbrev cX0_mark : ByteArray := prog_1_method_42_code
def yX0_mark : MethodName := ⟨RX0, "mark", "(II)I"⟩
def dkwX0_mark_4 : List UInt8 := [45, 192, 0, 215, 180, 1, 57, 172, 45, 192, 0, 220, 180, 1, 60, 172, 58, 4, 42, 6, 182, 0, 139, 172]
abbrev dktX0_mark_4 : List UInt8 := dkwX0_mark_4 ++ []
def dkwX0_mark_3 : List UInt8 := [45, 192, 0, 183, 182, 1, 50, 172, 45, 192, 0, 212, 182, 1, 53, 172, 45, 192, 0, 202, 182, 1, 56, 172]
abbrev dktX0_mark_3 : List UInt8 := dkwX0_mark_3 ++ dktX0_mark_4
def dkwX0_mark_2 : List UInt8 := [170, 0, 0, 0, 61, 0, 0, 0, 1, 0, 0, 0, 4, 0, 0, 0, 29, 0, 0, 0, 37, 0, 0, 0, 45, 0, 0, 0, 53]
abbrev dktX0_mark_2 : List UInt8 := dkwX0_mark_2 ++ dktX0_mark_3
def dkwX0_mark_1 : List UInt8 := [50, 78, 28]
abbrev dktX0_mark_1 : List UInt8 := dkwX0_mark_1 ++ dktX0_mark_2
def dkwX0_mark_0 : List UInt8 := [42, 27, 182, 1, 35, 153, 0, 12, 28, 4, 8, 184, 0, 129, 154, 0, 5, 2, 172, 42, 180, 0, 40, 27]
abbrev dktX0_mark_0 : List UInt8 := dkwX0_mark_0 ++ dktX0_mark_1
theorem dksX0_mark_0 : cX0_mark.data.toList.drop 0 = dktX0_mark_0 := by decide +kernel
theorem dksX0_mark_1 : cX0_mark.data.toList.drop 24 = dktX0_mark_1 := dk_seg dksX0_mark_0 24 rfl rfl
theorem dksX0_mark_2 : cX0_mark.data.toList.drop 27 = dktX0_mark_2 := dk_seg dksX0_mark_1 3 rfl rfl
theorem dksX0_mark_3 : cX0_mark.data.toList.drop 56 = dktX0_mark_3 := dk_seg dksX0_mark_2 29 rfl rfl
theorem dksX0_mark_4 : cX0_mark.data.toList.drop 80 = dktX0_mark_4 := dk_seg dksX0_mark_3 24 rfl rfl
theorem dX0_mark_0 : decode cX0_mark 0 = .ok (.aload_n 0, 1) := dk_42 (dk_at dksX0_mark_0 0 rfl rfl)
theorem dX0_mark_1 : decode cX0_mark 1 = .ok (.iload_n 1, 1) := dk_27 (dk_at dksX0_mark_0 1 rfl rfl)
theorem dX0_mark_2 : decode cX0_mark 2 = .ok (.invokevirtual 291, 3) := dk_182 1 35 (dk_at dksX0_mark_0 2 rfl rfl)
theorem dX0_mark_5 : decode cX0_mark 5 = .ok (.ifCond .eq 12, 3) := dk_153 0 12 (dk_at dksX0_mark_0 5 rfl rfl)
theorem dX0_mark_8 : decode cX0_mark 8 = .ok (.iload_n 2, 1) := dk_28 (dk_at dksX0_mark_0 8 rfl rfl)
theorem dX0_mark_9 : decode cX0_mark 9 = .ok (.iconst 1, 1) := dk_4 (dk_at dksX0_mark_0 9 rfl rfl)
theorem dX0_mark_10 : decode cX0_mark 10 = .ok (.iconst 5, 1) := dk_8 (dk_at dksX0_mark_0 10 rfl rfl)
theorem dX0_mark_11 : decode cX0_mark 11 = .ok (.invokestatic 129, 3) := dk_184 0 129 (dk_at dksX0_mark_0 11 rfl rfl)
theorem dX0_mark_14 : decode cX0_mark 14 = .ok (.ifCond .ne 5, 3) := dk_154 0 5 (dk_at dksX0_mark_0 14 rfl rfl)
theorem dX0_mark_17 : decode cX0_mark 17 = .ok (.iconst (-1), 1) := dk_2 (dk_at dksX0_mark_0 17 rfl rfl)
theorem dX0_mark_18 : decode cX0_mark 18 = .ok (.ireturn, 1) := dk_172 (dk_at dksX0_mark_0 18 rfl rfl)
theorem dX0_mark_19 : decode cX0_mark 19 = .ok (.aload_n 0, 1) := dk_42 (dk_at dksX0_mark_0 19 rfl rfl)
theorem dX0_mark_20 : decode cX0_mark 20 = .ok (.getfield 40, 3) := dk_180 0 40 (dk_at dksX0_mark_0 20 rfl rfl)
theorem dX0_mark_23 : decode cX0_mark 23 = .ok (.iload_n 1, 1) := dk_27 (dk_at dksX0_mark_0 23 rfl rfl)
theorem dX0_mark_24 : decode cX0_mark 24 = .ok (.aaload, 1) := dk_50 (dk_at dksX0_mark_1 0 rfl rfl)
theorem dX0_mark_25 : decode cX0_mark 25 = .ok (.astore_n 3, 1) := dk_78 (dk_at dksX0_mark_1 1 rfl rfl)
theorem dX0_mark_26 : decode cX0_mark 26 = .ok (.iload_n 2, 1) := dk_28 (dk_at dksX0_mark_1 2 rfl rfl)
theorem dX0_mark_27 : decode cX0_mark 27 = .ok (.tableswitch 61 1 4 #[29, 37, 45, 53], 29) := by decide +kernel
theorem dX0_mark_56 : decode cX0_mark 56 = .ok (.aload_n 3, 1) := dk_45 (dk_at dksX0_mark_3 0 rfl rfl)
theorem dX0_mark_57 : decode cX0_mark 57 = .ok (.checkcast 183, 3) := dk_192 0 183 (dk_at dksX0_mark_3 1 rfl rfl)
theorem dX0_mark_60 : decode cX0_mark 60 = .ok (.invokevirtual 306, 3) := dk_182 1 50 (dk_at dksX0_mark_3 4 rfl rfl)
theorem dX0_mark_63 : decode cX0_mark 63 = .ok (.ireturn, 1) := dk_172 (dk_at dksX0_mark_3 7 rfl rfl)
theorem dX0_mark_64 : decode cX0_mark 64 = .ok (.aload_n 3, 1) := dk_45 (dk_at dksX0_mark_3 8 rfl rfl)
theorem dX0_mark_65 : decode cX0_mark 65 = .ok (.checkcast 212, 3) := dk_192 0 212 (dk_at dksX0_mark_3 9 rfl rfl)
theorem dX0_mark_68 : decode cX0_mark 68 = .ok (.invokevirtual 309, 3) := dk_182 1 53 (dk_at dksX0_mark_3 12 rfl rfl)
theorem dX0_mark_71 : decode cX0_mark 71 = .ok (.ireturn, 1) := dk_172 (dk_at dksX0_mark_3 15 rfl rfl)
theorem dX0_mark_72 : decode cX0_mark 72 = .ok (.aload_n 3, 1) := dk_45 (dk_at dksX0_mark_3 16 rfl rfl)
theorem dX0_mark_73 : decode cX0_mark 73 = .ok (.checkcast 202, 3) := dk_192 0 202 (dk_at dksX0_mark_3 17 rfl rfl)
theorem dX0_mark_76 : decode cX0_mark 76 = .ok (.invokevirtual 312, 3) := dk_182 1 56 (dk_at dksX0_mark_3 20 rfl rfl)
theorem dX0_mark_79 : decode cX0_mark 79 = .ok (.ireturn, 1) := dk_172 (dk_at dksX0_mark_3 23 rfl rfl)
theorem dX0_mark_80 : decode cX0_mark 80 = .ok (.aload_n 3, 1) := dk_45 (dk_at dksX0_mark_4 0 rfl rfl)
theorem dX0_mark_81 : decode cX0_mark 81 = .ok (.checkcast 215, 3) := dk_192 0 215 (dk_at dksX0_mark_4 1 rfl rfl)
theorem dX0_mark_84 : decode cX0_mark 84 = .ok (.getfield 313, 3) := dk_180 1 57 (dk_at dksX0_mark_4 4 rfl rfl)
theorem dX0_mark_87 : decode cX0_mark 87 = .ok (.ireturn, 1) := dk_172 (dk_at dksX0_mark_4 7 rfl rfl)
theorem dX0_mark_88 : decode cX0_mark 88 = .ok (.aload_n 3, 1) := dk_45 (dk_at dksX0_mark_4 8 rfl rfl)
theorem dX0_mark_89 : decode cX0_mark 89 = .ok (.checkcast 220, 3) := dk_192 0 220 (dk_at dksX0_mark_4 9 rfl rfl)
theorem dX0_mark_92 : decode cX0_mark 92 = .ok (.getfield 316, 3) := dk_180 1 60 (dk_at dksX0_mark_4 12 rfl rfl)
theorem dX0_mark_95 : decode cX0_mark 95 = .ok (.ireturn, 1) := dk_172 (dk_at dksX0_mark_4 15 rfl rfl)
theorem dX0_mark_96 : decode cX0_mark 96 = .ok (.astore 4, 2) := dk_58 4 (dk_at dksX0_mark_4 16 rfl rfl)
theorem dX0_mark_98 : decode cX0_mark 98 = .ok (.aload_n 0, 1) := dk_42 (dk_at dksX0_mark_4 18 rfl rfl)
theorem dX0_mark_99 : decode cX0_mark 99 = .ok (.iconst 3, 1) := dk_6 (dk_at dksX0_mark_4 19 rfl rfl)
theorem dX0_mark_100 : decode cX0_mark 100 = .ok (.invokevirtual 139, 3) := dk_182 0 139 (dk_at dksX0_mark_4 20 rfl rfl)
theorem dX0_mark_103 : decode cX0_mark 103 = .ok (.ireturn, 1) := dk_172 (dk_at dksX0_mark_4 23 rfl rfl)
abbrev cX0_told : ByteArray := prog_1_method_44_code
def yX0_told : MethodName := ⟨RX0, "told", "(II)I"⟩
def dkwX0_told_1 : List UInt8 := [4, 182, 0, 147, 167, 0, 4, 2, 172]
abbrev dktX0_told_1 : List UInt8 := dkwX0_told_1 ++ []
def dkwX0_told_0 : List UInt8 := [42, 27, 182, 1, 74, 153, 0, 26, 28, 3, 6, 184, 0, 129, 153, 0, 17, 42, 42, 27, 28, 182, 1, 77]
abbrev dktX0_told_0 : List UInt8 := dkwX0_told_0 ++ dktX0_told_1
theorem dksX0_told_0 : cX0_told.data.toList.drop 0 = dktX0_told_0 := by decide +kernel
theorem dksX0_told_1 : cX0_told.data.toList.drop 24 = dktX0_told_1 := dk_seg dksX0_told_0 24 rfl rfl
theorem dX0_told_0 : decode cX0_told 0 = .ok (.aload_n 0, 1) := dk_42 (dk_at dksX0_told_0 0 rfl rfl)
theorem dX0_told_1 : decode cX0_told 1 = .ok (.iload_n 1, 1) := dk_27 (dk_at dksX0_told_0 1 rfl rfl)
theorem dX0_told_2 : decode cX0_told 2 = .ok (.invokevirtual 330, 3) := dk_182 1 74 (dk_at dksX0_told_0 2 rfl rfl)
theorem dX0_told_5 : decode cX0_told 5 = .ok (.ifCond .eq 26, 3) := dk_153 0 26 (dk_at dksX0_told_0 5 rfl rfl)
theorem dX0_told_8 : decode cX0_told 8 = .ok (.iload_n 2, 1) := dk_28 (dk_at dksX0_told_0 8 rfl rfl)
theorem dX0_told_9 : decode cX0_told 9 = .ok (.iconst 0, 1) := dk_3 (dk_at dksX0_told_0 9 rfl rfl)
theorem dX0_told_10 : decode cX0_told 10 = .ok (.iconst 3, 1) := dk_6 (dk_at dksX0_told_0 10 rfl rfl)
theorem dX0_told_11 : decode cX0_told 11 = .ok (.invokestatic 129, 3) := dk_184 0 129 (dk_at dksX0_told_0 11 rfl rfl)
theorem dX0_told_14 : decode cX0_told 14 = .ok (.ifCond .eq 17, 3) := dk_153 0 17 (dk_at dksX0_told_0 14 rfl rfl)
theorem dX0_told_17 : decode cX0_told 17 = .ok (.aload_n 0, 1) := dk_42 (dk_at dksX0_told_0 17 rfl rfl)
theorem dX0_told_18 : decode cX0_told 18 = .ok (.aload_n 0, 1) := dk_42 (dk_at dksX0_told_0 18 rfl rfl)
theorem dX0_told_19 : decode cX0_told 19 = .ok (.iload_n 1, 1) := dk_27 (dk_at dksX0_told_0 19 rfl rfl)
theorem dX0_told_20 : decode cX0_told 20 = .ok (.iload_n 2, 1) := dk_28 (dk_at dksX0_told_0 20 rfl rfl)
theorem dX0_told_21 : decode cX0_told 21 = .ok (.invokevirtual 333, 3) := dk_182 1 77 (dk_at dksX0_told_0 21 rfl rfl)
theorem dX0_told_24 : decode cX0_told 24 = .ok (.iconst 1, 1) := dk_4 (dk_at dksX0_told_1 0 rfl rfl)
theorem dX0_told_25 : decode cX0_told 25 = .ok (.invokevirtual 147, 3) := dk_182 0 147 (dk_at dksX0_told_1 1 rfl rfl)
theorem dX0_told_28 : decode cX0_told 28 = .ok (.goto 4, 3) := dk_167 0 4 (dk_at dksX0_told_1 4 rfl rfl)
theorem dX0_told_31 : decode cX0_told 31 = .ok (.iconst (-1), 1) := dk_2 (dk_at dksX0_told_1 7 rfl rfl)
theorem dX0_told_32 : decode cX0_told 32 = .ok (.ireturn, 1) := dk_172 (dk_at dksX0_told_1 8 rfl rfl)
abbrev cX0_isTree : ByteArray := prog_1_method_35_code
def yX0_isTree : MethodName := ⟨RX0, "isTree", "(I)Z"⟩
def dkwX0_isTree_0 : List UInt8 := [27, 3, 42, 180, 1, 20, 4, 100, 184, 0, 129, 172]
abbrev dktX0_isTree_0 : List UInt8 := dkwX0_isTree_0 ++ []
theorem dksX0_isTree_0 : cX0_isTree.data.toList.drop 0 = dktX0_isTree_0 := by decide +kernel
theorem dX0_isTree_0 : decode cX0_isTree 0 = .ok (.iload_n 1, 1) := dk_27 (dk_at dksX0_isTree_0 0 rfl rfl)
theorem dX0_isTree_1 : decode cX0_isTree 1 = .ok (.iconst 0, 1) := dk_3 (dk_at dksX0_isTree_0 1 rfl rfl)
theorem dX0_isTree_2 : decode cX0_isTree 2 = .ok (.aload_n 0, 1) := dk_42 (dk_at dksX0_isTree_0 2 rfl rfl)
theorem dX0_isTree_3 : decode cX0_isTree 3 = .ok (.getfield 276, 3) := dk_180 1 20 (dk_at dksX0_isTree_0 3 rfl rfl)
theorem dX0_isTree_6 : decode cX0_isTree 6 = .ok (.iconst 1, 1) := dk_4 (dk_at dksX0_isTree_0 6 rfl rfl)
theorem dX0_isTree_7 : decode cX0_isTree 7 = .ok (.isub, 1) := dk_100 (dk_at dksX0_isTree_0 7 rfl rfl)
theorem dX0_isTree_8 : decode cX0_isTree 8 = .ok (.invokestatic 129, 3) := dk_184 0 129 (dk_at dksX0_isTree_0 8 rfl rfl)
theorem dX0_isTree_11 : decode cX0_isTree 11 = .ok (.ireturn, 1) := dk_172 (dk_at dksX0_isTree_0 11 rfl rfl)
abbrev cX0_toldOf : ByteArray := prog_1_method_43_code
def yX0_toldOf : MethodName := ⟨RX0, "toldOf", "(II)I"⟩
def dkwX0_toldOf_2 : List UInt8 := [180, 1, 71, 172]
abbrev dktX0_toldOf_2 : List UInt8 := dkwX0_toldOf_2 ++ []
def dkwX0_toldOf_1 : List UInt8 := [180, 0, 86, 180, 1, 32, 27, 46, 167, 0, 19, 28, 5, 160, 0, 10, 45, 180, 1, 68, 167, 0, 7, 45]
abbrev dktX0_toldOf_1 : List UInt8 := dkwX0_toldOf_1 ++ dktX0_toldOf_2
def dkwX0_toldOf_0 : List UInt8 := [42, 180, 0, 79, 27, 50, 78, 28, 154, 0, 10, 45, 180, 1, 65, 167, 0, 36, 28, 4, 160, 0, 15, 42]
abbrev dktX0_toldOf_0 : List UInt8 := dkwX0_toldOf_0 ++ dktX0_toldOf_1
theorem dksX0_toldOf_0 : cX0_toldOf.data.toList.drop 0 = dktX0_toldOf_0 := by decide +kernel
theorem dksX0_toldOf_1 : cX0_toldOf.data.toList.drop 24 = dktX0_toldOf_1 := dk_seg dksX0_toldOf_0 24 rfl rfl
theorem dksX0_toldOf_2 : cX0_toldOf.data.toList.drop 48 = dktX0_toldOf_2 := dk_seg dksX0_toldOf_1 24 rfl rfl
theorem dX0_toldOf_0 : decode cX0_toldOf 0 = .ok (.aload_n 0, 1) := dk_42 (dk_at dksX0_toldOf_0 0 rfl rfl)
theorem dX0_toldOf_1 : decode cX0_toldOf 1 = .ok (.getfield 79, 3) := dk_180 0 79 (dk_at dksX0_toldOf_0 1 rfl rfl)
theorem dX0_toldOf_4 : decode cX0_toldOf 4 = .ok (.iload_n 1, 1) := dk_27 (dk_at dksX0_toldOf_0 4 rfl rfl)
theorem dX0_toldOf_5 : decode cX0_toldOf 5 = .ok (.aaload, 1) := dk_50 (dk_at dksX0_toldOf_0 5 rfl rfl)
theorem dX0_toldOf_6 : decode cX0_toldOf 6 = .ok (.astore_n 3, 1) := dk_78 (dk_at dksX0_toldOf_0 6 rfl rfl)
theorem dX0_toldOf_7 : decode cX0_toldOf 7 = .ok (.iload_n 2, 1) := dk_28 (dk_at dksX0_toldOf_0 7 rfl rfl)
theorem dX0_toldOf_8 : decode cX0_toldOf 8 = .ok (.ifCond .ne 10, 3) := dk_154 0 10 (dk_at dksX0_toldOf_0 8 rfl rfl)
theorem dX0_toldOf_11 : decode cX0_toldOf 11 = .ok (.aload_n 3, 1) := dk_45 (dk_at dksX0_toldOf_0 11 rfl rfl)
theorem dX0_toldOf_12 : decode cX0_toldOf 12 = .ok (.getfield 321, 3) := dk_180 1 65 (dk_at dksX0_toldOf_0 12 rfl rfl)
theorem dX0_toldOf_15 : decode cX0_toldOf 15 = .ok (.goto 36, 3) := dk_167 0 36 (dk_at dksX0_toldOf_0 15 rfl rfl)
theorem dX0_toldOf_18 : decode cX0_toldOf 18 = .ok (.iload_n 2, 1) := dk_28 (dk_at dksX0_toldOf_0 18 rfl rfl)
theorem dX0_toldOf_19 : decode cX0_toldOf 19 = .ok (.iconst 1, 1) := dk_4 (dk_at dksX0_toldOf_0 19 rfl rfl)
theorem dX0_toldOf_20 : decode cX0_toldOf 20 = .ok (.if_icmp .ne 15, 3) := dk_160 0 15 (dk_at dksX0_toldOf_0 20 rfl rfl)
theorem dX0_toldOf_23 : decode cX0_toldOf 23 = .ok (.aload_n 0, 1) := dk_42 (dk_at dksX0_toldOf_0 23 rfl rfl)
theorem dX0_toldOf_24 : decode cX0_toldOf 24 = .ok (.getfield 86, 3) := dk_180 0 86 (dk_at dksX0_toldOf_1 0 rfl rfl)
theorem dX0_toldOf_27 : decode cX0_toldOf 27 = .ok (.getfield 288, 3) := dk_180 1 32 (dk_at dksX0_toldOf_1 3 rfl rfl)
theorem dX0_toldOf_30 : decode cX0_toldOf 30 = .ok (.iload_n 1, 1) := dk_27 (dk_at dksX0_toldOf_1 6 rfl rfl)
theorem dX0_toldOf_31 : decode cX0_toldOf 31 = .ok (.iaload, 1) := dk_46 (dk_at dksX0_toldOf_1 7 rfl rfl)
theorem dX0_toldOf_32 : decode cX0_toldOf 32 = .ok (.goto 19, 3) := dk_167 0 19 (dk_at dksX0_toldOf_1 8 rfl rfl)
theorem dX0_toldOf_35 : decode cX0_toldOf 35 = .ok (.iload_n 2, 1) := dk_28 (dk_at dksX0_toldOf_1 11 rfl rfl)
theorem dX0_toldOf_36 : decode cX0_toldOf 36 = .ok (.iconst 2, 1) := dk_5 (dk_at dksX0_toldOf_1 12 rfl rfl)
theorem dX0_toldOf_37 : decode cX0_toldOf 37 = .ok (.if_icmp .ne 10, 3) := dk_160 0 10 (dk_at dksX0_toldOf_1 13 rfl rfl)
theorem dX0_toldOf_40 : decode cX0_toldOf 40 = .ok (.aload_n 3, 1) := dk_45 (dk_at dksX0_toldOf_1 16 rfl rfl)
theorem dX0_toldOf_41 : decode cX0_toldOf 41 = .ok (.getfield 324, 3) := dk_180 1 68 (dk_at dksX0_toldOf_1 17 rfl rfl)
theorem dX0_toldOf_44 : decode cX0_toldOf 44 = .ok (.goto 7, 3) := dk_167 0 7 (dk_at dksX0_toldOf_1 20 rfl rfl)
theorem dX0_toldOf_47 : decode cX0_toldOf 47 = .ok (.aload_n 3, 1) := dk_45 (dk_at dksX0_toldOf_1 23 rfl rfl)
theorem dX0_toldOf_48 : decode cX0_toldOf 48 = .ok (.getfield 327, 3) := dk_180 1 71 (dk_at dksX0_toldOf_2 0 rfl rfl)
theorem dX0_toldOf_51 : decode cX0_toldOf 51 = .ok (.ireturn, 1) := dk_172 (dk_at dksX0_toldOf_2 3 rfl rfl)
abbrev cX0_now : ByteArray := prog_1_method_47_code
def yX0_now : MethodName := ⟨RX0, "now", "(I)I"⟩
def dkwX0_now_1 : List UInt8 := [172]
abbrev dktX0_now_1 : List UInt8 := dkwX0_now_1 ++ []
def dkwX0_now_0 : List UInt8 := [27, 3, 16, 8, 184, 0, 129, 153, 0, 16, 42, 42, 27, 182, 1, 86, 4, 182, 0, 147, 167, 0, 4, 2]
abbrev dktX0_now_0 : List UInt8 := dkwX0_now_0 ++ dktX0_now_1
theorem dksX0_now_0 : cX0_now.data.toList.drop 0 = dktX0_now_0 := by decide +kernel
theorem dksX0_now_1 : cX0_now.data.toList.drop 24 = dktX0_now_1 := dk_seg dksX0_now_0 24 rfl rfl
theorem dX0_now_0 : decode cX0_now 0 = .ok (.iload_n 1, 1) := dk_27 (dk_at dksX0_now_0 0 rfl rfl)
theorem dX0_now_1 : decode cX0_now 1 = .ok (.iconst 0, 1) := dk_3 (dk_at dksX0_now_0 1 rfl rfl)
theorem dX0_now_2 : decode cX0_now 2 = .ok (.bipush 8, 2) := dk_16 8 (dk_at dksX0_now_0 2 rfl rfl)
theorem dX0_now_4 : decode cX0_now 4 = .ok (.invokestatic 129, 3) := dk_184 0 129 (dk_at dksX0_now_0 4 rfl rfl)
theorem dX0_now_7 : decode cX0_now 7 = .ok (.ifCond .eq 16, 3) := dk_153 0 16 (dk_at dksX0_now_0 7 rfl rfl)
theorem dX0_now_10 : decode cX0_now 10 = .ok (.aload_n 0, 1) := dk_42 (dk_at dksX0_now_0 10 rfl rfl)
theorem dX0_now_11 : decode cX0_now 11 = .ok (.aload_n 0, 1) := dk_42 (dk_at dksX0_now_0 11 rfl rfl)
theorem dX0_now_12 : decode cX0_now 12 = .ok (.iload_n 1, 1) := dk_27 (dk_at dksX0_now_0 12 rfl rfl)
theorem dX0_now_13 : decode cX0_now 13 = .ok (.invokevirtual 342, 3) := dk_182 1 86 (dk_at dksX0_now_0 13 rfl rfl)
theorem dX0_now_16 : decode cX0_now 16 = .ok (.iconst 1, 1) := dk_4 (dk_at dksX0_now_0 16 rfl rfl)
theorem dX0_now_17 : decode cX0_now 17 = .ok (.invokevirtual 147, 3) := dk_182 0 147 (dk_at dksX0_now_0 17 rfl rfl)
theorem dX0_now_20 : decode cX0_now 20 = .ok (.goto 4, 3) := dk_167 0 4 (dk_at dksX0_now_0 20 rfl rfl)
theorem dX0_now_23 : decode cX0_now 23 = .ok (.iconst (-1), 1) := dk_2 (dk_at dksX0_now_0 23 rfl rfl)
theorem dX0_now_24 : decode cX0_now 24 = .ok (.ireturn, 1) := dk_172 (dk_at dksX0_now_1 0 rfl rfl)
abbrev cX0_nowOf : ByteArray := prog_1_method_46_code
def yX0_nowOf : MethodName := ⟨RX0, "nowOf", "(I)I"⟩
def dkwX0_nowOf_3 : List UInt8 := [180, 1, 14, 172, 42, 180, 0, 126, 190, 172, 42, 180, 0, 44, 27, 16, 6, 100, 46, 172]
abbrev dktX0_nowOf_3 : List UInt8 := dkwX0_nowOf_3 ++ []
def dkwX0_nowOf_2 : List UInt8 := [42, 180, 0, 86, 180, 1, 23, 172, 42, 27, 4, 100, 182, 1, 83, 172, 42, 180, 1, 11, 172, 42]
abbrev dktX0_nowOf_2 : List UInt8 := dkwX0_nowOf_2 ++ dktX0_nowOf_3
def dkwX0_nowOf_1 : List UInt8 := [170, 0, 0, 0, 0, 0, 71, 0, 0, 0, 0, 0, 0, 0, 5, 0, 0, 0, 39, 0, 0, 0, 47, 0, 0, 0, 47, 0, 0, 0, 55, 0, 0, 0, 60, 0, 0, 0, 65]
abbrev dktX0_nowOf_1 : List UInt8 := dkwX0_nowOf_1 ++ dktX0_nowOf_2
def dkwX0_nowOf_0 : List UInt8 := [27]
abbrev dktX0_nowOf_0 : List UInt8 := dkwX0_nowOf_0 ++ dktX0_nowOf_1
theorem dksX0_nowOf_0 : cX0_nowOf.data.toList.drop 0 = dktX0_nowOf_0 := by decide +kernel
theorem dksX0_nowOf_1 : cX0_nowOf.data.toList.drop 1 = dktX0_nowOf_1 := dk_seg dksX0_nowOf_0 1 rfl rfl
theorem dksX0_nowOf_2 : cX0_nowOf.data.toList.drop 40 = dktX0_nowOf_2 := dk_seg dksX0_nowOf_1 39 rfl rfl
theorem dksX0_nowOf_3 : cX0_nowOf.data.toList.drop 62 = dktX0_nowOf_3 := dk_seg dksX0_nowOf_2 22 rfl rfl
theorem dX0_nowOf_0 : decode cX0_nowOf 0 = .ok (.iload_n 1, 1) := dk_27 (dk_at dksX0_nowOf_0 0 rfl rfl)
theorem dX0_nowOf_1 : decode cX0_nowOf 1 = .ok (.tableswitch 71 0 5 #[39, 47, 47, 55, 60, 65], 39) := by decide +kernel
theorem dX0_nowOf_40 : decode cX0_nowOf 40 = .ok (.aload_n 0, 1) := dk_42 (dk_at dksX0_nowOf_2 0 rfl rfl)
theorem dX0_nowOf_41 : decode cX0_nowOf 41 = .ok (.getfield 86, 3) := dk_180 0 86 (dk_at dksX0_nowOf_2 1 rfl rfl)
theorem dX0_nowOf_44 : decode cX0_nowOf 44 = .ok (.getfield 279, 3) := dk_180 1 23 (dk_at dksX0_nowOf_2 4 rfl rfl)
theorem dX0_nowOf_47 : decode cX0_nowOf 47 = .ok (.ireturn, 1) := dk_172 (dk_at dksX0_nowOf_2 7 rfl rfl)
theorem dX0_nowOf_48 : decode cX0_nowOf 48 = .ok (.aload_n 0, 1) := dk_42 (dk_at dksX0_nowOf_2 8 rfl rfl)
theorem dX0_nowOf_49 : decode cX0_nowOf 49 = .ok (.iload_n 1, 1) := dk_27 (dk_at dksX0_nowOf_2 9 rfl rfl)
theorem dX0_nowOf_50 : decode cX0_nowOf 50 = .ok (.iconst 1, 1) := dk_4 (dk_at dksX0_nowOf_2 10 rfl rfl)
theorem dX0_nowOf_51 : decode cX0_nowOf 51 = .ok (.isub, 1) := dk_100 (dk_at dksX0_nowOf_2 11 rfl rfl)
theorem dX0_nowOf_52 : decode cX0_nowOf 52 = .ok (.invokevirtual 339, 3) := dk_182 1 83 (dk_at dksX0_nowOf_2 12 rfl rfl)
theorem dX0_nowOf_55 : decode cX0_nowOf 55 = .ok (.ireturn, 1) := dk_172 (dk_at dksX0_nowOf_2 15 rfl rfl)
theorem dX0_nowOf_56 : decode cX0_nowOf 56 = .ok (.aload_n 0, 1) := dk_42 (dk_at dksX0_nowOf_2 16 rfl rfl)
theorem dX0_nowOf_57 : decode cX0_nowOf 57 = .ok (.getfield 267, 3) := dk_180 1 11 (dk_at dksX0_nowOf_2 17 rfl rfl)
theorem dX0_nowOf_60 : decode cX0_nowOf 60 = .ok (.ireturn, 1) := dk_172 (dk_at dksX0_nowOf_2 20 rfl rfl)
theorem dX0_nowOf_61 : decode cX0_nowOf 61 = .ok (.aload_n 0, 1) := dk_42 (dk_at dksX0_nowOf_2 21 rfl rfl)
theorem dX0_nowOf_62 : decode cX0_nowOf 62 = .ok (.getfield 270, 3) := dk_180 1 14 (dk_at dksX0_nowOf_3 0 rfl rfl)
theorem dX0_nowOf_65 : decode cX0_nowOf 65 = .ok (.ireturn, 1) := dk_172 (dk_at dksX0_nowOf_3 3 rfl rfl)
theorem dX0_nowOf_66 : decode cX0_nowOf 66 = .ok (.aload_n 0, 1) := dk_42 (dk_at dksX0_nowOf_3 4 rfl rfl)
theorem dX0_nowOf_67 : decode cX0_nowOf 67 = .ok (.getfield 126, 3) := dk_180 0 126 (dk_at dksX0_nowOf_3 5 rfl rfl)
theorem dX0_nowOf_70 : decode cX0_nowOf 70 = .ok (.arraylength, 1) := dk_190 (dk_at dksX0_nowOf_3 8 rfl rfl)
theorem dX0_nowOf_71 : decode cX0_nowOf 71 = .ok (.ireturn, 1) := dk_172 (dk_at dksX0_nowOf_3 9 rfl rfl)
theorem dX0_nowOf_72 : decode cX0_nowOf 72 = .ok (.aload_n 0, 1) := dk_42 (dk_at dksX0_nowOf_3 10 rfl rfl)
theorem dX0_nowOf_73 : decode cX0_nowOf 73 = .ok (.getfield 44, 3) := dk_180 0 44 (dk_at dksX0_nowOf_3 11 rfl rfl)
theorem dX0_nowOf_76 : decode cX0_nowOf 76 = .ok (.iload_n 1, 1) := dk_27 (dk_at dksX0_nowOf_3 14 rfl rfl)
theorem dX0_nowOf_77 : decode cX0_nowOf 77 = .ok (.bipush 6, 2) := dk_16 6 (dk_at dksX0_nowOf_3 15 rfl rfl)
theorem dX0_nowOf_79 : decode cX0_nowOf 79 = .ok (.isub, 1) := dk_100 (dk_at dksX0_nowOf_3 17 rfl rfl)
theorem dX0_nowOf_80 : decode cX0_nowOf 80 = .ok (.iaload, 1) := dk_46 (dk_at dksX0_nowOf_3 18 rfl rfl)
theorem dX0_nowOf_81 : decode cX0_nowOf 81 = .ok (.ireturn, 1) := dk_172 (dk_at dksX0_nowOf_3 19 rfl rfl)
abbrev cX0_miceOf : ByteArray := prog_1_method_45_code
def yX0_miceOf : MethodName := ⟨RX0, "miceOf", "(I)I"⟩
def dkwX0_miceOf_0 : List UInt8 := [42, 27, 182, 1, 80, 153, 0, 15, 42, 180, 0, 86, 180, 1, 26, 27, 46, 167, 0, 5, 16, 247, 172]
abbrev dktX0_miceOf_0 : List UInt8 := dkwX0_miceOf_0 ++ []
theorem dksX0_miceOf_0 : cX0_miceOf.data.toList.drop 0 = dktX0_miceOf_0 := by decide +kernel
theorem dX0_miceOf_0 : decode cX0_miceOf 0 = .ok (.aload_n 0, 1) := dk_42 (dk_at dksX0_miceOf_0 0 rfl rfl)
theorem dX0_miceOf_1 : decode cX0_miceOf 1 = .ok (.iload_n 1, 1) := dk_27 (dk_at dksX0_miceOf_0 1 rfl rfl)
theorem dX0_miceOf_2 : decode cX0_miceOf 2 = .ok (.invokevirtual 336, 3) := dk_182 1 80 (dk_at dksX0_miceOf_0 2 rfl rfl)
theorem dX0_miceOf_5 : decode cX0_miceOf 5 = .ok (.ifCond .eq 15, 3) := dk_153 0 15 (dk_at dksX0_miceOf_0 5 rfl rfl)
theorem dX0_miceOf_8 : decode cX0_miceOf 8 = .ok (.aload_n 0, 1) := dk_42 (dk_at dksX0_miceOf_0 8 rfl rfl)
theorem dX0_miceOf_9 : decode cX0_miceOf 9 = .ok (.getfield 86, 3) := dk_180 0 86 (dk_at dksX0_miceOf_0 9 rfl rfl)
theorem dX0_miceOf_12 : decode cX0_miceOf 12 = .ok (.getfield 282, 3) := dk_180 1 26 (dk_at dksX0_miceOf_0 12 rfl rfl)
theorem dX0_miceOf_15 : decode cX0_miceOf 15 = .ok (.iload_n 1, 1) := dk_27 (dk_at dksX0_miceOf_0 15 rfl rfl)
theorem dX0_miceOf_16 : decode cX0_miceOf 16 = .ok (.iaload, 1) := dk_46 (dk_at dksX0_miceOf_0 16 rfl rfl)
theorem dX0_miceOf_17 : decode cX0_miceOf 17 = .ok (.goto 5, 3) := dk_167 0 5 (dk_at dksX0_miceOf_0 17 rfl rfl)
theorem dX0_miceOf_20 : decode cX0_miceOf 20 = .ok (.bipush (-9), 2) := dk_16 247 (dk_at dksX0_miceOf_0 20 rfl rfl)
theorem dX0_miceOf_22 : decode cX0_miceOf 22 = .ok (.ireturn, 1) := dk_172 (dk_at dksX0_miceOf_0 22 rfl rfl)
abbrev cX0_areEaters : ByteArray := prog_1_method_36_code
def yX0_areEaters : MethodName := ⟨RX0, "areEaters", "(I)Z"⟩
def dkwX0_areEaters_0 : List UInt8 := [27, 3, 42, 180, 1, 17, 4, 100, 184, 0, 129, 172]
abbrev dktX0_areEaters_0 : List UInt8 := dkwX0_areEaters_0 ++ []
theorem dksX0_areEaters_0 : cX0_areEaters.data.toList.drop 0 = dktX0_areEaters_0 := by decide +kernel
theorem dX0_areEaters_0 : decode cX0_areEaters 0 = .ok (.iload_n 1, 1) := dk_27 (dk_at dksX0_areEaters_0 0 rfl rfl)
theorem dX0_areEaters_1 : decode cX0_areEaters 1 = .ok (.iconst 0, 1) := dk_3 (dk_at dksX0_areEaters_0 1 rfl rfl)
theorem dX0_areEaters_2 : decode cX0_areEaters 2 = .ok (.aload_n 0, 1) := dk_42 (dk_at dksX0_areEaters_0 2 rfl rfl)
theorem dX0_areEaters_3 : decode cX0_areEaters 3 = .ok (.getfield 273, 3) := dk_180 1 17 (dk_at dksX0_areEaters_0 3 rfl rfl)
theorem dX0_areEaters_6 : decode cX0_areEaters 6 = .ok (.iconst 1, 1) := dk_4 (dk_at dksX0_areEaters_0 6 rfl rfl)
theorem dX0_areEaters_7 : decode cX0_areEaters 7 = .ok (.isub, 1) := dk_100 (dk_at dksX0_areEaters_0 7 rfl rfl)
theorem dX0_areEaters_8 : decode cX0_areEaters 8 = .ok (.invokestatic 129, 3) := dk_184 0 129 (dk_at dksX0_areEaters_0 8 rfl rfl)
theorem dX0_areEaters_11 : decode cX0_areEaters 11 = .ok (.ireturn, 1) := dk_172 (dk_at dksX0_areEaters_0 11 rfl rfl)
abbrev cX0_spring : ByteArray := prog_1_method_48_code
def yX0_spring : MethodName := ⟨RX0, "spring", "(II)I"⟩
def dkwX0_spring_1 : List UInt8 := [145, 84, 29, 172, 78, 42, 5, 182, 0, 139, 172]
abbrev dktX0_spring_1 : List UInt8 := dkwX0_spring_1 ++ []
def dkwX0_spring_0 : List UInt8 := [28, 3, 5, 184, 0, 129, 154, 0, 5, 2, 172, 42, 180, 0, 126, 27, 51, 62, 42, 180, 0, 126, 27, 28]
abbrev dktX0_spring_0 : List UInt8 := dkwX0_spring_0 ++ dktX0_spring_1
theorem dksX0_spring_0 : cX0_spring.data.toList.drop 0 = dktX0_spring_0 := by decide +kernel
theorem dksX0_spring_1 : cX0_spring.data.toList.drop 24 = dktX0_spring_1 := dk_seg dksX0_spring_0 24 rfl rfl
theorem dX0_spring_0 : decode cX0_spring 0 = .ok (.iload_n 2, 1) := dk_28 (dk_at dksX0_spring_0 0 rfl rfl)
theorem dX0_spring_1 : decode cX0_spring 1 = .ok (.iconst 0, 1) := dk_3 (dk_at dksX0_spring_0 1 rfl rfl)
theorem dX0_spring_2 : decode cX0_spring 2 = .ok (.iconst 2, 1) := dk_5 (dk_at dksX0_spring_0 2 rfl rfl)
theorem dX0_spring_3 : decode cX0_spring 3 = .ok (.invokestatic 129, 3) := dk_184 0 129 (dk_at dksX0_spring_0 3 rfl rfl)
theorem dX0_spring_6 : decode cX0_spring 6 = .ok (.ifCond .ne 5, 3) := dk_154 0 5 (dk_at dksX0_spring_0 6 rfl rfl)
theorem dX0_spring_9 : decode cX0_spring 9 = .ok (.iconst (-1), 1) := dk_2 (dk_at dksX0_spring_0 9 rfl rfl)
theorem dX0_spring_10 : decode cX0_spring 10 = .ok (.ireturn, 1) := dk_172 (dk_at dksX0_spring_0 10 rfl rfl)
theorem dX0_spring_11 : decode cX0_spring 11 = .ok (.aload_n 0, 1) := dk_42 (dk_at dksX0_spring_0 11 rfl rfl)
theorem dX0_spring_12 : decode cX0_spring 12 = .ok (.getfield 126, 3) := dk_180 0 126 (dk_at dksX0_spring_0 12 rfl rfl)
theorem dX0_spring_15 : decode cX0_spring 15 = .ok (.iload_n 1, 1) := dk_27 (dk_at dksX0_spring_0 15 rfl rfl)
theorem dX0_spring_16 : decode cX0_spring 16 = .ok (.baload, 1) := dk_51 (dk_at dksX0_spring_0 16 rfl rfl)
theorem dX0_spring_17 : decode cX0_spring 17 = .ok (.istore_n 3, 1) := dk_62 (dk_at dksX0_spring_0 17 rfl rfl)
theorem dX0_spring_18 : decode cX0_spring 18 = .ok (.aload_n 0, 1) := dk_42 (dk_at dksX0_spring_0 18 rfl rfl)
theorem dX0_spring_19 : decode cX0_spring 19 = .ok (.getfield 126, 3) := dk_180 0 126 (dk_at dksX0_spring_0 19 rfl rfl)
theorem dX0_spring_22 : decode cX0_spring 22 = .ok (.iload_n 1, 1) := dk_27 (dk_at dksX0_spring_0 22 rfl rfl)
theorem dX0_spring_23 : decode cX0_spring 23 = .ok (.iload_n 2, 1) := dk_28 (dk_at dksX0_spring_0 23 rfl rfl)
theorem dX0_spring_24 : decode cX0_spring 24 = .ok (.i2b, 1) := dk_145 (dk_at dksX0_spring_1 0 rfl rfl)
theorem dX0_spring_25 : decode cX0_spring 25 = .ok (.bastore, 1) := dk_84 (dk_at dksX0_spring_1 1 rfl rfl)
theorem dX0_spring_26 : decode cX0_spring 26 = .ok (.iload_n 3, 1) := dk_29 (dk_at dksX0_spring_1 2 rfl rfl)
theorem dX0_spring_27 : decode cX0_spring 27 = .ok (.ireturn, 1) := dk_172 (dk_at dksX0_spring_1 3 rfl rfl)
theorem dX0_spring_28 : decode cX0_spring 28 = .ok (.astore_n 3, 1) := dk_78 (dk_at dksX0_spring_1 4 rfl rfl)
theorem dX0_spring_29 : decode cX0_spring 29 = .ok (.aload_n 0, 1) := dk_42 (dk_at dksX0_spring_1 5 rfl rfl)
theorem dX0_spring_30 : decode cX0_spring 30 = .ok (.iconst 2, 1) := dk_5 (dk_at dksX0_spring_1 6 rfl rfl)
theorem dX0_spring_31 : decode cX0_spring 31 = .ok (.invokevirtual 139, 3) := dk_182 0 139 (dk_at dksX0_spring_1 7 rfl rfl)
theorem dX0_spring_34 : decode cX0_spring 34 = .ok (.ireturn, 1) := dk_172 (dk_at dksX0_spring_1 10 rfl rfl)
abbrev cX0_jay : ByteArray := prog_1_method_49_code
def yX0_jay : MethodName := ⟨RX0, "jay", "(II)I"⟩
def dkwX0_jay_1 : List UInt8 := [181, 1, 11, 42, 28, 181, 1, 14, 4, 172]
abbrev dktX0_jay_1 : List UInt8 := dkwX0_jay_1 ++ []
def dkwX0_jay_0 : List UInt8 := [27, 3, 16, 99, 184, 0, 129, 153, 0, 13, 28, 3, 16, 12, 184, 0, 129, 154, 0, 5, 2, 172, 42, 27]
abbrev dktX0_jay_0 : List UInt8 := dkwX0_jay_0 ++ dktX0_jay_1
theorem dksX0_jay_0 : cX0_jay.data.toList.drop 0 = dktX0_jay_0 := by decide +kernel
theorem dksX0_jay_1 : cX0_jay.data.toList.drop 24 = dktX0_jay_1 := dk_seg dksX0_jay_0 24 rfl rfl
theorem dX0_jay_0 : decode cX0_jay 0 = .ok (.iload_n 1, 1) := dk_27 (dk_at dksX0_jay_0 0 rfl rfl)
theorem dX0_jay_1 : decode cX0_jay 1 = .ok (.iconst 0, 1) := dk_3 (dk_at dksX0_jay_0 1 rfl rfl)
theorem dX0_jay_2 : decode cX0_jay 2 = .ok (.bipush 99, 2) := dk_16 99 (dk_at dksX0_jay_0 2 rfl rfl)
theorem dX0_jay_4 : decode cX0_jay 4 = .ok (.invokestatic 129, 3) := dk_184 0 129 (dk_at dksX0_jay_0 4 rfl rfl)
theorem dX0_jay_7 : decode cX0_jay 7 = .ok (.ifCond .eq 13, 3) := dk_153 0 13 (dk_at dksX0_jay_0 7 rfl rfl)
theorem dX0_jay_10 : decode cX0_jay 10 = .ok (.iload_n 2, 1) := dk_28 (dk_at dksX0_jay_0 10 rfl rfl)
theorem dX0_jay_11 : decode cX0_jay 11 = .ok (.iconst 0, 1) := dk_3 (dk_at dksX0_jay_0 11 rfl rfl)
theorem dX0_jay_12 : decode cX0_jay 12 = .ok (.bipush 12, 2) := dk_16 12 (dk_at dksX0_jay_0 12 rfl rfl)
theorem dX0_jay_14 : decode cX0_jay 14 = .ok (.invokestatic 129, 3) := dk_184 0 129 (dk_at dksX0_jay_0 14 rfl rfl)
theorem dX0_jay_17 : decode cX0_jay 17 = .ok (.ifCond .ne 5, 3) := dk_154 0 5 (dk_at dksX0_jay_0 17 rfl rfl)
theorem dX0_jay_20 : decode cX0_jay 20 = .ok (.iconst (-1), 1) := dk_2 (dk_at dksX0_jay_0 20 rfl rfl)
theorem dX0_jay_21 : decode cX0_jay 21 = .ok (.ireturn, 1) := dk_172 (dk_at dksX0_jay_0 21 rfl rfl)
theorem dX0_jay_22 : decode cX0_jay 22 = .ok (.aload_n 0, 1) := dk_42 (dk_at dksX0_jay_0 22 rfl rfl)
theorem dX0_jay_23 : decode cX0_jay 23 = .ok (.iload_n 1, 1) := dk_27 (dk_at dksX0_jay_0 23 rfl rfl)
theorem dX0_jay_24 : decode cX0_jay 24 = .ok (.putfield 267, 3) := dk_181 1 11 (dk_at dksX0_jay_1 0 rfl rfl)
theorem dX0_jay_27 : decode cX0_jay 27 = .ok (.aload_n 0, 1) := dk_42 (dk_at dksX0_jay_1 3 rfl rfl)
theorem dX0_jay_28 : decode cX0_jay 28 = .ok (.iload_n 2, 1) := dk_28 (dk_at dksX0_jay_1 4 rfl rfl)
theorem dX0_jay_29 : decode cX0_jay 29 = .ok (.putfield 270, 3) := dk_181 1 14 (dk_at dksX0_jay_1 5 rfl rfl)
theorem dX0_jay_32 : decode cX0_jay 32 = .ok (.iconst 1, 1) := dk_4 (dk_at dksX0_jay_1 8 rfl rfl)
theorem dX0_jay_33 : decode cX0_jay 33 = .ok (.ireturn, 1) := dk_172 (dk_at dksX0_jay_1 9 rfl rfl)
abbrev cX0_mice : ByteArray := prog_1_method_50_code
def yX0_mice : MethodName := ⟨RX0, "mice", "(II)I"⟩
def dkwX0_mice_1 : List UInt8 := [180, 0, 86, 180, 1, 26, 27, 46, 62, 42, 180, 0, 86, 180, 1, 26, 27, 28, 79, 29, 172]
abbrev dktX0_mice_1 : List UInt8 := dkwX0_mice_1 ++ []
def dkwX0_mice_0 : List UInt8 := [42, 27, 182, 1, 80, 153, 0, 14, 28, 3, 17, 0, 200, 184, 0, 129, 154, 0, 5, 2, 172, 42]
abbrev dktX0_mice_0 : List UInt8 := dkwX0_mice_0 ++ dktX0_mice_1
theorem dksX0_mice_0 : cX0_mice.data.toList.drop 0 = dktX0_mice_0 := by decide +kernel
theorem dksX0_mice_1 : cX0_mice.data.toList.drop 22 = dktX0_mice_1 := dk_seg dksX0_mice_0 22 rfl rfl
theorem dX0_mice_0 : decode cX0_mice 0 = .ok (.aload_n 0, 1) := dk_42 (dk_at dksX0_mice_0 0 rfl rfl)
theorem dX0_mice_1 : decode cX0_mice 1 = .ok (.iload_n 1, 1) := dk_27 (dk_at dksX0_mice_0 1 rfl rfl)
theorem dX0_mice_2 : decode cX0_mice 2 = .ok (.invokevirtual 336, 3) := dk_182 1 80 (dk_at dksX0_mice_0 2 rfl rfl)
theorem dX0_mice_5 : decode cX0_mice 5 = .ok (.ifCond .eq 14, 3) := dk_153 0 14 (dk_at dksX0_mice_0 5 rfl rfl)
theorem dX0_mice_8 : decode cX0_mice 8 = .ok (.iload_n 2, 1) := dk_28 (dk_at dksX0_mice_0 8 rfl rfl)
theorem dX0_mice_9 : decode cX0_mice 9 = .ok (.iconst 0, 1) := dk_3 (dk_at dksX0_mice_0 9 rfl rfl)
theorem dX0_mice_10 : decode cX0_mice 10 = .ok (.sipush 200, 3) := dk_17 0 200 (dk_at dksX0_mice_0 10 rfl rfl)
theorem dX0_mice_13 : decode cX0_mice 13 = .ok (.invokestatic 129, 3) := dk_184 0 129 (dk_at dksX0_mice_0 13 rfl rfl)
theorem dX0_mice_16 : decode cX0_mice 16 = .ok (.ifCond .ne 5, 3) := dk_154 0 5 (dk_at dksX0_mice_0 16 rfl rfl)
theorem dX0_mice_19 : decode cX0_mice 19 = .ok (.iconst (-1), 1) := dk_2 (dk_at dksX0_mice_0 19 rfl rfl)
theorem dX0_mice_20 : decode cX0_mice 20 = .ok (.ireturn, 1) := dk_172 (dk_at dksX0_mice_0 20 rfl rfl)
theorem dX0_mice_21 : decode cX0_mice 21 = .ok (.aload_n 0, 1) := dk_42 (dk_at dksX0_mice_0 21 rfl rfl)
theorem dX0_mice_22 : decode cX0_mice 22 = .ok (.getfield 86, 3) := dk_180 0 86 (dk_at dksX0_mice_1 0 rfl rfl)
theorem dX0_mice_25 : decode cX0_mice 25 = .ok (.getfield 282, 3) := dk_180 1 26 (dk_at dksX0_mice_1 3 rfl rfl)
theorem dX0_mice_28 : decode cX0_mice 28 = .ok (.iload_n 1, 1) := dk_27 (dk_at dksX0_mice_1 6 rfl rfl)
theorem dX0_mice_29 : decode cX0_mice 29 = .ok (.iaload, 1) := dk_46 (dk_at dksX0_mice_1 7 rfl rfl)
theorem dX0_mice_30 : decode cX0_mice 30 = .ok (.istore_n 3, 1) := dk_62 (dk_at dksX0_mice_1 8 rfl rfl)
theorem dX0_mice_31 : decode cX0_mice 31 = .ok (.aload_n 0, 1) := dk_42 (dk_at dksX0_mice_1 9 rfl rfl)
theorem dX0_mice_32 : decode cX0_mice 32 = .ok (.getfield 86, 3) := dk_180 0 86 (dk_at dksX0_mice_1 10 rfl rfl)
theorem dX0_mice_35 : decode cX0_mice 35 = .ok (.getfield 282, 3) := dk_180 1 26 (dk_at dksX0_mice_1 13 rfl rfl)
theorem dX0_mice_38 : decode cX0_mice 38 = .ok (.iload_n 1, 1) := dk_27 (dk_at dksX0_mice_1 16 rfl rfl)
theorem dX0_mice_39 : decode cX0_mice 39 = .ok (.iload_n 2, 1) := dk_28 (dk_at dksX0_mice_1 17 rfl rfl)
theorem dX0_mice_40 : decode cX0_mice 40 = .ok (.iastore, 1) := dk_79 (dk_at dksX0_mice_1 18 rfl rfl)
theorem dX0_mice_41 : decode cX0_mice 41 = .ok (.iload_n 3, 1) := dk_29 (dk_at dksX0_mice_1 19 rfl rfl)
theorem dX0_mice_42 : decode cX0_mice 42 = .ok (.ireturn, 1) := dk_172 (dk_at dksX0_mice_1 20 rfl rfl)
abbrev cX0_next : ByteArray := prog_1_method_61_code
def yX0_next : MethodName := ⟨RX0, "next", "(I)I"⟩
def dkwX0_next_2 : List UInt8 := [182, 0, 147, 172]
abbrev dktX0_next_2 : List UInt8 := dkwX0_next_2 ++ []
def dkwX0_next_1 : List UInt8 := [16, 252, 172, 42, 27, 182, 1, 150, 42, 42, 180, 0, 86, 180, 1, 143, 42, 180, 0, 86, 180, 1, 118]
abbrev dktX0_next_1 : List UInt8 := dkwX0_next_1 ++ dktX0_next_2
def dkwX0_next_0 : List UInt8 := [27, 3, 5, 184, 0, 129, 154, 0, 5, 2, 172, 42, 180, 0, 86, 180, 1, 23, 17, 39, 15, 160, 0, 6]
abbrev dktX0_next_0 : List UInt8 := dkwX0_next_0 ++ dktX0_next_1
theorem dksX0_next_0 : cX0_next.data.toList.drop 0 = dktX0_next_0 := by decide +kernel
theorem dksX0_next_1 : cX0_next.data.toList.drop 24 = dktX0_next_1 := dk_seg dksX0_next_0 24 rfl rfl
theorem dksX0_next_2 : cX0_next.data.toList.drop 47 = dktX0_next_2 := dk_seg dksX0_next_1 23 rfl rfl
theorem dX0_next_0 : decode cX0_next 0 = .ok (.iload_n 1, 1) := dk_27 (dk_at dksX0_next_0 0 rfl rfl)
theorem dX0_next_1 : decode cX0_next 1 = .ok (.iconst 0, 1) := dk_3 (dk_at dksX0_next_0 1 rfl rfl)
theorem dX0_next_2 : decode cX0_next 2 = .ok (.iconst 2, 1) := dk_5 (dk_at dksX0_next_0 2 rfl rfl)
theorem dX0_next_3 : decode cX0_next 3 = .ok (.invokestatic 129, 3) := dk_184 0 129 (dk_at dksX0_next_0 3 rfl rfl)
theorem dX0_next_6 : decode cX0_next 6 = .ok (.ifCond .ne 5, 3) := dk_154 0 5 (dk_at dksX0_next_0 6 rfl rfl)
theorem dX0_next_9 : decode cX0_next 9 = .ok (.iconst (-1), 1) := dk_2 (dk_at dksX0_next_0 9 rfl rfl)
theorem dX0_next_10 : decode cX0_next 10 = .ok (.ireturn, 1) := dk_172 (dk_at dksX0_next_0 10 rfl rfl)
theorem dX0_next_11 : decode cX0_next 11 = .ok (.aload_n 0, 1) := dk_42 (dk_at dksX0_next_0 11 rfl rfl)
theorem dX0_next_12 : decode cX0_next 12 = .ok (.getfield 86, 3) := dk_180 0 86 (dk_at dksX0_next_0 12 rfl rfl)
theorem dX0_next_15 : decode cX0_next 15 = .ok (.getfield 279, 3) := dk_180 1 23 (dk_at dksX0_next_0 15 rfl rfl)
theorem dX0_next_18 : decode cX0_next 18 = .ok (.sipush 9999, 3) := dk_17 39 15 (dk_at dksX0_next_0 18 rfl rfl)
theorem dX0_next_21 : decode cX0_next 21 = .ok (.if_icmp .ne 6, 3) := dk_160 0 6 (dk_at dksX0_next_0 21 rfl rfl)
theorem dX0_next_24 : decode cX0_next 24 = .ok (.bipush (-4), 2) := dk_16 252 (dk_at dksX0_next_1 0 rfl rfl)
theorem dX0_next_26 : decode cX0_next 26 = .ok (.ireturn, 1) := dk_172 (dk_at dksX0_next_1 2 rfl rfl)
theorem dX0_next_27 : decode cX0_next 27 = .ok (.aload_n 0, 1) := dk_42 (dk_at dksX0_next_1 3 rfl rfl)
theorem dX0_next_28 : decode cX0_next 28 = .ok (.iload_n 1, 1) := dk_27 (dk_at dksX0_next_1 4 rfl rfl)
theorem dX0_next_29 : decode cX0_next 29 = .ok (.invokevirtual 406, 3) := dk_182 1 150 (dk_at dksX0_next_1 5 rfl rfl)
theorem dX0_next_32 : decode cX0_next 32 = .ok (.aload_n 0, 1) := dk_42 (dk_at dksX0_next_1 8 rfl rfl)
theorem dX0_next_33 : decode cX0_next 33 = .ok (.aload_n 0, 1) := dk_42 (dk_at dksX0_next_1 9 rfl rfl)
theorem dX0_next_34 : decode cX0_next 34 = .ok (.getfield 86, 3) := dk_180 0 86 (dk_at dksX0_next_1 10 rfl rfl)
theorem dX0_next_37 : decode cX0_next 37 = .ok (.getfield 399, 3) := dk_180 1 143 (dk_at dksX0_next_1 13 rfl rfl)
theorem dX0_next_40 : decode cX0_next 40 = .ok (.aload_n 0, 1) := dk_42 (dk_at dksX0_next_1 16 rfl rfl)
theorem dX0_next_41 : decode cX0_next 41 = .ok (.getfield 86, 3) := dk_180 0 86 (dk_at dksX0_next_1 17 rfl rfl)
theorem dX0_next_44 : decode cX0_next 44 = .ok (.getfield 374, 3) := dk_180 1 118 (dk_at dksX0_next_1 20 rfl rfl)
theorem dX0_next_47 : decode cX0_next 47 = .ok (.invokevirtual 147, 3) := dk_182 0 147 (dk_at dksX0_next_2 0 rfl rfl)
theorem dX0_next_50 : decode cX0_next 50 = .ok (.ireturn, 1) := dk_172 (dk_at dksX0_next_2 3 rfl rfl)
abbrev cX0_passHere : ByteArray := prog_1_method_60_code
def yX0_passHere : MethodName := ⟨RX0, "passHere", "(I)V"⟩
def dkwX0_passHere_2 : List UInt8 := [180, 0, 79, 28, 50, 42, 180, 0, 86, 180, 1, 23, 181, 1, 71, 132, 2, 1, 167, 255, 202, 177]
abbrev dktX0_passHere_2 : List UInt8 := dkwX0_passHere_2 ++ []
def dkwX0_passHere_1 : List UInt8 := [180, 1, 96, 28, 51, 153, 0, 34, 42, 180, 0, 79, 28, 50, 89, 180, 1, 68, 4, 96, 181, 1, 68, 42]
abbrev dktX0_passHere_1 : List UInt8 := dkwX0_passHere_1 ++ dktX0_passHere_2
def dkwX0_passHere_0 : List UInt8 := [42, 42, 180, 0, 86, 27, 3, 182, 1, 146, 3, 61, 28, 42, 180, 1, 20, 162, 0, 52, 42, 180, 0, 86]
abbrev dktX0_passHere_0 : List UInt8 := dkwX0_passHere_0 ++ dktX0_passHere_1
theorem dksX0_passHere_0 : cX0_passHere.data.toList.drop 0 = dktX0_passHere_0 := by decide +kernel
theorem dksX0_passHere_1 : cX0_passHere.data.toList.drop 24 = dktX0_passHere_1 := dk_seg dksX0_passHere_0 24 rfl rfl
theorem dksX0_passHere_2 : cX0_passHere.data.toList.drop 48 = dktX0_passHere_2 := dk_seg dksX0_passHere_1 24 rfl rfl
theorem dX0_passHere_0 : decode cX0_passHere 0 = .ok (.aload_n 0, 1) := dk_42 (dk_at dksX0_passHere_0 0 rfl rfl)
theorem dX0_passHere_1 : decode cX0_passHere 1 = .ok (.aload_n 0, 1) := dk_42 (dk_at dksX0_passHere_0 1 rfl rfl)
theorem dX0_passHere_2 : decode cX0_passHere 2 = .ok (.getfield 86, 3) := dk_180 0 86 (dk_at dksX0_passHere_0 2 rfl rfl)
theorem dX0_passHere_5 : decode cX0_passHere 5 = .ok (.iload_n 1, 1) := dk_27 (dk_at dksX0_passHere_0 5 rfl rfl)
theorem dX0_passHere_6 : decode cX0_passHere 6 = .ok (.iconst 0, 1) := dk_3 (dk_at dksX0_passHere_0 6 rfl rfl)
theorem dX0_passHere_7 : decode cX0_passHere 7 = .ok (.invokevirtual 402, 3) := dk_182 1 146 (dk_at dksX0_passHere_0 7 rfl rfl)
theorem dX0_passHere_10 : decode cX0_passHere 10 = .ok (.iconst 0, 1) := dk_3 (dk_at dksX0_passHere_0 10 rfl rfl)
theorem dX0_passHere_11 : decode cX0_passHere 11 = .ok (.istore_n 2, 1) := dk_61 (dk_at dksX0_passHere_0 11 rfl rfl)
theorem dX0_passHere_12 : decode cX0_passHere 12 = .ok (.iload_n 2, 1) := dk_28 (dk_at dksX0_passHere_0 12 rfl rfl)
theorem dX0_passHere_13 : decode cX0_passHere 13 = .ok (.aload_n 0, 1) := dk_42 (dk_at dksX0_passHere_0 13 rfl rfl)
theorem dX0_passHere_14 : decode cX0_passHere 14 = .ok (.getfield 276, 3) := dk_180 1 20 (dk_at dksX0_passHere_0 14 rfl rfl)
theorem dX0_passHere_17 : decode cX0_passHere 17 = .ok (.if_icmp .ge 52, 3) := dk_162 0 52 (dk_at dksX0_passHere_0 17 rfl rfl)
theorem dX0_passHere_20 : decode cX0_passHere 20 = .ok (.aload_n 0, 1) := dk_42 (dk_at dksX0_passHere_0 20 rfl rfl)
theorem dX0_passHere_21 : decode cX0_passHere 21 = .ok (.getfield 86, 3) := dk_180 0 86 (dk_at dksX0_passHere_0 21 rfl rfl)
theorem dX0_passHere_24 : decode cX0_passHere 24 = .ok (.getfield 352, 3) := dk_180 1 96 (dk_at dksX0_passHere_1 0 rfl rfl)
theorem dX0_passHere_27 : decode cX0_passHere 27 = .ok (.iload_n 2, 1) := dk_28 (dk_at dksX0_passHere_1 3 rfl rfl)
theorem dX0_passHere_28 : decode cX0_passHere 28 = .ok (.baload, 1) := dk_51 (dk_at dksX0_passHere_1 4 rfl rfl)
theorem dX0_passHere_29 : decode cX0_passHere 29 = .ok (.ifCond .eq 34, 3) := dk_153 0 34 (dk_at dksX0_passHere_1 5 rfl rfl)
theorem dX0_passHere_32 : decode cX0_passHere 32 = .ok (.aload_n 0, 1) := dk_42 (dk_at dksX0_passHere_1 8 rfl rfl)
theorem dX0_passHere_33 : decode cX0_passHere 33 = .ok (.getfield 79, 3) := dk_180 0 79 (dk_at dksX0_passHere_1 9 rfl rfl)
theorem dX0_passHere_36 : decode cX0_passHere 36 = .ok (.iload_n 2, 1) := dk_28 (dk_at dksX0_passHere_1 12 rfl rfl)
theorem dX0_passHere_37 : decode cX0_passHere 37 = .ok (.aaload, 1) := dk_50 (dk_at dksX0_passHere_1 13 rfl rfl)
theorem dX0_passHere_38 : decode cX0_passHere 38 = .ok (.dup, 1) := dk_89 (dk_at dksX0_passHere_1 14 rfl rfl)
theorem dX0_passHere_39 : decode cX0_passHere 39 = .ok (.getfield 324, 3) := dk_180 1 68 (dk_at dksX0_passHere_1 15 rfl rfl)
theorem dX0_passHere_42 : decode cX0_passHere 42 = .ok (.iconst 1, 1) := dk_4 (dk_at dksX0_passHere_1 18 rfl rfl)
theorem dX0_passHere_43 : decode cX0_passHere 43 = .ok (.iadd, 1) := dk_96 (dk_at dksX0_passHere_1 19 rfl rfl)
theorem dX0_passHere_44 : decode cX0_passHere 44 = .ok (.putfield 324, 3) := dk_181 1 68 (dk_at dksX0_passHere_1 20 rfl rfl)
theorem dX0_passHere_47 : decode cX0_passHere 47 = .ok (.aload_n 0, 1) := dk_42 (dk_at dksX0_passHere_1 23 rfl rfl)
theorem dX0_passHere_48 : decode cX0_passHere 48 = .ok (.getfield 79, 3) := dk_180 0 79 (dk_at dksX0_passHere_2 0 rfl rfl)
theorem dX0_passHere_51 : decode cX0_passHere 51 = .ok (.iload_n 2, 1) := dk_28 (dk_at dksX0_passHere_2 3 rfl rfl)
theorem dX0_passHere_52 : decode cX0_passHere 52 = .ok (.aaload, 1) := dk_50 (dk_at dksX0_passHere_2 4 rfl rfl)
theorem dX0_passHere_53 : decode cX0_passHere 53 = .ok (.aload_n 0, 1) := dk_42 (dk_at dksX0_passHere_2 5 rfl rfl)
theorem dX0_passHere_54 : decode cX0_passHere 54 = .ok (.getfield 86, 3) := dk_180 0 86 (dk_at dksX0_passHere_2 6 rfl rfl)
theorem dX0_passHere_57 : decode cX0_passHere 57 = .ok (.getfield 279, 3) := dk_180 1 23 (dk_at dksX0_passHere_2 9 rfl rfl)
theorem dX0_passHere_60 : decode cX0_passHere 60 = .ok (.putfield 327, 3) := dk_181 1 71 (dk_at dksX0_passHere_2 12 rfl rfl)
theorem dX0_passHere_63 : decode cX0_passHere 63 = .ok (.iinc 2 1, 3) := dk_132 2 1 (dk_at dksX0_passHere_2 15 rfl rfl)
theorem dX0_passHere_66 : decode cX0_passHere 66 = .ok (.goto (-54), 3) := dk_167 255 202 (dk_at dksX0_passHere_2 18 rfl rfl)
theorem dX0_passHere_69 : decode cX0_passHere 69 = .ok (.return_, 1) := dk_177 (dk_at dksX0_passHere_2 21 rfl rfl)
abbrev cX0_pass : ByteArray := prog_1_method_58_code
def yX0_pass : MethodName := ⟨RX0, "pass", "(LAcornYears$Wood;IZ)V"⟩
def dkwX0_pass_3 : List UInt8 := [21, 6, 96, 181, 1, 143, 177]
abbrev dktX0_pass_3 : List UInt8 := dkwX0_pass_3 ++ []
def dkwX0_pass_2 : List UInt8 := [21, 5, 42, 180, 1, 14, 104, 16, 12, 108, 54, 6, 43, 42, 43, 21, 4, 21, 5, 100, 182, 1, 139]
abbrev dktX0_pass_2 : List UInt8 := dkwX0_pass_2 ++ dktX0_pass_3
def dkwX0_pass_1 : List UInt8 := [153, 0, 7, 3, 167, 0, 7, 43, 180, 1, 118, 54, 4, 42, 180, 1, 11, 21, 4, 184, 0, 207, 54, 5]
abbrev dktX0_pass_1 : List UInt8 := dkwX0_pass_1 ++ dktX0_pass_2
def dkwX0_pass_0 : List UInt8 := [43, 89, 180, 1, 23, 4, 96, 181, 1, 23, 42, 43, 28, 182, 1, 132, 42, 43, 28, 182, 1, 136, 29]
abbrev dktX0_pass_0 : List UInt8 := dkwX0_pass_0 ++ dktX0_pass_1
theorem dksX0_pass_0 : cX0_pass.data.toList.drop 0 = dktX0_pass_0 := by decide +kernel
theorem dksX0_pass_1 : cX0_pass.data.toList.drop 23 = dktX0_pass_1 := dk_seg dksX0_pass_0 23 rfl rfl
theorem dksX0_pass_2 : cX0_pass.data.toList.drop 47 = dktX0_pass_2 := dk_seg dksX0_pass_1 24 rfl rfl
theorem dksX0_pass_3 : cX0_pass.data.toList.drop 70 = dktX0_pass_3 := dk_seg dksX0_pass_2 23 rfl rfl
theorem dX0_pass_0 : decode cX0_pass 0 = .ok (.aload_n 1, 1) := dk_43 (dk_at dksX0_pass_0 0 rfl rfl)
theorem dX0_pass_1 : decode cX0_pass 1 = .ok (.dup, 1) := dk_89 (dk_at dksX0_pass_0 1 rfl rfl)
theorem dX0_pass_2 : decode cX0_pass 2 = .ok (.getfield 279, 3) := dk_180 1 23 (dk_at dksX0_pass_0 2 rfl rfl)
theorem dX0_pass_5 : decode cX0_pass 5 = .ok (.iconst 1, 1) := dk_4 (dk_at dksX0_pass_0 5 rfl rfl)
theorem dX0_pass_6 : decode cX0_pass 6 = .ok (.iadd, 1) := dk_96 (dk_at dksX0_pass_0 6 rfl rfl)
theorem dX0_pass_7 : decode cX0_pass 7 = .ok (.putfield 279, 3) := dk_181 1 23 (dk_at dksX0_pass_0 7 rfl rfl)
theorem dX0_pass_10 : decode cX0_pass 10 = .ok (.aload_n 0, 1) := dk_42 (dk_at dksX0_pass_0 10 rfl rfl)
theorem dX0_pass_11 : decode cX0_pass 11 = .ok (.aload_n 1, 1) := dk_43 (dk_at dksX0_pass_0 11 rfl rfl)
theorem dX0_pass_12 : decode cX0_pass 12 = .ok (.iload_n 2, 1) := dk_28 (dk_at dksX0_pass_0 12 rfl rfl)
theorem dX0_pass_13 : decode cX0_pass 13 = .ok (.invokevirtual 388, 3) := dk_182 1 132 (dk_at dksX0_pass_0 13 rfl rfl)
theorem dX0_pass_16 : decode cX0_pass 16 = .ok (.aload_n 0, 1) := dk_42 (dk_at dksX0_pass_0 16 rfl rfl)
theorem dX0_pass_17 : decode cX0_pass 17 = .ok (.aload_n 1, 1) := dk_43 (dk_at dksX0_pass_0 17 rfl rfl)
theorem dX0_pass_18 : decode cX0_pass 18 = .ok (.iload_n 2, 1) := dk_28 (dk_at dksX0_pass_0 18 rfl rfl)
theorem dX0_pass_19 : decode cX0_pass 19 = .ok (.invokevirtual 392, 3) := dk_182 1 136 (dk_at dksX0_pass_0 19 rfl rfl)
theorem dX0_pass_22 : decode cX0_pass 22 = .ok (.iload_n 3, 1) := dk_29 (dk_at dksX0_pass_0 22 rfl rfl)
theorem dX0_pass_23 : decode cX0_pass 23 = .ok (.ifCond .eq 7, 3) := dk_153 0 7 (dk_at dksX0_pass_1 0 rfl rfl)
theorem dX0_pass_26 : decode cX0_pass 26 = .ok (.iconst 0, 1) := dk_3 (dk_at dksX0_pass_1 3 rfl rfl)
theorem dX0_pass_27 : decode cX0_pass 27 = .ok (.goto 7, 3) := dk_167 0 7 (dk_at dksX0_pass_1 4 rfl rfl)
theorem dX0_pass_30 : decode cX0_pass 30 = .ok (.aload_n 1, 1) := dk_43 (dk_at dksX0_pass_1 7 rfl rfl)
theorem dX0_pass_31 : decode cX0_pass 31 = .ok (.getfield 374, 3) := dk_180 1 118 (dk_at dksX0_pass_1 8 rfl rfl)
theorem dX0_pass_34 : decode cX0_pass 34 = .ok (.istore 4, 2) := dk_54 4 (dk_at dksX0_pass_1 11 rfl rfl)
theorem dX0_pass_36 : decode cX0_pass 36 = .ok (.aload_n 0, 1) := dk_42 (dk_at dksX0_pass_1 13 rfl rfl)
theorem dX0_pass_37 : decode cX0_pass 37 = .ok (.getfield 267, 3) := dk_180 1 11 (dk_at dksX0_pass_1 14 rfl rfl)
theorem dX0_pass_40 : decode cX0_pass 40 = .ok (.iload 4, 2) := dk_21 4 (dk_at dksX0_pass_1 17 rfl rfl)
theorem dX0_pass_42 : decode cX0_pass 42 = .ok (.invokestatic 207, 3) := dk_184 0 207 (dk_at dksX0_pass_1 19 rfl rfl)
theorem dX0_pass_45 : decode cX0_pass 45 = .ok (.istore 5, 2) := dk_54 5 (dk_at dksX0_pass_1 22 rfl rfl)
theorem dX0_pass_47 : decode cX0_pass 47 = .ok (.iload 5, 2) := dk_21 5 (dk_at dksX0_pass_2 0 rfl rfl)
theorem dX0_pass_49 : decode cX0_pass 49 = .ok (.aload_n 0, 1) := dk_42 (dk_at dksX0_pass_2 2 rfl rfl)
theorem dX0_pass_50 : decode cX0_pass 50 = .ok (.getfield 270, 3) := dk_180 1 14 (dk_at dksX0_pass_2 3 rfl rfl)
theorem dX0_pass_53 : decode cX0_pass 53 = .ok (.imul, 1) := dk_104 (dk_at dksX0_pass_2 6 rfl rfl)
theorem dX0_pass_54 : decode cX0_pass 54 = .ok (.bipush 12, 2) := dk_16 12 (dk_at dksX0_pass_2 7 rfl rfl)
theorem dX0_pass_56 : decode cX0_pass 56 = .ok (.idiv, 1) := dk_108 (dk_at dksX0_pass_2 9 rfl rfl)
theorem dX0_pass_57 : decode cX0_pass 57 = .ok (.istore 6, 2) := dk_54 6 (dk_at dksX0_pass_2 10 rfl rfl)
theorem dX0_pass_59 : decode cX0_pass 59 = .ok (.aload_n 1, 1) := dk_43 (dk_at dksX0_pass_2 12 rfl rfl)
theorem dX0_pass_60 : decode cX0_pass 60 = .ok (.aload_n 0, 1) := dk_42 (dk_at dksX0_pass_2 13 rfl rfl)
theorem dX0_pass_61 : decode cX0_pass 61 = .ok (.aload_n 1, 1) := dk_43 (dk_at dksX0_pass_2 14 rfl rfl)
theorem dX0_pass_62 : decode cX0_pass 62 = .ok (.iload 4, 2) := dk_21 4 (dk_at dksX0_pass_2 15 rfl rfl)
theorem dX0_pass_64 : decode cX0_pass 64 = .ok (.iload 5, 2) := dk_21 5 (dk_at dksX0_pass_2 17 rfl rfl)
theorem dX0_pass_66 : decode cX0_pass 66 = .ok (.isub, 1) := dk_100 (dk_at dksX0_pass_2 19 rfl rfl)
theorem dX0_pass_67 : decode cX0_pass 67 = .ok (.invokevirtual 395, 3) := dk_182 1 139 (dk_at dksX0_pass_2 20 rfl rfl)
theorem dX0_pass_70 : decode cX0_pass 70 = .ok (.iload 6, 2) := dk_21 6 (dk_at dksX0_pass_3 0 rfl rfl)
theorem dX0_pass_72 : decode cX0_pass 72 = .ok (.iadd, 1) := dk_96 (dk_at dksX0_pass_3 2 rfl rfl)
theorem dX0_pass_73 : decode cX0_pass 73 = .ok (.putfield 399, 3) := dk_181 1 143 (dk_at dksX0_pass_3 3 rfl rfl)
theorem dX0_pass_76 : decode cX0_pass 76 = .ok (.return_, 1) := dk_177 (dk_at dksX0_pass_3 6 rfl rfl)
abbrev cX0_grow : ByteArray := prog_1_method_54_code
def yX0_grow : MethodName := ⟨RX0, "grow", "(LAcornYears$Wood;I)V"⟩
def dkwX0_grow_3 : List UInt8 := [43, 180, 1, 23, 182, 1, 106, 84, 132, 3, 1, 167, 255, 175, 177]
abbrev dktX0_grow_3 : List UInt8 := dkwX0_grow_3 ++ []
def dkwX0_grow_2 : List UInt8 := [167, 0, 9, 43, 180, 1, 32, 29, 46, 79, 43, 180, 1, 96, 29, 25, 4, 43, 180, 1, 32, 29, 46, 28]
abbrev dktX0_grow_2 : List UInt8 := dkwX0_grow_2 ++ dktX0_grow_3
def dkwX0_grow_1 : List UInt8 := [182, 1, 104, 153, 0, 24, 16, 60, 43, 180, 1, 32, 29, 46, 25, 4, 28, 182, 1, 41, 96, 184, 0, 207]
abbrev dktX0_grow_1 : List UInt8 := dkwX0_grow_1 ++ dktX0_grow_2
def dkwX0_grow_0 : List UInt8 := [3, 62, 29, 42, 180, 1, 20, 162, 0, 79, 42, 29, 182, 1, 100, 58, 4, 43, 180, 1, 32, 29, 25, 4]
abbrev dktX0_grow_0 : List UInt8 := dkwX0_grow_0 ++ dktX0_grow_1
theorem dksX0_grow_0 : cX0_grow.data.toList.drop 0 = dktX0_grow_0 := by decide +kernel
theorem dksX0_grow_1 : cX0_grow.data.toList.drop 24 = dktX0_grow_1 := dk_seg dksX0_grow_0 24 rfl rfl
theorem dksX0_grow_2 : cX0_grow.data.toList.drop 48 = dktX0_grow_2 := dk_seg dksX0_grow_1 24 rfl rfl
theorem dksX0_grow_3 : cX0_grow.data.toList.drop 72 = dktX0_grow_3 := dk_seg dksX0_grow_2 24 rfl rfl
theorem dX0_grow_0 : decode cX0_grow 0 = .ok (.iconst 0, 1) := dk_3 (dk_at dksX0_grow_0 0 rfl rfl)
theorem dX0_grow_1 : decode cX0_grow 1 = .ok (.istore_n 3, 1) := dk_62 (dk_at dksX0_grow_0 1 rfl rfl)
theorem dX0_grow_2 : decode cX0_grow 2 = .ok (.iload_n 3, 1) := dk_29 (dk_at dksX0_grow_0 2 rfl rfl)
theorem dX0_grow_3 : decode cX0_grow 3 = .ok (.aload_n 0, 1) := dk_42 (dk_at dksX0_grow_0 3 rfl rfl)
theorem dX0_grow_4 : decode cX0_grow 4 = .ok (.getfield 276, 3) := dk_180 1 20 (dk_at dksX0_grow_0 4 rfl rfl)
theorem dX0_grow_7 : decode cX0_grow 7 = .ok (.if_icmp .ge 79, 3) := dk_162 0 79 (dk_at dksX0_grow_0 7 rfl rfl)
theorem dX0_grow_10 : decode cX0_grow 10 = .ok (.aload_n 0, 1) := dk_42 (dk_at dksX0_grow_0 10 rfl rfl)
theorem dX0_grow_11 : decode cX0_grow 11 = .ok (.iload_n 3, 1) := dk_29 (dk_at dksX0_grow_0 11 rfl rfl)
theorem dX0_grow_12 : decode cX0_grow 12 = .ok (.invokevirtual 356, 3) := dk_182 1 100 (dk_at dksX0_grow_0 12 rfl rfl)
theorem dX0_grow_15 : decode cX0_grow 15 = .ok (.astore 4, 2) := dk_58 4 (dk_at dksX0_grow_0 15 rfl rfl)
theorem dX0_grow_17 : decode cX0_grow 17 = .ok (.aload_n 1, 1) := dk_43 (dk_at dksX0_grow_0 17 rfl rfl)
theorem dX0_grow_18 : decode cX0_grow 18 = .ok (.getfield 288, 3) := dk_180 1 32 (dk_at dksX0_grow_0 18 rfl rfl)
theorem dX0_grow_21 : decode cX0_grow 21 = .ok (.iload_n 3, 1) := dk_29 (dk_at dksX0_grow_0 21 rfl rfl)
theorem dX0_grow_22 : decode cX0_grow 22 = .ok (.aload 4, 2) := dk_25 4 (dk_at dksX0_grow_0 22 rfl rfl)
theorem dX0_grow_24 : decode cX0_grow 24 = .ok (.invokevirtual 360, 3) := dk_182 1 104 (dk_at dksX0_grow_1 0 rfl rfl)
theorem dX0_grow_27 : decode cX0_grow 27 = .ok (.ifCond .eq 24, 3) := dk_153 0 24 (dk_at dksX0_grow_1 3 rfl rfl)
theorem dX0_grow_30 : decode cX0_grow 30 = .ok (.bipush 60, 2) := dk_16 60 (dk_at dksX0_grow_1 6 rfl rfl)
theorem dX0_grow_32 : decode cX0_grow 32 = .ok (.aload_n 1, 1) := dk_43 (dk_at dksX0_grow_1 8 rfl rfl)
theorem dX0_grow_33 : decode cX0_grow 33 = .ok (.getfield 288, 3) := dk_180 1 32 (dk_at dksX0_grow_1 9 rfl rfl)
theorem dX0_grow_36 : decode cX0_grow 36 = .ok (.iload_n 3, 1) := dk_29 (dk_at dksX0_grow_1 12 rfl rfl)
theorem dX0_grow_37 : decode cX0_grow 37 = .ok (.iaload, 1) := dk_46 (dk_at dksX0_grow_1 13 rfl rfl)
theorem dX0_grow_38 : decode cX0_grow 38 = .ok (.aload 4, 2) := dk_25 4 (dk_at dksX0_grow_1 14 rfl rfl)
theorem dX0_grow_40 : decode cX0_grow 40 = .ok (.iload_n 2, 1) := dk_28 (dk_at dksX0_grow_1 16 rfl rfl)
theorem dX0_grow_41 : decode cX0_grow 41 = .ok (.invokevirtual 297, 3) := dk_182 1 41 (dk_at dksX0_grow_1 17 rfl rfl)
theorem dX0_grow_44 : decode cX0_grow 44 = .ok (.iadd, 1) := dk_96 (dk_at dksX0_grow_1 20 rfl rfl)
theorem dX0_grow_45 : decode cX0_grow 45 = .ok (.invokestatic 207, 3) := dk_184 0 207 (dk_at dksX0_grow_1 21 rfl rfl)
theorem dX0_grow_48 : decode cX0_grow 48 = .ok (.goto 9, 3) := dk_167 0 9 (dk_at dksX0_grow_2 0 rfl rfl)
theorem dX0_grow_51 : decode cX0_grow 51 = .ok (.aload_n 1, 1) := dk_43 (dk_at dksX0_grow_2 3 rfl rfl)
theorem dX0_grow_52 : decode cX0_grow 52 = .ok (.getfield 288, 3) := dk_180 1 32 (dk_at dksX0_grow_2 4 rfl rfl)
theorem dX0_grow_55 : decode cX0_grow 55 = .ok (.iload_n 3, 1) := dk_29 (dk_at dksX0_grow_2 7 rfl rfl)
theorem dX0_grow_56 : decode cX0_grow 56 = .ok (.iaload, 1) := dk_46 (dk_at dksX0_grow_2 8 rfl rfl)
theorem dX0_grow_57 : decode cX0_grow 57 = .ok (.iastore, 1) := dk_79 (dk_at dksX0_grow_2 9 rfl rfl)
theorem dX0_grow_58 : decode cX0_grow 58 = .ok (.aload_n 1, 1) := dk_43 (dk_at dksX0_grow_2 10 rfl rfl)
theorem dX0_grow_59 : decode cX0_grow 59 = .ok (.getfield 352, 3) := dk_180 1 96 (dk_at dksX0_grow_2 11 rfl rfl)
theorem dX0_grow_62 : decode cX0_grow 62 = .ok (.iload_n 3, 1) := dk_29 (dk_at dksX0_grow_2 14 rfl rfl)
theorem dX0_grow_63 : decode cX0_grow 63 = .ok (.aload 4, 2) := dk_25 4 (dk_at dksX0_grow_2 15 rfl rfl)
theorem dX0_grow_65 : decode cX0_grow 65 = .ok (.aload_n 1, 1) := dk_43 (dk_at dksX0_grow_2 17 rfl rfl)
theorem dX0_grow_66 : decode cX0_grow 66 = .ok (.getfield 288, 3) := dk_180 1 32 (dk_at dksX0_grow_2 18 rfl rfl)
theorem dX0_grow_69 : decode cX0_grow 69 = .ok (.iload_n 3, 1) := dk_29 (dk_at dksX0_grow_2 21 rfl rfl)
theorem dX0_grow_70 : decode cX0_grow 70 = .ok (.iaload, 1) := dk_46 (dk_at dksX0_grow_2 22 rfl rfl)
theorem dX0_grow_71 : decode cX0_grow 71 = .ok (.iload_n 2, 1) := dk_28 (dk_at dksX0_grow_2 23 rfl rfl)
theorem dX0_grow_72 : decode cX0_grow 72 = .ok (.aload_n 1, 1) := dk_43 (dk_at dksX0_grow_3 0 rfl rfl)
theorem dX0_grow_73 : decode cX0_grow 73 = .ok (.getfield 279, 3) := dk_180 1 23 (dk_at dksX0_grow_3 1 rfl rfl)
theorem dX0_grow_76 : decode cX0_grow 76 = .ok (.invokevirtual 362, 3) := dk_182 1 106 (dk_at dksX0_grow_3 4 rfl rfl)
theorem dX0_grow_79 : decode cX0_grow 79 = .ok (.bastore, 1) := dk_84 (dk_at dksX0_grow_3 7 rfl rfl)
theorem dX0_grow_80 : decode cX0_grow 80 = .ok (.iinc 3 1, 3) := dk_132 3 1 (dk_at dksX0_grow_3 8 rfl rfl)
theorem dX0_grow_83 : decode cX0_grow 83 = .ok (.goto (-81), 3) := dk_167 255 175 (dk_at dksX0_grow_3 11 rfl rfl)
theorem dX0_grow_86 : decode cX0_grow 86 = .ok (.return_, 1) := dk_177 (dk_at dksX0_grow_3 14 rfl rfl)
abbrev cX0_sortOf : ByteArray := prog_1_method_51_code
def yX0_sortOf : MethodName := ⟨RX0, "sortOf", "(I)LAcornYears$Sort;"⟩
def dkwX0_sortOf_0 : List UInt8 := [42, 180, 0, 40, 42, 180, 0, 79, 27, 50, 180, 1, 65, 50, 176]
abbrev dktX0_sortOf_0 : List UInt8 := dkwX0_sortOf_0 ++ []
theorem dksX0_sortOf_0 : cX0_sortOf.data.toList.drop 0 = dktX0_sortOf_0 := by decide +kernel
theorem dX0_sortOf_0 : decode cX0_sortOf 0 = .ok (.aload_n 0, 1) := dk_42 (dk_at dksX0_sortOf_0 0 rfl rfl)
theorem dX0_sortOf_1 : decode cX0_sortOf 1 = .ok (.getfield 40, 3) := dk_180 0 40 (dk_at dksX0_sortOf_0 1 rfl rfl)
theorem dX0_sortOf_4 : decode cX0_sortOf 4 = .ok (.aload_n 0, 1) := dk_42 (dk_at dksX0_sortOf_0 4 rfl rfl)
theorem dX0_sortOf_5 : decode cX0_sortOf 5 = .ok (.getfield 79, 3) := dk_180 0 79 (dk_at dksX0_sortOf_0 5 rfl rfl)
theorem dX0_sortOf_8 : decode cX0_sortOf 8 = .ok (.iload_n 1, 1) := dk_27 (dk_at dksX0_sortOf_0 8 rfl rfl)
theorem dX0_sortOf_9 : decode cX0_sortOf 9 = .ok (.aaload, 1) := dk_50 (dk_at dksX0_sortOf_0 9 rfl rfl)
theorem dX0_sortOf_10 : decode cX0_sortOf 10 = .ok (.getfield 321, 3) := dk_180 1 65 (dk_at dksX0_sortOf_0 10 rfl rfl)
theorem dX0_sortOf_13 : decode cX0_sortOf 13 = .ok (.aaload, 1) := dk_50 (dk_at dksX0_sortOf_0 13 rfl rfl)
theorem dX0_sortOf_14 : decode cX0_sortOf 14 = .ok (.areturn, 1) := dk_176 (dk_at dksX0_sortOf_0 14 rfl rfl)
abbrev cX0_bear : ByteArray := prog_1_method_56_code
def yX0_bear : MethodName := ⟨RX0, "bear", "(LAcornYears$Wood;I)V"⟩
def dkwX0_bear_5 : List UInt8 := [43, 180, 1, 121, 29, 46, 96, 181, 1, 118, 132, 3, 1, 167, 255, 137, 177]
abbrev dktX0_bear_5 : List UInt8 := dkwX0_bear_5 ++ []
def dkwX0_bear_4 : List UInt8 := [167, 0, 17, 21, 6, 153, 0, 8, 21, 5, 167, 0, 7, 21, 5, 5, 108, 100, 79, 43, 89, 180, 1, 118]
abbrev dktX0_bear_4 : List UInt8 := dkwX0_bear_4 ++ dktX0_bear_5
def dkwX0_bear_3 : List UInt8 := [21, 5, 167, 0, 4, 3, 79, 43, 180, 1, 32, 29, 92, 46, 25, 4, 182, 1, 104, 154, 0, 7, 3]
abbrev dktX0_bear_3 : List UInt8 := dkwX0_bear_3 ++ dktX0_bear_4
def dkwX0_bear_2 : List UInt8 := [28, 182, 1, 124, 54, 5, 42, 29, 182, 1, 127, 54, 6, 43, 180, 1, 121, 29, 21, 6, 153, 0, 8]
abbrev dktX0_bear_2 : List UInt8 := dkwX0_bear_2 ++ dktX0_bear_3
def dkwX0_bear_1 : List UInt8 := [29, 3, 79, 43, 180, 1, 96, 29, 51, 154, 0, 6, 167, 0, 92, 42, 29, 182, 1, 100, 58, 4, 25, 4]
abbrev dktX0_bear_1 : List UInt8 := dkwX0_bear_1 ++ dktX0_bear_2
def dkwX0_bear_0 : List UInt8 := [42, 43, 182, 1, 114, 43, 3, 181, 1, 118, 3, 62, 29, 42, 180, 1, 20, 162, 0, 117, 43, 180, 1, 121]
abbrev dktX0_bear_0 : List UInt8 := dkwX0_bear_0 ++ dktX0_bear_1
theorem dksX0_bear_0 : cX0_bear.data.toList.drop 0 = dktX0_bear_0 := by decide +kernel
theorem dksX0_bear_1 : cX0_bear.data.toList.drop 24 = dktX0_bear_1 := dk_seg dksX0_bear_0 24 rfl rfl
theorem dksX0_bear_2 : cX0_bear.data.toList.drop 48 = dktX0_bear_2 := dk_seg dksX0_bear_1 24 rfl rfl
theorem dksX0_bear_3 : cX0_bear.data.toList.drop 71 = dktX0_bear_3 := dk_seg dksX0_bear_2 23 rfl rfl
theorem dksX0_bear_4 : cX0_bear.data.toList.drop 94 = dktX0_bear_4 := dk_seg dksX0_bear_3 23 rfl rfl
theorem dksX0_bear_5 : cX0_bear.data.toList.drop 118 = dktX0_bear_5 := dk_seg dksX0_bear_4 24 rfl rfl
theorem dX0_bear_0 : decode cX0_bear 0 = .ok (.aload_n 0, 1) := dk_42 (dk_at dksX0_bear_0 0 rfl rfl)
theorem dX0_bear_1 : decode cX0_bear 1 = .ok (.aload_n 1, 1) := dk_43 (dk_at dksX0_bear_0 1 rfl rfl)
theorem dX0_bear_2 : decode cX0_bear 2 = .ok (.invokevirtual 370, 3) := dk_182 1 114 (dk_at dksX0_bear_0 2 rfl rfl)
theorem dX0_bear_5 : decode cX0_bear 5 = .ok (.aload_n 1, 1) := dk_43 (dk_at dksX0_bear_0 5 rfl rfl)
theorem dX0_bear_6 : decode cX0_bear 6 = .ok (.iconst 0, 1) := dk_3 (dk_at dksX0_bear_0 6 rfl rfl)
theorem dX0_bear_7 : decode cX0_bear 7 = .ok (.putfield 374, 3) := dk_181 1 118 (dk_at dksX0_bear_0 7 rfl rfl)
theorem dX0_bear_10 : decode cX0_bear 10 = .ok (.iconst 0, 1) := dk_3 (dk_at dksX0_bear_0 10 rfl rfl)
theorem dX0_bear_11 : decode cX0_bear 11 = .ok (.istore_n 3, 1) := dk_62 (dk_at dksX0_bear_0 11 rfl rfl)
theorem dX0_bear_12 : decode cX0_bear 12 = .ok (.iload_n 3, 1) := dk_29 (dk_at dksX0_bear_0 12 rfl rfl)
theorem dX0_bear_13 : decode cX0_bear 13 = .ok (.aload_n 0, 1) := dk_42 (dk_at dksX0_bear_0 13 rfl rfl)
theorem dX0_bear_14 : decode cX0_bear 14 = .ok (.getfield 276, 3) := dk_180 1 20 (dk_at dksX0_bear_0 14 rfl rfl)
theorem dX0_bear_17 : decode cX0_bear 17 = .ok (.if_icmp .ge 117, 3) := dk_162 0 117 (dk_at dksX0_bear_0 17 rfl rfl)
theorem dX0_bear_20 : decode cX0_bear 20 = .ok (.aload_n 1, 1) := dk_43 (dk_at dksX0_bear_0 20 rfl rfl)
theorem dX0_bear_21 : decode cX0_bear 21 = .ok (.getfield 377, 3) := dk_180 1 121 (dk_at dksX0_bear_0 21 rfl rfl)
theorem dX0_bear_24 : decode cX0_bear 24 = .ok (.iload_n 3, 1) := dk_29 (dk_at dksX0_bear_1 0 rfl rfl)
theorem dX0_bear_25 : decode cX0_bear 25 = .ok (.iconst 0, 1) := dk_3 (dk_at dksX0_bear_1 1 rfl rfl)
theorem dX0_bear_26 : decode cX0_bear 26 = .ok (.iastore, 1) := dk_79 (dk_at dksX0_bear_1 2 rfl rfl)
theorem dX0_bear_27 : decode cX0_bear 27 = .ok (.aload_n 1, 1) := dk_43 (dk_at dksX0_bear_1 3 rfl rfl)
theorem dX0_bear_28 : decode cX0_bear 28 = .ok (.getfield 352, 3) := dk_180 1 96 (dk_at dksX0_bear_1 4 rfl rfl)
theorem dX0_bear_31 : decode cX0_bear 31 = .ok (.iload_n 3, 1) := dk_29 (dk_at dksX0_bear_1 7 rfl rfl)
theorem dX0_bear_32 : decode cX0_bear 32 = .ok (.baload, 1) := dk_51 (dk_at dksX0_bear_1 8 rfl rfl)
theorem dX0_bear_33 : decode cX0_bear 33 = .ok (.ifCond .ne 6, 3) := dk_154 0 6 (dk_at dksX0_bear_1 9 rfl rfl)
theorem dX0_bear_36 : decode cX0_bear 36 = .ok (.goto 92, 3) := dk_167 0 92 (dk_at dksX0_bear_1 12 rfl rfl)
theorem dX0_bear_39 : decode cX0_bear 39 = .ok (.aload_n 0, 1) := dk_42 (dk_at dksX0_bear_1 15 rfl rfl)
theorem dX0_bear_40 : decode cX0_bear 40 = .ok (.iload_n 3, 1) := dk_29 (dk_at dksX0_bear_1 16 rfl rfl)
theorem dX0_bear_41 : decode cX0_bear 41 = .ok (.invokevirtual 356, 3) := dk_182 1 100 (dk_at dksX0_bear_1 17 rfl rfl)
theorem dX0_bear_44 : decode cX0_bear 44 = .ok (.astore 4, 2) := dk_58 4 (dk_at dksX0_bear_1 20 rfl rfl)
theorem dX0_bear_46 : decode cX0_bear 46 = .ok (.aload 4, 2) := dk_25 4 (dk_at dksX0_bear_1 22 rfl rfl)
theorem dX0_bear_48 : decode cX0_bear 48 = .ok (.iload_n 2, 1) := dk_28 (dk_at dksX0_bear_2 0 rfl rfl)
theorem dX0_bear_49 : decode cX0_bear 49 = .ok (.invokevirtual 380, 3) := dk_182 1 124 (dk_at dksX0_bear_2 1 rfl rfl)
theorem dX0_bear_52 : decode cX0_bear 52 = .ok (.istore 5, 2) := dk_54 5 (dk_at dksX0_bear_2 4 rfl rfl)
theorem dX0_bear_54 : decode cX0_bear 54 = .ok (.aload_n 0, 1) := dk_42 (dk_at dksX0_bear_2 6 rfl rfl)
theorem dX0_bear_55 : decode cX0_bear 55 = .ok (.iload_n 3, 1) := dk_29 (dk_at dksX0_bear_2 7 rfl rfl)
theorem dX0_bear_56 : decode cX0_bear 56 = .ok (.invokevirtual 383, 3) := dk_182 1 127 (dk_at dksX0_bear_2 8 rfl rfl)
theorem dX0_bear_59 : decode cX0_bear 59 = .ok (.istore 6, 2) := dk_54 6 (dk_at dksX0_bear_2 11 rfl rfl)
theorem dX0_bear_61 : decode cX0_bear 61 = .ok (.aload_n 1, 1) := dk_43 (dk_at dksX0_bear_2 13 rfl rfl)
theorem dX0_bear_62 : decode cX0_bear 62 = .ok (.getfield 377, 3) := dk_180 1 121 (dk_at dksX0_bear_2 14 rfl rfl)
theorem dX0_bear_65 : decode cX0_bear 65 = .ok (.iload_n 3, 1) := dk_29 (dk_at dksX0_bear_2 17 rfl rfl)
theorem dX0_bear_66 : decode cX0_bear 66 = .ok (.iload 6, 2) := dk_21 6 (dk_at dksX0_bear_2 18 rfl rfl)
theorem dX0_bear_68 : decode cX0_bear 68 = .ok (.ifCond .eq 8, 3) := dk_153 0 8 (dk_at dksX0_bear_2 20 rfl rfl)
theorem dX0_bear_71 : decode cX0_bear 71 = .ok (.iload 5, 2) := dk_21 5 (dk_at dksX0_bear_3 0 rfl rfl)
theorem dX0_bear_73 : decode cX0_bear 73 = .ok (.goto 4, 3) := dk_167 0 4 (dk_at dksX0_bear_3 2 rfl rfl)
theorem dX0_bear_76 : decode cX0_bear 76 = .ok (.iconst 0, 1) := dk_3 (dk_at dksX0_bear_3 5 rfl rfl)
theorem dX0_bear_77 : decode cX0_bear 77 = .ok (.iastore, 1) := dk_79 (dk_at dksX0_bear_3 6 rfl rfl)
theorem dX0_bear_78 : decode cX0_bear 78 = .ok (.aload_n 1, 1) := dk_43 (dk_at dksX0_bear_3 7 rfl rfl)
theorem dX0_bear_79 : decode cX0_bear 79 = .ok (.getfield 288, 3) := dk_180 1 32 (dk_at dksX0_bear_3 8 rfl rfl)
theorem dX0_bear_82 : decode cX0_bear 82 = .ok (.iload_n 3, 1) := dk_29 (dk_at dksX0_bear_3 11 rfl rfl)
theorem dX0_bear_83 : decode cX0_bear 83 = .ok (.dup2, 1) := dk_92 (dk_at dksX0_bear_3 12 rfl rfl)
theorem dX0_bear_84 : decode cX0_bear 84 = .ok (.iaload, 1) := dk_46 (dk_at dksX0_bear_3 13 rfl rfl)
theorem dX0_bear_85 : decode cX0_bear 85 = .ok (.aload 4, 2) := dk_25 4 (dk_at dksX0_bear_3 14 rfl rfl)
theorem dX0_bear_87 : decode cX0_bear 87 = .ok (.invokevirtual 360, 3) := dk_182 1 104 (dk_at dksX0_bear_3 16 rfl rfl)
theorem dX0_bear_90 : decode cX0_bear 90 = .ok (.ifCond .ne 7, 3) := dk_154 0 7 (dk_at dksX0_bear_3 19 rfl rfl)
theorem dX0_bear_93 : decode cX0_bear 93 = .ok (.iconst 0, 1) := dk_3 (dk_at dksX0_bear_3 22 rfl rfl)
theorem dX0_bear_94 : decode cX0_bear 94 = .ok (.goto 17, 3) := dk_167 0 17 (dk_at dksX0_bear_4 0 rfl rfl)
theorem dX0_bear_97 : decode cX0_bear 97 = .ok (.iload 6, 2) := dk_21 6 (dk_at dksX0_bear_4 3 rfl rfl)
theorem dX0_bear_99 : decode cX0_bear 99 = .ok (.ifCond .eq 8, 3) := dk_153 0 8 (dk_at dksX0_bear_4 5 rfl rfl)
theorem dX0_bear_102 : decode cX0_bear 102 = .ok (.iload 5, 2) := dk_21 5 (dk_at dksX0_bear_4 8 rfl rfl)
theorem dX0_bear_104 : decode cX0_bear 104 = .ok (.goto 7, 3) := dk_167 0 7 (dk_at dksX0_bear_4 10 rfl rfl)
theorem dX0_bear_107 : decode cX0_bear 107 = .ok (.iload 5, 2) := dk_21 5 (dk_at dksX0_bear_4 13 rfl rfl)
theorem dX0_bear_109 : decode cX0_bear 109 = .ok (.iconst 2, 1) := dk_5 (dk_at dksX0_bear_4 15 rfl rfl)
theorem dX0_bear_110 : decode cX0_bear 110 = .ok (.idiv, 1) := dk_108 (dk_at dksX0_bear_4 16 rfl rfl)
theorem dX0_bear_111 : decode cX0_bear 111 = .ok (.isub, 1) := dk_100 (dk_at dksX0_bear_4 17 rfl rfl)
theorem dX0_bear_112 : decode cX0_bear 112 = .ok (.iastore, 1) := dk_79 (dk_at dksX0_bear_4 18 rfl rfl)
theorem dX0_bear_113 : decode cX0_bear 113 = .ok (.aload_n 1, 1) := dk_43 (dk_at dksX0_bear_4 19 rfl rfl)
theorem dX0_bear_114 : decode cX0_bear 114 = .ok (.dup, 1) := dk_89 (dk_at dksX0_bear_4 20 rfl rfl)
theorem dX0_bear_115 : decode cX0_bear 115 = .ok (.getfield 374, 3) := dk_180 1 118 (dk_at dksX0_bear_4 21 rfl rfl)
theorem dX0_bear_118 : decode cX0_bear 118 = .ok (.aload_n 1, 1) := dk_43 (dk_at dksX0_bear_5 0 rfl rfl)
theorem dX0_bear_119 : decode cX0_bear 119 = .ok (.getfield 377, 3) := dk_180 1 121 (dk_at dksX0_bear_5 1 rfl rfl)
theorem dX0_bear_122 : decode cX0_bear 122 = .ok (.iload_n 3, 1) := dk_29 (dk_at dksX0_bear_5 4 rfl rfl)
theorem dX0_bear_123 : decode cX0_bear 123 = .ok (.iaload, 1) := dk_46 (dk_at dksX0_bear_5 5 rfl rfl)
theorem dX0_bear_124 : decode cX0_bear 124 = .ok (.iadd, 1) := dk_96 (dk_at dksX0_bear_5 6 rfl rfl)
theorem dX0_bear_125 : decode cX0_bear 125 = .ok (.putfield 374, 3) := dk_181 1 118 (dk_at dksX0_bear_5 7 rfl rfl)
theorem dX0_bear_128 : decode cX0_bear 128 = .ok (.iinc 3 1, 3) := dk_132 3 1 (dk_at dksX0_bear_5 10 rfl rfl)
theorem dX0_bear_131 : decode cX0_bear 131 = .ok (.goto (-119), 3) := dk_167 255 137 (dk_at dksX0_bear_5 13 rfl rfl)
theorem dX0_bear_134 : decode cX0_bear 134 = .ok (.return_, 1) := dk_177 (dk_at dksX0_bear_5 16 rfl rfl)
abbrev cX0_countHalves : ByteArray := prog_1_method_53_code
def yX0_countHalves : MethodName := ⟨RX0, "countHalves", "(LAcornYears$Wood;)V"⟩
def dkwX0_countHalves_3 : List UInt8 := [167, 0, 4, 3, 96, 79, 132, 2, 1, 167, 255, 204, 177]
abbrev dktX0_countHalves_3 : List UInt8 := dkwX0_countHalves_3 ++ []
def dkwX0_countHalves_2 : List UInt8 := [4, 96, 79, 42, 180, 0, 102, 42, 28, 182, 1, 93, 92, 46, 43, 180, 1, 96, 28, 51, 153, 0, 7, 4]
abbrev dktX0_countHalves_2 : List UInt8 := dkwX0_countHalves_2 ++ dktX0_countHalves_3
def dkwX0_countHalves_1 : List UInt8 := [167, 255, 234, 3, 61, 28, 42, 180, 1, 20, 162, 0, 50, 42, 180, 0, 99, 42, 28, 182, 1, 93, 92, 46]
abbrev dktX0_countHalves_1 : List UInt8 := dkwX0_countHalves_1 ++ dktX0_countHalves_2
def dkwX0_countHalves_0 : List UInt8 := [3, 61, 28, 5, 162, 0, 23, 42, 180, 0, 99, 28, 3, 79, 42, 180, 0, 102, 28, 3, 79, 132, 2, 1]
abbrev dktX0_countHalves_0 : List UInt8 := dkwX0_countHalves_0 ++ dktX0_countHalves_1
theorem dksX0_countHalves_0 : cX0_countHalves.data.toList.drop 0 = dktX0_countHalves_0 := by decide +kernel
theorem dksX0_countHalves_1 : cX0_countHalves.data.toList.drop 24 = dktX0_countHalves_1 := dk_seg dksX0_countHalves_0 24 rfl rfl
theorem dksX0_countHalves_2 : cX0_countHalves.data.toList.drop 48 = dktX0_countHalves_2 := dk_seg dksX0_countHalves_1 24 rfl rfl
theorem dksX0_countHalves_3 : cX0_countHalves.data.toList.drop 72 = dktX0_countHalves_3 := dk_seg dksX0_countHalves_2 24 rfl rfl
theorem dX0_countHalves_0 : decode cX0_countHalves 0 = .ok (.iconst 0, 1) := dk_3 (dk_at dksX0_countHalves_0 0 rfl rfl)
theorem dX0_countHalves_1 : decode cX0_countHalves 1 = .ok (.istore_n 2, 1) := dk_61 (dk_at dksX0_countHalves_0 1 rfl rfl)
theorem dX0_countHalves_2 : decode cX0_countHalves 2 = .ok (.iload_n 2, 1) := dk_28 (dk_at dksX0_countHalves_0 2 rfl rfl)
theorem dX0_countHalves_3 : decode cX0_countHalves 3 = .ok (.iconst 2, 1) := dk_5 (dk_at dksX0_countHalves_0 3 rfl rfl)
theorem dX0_countHalves_4 : decode cX0_countHalves 4 = .ok (.if_icmp .ge 23, 3) := dk_162 0 23 (dk_at dksX0_countHalves_0 4 rfl rfl)
theorem dX0_countHalves_7 : decode cX0_countHalves 7 = .ok (.aload_n 0, 1) := dk_42 (dk_at dksX0_countHalves_0 7 rfl rfl)
theorem dX0_countHalves_8 : decode cX0_countHalves 8 = .ok (.getfield 99, 3) := dk_180 0 99 (dk_at dksX0_countHalves_0 8 rfl rfl)
theorem dX0_countHalves_11 : decode cX0_countHalves 11 = .ok (.iload_n 2, 1) := dk_28 (dk_at dksX0_countHalves_0 11 rfl rfl)
theorem dX0_countHalves_12 : decode cX0_countHalves 12 = .ok (.iconst 0, 1) := dk_3 (dk_at dksX0_countHalves_0 12 rfl rfl)
theorem dX0_countHalves_13 : decode cX0_countHalves 13 = .ok (.iastore, 1) := dk_79 (dk_at dksX0_countHalves_0 13 rfl rfl)
theorem dX0_countHalves_14 : decode cX0_countHalves 14 = .ok (.aload_n 0, 1) := dk_42 (dk_at dksX0_countHalves_0 14 rfl rfl)
theorem dX0_countHalves_15 : decode cX0_countHalves 15 = .ok (.getfield 102, 3) := dk_180 0 102 (dk_at dksX0_countHalves_0 15 rfl rfl)
theorem dX0_countHalves_18 : decode cX0_countHalves 18 = .ok (.iload_n 2, 1) := dk_28 (dk_at dksX0_countHalves_0 18 rfl rfl)
theorem dX0_countHalves_19 : decode cX0_countHalves 19 = .ok (.iconst 0, 1) := dk_3 (dk_at dksX0_countHalves_0 19 rfl rfl)
theorem dX0_countHalves_20 : decode cX0_countHalves 20 = .ok (.iastore, 1) := dk_79 (dk_at dksX0_countHalves_0 20 rfl rfl)
theorem dX0_countHalves_21 : decode cX0_countHalves 21 = .ok (.iinc 2 1, 3) := dk_132 2 1 (dk_at dksX0_countHalves_0 21 rfl rfl)
theorem dX0_countHalves_24 : decode cX0_countHalves 24 = .ok (.goto (-22), 3) := dk_167 255 234 (dk_at dksX0_countHalves_1 0 rfl rfl)
theorem dX0_countHalves_27 : decode cX0_countHalves 27 = .ok (.iconst 0, 1) := dk_3 (dk_at dksX0_countHalves_1 3 rfl rfl)
theorem dX0_countHalves_28 : decode cX0_countHalves 28 = .ok (.istore_n 2, 1) := dk_61 (dk_at dksX0_countHalves_1 4 rfl rfl)
theorem dX0_countHalves_29 : decode cX0_countHalves 29 = .ok (.iload_n 2, 1) := dk_28 (dk_at dksX0_countHalves_1 5 rfl rfl)
theorem dX0_countHalves_30 : decode cX0_countHalves 30 = .ok (.aload_n 0, 1) := dk_42 (dk_at dksX0_countHalves_1 6 rfl rfl)
theorem dX0_countHalves_31 : decode cX0_countHalves 31 = .ok (.getfield 276, 3) := dk_180 1 20 (dk_at dksX0_countHalves_1 7 rfl rfl)
theorem dX0_countHalves_34 : decode cX0_countHalves 34 = .ok (.if_icmp .ge 50, 3) := dk_162 0 50 (dk_at dksX0_countHalves_1 10 rfl rfl)
theorem dX0_countHalves_37 : decode cX0_countHalves 37 = .ok (.aload_n 0, 1) := dk_42 (dk_at dksX0_countHalves_1 13 rfl rfl)
theorem dX0_countHalves_38 : decode cX0_countHalves 38 = .ok (.getfield 99, 3) := dk_180 0 99 (dk_at dksX0_countHalves_1 14 rfl rfl)
theorem dX0_countHalves_41 : decode cX0_countHalves 41 = .ok (.aload_n 0, 1) := dk_42 (dk_at dksX0_countHalves_1 17 rfl rfl)
theorem dX0_countHalves_42 : decode cX0_countHalves 42 = .ok (.iload_n 2, 1) := dk_28 (dk_at dksX0_countHalves_1 18 rfl rfl)
theorem dX0_countHalves_43 : decode cX0_countHalves 43 = .ok (.invokevirtual 349, 3) := dk_182 1 93 (dk_at dksX0_countHalves_1 19 rfl rfl)
theorem dX0_countHalves_46 : decode cX0_countHalves 46 = .ok (.dup2, 1) := dk_92 (dk_at dksX0_countHalves_1 22 rfl rfl)
theorem dX0_countHalves_47 : decode cX0_countHalves 47 = .ok (.iaload, 1) := dk_46 (dk_at dksX0_countHalves_1 23 rfl rfl)
theorem dX0_countHalves_48 : decode cX0_countHalves 48 = .ok (.iconst 1, 1) := dk_4 (dk_at dksX0_countHalves_2 0 rfl rfl)
theorem dX0_countHalves_49 : decode cX0_countHalves 49 = .ok (.iadd, 1) := dk_96 (dk_at dksX0_countHalves_2 1 rfl rfl)
theorem dX0_countHalves_50 : decode cX0_countHalves 50 = .ok (.iastore, 1) := dk_79 (dk_at dksX0_countHalves_2 2 rfl rfl)
theorem dX0_countHalves_51 : decode cX0_countHalves 51 = .ok (.aload_n 0, 1) := dk_42 (dk_at dksX0_countHalves_2 3 rfl rfl)
theorem dX0_countHalves_52 : decode cX0_countHalves 52 = .ok (.getfield 102, 3) := dk_180 0 102 (dk_at dksX0_countHalves_2 4 rfl rfl)
theorem dX0_countHalves_55 : decode cX0_countHalves 55 = .ok (.aload_n 0, 1) := dk_42 (dk_at dksX0_countHalves_2 7 rfl rfl)
theorem dX0_countHalves_56 : decode cX0_countHalves 56 = .ok (.iload_n 2, 1) := dk_28 (dk_at dksX0_countHalves_2 8 rfl rfl)
theorem dX0_countHalves_57 : decode cX0_countHalves 57 = .ok (.invokevirtual 349, 3) := dk_182 1 93 (dk_at dksX0_countHalves_2 9 rfl rfl)
theorem dX0_countHalves_60 : decode cX0_countHalves 60 = .ok (.dup2, 1) := dk_92 (dk_at dksX0_countHalves_2 12 rfl rfl)
theorem dX0_countHalves_61 : decode cX0_countHalves 61 = .ok (.iaload, 1) := dk_46 (dk_at dksX0_countHalves_2 13 rfl rfl)
theorem dX0_countHalves_62 : decode cX0_countHalves 62 = .ok (.aload_n 1, 1) := dk_43 (dk_at dksX0_countHalves_2 14 rfl rfl)
theorem dX0_countHalves_63 : decode cX0_countHalves 63 = .ok (.getfield 352, 3) := dk_180 1 96 (dk_at dksX0_countHalves_2 15 rfl rfl)
theorem dX0_countHalves_66 : decode cX0_countHalves 66 = .ok (.iload_n 2, 1) := dk_28 (dk_at dksX0_countHalves_2 18 rfl rfl)
theorem dX0_countHalves_67 : decode cX0_countHalves 67 = .ok (.baload, 1) := dk_51 (dk_at dksX0_countHalves_2 19 rfl rfl)
theorem dX0_countHalves_68 : decode cX0_countHalves 68 = .ok (.ifCond .eq 7, 3) := dk_153 0 7 (dk_at dksX0_countHalves_2 20 rfl rfl)
theorem dX0_countHalves_71 : decode cX0_countHalves 71 = .ok (.iconst 1, 1) := dk_4 (dk_at dksX0_countHalves_2 23 rfl rfl)
theorem dX0_countHalves_72 : decode cX0_countHalves 72 = .ok (.goto 4, 3) := dk_167 0 4 (dk_at dksX0_countHalves_3 0 rfl rfl)
theorem dX0_countHalves_75 : decode cX0_countHalves 75 = .ok (.iconst 0, 1) := dk_3 (dk_at dksX0_countHalves_3 3 rfl rfl)
theorem dX0_countHalves_76 : decode cX0_countHalves 76 = .ok (.iadd, 1) := dk_96 (dk_at dksX0_countHalves_3 4 rfl rfl)
theorem dX0_countHalves_77 : decode cX0_countHalves 77 = .ok (.iastore, 1) := dk_79 (dk_at dksX0_countHalves_3 5 rfl rfl)
theorem dX0_countHalves_78 : decode cX0_countHalves 78 = .ok (.iinc 2 1, 3) := dk_132 2 1 (dk_at dksX0_countHalves_3 6 rfl rfl)
theorem dX0_countHalves_81 : decode cX0_countHalves 81 = .ok (.goto (-52), 3) := dk_167 255 204 (dk_at dksX0_countHalves_3 9 rfl rfl)
theorem dX0_countHalves_84 : decode cX0_countHalves 84 = .ok (.return_, 1) := dk_177 (dk_at dksX0_countHalves_3 12 rfl rfl)
abbrev cX0_halfOf : ByteArray := prog_1_method_52_code
def yX0_halfOf : MethodName := ⟨RX0, "halfOf", "(I)I"⟩
def dkwX0_halfOf_0 : List UInt8 := [42, 180, 0, 96, 155, 0, 18, 42, 180, 0, 96, 27, 184, 1, 89, 153, 0, 7, 4, 167, 0, 4, 3, 172]
abbrev dktX0_halfOf_0 : List UInt8 := dkwX0_halfOf_0 ++ []
theorem dksX0_halfOf_0 : cX0_halfOf.data.toList.drop 0 = dktX0_halfOf_0 := by decide +kernel
theorem dX0_halfOf_0 : decode cX0_halfOf 0 = .ok (.aload_n 0, 1) := dk_42 (dk_at dksX0_halfOf_0 0 rfl rfl)
theorem dX0_halfOf_1 : decode cX0_halfOf 1 = .ok (.getfield 96, 3) := dk_180 0 96 (dk_at dksX0_halfOf_0 1 rfl rfl)
theorem dX0_halfOf_4 : decode cX0_halfOf 4 = .ok (.ifCond .lt 18, 3) := dk_155 0 18 (dk_at dksX0_halfOf_0 4 rfl rfl)
theorem dX0_halfOf_7 : decode cX0_halfOf 7 = .ok (.aload_n 0, 1) := dk_42 (dk_at dksX0_halfOf_0 7 rfl rfl)
theorem dX0_halfOf_8 : decode cX0_halfOf 8 = .ok (.getfield 96, 3) := dk_180 0 96 (dk_at dksX0_halfOf_0 8 rfl rfl)
theorem dX0_halfOf_11 : decode cX0_halfOf 11 = .ok (.iload_n 1, 1) := dk_27 (dk_at dksX0_halfOf_0 11 rfl rfl)
theorem dX0_halfOf_12 : decode cX0_halfOf 12 = .ok (.invokestatic 345, 3) := dk_184 1 89 (dk_at dksX0_halfOf_0 12 rfl rfl)
theorem dX0_halfOf_15 : decode cX0_halfOf 15 = .ok (.ifCond .eq 7, 3) := dk_153 0 7 (dk_at dksX0_halfOf_0 15 rfl rfl)
theorem dX0_halfOf_18 : decode cX0_halfOf 18 = .ok (.iconst 1, 1) := dk_4 (dk_at dksX0_halfOf_0 18 rfl rfl)
theorem dX0_halfOf_19 : decode cX0_halfOf 19 = .ok (.goto 4, 3) := dk_167 0 4 (dk_at dksX0_halfOf_0 19 rfl rfl)
theorem dX0_halfOf_22 : decode cX0_halfOf 22 = .ok (.iconst 0, 1) := dk_3 (dk_at dksX0_halfOf_0 22 rfl rfl)
theorem dX0_halfOf_23 : decode cX0_halfOf 23 = .ok (.ireturn, 1) := dk_172 (dk_at dksX0_halfOf_0 23 rfl rfl)
abbrev cX0_has : ByteArray := prog_1_method_2_code
def yX0_has : MethodName := ⟨RX0, "has", "(II)Z"⟩
def dkwX0_has_0 : List UInt8 := [26, 27, 122, 4, 126, 4, 160, 0, 7, 4, 167, 0, 4, 3, 172]
abbrev dktX0_has_0 : List UInt8 := dkwX0_has_0 ++ []
theorem dksX0_has_0 : cX0_has.data.toList.drop 0 = dktX0_has_0 := by decide +kernel
theorem dX0_has_0 : decode cX0_has 0 = .ok (.iload_n 0, 1) := dk_26 (dk_at dksX0_has_0 0 rfl rfl)
theorem dX0_has_1 : decode cX0_has 1 = .ok (.iload_n 1, 1) := dk_27 (dk_at dksX0_has_0 1 rfl rfl)
theorem dX0_has_2 : decode cX0_has 2 = .ok (.ishr, 1) := dk_122 (dk_at dksX0_has_0 2 rfl rfl)
theorem dX0_has_3 : decode cX0_has 3 = .ok (.iconst 1, 1) := dk_4 (dk_at dksX0_has_0 3 rfl rfl)
theorem dX0_has_4 : decode cX0_has 4 = .ok (.iand, 1) := dk_126 (dk_at dksX0_has_0 4 rfl rfl)
theorem dX0_has_5 : decode cX0_has 5 = .ok (.iconst 1, 1) := dk_4 (dk_at dksX0_has_0 5 rfl rfl)
theorem dX0_has_6 : decode cX0_has 6 = .ok (.if_icmp .ne 7, 3) := dk_160 0 7 (dk_at dksX0_has_0 6 rfl rfl)
theorem dX0_has_9 : decode cX0_has 9 = .ok (.iconst 1, 1) := dk_4 (dk_at dksX0_has_0 9 rfl rfl)
theorem dX0_has_10 : decode cX0_has 10 = .ok (.goto 4, 3) := dk_167 0 4 (dk_at dksX0_has_0 10 rfl rfl)
theorem dX0_has_13 : decode cX0_has 13 = .ok (.iconst 0, 1) := dk_3 (dk_at dksX0_has_0 13 rfl rfl)
theorem dX0_has_14 : decode cX0_has 14 = .ok (.ireturn, 1) := dk_172 (dk_at dksX0_has_0 14 rfl rfl)
abbrev cX0_sets : ByteArray := prog_1_method_55_code
def yX0_sets : MethodName := ⟨RX0, "sets", "(I)Z"⟩
def dkwX0_sets_1 : List UInt8 := [182, 1, 93, 46, 42, 180, 0, 93, 185, 1, 109, 4, 0, 172]
abbrev dktX0_sets_1 : List UInt8 := dkwX0_sets_1 ++ []
def dkwX0_sets_0 : List UInt8 := [42, 27, 182, 1, 100, 77, 44, 42, 180, 0, 102, 42, 27, 182, 1, 93, 46, 42, 180, 0, 99, 42, 27]
abbrev dktX0_sets_0 : List UInt8 := dkwX0_sets_0 ++ dktX0_sets_1
theorem dksX0_sets_0 : cX0_sets.data.toList.drop 0 = dktX0_sets_0 := by decide +kernel
theorem dksX0_sets_1 : cX0_sets.data.toList.drop 23 = dktX0_sets_1 := dk_seg dksX0_sets_0 23 rfl rfl
theorem dX0_sets_0 : decode cX0_sets 0 = .ok (.aload_n 0, 1) := dk_42 (dk_at dksX0_sets_0 0 rfl rfl)
theorem dX0_sets_1 : decode cX0_sets 1 = .ok (.iload_n 1, 1) := dk_27 (dk_at dksX0_sets_0 1 rfl rfl)
theorem dX0_sets_2 : decode cX0_sets 2 = .ok (.invokevirtual 356, 3) := dk_182 1 100 (dk_at dksX0_sets_0 2 rfl rfl)
theorem dX0_sets_5 : decode cX0_sets 5 = .ok (.astore_n 2, 1) := dk_77 (dk_at dksX0_sets_0 5 rfl rfl)
theorem dX0_sets_6 : decode cX0_sets 6 = .ok (.aload_n 2, 1) := dk_44 (dk_at dksX0_sets_0 6 rfl rfl)
theorem dX0_sets_7 : decode cX0_sets 7 = .ok (.aload_n 0, 1) := dk_42 (dk_at dksX0_sets_0 7 rfl rfl)
theorem dX0_sets_8 : decode cX0_sets 8 = .ok (.getfield 102, 3) := dk_180 0 102 (dk_at dksX0_sets_0 8 rfl rfl)
theorem dX0_sets_11 : decode cX0_sets 11 = .ok (.aload_n 0, 1) := dk_42 (dk_at dksX0_sets_0 11 rfl rfl)
theorem dX0_sets_12 : decode cX0_sets 12 = .ok (.iload_n 1, 1) := dk_27 (dk_at dksX0_sets_0 12 rfl rfl)
theorem dX0_sets_13 : decode cX0_sets 13 = .ok (.invokevirtual 349, 3) := dk_182 1 93 (dk_at dksX0_sets_0 13 rfl rfl)
theorem dX0_sets_16 : decode cX0_sets 16 = .ok (.iaload, 1) := dk_46 (dk_at dksX0_sets_0 16 rfl rfl)
theorem dX0_sets_17 : decode cX0_sets 17 = .ok (.aload_n 0, 1) := dk_42 (dk_at dksX0_sets_0 17 rfl rfl)
theorem dX0_sets_18 : decode cX0_sets 18 = .ok (.getfield 99, 3) := dk_180 0 99 (dk_at dksX0_sets_0 18 rfl rfl)
theorem dX0_sets_21 : decode cX0_sets 21 = .ok (.aload_n 0, 1) := dk_42 (dk_at dksX0_sets_0 21 rfl rfl)
theorem dX0_sets_22 : decode cX0_sets 22 = .ok (.iload_n 1, 1) := dk_27 (dk_at dksX0_sets_0 22 rfl rfl)
theorem dX0_sets_23 : decode cX0_sets 23 = .ok (.invokevirtual 349, 3) := dk_182 1 93 (dk_at dksX0_sets_1 0 rfl rfl)
theorem dX0_sets_26 : decode cX0_sets 26 = .ok (.iaload, 1) := dk_46 (dk_at dksX0_sets_1 3 rfl rfl)
theorem dX0_sets_27 : decode cX0_sets 27 = .ok (.aload_n 0, 1) := dk_42 (dk_at dksX0_sets_1 4 rfl rfl)
theorem dX0_sets_28 : decode cX0_sets 28 = .ok (.getfield 93, 3) := dk_180 0 93 (dk_at dksX0_sets_1 5 rfl rfl)
theorem dX0_sets_31 : decode cX0_sets 31 = .ok (.invokeinterface 365 4, 5) := by decide +kernel
theorem dX0_sets_36 : decode cX0_sets 36 = .ok (.ireturn, 1) := dk_172 (dk_at dksX0_sets_1 13 rfl rfl)
abbrev cX0_feed : ByteArray := prog_1_method_57_code
def yX0_feed : MethodName := ⟨RX0, "feed", "(LAcornYears$Wood;I)I"⟩
def dkwX0_feed_6 : List UInt8 := [132, 4, 1, 167, 255, 121, 29, 172]
abbrev dktX0_feed_6 : List UInt8 := dkwX0_feed_6 ++ []
def dkwX0_feed_5 : List UInt8 := [180, 1, 26, 21, 4, 17, 0, 200, 21, 7, 42, 180, 0, 56, 21, 4, 46, 96, 184, 0, 207, 79]
abbrev dktX0_feed_5 : List UInt8 := dkwX0_feed_5 ++ dktX0_feed_6
def dkwX0_feed_4 : List UInt8 := [43, 180, 1, 26, 21, 4, 46, 42, 180, 0, 53, 21, 4, 46, 104, 16, 10, 108, 96, 54, 7, 43]
abbrev dktX0_feed_4 : List UInt8 := dkwX0_feed_4 ++ dktX0_feed_5
def dkwX0_feed_3 : List UInt8 := [51, 153, 0, 16, 21, 6, 42, 180, 0, 50, 21, 4, 46, 108, 167, 0, 29, 43, 180, 1, 26, 21, 4, 46]
abbrev dktX0_feed_3 : List UInt8 := dkwX0_feed_3 ++ dktX0_feed_4
def dkwX0_feed_2 : List UInt8 := [180, 1, 129, 21, 4, 21, 6, 21, 5, 162, 0, 7, 4, 167, 0, 4, 3, 84, 43, 180, 1, 129, 21, 4]
abbrev dktX0_feed_2 : List UInt8 := dkwX0_feed_2 ++ dktX0_feed_3
def dkwX0_feed_1 : List UInt8 := [180, 1, 26, 21, 4, 46, 104, 54, 5, 29, 21, 5, 184, 0, 207, 54, 6, 29, 21, 6, 100, 62, 43]
abbrev dktX0_feed_1 : List UInt8 := dkwX0_feed_1 ++ dktX0_feed_2
def dkwX0_feed_0 : List UInt8 := [28, 62, 3, 54, 4, 21, 4, 42, 180, 1, 17, 162, 0, 132, 42, 180, 0, 50, 21, 4, 46, 43]
abbrev dktX0_feed_0 : List UInt8 := dkwX0_feed_0 ++ dktX0_feed_1
theorem dksX0_feed_0 : cX0_feed.data.toList.drop 0 = dktX0_feed_0 := by decide +kernel
theorem dksX0_feed_1 : cX0_feed.data.toList.drop 22 = dktX0_feed_1 := dk_seg dksX0_feed_0 22 rfl rfl
theorem dksX0_feed_2 : cX0_feed.data.toList.drop 45 = dktX0_feed_2 := dk_seg dksX0_feed_1 23 rfl rfl
theorem dksX0_feed_3 : cX0_feed.data.toList.drop 69 = dktX0_feed_3 := dk_seg dksX0_feed_2 24 rfl rfl
theorem dksX0_feed_4 : cX0_feed.data.toList.drop 93 = dktX0_feed_4 := dk_seg dksX0_feed_3 24 rfl rfl
theorem dksX0_feed_5 : cX0_feed.data.toList.drop 115 = dktX0_feed_5 := dk_seg dksX0_feed_4 22 rfl rfl
theorem dksX0_feed_6 : cX0_feed.data.toList.drop 137 = dktX0_feed_6 := dk_seg dksX0_feed_5 22 rfl rfl
theorem dX0_feed_0 : decode cX0_feed 0 = .ok (.iload_n 2, 1) := dk_28 (dk_at dksX0_feed_0 0 rfl rfl)
theorem dX0_feed_1 : decode cX0_feed 1 = .ok (.istore_n 3, 1) := dk_62 (dk_at dksX0_feed_0 1 rfl rfl)
theorem dX0_feed_2 : decode cX0_feed 2 = .ok (.iconst 0, 1) := dk_3 (dk_at dksX0_feed_0 2 rfl rfl)
theorem dX0_feed_3 : decode cX0_feed 3 = .ok (.istore 4, 2) := dk_54 4 (dk_at dksX0_feed_0 3 rfl rfl)
theorem dX0_feed_5 : decode cX0_feed 5 = .ok (.iload 4, 2) := dk_21 4 (dk_at dksX0_feed_0 5 rfl rfl)
theorem dX0_feed_7 : decode cX0_feed 7 = .ok (.aload_n 0, 1) := dk_42 (dk_at dksX0_feed_0 7 rfl rfl)
theorem dX0_feed_8 : decode cX0_feed 8 = .ok (.getfield 273, 3) := dk_180 1 17 (dk_at dksX0_feed_0 8 rfl rfl)
theorem dX0_feed_11 : decode cX0_feed 11 = .ok (.if_icmp .ge 132, 3) := dk_162 0 132 (dk_at dksX0_feed_0 11 rfl rfl)
theorem dX0_feed_14 : decode cX0_feed 14 = .ok (.aload_n 0, 1) := dk_42 (dk_at dksX0_feed_0 14 rfl rfl)
theorem dX0_feed_15 : decode cX0_feed 15 = .ok (.getfield 50, 3) := dk_180 0 50 (dk_at dksX0_feed_0 15 rfl rfl)
theorem dX0_feed_18 : decode cX0_feed 18 = .ok (.iload 4, 2) := dk_21 4 (dk_at dksX0_feed_0 18 rfl rfl)
theorem dX0_feed_20 : decode cX0_feed 20 = .ok (.iaload, 1) := dk_46 (dk_at dksX0_feed_0 20 rfl rfl)
theorem dX0_feed_21 : decode cX0_feed 21 = .ok (.aload_n 1, 1) := dk_43 (dk_at dksX0_feed_0 21 rfl rfl)
theorem dX0_feed_22 : decode cX0_feed 22 = .ok (.getfield 282, 3) := dk_180 1 26 (dk_at dksX0_feed_1 0 rfl rfl)
theorem dX0_feed_25 : decode cX0_feed 25 = .ok (.iload 4, 2) := dk_21 4 (dk_at dksX0_feed_1 3 rfl rfl)
theorem dX0_feed_27 : decode cX0_feed 27 = .ok (.iaload, 1) := dk_46 (dk_at dksX0_feed_1 5 rfl rfl)
theorem dX0_feed_28 : decode cX0_feed 28 = .ok (.imul, 1) := dk_104 (dk_at dksX0_feed_1 6 rfl rfl)
theorem dX0_feed_29 : decode cX0_feed 29 = .ok (.istore 5, 2) := dk_54 5 (dk_at dksX0_feed_1 7 rfl rfl)
theorem dX0_feed_31 : decode cX0_feed 31 = .ok (.iload_n 3, 1) := dk_29 (dk_at dksX0_feed_1 9 rfl rfl)
theorem dX0_feed_32 : decode cX0_feed 32 = .ok (.iload 5, 2) := dk_21 5 (dk_at dksX0_feed_1 10 rfl rfl)
theorem dX0_feed_34 : decode cX0_feed 34 = .ok (.invokestatic 207, 3) := dk_184 0 207 (dk_at dksX0_feed_1 12 rfl rfl)
theorem dX0_feed_37 : decode cX0_feed 37 = .ok (.istore 6, 2) := dk_54 6 (dk_at dksX0_feed_1 15 rfl rfl)
theorem dX0_feed_39 : decode cX0_feed 39 = .ok (.iload_n 3, 1) := dk_29 (dk_at dksX0_feed_1 17 rfl rfl)
theorem dX0_feed_40 : decode cX0_feed 40 = .ok (.iload 6, 2) := dk_21 6 (dk_at dksX0_feed_1 18 rfl rfl)
theorem dX0_feed_42 : decode cX0_feed 42 = .ok (.isub, 1) := dk_100 (dk_at dksX0_feed_1 20 rfl rfl)
theorem dX0_feed_43 : decode cX0_feed 43 = .ok (.istore_n 3, 1) := dk_62 (dk_at dksX0_feed_1 21 rfl rfl)
theorem dX0_feed_44 : decode cX0_feed 44 = .ok (.aload_n 1, 1) := dk_43 (dk_at dksX0_feed_1 22 rfl rfl)
theorem dX0_feed_45 : decode cX0_feed 45 = .ok (.getfield 385, 3) := dk_180 1 129 (dk_at dksX0_feed_2 0 rfl rfl)
theorem dX0_feed_48 : decode cX0_feed 48 = .ok (.iload 4, 2) := dk_21 4 (dk_at dksX0_feed_2 3 rfl rfl)
theorem dX0_feed_50 : decode cX0_feed 50 = .ok (.iload 6, 2) := dk_21 6 (dk_at dksX0_feed_2 5 rfl rfl)
theorem dX0_feed_52 : decode cX0_feed 52 = .ok (.iload 5, 2) := dk_21 5 (dk_at dksX0_feed_2 7 rfl rfl)
theorem dX0_feed_54 : decode cX0_feed 54 = .ok (.if_icmp .ge 7, 3) := dk_162 0 7 (dk_at dksX0_feed_2 9 rfl rfl)
theorem dX0_feed_57 : decode cX0_feed 57 = .ok (.iconst 1, 1) := dk_4 (dk_at dksX0_feed_2 12 rfl rfl)
theorem dX0_feed_58 : decode cX0_feed 58 = .ok (.goto 4, 3) := dk_167 0 4 (dk_at dksX0_feed_2 13 rfl rfl)
theorem dX0_feed_61 : decode cX0_feed 61 = .ok (.iconst 0, 1) := dk_3 (dk_at dksX0_feed_2 16 rfl rfl)
theorem dX0_feed_62 : decode cX0_feed 62 = .ok (.bastore, 1) := dk_84 (dk_at dksX0_feed_2 17 rfl rfl)
theorem dX0_feed_63 : decode cX0_feed 63 = .ok (.aload_n 1, 1) := dk_43 (dk_at dksX0_feed_2 18 rfl rfl)
theorem dX0_feed_64 : decode cX0_feed 64 = .ok (.getfield 385, 3) := dk_180 1 129 (dk_at dksX0_feed_2 19 rfl rfl)
theorem dX0_feed_67 : decode cX0_feed 67 = .ok (.iload 4, 2) := dk_21 4 (dk_at dksX0_feed_2 22 rfl rfl)
theorem dX0_feed_69 : decode cX0_feed 69 = .ok (.baload, 1) := dk_51 (dk_at dksX0_feed_3 0 rfl rfl)
theorem dX0_feed_70 : decode cX0_feed 70 = .ok (.ifCond .eq 16, 3) := dk_153 0 16 (dk_at dksX0_feed_3 1 rfl rfl)
theorem dX0_feed_73 : decode cX0_feed 73 = .ok (.iload 6, 2) := dk_21 6 (dk_at dksX0_feed_3 4 rfl rfl)
theorem dX0_feed_75 : decode cX0_feed 75 = .ok (.aload_n 0, 1) := dk_42 (dk_at dksX0_feed_3 6 rfl rfl)
theorem dX0_feed_76 : decode cX0_feed 76 = .ok (.getfield 50, 3) := dk_180 0 50 (dk_at dksX0_feed_3 7 rfl rfl)
theorem dX0_feed_79 : decode cX0_feed 79 = .ok (.iload 4, 2) := dk_21 4 (dk_at dksX0_feed_3 10 rfl rfl)
theorem dX0_feed_81 : decode cX0_feed 81 = .ok (.iaload, 1) := dk_46 (dk_at dksX0_feed_3 12 rfl rfl)
theorem dX0_feed_82 : decode cX0_feed 82 = .ok (.idiv, 1) := dk_108 (dk_at dksX0_feed_3 13 rfl rfl)
theorem dX0_feed_83 : decode cX0_feed 83 = .ok (.goto 29, 3) := dk_167 0 29 (dk_at dksX0_feed_3 14 rfl rfl)
theorem dX0_feed_86 : decode cX0_feed 86 = .ok (.aload_n 1, 1) := dk_43 (dk_at dksX0_feed_3 17 rfl rfl)
theorem dX0_feed_87 : decode cX0_feed 87 = .ok (.getfield 282, 3) := dk_180 1 26 (dk_at dksX0_feed_3 18 rfl rfl)
theorem dX0_feed_90 : decode cX0_feed 90 = .ok (.iload 4, 2) := dk_21 4 (dk_at dksX0_feed_3 21 rfl rfl)
theorem dX0_feed_92 : decode cX0_feed 92 = .ok (.iaload, 1) := dk_46 (dk_at dksX0_feed_3 23 rfl rfl)
theorem dX0_feed_93 : decode cX0_feed 93 = .ok (.aload_n 1, 1) := dk_43 (dk_at dksX0_feed_4 0 rfl rfl)
theorem dX0_feed_94 : decode cX0_feed 94 = .ok (.getfield 282, 3) := dk_180 1 26 (dk_at dksX0_feed_4 1 rfl rfl)
theorem dX0_feed_97 : decode cX0_feed 97 = .ok (.iload 4, 2) := dk_21 4 (dk_at dksX0_feed_4 4 rfl rfl)
theorem dX0_feed_99 : decode cX0_feed 99 = .ok (.iaload, 1) := dk_46 (dk_at dksX0_feed_4 6 rfl rfl)
theorem dX0_feed_100 : decode cX0_feed 100 = .ok (.aload_n 0, 1) := dk_42 (dk_at dksX0_feed_4 7 rfl rfl)
theorem dX0_feed_101 : decode cX0_feed 101 = .ok (.getfield 53, 3) := dk_180 0 53 (dk_at dksX0_feed_4 8 rfl rfl)
theorem dX0_feed_104 : decode cX0_feed 104 = .ok (.iload 4, 2) := dk_21 4 (dk_at dksX0_feed_4 11 rfl rfl)
theorem dX0_feed_106 : decode cX0_feed 106 = .ok (.iaload, 1) := dk_46 (dk_at dksX0_feed_4 13 rfl rfl)
theorem dX0_feed_107 : decode cX0_feed 107 = .ok (.imul, 1) := dk_104 (dk_at dksX0_feed_4 14 rfl rfl)
theorem dX0_feed_108 : decode cX0_feed 108 = .ok (.bipush 10, 2) := dk_16 10 (dk_at dksX0_feed_4 15 rfl rfl)
theorem dX0_feed_110 : decode cX0_feed 110 = .ok (.idiv, 1) := dk_108 (dk_at dksX0_feed_4 17 rfl rfl)
theorem dX0_feed_111 : decode cX0_feed 111 = .ok (.iadd, 1) := dk_96 (dk_at dksX0_feed_4 18 rfl rfl)
theorem dX0_feed_112 : decode cX0_feed 112 = .ok (.istore 7, 2) := dk_54 7 (dk_at dksX0_feed_4 19 rfl rfl)
theorem dX0_feed_114 : decode cX0_feed 114 = .ok (.aload_n 1, 1) := dk_43 (dk_at dksX0_feed_4 21 rfl rfl)
theorem dX0_feed_115 : decode cX0_feed 115 = .ok (.getfield 282, 3) := dk_180 1 26 (dk_at dksX0_feed_5 0 rfl rfl)
theorem dX0_feed_118 : decode cX0_feed 118 = .ok (.iload 4, 2) := dk_21 4 (dk_at dksX0_feed_5 3 rfl rfl)
theorem dX0_feed_120 : decode cX0_feed 120 = .ok (.sipush 200, 3) := dk_17 0 200 (dk_at dksX0_feed_5 5 rfl rfl)
theorem dX0_feed_123 : decode cX0_feed 123 = .ok (.iload 7, 2) := dk_21 7 (dk_at dksX0_feed_5 8 rfl rfl)
theorem dX0_feed_125 : decode cX0_feed 125 = .ok (.aload_n 0, 1) := dk_42 (dk_at dksX0_feed_5 10 rfl rfl)
theorem dX0_feed_126 : decode cX0_feed 126 = .ok (.getfield 56, 3) := dk_180 0 56 (dk_at dksX0_feed_5 11 rfl rfl)
theorem dX0_feed_129 : decode cX0_feed 129 = .ok (.iload 4, 2) := dk_21 4 (dk_at dksX0_feed_5 14 rfl rfl)
theorem dX0_feed_131 : decode cX0_feed 131 = .ok (.iaload, 1) := dk_46 (dk_at dksX0_feed_5 16 rfl rfl)
theorem dX0_feed_132 : decode cX0_feed 132 = .ok (.iadd, 1) := dk_96 (dk_at dksX0_feed_5 17 rfl rfl)
theorem dX0_feed_133 : decode cX0_feed 133 = .ok (.invokestatic 207, 3) := dk_184 0 207 (dk_at dksX0_feed_5 18 rfl rfl)
theorem dX0_feed_136 : decode cX0_feed 136 = .ok (.iastore, 1) := dk_79 (dk_at dksX0_feed_5 21 rfl rfl)
theorem dX0_feed_137 : decode cX0_feed 137 = .ok (.iinc 4 1, 3) := dk_132 4 1 (dk_at dksX0_feed_6 0 rfl rfl)
theorem dX0_feed_140 : decode cX0_feed 140 = .ok (.goto (-135), 3) := dk_167 255 121 (dk_at dksX0_feed_6 3 rfl rfl)
theorem dX0_feed_143 : decode cX0_feed 143 = .ok (.iload_n 3, 1) := dk_29 (dk_at dksX0_feed_6 6 rfl rfl)
theorem dX0_feed_144 : decode cX0_feed 144 = .ok (.ireturn, 1) := dk_172 (dk_at dksX0_feed_6 7 rfl rfl)
abbrev cX0_run : ByteArray := prog_1_method_62_code
def yX0_run : MethodName := ⟨RX0, "run", "(I)I"⟩
def dkwX0_run_3 : List UInt8 := [29, 42, 180, 0, 86, 180, 1, 143, 96, 62, 132, 4, 1, 167, 255, 210, 42, 28, 29, 182, 0, 147, 172]
abbrev dktX0_run_3 : List UInt8 := dkwX0_run_3 ++ []
def dkwX0_run_2 : List UInt8 := [180, 0, 86, 180, 1, 23, 4, 96, 182, 1, 153, 182, 1, 150, 28, 42, 180, 0, 86, 180, 1, 118, 96, 61]
abbrev dktX0_run_2 : List UInt8 := dkwX0_run_2 ++ dktX0_run_3
def dkwX0_run_1 : List UInt8 := [100, 164, 0, 6, 16, 252, 172, 3, 61, 3, 62, 3, 54, 4, 21, 4, 27, 162, 0, 46, 42, 42, 42]
abbrev dktX0_run_1 : List UInt8 := dkwX0_run_1 ++ dktX0_run_2
def dkwX0_run_0 : List UInt8 := [27, 3, 17, 0, 200, 184, 0, 129, 154, 0, 5, 2, 172, 27, 17, 39, 15, 42, 180, 0, 86, 180, 1, 23]
abbrev dktX0_run_0 : List UInt8 := dkwX0_run_0 ++ dktX0_run_1
theorem dksX0_run_0 : cX0_run.data.toList.drop 0 = dktX0_run_0 := by decide +kernel
theorem dksX0_run_1 : cX0_run.data.toList.drop 24 = dktX0_run_1 := dk_seg dksX0_run_0 24 rfl rfl
theorem dksX0_run_2 : cX0_run.data.toList.drop 47 = dktX0_run_2 := dk_seg dksX0_run_1 23 rfl rfl
theorem dksX0_run_3 : cX0_run.data.toList.drop 71 = dktX0_run_3 := dk_seg dksX0_run_2 24 rfl rfl
theorem dX0_run_0 : decode cX0_run 0 = .ok (.iload_n 1, 1) := dk_27 (dk_at dksX0_run_0 0 rfl rfl)
theorem dX0_run_1 : decode cX0_run 1 = .ok (.iconst 0, 1) := dk_3 (dk_at dksX0_run_0 1 rfl rfl)
theorem dX0_run_2 : decode cX0_run 2 = .ok (.sipush 200, 3) := dk_17 0 200 (dk_at dksX0_run_0 2 rfl rfl)
theorem dX0_run_5 : decode cX0_run 5 = .ok (.invokestatic 129, 3) := dk_184 0 129 (dk_at dksX0_run_0 5 rfl rfl)
theorem dX0_run_8 : decode cX0_run 8 = .ok (.ifCond .ne 5, 3) := dk_154 0 5 (dk_at dksX0_run_0 8 rfl rfl)
theorem dX0_run_11 : decode cX0_run 11 = .ok (.iconst (-1), 1) := dk_2 (dk_at dksX0_run_0 11 rfl rfl)
theorem dX0_run_12 : decode cX0_run 12 = .ok (.ireturn, 1) := dk_172 (dk_at dksX0_run_0 12 rfl rfl)
theorem dX0_run_13 : decode cX0_run 13 = .ok (.iload_n 1, 1) := dk_27 (dk_at dksX0_run_0 13 rfl rfl)
theorem dX0_run_14 : decode cX0_run 14 = .ok (.sipush 9999, 3) := dk_17 39 15 (dk_at dksX0_run_0 14 rfl rfl)
theorem dX0_run_17 : decode cX0_run 17 = .ok (.aload_n 0, 1) := dk_42 (dk_at dksX0_run_0 17 rfl rfl)
theorem dX0_run_18 : decode cX0_run 18 = .ok (.getfield 86, 3) := dk_180 0 86 (dk_at dksX0_run_0 18 rfl rfl)
theorem dX0_run_21 : decode cX0_run 21 = .ok (.getfield 279, 3) := dk_180 1 23 (dk_at dksX0_run_0 21 rfl rfl)
theorem dX0_run_24 : decode cX0_run 24 = .ok (.isub, 1) := dk_100 (dk_at dksX0_run_1 0 rfl rfl)
theorem dX0_run_25 : decode cX0_run 25 = .ok (.if_icmp .le 6, 3) := dk_164 0 6 (dk_at dksX0_run_1 1 rfl rfl)
theorem dX0_run_28 : decode cX0_run 28 = .ok (.bipush (-4), 2) := dk_16 252 (dk_at dksX0_run_1 4 rfl rfl)
theorem dX0_run_30 : decode cX0_run 30 = .ok (.ireturn, 1) := dk_172 (dk_at dksX0_run_1 6 rfl rfl)
theorem dX0_run_31 : decode cX0_run 31 = .ok (.iconst 0, 1) := dk_3 (dk_at dksX0_run_1 7 rfl rfl)
theorem dX0_run_32 : decode cX0_run 32 = .ok (.istore_n 2, 1) := dk_61 (dk_at dksX0_run_1 8 rfl rfl)
theorem dX0_run_33 : decode cX0_run 33 = .ok (.iconst 0, 1) := dk_3 (dk_at dksX0_run_1 9 rfl rfl)
theorem dX0_run_34 : decode cX0_run 34 = .ok (.istore_n 3, 1) := dk_62 (dk_at dksX0_run_1 10 rfl rfl)
theorem dX0_run_35 : decode cX0_run 35 = .ok (.iconst 0, 1) := dk_3 (dk_at dksX0_run_1 11 rfl rfl)
theorem dX0_run_36 : decode cX0_run 36 = .ok (.istore 4, 2) := dk_54 4 (dk_at dksX0_run_1 12 rfl rfl)
theorem dX0_run_38 : decode cX0_run 38 = .ok (.iload 4, 2) := dk_21 4 (dk_at dksX0_run_1 14 rfl rfl)
theorem dX0_run_40 : decode cX0_run 40 = .ok (.iload_n 1, 1) := dk_27 (dk_at dksX0_run_1 16 rfl rfl)
theorem dX0_run_41 : decode cX0_run 41 = .ok (.if_icmp .ge 46, 3) := dk_162 0 46 (dk_at dksX0_run_1 17 rfl rfl)
theorem dX0_run_44 : decode cX0_run 44 = .ok (.aload_n 0, 1) := dk_42 (dk_at dksX0_run_1 20 rfl rfl)
theorem dX0_run_45 : decode cX0_run 45 = .ok (.aload_n 0, 1) := dk_42 (dk_at dksX0_run_1 21 rfl rfl)
theorem dX0_run_46 : decode cX0_run 46 = .ok (.aload_n 0, 1) := dk_42 (dk_at dksX0_run_1 22 rfl rfl)
theorem dX0_run_47 : decode cX0_run 47 = .ok (.getfield 86, 3) := dk_180 0 86 (dk_at dksX0_run_2 0 rfl rfl)
theorem dX0_run_50 : decode cX0_run 50 = .ok (.getfield 279, 3) := dk_180 1 23 (dk_at dksX0_run_2 3 rfl rfl)
theorem dX0_run_53 : decode cX0_run 53 = .ok (.iconst 1, 1) := dk_4 (dk_at dksX0_run_2 6 rfl rfl)
theorem dX0_run_54 : decode cX0_run 54 = .ok (.iadd, 1) := dk_96 (dk_at dksX0_run_2 7 rfl rfl)
theorem dX0_run_55 : decode cX0_run 55 = .ok (.invokevirtual 409, 3) := dk_182 1 153 (dk_at dksX0_run_2 8 rfl rfl)
theorem dX0_run_58 : decode cX0_run 58 = .ok (.invokevirtual 406, 3) := dk_182 1 150 (dk_at dksX0_run_2 11 rfl rfl)
theorem dX0_run_61 : decode cX0_run 61 = .ok (.iload_n 2, 1) := dk_28 (dk_at dksX0_run_2 14 rfl rfl)
theorem dX0_run_62 : decode cX0_run 62 = .ok (.aload_n 0, 1) := dk_42 (dk_at dksX0_run_2 15 rfl rfl)
theorem dX0_run_63 : decode cX0_run 63 = .ok (.getfield 86, 3) := dk_180 0 86 (dk_at dksX0_run_2 16 rfl rfl)
theorem dX0_run_66 : decode cX0_run 66 = .ok (.getfield 374, 3) := dk_180 1 118 (dk_at dksX0_run_2 19 rfl rfl)
theorem dX0_run_69 : decode cX0_run 69 = .ok (.iadd, 1) := dk_96 (dk_at dksX0_run_2 22 rfl rfl)
theorem dX0_run_70 : decode cX0_run 70 = .ok (.istore_n 2, 1) := dk_61 (dk_at dksX0_run_2 23 rfl rfl)
theorem dX0_run_71 : decode cX0_run 71 = .ok (.iload_n 3, 1) := dk_29 (dk_at dksX0_run_3 0 rfl rfl)
theorem dX0_run_72 : decode cX0_run 72 = .ok (.aload_n 0, 1) := dk_42 (dk_at dksX0_run_3 1 rfl rfl)
theorem dX0_run_73 : decode cX0_run 73 = .ok (.getfield 86, 3) := dk_180 0 86 (dk_at dksX0_run_3 2 rfl rfl)
theorem dX0_run_76 : decode cX0_run 76 = .ok (.getfield 399, 3) := dk_180 1 143 (dk_at dksX0_run_3 5 rfl rfl)
theorem dX0_run_79 : decode cX0_run 79 = .ok (.iadd, 1) := dk_96 (dk_at dksX0_run_3 8 rfl rfl)
theorem dX0_run_80 : decode cX0_run 80 = .ok (.istore_n 3, 1) := dk_62 (dk_at dksX0_run_3 9 rfl rfl)
theorem dX0_run_81 : decode cX0_run 81 = .ok (.iinc 4 1, 3) := dk_132 4 1 (dk_at dksX0_run_3 10 rfl rfl)
theorem dX0_run_84 : decode cX0_run 84 = .ok (.goto (-46), 3) := dk_167 255 210 (dk_at dksX0_run_3 13 rfl rfl)
theorem dX0_run_87 : decode cX0_run 87 = .ok (.aload_n 0, 1) := dk_42 (dk_at dksX0_run_3 16 rfl rfl)
theorem dX0_run_88 : decode cX0_run 88 = .ok (.iload_n 2, 1) := dk_28 (dk_at dksX0_run_3 17 rfl rfl)
theorem dX0_run_89 : decode cX0_run 89 = .ok (.iload_n 3, 1) := dk_29 (dk_at dksX0_run_3 18 rfl rfl)
theorem dX0_run_90 : decode cX0_run 90 = .ok (.invokevirtual 147, 3) := dk_182 0 147 (dk_at dksX0_run_3 19 rfl rfl)
theorem dX0_run_93 : decode cX0_run 93 = .ok (.ireturn, 1) := dk_172 (dk_at dksX0_run_3 22 rfl rfl)
abbrev cX0_mayOf : ByteArray := prog_1_method_59_code
def yX0_mayOf : MethodName := ⟨RX0, "mayOf", "(I)I"⟩
def dkwX0_mayOf_0 : List UInt8 := [42, 180, 0, 126, 27, 4, 100, 42, 180, 0, 126, 190, 112, 51, 172]
abbrev dktX0_mayOf_0 : List UInt8 := dkwX0_mayOf_0 ++ []
theorem dksX0_mayOf_0 : cX0_mayOf.data.toList.drop 0 = dktX0_mayOf_0 := by decide +kernel
theorem dX0_mayOf_0 : decode cX0_mayOf 0 = .ok (.aload_n 0, 1) := dk_42 (dk_at dksX0_mayOf_0 0 rfl rfl)
theorem dX0_mayOf_1 : decode cX0_mayOf 1 = .ok (.getfield 126, 3) := dk_180 0 126 (dk_at dksX0_mayOf_0 1 rfl rfl)
theorem dX0_mayOf_4 : decode cX0_mayOf 4 = .ok (.iload_n 1, 1) := dk_27 (dk_at dksX0_mayOf_0 4 rfl rfl)
theorem dX0_mayOf_5 : decode cX0_mayOf 5 = .ok (.iconst 1, 1) := dk_4 (dk_at dksX0_mayOf_0 5 rfl rfl)
theorem dX0_mayOf_6 : decode cX0_mayOf 6 = .ok (.isub, 1) := dk_100 (dk_at dksX0_mayOf_0 6 rfl rfl)
theorem dX0_mayOf_7 : decode cX0_mayOf 7 = .ok (.aload_n 0, 1) := dk_42 (dk_at dksX0_mayOf_0 7 rfl rfl)
theorem dX0_mayOf_8 : decode cX0_mayOf 8 = .ok (.getfield 126, 3) := dk_180 0 126 (dk_at dksX0_mayOf_0 8 rfl rfl)
theorem dX0_mayOf_11 : decode cX0_mayOf 11 = .ok (.arraylength, 1) := dk_190 (dk_at dksX0_mayOf_0 11 rfl rfl)
theorem dX0_mayOf_12 : decode cX0_mayOf 12 = .ok (.irem, 1) := dk_112 (dk_at dksX0_mayOf_0 12 rfl rfl)
theorem dX0_mayOf_13 : decode cX0_mayOf 13 = .ok (.baload, 1) := dk_51 (dk_at dksX0_mayOf_0 13 rfl rfl)
theorem dX0_mayOf_14 : decode cX0_mayOf 14 = .ok (.ireturn, 1) := dk_172 (dk_at dksX0_mayOf_0 14 rfl rfl)
abbrev cX0_image : ByteArray := prog_1_method_63_code
def yX0_image : MethodName := ⟨RX0, "image", "(I)I"⟩
def dkwX0_image_5 : List UInt8 := [172]
abbrev dktX0_image_5 : List UInt8 := dkwX0_image_5 ++ []
def dkwX0_image_4 : List UInt8 := [180, 0, 79, 29, 50, 180, 1, 71, 79, 132, 3, 1, 167, 255, 197, 42, 180, 0, 28, 27, 44, 83, 44, 190]
abbrev dktX0_image_4 : List UInt8 := dkwX0_image_4 ++ dktX0_image_5
def dkwX0_image_3 : List UInt8 := [79, 44, 7, 6, 29, 104, 96, 42, 180, 0, 79, 29, 50, 180, 1, 68, 79, 44, 8, 6, 29, 104, 96, 42]
abbrev dktX0_image_3 : List UInt8 := dkwX0_image_3 ++ dktX0_image_4
def dkwX0_image_2 : List UInt8 := [62, 29, 42, 180, 1, 20, 162, 0, 57, 44, 6, 6, 29, 104, 96, 42, 180, 0, 86, 180, 1, 32, 29, 46]
abbrev dktX0_image_2 : List UInt8 := dkwX0_image_2 ++ dktX0_image_3
def dkwX0_image_1 : List UInt8 := [180, 0, 86, 180, 1, 23, 79, 44, 4, 42, 3, 182, 1, 83, 79, 44, 5, 42, 4, 182, 1, 83, 79, 3]
abbrev dktX0_image_1 : List UInt8 := dkwX0_image_1 ++ dktX0_image_2
def dkwX0_image_0 : List UInt8 := [27, 184, 0, 133, 154, 0, 5, 2, 172, 6, 6, 42, 180, 1, 20, 104, 96, 188, 10, 77, 44, 3, 42]
abbrev dktX0_image_0 : List UInt8 := dkwX0_image_0 ++ dktX0_image_1
theorem dksX0_image_0 : cX0_image.data.toList.drop 0 = dktX0_image_0 := by decide +kernel
theorem dksX0_image_1 : cX0_image.data.toList.drop 23 = dktX0_image_1 := dk_seg dksX0_image_0 23 rfl rfl
theorem dksX0_image_2 : cX0_image.data.toList.drop 47 = dktX0_image_2 := dk_seg dksX0_image_1 24 rfl rfl
theorem dksX0_image_3 : cX0_image.data.toList.drop 71 = dktX0_image_3 := dk_seg dksX0_image_2 24 rfl rfl
theorem dksX0_image_4 : cX0_image.data.toList.drop 95 = dktX0_image_4 := dk_seg dksX0_image_3 24 rfl rfl
theorem dksX0_image_5 : cX0_image.data.toList.drop 119 = dktX0_image_5 := dk_seg dksX0_image_4 24 rfl rfl
theorem dX0_image_0 : decode cX0_image 0 = .ok (.iload_n 1, 1) := dk_27 (dk_at dksX0_image_0 0 rfl rfl)
theorem dX0_image_1 : decode cX0_image 1 = .ok (.invokestatic 133, 3) := dk_184 0 133 (dk_at dksX0_image_0 1 rfl rfl)
theorem dX0_image_4 : decode cX0_image 4 = .ok (.ifCond .ne 5, 3) := dk_154 0 5 (dk_at dksX0_image_0 4 rfl rfl)
theorem dX0_image_7 : decode cX0_image 7 = .ok (.iconst (-1), 1) := dk_2 (dk_at dksX0_image_0 7 rfl rfl)
theorem dX0_image_8 : decode cX0_image 8 = .ok (.ireturn, 1) := dk_172 (dk_at dksX0_image_0 8 rfl rfl)
theorem dX0_image_9 : decode cX0_image 9 = .ok (.iconst 3, 1) := dk_6 (dk_at dksX0_image_0 9 rfl rfl)
theorem dX0_image_10 : decode cX0_image 10 = .ok (.iconst 3, 1) := dk_6 (dk_at dksX0_image_0 10 rfl rfl)
theorem dX0_image_11 : decode cX0_image 11 = .ok (.aload_n 0, 1) := dk_42 (dk_at dksX0_image_0 11 rfl rfl)
theorem dX0_image_12 : decode cX0_image 12 = .ok (.getfield 276, 3) := dk_180 1 20 (dk_at dksX0_image_0 12 rfl rfl)
theorem dX0_image_15 : decode cX0_image 15 = .ok (.imul, 1) := dk_104 (dk_at dksX0_image_0 15 rfl rfl)
theorem dX0_image_16 : decode cX0_image 16 = .ok (.iadd, 1) := dk_96 (dk_at dksX0_image_0 16 rfl rfl)
theorem dX0_image_17 : decode cX0_image 17 = .ok (.newarray .int, 2) := dk_188_10 (dk_at dksX0_image_0 17 rfl rfl)
theorem dX0_image_19 : decode cX0_image 19 = .ok (.astore_n 2, 1) := dk_77 (dk_at dksX0_image_0 19 rfl rfl)
theorem dX0_image_20 : decode cX0_image 20 = .ok (.aload_n 2, 1) := dk_44 (dk_at dksX0_image_0 20 rfl rfl)
theorem dX0_image_21 : decode cX0_image 21 = .ok (.iconst 0, 1) := dk_3 (dk_at dksX0_image_0 21 rfl rfl)
theorem dX0_image_22 : decode cX0_image 22 = .ok (.aload_n 0, 1) := dk_42 (dk_at dksX0_image_0 22 rfl rfl)
theorem dX0_image_23 : decode cX0_image 23 = .ok (.getfield 86, 3) := dk_180 0 86 (dk_at dksX0_image_1 0 rfl rfl)
theorem dX0_image_26 : decode cX0_image 26 = .ok (.getfield 279, 3) := dk_180 1 23 (dk_at dksX0_image_1 3 rfl rfl)
theorem dX0_image_29 : decode cX0_image 29 = .ok (.iastore, 1) := dk_79 (dk_at dksX0_image_1 6 rfl rfl)
theorem dX0_image_30 : decode cX0_image 30 = .ok (.aload_n 2, 1) := dk_44 (dk_at dksX0_image_1 7 rfl rfl)
theorem dX0_image_31 : decode cX0_image 31 = .ok (.iconst 1, 1) := dk_4 (dk_at dksX0_image_1 8 rfl rfl)
theorem dX0_image_32 : decode cX0_image 32 = .ok (.aload_n 0, 1) := dk_42 (dk_at dksX0_image_1 9 rfl rfl)
theorem dX0_image_33 : decode cX0_image 33 = .ok (.iconst 0, 1) := dk_3 (dk_at dksX0_image_1 10 rfl rfl)
theorem dX0_image_34 : decode cX0_image 34 = .ok (.invokevirtual 339, 3) := dk_182 1 83 (dk_at dksX0_image_1 11 rfl rfl)
theorem dX0_image_37 : decode cX0_image 37 = .ok (.iastore, 1) := dk_79 (dk_at dksX0_image_1 14 rfl rfl)
theorem dX0_image_38 : decode cX0_image 38 = .ok (.aload_n 2, 1) := dk_44 (dk_at dksX0_image_1 15 rfl rfl)
theorem dX0_image_39 : decode cX0_image 39 = .ok (.iconst 2, 1) := dk_5 (dk_at dksX0_image_1 16 rfl rfl)
theorem dX0_image_40 : decode cX0_image 40 = .ok (.aload_n 0, 1) := dk_42 (dk_at dksX0_image_1 17 rfl rfl)
theorem dX0_image_41 : decode cX0_image 41 = .ok (.iconst 1, 1) := dk_4 (dk_at dksX0_image_1 18 rfl rfl)
theorem dX0_image_42 : decode cX0_image 42 = .ok (.invokevirtual 339, 3) := dk_182 1 83 (dk_at dksX0_image_1 19 rfl rfl)
theorem dX0_image_45 : decode cX0_image 45 = .ok (.iastore, 1) := dk_79 (dk_at dksX0_image_1 22 rfl rfl)
theorem dX0_image_46 : decode cX0_image 46 = .ok (.iconst 0, 1) := dk_3 (dk_at dksX0_image_1 23 rfl rfl)
theorem dX0_image_47 : decode cX0_image 47 = .ok (.istore_n 3, 1) := dk_62 (dk_at dksX0_image_2 0 rfl rfl)
theorem dX0_image_48 : decode cX0_image 48 = .ok (.iload_n 3, 1) := dk_29 (dk_at dksX0_image_2 1 rfl rfl)
theorem dX0_image_49 : decode cX0_image 49 = .ok (.aload_n 0, 1) := dk_42 (dk_at dksX0_image_2 2 rfl rfl)
theorem dX0_image_50 : decode cX0_image 50 = .ok (.getfield 276, 3) := dk_180 1 20 (dk_at dksX0_image_2 3 rfl rfl)
theorem dX0_image_53 : decode cX0_image 53 = .ok (.if_icmp .ge 57, 3) := dk_162 0 57 (dk_at dksX0_image_2 6 rfl rfl)
theorem dX0_image_56 : decode cX0_image 56 = .ok (.aload_n 2, 1) := dk_44 (dk_at dksX0_image_2 9 rfl rfl)
theorem dX0_image_57 : decode cX0_image 57 = .ok (.iconst 3, 1) := dk_6 (dk_at dksX0_image_2 10 rfl rfl)
theorem dX0_image_58 : decode cX0_image 58 = .ok (.iconst 3, 1) := dk_6 (dk_at dksX0_image_2 11 rfl rfl)
theorem dX0_image_59 : decode cX0_image 59 = .ok (.iload_n 3, 1) := dk_29 (dk_at dksX0_image_2 12 rfl rfl)
theorem dX0_image_60 : decode cX0_image 60 = .ok (.imul, 1) := dk_104 (dk_at dksX0_image_2 13 rfl rfl)
theorem dX0_image_61 : decode cX0_image 61 = .ok (.iadd, 1) := dk_96 (dk_at dksX0_image_2 14 rfl rfl)
theorem dX0_image_62 : decode cX0_image 62 = .ok (.aload_n 0, 1) := dk_42 (dk_at dksX0_image_2 15 rfl rfl)
theorem dX0_image_63 : decode cX0_image 63 = .ok (.getfield 86, 3) := dk_180 0 86 (dk_at dksX0_image_2 16 rfl rfl)
theorem dX0_image_66 : decode cX0_image 66 = .ok (.getfield 288, 3) := dk_180 1 32 (dk_at dksX0_image_2 19 rfl rfl)
theorem dX0_image_69 : decode cX0_image 69 = .ok (.iload_n 3, 1) := dk_29 (dk_at dksX0_image_2 22 rfl rfl)
theorem dX0_image_70 : decode cX0_image 70 = .ok (.iaload, 1) := dk_46 (dk_at dksX0_image_2 23 rfl rfl)
theorem dX0_image_71 : decode cX0_image 71 = .ok (.iastore, 1) := dk_79 (dk_at dksX0_image_3 0 rfl rfl)
theorem dX0_image_72 : decode cX0_image 72 = .ok (.aload_n 2, 1) := dk_44 (dk_at dksX0_image_3 1 rfl rfl)
theorem dX0_image_73 : decode cX0_image 73 = .ok (.iconst 4, 1) := dk_7 (dk_at dksX0_image_3 2 rfl rfl)
theorem dX0_image_74 : decode cX0_image 74 = .ok (.iconst 3, 1) := dk_6 (dk_at dksX0_image_3 3 rfl rfl)
theorem dX0_image_75 : decode cX0_image 75 = .ok (.iload_n 3, 1) := dk_29 (dk_at dksX0_image_3 4 rfl rfl)
theorem dX0_image_76 : decode cX0_image 76 = .ok (.imul, 1) := dk_104 (dk_at dksX0_image_3 5 rfl rfl)
theorem dX0_image_77 : decode cX0_image 77 = .ok (.iadd, 1) := dk_96 (dk_at dksX0_image_3 6 rfl rfl)
theorem dX0_image_78 : decode cX0_image 78 = .ok (.aload_n 0, 1) := dk_42 (dk_at dksX0_image_3 7 rfl rfl)
theorem dX0_image_79 : decode cX0_image 79 = .ok (.getfield 79, 3) := dk_180 0 79 (dk_at dksX0_image_3 8 rfl rfl)
theorem dX0_image_82 : decode cX0_image 82 = .ok (.iload_n 3, 1) := dk_29 (dk_at dksX0_image_3 11 rfl rfl)
theorem dX0_image_83 : decode cX0_image 83 = .ok (.aaload, 1) := dk_50 (dk_at dksX0_image_3 12 rfl rfl)
theorem dX0_image_84 : decode cX0_image 84 = .ok (.getfield 324, 3) := dk_180 1 68 (dk_at dksX0_image_3 13 rfl rfl)
theorem dX0_image_87 : decode cX0_image 87 = .ok (.iastore, 1) := dk_79 (dk_at dksX0_image_3 16 rfl rfl)
theorem dX0_image_88 : decode cX0_image 88 = .ok (.aload_n 2, 1) := dk_44 (dk_at dksX0_image_3 17 rfl rfl)
theorem dX0_image_89 : decode cX0_image 89 = .ok (.iconst 5, 1) := dk_8 (dk_at dksX0_image_3 18 rfl rfl)
theorem dX0_image_90 : decode cX0_image 90 = .ok (.iconst 3, 1) := dk_6 (dk_at dksX0_image_3 19 rfl rfl)
theorem dX0_image_91 : decode cX0_image 91 = .ok (.iload_n 3, 1) := dk_29 (dk_at dksX0_image_3 20 rfl rfl)
theorem dX0_image_92 : decode cX0_image 92 = .ok (.imul, 1) := dk_104 (dk_at dksX0_image_3 21 rfl rfl)
theorem dX0_image_93 : decode cX0_image 93 = .ok (.iadd, 1) := dk_96 (dk_at dksX0_image_3 22 rfl rfl)
theorem dX0_image_94 : decode cX0_image 94 = .ok (.aload_n 0, 1) := dk_42 (dk_at dksX0_image_3 23 rfl rfl)
theorem dX0_image_95 : decode cX0_image 95 = .ok (.getfield 79, 3) := dk_180 0 79 (dk_at dksX0_image_4 0 rfl rfl)
theorem dX0_image_98 : decode cX0_image 98 = .ok (.iload_n 3, 1) := dk_29 (dk_at dksX0_image_4 3 rfl rfl)
theorem dX0_image_99 : decode cX0_image 99 = .ok (.aaload, 1) := dk_50 (dk_at dksX0_image_4 4 rfl rfl)
theorem dX0_image_100 : decode cX0_image 100 = .ok (.getfield 327, 3) := dk_180 1 71 (dk_at dksX0_image_4 5 rfl rfl)
theorem dX0_image_103 : decode cX0_image 103 = .ok (.iastore, 1) := dk_79 (dk_at dksX0_image_4 8 rfl rfl)
theorem dX0_image_104 : decode cX0_image 104 = .ok (.iinc 3 1, 3) := dk_132 3 1 (dk_at dksX0_image_4 9 rfl rfl)
theorem dX0_image_107 : decode cX0_image 107 = .ok (.goto (-59), 3) := dk_167 255 197 (dk_at dksX0_image_4 12 rfl rfl)
theorem dX0_image_110 : decode cX0_image 110 = .ok (.aload_n 0, 1) := dk_42 (dk_at dksX0_image_4 15 rfl rfl)
theorem dX0_image_111 : decode cX0_image 111 = .ok (.getfield 28, 3) := dk_180 0 28 (dk_at dksX0_image_4 16 rfl rfl)
theorem dX0_image_114 : decode cX0_image 114 = .ok (.iload_n 1, 1) := dk_27 (dk_at dksX0_image_4 19 rfl rfl)
theorem dX0_image_115 : decode cX0_image 115 = .ok (.aload_n 2, 1) := dk_44 (dk_at dksX0_image_4 20 rfl rfl)
theorem dX0_image_116 : decode cX0_image 116 = .ok (.aastore, 1) := dk_83 (dk_at dksX0_image_4 21 rfl rfl)
theorem dX0_image_117 : decode cX0_image 117 = .ok (.aload_n 2, 1) := dk_44 (dk_at dksX0_image_4 22 rfl rfl)
theorem dX0_image_118 : decode cX0_image 118 = .ok (.arraylength, 1) := dk_190 (dk_at dksX0_image_4 23 rfl rfl)
theorem dX0_image_119 : decode cX0_image 119 = .ok (.ireturn, 1) := dk_172 (dk_at dksX0_image_5 0 rfl rfl)
abbrev cX0_on : ByteArray := prog_1_method_65_code
def yX0_on : MethodName := ⟨RX0, "on", "(I)I"⟩
def dkwX0_on_6 : List UInt8 := [42, 180, 0, 79, 29, 50, 44, 8, 6, 29, 104, 96, 46, 181, 1, 71, 132, 3, 1, 167, 255, 197, 4, 172]
abbrev dktX0_on_6 : List UInt8 := dkwX0_on_6 ++ []
def dkwX0_on_5 : List UInt8 := [44, 6, 6, 29, 104, 96, 46, 79, 42, 180, 0, 79, 29, 50, 44, 7, 6, 29, 104, 96, 46, 181, 1, 68]
abbrev dktX0_on_5 : List UInt8 := dkwX0_on_5 ++ dktX0_on_6
def dkwX0_on_4 : List UInt8 := [132, 3, 1, 167, 255, 231, 3, 62, 29, 42, 180, 1, 20, 162, 0, 57, 42, 180, 0, 86, 180, 1, 32, 29]
abbrev dktX0_on_4 : List UInt8 := dkwX0_on_4 ++ dktX0_on_5
def dkwX0_on_3 : List UInt8 := [62, 29, 42, 180, 1, 17, 162, 0, 23, 42, 180, 0, 86, 180, 1, 26, 29, 44, 4, 29, 96, 46, 79]
abbrev dktX0_on_3 : List UInt8 := dkwX0_on_3 ++ dktX0_on_4
def dkwX0_on_2 : List UInt8 := [44, 182, 1, 156, 154, 0, 9, 42, 6, 182, 0, 139, 172, 42, 180, 0, 86, 44, 3, 46, 181, 1, 23, 3]
abbrev dktX0_on_2 : List UInt8 := dkwX0_on_2 ++ dktX0_on_3
def dkwX0_on_1 : List UInt8 := [182, 0, 139, 172, 44, 190, 6, 6, 42, 180, 1, 20, 104, 96, 159, 0, 9, 42, 8, 182, 0, 139, 172, 42]
abbrev dktX0_on_1 : List UInt8 := dkwX0_on_1 ++ dktX0_on_2
def dkwX0_on_0 : List UInt8 := [27, 184, 0, 133, 154, 0, 5, 2, 172, 42, 180, 0, 28, 27, 50, 77, 44, 199, 0, 9, 42, 4]
abbrev dktX0_on_0 : List UInt8 := dkwX0_on_0 ++ dktX0_on_1
theorem dksX0_on_0 : cX0_on.data.toList.drop 0 = dktX0_on_0 := by decide +kernel
theorem dksX0_on_1 : cX0_on.data.toList.drop 22 = dktX0_on_1 := dk_seg dksX0_on_0 22 rfl rfl
theorem dksX0_on_2 : cX0_on.data.toList.drop 46 = dktX0_on_2 := dk_seg dksX0_on_1 24 rfl rfl
theorem dksX0_on_3 : cX0_on.data.toList.drop 70 = dktX0_on_3 := dk_seg dksX0_on_2 24 rfl rfl
theorem dksX0_on_4 : cX0_on.data.toList.drop 93 = dktX0_on_4 := dk_seg dksX0_on_3 23 rfl rfl
theorem dksX0_on_5 : cX0_on.data.toList.drop 117 = dktX0_on_5 := dk_seg dksX0_on_4 24 rfl rfl
theorem dksX0_on_6 : cX0_on.data.toList.drop 141 = dktX0_on_6 := dk_seg dksX0_on_5 24 rfl rfl
theorem dX0_on_0 : decode cX0_on 0 = .ok (.iload_n 1, 1) := dk_27 (dk_at dksX0_on_0 0 rfl rfl)
theorem dX0_on_1 : decode cX0_on 1 = .ok (.invokestatic 133, 3) := dk_184 0 133 (dk_at dksX0_on_0 1 rfl rfl)
theorem dX0_on_4 : decode cX0_on 4 = .ok (.ifCond .ne 5, 3) := dk_154 0 5 (dk_at dksX0_on_0 4 rfl rfl)
theorem dX0_on_7 : decode cX0_on 7 = .ok (.iconst (-1), 1) := dk_2 (dk_at dksX0_on_0 7 rfl rfl)
theorem dX0_on_8 : decode cX0_on 8 = .ok (.ireturn, 1) := dk_172 (dk_at dksX0_on_0 8 rfl rfl)
theorem dX0_on_9 : decode cX0_on 9 = .ok (.aload_n 0, 1) := dk_42 (dk_at dksX0_on_0 9 rfl rfl)
theorem dX0_on_10 : decode cX0_on 10 = .ok (.getfield 28, 3) := dk_180 0 28 (dk_at dksX0_on_0 10 rfl rfl)
theorem dX0_on_13 : decode cX0_on 13 = .ok (.iload_n 1, 1) := dk_27 (dk_at dksX0_on_0 13 rfl rfl)
theorem dX0_on_14 : decode cX0_on 14 = .ok (.aaload, 1) := dk_50 (dk_at dksX0_on_0 14 rfl rfl)
theorem dX0_on_15 : decode cX0_on 15 = .ok (.astore_n 2, 1) := dk_77 (dk_at dksX0_on_0 15 rfl rfl)
theorem dX0_on_16 : decode cX0_on 16 = .ok (.aload_n 2, 1) := dk_44 (dk_at dksX0_on_0 16 rfl rfl)
theorem dX0_on_17 : decode cX0_on 17 = .ok (.ifnonnull 9, 3) := dk_199 0 9 (dk_at dksX0_on_0 17 rfl rfl)
theorem dX0_on_20 : decode cX0_on 20 = .ok (.aload_n 0, 1) := dk_42 (dk_at dksX0_on_0 20 rfl rfl)
theorem dX0_on_21 : decode cX0_on 21 = .ok (.iconst 1, 1) := dk_4 (dk_at dksX0_on_0 21 rfl rfl)
theorem dX0_on_22 : decode cX0_on 22 = .ok (.invokevirtual 139, 3) := dk_182 0 139 (dk_at dksX0_on_1 0 rfl rfl)
theorem dX0_on_25 : decode cX0_on 25 = .ok (.ireturn, 1) := dk_172 (dk_at dksX0_on_1 3 rfl rfl)
theorem dX0_on_26 : decode cX0_on 26 = .ok (.aload_n 2, 1) := dk_44 (dk_at dksX0_on_1 4 rfl rfl)
theorem dX0_on_27 : decode cX0_on 27 = .ok (.arraylength, 1) := dk_190 (dk_at dksX0_on_1 5 rfl rfl)
theorem dX0_on_28 : decode cX0_on 28 = .ok (.iconst 3, 1) := dk_6 (dk_at dksX0_on_1 6 rfl rfl)
theorem dX0_on_29 : decode cX0_on 29 = .ok (.iconst 3, 1) := dk_6 (dk_at dksX0_on_1 7 rfl rfl)
theorem dX0_on_30 : decode cX0_on 30 = .ok (.aload_n 0, 1) := dk_42 (dk_at dksX0_on_1 8 rfl rfl)
theorem dX0_on_31 : decode cX0_on 31 = .ok (.getfield 276, 3) := dk_180 1 20 (dk_at dksX0_on_1 9 rfl rfl)
theorem dX0_on_34 : decode cX0_on 34 = .ok (.imul, 1) := dk_104 (dk_at dksX0_on_1 12 rfl rfl)
theorem dX0_on_35 : decode cX0_on 35 = .ok (.iadd, 1) := dk_96 (dk_at dksX0_on_1 13 rfl rfl)
theorem dX0_on_36 : decode cX0_on 36 = .ok (.if_icmp .eq 9, 3) := dk_159 0 9 (dk_at dksX0_on_1 14 rfl rfl)
theorem dX0_on_39 : decode cX0_on 39 = .ok (.aload_n 0, 1) := dk_42 (dk_at dksX0_on_1 17 rfl rfl)
theorem dX0_on_40 : decode cX0_on 40 = .ok (.iconst 5, 1) := dk_8 (dk_at dksX0_on_1 18 rfl rfl)
theorem dX0_on_41 : decode cX0_on 41 = .ok (.invokevirtual 139, 3) := dk_182 0 139 (dk_at dksX0_on_1 19 rfl rfl)
theorem dX0_on_44 : decode cX0_on 44 = .ok (.ireturn, 1) := dk_172 (dk_at dksX0_on_1 22 rfl rfl)
theorem dX0_on_45 : decode cX0_on 45 = .ok (.aload_n 0, 1) := dk_42 (dk_at dksX0_on_1 23 rfl rfl)
theorem dX0_on_46 : decode cX0_on 46 = .ok (.aload_n 2, 1) := dk_44 (dk_at dksX0_on_2 0 rfl rfl)
theorem dX0_on_47 : decode cX0_on 47 = .ok (.invokevirtual 412, 3) := dk_182 1 156 (dk_at dksX0_on_2 1 rfl rfl)
theorem dX0_on_50 : decode cX0_on 50 = .ok (.ifCond .ne 9, 3) := dk_154 0 9 (dk_at dksX0_on_2 4 rfl rfl)
theorem dX0_on_53 : decode cX0_on 53 = .ok (.aload_n 0, 1) := dk_42 (dk_at dksX0_on_2 7 rfl rfl)
theorem dX0_on_54 : decode cX0_on 54 = .ok (.iconst 3, 1) := dk_6 (dk_at dksX0_on_2 8 rfl rfl)
theorem dX0_on_55 : decode cX0_on 55 = .ok (.invokevirtual 139, 3) := dk_182 0 139 (dk_at dksX0_on_2 9 rfl rfl)
theorem dX0_on_58 : decode cX0_on 58 = .ok (.ireturn, 1) := dk_172 (dk_at dksX0_on_2 12 rfl rfl)
theorem dX0_on_59 : decode cX0_on 59 = .ok (.aload_n 0, 1) := dk_42 (dk_at dksX0_on_2 13 rfl rfl)
theorem dX0_on_60 : decode cX0_on 60 = .ok (.getfield 86, 3) := dk_180 0 86 (dk_at dksX0_on_2 14 rfl rfl)
theorem dX0_on_63 : decode cX0_on 63 = .ok (.aload_n 2, 1) := dk_44 (dk_at dksX0_on_2 17 rfl rfl)
theorem dX0_on_64 : decode cX0_on 64 = .ok (.iconst 0, 1) := dk_3 (dk_at dksX0_on_2 18 rfl rfl)
theorem dX0_on_65 : decode cX0_on 65 = .ok (.iaload, 1) := dk_46 (dk_at dksX0_on_2 19 rfl rfl)
theorem dX0_on_66 : decode cX0_on 66 = .ok (.putfield 279, 3) := dk_181 1 23 (dk_at dksX0_on_2 20 rfl rfl)
theorem dX0_on_69 : decode cX0_on 69 = .ok (.iconst 0, 1) := dk_3 (dk_at dksX0_on_2 23 rfl rfl)
theorem dX0_on_70 : decode cX0_on 70 = .ok (.istore_n 3, 1) := dk_62 (dk_at dksX0_on_3 0 rfl rfl)
theorem dX0_on_71 : decode cX0_on 71 = .ok (.iload_n 3, 1) := dk_29 (dk_at dksX0_on_3 1 rfl rfl)
theorem dX0_on_72 : decode cX0_on 72 = .ok (.aload_n 0, 1) := dk_42 (dk_at dksX0_on_3 2 rfl rfl)
theorem dX0_on_73 : decode cX0_on 73 = .ok (.getfield 273, 3) := dk_180 1 17 (dk_at dksX0_on_3 3 rfl rfl)
theorem dX0_on_76 : decode cX0_on 76 = .ok (.if_icmp .ge 23, 3) := dk_162 0 23 (dk_at dksX0_on_3 6 rfl rfl)
theorem dX0_on_79 : decode cX0_on 79 = .ok (.aload_n 0, 1) := dk_42 (dk_at dksX0_on_3 9 rfl rfl)
theorem dX0_on_80 : decode cX0_on 80 = .ok (.getfield 86, 3) := dk_180 0 86 (dk_at dksX0_on_3 10 rfl rfl)
theorem dX0_on_83 : decode cX0_on 83 = .ok (.getfield 282, 3) := dk_180 1 26 (dk_at dksX0_on_3 13 rfl rfl)
theorem dX0_on_86 : decode cX0_on 86 = .ok (.iload_n 3, 1) := dk_29 (dk_at dksX0_on_3 16 rfl rfl)
theorem dX0_on_87 : decode cX0_on 87 = .ok (.aload_n 2, 1) := dk_44 (dk_at dksX0_on_3 17 rfl rfl)
theorem dX0_on_88 : decode cX0_on 88 = .ok (.iconst 1, 1) := dk_4 (dk_at dksX0_on_3 18 rfl rfl)
theorem dX0_on_89 : decode cX0_on 89 = .ok (.iload_n 3, 1) := dk_29 (dk_at dksX0_on_3 19 rfl rfl)
theorem dX0_on_90 : decode cX0_on 90 = .ok (.iadd, 1) := dk_96 (dk_at dksX0_on_3 20 rfl rfl)
theorem dX0_on_91 : decode cX0_on 91 = .ok (.iaload, 1) := dk_46 (dk_at dksX0_on_3 21 rfl rfl)
theorem dX0_on_92 : decode cX0_on 92 = .ok (.iastore, 1) := dk_79 (dk_at dksX0_on_3 22 rfl rfl)
theorem dX0_on_93 : decode cX0_on 93 = .ok (.iinc 3 1, 3) := dk_132 3 1 (dk_at dksX0_on_4 0 rfl rfl)
theorem dX0_on_96 : decode cX0_on 96 = .ok (.goto (-25), 3) := dk_167 255 231 (dk_at dksX0_on_4 3 rfl rfl)
theorem dX0_on_99 : decode cX0_on 99 = .ok (.iconst 0, 1) := dk_3 (dk_at dksX0_on_4 6 rfl rfl)
theorem dX0_on_100 : decode cX0_on 100 = .ok (.istore_n 3, 1) := dk_62 (dk_at dksX0_on_4 7 rfl rfl)
theorem dX0_on_101 : decode cX0_on 101 = .ok (.iload_n 3, 1) := dk_29 (dk_at dksX0_on_4 8 rfl rfl)
theorem dX0_on_102 : decode cX0_on 102 = .ok (.aload_n 0, 1) := dk_42 (dk_at dksX0_on_4 9 rfl rfl)
theorem dX0_on_103 : decode cX0_on 103 = .ok (.getfield 276, 3) := dk_180 1 20 (dk_at dksX0_on_4 10 rfl rfl)
theorem dX0_on_106 : decode cX0_on 106 = .ok (.if_icmp .ge 57, 3) := dk_162 0 57 (dk_at dksX0_on_4 13 rfl rfl)
theorem dX0_on_109 : decode cX0_on 109 = .ok (.aload_n 0, 1) := dk_42 (dk_at dksX0_on_4 16 rfl rfl)
theorem dX0_on_110 : decode cX0_on 110 = .ok (.getfield 86, 3) := dk_180 0 86 (dk_at dksX0_on_4 17 rfl rfl)
theorem dX0_on_113 : decode cX0_on 113 = .ok (.getfield 288, 3) := dk_180 1 32 (dk_at dksX0_on_4 20 rfl rfl)
theorem dX0_on_116 : decode cX0_on 116 = .ok (.iload_n 3, 1) := dk_29 (dk_at dksX0_on_4 23 rfl rfl)
theorem dX0_on_117 : decode cX0_on 117 = .ok (.aload_n 2, 1) := dk_44 (dk_at dksX0_on_5 0 rfl rfl)
theorem dX0_on_118 : decode cX0_on 118 = .ok (.iconst 3, 1) := dk_6 (dk_at dksX0_on_5 1 rfl rfl)
theorem dX0_on_119 : decode cX0_on 119 = .ok (.iconst 3, 1) := dk_6 (dk_at dksX0_on_5 2 rfl rfl)
theorem dX0_on_120 : decode cX0_on 120 = .ok (.iload_n 3, 1) := dk_29 (dk_at dksX0_on_5 3 rfl rfl)
theorem dX0_on_121 : decode cX0_on 121 = .ok (.imul, 1) := dk_104 (dk_at dksX0_on_5 4 rfl rfl)
theorem dX0_on_122 : decode cX0_on 122 = .ok (.iadd, 1) := dk_96 (dk_at dksX0_on_5 5 rfl rfl)
theorem dX0_on_123 : decode cX0_on 123 = .ok (.iaload, 1) := dk_46 (dk_at dksX0_on_5 6 rfl rfl)
theorem dX0_on_124 : decode cX0_on 124 = .ok (.iastore, 1) := dk_79 (dk_at dksX0_on_5 7 rfl rfl)
theorem dX0_on_125 : decode cX0_on 125 = .ok (.aload_n 0, 1) := dk_42 (dk_at dksX0_on_5 8 rfl rfl)
theorem dX0_on_126 : decode cX0_on 126 = .ok (.getfield 79, 3) := dk_180 0 79 (dk_at dksX0_on_5 9 rfl rfl)
theorem dX0_on_129 : decode cX0_on 129 = .ok (.iload_n 3, 1) := dk_29 (dk_at dksX0_on_5 12 rfl rfl)
theorem dX0_on_130 : decode cX0_on 130 = .ok (.aaload, 1) := dk_50 (dk_at dksX0_on_5 13 rfl rfl)
theorem dX0_on_131 : decode cX0_on 131 = .ok (.aload_n 2, 1) := dk_44 (dk_at dksX0_on_5 14 rfl rfl)
theorem dX0_on_132 : decode cX0_on 132 = .ok (.iconst 4, 1) := dk_7 (dk_at dksX0_on_5 15 rfl rfl)
theorem dX0_on_133 : decode cX0_on 133 = .ok (.iconst 3, 1) := dk_6 (dk_at dksX0_on_5 16 rfl rfl)
theorem dX0_on_134 : decode cX0_on 134 = .ok (.iload_n 3, 1) := dk_29 (dk_at dksX0_on_5 17 rfl rfl)
theorem dX0_on_135 : decode cX0_on 135 = .ok (.imul, 1) := dk_104 (dk_at dksX0_on_5 18 rfl rfl)
theorem dX0_on_136 : decode cX0_on 136 = .ok (.iadd, 1) := dk_96 (dk_at dksX0_on_5 19 rfl rfl)
theorem dX0_on_137 : decode cX0_on 137 = .ok (.iaload, 1) := dk_46 (dk_at dksX0_on_5 20 rfl rfl)
theorem dX0_on_138 : decode cX0_on 138 = .ok (.putfield 324, 3) := dk_181 1 68 (dk_at dksX0_on_5 21 rfl rfl)
theorem dX0_on_141 : decode cX0_on 141 = .ok (.aload_n 0, 1) := dk_42 (dk_at dksX0_on_6 0 rfl rfl)
theorem dX0_on_142 : decode cX0_on 142 = .ok (.getfield 79, 3) := dk_180 0 79 (dk_at dksX0_on_6 1 rfl rfl)
theorem dX0_on_145 : decode cX0_on 145 = .ok (.iload_n 3, 1) := dk_29 (dk_at dksX0_on_6 4 rfl rfl)
theorem dX0_on_146 : decode cX0_on 146 = .ok (.aaload, 1) := dk_50 (dk_at dksX0_on_6 5 rfl rfl)
theorem dX0_on_147 : decode cX0_on 147 = .ok (.aload_n 2, 1) := dk_44 (dk_at dksX0_on_6 6 rfl rfl)
theorem dX0_on_148 : decode cX0_on 148 = .ok (.iconst 5, 1) := dk_8 (dk_at dksX0_on_6 7 rfl rfl)
theorem dX0_on_149 : decode cX0_on 149 = .ok (.iconst 3, 1) := dk_6 (dk_at dksX0_on_6 8 rfl rfl)
theorem dX0_on_150 : decode cX0_on 150 = .ok (.iload_n 3, 1) := dk_29 (dk_at dksX0_on_6 9 rfl rfl)
theorem dX0_on_151 : decode cX0_on 151 = .ok (.imul, 1) := dk_104 (dk_at dksX0_on_6 10 rfl rfl)
theorem dX0_on_152 : decode cX0_on 152 = .ok (.iadd, 1) := dk_96 (dk_at dksX0_on_6 11 rfl rfl)
theorem dX0_on_153 : decode cX0_on 153 = .ok (.iaload, 1) := dk_46 (dk_at dksX0_on_6 12 rfl rfl)
theorem dX0_on_154 : decode cX0_on 154 = .ok (.putfield 327, 3) := dk_181 1 71 (dk_at dksX0_on_6 13 rfl rfl)
theorem dX0_on_157 : decode cX0_on 157 = .ok (.iinc 3 1, 3) := dk_132 3 1 (dk_at dksX0_on_6 16 rfl rfl)
theorem dX0_on_160 : decode cX0_on 160 = .ok (.goto (-59), 3) := dk_167 255 197 (dk_at dksX0_on_6 19 rfl rfl)
theorem dX0_on_163 : decode cX0_on 163 = .ok (.iconst 1, 1) := dk_4 (dk_at dksX0_on_6 22 rfl rfl)
theorem dX0_on_164 : decode cX0_on 164 = .ok (.ireturn, 1) := dk_172 (dk_at dksX0_on_6 23 rfl rfl)
abbrev cX0_isImage : ByteArray := prog_1_method_64_code
def yX0_isImage : MethodName := ⟨RX0, "isImage", "([I)Z"⟩
def dkwX0_isImage_6 : List UInt8 := [3, 46, 184, 0, 129, 126, 61, 132, 3, 3, 167, 255, 171, 28, 172]
abbrev dktX0_isImage_6 : List UInt8 := dkwX0_isImage_6 ++ []
def dkwX0_isImage_5 : List UInt8 := [29, 5, 96, 46, 16, 247, 160, 0, 7, 4, 167, 0, 19, 3, 167, 0, 15, 43, 29, 5, 96, 46, 4, 43]
abbrev dktX0_isImage_5 : List UInt8 := dkwX0_isImage_5 ++ dktX0_isImage_6
def dkwX0_isImage_4 : List UInt8 := [46, 184, 0, 129, 153, 0, 7, 4, 167, 0, 4, 3, 126, 61, 28, 43, 29, 4, 96, 46, 154, 0, 21, 43]
abbrev dktX0_isImage_4 : List UInt8 := dkwX0_isImage_4 ++ dktX0_isImage_5
def dkwX0_isImage_3 : List UInt8 := [162, 0, 85, 28, 43, 29, 46, 3, 16, 60, 184, 0, 129, 153, 0, 22, 43, 29, 4, 96, 46, 3, 43, 3]
abbrev dktX0_isImage_3 : List UInt8 := dkwX0_isImage_3 ++ dktX0_isImage_4
def dkwX0_isImage_2 : List UInt8 := [16, 247, 160, 0, 7, 4, 167, 0, 4, 3, 126, 61, 132, 3, 1, 167, 255, 207, 6, 62, 29, 43, 190]
abbrev dktX0_isImage_2 : List UInt8 := dkwX0_isImage_2 ++ dktX0_isImage_3
def dkwX0_isImage_1 : List UInt8 := [153, 0, 18, 43, 4, 29, 96, 46, 3, 17, 0, 200, 184, 0, 129, 167, 0, 18, 43, 4, 29, 96, 46]
abbrev dktX0_isImage_1 : List UInt8 := dkwX0_isImage_1 ++ dktX0_isImage_2
def dkwX0_isImage_0 : List UInt8 := [43, 3, 46, 3, 17, 39, 15, 184, 0, 129, 61, 3, 62, 29, 5, 162, 0, 50, 28, 42, 29, 182, 1, 80]
abbrev dktX0_isImage_0 : List UInt8 := dkwX0_isImage_0 ++ dktX0_isImage_1
theorem dksX0_isImage_0 : cX0_isImage.data.toList.drop 0 = dktX0_isImage_0 := by decide +kernel
theorem dksX0_isImage_1 : cX0_isImage.data.toList.drop 24 = dktX0_isImage_1 := dk_seg dksX0_isImage_0 24 rfl rfl
theorem dksX0_isImage_2 : cX0_isImage.data.toList.drop 47 = dktX0_isImage_2 := dk_seg dksX0_isImage_1 23 rfl rfl
theorem dksX0_isImage_3 : cX0_isImage.data.toList.drop 70 = dktX0_isImage_3 := dk_seg dksX0_isImage_2 23 rfl rfl
theorem dksX0_isImage_4 : cX0_isImage.data.toList.drop 94 = dktX0_isImage_4 := dk_seg dksX0_isImage_3 24 rfl rfl
theorem dksX0_isImage_5 : cX0_isImage.data.toList.drop 118 = dktX0_isImage_5 := dk_seg dksX0_isImage_4 24 rfl rfl
theorem dksX0_isImage_6 : cX0_isImage.data.toList.drop 142 = dktX0_isImage_6 := dk_seg dksX0_isImage_5 24 rfl rfl
theorem dX0_isImage_0 : decode cX0_isImage 0 = .ok (.aload_n 1, 1) := dk_43 (dk_at dksX0_isImage_0 0 rfl rfl)
theorem dX0_isImage_1 : decode cX0_isImage 1 = .ok (.iconst 0, 1) := dk_3 (dk_at dksX0_isImage_0 1 rfl rfl)
theorem dX0_isImage_2 : decode cX0_isImage 2 = .ok (.iaload, 1) := dk_46 (dk_at dksX0_isImage_0 2 rfl rfl)
theorem dX0_isImage_3 : decode cX0_isImage 3 = .ok (.iconst 0, 1) := dk_3 (dk_at dksX0_isImage_0 3 rfl rfl)
theorem dX0_isImage_4 : decode cX0_isImage 4 = .ok (.sipush 9999, 3) := dk_17 39 15 (dk_at dksX0_isImage_0 4 rfl rfl)
theorem dX0_isImage_7 : decode cX0_isImage 7 = .ok (.invokestatic 129, 3) := dk_184 0 129 (dk_at dksX0_isImage_0 7 rfl rfl)
theorem dX0_isImage_10 : decode cX0_isImage 10 = .ok (.istore_n 2, 1) := dk_61 (dk_at dksX0_isImage_0 10 rfl rfl)
theorem dX0_isImage_11 : decode cX0_isImage 11 = .ok (.iconst 0, 1) := dk_3 (dk_at dksX0_isImage_0 11 rfl rfl)
theorem dX0_isImage_12 : decode cX0_isImage 12 = .ok (.istore_n 3, 1) := dk_62 (dk_at dksX0_isImage_0 12 rfl rfl)
theorem dX0_isImage_13 : decode cX0_isImage 13 = .ok (.iload_n 3, 1) := dk_29 (dk_at dksX0_isImage_0 13 rfl rfl)
theorem dX0_isImage_14 : decode cX0_isImage 14 = .ok (.iconst 2, 1) := dk_5 (dk_at dksX0_isImage_0 14 rfl rfl)
theorem dX0_isImage_15 : decode cX0_isImage 15 = .ok (.if_icmp .ge 50, 3) := dk_162 0 50 (dk_at dksX0_isImage_0 15 rfl rfl)
theorem dX0_isImage_18 : decode cX0_isImage 18 = .ok (.iload_n 2, 1) := dk_28 (dk_at dksX0_isImage_0 18 rfl rfl)
theorem dX0_isImage_19 : decode cX0_isImage 19 = .ok (.aload_n 0, 1) := dk_42 (dk_at dksX0_isImage_0 19 rfl rfl)
theorem dX0_isImage_20 : decode cX0_isImage 20 = .ok (.iload_n 3, 1) := dk_29 (dk_at dksX0_isImage_0 20 rfl rfl)
theorem dX0_isImage_21 : decode cX0_isImage 21 = .ok (.invokevirtual 336, 3) := dk_182 1 80 (dk_at dksX0_isImage_0 21 rfl rfl)
theorem dX0_isImage_24 : decode cX0_isImage 24 = .ok (.ifCond .eq 18, 3) := dk_153 0 18 (dk_at dksX0_isImage_1 0 rfl rfl)
theorem dX0_isImage_27 : decode cX0_isImage 27 = .ok (.aload_n 1, 1) := dk_43 (dk_at dksX0_isImage_1 3 rfl rfl)
theorem dX0_isImage_28 : decode cX0_isImage 28 = .ok (.iconst 1, 1) := dk_4 (dk_at dksX0_isImage_1 4 rfl rfl)
theorem dX0_isImage_29 : decode cX0_isImage 29 = .ok (.iload_n 3, 1) := dk_29 (dk_at dksX0_isImage_1 5 rfl rfl)
theorem dX0_isImage_30 : decode cX0_isImage 30 = .ok (.iadd, 1) := dk_96 (dk_at dksX0_isImage_1 6 rfl rfl)
theorem dX0_isImage_31 : decode cX0_isImage 31 = .ok (.iaload, 1) := dk_46 (dk_at dksX0_isImage_1 7 rfl rfl)
theorem dX0_isImage_32 : decode cX0_isImage 32 = .ok (.iconst 0, 1) := dk_3 (dk_at dksX0_isImage_1 8 rfl rfl)
theorem dX0_isImage_33 : decode cX0_isImage 33 = .ok (.sipush 200, 3) := dk_17 0 200 (dk_at dksX0_isImage_1 9 rfl rfl)
theorem dX0_isImage_36 : decode cX0_isImage 36 = .ok (.invokestatic 129, 3) := dk_184 0 129 (dk_at dksX0_isImage_1 12 rfl rfl)
theorem dX0_isImage_39 : decode cX0_isImage 39 = .ok (.goto 18, 3) := dk_167 0 18 (dk_at dksX0_isImage_1 15 rfl rfl)
theorem dX0_isImage_42 : decode cX0_isImage 42 = .ok (.aload_n 1, 1) := dk_43 (dk_at dksX0_isImage_1 18 rfl rfl)
theorem dX0_isImage_43 : decode cX0_isImage 43 = .ok (.iconst 1, 1) := dk_4 (dk_at dksX0_isImage_1 19 rfl rfl)
theorem dX0_isImage_44 : decode cX0_isImage 44 = .ok (.iload_n 3, 1) := dk_29 (dk_at dksX0_isImage_1 20 rfl rfl)
theorem dX0_isImage_45 : decode cX0_isImage 45 = .ok (.iadd, 1) := dk_96 (dk_at dksX0_isImage_1 21 rfl rfl)
theorem dX0_isImage_46 : decode cX0_isImage 46 = .ok (.iaload, 1) := dk_46 (dk_at dksX0_isImage_1 22 rfl rfl)
theorem dX0_isImage_47 : decode cX0_isImage 47 = .ok (.bipush (-9), 2) := dk_16 247 (dk_at dksX0_isImage_2 0 rfl rfl)
theorem dX0_isImage_49 : decode cX0_isImage 49 = .ok (.if_icmp .ne 7, 3) := dk_160 0 7 (dk_at dksX0_isImage_2 2 rfl rfl)
theorem dX0_isImage_52 : decode cX0_isImage 52 = .ok (.iconst 1, 1) := dk_4 (dk_at dksX0_isImage_2 5 rfl rfl)
theorem dX0_isImage_53 : decode cX0_isImage 53 = .ok (.goto 4, 3) := dk_167 0 4 (dk_at dksX0_isImage_2 6 rfl rfl)
theorem dX0_isImage_56 : decode cX0_isImage 56 = .ok (.iconst 0, 1) := dk_3 (dk_at dksX0_isImage_2 9 rfl rfl)
theorem dX0_isImage_57 : decode cX0_isImage 57 = .ok (.iand, 1) := dk_126 (dk_at dksX0_isImage_2 10 rfl rfl)
theorem dX0_isImage_58 : decode cX0_isImage 58 = .ok (.istore_n 2, 1) := dk_61 (dk_at dksX0_isImage_2 11 rfl rfl)
theorem dX0_isImage_59 : decode cX0_isImage 59 = .ok (.iinc 3 1, 3) := dk_132 3 1 (dk_at dksX0_isImage_2 12 rfl rfl)
theorem dX0_isImage_62 : decode cX0_isImage 62 = .ok (.goto (-49), 3) := dk_167 255 207 (dk_at dksX0_isImage_2 15 rfl rfl)
theorem dX0_isImage_65 : decode cX0_isImage 65 = .ok (.iconst 3, 1) := dk_6 (dk_at dksX0_isImage_2 18 rfl rfl)
theorem dX0_isImage_66 : decode cX0_isImage 66 = .ok (.istore_n 3, 1) := dk_62 (dk_at dksX0_isImage_2 19 rfl rfl)
theorem dX0_isImage_67 : decode cX0_isImage 67 = .ok (.iload_n 3, 1) := dk_29 (dk_at dksX0_isImage_2 20 rfl rfl)
theorem dX0_isImage_68 : decode cX0_isImage 68 = .ok (.aload_n 1, 1) := dk_43 (dk_at dksX0_isImage_2 21 rfl rfl)
theorem dX0_isImage_69 : decode cX0_isImage 69 = .ok (.arraylength, 1) := dk_190 (dk_at dksX0_isImage_2 22 rfl rfl)
theorem dX0_isImage_70 : decode cX0_isImage 70 = .ok (.if_icmp .ge 85, 3) := dk_162 0 85 (dk_at dksX0_isImage_3 0 rfl rfl)
theorem dX0_isImage_73 : decode cX0_isImage 73 = .ok (.iload_n 2, 1) := dk_28 (dk_at dksX0_isImage_3 3 rfl rfl)
theorem dX0_isImage_74 : decode cX0_isImage 74 = .ok (.aload_n 1, 1) := dk_43 (dk_at dksX0_isImage_3 4 rfl rfl)
theorem dX0_isImage_75 : decode cX0_isImage 75 = .ok (.iload_n 3, 1) := dk_29 (dk_at dksX0_isImage_3 5 rfl rfl)
theorem dX0_isImage_76 : decode cX0_isImage 76 = .ok (.iaload, 1) := dk_46 (dk_at dksX0_isImage_3 6 rfl rfl)
theorem dX0_isImage_77 : decode cX0_isImage 77 = .ok (.iconst 0, 1) := dk_3 (dk_at dksX0_isImage_3 7 rfl rfl)
theorem dX0_isImage_78 : decode cX0_isImage 78 = .ok (.bipush 60, 2) := dk_16 60 (dk_at dksX0_isImage_3 8 rfl rfl)
theorem dX0_isImage_80 : decode cX0_isImage 80 = .ok (.invokestatic 129, 3) := dk_184 0 129 (dk_at dksX0_isImage_3 10 rfl rfl)
theorem dX0_isImage_83 : decode cX0_isImage 83 = .ok (.ifCond .eq 22, 3) := dk_153 0 22 (dk_at dksX0_isImage_3 13 rfl rfl)
theorem dX0_isImage_86 : decode cX0_isImage 86 = .ok (.aload_n 1, 1) := dk_43 (dk_at dksX0_isImage_3 16 rfl rfl)
theorem dX0_isImage_87 : decode cX0_isImage 87 = .ok (.iload_n 3, 1) := dk_29 (dk_at dksX0_isImage_3 17 rfl rfl)
theorem dX0_isImage_88 : decode cX0_isImage 88 = .ok (.iconst 1, 1) := dk_4 (dk_at dksX0_isImage_3 18 rfl rfl)
theorem dX0_isImage_89 : decode cX0_isImage 89 = .ok (.iadd, 1) := dk_96 (dk_at dksX0_isImage_3 19 rfl rfl)
theorem dX0_isImage_90 : decode cX0_isImage 90 = .ok (.iaload, 1) := dk_46 (dk_at dksX0_isImage_3 20 rfl rfl)
theorem dX0_isImage_91 : decode cX0_isImage 91 = .ok (.iconst 0, 1) := dk_3 (dk_at dksX0_isImage_3 21 rfl rfl)
theorem dX0_isImage_92 : decode cX0_isImage 92 = .ok (.aload_n 1, 1) := dk_43 (dk_at dksX0_isImage_3 22 rfl rfl)
theorem dX0_isImage_93 : decode cX0_isImage 93 = .ok (.iconst 0, 1) := dk_3 (dk_at dksX0_isImage_3 23 rfl rfl)
theorem dX0_isImage_94 : decode cX0_isImage 94 = .ok (.iaload, 1) := dk_46 (dk_at dksX0_isImage_4 0 rfl rfl)
theorem dX0_isImage_95 : decode cX0_isImage 95 = .ok (.invokestatic 129, 3) := dk_184 0 129 (dk_at dksX0_isImage_4 1 rfl rfl)
theorem dX0_isImage_98 : decode cX0_isImage 98 = .ok (.ifCond .eq 7, 3) := dk_153 0 7 (dk_at dksX0_isImage_4 4 rfl rfl)
theorem dX0_isImage_101 : decode cX0_isImage 101 = .ok (.iconst 1, 1) := dk_4 (dk_at dksX0_isImage_4 7 rfl rfl)
theorem dX0_isImage_102 : decode cX0_isImage 102 = .ok (.goto 4, 3) := dk_167 0 4 (dk_at dksX0_isImage_4 8 rfl rfl)
theorem dX0_isImage_105 : decode cX0_isImage 105 = .ok (.iconst 0, 1) := dk_3 (dk_at dksX0_isImage_4 11 rfl rfl)
theorem dX0_isImage_106 : decode cX0_isImage 106 = .ok (.iand, 1) := dk_126 (dk_at dksX0_isImage_4 12 rfl rfl)
theorem dX0_isImage_107 : decode cX0_isImage 107 = .ok (.istore_n 2, 1) := dk_61 (dk_at dksX0_isImage_4 13 rfl rfl)
theorem dX0_isImage_108 : decode cX0_isImage 108 = .ok (.iload_n 2, 1) := dk_28 (dk_at dksX0_isImage_4 14 rfl rfl)
theorem dX0_isImage_109 : decode cX0_isImage 109 = .ok (.aload_n 1, 1) := dk_43 (dk_at dksX0_isImage_4 15 rfl rfl)
theorem dX0_isImage_110 : decode cX0_isImage 110 = .ok (.iload_n 3, 1) := dk_29 (dk_at dksX0_isImage_4 16 rfl rfl)
theorem dX0_isImage_111 : decode cX0_isImage 111 = .ok (.iconst 1, 1) := dk_4 (dk_at dksX0_isImage_4 17 rfl rfl)
theorem dX0_isImage_112 : decode cX0_isImage 112 = .ok (.iadd, 1) := dk_96 (dk_at dksX0_isImage_4 18 rfl rfl)
theorem dX0_isImage_113 : decode cX0_isImage 113 = .ok (.iaload, 1) := dk_46 (dk_at dksX0_isImage_4 19 rfl rfl)
theorem dX0_isImage_114 : decode cX0_isImage 114 = .ok (.ifCond .ne 21, 3) := dk_154 0 21 (dk_at dksX0_isImage_4 20 rfl rfl)
theorem dX0_isImage_117 : decode cX0_isImage 117 = .ok (.aload_n 1, 1) := dk_43 (dk_at dksX0_isImage_4 23 rfl rfl)
theorem dX0_isImage_118 : decode cX0_isImage 118 = .ok (.iload_n 3, 1) := dk_29 (dk_at dksX0_isImage_5 0 rfl rfl)
theorem dX0_isImage_119 : decode cX0_isImage 119 = .ok (.iconst 2, 1) := dk_5 (dk_at dksX0_isImage_5 1 rfl rfl)
theorem dX0_isImage_120 : decode cX0_isImage 120 = .ok (.iadd, 1) := dk_96 (dk_at dksX0_isImage_5 2 rfl rfl)
theorem dX0_isImage_121 : decode cX0_isImage 121 = .ok (.iaload, 1) := dk_46 (dk_at dksX0_isImage_5 3 rfl rfl)
theorem dX0_isImage_122 : decode cX0_isImage 122 = .ok (.bipush (-9), 2) := dk_16 247 (dk_at dksX0_isImage_5 4 rfl rfl)
theorem dX0_isImage_124 : decode cX0_isImage 124 = .ok (.if_icmp .ne 7, 3) := dk_160 0 7 (dk_at dksX0_isImage_5 6 rfl rfl)
theorem dX0_isImage_127 : decode cX0_isImage 127 = .ok (.iconst 1, 1) := dk_4 (dk_at dksX0_isImage_5 9 rfl rfl)
theorem dX0_isImage_128 : decode cX0_isImage 128 = .ok (.goto 19, 3) := dk_167 0 19 (dk_at dksX0_isImage_5 10 rfl rfl)
theorem dX0_isImage_131 : decode cX0_isImage 131 = .ok (.iconst 0, 1) := dk_3 (dk_at dksX0_isImage_5 13 rfl rfl)
theorem dX0_isImage_132 : decode cX0_isImage 132 = .ok (.goto 15, 3) := dk_167 0 15 (dk_at dksX0_isImage_5 14 rfl rfl)
theorem dX0_isImage_135 : decode cX0_isImage 135 = .ok (.aload_n 1, 1) := dk_43 (dk_at dksX0_isImage_5 17 rfl rfl)
theorem dX0_isImage_136 : decode cX0_isImage 136 = .ok (.iload_n 3, 1) := dk_29 (dk_at dksX0_isImage_5 18 rfl rfl)
theorem dX0_isImage_137 : decode cX0_isImage 137 = .ok (.iconst 2, 1) := dk_5 (dk_at dksX0_isImage_5 19 rfl rfl)
theorem dX0_isImage_138 : decode cX0_isImage 138 = .ok (.iadd, 1) := dk_96 (dk_at dksX0_isImage_5 20 rfl rfl)
theorem dX0_isImage_139 : decode cX0_isImage 139 = .ok (.iaload, 1) := dk_46 (dk_at dksX0_isImage_5 21 rfl rfl)
theorem dX0_isImage_140 : decode cX0_isImage 140 = .ok (.iconst 1, 1) := dk_4 (dk_at dksX0_isImage_5 22 rfl rfl)
theorem dX0_isImage_141 : decode cX0_isImage 141 = .ok (.aload_n 1, 1) := dk_43 (dk_at dksX0_isImage_5 23 rfl rfl)
theorem dX0_isImage_142 : decode cX0_isImage 142 = .ok (.iconst 0, 1) := dk_3 (dk_at dksX0_isImage_6 0 rfl rfl)
theorem dX0_isImage_143 : decode cX0_isImage 143 = .ok (.iaload, 1) := dk_46 (dk_at dksX0_isImage_6 1 rfl rfl)
theorem dX0_isImage_144 : decode cX0_isImage 144 = .ok (.invokestatic 129, 3) := dk_184 0 129 (dk_at dksX0_isImage_6 2 rfl rfl)
theorem dX0_isImage_147 : decode cX0_isImage 147 = .ok (.iand, 1) := dk_126 (dk_at dksX0_isImage_6 5 rfl rfl)
theorem dX0_isImage_148 : decode cX0_isImage 148 = .ok (.istore_n 2, 1) := dk_61 (dk_at dksX0_isImage_6 6 rfl rfl)
theorem dX0_isImage_149 : decode cX0_isImage 149 = .ok (.iinc 3 3, 3) := dk_132 3 3 (dk_at dksX0_isImage_6 7 rfl rfl)
theorem dX0_isImage_152 : decode cX0_isImage 152 = .ok (.goto (-85), 3) := dk_167 255 171 (dk_at dksX0_isImage_6 10 rfl rfl)
theorem dX0_isImage_155 : decode cX0_isImage 155 = .ok (.iload_n 2, 1) := dk_28 (dk_at dksX0_isImage_6 13 rfl rfl)
theorem dX0_isImage_156 : decode cX0_isImage 156 = .ok (.ireturn, 1) := dk_172 (dk_at dksX0_isImage_6 14 rfl rfl)
abbrev cX0_ring : ByteArray := prog_1_method_77_code
def yX0_ring : MethodName := ⟨RX0, "ring", "()I"⟩
def dkwX0_ring_1 : List UInt8 := [172]
abbrev dktX0_ring_1 : List UInt8 := dkwX0_ring_1 ++ []
def dkwX0_ring_0 : List UInt8 := [42, 182, 1, 212, 153, 0, 18, 42, 42, 180, 1, 183, 42, 180, 1, 186, 182, 0, 147, 167, 0, 5, 16, 250]
abbrev dktX0_ring_0 : List UInt8 := dkwX0_ring_0 ++ dktX0_ring_1
theorem dksX0_ring_0 : cX0_ring.data.toList.drop 0 = dktX0_ring_0 := by decide +kernel
theorem dksX0_ring_1 : cX0_ring.data.toList.drop 24 = dktX0_ring_1 := dk_seg dksX0_ring_0 24 rfl rfl
theorem dX0_ring_0 : decode cX0_ring 0 = .ok (.aload_n 0, 1) := dk_42 (dk_at dksX0_ring_0 0 rfl rfl)
theorem dX0_ring_1 : decode cX0_ring 1 = .ok (.invokevirtual 468, 3) := dk_182 1 212 (dk_at dksX0_ring_0 1 rfl rfl)
theorem dX0_ring_4 : decode cX0_ring 4 = .ok (.ifCond .eq 18, 3) := dk_153 0 18 (dk_at dksX0_ring_0 4 rfl rfl)
theorem dX0_ring_7 : decode cX0_ring 7 = .ok (.aload_n 0, 1) := dk_42 (dk_at dksX0_ring_0 7 rfl rfl)
theorem dX0_ring_8 : decode cX0_ring 8 = .ok (.aload_n 0, 1) := dk_42 (dk_at dksX0_ring_0 8 rfl rfl)
theorem dX0_ring_9 : decode cX0_ring 9 = .ok (.getfield 439, 3) := dk_180 1 183 (dk_at dksX0_ring_0 9 rfl rfl)
theorem dX0_ring_12 : decode cX0_ring 12 = .ok (.aload_n 0, 1) := dk_42 (dk_at dksX0_ring_0 12 rfl rfl)
theorem dX0_ring_13 : decode cX0_ring 13 = .ok (.getfield 442, 3) := dk_180 1 186 (dk_at dksX0_ring_0 13 rfl rfl)
theorem dX0_ring_16 : decode cX0_ring 16 = .ok (.invokevirtual 147, 3) := dk_182 0 147 (dk_at dksX0_ring_0 16 rfl rfl)
theorem dX0_ring_19 : decode cX0_ring 19 = .ok (.goto 5, 3) := dk_167 0 5 (dk_at dksX0_ring_0 19 rfl rfl)
theorem dX0_ring_22 : decode cX0_ring 22 = .ok (.bipush (-6), 2) := dk_16 250 (dk_at dksX0_ring_0 22 rfl rfl)
theorem dX0_ring_24 : decode cX0_ring 24 = .ok (.ireturn, 1) := dk_172 (dk_at dksX0_ring_1 0 rfl rfl)
abbrev cX0_setRing : ByteArray := prog_1_method_72_code
def yX0_setRing : MethodName := ⟨RX0, "setRing", "()Z"⟩
def dkwX0_setRing_3 : List UInt8 := [29, 100, 181, 1, 186, 4, 172, 42, 182, 1, 189, 132, 2, 1, 167, 255, 210, 3, 172]
abbrev dktX0_setRing_3 : List UInt8 := dkwX0_setRing_3 ++ []
def dkwX0_setRing_2 : List UInt8 := [28, 27, 182, 1, 176, 42, 28, 182, 1, 180, 62, 29, 16, 247, 159, 0, 17, 42, 29, 181, 1, 183, 42, 28]
abbrev dktX0_setRing_2 : List UInt8 := dkwX0_setRing_2 ++ dktX0_setRing_3
def dkwX0_setRing_1 : List UInt8 := [167, 255, 239, 42, 180, 0, 90, 42, 180, 0, 86, 182, 1, 173, 3, 61, 28, 17, 7, 208, 163, 0, 45, 42]
abbrev dktX0_setRing_1 : List UInt8 := dkwX0_setRing_1 ++ dktX0_setRing_2
def dkwX0_setRing_0 : List UInt8 := [42, 182, 1, 170, 60, 3, 61, 28, 17, 32, 0, 162, 0, 16, 42, 180, 0, 110, 28, 3, 86, 132, 2, 1]
abbrev dktX0_setRing_0 : List UInt8 := dkwX0_setRing_0 ++ dktX0_setRing_1
theorem dksX0_setRing_0 : cX0_setRing.data.toList.drop 0 = dktX0_setRing_0 := by decide +kernel
theorem dksX0_setRing_1 : cX0_setRing.data.toList.drop 24 = dktX0_setRing_1 := dk_seg dksX0_setRing_0 24 rfl rfl
theorem dksX0_setRing_2 : cX0_setRing.data.toList.drop 48 = dktX0_setRing_2 := dk_seg dksX0_setRing_1 24 rfl rfl
theorem dksX0_setRing_3 : cX0_setRing.data.toList.drop 72 = dktX0_setRing_3 := dk_seg dksX0_setRing_2 24 rfl rfl
theorem dX0_setRing_0 : decode cX0_setRing 0 = .ok (.aload_n 0, 1) := dk_42 (dk_at dksX0_setRing_0 0 rfl rfl)
theorem dX0_setRing_1 : decode cX0_setRing 1 = .ok (.invokevirtual 426, 3) := dk_182 1 170 (dk_at dksX0_setRing_0 1 rfl rfl)
theorem dX0_setRing_4 : decode cX0_setRing 4 = .ok (.istore_n 1, 1) := dk_60 (dk_at dksX0_setRing_0 4 rfl rfl)
theorem dX0_setRing_5 : decode cX0_setRing 5 = .ok (.iconst 0, 1) := dk_3 (dk_at dksX0_setRing_0 5 rfl rfl)
theorem dX0_setRing_6 : decode cX0_setRing 6 = .ok (.istore_n 2, 1) := dk_61 (dk_at dksX0_setRing_0 6 rfl rfl)
theorem dX0_setRing_7 : decode cX0_setRing 7 = .ok (.iload_n 2, 1) := dk_28 (dk_at dksX0_setRing_0 7 rfl rfl)
theorem dX0_setRing_8 : decode cX0_setRing 8 = .ok (.sipush 8192, 3) := dk_17 32 0 (dk_at dksX0_setRing_0 8 rfl rfl)
theorem dX0_setRing_11 : decode cX0_setRing 11 = .ok (.if_icmp .ge 16, 3) := dk_162 0 16 (dk_at dksX0_setRing_0 11 rfl rfl)
theorem dX0_setRing_14 : decode cX0_setRing 14 = .ok (.aload_n 0, 1) := dk_42 (dk_at dksX0_setRing_0 14 rfl rfl)
theorem dX0_setRing_15 : decode cX0_setRing 15 = .ok (.getfield 110, 3) := dk_180 0 110 (dk_at dksX0_setRing_0 15 rfl rfl)
theorem dX0_setRing_18 : decode cX0_setRing 18 = .ok (.iload_n 2, 1) := dk_28 (dk_at dksX0_setRing_0 18 rfl rfl)
theorem dX0_setRing_19 : decode cX0_setRing 19 = .ok (.iconst 0, 1) := dk_3 (dk_at dksX0_setRing_0 19 rfl rfl)
theorem dX0_setRing_20 : decode cX0_setRing 20 = .ok (.sastore, 1) := dk_86 (dk_at dksX0_setRing_0 20 rfl rfl)
theorem dX0_setRing_21 : decode cX0_setRing 21 = .ok (.iinc 2 1, 3) := dk_132 2 1 (dk_at dksX0_setRing_0 21 rfl rfl)
theorem dX0_setRing_24 : decode cX0_setRing 24 = .ok (.goto (-17), 3) := dk_167 255 239 (dk_at dksX0_setRing_1 0 rfl rfl)
theorem dX0_setRing_27 : decode cX0_setRing 27 = .ok (.aload_n 0, 1) := dk_42 (dk_at dksX0_setRing_1 3 rfl rfl)
theorem dX0_setRing_28 : decode cX0_setRing 28 = .ok (.getfield 90, 3) := dk_180 0 90 (dk_at dksX0_setRing_1 4 rfl rfl)
theorem dX0_setRing_31 : decode cX0_setRing 31 = .ok (.aload_n 0, 1) := dk_42 (dk_at dksX0_setRing_1 7 rfl rfl)
theorem dX0_setRing_32 : decode cX0_setRing 32 = .ok (.getfield 86, 3) := dk_180 0 86 (dk_at dksX0_setRing_1 8 rfl rfl)
theorem dX0_setRing_35 : decode cX0_setRing 35 = .ok (.invokevirtual 429, 3) := dk_182 1 173 (dk_at dksX0_setRing_1 11 rfl rfl)
theorem dX0_setRing_38 : decode cX0_setRing 38 = .ok (.iconst 0, 1) := dk_3 (dk_at dksX0_setRing_1 14 rfl rfl)
theorem dX0_setRing_39 : decode cX0_setRing 39 = .ok (.istore_n 2, 1) := dk_61 (dk_at dksX0_setRing_1 15 rfl rfl)
theorem dX0_setRing_40 : decode cX0_setRing 40 = .ok (.iload_n 2, 1) := dk_28 (dk_at dksX0_setRing_1 16 rfl rfl)
theorem dX0_setRing_41 : decode cX0_setRing 41 = .ok (.sipush 2000, 3) := dk_17 7 208 (dk_at dksX0_setRing_1 17 rfl rfl)
theorem dX0_setRing_44 : decode cX0_setRing 44 = .ok (.if_icmp .gt 45, 3) := dk_163 0 45 (dk_at dksX0_setRing_1 20 rfl rfl)
theorem dX0_setRing_47 : decode cX0_setRing 47 = .ok (.aload_n 0, 1) := dk_42 (dk_at dksX0_setRing_1 23 rfl rfl)
theorem dX0_setRing_48 : decode cX0_setRing 48 = .ok (.iload_n 2, 1) := dk_28 (dk_at dksX0_setRing_2 0 rfl rfl)
theorem dX0_setRing_49 : decode cX0_setRing 49 = .ok (.iload_n 1, 1) := dk_27 (dk_at dksX0_setRing_2 1 rfl rfl)
theorem dX0_setRing_50 : decode cX0_setRing 50 = .ok (.invokevirtual 432, 3) := dk_182 1 176 (dk_at dksX0_setRing_2 2 rfl rfl)
theorem dX0_setRing_53 : decode cX0_setRing 53 = .ok (.aload_n 0, 1) := dk_42 (dk_at dksX0_setRing_2 5 rfl rfl)
theorem dX0_setRing_54 : decode cX0_setRing 54 = .ok (.iload_n 2, 1) := dk_28 (dk_at dksX0_setRing_2 6 rfl rfl)
theorem dX0_setRing_55 : decode cX0_setRing 55 = .ok (.invokevirtual 436, 3) := dk_182 1 180 (dk_at dksX0_setRing_2 7 rfl rfl)
theorem dX0_setRing_58 : decode cX0_setRing 58 = .ok (.istore_n 3, 1) := dk_62 (dk_at dksX0_setRing_2 10 rfl rfl)
theorem dX0_setRing_59 : decode cX0_setRing 59 = .ok (.iload_n 3, 1) := dk_29 (dk_at dksX0_setRing_2 11 rfl rfl)
theorem dX0_setRing_60 : decode cX0_setRing 60 = .ok (.bipush (-9), 2) := dk_16 247 (dk_at dksX0_setRing_2 12 rfl rfl)
theorem dX0_setRing_62 : decode cX0_setRing 62 = .ok (.if_icmp .eq 17, 3) := dk_159 0 17 (dk_at dksX0_setRing_2 14 rfl rfl)
theorem dX0_setRing_65 : decode cX0_setRing 65 = .ok (.aload_n 0, 1) := dk_42 (dk_at dksX0_setRing_2 17 rfl rfl)
theorem dX0_setRing_66 : decode cX0_setRing 66 = .ok (.iload_n 3, 1) := dk_29 (dk_at dksX0_setRing_2 18 rfl rfl)
theorem dX0_setRing_67 : decode cX0_setRing 67 = .ok (.putfield 439, 3) := dk_181 1 183 (dk_at dksX0_setRing_2 19 rfl rfl)
theorem dX0_setRing_70 : decode cX0_setRing 70 = .ok (.aload_n 0, 1) := dk_42 (dk_at dksX0_setRing_2 22 rfl rfl)
theorem dX0_setRing_71 : decode cX0_setRing 71 = .ok (.iload_n 2, 1) := dk_28 (dk_at dksX0_setRing_2 23 rfl rfl)
theorem dX0_setRing_72 : decode cX0_setRing 72 = .ok (.iload_n 3, 1) := dk_29 (dk_at dksX0_setRing_3 0 rfl rfl)
theorem dX0_setRing_73 : decode cX0_setRing 73 = .ok (.isub, 1) := dk_100 (dk_at dksX0_setRing_3 1 rfl rfl)
theorem dX0_setRing_74 : decode cX0_setRing 74 = .ok (.putfield 442, 3) := dk_181 1 186 (dk_at dksX0_setRing_3 2 rfl rfl)
theorem dX0_setRing_77 : decode cX0_setRing 77 = .ok (.iconst 1, 1) := dk_4 (dk_at dksX0_setRing_3 5 rfl rfl)
theorem dX0_setRing_78 : decode cX0_setRing 78 = .ok (.ireturn, 1) := dk_172 (dk_at dksX0_setRing_3 6 rfl rfl)
theorem dX0_setRing_79 : decode cX0_setRing 79 = .ok (.aload_n 0, 1) := dk_42 (dk_at dksX0_setRing_3 7 rfl rfl)
theorem dX0_setRing_80 : decode cX0_setRing 80 = .ok (.invokevirtual 445, 3) := dk_182 1 189 (dk_at dksX0_setRing_3 8 rfl rfl)
theorem dX0_setRing_83 : decode cX0_setRing 83 = .ok (.iinc 2 1, 3) := dk_132 2 1 (dk_at dksX0_setRing_3 11 rfl rfl)
theorem dX0_setRing_86 : decode cX0_setRing 86 = .ok (.goto (-46), 3) := dk_167 255 210 (dk_at dksX0_setRing_3 14 rfl rfl)
theorem dX0_setRing_89 : decode cX0_setRing 89 = .ok (.iconst 0, 1) := dk_3 (dk_at dksX0_setRing_3 17 rfl rfl)
theorem dX0_setRing_90 : decode cX0_setRing 90 = .ok (.ireturn, 1) := dk_172 (dk_at dksX0_setRing_3 18 rfl rfl)
abbrev cX0_phases : ByteArray := prog_1_method_66_code
def yX0_phases : MethodName := ⟨RX0, "phases", "()I"⟩
def dkwX0_phases_3 : List UInt8 := [21, 6, 108, 25, 5, 182, 1, 163, 104, 60, 132, 4, 1, 167, 255, 188, 27, 172]
abbrev dktX0_phases_3 : List UInt8 := dkwX0_phases_3 ++ []
def dkwX0_phases_2 : List UInt8 := [21, 7, 153, 0, 21, 21, 6, 21, 7, 112, 54, 8, 21, 7, 54, 6, 21, 8, 54, 7, 167, 255, 236, 27]
abbrev dktX0_phases_2 : List UInt8 := dkwX0_phases_2 ++ dktX0_phases_3
def dkwX0_phases_1 : List UInt8 := [21, 4, 50, 58, 5, 25, 5, 8, 182, 1, 160, 153, 0, 47, 27, 54, 6, 25, 5, 182, 1, 163, 54, 7]
abbrev dktX0_phases_1 : List UInt8 := dkwX0_phases_1 ++ dktX0_phases_2
def dkwX0_phases_0 : List UInt8 := [42, 180, 0, 126, 190, 60, 42, 180, 0, 40, 77, 44, 190, 62, 3, 54, 4, 21, 4, 29, 162, 0, 68, 44]
abbrev dktX0_phases_0 : List UInt8 := dkwX0_phases_0 ++ dktX0_phases_1
theorem dksX0_phases_0 : cX0_phases.data.toList.drop 0 = dktX0_phases_0 := by decide +kernel
theorem dksX0_phases_1 : cX0_phases.data.toList.drop 24 = dktX0_phases_1 := dk_seg dksX0_phases_0 24 rfl rfl
theorem dksX0_phases_2 : cX0_phases.data.toList.drop 48 = dktX0_phases_2 := dk_seg dksX0_phases_1 24 rfl rfl
theorem dksX0_phases_3 : cX0_phases.data.toList.drop 72 = dktX0_phases_3 := dk_seg dksX0_phases_2 24 rfl rfl
theorem dX0_phases_0 : decode cX0_phases 0 = .ok (.aload_n 0, 1) := dk_42 (dk_at dksX0_phases_0 0 rfl rfl)
theorem dX0_phases_1 : decode cX0_phases 1 = .ok (.getfield 126, 3) := dk_180 0 126 (dk_at dksX0_phases_0 1 rfl rfl)
theorem dX0_phases_4 : decode cX0_phases 4 = .ok (.arraylength, 1) := dk_190 (dk_at dksX0_phases_0 4 rfl rfl)
theorem dX0_phases_5 : decode cX0_phases 5 = .ok (.istore_n 1, 1) := dk_60 (dk_at dksX0_phases_0 5 rfl rfl)
theorem dX0_phases_6 : decode cX0_phases 6 = .ok (.aload_n 0, 1) := dk_42 (dk_at dksX0_phases_0 6 rfl rfl)
theorem dX0_phases_7 : decode cX0_phases 7 = .ok (.getfield 40, 3) := dk_180 0 40 (dk_at dksX0_phases_0 7 rfl rfl)
theorem dX0_phases_10 : decode cX0_phases 10 = .ok (.astore_n 2, 1) := dk_77 (dk_at dksX0_phases_0 10 rfl rfl)
theorem dX0_phases_11 : decode cX0_phases 11 = .ok (.aload_n 2, 1) := dk_44 (dk_at dksX0_phases_0 11 rfl rfl)
theorem dX0_phases_12 : decode cX0_phases 12 = .ok (.arraylength, 1) := dk_190 (dk_at dksX0_phases_0 12 rfl rfl)
theorem dX0_phases_13 : decode cX0_phases 13 = .ok (.istore_n 3, 1) := dk_62 (dk_at dksX0_phases_0 13 rfl rfl)
theorem dX0_phases_14 : decode cX0_phases 14 = .ok (.iconst 0, 1) := dk_3 (dk_at dksX0_phases_0 14 rfl rfl)
theorem dX0_phases_15 : decode cX0_phases 15 = .ok (.istore 4, 2) := dk_54 4 (dk_at dksX0_phases_0 15 rfl rfl)
theorem dX0_phases_17 : decode cX0_phases 17 = .ok (.iload 4, 2) := dk_21 4 (dk_at dksX0_phases_0 17 rfl rfl)
theorem dX0_phases_19 : decode cX0_phases 19 = .ok (.iload_n 3, 1) := dk_29 (dk_at dksX0_phases_0 19 rfl rfl)
theorem dX0_phases_20 : decode cX0_phases 20 = .ok (.if_icmp .ge 68, 3) := dk_162 0 68 (dk_at dksX0_phases_0 20 rfl rfl)
theorem dX0_phases_23 : decode cX0_phases 23 = .ok (.aload_n 2, 1) := dk_44 (dk_at dksX0_phases_0 23 rfl rfl)
theorem dX0_phases_24 : decode cX0_phases 24 = .ok (.iload 4, 2) := dk_21 4 (dk_at dksX0_phases_1 0 rfl rfl)
theorem dX0_phases_26 : decode cX0_phases 26 = .ok (.aaload, 1) := dk_50 (dk_at dksX0_phases_1 2 rfl rfl)
theorem dX0_phases_27 : decode cX0_phases 27 = .ok (.astore 5, 2) := dk_58 5 (dk_at dksX0_phases_1 3 rfl rfl)
theorem dX0_phases_29 : decode cX0_phases 29 = .ok (.aload 5, 2) := dk_25 5 (dk_at dksX0_phases_1 5 rfl rfl)
theorem dX0_phases_31 : decode cX0_phases 31 = .ok (.iconst 5, 1) := dk_8 (dk_at dksX0_phases_1 7 rfl rfl)
theorem dX0_phases_32 : decode cX0_phases 32 = .ok (.invokevirtual 416, 3) := dk_182 1 160 (dk_at dksX0_phases_1 8 rfl rfl)
theorem dX0_phases_35 : decode cX0_phases 35 = .ok (.ifCond .eq 47, 3) := dk_153 0 47 (dk_at dksX0_phases_1 11 rfl rfl)
theorem dX0_phases_38 : decode cX0_phases 38 = .ok (.iload_n 1, 1) := dk_27 (dk_at dksX0_phases_1 14 rfl rfl)
theorem dX0_phases_39 : decode cX0_phases 39 = .ok (.istore 6, 2) := dk_54 6 (dk_at dksX0_phases_1 15 rfl rfl)
theorem dX0_phases_41 : decode cX0_phases 41 = .ok (.aload 5, 2) := dk_25 5 (dk_at dksX0_phases_1 17 rfl rfl)
theorem dX0_phases_43 : decode cX0_phases 43 = .ok (.invokevirtual 419, 3) := dk_182 1 163 (dk_at dksX0_phases_1 19 rfl rfl)
theorem dX0_phases_46 : decode cX0_phases 46 = .ok (.istore 7, 2) := dk_54 7 (dk_at dksX0_phases_1 22 rfl rfl)
theorem dX0_phases_48 : decode cX0_phases 48 = .ok (.iload 7, 2) := dk_21 7 (dk_at dksX0_phases_2 0 rfl rfl)
theorem dX0_phases_50 : decode cX0_phases 50 = .ok (.ifCond .eq 21, 3) := dk_153 0 21 (dk_at dksX0_phases_2 2 rfl rfl)
theorem dX0_phases_53 : decode cX0_phases 53 = .ok (.iload 6, 2) := dk_21 6 (dk_at dksX0_phases_2 5 rfl rfl)
theorem dX0_phases_55 : decode cX0_phases 55 = .ok (.iload 7, 2) := dk_21 7 (dk_at dksX0_phases_2 7 rfl rfl)
theorem dX0_phases_57 : decode cX0_phases 57 = .ok (.irem, 1) := dk_112 (dk_at dksX0_phases_2 9 rfl rfl)
theorem dX0_phases_58 : decode cX0_phases 58 = .ok (.istore 8, 2) := dk_54 8 (dk_at dksX0_phases_2 10 rfl rfl)
theorem dX0_phases_60 : decode cX0_phases 60 = .ok (.iload 7, 2) := dk_21 7 (dk_at dksX0_phases_2 12 rfl rfl)
theorem dX0_phases_62 : decode cX0_phases 62 = .ok (.istore 6, 2) := dk_54 6 (dk_at dksX0_phases_2 14 rfl rfl)
theorem dX0_phases_64 : decode cX0_phases 64 = .ok (.iload 8, 2) := dk_21 8 (dk_at dksX0_phases_2 16 rfl rfl)
theorem dX0_phases_66 : decode cX0_phases 66 = .ok (.istore 7, 2) := dk_54 7 (dk_at dksX0_phases_2 18 rfl rfl)
theorem dX0_phases_68 : decode cX0_phases 68 = .ok (.goto (-20), 3) := dk_167 255 236 (dk_at dksX0_phases_2 20 rfl rfl)
theorem dX0_phases_71 : decode cX0_phases 71 = .ok (.iload_n 1, 1) := dk_27 (dk_at dksX0_phases_2 23 rfl rfl)
theorem dX0_phases_72 : decode cX0_phases 72 = .ok (.iload 6, 2) := dk_21 6 (dk_at dksX0_phases_3 0 rfl rfl)
theorem dX0_phases_74 : decode cX0_phases 74 = .ok (.idiv, 1) := dk_108 (dk_at dksX0_phases_3 2 rfl rfl)
theorem dX0_phases_75 : decode cX0_phases 75 = .ok (.aload 5, 2) := dk_25 5 (dk_at dksX0_phases_3 3 rfl rfl)
theorem dX0_phases_77 : decode cX0_phases 77 = .ok (.invokevirtual 419, 3) := dk_182 1 163 (dk_at dksX0_phases_3 5 rfl rfl)
theorem dX0_phases_80 : decode cX0_phases 80 = .ok (.imul, 1) := dk_104 (dk_at dksX0_phases_3 8 rfl rfl)
theorem dX0_phases_81 : decode cX0_phases 81 = .ok (.istore_n 1, 1) := dk_60 (dk_at dksX0_phases_3 9 rfl rfl)
theorem dX0_phases_82 : decode cX0_phases 82 = .ok (.iinc 4 1, 3) := dk_132 4 1 (dk_at dksX0_phases_3 10 rfl rfl)
theorem dX0_phases_85 : decode cX0_phases 85 = .ok (.goto (-68), 3) := dk_167 255 188 (dk_at dksX0_phases_3 13 rfl rfl)
theorem dX0_phases_88 : decode cX0_phases 88 = .ok (.iload_n 1, 1) := dk_27 (dk_at dksX0_phases_3 16 rfl rfl)
theorem dX0_phases_89 : decode cX0_phases 89 = .ok (.ireturn, 1) := dk_172 (dk_at dksX0_phases_3 17 rfl rfl)
abbrev cX0_note : ByteArray := prog_1_method_67_code
def yX0_note : MethodName := ⟨RX0, "note", "(II)V"⟩
def dkwX0_note_5 : List UInt8 := [180, 0, 90, 180, 1, 23, 28, 112, 147, 86, 177]
abbrev dktX0_note_5 : List UInt8 := dkwX0_note_5 ++ []
def dkwX0_note_4 : List UInt8 := [167, 0, 4, 3, 147, 86, 132, 4, 1, 167, 255, 211, 42, 180, 0, 106, 29, 16, 27, 96, 4, 100, 42]
abbrev dktX0_note_4 : List UInt8 := dkwX0_note_4 ++ dktX0_note_5
def dkwX0_note_3 : List UInt8 := [21, 4, 96, 21, 4, 42, 180, 1, 17, 162, 0, 16, 42, 180, 0, 90, 180, 1, 26, 21, 4, 46]
abbrev dktX0_note_3 : List UInt8 := dkwX0_note_3 ++ dktX0_note_4
def dkwX0_note_2 : List UInt8 := [86, 132, 4, 1, 167, 255, 213, 3, 54, 4, 21, 4, 5, 162, 0, 45, 42, 180, 0, 106, 29, 16, 24, 96]
abbrev dktX0_note_2 : List UInt8 := dkwX0_note_2 ++ dktX0_note_3
def dkwX0_note_1 : List UInt8 := [21, 4, 42, 180, 1, 20, 162, 0, 16, 42, 180, 0, 90, 180, 1, 32, 21, 4, 46, 167, 0, 4, 3, 147]
abbrev dktX0_note_1 : List UInt8 := dkwX0_note_1 ++ dktX0_note_2
def dkwX0_note_0 : List UInt8 := [27, 16, 27, 104, 62, 3, 54, 4, 21, 4, 16, 24, 162, 0, 42, 42, 180, 0, 106, 29, 21, 4, 96]
abbrev dktX0_note_0 : List UInt8 := dkwX0_note_0 ++ dktX0_note_1
theorem dksX0_note_0 : cX0_note.data.toList.drop 0 = dktX0_note_0 := by decide +kernel
theorem dksX0_note_1 : cX0_note.data.toList.drop 23 = dktX0_note_1 := dk_seg dksX0_note_0 23 rfl rfl
theorem dksX0_note_2 : cX0_note.data.toList.drop 47 = dktX0_note_2 := dk_seg dksX0_note_1 24 rfl rfl
theorem dksX0_note_3 : cX0_note.data.toList.drop 71 = dktX0_note_3 := dk_seg dksX0_note_2 24 rfl rfl
theorem dksX0_note_4 : cX0_note.data.toList.drop 93 = dktX0_note_4 := dk_seg dksX0_note_3 22 rfl rfl
theorem dksX0_note_5 : cX0_note.data.toList.drop 116 = dktX0_note_5 := dk_seg dksX0_note_4 23 rfl rfl
theorem dX0_note_0 : decode cX0_note 0 = .ok (.iload_n 1, 1) := dk_27 (dk_at dksX0_note_0 0 rfl rfl)
theorem dX0_note_1 : decode cX0_note 1 = .ok (.bipush 27, 2) := dk_16 27 (dk_at dksX0_note_0 1 rfl rfl)
theorem dX0_note_3 : decode cX0_note 3 = .ok (.imul, 1) := dk_104 (dk_at dksX0_note_0 3 rfl rfl)
theorem dX0_note_4 : decode cX0_note 4 = .ok (.istore_n 3, 1) := dk_62 (dk_at dksX0_note_0 4 rfl rfl)
theorem dX0_note_5 : decode cX0_note 5 = .ok (.iconst 0, 1) := dk_3 (dk_at dksX0_note_0 5 rfl rfl)
theorem dX0_note_6 : decode cX0_note 6 = .ok (.istore 4, 2) := dk_54 4 (dk_at dksX0_note_0 6 rfl rfl)
theorem dX0_note_8 : decode cX0_note 8 = .ok (.iload 4, 2) := dk_21 4 (dk_at dksX0_note_0 8 rfl rfl)
theorem dX0_note_10 : decode cX0_note 10 = .ok (.bipush 24, 2) := dk_16 24 (dk_at dksX0_note_0 10 rfl rfl)
theorem dX0_note_12 : decode cX0_note 12 = .ok (.if_icmp .ge 42, 3) := dk_162 0 42 (dk_at dksX0_note_0 12 rfl rfl)
theorem dX0_note_15 : decode cX0_note 15 = .ok (.aload_n 0, 1) := dk_42 (dk_at dksX0_note_0 15 rfl rfl)
theorem dX0_note_16 : decode cX0_note 16 = .ok (.getfield 106, 3) := dk_180 0 106 (dk_at dksX0_note_0 16 rfl rfl)
theorem dX0_note_19 : decode cX0_note 19 = .ok (.iload_n 3, 1) := dk_29 (dk_at dksX0_note_0 19 rfl rfl)
theorem dX0_note_20 : decode cX0_note 20 = .ok (.iload 4, 2) := dk_21 4 (dk_at dksX0_note_0 20 rfl rfl)
theorem dX0_note_22 : decode cX0_note 22 = .ok (.iadd, 1) := dk_96 (dk_at dksX0_note_0 22 rfl rfl)
theorem dX0_note_23 : decode cX0_note 23 = .ok (.iload 4, 2) := dk_21 4 (dk_at dksX0_note_1 0 rfl rfl)
theorem dX0_note_25 : decode cX0_note 25 = .ok (.aload_n 0, 1) := dk_42 (dk_at dksX0_note_1 2 rfl rfl)
theorem dX0_note_26 : decode cX0_note 26 = .ok (.getfield 276, 3) := dk_180 1 20 (dk_at dksX0_note_1 3 rfl rfl)
theorem dX0_note_29 : decode cX0_note 29 = .ok (.if_icmp .ge 16, 3) := dk_162 0 16 (dk_at dksX0_note_1 6 rfl rfl)
theorem dX0_note_32 : decode cX0_note 32 = .ok (.aload_n 0, 1) := dk_42 (dk_at dksX0_note_1 9 rfl rfl)
theorem dX0_note_33 : decode cX0_note 33 = .ok (.getfield 90, 3) := dk_180 0 90 (dk_at dksX0_note_1 10 rfl rfl)
theorem dX0_note_36 : decode cX0_note 36 = .ok (.getfield 288, 3) := dk_180 1 32 (dk_at dksX0_note_1 13 rfl rfl)
theorem dX0_note_39 : decode cX0_note 39 = .ok (.iload 4, 2) := dk_21 4 (dk_at dksX0_note_1 16 rfl rfl)
theorem dX0_note_41 : decode cX0_note 41 = .ok (.iaload, 1) := dk_46 (dk_at dksX0_note_1 18 rfl rfl)
theorem dX0_note_42 : decode cX0_note 42 = .ok (.goto 4, 3) := dk_167 0 4 (dk_at dksX0_note_1 19 rfl rfl)
theorem dX0_note_45 : decode cX0_note 45 = .ok (.iconst 0, 1) := dk_3 (dk_at dksX0_note_1 22 rfl rfl)
theorem dX0_note_46 : decode cX0_note 46 = .ok (.i2s, 1) := dk_147 (dk_at dksX0_note_1 23 rfl rfl)
theorem dX0_note_47 : decode cX0_note 47 = .ok (.sastore, 1) := dk_86 (dk_at dksX0_note_2 0 rfl rfl)
theorem dX0_note_48 : decode cX0_note 48 = .ok (.iinc 4 1, 3) := dk_132 4 1 (dk_at dksX0_note_2 1 rfl rfl)
theorem dX0_note_51 : decode cX0_note 51 = .ok (.goto (-43), 3) := dk_167 255 213 (dk_at dksX0_note_2 4 rfl rfl)
theorem dX0_note_54 : decode cX0_note 54 = .ok (.iconst 0, 1) := dk_3 (dk_at dksX0_note_2 7 rfl rfl)
theorem dX0_note_55 : decode cX0_note 55 = .ok (.istore 4, 2) := dk_54 4 (dk_at dksX0_note_2 8 rfl rfl)
theorem dX0_note_57 : decode cX0_note 57 = .ok (.iload 4, 2) := dk_21 4 (dk_at dksX0_note_2 10 rfl rfl)
theorem dX0_note_59 : decode cX0_note 59 = .ok (.iconst 2, 1) := dk_5 (dk_at dksX0_note_2 12 rfl rfl)
theorem dX0_note_60 : decode cX0_note 60 = .ok (.if_icmp .ge 45, 3) := dk_162 0 45 (dk_at dksX0_note_2 13 rfl rfl)
theorem dX0_note_63 : decode cX0_note 63 = .ok (.aload_n 0, 1) := dk_42 (dk_at dksX0_note_2 16 rfl rfl)
theorem dX0_note_64 : decode cX0_note 64 = .ok (.getfield 106, 3) := dk_180 0 106 (dk_at dksX0_note_2 17 rfl rfl)
theorem dX0_note_67 : decode cX0_note 67 = .ok (.iload_n 3, 1) := dk_29 (dk_at dksX0_note_2 20 rfl rfl)
theorem dX0_note_68 : decode cX0_note 68 = .ok (.bipush 24, 2) := dk_16 24 (dk_at dksX0_note_2 21 rfl rfl)
theorem dX0_note_70 : decode cX0_note 70 = .ok (.iadd, 1) := dk_96 (dk_at dksX0_note_2 23 rfl rfl)
theorem dX0_note_71 : decode cX0_note 71 = .ok (.iload 4, 2) := dk_21 4 (dk_at dksX0_note_3 0 rfl rfl)
theorem dX0_note_73 : decode cX0_note 73 = .ok (.iadd, 1) := dk_96 (dk_at dksX0_note_3 2 rfl rfl)
theorem dX0_note_74 : decode cX0_note 74 = .ok (.iload 4, 2) := dk_21 4 (dk_at dksX0_note_3 3 rfl rfl)
theorem dX0_note_76 : decode cX0_note 76 = .ok (.aload_n 0, 1) := dk_42 (dk_at dksX0_note_3 5 rfl rfl)
theorem dX0_note_77 : decode cX0_note 77 = .ok (.getfield 273, 3) := dk_180 1 17 (dk_at dksX0_note_3 6 rfl rfl)
theorem dX0_note_80 : decode cX0_note 80 = .ok (.if_icmp .ge 16, 3) := dk_162 0 16 (dk_at dksX0_note_3 9 rfl rfl)
theorem dX0_note_83 : decode cX0_note 83 = .ok (.aload_n 0, 1) := dk_42 (dk_at dksX0_note_3 12 rfl rfl)
theorem dX0_note_84 : decode cX0_note 84 = .ok (.getfield 90, 3) := dk_180 0 90 (dk_at dksX0_note_3 13 rfl rfl)
theorem dX0_note_87 : decode cX0_note 87 = .ok (.getfield 282, 3) := dk_180 1 26 (dk_at dksX0_note_3 16 rfl rfl)
theorem dX0_note_90 : decode cX0_note 90 = .ok (.iload 4, 2) := dk_21 4 (dk_at dksX0_note_3 19 rfl rfl)
theorem dX0_note_92 : decode cX0_note 92 = .ok (.iaload, 1) := dk_46 (dk_at dksX0_note_3 21 rfl rfl)
theorem dX0_note_93 : decode cX0_note 93 = .ok (.goto 4, 3) := dk_167 0 4 (dk_at dksX0_note_4 0 rfl rfl)
theorem dX0_note_96 : decode cX0_note 96 = .ok (.iconst 0, 1) := dk_3 (dk_at dksX0_note_4 3 rfl rfl)
theorem dX0_note_97 : decode cX0_note 97 = .ok (.i2s, 1) := dk_147 (dk_at dksX0_note_4 4 rfl rfl)
theorem dX0_note_98 : decode cX0_note 98 = .ok (.sastore, 1) := dk_86 (dk_at dksX0_note_4 5 rfl rfl)
theorem dX0_note_99 : decode cX0_note 99 = .ok (.iinc 4 1, 3) := dk_132 4 1 (dk_at dksX0_note_4 6 rfl rfl)
theorem dX0_note_102 : decode cX0_note 102 = .ok (.goto (-45), 3) := dk_167 255 211 (dk_at dksX0_note_4 9 rfl rfl)
theorem dX0_note_105 : decode cX0_note 105 = .ok (.aload_n 0, 1) := dk_42 (dk_at dksX0_note_4 12 rfl rfl)
theorem dX0_note_106 : decode cX0_note 106 = .ok (.getfield 106, 3) := dk_180 0 106 (dk_at dksX0_note_4 13 rfl rfl)
theorem dX0_note_109 : decode cX0_note 109 = .ok (.iload_n 3, 1) := dk_29 (dk_at dksX0_note_4 16 rfl rfl)
theorem dX0_note_110 : decode cX0_note 110 = .ok (.bipush 27, 2) := dk_16 27 (dk_at dksX0_note_4 17 rfl rfl)
theorem dX0_note_112 : decode cX0_note 112 = .ok (.iadd, 1) := dk_96 (dk_at dksX0_note_4 19 rfl rfl)
theorem dX0_note_113 : decode cX0_note 113 = .ok (.iconst 1, 1) := dk_4 (dk_at dksX0_note_4 20 rfl rfl)
theorem dX0_note_114 : decode cX0_note 114 = .ok (.isub, 1) := dk_100 (dk_at dksX0_note_4 21 rfl rfl)
theorem dX0_note_115 : decode cX0_note 115 = .ok (.aload_n 0, 1) := dk_42 (dk_at dksX0_note_4 22 rfl rfl)
theorem dX0_note_116 : decode cX0_note 116 = .ok (.getfield 90, 3) := dk_180 0 90 (dk_at dksX0_note_5 0 rfl rfl)
theorem dX0_note_119 : decode cX0_note 119 = .ok (.getfield 279, 3) := dk_180 1 23 (dk_at dksX0_note_5 3 rfl rfl)
theorem dX0_note_122 : decode cX0_note 122 = .ok (.iload_n 2, 1) := dk_28 (dk_at dksX0_note_5 6 rfl rfl)
theorem dX0_note_123 : decode cX0_note 123 = .ok (.irem, 1) := dk_112 (dk_at dksX0_note_5 7 rfl rfl)
theorem dX0_note_124 : decode cX0_note 124 = .ok (.i2s, 1) := dk_147 (dk_at dksX0_note_5 8 rfl rfl)
theorem dX0_note_125 : decode cX0_note 125 = .ok (.sastore, 1) := dk_86 (dk_at dksX0_note_5 9 rfl rfl)
theorem dX0_note_126 : decode cX0_note 126 = .ok (.return_, 1) := dk_177 (dk_at dksX0_note_5 10 rfl rfl)
abbrev cX0_earlier : ByteArray := prog_1_method_70_code
def yX0_earlier : MethodName := ⟨RX0, "earlier", "(I)I"⟩
def dkwX0_earlier_2 : List UInt8 := [167, 255, 214, 42, 180, 0, 110, 28, 27, 4, 96, 147, 86, 16, 247, 172]
abbrev dktX0_earlier_2 : List UInt8 := dkwX0_earlier_2 ++ []
def dkwX0_earlier_1 : List UInt8 := [27, 182, 1, 167, 153, 0, 12, 42, 180, 0, 110, 28, 53, 4, 100, 172, 28, 4, 96, 17, 31, 255, 126, 61]
abbrev dktX0_earlier_1 : List UInt8 := dkwX0_earlier_1 ++ dktX0_earlier_2
def dkwX0_earlier_0 : List UInt8 := [42, 27, 182, 1, 164, 61, 42, 180, 0, 110, 28, 53, 153, 0, 39, 42, 42, 180, 0, 110, 28, 53, 4, 100]
abbrev dktX0_earlier_0 : List UInt8 := dkwX0_earlier_0 ++ dktX0_earlier_1
theorem dksX0_earlier_0 : cX0_earlier.data.toList.drop 0 = dktX0_earlier_0 := by decide +kernel
theorem dksX0_earlier_1 : cX0_earlier.data.toList.drop 24 = dktX0_earlier_1 := dk_seg dksX0_earlier_0 24 rfl rfl
theorem dksX0_earlier_2 : cX0_earlier.data.toList.drop 48 = dktX0_earlier_2 := dk_seg dksX0_earlier_1 24 rfl rfl
theorem dX0_earlier_0 : decode cX0_earlier 0 = .ok (.aload_n 0, 1) := dk_42 (dk_at dksX0_earlier_0 0 rfl rfl)
theorem dX0_earlier_1 : decode cX0_earlier 1 = .ok (.iload_n 1, 1) := dk_27 (dk_at dksX0_earlier_0 1 rfl rfl)
theorem dX0_earlier_2 : decode cX0_earlier 2 = .ok (.invokevirtual 420, 3) := dk_182 1 164 (dk_at dksX0_earlier_0 2 rfl rfl)
theorem dX0_earlier_5 : decode cX0_earlier 5 = .ok (.istore_n 2, 1) := dk_61 (dk_at dksX0_earlier_0 5 rfl rfl)
theorem dX0_earlier_6 : decode cX0_earlier 6 = .ok (.aload_n 0, 1) := dk_42 (dk_at dksX0_earlier_0 6 rfl rfl)
theorem dX0_earlier_7 : decode cX0_earlier 7 = .ok (.getfield 110, 3) := dk_180 0 110 (dk_at dksX0_earlier_0 7 rfl rfl)
theorem dX0_earlier_10 : decode cX0_earlier 10 = .ok (.iload_n 2, 1) := dk_28 (dk_at dksX0_earlier_0 10 rfl rfl)
theorem dX0_earlier_11 : decode cX0_earlier 11 = .ok (.saload, 1) := dk_53 (dk_at dksX0_earlier_0 11 rfl rfl)
theorem dX0_earlier_12 : decode cX0_earlier 12 = .ok (.ifCond .eq 39, 3) := dk_153 0 39 (dk_at dksX0_earlier_0 12 rfl rfl)
theorem dX0_earlier_15 : decode cX0_earlier 15 = .ok (.aload_n 0, 1) := dk_42 (dk_at dksX0_earlier_0 15 rfl rfl)
theorem dX0_earlier_16 : decode cX0_earlier 16 = .ok (.aload_n 0, 1) := dk_42 (dk_at dksX0_earlier_0 16 rfl rfl)
theorem dX0_earlier_17 : decode cX0_earlier 17 = .ok (.getfield 110, 3) := dk_180 0 110 (dk_at dksX0_earlier_0 17 rfl rfl)
theorem dX0_earlier_20 : decode cX0_earlier 20 = .ok (.iload_n 2, 1) := dk_28 (dk_at dksX0_earlier_0 20 rfl rfl)
theorem dX0_earlier_21 : decode cX0_earlier 21 = .ok (.saload, 1) := dk_53 (dk_at dksX0_earlier_0 21 rfl rfl)
theorem dX0_earlier_22 : decode cX0_earlier 22 = .ok (.iconst 1, 1) := dk_4 (dk_at dksX0_earlier_0 22 rfl rfl)
theorem dX0_earlier_23 : decode cX0_earlier 23 = .ok (.isub, 1) := dk_100 (dk_at dksX0_earlier_0 23 rfl rfl)
theorem dX0_earlier_24 : decode cX0_earlier 24 = .ok (.iload_n 1, 1) := dk_27 (dk_at dksX0_earlier_1 0 rfl rfl)
theorem dX0_earlier_25 : decode cX0_earlier 25 = .ok (.invokevirtual 423, 3) := dk_182 1 167 (dk_at dksX0_earlier_1 1 rfl rfl)
theorem dX0_earlier_28 : decode cX0_earlier 28 = .ok (.ifCond .eq 12, 3) := dk_153 0 12 (dk_at dksX0_earlier_1 4 rfl rfl)
theorem dX0_earlier_31 : decode cX0_earlier 31 = .ok (.aload_n 0, 1) := dk_42 (dk_at dksX0_earlier_1 7 rfl rfl)
theorem dX0_earlier_32 : decode cX0_earlier 32 = .ok (.getfield 110, 3) := dk_180 0 110 (dk_at dksX0_earlier_1 8 rfl rfl)
theorem dX0_earlier_35 : decode cX0_earlier 35 = .ok (.iload_n 2, 1) := dk_28 (dk_at dksX0_earlier_1 11 rfl rfl)
theorem dX0_earlier_36 : decode cX0_earlier 36 = .ok (.saload, 1) := dk_53 (dk_at dksX0_earlier_1 12 rfl rfl)
theorem dX0_earlier_37 : decode cX0_earlier 37 = .ok (.iconst 1, 1) := dk_4 (dk_at dksX0_earlier_1 13 rfl rfl)
theorem dX0_earlier_38 : decode cX0_earlier 38 = .ok (.isub, 1) := dk_100 (dk_at dksX0_earlier_1 14 rfl rfl)
theorem dX0_earlier_39 : decode cX0_earlier 39 = .ok (.ireturn, 1) := dk_172 (dk_at dksX0_earlier_1 15 rfl rfl)
theorem dX0_earlier_40 : decode cX0_earlier 40 = .ok (.iload_n 2, 1) := dk_28 (dk_at dksX0_earlier_1 16 rfl rfl)
theorem dX0_earlier_41 : decode cX0_earlier 41 = .ok (.iconst 1, 1) := dk_4 (dk_at dksX0_earlier_1 17 rfl rfl)
theorem dX0_earlier_42 : decode cX0_earlier 42 = .ok (.iadd, 1) := dk_96 (dk_at dksX0_earlier_1 18 rfl rfl)
theorem dX0_earlier_43 : decode cX0_earlier 43 = .ok (.sipush 8191, 3) := dk_17 31 255 (dk_at dksX0_earlier_1 19 rfl rfl)
theorem dX0_earlier_46 : decode cX0_earlier 46 = .ok (.iand, 1) := dk_126 (dk_at dksX0_earlier_1 22 rfl rfl)
theorem dX0_earlier_47 : decode cX0_earlier 47 = .ok (.istore_n 2, 1) := dk_61 (dk_at dksX0_earlier_1 23 rfl rfl)
theorem dX0_earlier_48 : decode cX0_earlier 48 = .ok (.goto (-42), 3) := dk_167 255 214 (dk_at dksX0_earlier_2 0 rfl rfl)
theorem dX0_earlier_51 : decode cX0_earlier 51 = .ok (.aload_n 0, 1) := dk_42 (dk_at dksX0_earlier_2 3 rfl rfl)
theorem dX0_earlier_52 : decode cX0_earlier 52 = .ok (.getfield 110, 3) := dk_180 0 110 (dk_at dksX0_earlier_2 4 rfl rfl)
theorem dX0_earlier_55 : decode cX0_earlier 55 = .ok (.iload_n 2, 1) := dk_28 (dk_at dksX0_earlier_2 7 rfl rfl)
theorem dX0_earlier_56 : decode cX0_earlier 56 = .ok (.iload_n 1, 1) := dk_27 (dk_at dksX0_earlier_2 8 rfl rfl)
theorem dX0_earlier_57 : decode cX0_earlier 57 = .ok (.iconst 1, 1) := dk_4 (dk_at dksX0_earlier_2 9 rfl rfl)
theorem dX0_earlier_58 : decode cX0_earlier 58 = .ok (.iadd, 1) := dk_96 (dk_at dksX0_earlier_2 10 rfl rfl)
theorem dX0_earlier_59 : decode cX0_earlier 59 = .ok (.i2s, 1) := dk_147 (dk_at dksX0_earlier_2 11 rfl rfl)
theorem dX0_earlier_60 : decode cX0_earlier 60 = .ok (.sastore, 1) := dk_86 (dk_at dksX0_earlier_2 12 rfl rfl)
theorem dX0_earlier_61 : decode cX0_earlier 61 = .ok (.bipush (-9), 2) := dk_16 247 (dk_at dksX0_earlier_2 13 rfl rfl)
theorem dX0_earlier_63 : decode cX0_earlier 63 = .ok (.ireturn, 1) := dk_172 (dk_at dksX0_earlier_2 15 rfl rfl)
abbrev cX0_placeOf : ByteArray := prog_1_method_69_code
def yX0_placeOf : MethodName := ⟨RX0, "placeOf", "(I)I"⟩
def dkwX0_placeOf_1 : List UInt8 := [96, 53, 96, 61, 132, 3, 1, 167, 255, 230, 28, 28, 16, 13, 124, 130, 17, 31, 255, 126, 172]
abbrev dktX0_placeOf_1 : List UInt8 := dkwX0_placeOf_1 ++ []
def dkwX0_placeOf_0 : List UInt8 := [16, 7, 61, 3, 62, 29, 16, 27, 162, 0, 26, 16, 31, 28, 104, 42, 180, 0, 106, 27, 16, 27, 104, 29]
abbrev dktX0_placeOf_0 : List UInt8 := dkwX0_placeOf_0 ++ dktX0_placeOf_1
theorem dksX0_placeOf_0 : cX0_placeOf.data.toList.drop 0 = dktX0_placeOf_0 := by decide +kernel
theorem dksX0_placeOf_1 : cX0_placeOf.data.toList.drop 24 = dktX0_placeOf_1 := dk_seg dksX0_placeOf_0 24 rfl rfl
theorem dX0_placeOf_0 : decode cX0_placeOf 0 = .ok (.bipush 7, 2) := dk_16 7 (dk_at dksX0_placeOf_0 0 rfl rfl)
theorem dX0_placeOf_2 : decode cX0_placeOf 2 = .ok (.istore_n 2, 1) := dk_61 (dk_at dksX0_placeOf_0 2 rfl rfl)
theorem dX0_placeOf_3 : decode cX0_placeOf 3 = .ok (.iconst 0, 1) := dk_3 (dk_at dksX0_placeOf_0 3 rfl rfl)
theorem dX0_placeOf_4 : decode cX0_placeOf 4 = .ok (.istore_n 3, 1) := dk_62 (dk_at dksX0_placeOf_0 4 rfl rfl)
theorem dX0_placeOf_5 : decode cX0_placeOf 5 = .ok (.iload_n 3, 1) := dk_29 (dk_at dksX0_placeOf_0 5 rfl rfl)
theorem dX0_placeOf_6 : decode cX0_placeOf 6 = .ok (.bipush 27, 2) := dk_16 27 (dk_at dksX0_placeOf_0 6 rfl rfl)
theorem dX0_placeOf_8 : decode cX0_placeOf 8 = .ok (.if_icmp .ge 26, 3) := dk_162 0 26 (dk_at dksX0_placeOf_0 8 rfl rfl)
theorem dX0_placeOf_11 : decode cX0_placeOf 11 = .ok (.bipush 31, 2) := dk_16 31 (dk_at dksX0_placeOf_0 11 rfl rfl)
theorem dX0_placeOf_13 : decode cX0_placeOf 13 = .ok (.iload_n 2, 1) := dk_28 (dk_at dksX0_placeOf_0 13 rfl rfl)
theorem dX0_placeOf_14 : decode cX0_placeOf 14 = .ok (.imul, 1) := dk_104 (dk_at dksX0_placeOf_0 14 rfl rfl)
theorem dX0_placeOf_15 : decode cX0_placeOf 15 = .ok (.aload_n 0, 1) := dk_42 (dk_at dksX0_placeOf_0 15 rfl rfl)
theorem dX0_placeOf_16 : decode cX0_placeOf 16 = .ok (.getfield 106, 3) := dk_180 0 106 (dk_at dksX0_placeOf_0 16 rfl rfl)
theorem dX0_placeOf_19 : decode cX0_placeOf 19 = .ok (.iload_n 1, 1) := dk_27 (dk_at dksX0_placeOf_0 19 rfl rfl)
theorem dX0_placeOf_20 : decode cX0_placeOf 20 = .ok (.bipush 27, 2) := dk_16 27 (dk_at dksX0_placeOf_0 20 rfl rfl)
theorem dX0_placeOf_22 : decode cX0_placeOf 22 = .ok (.imul, 1) := dk_104 (dk_at dksX0_placeOf_0 22 rfl rfl)
theorem dX0_placeOf_23 : decode cX0_placeOf 23 = .ok (.iload_n 3, 1) := dk_29 (dk_at dksX0_placeOf_0 23 rfl rfl)
theorem dX0_placeOf_24 : decode cX0_placeOf 24 = .ok (.iadd, 1) := dk_96 (dk_at dksX0_placeOf_1 0 rfl rfl)
theorem dX0_placeOf_25 : decode cX0_placeOf 25 = .ok (.saload, 1) := dk_53 (dk_at dksX0_placeOf_1 1 rfl rfl)
theorem dX0_placeOf_26 : decode cX0_placeOf 26 = .ok (.iadd, 1) := dk_96 (dk_at dksX0_placeOf_1 2 rfl rfl)
theorem dX0_placeOf_27 : decode cX0_placeOf 27 = .ok (.istore_n 2, 1) := dk_61 (dk_at dksX0_placeOf_1 3 rfl rfl)
theorem dX0_placeOf_28 : decode cX0_placeOf 28 = .ok (.iinc 3 1, 3) := dk_132 3 1 (dk_at dksX0_placeOf_1 4 rfl rfl)
theorem dX0_placeOf_31 : decode cX0_placeOf 31 = .ok (.goto (-26), 3) := dk_167 255 230 (dk_at dksX0_placeOf_1 7 rfl rfl)
theorem dX0_placeOf_34 : decode cX0_placeOf 34 = .ok (.iload_n 2, 1) := dk_28 (dk_at dksX0_placeOf_1 10 rfl rfl)
theorem dX0_placeOf_35 : decode cX0_placeOf 35 = .ok (.iload_n 2, 1) := dk_28 (dk_at dksX0_placeOf_1 11 rfl rfl)
theorem dX0_placeOf_36 : decode cX0_placeOf 36 = .ok (.bipush 13, 2) := dk_16 13 (dk_at dksX0_placeOf_1 12 rfl rfl)
theorem dX0_placeOf_38 : decode cX0_placeOf 38 = .ok (.iushr, 1) := dk_124 (dk_at dksX0_placeOf_1 14 rfl rfl)
theorem dX0_placeOf_39 : decode cX0_placeOf 39 = .ok (.ixor, 1) := dk_130 (dk_at dksX0_placeOf_1 15 rfl rfl)
theorem dX0_placeOf_40 : decode cX0_placeOf 40 = .ok (.sipush 8191, 3) := dk_17 31 255 (dk_at dksX0_placeOf_1 16 rfl rfl)
theorem dX0_placeOf_43 : decode cX0_placeOf 43 = .ok (.iand, 1) := dk_126 (dk_at dksX0_placeOf_1 19 rfl rfl)
theorem dX0_placeOf_44 : decode cX0_placeOf 44 = .ok (.ireturn, 1) := dk_172 (dk_at dksX0_placeOf_1 20 rfl rfl)
abbrev cX0_areAlike : ByteArray := prog_1_method_68_code
def yX0_areAlike : MethodName := ⟨RX0, "areAlike", "(II)Z"⟩
def dkwX0_areAlike_1 : List UInt8 := [16, 27, 104, 29, 96, 53, 159, 0, 5, 3, 172, 132, 3, 1, 167, 255, 220, 4, 172]
abbrev dktX0_areAlike_1 : List UInt8 := dkwX0_areAlike_1 ++ []
def dkwX0_areAlike_0 : List UInt8 := [3, 62, 29, 16, 27, 162, 0, 36, 42, 180, 0, 106, 27, 16, 27, 104, 29, 96, 53, 42, 180, 0, 106, 28]
abbrev dktX0_areAlike_0 : List UInt8 := dkwX0_areAlike_0 ++ dktX0_areAlike_1
theorem dksX0_areAlike_0 : cX0_areAlike.data.toList.drop 0 = dktX0_areAlike_0 := by decide +kernel
theorem dksX0_areAlike_1 : cX0_areAlike.data.toList.drop 24 = dktX0_areAlike_1 := dk_seg dksX0_areAlike_0 24 rfl rfl
theorem dX0_areAlike_0 : decode cX0_areAlike 0 = .ok (.iconst 0, 1) := dk_3 (dk_at dksX0_areAlike_0 0 rfl rfl)
theorem dX0_areAlike_1 : decode cX0_areAlike 1 = .ok (.istore_n 3, 1) := dk_62 (dk_at dksX0_areAlike_0 1 rfl rfl)
theorem dX0_areAlike_2 : decode cX0_areAlike 2 = .ok (.iload_n 3, 1) := dk_29 (dk_at dksX0_areAlike_0 2 rfl rfl)
theorem dX0_areAlike_3 : decode cX0_areAlike 3 = .ok (.bipush 27, 2) := dk_16 27 (dk_at dksX0_areAlike_0 3 rfl rfl)
theorem dX0_areAlike_5 : decode cX0_areAlike 5 = .ok (.if_icmp .ge 36, 3) := dk_162 0 36 (dk_at dksX0_areAlike_0 5 rfl rfl)
theorem dX0_areAlike_8 : decode cX0_areAlike 8 = .ok (.aload_n 0, 1) := dk_42 (dk_at dksX0_areAlike_0 8 rfl rfl)
theorem dX0_areAlike_9 : decode cX0_areAlike 9 = .ok (.getfield 106, 3) := dk_180 0 106 (dk_at dksX0_areAlike_0 9 rfl rfl)
theorem dX0_areAlike_12 : decode cX0_areAlike 12 = .ok (.iload_n 1, 1) := dk_27 (dk_at dksX0_areAlike_0 12 rfl rfl)
theorem dX0_areAlike_13 : decode cX0_areAlike 13 = .ok (.bipush 27, 2) := dk_16 27 (dk_at dksX0_areAlike_0 13 rfl rfl)
theorem dX0_areAlike_15 : decode cX0_areAlike 15 = .ok (.imul, 1) := dk_104 (dk_at dksX0_areAlike_0 15 rfl rfl)
theorem dX0_areAlike_16 : decode cX0_areAlike 16 = .ok (.iload_n 3, 1) := dk_29 (dk_at dksX0_areAlike_0 16 rfl rfl)
theorem dX0_areAlike_17 : decode cX0_areAlike 17 = .ok (.iadd, 1) := dk_96 (dk_at dksX0_areAlike_0 17 rfl rfl)
theorem dX0_areAlike_18 : decode cX0_areAlike 18 = .ok (.saload, 1) := dk_53 (dk_at dksX0_areAlike_0 18 rfl rfl)
theorem dX0_areAlike_19 : decode cX0_areAlike 19 = .ok (.aload_n 0, 1) := dk_42 (dk_at dksX0_areAlike_0 19 rfl rfl)
theorem dX0_areAlike_20 : decode cX0_areAlike 20 = .ok (.getfield 106, 3) := dk_180 0 106 (dk_at dksX0_areAlike_0 20 rfl rfl)
theorem dX0_areAlike_23 : decode cX0_areAlike 23 = .ok (.iload_n 2, 1) := dk_28 (dk_at dksX0_areAlike_0 23 rfl rfl)
theorem dX0_areAlike_24 : decode cX0_areAlike 24 = .ok (.bipush 27, 2) := dk_16 27 (dk_at dksX0_areAlike_1 0 rfl rfl)
theorem dX0_areAlike_26 : decode cX0_areAlike 26 = .ok (.imul, 1) := dk_104 (dk_at dksX0_areAlike_1 2 rfl rfl)
theorem dX0_areAlike_27 : decode cX0_areAlike 27 = .ok (.iload_n 3, 1) := dk_29 (dk_at dksX0_areAlike_1 3 rfl rfl)
theorem dX0_areAlike_28 : decode cX0_areAlike 28 = .ok (.iadd, 1) := dk_96 (dk_at dksX0_areAlike_1 4 rfl rfl)
theorem dX0_areAlike_29 : decode cX0_areAlike 29 = .ok (.saload, 1) := dk_53 (dk_at dksX0_areAlike_1 5 rfl rfl)
theorem dX0_areAlike_30 : decode cX0_areAlike 30 = .ok (.if_icmp .eq 5, 3) := dk_159 0 5 (dk_at dksX0_areAlike_1 6 rfl rfl)
theorem dX0_areAlike_33 : decode cX0_areAlike 33 = .ok (.iconst 0, 1) := dk_3 (dk_at dksX0_areAlike_1 9 rfl rfl)
theorem dX0_areAlike_34 : decode cX0_areAlike 34 = .ok (.ireturn, 1) := dk_172 (dk_at dksX0_areAlike_1 10 rfl rfl)
theorem dX0_areAlike_35 : decode cX0_areAlike 35 = .ok (.iinc 3 1, 3) := dk_132 3 1 (dk_at dksX0_areAlike_1 11 rfl rfl)
theorem dX0_areAlike_38 : decode cX0_areAlike 38 = .ok (.goto (-36), 3) := dk_167 255 220 (dk_at dksX0_areAlike_1 14 rfl rfl)
theorem dX0_areAlike_41 : decode cX0_areAlike 41 = .ok (.iconst 1, 1) := dk_4 (dk_at dksX0_areAlike_1 17 rfl rfl)
theorem dX0_areAlike_42 : decode cX0_areAlike 42 = .ok (.ireturn, 1) := dk_172 (dk_at dksX0_areAlike_1 18 rfl rfl)
abbrev cX0_passTrial : ByteArray := prog_1_method_71_code
def yX0_passTrial : MethodName := ⟨RX0, "passTrial", "()V"⟩
def dkwX0_passTrial_0 : List UInt8 := [42, 42, 180, 0, 90, 42, 42, 180, 0, 90, 180, 1, 23, 4, 96, 182, 1, 153, 3, 182, 1, 146, 177]
abbrev dktX0_passTrial_0 : List UInt8 := dkwX0_passTrial_0 ++ []
theorem dksX0_passTrial_0 : cX0_passTrial.data.toList.drop 0 = dktX0_passTrial_0 := by decide +kernel
theorem dX0_passTrial_0 : decode cX0_passTrial 0 = .ok (.aload_n 0, 1) := dk_42 (dk_at dksX0_passTrial_0 0 rfl rfl)
theorem dX0_passTrial_1 : decode cX0_passTrial 1 = .ok (.aload_n 0, 1) := dk_42 (dk_at dksX0_passTrial_0 1 rfl rfl)
theorem dX0_passTrial_2 : decode cX0_passTrial 2 = .ok (.getfield 90, 3) := dk_180 0 90 (dk_at dksX0_passTrial_0 2 rfl rfl)
theorem dX0_passTrial_5 : decode cX0_passTrial 5 = .ok (.aload_n 0, 1) := dk_42 (dk_at dksX0_passTrial_0 5 rfl rfl)
theorem dX0_passTrial_6 : decode cX0_passTrial 6 = .ok (.aload_n 0, 1) := dk_42 (dk_at dksX0_passTrial_0 6 rfl rfl)
theorem dX0_passTrial_7 : decode cX0_passTrial 7 = .ok (.getfield 90, 3) := dk_180 0 90 (dk_at dksX0_passTrial_0 7 rfl rfl)
theorem dX0_passTrial_10 : decode cX0_passTrial 10 = .ok (.getfield 279, 3) := dk_180 1 23 (dk_at dksX0_passTrial_0 10 rfl rfl)
theorem dX0_passTrial_13 : decode cX0_passTrial 13 = .ok (.iconst 1, 1) := dk_4 (dk_at dksX0_passTrial_0 13 rfl rfl)
theorem dX0_passTrial_14 : decode cX0_passTrial 14 = .ok (.iadd, 1) := dk_96 (dk_at dksX0_passTrial_0 14 rfl rfl)
theorem dX0_passTrial_15 : decode cX0_passTrial 15 = .ok (.invokevirtual 409, 3) := dk_182 1 153 (dk_at dksX0_passTrial_0 15 rfl rfl)
theorem dX0_passTrial_18 : decode cX0_passTrial 18 = .ok (.iconst 0, 1) := dk_3 (dk_at dksX0_passTrial_0 18 rfl rfl)
theorem dX0_passTrial_19 : decode cX0_passTrial 19 = .ok (.invokevirtual 402, 3) := dk_182 1 146 (dk_at dksX0_passTrial_0 19 rfl rfl)
theorem dX0_passTrial_22 : decode cX0_passTrial 22 = .ok (.return_, 1) := dk_177 (dk_at dksX0_passTrial_0 22 rfl rfl)
abbrev cX0_masts : ByteArray := prog_1_method_78_code
def yX0_masts : MethodName := ⟨RX0, "masts", "()I"⟩
def dkwX0_masts_1 : List UInt8 := [172]
abbrev dktX0_masts_1 : List UInt8 := dkwX0_masts_1 ++ []
def dkwX0_masts_0 : List UInt8 := [42, 182, 1, 221, 153, 0, 18, 42, 42, 180, 1, 192, 42, 180, 1, 195, 182, 0, 147, 167, 0, 5, 16, 250]
abbrev dktX0_masts_0 : List UInt8 := dkwX0_masts_0 ++ dktX0_masts_1
theorem dksX0_masts_0 : cX0_masts.data.toList.drop 0 = dktX0_masts_0 := by decide +kernel
theorem dksX0_masts_1 : cX0_masts.data.toList.drop 24 = dktX0_masts_1 := dk_seg dksX0_masts_0 24 rfl rfl
theorem dX0_masts_0 : decode cX0_masts 0 = .ok (.aload_n 0, 1) := dk_42 (dk_at dksX0_masts_0 0 rfl rfl)
theorem dX0_masts_1 : decode cX0_masts 1 = .ok (.invokevirtual 477, 3) := dk_182 1 221 (dk_at dksX0_masts_0 1 rfl rfl)
theorem dX0_masts_4 : decode cX0_masts 4 = .ok (.ifCond .eq 18, 3) := dk_153 0 18 (dk_at dksX0_masts_0 4 rfl rfl)
theorem dX0_masts_7 : decode cX0_masts 7 = .ok (.aload_n 0, 1) := dk_42 (dk_at dksX0_masts_0 7 rfl rfl)
theorem dX0_masts_8 : decode cX0_masts 8 = .ok (.aload_n 0, 1) := dk_42 (dk_at dksX0_masts_0 8 rfl rfl)
theorem dX0_masts_9 : decode cX0_masts 9 = .ok (.getfield 448, 3) := dk_180 1 192 (dk_at dksX0_masts_0 9 rfl rfl)
theorem dX0_masts_12 : decode cX0_masts 12 = .ok (.aload_n 0, 1) := dk_42 (dk_at dksX0_masts_0 12 rfl rfl)
theorem dX0_masts_13 : decode cX0_masts 13 = .ok (.getfield 451, 3) := dk_180 1 195 (dk_at dksX0_masts_0 13 rfl rfl)
theorem dX0_masts_16 : decode cX0_masts 16 = .ok (.invokevirtual 147, 3) := dk_182 0 147 (dk_at dksX0_masts_0 16 rfl rfl)
theorem dX0_masts_19 : decode cX0_masts 19 = .ok (.goto 5, 3) := dk_167 0 5 (dk_at dksX0_masts_0 19 rfl rfl)
theorem dX0_masts_22 : decode cX0_masts 22 = .ok (.bipush (-6), 2) := dk_16 250 (dk_at dksX0_masts_0 22 rfl rfl)
theorem dX0_masts_24 : decode cX0_masts 24 = .ok (.ireturn, 1) := dk_172 (dk_at dksX0_masts_1 0 rfl rfl)
abbrev cX0_goRound : ByteArray := prog_1_method_75_code
def yX0_goRound : MethodName := ⟨RX0, "goRound", "()Z"⟩
def dkwX0_goRound_5 : List UInt8 := [132, 1, 1, 167, 255, 207, 4, 172]
abbrev dktX0_goRound_5 : List UInt8 := dkwX0_goRound_5 ++ []
def dkwX0_goRound_4 : List UInt8 := [180, 0, 123, 27, 46, 104, 42, 180, 1, 192, 161, 0, 7, 4, 167, 0, 4, 3, 96, 181, 1, 195]
abbrev dktX0_goRound_4 : List UInt8 := dkwX0_goRound_4 ++ dktX0_goRound_5
def dkwX0_goRound_3 : List UInt8 := [42, 180, 1, 186, 162, 0, 47, 42, 89, 180, 1, 195, 42, 180, 0, 123, 27, 46, 158, 0, 22, 5, 42]
abbrev dktX0_goRound_3 : List UInt8 := dkwX0_goRound_3 ++ dktX0_goRound_4
def dkwX0_goRound_2 : List UInt8 := [180, 1, 186, 162, 0, 18, 42, 182, 1, 189, 42, 27, 182, 1, 218, 132, 1, 1, 167, 255, 236, 3, 60, 27]
abbrev dktX0_goRound_2 : List UInt8 := dkwX0_goRound_2 ++ dktX0_goRound_3
def dkwX0_goRound_1 : List UInt8 := [3, 60, 27, 42, 180, 1, 183, 162, 0, 13, 42, 182, 1, 189, 132, 1, 1, 167, 255, 241, 3, 60, 27, 42]
abbrev dktX0_goRound_1 : List UInt8 := dkwX0_goRound_1 ++ dktX0_goRound_2
def dkwX0_goRound_0 : List UInt8 := [42, 182, 1, 212, 154, 0, 5, 3, 172, 42, 182, 1, 215, 42, 180, 0, 90, 42, 180, 0, 86, 182, 1, 173]
abbrev dktX0_goRound_0 : List UInt8 := dkwX0_goRound_0 ++ dktX0_goRound_1
theorem dksX0_goRound_0 : cX0_goRound.data.toList.drop 0 = dktX0_goRound_0 := by decide +kernel
theorem dksX0_goRound_1 : cX0_goRound.data.toList.drop 24 = dktX0_goRound_1 := dk_seg dksX0_goRound_0 24 rfl rfl
theorem dksX0_goRound_2 : cX0_goRound.data.toList.drop 48 = dktX0_goRound_2 := dk_seg dksX0_goRound_1 24 rfl rfl
theorem dksX0_goRound_3 : cX0_goRound.data.toList.drop 72 = dktX0_goRound_3 := dk_seg dksX0_goRound_2 24 rfl rfl
theorem dksX0_goRound_4 : cX0_goRound.data.toList.drop 95 = dktX0_goRound_4 := dk_seg dksX0_goRound_3 23 rfl rfl
theorem dksX0_goRound_5 : cX0_goRound.data.toList.drop 117 = dktX0_goRound_5 := dk_seg dksX0_goRound_4 22 rfl rfl
theorem dX0_goRound_0 : decode cX0_goRound 0 = .ok (.aload_n 0, 1) := dk_42 (dk_at dksX0_goRound_0 0 rfl rfl)
theorem dX0_goRound_1 : decode cX0_goRound 1 = .ok (.invokevirtual 468, 3) := dk_182 1 212 (dk_at dksX0_goRound_0 1 rfl rfl)
theorem dX0_goRound_4 : decode cX0_goRound 4 = .ok (.ifCond .ne 5, 3) := dk_154 0 5 (dk_at dksX0_goRound_0 4 rfl rfl)
theorem dX0_goRound_7 : decode cX0_goRound 7 = .ok (.iconst 0, 1) := dk_3 (dk_at dksX0_goRound_0 7 rfl rfl)
theorem dX0_goRound_8 : decode cX0_goRound 8 = .ok (.ireturn, 1) := dk_172 (dk_at dksX0_goRound_0 8 rfl rfl)
theorem dX0_goRound_9 : decode cX0_goRound 9 = .ok (.aload_n 0, 1) := dk_42 (dk_at dksX0_goRound_0 9 rfl rfl)
theorem dX0_goRound_10 : decode cX0_goRound 10 = .ok (.invokevirtual 471, 3) := dk_182 1 215 (dk_at dksX0_goRound_0 10 rfl rfl)
theorem dX0_goRound_13 : decode cX0_goRound 13 = .ok (.aload_n 0, 1) := dk_42 (dk_at dksX0_goRound_0 13 rfl rfl)
theorem dX0_goRound_14 : decode cX0_goRound 14 = .ok (.getfield 90, 3) := dk_180 0 90 (dk_at dksX0_goRound_0 14 rfl rfl)
theorem dX0_goRound_17 : decode cX0_goRound 17 = .ok (.aload_n 0, 1) := dk_42 (dk_at dksX0_goRound_0 17 rfl rfl)
theorem dX0_goRound_18 : decode cX0_goRound 18 = .ok (.getfield 86, 3) := dk_180 0 86 (dk_at dksX0_goRound_0 18 rfl rfl)
theorem dX0_goRound_21 : decode cX0_goRound 21 = .ok (.invokevirtual 429, 3) := dk_182 1 173 (dk_at dksX0_goRound_0 21 rfl rfl)
theorem dX0_goRound_24 : decode cX0_goRound 24 = .ok (.iconst 0, 1) := dk_3 (dk_at dksX0_goRound_1 0 rfl rfl)
theorem dX0_goRound_25 : decode cX0_goRound 25 = .ok (.istore_n 1, 1) := dk_60 (dk_at dksX0_goRound_1 1 rfl rfl)
theorem dX0_goRound_26 : decode cX0_goRound 26 = .ok (.iload_n 1, 1) := dk_27 (dk_at dksX0_goRound_1 2 rfl rfl)
theorem dX0_goRound_27 : decode cX0_goRound 27 = .ok (.aload_n 0, 1) := dk_42 (dk_at dksX0_goRound_1 3 rfl rfl)
theorem dX0_goRound_28 : decode cX0_goRound 28 = .ok (.getfield 439, 3) := dk_180 1 183 (dk_at dksX0_goRound_1 4 rfl rfl)
theorem dX0_goRound_31 : decode cX0_goRound 31 = .ok (.if_icmp .ge 13, 3) := dk_162 0 13 (dk_at dksX0_goRound_1 7 rfl rfl)
theorem dX0_goRound_34 : decode cX0_goRound 34 = .ok (.aload_n 0, 1) := dk_42 (dk_at dksX0_goRound_1 10 rfl rfl)
theorem dX0_goRound_35 : decode cX0_goRound 35 = .ok (.invokevirtual 445, 3) := dk_182 1 189 (dk_at dksX0_goRound_1 11 rfl rfl)
theorem dX0_goRound_38 : decode cX0_goRound 38 = .ok (.iinc 1 1, 3) := dk_132 1 1 (dk_at dksX0_goRound_1 14 rfl rfl)
theorem dX0_goRound_41 : decode cX0_goRound 41 = .ok (.goto (-15), 3) := dk_167 255 241 (dk_at dksX0_goRound_1 17 rfl rfl)
theorem dX0_goRound_44 : decode cX0_goRound 44 = .ok (.iconst 0, 1) := dk_3 (dk_at dksX0_goRound_1 20 rfl rfl)
theorem dX0_goRound_45 : decode cX0_goRound 45 = .ok (.istore_n 1, 1) := dk_60 (dk_at dksX0_goRound_1 21 rfl rfl)
theorem dX0_goRound_46 : decode cX0_goRound 46 = .ok (.iload_n 1, 1) := dk_27 (dk_at dksX0_goRound_1 22 rfl rfl)
theorem dX0_goRound_47 : decode cX0_goRound 47 = .ok (.aload_n 0, 1) := dk_42 (dk_at dksX0_goRound_1 23 rfl rfl)
theorem dX0_goRound_48 : decode cX0_goRound 48 = .ok (.getfield 442, 3) := dk_180 1 186 (dk_at dksX0_goRound_2 0 rfl rfl)
theorem dX0_goRound_51 : decode cX0_goRound 51 = .ok (.if_icmp .ge 18, 3) := dk_162 0 18 (dk_at dksX0_goRound_2 3 rfl rfl)
theorem dX0_goRound_54 : decode cX0_goRound 54 = .ok (.aload_n 0, 1) := dk_42 (dk_at dksX0_goRound_2 6 rfl rfl)
theorem dX0_goRound_55 : decode cX0_goRound 55 = .ok (.invokevirtual 445, 3) := dk_182 1 189 (dk_at dksX0_goRound_2 7 rfl rfl)
theorem dX0_goRound_58 : decode cX0_goRound 58 = .ok (.aload_n 0, 1) := dk_42 (dk_at dksX0_goRound_2 10 rfl rfl)
theorem dX0_goRound_59 : decode cX0_goRound 59 = .ok (.iload_n 1, 1) := dk_27 (dk_at dksX0_goRound_2 11 rfl rfl)
theorem dX0_goRound_60 : decode cX0_goRound 60 = .ok (.invokevirtual 474, 3) := dk_182 1 218 (dk_at dksX0_goRound_2 12 rfl rfl)
theorem dX0_goRound_63 : decode cX0_goRound 63 = .ok (.iinc 1 1, 3) := dk_132 1 1 (dk_at dksX0_goRound_2 15 rfl rfl)
theorem dX0_goRound_66 : decode cX0_goRound 66 = .ok (.goto (-20), 3) := dk_167 255 236 (dk_at dksX0_goRound_2 18 rfl rfl)
theorem dX0_goRound_69 : decode cX0_goRound 69 = .ok (.iconst 0, 1) := dk_3 (dk_at dksX0_goRound_2 21 rfl rfl)
theorem dX0_goRound_70 : decode cX0_goRound 70 = .ok (.istore_n 1, 1) := dk_60 (dk_at dksX0_goRound_2 22 rfl rfl)
theorem dX0_goRound_71 : decode cX0_goRound 71 = .ok (.iload_n 1, 1) := dk_27 (dk_at dksX0_goRound_2 23 rfl rfl)
theorem dX0_goRound_72 : decode cX0_goRound 72 = .ok (.aload_n 0, 1) := dk_42 (dk_at dksX0_goRound_3 0 rfl rfl)
theorem dX0_goRound_73 : decode cX0_goRound 73 = .ok (.getfield 442, 3) := dk_180 1 186 (dk_at dksX0_goRound_3 1 rfl rfl)
theorem dX0_goRound_76 : decode cX0_goRound 76 = .ok (.if_icmp .ge 47, 3) := dk_162 0 47 (dk_at dksX0_goRound_3 4 rfl rfl)
theorem dX0_goRound_79 : decode cX0_goRound 79 = .ok (.aload_n 0, 1) := dk_42 (dk_at dksX0_goRound_3 7 rfl rfl)
theorem dX0_goRound_80 : decode cX0_goRound 80 = .ok (.dup, 1) := dk_89 (dk_at dksX0_goRound_3 8 rfl rfl)
theorem dX0_goRound_81 : decode cX0_goRound 81 = .ok (.getfield 451, 3) := dk_180 1 195 (dk_at dksX0_goRound_3 9 rfl rfl)
theorem dX0_goRound_84 : decode cX0_goRound 84 = .ok (.aload_n 0, 1) := dk_42 (dk_at dksX0_goRound_3 12 rfl rfl)
theorem dX0_goRound_85 : decode cX0_goRound 85 = .ok (.getfield 123, 3) := dk_180 0 123 (dk_at dksX0_goRound_3 13 rfl rfl)
theorem dX0_goRound_88 : decode cX0_goRound 88 = .ok (.iload_n 1, 1) := dk_27 (dk_at dksX0_goRound_3 16 rfl rfl)
theorem dX0_goRound_89 : decode cX0_goRound 89 = .ok (.iaload, 1) := dk_46 (dk_at dksX0_goRound_3 17 rfl rfl)
theorem dX0_goRound_90 : decode cX0_goRound 90 = .ok (.ifCond .le 22, 3) := dk_158 0 22 (dk_at dksX0_goRound_3 18 rfl rfl)
theorem dX0_goRound_93 : decode cX0_goRound 93 = .ok (.iconst 2, 1) := dk_5 (dk_at dksX0_goRound_3 21 rfl rfl)
theorem dX0_goRound_94 : decode cX0_goRound 94 = .ok (.aload_n 0, 1) := dk_42 (dk_at dksX0_goRound_3 22 rfl rfl)
theorem dX0_goRound_95 : decode cX0_goRound 95 = .ok (.getfield 123, 3) := dk_180 0 123 (dk_at dksX0_goRound_4 0 rfl rfl)
theorem dX0_goRound_98 : decode cX0_goRound 98 = .ok (.iload_n 1, 1) := dk_27 (dk_at dksX0_goRound_4 3 rfl rfl)
theorem dX0_goRound_99 : decode cX0_goRound 99 = .ok (.iaload, 1) := dk_46 (dk_at dksX0_goRound_4 4 rfl rfl)
theorem dX0_goRound_100 : decode cX0_goRound 100 = .ok (.imul, 1) := dk_104 (dk_at dksX0_goRound_4 5 rfl rfl)
theorem dX0_goRound_101 : decode cX0_goRound 101 = .ok (.aload_n 0, 1) := dk_42 (dk_at dksX0_goRound_4 6 rfl rfl)
theorem dX0_goRound_102 : decode cX0_goRound 102 = .ok (.getfield 448, 3) := dk_180 1 192 (dk_at dksX0_goRound_4 7 rfl rfl)
theorem dX0_goRound_105 : decode cX0_goRound 105 = .ok (.if_icmp .lt 7, 3) := dk_161 0 7 (dk_at dksX0_goRound_4 10 rfl rfl)
theorem dX0_goRound_108 : decode cX0_goRound 108 = .ok (.iconst 1, 1) := dk_4 (dk_at dksX0_goRound_4 13 rfl rfl)
theorem dX0_goRound_109 : decode cX0_goRound 109 = .ok (.goto 4, 3) := dk_167 0 4 (dk_at dksX0_goRound_4 14 rfl rfl)
theorem dX0_goRound_112 : decode cX0_goRound 112 = .ok (.iconst 0, 1) := dk_3 (dk_at dksX0_goRound_4 17 rfl rfl)
theorem dX0_goRound_113 : decode cX0_goRound 113 = .ok (.iadd, 1) := dk_96 (dk_at dksX0_goRound_4 18 rfl rfl)
theorem dX0_goRound_114 : decode cX0_goRound 114 = .ok (.putfield 451, 3) := dk_181 1 195 (dk_at dksX0_goRound_4 19 rfl rfl)
theorem dX0_goRound_117 : decode cX0_goRound 117 = .ok (.iinc 1 1, 3) := dk_132 1 1 (dk_at dksX0_goRound_5 0 rfl rfl)
theorem dX0_goRound_120 : decode cX0_goRound 120 = .ok (.goto (-49), 3) := dk_167 255 207 (dk_at dksX0_goRound_5 3 rfl rfl)
theorem dX0_goRound_123 : decode cX0_goRound 123 = .ok (.iconst 1, 1) := dk_4 (dk_at dksX0_goRound_5 6 rfl rfl)
theorem dX0_goRound_124 : decode cX0_goRound 124 = .ok (.ireturn, 1) := dk_172 (dk_at dksX0_goRound_5 7 rfl rfl)
abbrev cX0_wipeRing : ByteArray := prog_1_method_73_code
def yX0_wipeRing : MethodName := ⟨RX0, "wipeRing", "()V"⟩
def dkwX0_wipeRing_3 : List UInt8 := [3, 79, 132, 1, 1, 167, 255, 241, 177]
abbrev dktX0_wipeRing_3 : List UInt8 := dkwX0_wipeRing_3 ++ []
def dkwX0_wipeRing_2 : List UInt8 := [180, 0, 117, 27, 9, 80, 132, 1, 1, 167, 255, 233, 3, 60, 27, 5, 162, 0, 16, 42, 180, 0, 120, 27]
abbrev dktX0_wipeRing_2 : List UInt8 := dkwX0_wipeRing_2 ++ dktX0_wipeRing_3
def dkwX0_wipeRing_1 : List UInt8 := [181, 1, 203, 42, 9, 181, 1, 206, 3, 60, 27, 16, 24, 162, 0, 23, 42, 180, 0, 113, 27, 9, 80, 42]
abbrev dktX0_wipeRing_1 : List UInt8 := dkwX0_wipeRing_1 ++ dktX0_wipeRing_2
def dkwX0_wipeRing_0 : List UInt8 := [42, 3, 181, 1, 192, 42, 3, 181, 1, 195, 42, 9, 181, 1, 198, 42, 9, 181, 1, 201, 42, 9]
abbrev dktX0_wipeRing_0 : List UInt8 := dkwX0_wipeRing_0 ++ dktX0_wipeRing_1
theorem dksX0_wipeRing_0 : cX0_wipeRing.data.toList.drop 0 = dktX0_wipeRing_0 := by decide +kernel
theorem dksX0_wipeRing_1 : cX0_wipeRing.data.toList.drop 22 = dktX0_wipeRing_1 := dk_seg dksX0_wipeRing_0 22 rfl rfl
theorem dksX0_wipeRing_2 : cX0_wipeRing.data.toList.drop 46 = dktX0_wipeRing_2 := dk_seg dksX0_wipeRing_1 24 rfl rfl
theorem dksX0_wipeRing_3 : cX0_wipeRing.data.toList.drop 70 = dktX0_wipeRing_3 := dk_seg dksX0_wipeRing_2 24 rfl rfl
theorem dX0_wipeRing_0 : decode cX0_wipeRing 0 = .ok (.aload_n 0, 1) := dk_42 (dk_at dksX0_wipeRing_0 0 rfl rfl)
theorem dX0_wipeRing_1 : decode cX0_wipeRing 1 = .ok (.iconst 0, 1) := dk_3 (dk_at dksX0_wipeRing_0 1 rfl rfl)
theorem dX0_wipeRing_2 : decode cX0_wipeRing 2 = .ok (.putfield 448, 3) := dk_181 1 192 (dk_at dksX0_wipeRing_0 2 rfl rfl)
theorem dX0_wipeRing_5 : decode cX0_wipeRing 5 = .ok (.aload_n 0, 1) := dk_42 (dk_at dksX0_wipeRing_0 5 rfl rfl)
theorem dX0_wipeRing_6 : decode cX0_wipeRing 6 = .ok (.iconst 0, 1) := dk_3 (dk_at dksX0_wipeRing_0 6 rfl rfl)
theorem dX0_wipeRing_7 : decode cX0_wipeRing 7 = .ok (.putfield 451, 3) := dk_181 1 195 (dk_at dksX0_wipeRing_0 7 rfl rfl)
theorem dX0_wipeRing_10 : decode cX0_wipeRing 10 = .ok (.aload_n 0, 1) := dk_42 (dk_at dksX0_wipeRing_0 10 rfl rfl)
theorem dX0_wipeRing_11 : decode cX0_wipeRing 11 = .ok (.lconst 0, 1) := dk_9 (dk_at dksX0_wipeRing_0 11 rfl rfl)
theorem dX0_wipeRing_12 : decode cX0_wipeRing 12 = .ok (.putfield 454, 3) := dk_181 1 198 (dk_at dksX0_wipeRing_0 12 rfl rfl)
theorem dX0_wipeRing_15 : decode cX0_wipeRing 15 = .ok (.aload_n 0, 1) := dk_42 (dk_at dksX0_wipeRing_0 15 rfl rfl)
theorem dX0_wipeRing_16 : decode cX0_wipeRing 16 = .ok (.lconst 0, 1) := dk_9 (dk_at dksX0_wipeRing_0 16 rfl rfl)
theorem dX0_wipeRing_17 : decode cX0_wipeRing 17 = .ok (.putfield 457, 3) := dk_181 1 201 (dk_at dksX0_wipeRing_0 17 rfl rfl)
theorem dX0_wipeRing_20 : decode cX0_wipeRing 20 = .ok (.aload_n 0, 1) := dk_42 (dk_at dksX0_wipeRing_0 20 rfl rfl)
theorem dX0_wipeRing_21 : decode cX0_wipeRing 21 = .ok (.lconst 0, 1) := dk_9 (dk_at dksX0_wipeRing_0 21 rfl rfl)
theorem dX0_wipeRing_22 : decode cX0_wipeRing 22 = .ok (.putfield 459, 3) := dk_181 1 203 (dk_at dksX0_wipeRing_1 0 rfl rfl)
theorem dX0_wipeRing_25 : decode cX0_wipeRing 25 = .ok (.aload_n 0, 1) := dk_42 (dk_at dksX0_wipeRing_1 3 rfl rfl)
theorem dX0_wipeRing_26 : decode cX0_wipeRing 26 = .ok (.lconst 0, 1) := dk_9 (dk_at dksX0_wipeRing_1 4 rfl rfl)
theorem dX0_wipeRing_27 : decode cX0_wipeRing 27 = .ok (.putfield 462, 3) := dk_181 1 206 (dk_at dksX0_wipeRing_1 5 rfl rfl)
theorem dX0_wipeRing_30 : decode cX0_wipeRing 30 = .ok (.iconst 0, 1) := dk_3 (dk_at dksX0_wipeRing_1 8 rfl rfl)
theorem dX0_wipeRing_31 : decode cX0_wipeRing 31 = .ok (.istore_n 1, 1) := dk_60 (dk_at dksX0_wipeRing_1 9 rfl rfl)
theorem dX0_wipeRing_32 : decode cX0_wipeRing 32 = .ok (.iload_n 1, 1) := dk_27 (dk_at dksX0_wipeRing_1 10 rfl rfl)
theorem dX0_wipeRing_33 : decode cX0_wipeRing 33 = .ok (.bipush 24, 2) := dk_16 24 (dk_at dksX0_wipeRing_1 11 rfl rfl)
theorem dX0_wipeRing_35 : decode cX0_wipeRing 35 = .ok (.if_icmp .ge 23, 3) := dk_162 0 23 (dk_at dksX0_wipeRing_1 13 rfl rfl)
theorem dX0_wipeRing_38 : decode cX0_wipeRing 38 = .ok (.aload_n 0, 1) := dk_42 (dk_at dksX0_wipeRing_1 16 rfl rfl)
theorem dX0_wipeRing_39 : decode cX0_wipeRing 39 = .ok (.getfield 113, 3) := dk_180 0 113 (dk_at dksX0_wipeRing_1 17 rfl rfl)
theorem dX0_wipeRing_42 : decode cX0_wipeRing 42 = .ok (.iload_n 1, 1) := dk_27 (dk_at dksX0_wipeRing_1 20 rfl rfl)
theorem dX0_wipeRing_43 : decode cX0_wipeRing 43 = .ok (.lconst 0, 1) := dk_9 (dk_at dksX0_wipeRing_1 21 rfl rfl)
theorem dX0_wipeRing_44 : decode cX0_wipeRing 44 = .ok (.lastore, 1) := dk_80 (dk_at dksX0_wipeRing_1 22 rfl rfl)
theorem dX0_wipeRing_45 : decode cX0_wipeRing 45 = .ok (.aload_n 0, 1) := dk_42 (dk_at dksX0_wipeRing_1 23 rfl rfl)
theorem dX0_wipeRing_46 : decode cX0_wipeRing 46 = .ok (.getfield 117, 3) := dk_180 0 117 (dk_at dksX0_wipeRing_2 0 rfl rfl)
theorem dX0_wipeRing_49 : decode cX0_wipeRing 49 = .ok (.iload_n 1, 1) := dk_27 (dk_at dksX0_wipeRing_2 3 rfl rfl)
theorem dX0_wipeRing_50 : decode cX0_wipeRing 50 = .ok (.lconst 0, 1) := dk_9 (dk_at dksX0_wipeRing_2 4 rfl rfl)
theorem dX0_wipeRing_51 : decode cX0_wipeRing 51 = .ok (.lastore, 1) := dk_80 (dk_at dksX0_wipeRing_2 5 rfl rfl)
theorem dX0_wipeRing_52 : decode cX0_wipeRing 52 = .ok (.iinc 1 1, 3) := dk_132 1 1 (dk_at dksX0_wipeRing_2 6 rfl rfl)
theorem dX0_wipeRing_55 : decode cX0_wipeRing 55 = .ok (.goto (-23), 3) := dk_167 255 233 (dk_at dksX0_wipeRing_2 9 rfl rfl)
theorem dX0_wipeRing_58 : decode cX0_wipeRing 58 = .ok (.iconst 0, 1) := dk_3 (dk_at dksX0_wipeRing_2 12 rfl rfl)
theorem dX0_wipeRing_59 : decode cX0_wipeRing 59 = .ok (.istore_n 1, 1) := dk_60 (dk_at dksX0_wipeRing_2 13 rfl rfl)
theorem dX0_wipeRing_60 : decode cX0_wipeRing 60 = .ok (.iload_n 1, 1) := dk_27 (dk_at dksX0_wipeRing_2 14 rfl rfl)
theorem dX0_wipeRing_61 : decode cX0_wipeRing 61 = .ok (.iconst 2, 1) := dk_5 (dk_at dksX0_wipeRing_2 15 rfl rfl)
theorem dX0_wipeRing_62 : decode cX0_wipeRing 62 = .ok (.if_icmp .ge 16, 3) := dk_162 0 16 (dk_at dksX0_wipeRing_2 16 rfl rfl)
theorem dX0_wipeRing_65 : decode cX0_wipeRing 65 = .ok (.aload_n 0, 1) := dk_42 (dk_at dksX0_wipeRing_2 19 rfl rfl)
theorem dX0_wipeRing_66 : decode cX0_wipeRing 66 = .ok (.getfield 120, 3) := dk_180 0 120 (dk_at dksX0_wipeRing_2 20 rfl rfl)
theorem dX0_wipeRing_69 : decode cX0_wipeRing 69 = .ok (.iload_n 1, 1) := dk_27 (dk_at dksX0_wipeRing_2 23 rfl rfl)
theorem dX0_wipeRing_70 : decode cX0_wipeRing 70 = .ok (.iconst 0, 1) := dk_3 (dk_at dksX0_wipeRing_3 0 rfl rfl)
theorem dX0_wipeRing_71 : decode cX0_wipeRing 71 = .ok (.iastore, 1) := dk_79 (dk_at dksX0_wipeRing_3 1 rfl rfl)
theorem dX0_wipeRing_72 : decode cX0_wipeRing 72 = .ok (.iinc 1 1, 3) := dk_132 1 1 (dk_at dksX0_wipeRing_3 2 rfl rfl)
theorem dX0_wipeRing_75 : decode cX0_wipeRing 75 = .ok (.goto (-15), 3) := dk_167 255 241 (dk_at dksX0_wipeRing_3 5 rfl rfl)
theorem dX0_wipeRing_78 : decode cX0_wipeRing 78 = .ok (.return_, 1) := dk_177 (dk_at dksX0_wipeRing_3 8 rfl rfl)
abbrev cX0_countYear : ByteArray := prog_1_method_74_code
def yX0_countYear : MethodName := ⟨RX0, "countYear", "(I)V"⟩
def dkwX0_countYear_10 : List UInt8 := [181, 1, 192, 177]
abbrev dktX0_countYear_10 : List UInt8 := dkwX0_countYear_10 ++ []
def dkwX0_countYear_9 : List UInt8 := [27, 42, 180, 0, 90, 180, 1, 118, 79, 42, 42, 180, 1, 192, 42, 180, 0, 90, 180, 1, 118, 184, 1, 209]
abbrev dktX0_countYear_9 : List UInt8 := dkwX0_countYear_9 ++ dktX0_countYear_10
def dkwX0_countYear_8 : List UInt8 := [181, 1, 203, 42, 89, 180, 1, 206, 42, 180, 0, 90, 180, 1, 143, 133, 97, 181, 1, 206, 42, 180, 0, 123]
abbrev dktX0_countYear_8 : List UInt8 := dkwX0_countYear_8 ++ dktX0_countYear_9
def dkwX0_countYear_7 : List UInt8 := [89, 180, 1, 201, 28, 133, 97, 181, 1, 201, 42, 89, 180, 1, 203, 42, 180, 0, 90, 180, 1, 118, 133, 97]
abbrev dktX0_countYear_7 : List UInt8 := dkwX0_countYear_7 ++ dktX0_countYear_8
def dkwX0_countYear_6 : List UInt8 := [79, 132, 3, 1, 167, 255, 219, 42, 89, 180, 1, 198, 28, 133, 28, 4, 100, 133, 105, 97, 181, 1, 198, 42]
abbrev dktX0_countYear_6 : List UInt8 := dkwX0_countYear_6 ++ dktX0_countYear_7
def dkwX0_countYear_5 : List UInt8 := [180, 0, 120, 29, 92, 46, 42, 180, 0, 90, 180, 1, 129, 29, 51, 153, 0, 7, 4, 167, 0, 4, 3, 96]
abbrev dktX0_countYear_5 : List UInt8 := dkwX0_countYear_5 ++ dktX0_countYear_6
def dkwX0_countYear_4 : List UInt8 := [180, 1, 118, 108, 133, 97, 80, 132, 3, 1, 167, 255, 157, 3, 62, 29, 42, 180, 1, 17, 162, 0, 35, 42]
abbrev dktX0_countYear_4 : List UInt8 := dkwX0_countYear_4 ++ dktX0_countYear_5
def dkwX0_countYear_3 : List UInt8 := [167, 0, 29, 42, 180, 0, 90, 180, 1, 143, 42, 180, 0, 90, 180, 1, 121, 29, 46, 104, 42, 180, 0, 90]
abbrev dktX0_countYear_3 : List UInt8 := dkwX0_countYear_3 ++ dktX0_countYear_4
def dkwX0_countYear_2 : List UInt8 := [29, 46, 133, 97, 80, 42, 180, 0, 117, 29, 92, 47, 42, 180, 0, 90, 180, 1, 118, 154, 0, 7, 9]
abbrev dktX0_countYear_2 : List UInt8 := dkwX0_countYear_2 ++ dktX0_countYear_3
def dkwX0_countYear_1 : List UInt8 := [153, 0, 7, 4, 167, 0, 4, 3, 96, 61, 42, 180, 0, 113, 29, 92, 47, 42, 180, 0, 90, 180, 1, 121]
abbrev dktX0_countYear_1 : List UInt8 := dkwX0_countYear_1 ++ dktX0_countYear_2
def dkwX0_countYear_0 : List UInt8 := [3, 61, 3, 62, 29, 42, 180, 1, 20, 162, 0, 97, 28, 42, 180, 0, 90, 180, 1, 96, 29, 51]
abbrev dktX0_countYear_0 : List UInt8 := dkwX0_countYear_0 ++ dktX0_countYear_1
theorem dksX0_countYear_0 : cX0_countYear.data.toList.drop 0 = dktX0_countYear_0 := by decide +kernel
theorem dksX0_countYear_1 : cX0_countYear.data.toList.drop 22 = dktX0_countYear_1 := dk_seg dksX0_countYear_0 22 rfl rfl
theorem dksX0_countYear_2 : cX0_countYear.data.toList.drop 46 = dktX0_countYear_2 := dk_seg dksX0_countYear_1 24 rfl rfl
theorem dksX0_countYear_3 : cX0_countYear.data.toList.drop 69 = dktX0_countYear_3 := dk_seg dksX0_countYear_2 23 rfl rfl
theorem dksX0_countYear_4 : cX0_countYear.data.toList.drop 93 = dktX0_countYear_4 := dk_seg dksX0_countYear_3 24 rfl rfl
theorem dksX0_countYear_5 : cX0_countYear.data.toList.drop 117 = dktX0_countYear_5 := dk_seg dksX0_countYear_4 24 rfl rfl
theorem dksX0_countYear_6 : cX0_countYear.data.toList.drop 141 = dktX0_countYear_6 := dk_seg dksX0_countYear_5 24 rfl rfl
theorem dksX0_countYear_7 : cX0_countYear.data.toList.drop 165 = dktX0_countYear_7 := dk_seg dksX0_countYear_6 24 rfl rfl
theorem dksX0_countYear_8 : cX0_countYear.data.toList.drop 189 = dktX0_countYear_8 := dk_seg dksX0_countYear_7 24 rfl rfl
theorem dksX0_countYear_9 : cX0_countYear.data.toList.drop 213 = dktX0_countYear_9 := dk_seg dksX0_countYear_8 24 rfl rfl
theorem dksX0_countYear_10 : cX0_countYear.data.toList.drop 237 = dktX0_countYear_10 := dk_seg dksX0_countYear_9 24 rfl rfl
theorem dX0_countYear_0 : decode cX0_countYear 0 = .ok (.iconst 0, 1) := dk_3 (dk_at dksX0_countYear_0 0 rfl rfl)
theorem dX0_countYear_1 : decode cX0_countYear 1 = .ok (.istore_n 2, 1) := dk_61 (dk_at dksX0_countYear_0 1 rfl rfl)
theorem dX0_countYear_2 : decode cX0_countYear 2 = .ok (.iconst 0, 1) := dk_3 (dk_at dksX0_countYear_0 2 rfl rfl)
theorem dX0_countYear_3 : decode cX0_countYear 3 = .ok (.istore_n 3, 1) := dk_62 (dk_at dksX0_countYear_0 3 rfl rfl)
theorem dX0_countYear_4 : decode cX0_countYear 4 = .ok (.iload_n 3, 1) := dk_29 (dk_at dksX0_countYear_0 4 rfl rfl)
theorem dX0_countYear_5 : decode cX0_countYear 5 = .ok (.aload_n 0, 1) := dk_42 (dk_at dksX0_countYear_0 5 rfl rfl)
theorem dX0_countYear_6 : decode cX0_countYear 6 = .ok (.getfield 276, 3) := dk_180 1 20 (dk_at dksX0_countYear_0 6 rfl rfl)
theorem dX0_countYear_9 : decode cX0_countYear 9 = .ok (.if_icmp .ge 97, 3) := dk_162 0 97 (dk_at dksX0_countYear_0 9 rfl rfl)
theorem dX0_countYear_12 : decode cX0_countYear 12 = .ok (.iload_n 2, 1) := dk_28 (dk_at dksX0_countYear_0 12 rfl rfl)
theorem dX0_countYear_13 : decode cX0_countYear 13 = .ok (.aload_n 0, 1) := dk_42 (dk_at dksX0_countYear_0 13 rfl rfl)
theorem dX0_countYear_14 : decode cX0_countYear 14 = .ok (.getfield 90, 3) := dk_180 0 90 (dk_at dksX0_countYear_0 14 rfl rfl)
theorem dX0_countYear_17 : decode cX0_countYear 17 = .ok (.getfield 352, 3) := dk_180 1 96 (dk_at dksX0_countYear_0 17 rfl rfl)
theorem dX0_countYear_20 : decode cX0_countYear 20 = .ok (.iload_n 3, 1) := dk_29 (dk_at dksX0_countYear_0 20 rfl rfl)
theorem dX0_countYear_21 : decode cX0_countYear 21 = .ok (.baload, 1) := dk_51 (dk_at dksX0_countYear_0 21 rfl rfl)
theorem dX0_countYear_22 : decode cX0_countYear 22 = .ok (.ifCond .eq 7, 3) := dk_153 0 7 (dk_at dksX0_countYear_1 0 rfl rfl)
theorem dX0_countYear_25 : decode cX0_countYear 25 = .ok (.iconst 1, 1) := dk_4 (dk_at dksX0_countYear_1 3 rfl rfl)
theorem dX0_countYear_26 : decode cX0_countYear 26 = .ok (.goto 4, 3) := dk_167 0 4 (dk_at dksX0_countYear_1 4 rfl rfl)
theorem dX0_countYear_29 : decode cX0_countYear 29 = .ok (.iconst 0, 1) := dk_3 (dk_at dksX0_countYear_1 7 rfl rfl)
theorem dX0_countYear_30 : decode cX0_countYear 30 = .ok (.iadd, 1) := dk_96 (dk_at dksX0_countYear_1 8 rfl rfl)
theorem dX0_countYear_31 : decode cX0_countYear 31 = .ok (.istore_n 2, 1) := dk_61 (dk_at dksX0_countYear_1 9 rfl rfl)
theorem dX0_countYear_32 : decode cX0_countYear 32 = .ok (.aload_n 0, 1) := dk_42 (dk_at dksX0_countYear_1 10 rfl rfl)
theorem dX0_countYear_33 : decode cX0_countYear 33 = .ok (.getfield 113, 3) := dk_180 0 113 (dk_at dksX0_countYear_1 11 rfl rfl)
theorem dX0_countYear_36 : decode cX0_countYear 36 = .ok (.iload_n 3, 1) := dk_29 (dk_at dksX0_countYear_1 14 rfl rfl)
theorem dX0_countYear_37 : decode cX0_countYear 37 = .ok (.dup2, 1) := dk_92 (dk_at dksX0_countYear_1 15 rfl rfl)
theorem dX0_countYear_38 : decode cX0_countYear 38 = .ok (.laload, 1) := dk_47 (dk_at dksX0_countYear_1 16 rfl rfl)
theorem dX0_countYear_39 : decode cX0_countYear 39 = .ok (.aload_n 0, 1) := dk_42 (dk_at dksX0_countYear_1 17 rfl rfl)
theorem dX0_countYear_40 : decode cX0_countYear 40 = .ok (.getfield 90, 3) := dk_180 0 90 (dk_at dksX0_countYear_1 18 rfl rfl)
theorem dX0_countYear_43 : decode cX0_countYear 43 = .ok (.getfield 377, 3) := dk_180 1 121 (dk_at dksX0_countYear_1 21 rfl rfl)
theorem dX0_countYear_46 : decode cX0_countYear 46 = .ok (.iload_n 3, 1) := dk_29 (dk_at dksX0_countYear_2 0 rfl rfl)
theorem dX0_countYear_47 : decode cX0_countYear 47 = .ok (.iaload, 1) := dk_46 (dk_at dksX0_countYear_2 1 rfl rfl)
theorem dX0_countYear_48 : decode cX0_countYear 48 = .ok (.i2l, 1) := dk_133 (dk_at dksX0_countYear_2 2 rfl rfl)
theorem dX0_countYear_49 : decode cX0_countYear 49 = .ok (.ladd, 1) := dk_97 (dk_at dksX0_countYear_2 3 rfl rfl)
theorem dX0_countYear_50 : decode cX0_countYear 50 = .ok (.lastore, 1) := dk_80 (dk_at dksX0_countYear_2 4 rfl rfl)
theorem dX0_countYear_51 : decode cX0_countYear 51 = .ok (.aload_n 0, 1) := dk_42 (dk_at dksX0_countYear_2 5 rfl rfl)
theorem dX0_countYear_52 : decode cX0_countYear 52 = .ok (.getfield 117, 3) := dk_180 0 117 (dk_at dksX0_countYear_2 6 rfl rfl)
theorem dX0_countYear_55 : decode cX0_countYear 55 = .ok (.iload_n 3, 1) := dk_29 (dk_at dksX0_countYear_2 9 rfl rfl)
theorem dX0_countYear_56 : decode cX0_countYear 56 = .ok (.dup2, 1) := dk_92 (dk_at dksX0_countYear_2 10 rfl rfl)
theorem dX0_countYear_57 : decode cX0_countYear 57 = .ok (.laload, 1) := dk_47 (dk_at dksX0_countYear_2 11 rfl rfl)
theorem dX0_countYear_58 : decode cX0_countYear 58 = .ok (.aload_n 0, 1) := dk_42 (dk_at dksX0_countYear_2 12 rfl rfl)
theorem dX0_countYear_59 : decode cX0_countYear 59 = .ok (.getfield 90, 3) := dk_180 0 90 (dk_at dksX0_countYear_2 13 rfl rfl)
theorem dX0_countYear_62 : decode cX0_countYear 62 = .ok (.getfield 374, 3) := dk_180 1 118 (dk_at dksX0_countYear_2 16 rfl rfl)
theorem dX0_countYear_65 : decode cX0_countYear 65 = .ok (.ifCond .ne 7, 3) := dk_154 0 7 (dk_at dksX0_countYear_2 19 rfl rfl)
theorem dX0_countYear_68 : decode cX0_countYear 68 = .ok (.lconst 0, 1) := dk_9 (dk_at dksX0_countYear_2 22 rfl rfl)
theorem dX0_countYear_69 : decode cX0_countYear 69 = .ok (.goto 29, 3) := dk_167 0 29 (dk_at dksX0_countYear_3 0 rfl rfl)
theorem dX0_countYear_72 : decode cX0_countYear 72 = .ok (.aload_n 0, 1) := dk_42 (dk_at dksX0_countYear_3 3 rfl rfl)
theorem dX0_countYear_73 : decode cX0_countYear 73 = .ok (.getfield 90, 3) := dk_180 0 90 (dk_at dksX0_countYear_3 4 rfl rfl)
theorem dX0_countYear_76 : decode cX0_countYear 76 = .ok (.getfield 399, 3) := dk_180 1 143 (dk_at dksX0_countYear_3 7 rfl rfl)
theorem dX0_countYear_79 : decode cX0_countYear 79 = .ok (.aload_n 0, 1) := dk_42 (dk_at dksX0_countYear_3 10 rfl rfl)
theorem dX0_countYear_80 : decode cX0_countYear 80 = .ok (.getfield 90, 3) := dk_180 0 90 (dk_at dksX0_countYear_3 11 rfl rfl)
theorem dX0_countYear_83 : decode cX0_countYear 83 = .ok (.getfield 377, 3) := dk_180 1 121 (dk_at dksX0_countYear_3 14 rfl rfl)
theorem dX0_countYear_86 : decode cX0_countYear 86 = .ok (.iload_n 3, 1) := dk_29 (dk_at dksX0_countYear_3 17 rfl rfl)
theorem dX0_countYear_87 : decode cX0_countYear 87 = .ok (.iaload, 1) := dk_46 (dk_at dksX0_countYear_3 18 rfl rfl)
theorem dX0_countYear_88 : decode cX0_countYear 88 = .ok (.imul, 1) := dk_104 (dk_at dksX0_countYear_3 19 rfl rfl)
theorem dX0_countYear_89 : decode cX0_countYear 89 = .ok (.aload_n 0, 1) := dk_42 (dk_at dksX0_countYear_3 20 rfl rfl)
theorem dX0_countYear_90 : decode cX0_countYear 90 = .ok (.getfield 90, 3) := dk_180 0 90 (dk_at dksX0_countYear_3 21 rfl rfl)
theorem dX0_countYear_93 : decode cX0_countYear 93 = .ok (.getfield 374, 3) := dk_180 1 118 (dk_at dksX0_countYear_4 0 rfl rfl)
theorem dX0_countYear_96 : decode cX0_countYear 96 = .ok (.idiv, 1) := dk_108 (dk_at dksX0_countYear_4 3 rfl rfl)
theorem dX0_countYear_97 : decode cX0_countYear 97 = .ok (.i2l, 1) := dk_133 (dk_at dksX0_countYear_4 4 rfl rfl)
theorem dX0_countYear_98 : decode cX0_countYear 98 = .ok (.ladd, 1) := dk_97 (dk_at dksX0_countYear_4 5 rfl rfl)
theorem dX0_countYear_99 : decode cX0_countYear 99 = .ok (.lastore, 1) := dk_80 (dk_at dksX0_countYear_4 6 rfl rfl)
theorem dX0_countYear_100 : decode cX0_countYear 100 = .ok (.iinc 3 1, 3) := dk_132 3 1 (dk_at dksX0_countYear_4 7 rfl rfl)
theorem dX0_countYear_103 : decode cX0_countYear 103 = .ok (.goto (-99), 3) := dk_167 255 157 (dk_at dksX0_countYear_4 10 rfl rfl)
theorem dX0_countYear_106 : decode cX0_countYear 106 = .ok (.iconst 0, 1) := dk_3 (dk_at dksX0_countYear_4 13 rfl rfl)
theorem dX0_countYear_107 : decode cX0_countYear 107 = .ok (.istore_n 3, 1) := dk_62 (dk_at dksX0_countYear_4 14 rfl rfl)
theorem dX0_countYear_108 : decode cX0_countYear 108 = .ok (.iload_n 3, 1) := dk_29 (dk_at dksX0_countYear_4 15 rfl rfl)
theorem dX0_countYear_109 : decode cX0_countYear 109 = .ok (.aload_n 0, 1) := dk_42 (dk_at dksX0_countYear_4 16 rfl rfl)
theorem dX0_countYear_110 : decode cX0_countYear 110 = .ok (.getfield 273, 3) := dk_180 1 17 (dk_at dksX0_countYear_4 17 rfl rfl)
theorem dX0_countYear_113 : decode cX0_countYear 113 = .ok (.if_icmp .ge 35, 3) := dk_162 0 35 (dk_at dksX0_countYear_4 20 rfl rfl)
theorem dX0_countYear_116 : decode cX0_countYear 116 = .ok (.aload_n 0, 1) := dk_42 (dk_at dksX0_countYear_4 23 rfl rfl)
theorem dX0_countYear_117 : decode cX0_countYear 117 = .ok (.getfield 120, 3) := dk_180 0 120 (dk_at dksX0_countYear_5 0 rfl rfl)
theorem dX0_countYear_120 : decode cX0_countYear 120 = .ok (.iload_n 3, 1) := dk_29 (dk_at dksX0_countYear_5 3 rfl rfl)
theorem dX0_countYear_121 : decode cX0_countYear 121 = .ok (.dup2, 1) := dk_92 (dk_at dksX0_countYear_5 4 rfl rfl)
theorem dX0_countYear_122 : decode cX0_countYear 122 = .ok (.iaload, 1) := dk_46 (dk_at dksX0_countYear_5 5 rfl rfl)
theorem dX0_countYear_123 : decode cX0_countYear 123 = .ok (.aload_n 0, 1) := dk_42 (dk_at dksX0_countYear_5 6 rfl rfl)
theorem dX0_countYear_124 : decode cX0_countYear 124 = .ok (.getfield 90, 3) := dk_180 0 90 (dk_at dksX0_countYear_5 7 rfl rfl)
theorem dX0_countYear_127 : decode cX0_countYear 127 = .ok (.getfield 385, 3) := dk_180 1 129 (dk_at dksX0_countYear_5 10 rfl rfl)
theorem dX0_countYear_130 : decode cX0_countYear 130 = .ok (.iload_n 3, 1) := dk_29 (dk_at dksX0_countYear_5 13 rfl rfl)
theorem dX0_countYear_131 : decode cX0_countYear 131 = .ok (.baload, 1) := dk_51 (dk_at dksX0_countYear_5 14 rfl rfl)
theorem dX0_countYear_132 : decode cX0_countYear 132 = .ok (.ifCond .eq 7, 3) := dk_153 0 7 (dk_at dksX0_countYear_5 15 rfl rfl)
theorem dX0_countYear_135 : decode cX0_countYear 135 = .ok (.iconst 1, 1) := dk_4 (dk_at dksX0_countYear_5 18 rfl rfl)
theorem dX0_countYear_136 : decode cX0_countYear 136 = .ok (.goto 4, 3) := dk_167 0 4 (dk_at dksX0_countYear_5 19 rfl rfl)
theorem dX0_countYear_139 : decode cX0_countYear 139 = .ok (.iconst 0, 1) := dk_3 (dk_at dksX0_countYear_5 22 rfl rfl)
theorem dX0_countYear_140 : decode cX0_countYear 140 = .ok (.iadd, 1) := dk_96 (dk_at dksX0_countYear_5 23 rfl rfl)
theorem dX0_countYear_141 : decode cX0_countYear 141 = .ok (.iastore, 1) := dk_79 (dk_at dksX0_countYear_6 0 rfl rfl)
theorem dX0_countYear_142 : decode cX0_countYear 142 = .ok (.iinc 3 1, 3) := dk_132 3 1 (dk_at dksX0_countYear_6 1 rfl rfl)
theorem dX0_countYear_145 : decode cX0_countYear 145 = .ok (.goto (-37), 3) := dk_167 255 219 (dk_at dksX0_countYear_6 4 rfl rfl)
theorem dX0_countYear_148 : decode cX0_countYear 148 = .ok (.aload_n 0, 1) := dk_42 (dk_at dksX0_countYear_6 7 rfl rfl)
theorem dX0_countYear_149 : decode cX0_countYear 149 = .ok (.dup, 1) := dk_89 (dk_at dksX0_countYear_6 8 rfl rfl)
theorem dX0_countYear_150 : decode cX0_countYear 150 = .ok (.getfield 454, 3) := dk_180 1 198 (dk_at dksX0_countYear_6 9 rfl rfl)
theorem dX0_countYear_153 : decode cX0_countYear 153 = .ok (.iload_n 2, 1) := dk_28 (dk_at dksX0_countYear_6 12 rfl rfl)
theorem dX0_countYear_154 : decode cX0_countYear 154 = .ok (.i2l, 1) := dk_133 (dk_at dksX0_countYear_6 13 rfl rfl)
theorem dX0_countYear_155 : decode cX0_countYear 155 = .ok (.iload_n 2, 1) := dk_28 (dk_at dksX0_countYear_6 14 rfl rfl)
theorem dX0_countYear_156 : decode cX0_countYear 156 = .ok (.iconst 1, 1) := dk_4 (dk_at dksX0_countYear_6 15 rfl rfl)
theorem dX0_countYear_157 : decode cX0_countYear 157 = .ok (.isub, 1) := dk_100 (dk_at dksX0_countYear_6 16 rfl rfl)
theorem dX0_countYear_158 : decode cX0_countYear 158 = .ok (.i2l, 1) := dk_133 (dk_at dksX0_countYear_6 17 rfl rfl)
theorem dX0_countYear_159 : decode cX0_countYear 159 = .ok (.lmul, 1) := dk_105 (dk_at dksX0_countYear_6 18 rfl rfl)
theorem dX0_countYear_160 : decode cX0_countYear 160 = .ok (.ladd, 1) := dk_97 (dk_at dksX0_countYear_6 19 rfl rfl)
theorem dX0_countYear_161 : decode cX0_countYear 161 = .ok (.putfield 454, 3) := dk_181 1 198 (dk_at dksX0_countYear_6 20 rfl rfl)
theorem dX0_countYear_164 : decode cX0_countYear 164 = .ok (.aload_n 0, 1) := dk_42 (dk_at dksX0_countYear_6 23 rfl rfl)
theorem dX0_countYear_165 : decode cX0_countYear 165 = .ok (.dup, 1) := dk_89 (dk_at dksX0_countYear_7 0 rfl rfl)
theorem dX0_countYear_166 : decode cX0_countYear 166 = .ok (.getfield 457, 3) := dk_180 1 201 (dk_at dksX0_countYear_7 1 rfl rfl)
theorem dX0_countYear_169 : decode cX0_countYear 169 = .ok (.iload_n 2, 1) := dk_28 (dk_at dksX0_countYear_7 4 rfl rfl)
theorem dX0_countYear_170 : decode cX0_countYear 170 = .ok (.i2l, 1) := dk_133 (dk_at dksX0_countYear_7 5 rfl rfl)
theorem dX0_countYear_171 : decode cX0_countYear 171 = .ok (.ladd, 1) := dk_97 (dk_at dksX0_countYear_7 6 rfl rfl)
theorem dX0_countYear_172 : decode cX0_countYear 172 = .ok (.putfield 457, 3) := dk_181 1 201 (dk_at dksX0_countYear_7 7 rfl rfl)
theorem dX0_countYear_175 : decode cX0_countYear 175 = .ok (.aload_n 0, 1) := dk_42 (dk_at dksX0_countYear_7 10 rfl rfl)
theorem dX0_countYear_176 : decode cX0_countYear 176 = .ok (.dup, 1) := dk_89 (dk_at dksX0_countYear_7 11 rfl rfl)
theorem dX0_countYear_177 : decode cX0_countYear 177 = .ok (.getfield 459, 3) := dk_180 1 203 (dk_at dksX0_countYear_7 12 rfl rfl)
theorem dX0_countYear_180 : decode cX0_countYear 180 = .ok (.aload_n 0, 1) := dk_42 (dk_at dksX0_countYear_7 15 rfl rfl)
theorem dX0_countYear_181 : decode cX0_countYear 181 = .ok (.getfield 90, 3) := dk_180 0 90 (dk_at dksX0_countYear_7 16 rfl rfl)
theorem dX0_countYear_184 : decode cX0_countYear 184 = .ok (.getfield 374, 3) := dk_180 1 118 (dk_at dksX0_countYear_7 19 rfl rfl)
theorem dX0_countYear_187 : decode cX0_countYear 187 = .ok (.i2l, 1) := dk_133 (dk_at dksX0_countYear_7 22 rfl rfl)
theorem dX0_countYear_188 : decode cX0_countYear 188 = .ok (.ladd, 1) := dk_97 (dk_at dksX0_countYear_7 23 rfl rfl)
theorem dX0_countYear_189 : decode cX0_countYear 189 = .ok (.putfield 459, 3) := dk_181 1 203 (dk_at dksX0_countYear_8 0 rfl rfl)
theorem dX0_countYear_192 : decode cX0_countYear 192 = .ok (.aload_n 0, 1) := dk_42 (dk_at dksX0_countYear_8 3 rfl rfl)
theorem dX0_countYear_193 : decode cX0_countYear 193 = .ok (.dup, 1) := dk_89 (dk_at dksX0_countYear_8 4 rfl rfl)
theorem dX0_countYear_194 : decode cX0_countYear 194 = .ok (.getfield 462, 3) := dk_180 1 206 (dk_at dksX0_countYear_8 5 rfl rfl)
theorem dX0_countYear_197 : decode cX0_countYear 197 = .ok (.aload_n 0, 1) := dk_42 (dk_at dksX0_countYear_8 8 rfl rfl)
theorem dX0_countYear_198 : decode cX0_countYear 198 = .ok (.getfield 90, 3) := dk_180 0 90 (dk_at dksX0_countYear_8 9 rfl rfl)
theorem dX0_countYear_201 : decode cX0_countYear 201 = .ok (.getfield 399, 3) := dk_180 1 143 (dk_at dksX0_countYear_8 12 rfl rfl)
theorem dX0_countYear_204 : decode cX0_countYear 204 = .ok (.i2l, 1) := dk_133 (dk_at dksX0_countYear_8 15 rfl rfl)
theorem dX0_countYear_205 : decode cX0_countYear 205 = .ok (.ladd, 1) := dk_97 (dk_at dksX0_countYear_8 16 rfl rfl)
theorem dX0_countYear_206 : decode cX0_countYear 206 = .ok (.putfield 462, 3) := dk_181 1 206 (dk_at dksX0_countYear_8 17 rfl rfl)
theorem dX0_countYear_209 : decode cX0_countYear 209 = .ok (.aload_n 0, 1) := dk_42 (dk_at dksX0_countYear_8 20 rfl rfl)
theorem dX0_countYear_210 : decode cX0_countYear 210 = .ok (.getfield 123, 3) := dk_180 0 123 (dk_at dksX0_countYear_8 21 rfl rfl)
theorem dX0_countYear_213 : decode cX0_countYear 213 = .ok (.iload_n 1, 1) := dk_27 (dk_at dksX0_countYear_9 0 rfl rfl)
theorem dX0_countYear_214 : decode cX0_countYear 214 = .ok (.aload_n 0, 1) := dk_42 (dk_at dksX0_countYear_9 1 rfl rfl)
theorem dX0_countYear_215 : decode cX0_countYear 215 = .ok (.getfield 90, 3) := dk_180 0 90 (dk_at dksX0_countYear_9 2 rfl rfl)
theorem dX0_countYear_218 : decode cX0_countYear 218 = .ok (.getfield 374, 3) := dk_180 1 118 (dk_at dksX0_countYear_9 5 rfl rfl)
theorem dX0_countYear_221 : decode cX0_countYear 221 = .ok (.iastore, 1) := dk_79 (dk_at dksX0_countYear_9 8 rfl rfl)
theorem dX0_countYear_222 : decode cX0_countYear 222 = .ok (.aload_n 0, 1) := dk_42 (dk_at dksX0_countYear_9 9 rfl rfl)
theorem dX0_countYear_223 : decode cX0_countYear 223 = .ok (.aload_n 0, 1) := dk_42 (dk_at dksX0_countYear_9 10 rfl rfl)
theorem dX0_countYear_224 : decode cX0_countYear 224 = .ok (.getfield 448, 3) := dk_180 1 192 (dk_at dksX0_countYear_9 11 rfl rfl)
theorem dX0_countYear_227 : decode cX0_countYear 227 = .ok (.aload_n 0, 1) := dk_42 (dk_at dksX0_countYear_9 14 rfl rfl)
theorem dX0_countYear_228 : decode cX0_countYear 228 = .ok (.getfield 90, 3) := dk_180 0 90 (dk_at dksX0_countYear_9 15 rfl rfl)
theorem dX0_countYear_231 : decode cX0_countYear 231 = .ok (.getfield 374, 3) := dk_180 1 118 (dk_at dksX0_countYear_9 18 rfl rfl)
theorem dX0_countYear_234 : decode cX0_countYear 234 = .ok (.invokestatic 465, 3) := dk_184 1 209 (dk_at dksX0_countYear_9 21 rfl rfl)
theorem dX0_countYear_237 : decode cX0_countYear 237 = .ok (.putfield 448, 3) := dk_181 1 192 (dk_at dksX0_countYear_10 0 rfl rfl)
theorem dX0_countYear_240 : decode cX0_countYear 240 = .ok (.return_, 1) := dk_177 (dk_at dksX0_countYear_10 3 rfl rfl)
abbrev cX0_together : ByteArray := prog_1_method_79_code
def yX0_together : MethodName := ⟨RX0, "together", "()I"⟩
def dkwX0_together_1 : List UInt8 := [167, 0, 20, 42, 42, 180, 1, 198, 42, 182, 1, 224, 42, 180, 1, 201, 136, 182, 1, 228, 172]
abbrev dktX0_together_1 : List UInt8 := dkwX0_together_1 ++ []
def dkwX0_together_0 : List UInt8 := [42, 182, 1, 221, 154, 0, 6, 16, 250, 172, 42, 182, 1, 224, 9, 148, 157, 0, 11, 42, 7, 182, 0, 139]
abbrev dktX0_together_0 : List UInt8 := dkwX0_together_0 ++ dktX0_together_1
theorem dksX0_together_0 : cX0_together.data.toList.drop 0 = dktX0_together_0 := by decide +kernel
theorem dksX0_together_1 : cX0_together.data.toList.drop 24 = dktX0_together_1 := dk_seg dksX0_together_0 24 rfl rfl
theorem dX0_together_0 : decode cX0_together 0 = .ok (.aload_n 0, 1) := dk_42 (dk_at dksX0_together_0 0 rfl rfl)
theorem dX0_together_1 : decode cX0_together 1 = .ok (.invokevirtual 477, 3) := dk_182 1 221 (dk_at dksX0_together_0 1 rfl rfl)
theorem dX0_together_4 : decode cX0_together 4 = .ok (.ifCond .ne 6, 3) := dk_154 0 6 (dk_at dksX0_together_0 4 rfl rfl)
theorem dX0_together_7 : decode cX0_together 7 = .ok (.bipush (-6), 2) := dk_16 250 (dk_at dksX0_together_0 7 rfl rfl)
theorem dX0_together_9 : decode cX0_together 9 = .ok (.ireturn, 1) := dk_172 (dk_at dksX0_together_0 9 rfl rfl)
theorem dX0_together_10 : decode cX0_together 10 = .ok (.aload_n 0, 1) := dk_42 (dk_at dksX0_together_0 10 rfl rfl)
theorem dX0_together_11 : decode cX0_together 11 = .ok (.invokevirtual 480, 3) := dk_182 1 224 (dk_at dksX0_together_0 11 rfl rfl)
theorem dX0_together_14 : decode cX0_together 14 = .ok (.lconst 0, 1) := dk_9 (dk_at dksX0_together_0 14 rfl rfl)
theorem dX0_together_15 : decode cX0_together 15 = .ok (.lcmp, 1) := dk_148 (dk_at dksX0_together_0 15 rfl rfl)
theorem dX0_together_16 : decode cX0_together 16 = .ok (.ifCond .gt 11, 3) := dk_157 0 11 (dk_at dksX0_together_0 16 rfl rfl)
theorem dX0_together_19 : decode cX0_together 19 = .ok (.aload_n 0, 1) := dk_42 (dk_at dksX0_together_0 19 rfl rfl)
theorem dX0_together_20 : decode cX0_together 20 = .ok (.iconst 4, 1) := dk_7 (dk_at dksX0_together_0 20 rfl rfl)
theorem dX0_together_21 : decode cX0_together 21 = .ok (.invokevirtual 139, 3) := dk_182 0 139 (dk_at dksX0_together_0 21 rfl rfl)
theorem dX0_together_24 : decode cX0_together 24 = .ok (.goto 20, 3) := dk_167 0 20 (dk_at dksX0_together_1 0 rfl rfl)
theorem dX0_together_27 : decode cX0_together 27 = .ok (.aload_n 0, 1) := dk_42 (dk_at dksX0_together_1 3 rfl rfl)
theorem dX0_together_28 : decode cX0_together 28 = .ok (.aload_n 0, 1) := dk_42 (dk_at dksX0_together_1 4 rfl rfl)
theorem dX0_together_29 : decode cX0_together 29 = .ok (.getfield 454, 3) := dk_180 1 198 (dk_at dksX0_together_1 5 rfl rfl)
theorem dX0_together_32 : decode cX0_together 32 = .ok (.aload_n 0, 1) := dk_42 (dk_at dksX0_together_1 8 rfl rfl)
theorem dX0_together_33 : decode cX0_together 33 = .ok (.invokevirtual 480, 3) := dk_182 1 224 (dk_at dksX0_together_1 9 rfl rfl)
theorem dX0_together_36 : decode cX0_together 36 = .ok (.aload_n 0, 1) := dk_42 (dk_at dksX0_together_1 12 rfl rfl)
theorem dX0_together_37 : decode cX0_together 37 = .ok (.getfield 457, 3) := dk_180 1 201 (dk_at dksX0_together_1 13 rfl rfl)
theorem dX0_together_40 : decode cX0_together 40 = .ok (.l2i, 1) := dk_136 (dk_at dksX0_together_1 16 rfl rfl)
theorem dX0_together_41 : decode cX0_together 41 = .ok (.invokevirtual 484, 3) := dk_182 1 228 (dk_at dksX0_together_1 17 rfl rfl)
theorem dX0_together_44 : decode cX0_together 44 = .ok (.ireturn, 1) := dk_172 (dk_at dksX0_together_1 20 rfl rfl)
abbrev cX0_allPairs : ByteArray := prog_1_method_76_code
def yX0_allPairs : MethodName := ⟨RX0, "allPairs", "()J"⟩
def dkwX0_allPairs_0 : List UInt8 := [42, 180, 1, 201, 42, 180, 1, 20, 4, 100, 133, 105, 173]
abbrev dktX0_allPairs_0 : List UInt8 := dkwX0_allPairs_0 ++ []
theorem dksX0_allPairs_0 : cX0_allPairs.data.toList.drop 0 = dktX0_allPairs_0 := by decide +kernel
theorem dX0_allPairs_0 : decode cX0_allPairs 0 = .ok (.aload_n 0, 1) := dk_42 (dk_at dksX0_allPairs_0 0 rfl rfl)
theorem dX0_allPairs_1 : decode cX0_allPairs 1 = .ok (.getfield 457, 3) := dk_180 1 201 (dk_at dksX0_allPairs_0 1 rfl rfl)
theorem dX0_allPairs_4 : decode cX0_allPairs 4 = .ok (.aload_n 0, 1) := dk_42 (dk_at dksX0_allPairs_0 4 rfl rfl)
theorem dX0_allPairs_5 : decode cX0_allPairs 5 = .ok (.getfield 276, 3) := dk_180 1 20 (dk_at dksX0_allPairs_0 5 rfl rfl)
theorem dX0_allPairs_8 : decode cX0_allPairs 8 = .ok (.iconst 1, 1) := dk_4 (dk_at dksX0_allPairs_0 8 rfl rfl)
theorem dX0_allPairs_9 : decode cX0_allPairs 9 = .ok (.isub, 1) := dk_100 (dk_at dksX0_allPairs_0 9 rfl rfl)
theorem dX0_allPairs_10 : decode cX0_allPairs 10 = .ok (.i2l, 1) := dk_133 (dk_at dksX0_allPairs_0 10 rfl rfl)
theorem dX0_allPairs_11 : decode cX0_allPairs 11 = .ok (.lmul, 1) := dk_105 (dk_at dksX0_allPairs_0 11 rfl rfl)
theorem dX0_allPairs_12 : decode cX0_allPairs 12 = .ok (.lreturn, 1) := dk_173 (dk_at dksX0_allPairs_0 12 rfl rfl)
abbrev cX0_tell : ByteArray := prog_1_method_5_code
def yX0_tell : MethodName := ⟨RX0, "tell", "(JJI)I"⟩
def dkwX0_tell_2 : List UInt8 := [21, 5, 172]
abbrev dktX0_tell_2 : List UInt8 := dkwX0_tell_2 ++ []
def dkwX0_tell_1 : List UInt8 := [22, 10, 55, 8, 167, 255, 234, 42, 31, 22, 6, 109, 181, 0, 14, 42, 33, 22, 6, 109, 181, 0, 18]
abbrev dktX0_tell_1 : List UInt8 := dkwX0_tell_1 ++ dktX0_tell_2
def dkwX0_tell_0 : List UInt8 := [31, 55, 6, 33, 55, 8, 22, 8, 9, 148, 153, 0, 21, 22, 6, 22, 8, 113, 55, 10, 22, 8, 55, 6]
abbrev dktX0_tell_0 : List UInt8 := dkwX0_tell_0 ++ dktX0_tell_1
theorem dksX0_tell_0 : cX0_tell.data.toList.drop 0 = dktX0_tell_0 := by decide +kernel
theorem dksX0_tell_1 : cX0_tell.data.toList.drop 24 = dktX0_tell_1 := dk_seg dksX0_tell_0 24 rfl rfl
theorem dksX0_tell_2 : cX0_tell.data.toList.drop 47 = dktX0_tell_2 := dk_seg dksX0_tell_1 23 rfl rfl
theorem dX0_tell_0 : decode cX0_tell 0 = .ok (.lload_n 1, 1) := dk_31 (dk_at dksX0_tell_0 0 rfl rfl)
theorem dX0_tell_1 : decode cX0_tell 1 = .ok (.lstore 6, 2) := dk_55 6 (dk_at dksX0_tell_0 1 rfl rfl)
theorem dX0_tell_3 : decode cX0_tell 3 = .ok (.lload_n 3, 1) := dk_33 (dk_at dksX0_tell_0 3 rfl rfl)
theorem dX0_tell_4 : decode cX0_tell 4 = .ok (.lstore 8, 2) := dk_55 8 (dk_at dksX0_tell_0 4 rfl rfl)
theorem dX0_tell_6 : decode cX0_tell 6 = .ok (.lload 8, 2) := dk_22 8 (dk_at dksX0_tell_0 6 rfl rfl)
theorem dX0_tell_8 : decode cX0_tell 8 = .ok (.lconst 0, 1) := dk_9 (dk_at dksX0_tell_0 8 rfl rfl)
theorem dX0_tell_9 : decode cX0_tell 9 = .ok (.lcmp, 1) := dk_148 (dk_at dksX0_tell_0 9 rfl rfl)
theorem dX0_tell_10 : decode cX0_tell 10 = .ok (.ifCond .eq 21, 3) := dk_153 0 21 (dk_at dksX0_tell_0 10 rfl rfl)
theorem dX0_tell_13 : decode cX0_tell 13 = .ok (.lload 6, 2) := dk_22 6 (dk_at dksX0_tell_0 13 rfl rfl)
theorem dX0_tell_15 : decode cX0_tell 15 = .ok (.lload 8, 2) := dk_22 8 (dk_at dksX0_tell_0 15 rfl rfl)
theorem dX0_tell_17 : decode cX0_tell 17 = .ok (.lrem, 1) := dk_113 (dk_at dksX0_tell_0 17 rfl rfl)
theorem dX0_tell_18 : decode cX0_tell 18 = .ok (.lstore 10, 2) := dk_55 10 (dk_at dksX0_tell_0 18 rfl rfl)
theorem dX0_tell_20 : decode cX0_tell 20 = .ok (.lload 8, 2) := dk_22 8 (dk_at dksX0_tell_0 20 rfl rfl)
theorem dX0_tell_22 : decode cX0_tell 22 = .ok (.lstore 6, 2) := dk_55 6 (dk_at dksX0_tell_0 22 rfl rfl)
theorem dX0_tell_24 : decode cX0_tell 24 = .ok (.lload 10, 2) := dk_22 10 (dk_at dksX0_tell_1 0 rfl rfl)
theorem dX0_tell_26 : decode cX0_tell 26 = .ok (.lstore 8, 2) := dk_55 8 (dk_at dksX0_tell_1 2 rfl rfl)
theorem dX0_tell_28 : decode cX0_tell 28 = .ok (.goto (-22), 3) := dk_167 255 234 (dk_at dksX0_tell_1 4 rfl rfl)
theorem dX0_tell_31 : decode cX0_tell 31 = .ok (.aload_n 0, 1) := dk_42 (dk_at dksX0_tell_1 7 rfl rfl)
theorem dX0_tell_32 : decode cX0_tell 32 = .ok (.lload_n 1, 1) := dk_31 (dk_at dksX0_tell_1 8 rfl rfl)
theorem dX0_tell_33 : decode cX0_tell 33 = .ok (.lload 6, 2) := dk_22 6 (dk_at dksX0_tell_1 9 rfl rfl)
theorem dX0_tell_35 : decode cX0_tell 35 = .ok (.ldiv, 1) := dk_109 (dk_at dksX0_tell_1 11 rfl rfl)
theorem dX0_tell_36 : decode cX0_tell 36 = .ok (.putfield 14, 3) := dk_181 0 14 (dk_at dksX0_tell_1 12 rfl rfl)
theorem dX0_tell_39 : decode cX0_tell 39 = .ok (.aload_n 0, 1) := dk_42 (dk_at dksX0_tell_1 15 rfl rfl)
theorem dX0_tell_40 : decode cX0_tell 40 = .ok (.lload_n 3, 1) := dk_33 (dk_at dksX0_tell_1 16 rfl rfl)
theorem dX0_tell_41 : decode cX0_tell 41 = .ok (.lload 6, 2) := dk_22 6 (dk_at dksX0_tell_1 17 rfl rfl)
theorem dX0_tell_43 : decode cX0_tell 43 = .ok (.ldiv, 1) := dk_109 (dk_at dksX0_tell_1 19 rfl rfl)
theorem dX0_tell_44 : decode cX0_tell 44 = .ok (.putfield 18, 3) := dk_181 0 18 (dk_at dksX0_tell_1 20 rfl rfl)
theorem dX0_tell_47 : decode cX0_tell 47 = .ok (.iload 5, 2) := dk_21 5 (dk_at dksX0_tell_2 0 rfl rfl)
theorem dX0_tell_49 : decode cX0_tell 49 = .ok (.ireturn, 1) := dk_172 (dk_at dksX0_tell_2 2 rfl rfl)
abbrev cX0_need : ByteArray := prog_1_method_80_code
def yX0_need : MethodName := ⟨RX0, "need", "()I"⟩
def dkwX0_need_4 : List UInt8 := [29, 167, 0, 5, 16, 247, 61, 132, 3, 1, 167, 255, 203, 42, 16, 247, 181, 0, 93, 28, 172]
abbrev dktX0_need_4 : List UInt8 := dkwX0_need_4 ++ []
def dkwX0_need_3 : List UInt8 := [153, 0, 28, 42, 182, 1, 224, 9, 148, 158, 0, 19, 42, 180, 1, 198, 42, 182, 1, 224, 148, 154, 0, 7]
abbrev dktX0_need_3 : List UInt8 := dkwX0_need_3 ++ dktX0_need_4
def dkwX0_need_2 : List UInt8 := [16, 247, 61, 3, 62, 29, 16, 99, 163, 0, 53, 28, 156, 0, 49, 42, 29, 181, 0, 93, 42, 182, 1, 221]
abbrev dktX0_need_2 : List UInt8 := dkwX0_need_2 ++ dktX0_need_3
def dkwX0_need_1 : List UInt8 := [58, 5, 27, 25, 5, 7, 182, 1, 160, 128, 60, 132, 4, 1, 167, 255, 232, 27, 154, 0, 6, 16, 252, 172]
abbrev dktX0_need_1 : List UInt8 := dkwX0_need_1 ++ dktX0_need_2
def dkwX0_need_0 : List UInt8 := [3, 60, 42, 180, 0, 40, 77, 44, 190, 62, 3, 54, 4, 21, 4, 29, 162, 0, 24, 44, 21, 4, 50]
abbrev dktX0_need_0 : List UInt8 := dkwX0_need_0 ++ dktX0_need_1
theorem dksX0_need_0 : cX0_need.data.toList.drop 0 = dktX0_need_0 := by decide +kernel
theorem dksX0_need_1 : cX0_need.data.toList.drop 23 = dktX0_need_1 := dk_seg dksX0_need_0 23 rfl rfl
theorem dksX0_need_2 : cX0_need.data.toList.drop 47 = dktX0_need_2 := dk_seg dksX0_need_1 24 rfl rfl
theorem dksX0_need_3 : cX0_need.data.toList.drop 71 = dktX0_need_3 := dk_seg dksX0_need_2 24 rfl rfl
theorem dksX0_need_4 : cX0_need.data.toList.drop 95 = dktX0_need_4 := dk_seg dksX0_need_3 24 rfl rfl
theorem dX0_need_0 : decode cX0_need 0 = .ok (.iconst 0, 1) := dk_3 (dk_at dksX0_need_0 0 rfl rfl)
theorem dX0_need_1 : decode cX0_need 1 = .ok (.istore_n 1, 1) := dk_60 (dk_at dksX0_need_0 1 rfl rfl)
theorem dX0_need_2 : decode cX0_need 2 = .ok (.aload_n 0, 1) := dk_42 (dk_at dksX0_need_0 2 rfl rfl)
theorem dX0_need_3 : decode cX0_need 3 = .ok (.getfield 40, 3) := dk_180 0 40 (dk_at dksX0_need_0 3 rfl rfl)
theorem dX0_need_6 : decode cX0_need 6 = .ok (.astore_n 2, 1) := dk_77 (dk_at dksX0_need_0 6 rfl rfl)
theorem dX0_need_7 : decode cX0_need 7 = .ok (.aload_n 2, 1) := dk_44 (dk_at dksX0_need_0 7 rfl rfl)
theorem dX0_need_8 : decode cX0_need 8 = .ok (.arraylength, 1) := dk_190 (dk_at dksX0_need_0 8 rfl rfl)
theorem dX0_need_9 : decode cX0_need 9 = .ok (.istore_n 3, 1) := dk_62 (dk_at dksX0_need_0 9 rfl rfl)
theorem dX0_need_10 : decode cX0_need 10 = .ok (.iconst 0, 1) := dk_3 (dk_at dksX0_need_0 10 rfl rfl)
theorem dX0_need_11 : decode cX0_need 11 = .ok (.istore 4, 2) := dk_54 4 (dk_at dksX0_need_0 11 rfl rfl)
theorem dX0_need_13 : decode cX0_need 13 = .ok (.iload 4, 2) := dk_21 4 (dk_at dksX0_need_0 13 rfl rfl)
theorem dX0_need_15 : decode cX0_need 15 = .ok (.iload_n 3, 1) := dk_29 (dk_at dksX0_need_0 15 rfl rfl)
theorem dX0_need_16 : decode cX0_need 16 = .ok (.if_icmp .ge 24, 3) := dk_162 0 24 (dk_at dksX0_need_0 16 rfl rfl)
theorem dX0_need_19 : decode cX0_need 19 = .ok (.aload_n 2, 1) := dk_44 (dk_at dksX0_need_0 19 rfl rfl)
theorem dX0_need_20 : decode cX0_need 20 = .ok (.iload 4, 2) := dk_21 4 (dk_at dksX0_need_0 20 rfl rfl)
theorem dX0_need_22 : decode cX0_need 22 = .ok (.aaload, 1) := dk_50 (dk_at dksX0_need_0 22 rfl rfl)
theorem dX0_need_23 : decode cX0_need 23 = .ok (.astore 5, 2) := dk_58 5 (dk_at dksX0_need_1 0 rfl rfl)
theorem dX0_need_25 : decode cX0_need 25 = .ok (.iload_n 1, 1) := dk_27 (dk_at dksX0_need_1 2 rfl rfl)
theorem dX0_need_26 : decode cX0_need 26 = .ok (.aload 5, 2) := dk_25 5 (dk_at dksX0_need_1 3 rfl rfl)
theorem dX0_need_28 : decode cX0_need 28 = .ok (.iconst 4, 1) := dk_7 (dk_at dksX0_need_1 5 rfl rfl)
theorem dX0_need_29 : decode cX0_need 29 = .ok (.invokevirtual 416, 3) := dk_182 1 160 (dk_at dksX0_need_1 6 rfl rfl)
theorem dX0_need_32 : decode cX0_need 32 = .ok (.ior, 1) := dk_128 (dk_at dksX0_need_1 9 rfl rfl)
theorem dX0_need_33 : decode cX0_need 33 = .ok (.istore_n 1, 1) := dk_60 (dk_at dksX0_need_1 10 rfl rfl)
theorem dX0_need_34 : decode cX0_need 34 = .ok (.iinc 4 1, 3) := dk_132 4 1 (dk_at dksX0_need_1 11 rfl rfl)
theorem dX0_need_37 : decode cX0_need 37 = .ok (.goto (-24), 3) := dk_167 255 232 (dk_at dksX0_need_1 14 rfl rfl)
theorem dX0_need_40 : decode cX0_need 40 = .ok (.iload_n 1, 1) := dk_27 (dk_at dksX0_need_1 17 rfl rfl)
theorem dX0_need_41 : decode cX0_need 41 = .ok (.ifCond .ne 6, 3) := dk_154 0 6 (dk_at dksX0_need_1 18 rfl rfl)
theorem dX0_need_44 : decode cX0_need 44 = .ok (.bipush (-4), 2) := dk_16 252 (dk_at dksX0_need_1 21 rfl rfl)
theorem dX0_need_46 : decode cX0_need 46 = .ok (.ireturn, 1) := dk_172 (dk_at dksX0_need_1 23 rfl rfl)
theorem dX0_need_47 : decode cX0_need 47 = .ok (.bipush (-9), 2) := dk_16 247 (dk_at dksX0_need_2 0 rfl rfl)
theorem dX0_need_49 : decode cX0_need 49 = .ok (.istore_n 2, 1) := dk_61 (dk_at dksX0_need_2 2 rfl rfl)
theorem dX0_need_50 : decode cX0_need 50 = .ok (.iconst 0, 1) := dk_3 (dk_at dksX0_need_2 3 rfl rfl)
theorem dX0_need_51 : decode cX0_need 51 = .ok (.istore_n 3, 1) := dk_62 (dk_at dksX0_need_2 4 rfl rfl)
theorem dX0_need_52 : decode cX0_need 52 = .ok (.iload_n 3, 1) := dk_29 (dk_at dksX0_need_2 5 rfl rfl)
theorem dX0_need_53 : decode cX0_need 53 = .ok (.bipush 99, 2) := dk_16 99 (dk_at dksX0_need_2 6 rfl rfl)
theorem dX0_need_55 : decode cX0_need 55 = .ok (.if_icmp .gt 53, 3) := dk_163 0 53 (dk_at dksX0_need_2 8 rfl rfl)
theorem dX0_need_58 : decode cX0_need 58 = .ok (.iload_n 2, 1) := dk_28 (dk_at dksX0_need_2 11 rfl rfl)
theorem dX0_need_59 : decode cX0_need 59 = .ok (.ifCond .ge 49, 3) := dk_156 0 49 (dk_at dksX0_need_2 12 rfl rfl)
theorem dX0_need_62 : decode cX0_need 62 = .ok (.aload_n 0, 1) := dk_42 (dk_at dksX0_need_2 15 rfl rfl)
theorem dX0_need_63 : decode cX0_need 63 = .ok (.iload_n 3, 1) := dk_29 (dk_at dksX0_need_2 16 rfl rfl)
theorem dX0_need_64 : decode cX0_need 64 = .ok (.putfield 93, 3) := dk_181 0 93 (dk_at dksX0_need_2 17 rfl rfl)
theorem dX0_need_67 : decode cX0_need 67 = .ok (.aload_n 0, 1) := dk_42 (dk_at dksX0_need_2 20 rfl rfl)
theorem dX0_need_68 : decode cX0_need 68 = .ok (.invokevirtual 477, 3) := dk_182 1 221 (dk_at dksX0_need_2 21 rfl rfl)
theorem dX0_need_71 : decode cX0_need 71 = .ok (.ifCond .eq 28, 3) := dk_153 0 28 (dk_at dksX0_need_3 0 rfl rfl)
theorem dX0_need_74 : decode cX0_need 74 = .ok (.aload_n 0, 1) := dk_42 (dk_at dksX0_need_3 3 rfl rfl)
theorem dX0_need_75 : decode cX0_need 75 = .ok (.invokevirtual 480, 3) := dk_182 1 224 (dk_at dksX0_need_3 4 rfl rfl)
theorem dX0_need_78 : decode cX0_need 78 = .ok (.lconst 0, 1) := dk_9 (dk_at dksX0_need_3 7 rfl rfl)
theorem dX0_need_79 : decode cX0_need 79 = .ok (.lcmp, 1) := dk_148 (dk_at dksX0_need_3 8 rfl rfl)
theorem dX0_need_80 : decode cX0_need 80 = .ok (.ifCond .le 19, 3) := dk_158 0 19 (dk_at dksX0_need_3 9 rfl rfl)
theorem dX0_need_83 : decode cX0_need 83 = .ok (.aload_n 0, 1) := dk_42 (dk_at dksX0_need_3 12 rfl rfl)
theorem dX0_need_84 : decode cX0_need 84 = .ok (.getfield 454, 3) := dk_180 1 198 (dk_at dksX0_need_3 13 rfl rfl)
theorem dX0_need_87 : decode cX0_need 87 = .ok (.aload_n 0, 1) := dk_42 (dk_at dksX0_need_3 16 rfl rfl)
theorem dX0_need_88 : decode cX0_need 88 = .ok (.invokevirtual 480, 3) := dk_182 1 224 (dk_at dksX0_need_3 17 rfl rfl)
theorem dX0_need_91 : decode cX0_need 91 = .ok (.lcmp, 1) := dk_148 (dk_at dksX0_need_3 20 rfl rfl)
theorem dX0_need_92 : decode cX0_need 92 = .ok (.ifCond .ne 7, 3) := dk_154 0 7 (dk_at dksX0_need_3 21 rfl rfl)
theorem dX0_need_95 : decode cX0_need 95 = .ok (.iload_n 3, 1) := dk_29 (dk_at dksX0_need_4 0 rfl rfl)
theorem dX0_need_96 : decode cX0_need 96 = .ok (.goto 5, 3) := dk_167 0 5 (dk_at dksX0_need_4 1 rfl rfl)
theorem dX0_need_99 : decode cX0_need 99 = .ok (.bipush (-9), 2) := dk_16 247 (dk_at dksX0_need_4 4 rfl rfl)
theorem dX0_need_101 : decode cX0_need 101 = .ok (.istore_n 2, 1) := dk_61 (dk_at dksX0_need_4 6 rfl rfl)
theorem dX0_need_102 : decode cX0_need 102 = .ok (.iinc 3 1, 3) := dk_132 3 1 (dk_at dksX0_need_4 7 rfl rfl)
theorem dX0_need_105 : decode cX0_need 105 = .ok (.goto (-53), 3) := dk_167 255 203 (dk_at dksX0_need_4 10 rfl rfl)
theorem dX0_need_108 : decode cX0_need 108 = .ok (.aload_n 0, 1) := dk_42 (dk_at dksX0_need_4 13 rfl rfl)
theorem dX0_need_109 : decode cX0_need 109 = .ok (.bipush (-9), 2) := dk_16 247 (dk_at dksX0_need_4 14 rfl rfl)
theorem dX0_need_111 : decode cX0_need 111 = .ok (.putfield 93, 3) := dk_181 0 93 (dk_at dksX0_need_4 16 rfl rfl)
theorem dX0_need_114 : decode cX0_need 114 = .ok (.iload_n 2, 1) := dk_28 (dk_at dksX0_need_4 19 rfl rfl)
theorem dX0_need_115 : decode cX0_need 115 = .ok (.ireturn, 1) := dk_172 (dk_at dksX0_need_4 20 rfl rfl)
abbrev cX0_lost : ByteArray := prog_1_method_81_code
def yX0_lost : MethodName := ⟨RX0, "lost", "()I"⟩
def dkwX0_lost_6 : List UInt8 := [172, 21, 7, 4, 96, 145, 54, 7, 167, 255, 165, 132, 5, 1, 167, 255, 137, 16, 247, 172]
abbrev dktX0_lost_6 : List UInt8 := dkwX0_lost_6 ++ []
def dkwX0_lost_5 : List UInt8 := [54, 8, 42, 180, 0, 126, 21, 5, 21, 6, 84, 21, 8, 153, 0, 12, 16, 10, 21, 5, 104, 21, 7, 96]
abbrev dktX0_lost_5 : List UInt8 := dkwX0_lost_5 ++ dktX0_lost_6
def dkwX0_lost_4 : List UInt8 := [158, 0, 23, 42, 180, 1, 198, 33, 105, 31, 42, 182, 1, 224, 105, 148, 156, 0, 7, 4, 167, 0, 4, 3]
abbrev dktX0_lost_4 : List UInt8 := dkwX0_lost_4 ++ dktX0_lost_5
def dkwX0_lost_3 : List UInt8 := [21, 7, 84, 21, 7, 21, 6, 159, 0, 39, 42, 182, 1, 221, 153, 0, 32, 42, 182, 1, 224, 9, 148]
abbrev dktX0_lost_3 : List UInt8 := dkwX0_lost_3 ++ dktX0_lost_4
def dkwX0_lost_2 : List UInt8 := [42, 180, 0, 126, 21, 5, 51, 54, 6, 3, 54, 7, 21, 7, 6, 162, 0, 91, 42, 180, 0, 126, 21, 5]
abbrev dktX0_lost_2 : List UInt8 := dkwX0_lost_2 ++ dktX0_lost_3
def dkwX0_lost_1 : List UInt8 := [172, 42, 180, 1, 198, 64, 42, 182, 1, 224, 66, 3, 54, 5, 21, 5, 42, 180, 0, 126, 190, 162, 0, 115]
abbrev dktX0_lost_1 : List UInt8 := dkwX0_lost_1 ++ dktX0_lost_2
def dkwX0_lost_0 : List UInt8 := [42, 182, 1, 221, 154, 0, 6, 16, 250, 172, 42, 182, 1, 224, 9, 148, 157, 0, 9, 42, 7, 182, 0, 139]
abbrev dktX0_lost_0 : List UInt8 := dkwX0_lost_0 ++ dktX0_lost_1
theorem dksX0_lost_0 : cX0_lost.data.toList.drop 0 = dktX0_lost_0 := by decide +kernel
theorem dksX0_lost_1 : cX0_lost.data.toList.drop 24 = dktX0_lost_1 := dk_seg dksX0_lost_0 24 rfl rfl
theorem dksX0_lost_2 : cX0_lost.data.toList.drop 48 = dktX0_lost_2 := dk_seg dksX0_lost_1 24 rfl rfl
theorem dksX0_lost_3 : cX0_lost.data.toList.drop 72 = dktX0_lost_3 := dk_seg dksX0_lost_2 24 rfl rfl
theorem dksX0_lost_4 : cX0_lost.data.toList.drop 95 = dktX0_lost_4 := dk_seg dksX0_lost_3 23 rfl rfl
theorem dksX0_lost_5 : cX0_lost.data.toList.drop 119 = dktX0_lost_5 := dk_seg dksX0_lost_4 24 rfl rfl
theorem dksX0_lost_6 : cX0_lost.data.toList.drop 143 = dktX0_lost_6 := dk_seg dksX0_lost_5 24 rfl rfl
theorem dX0_lost_0 : decode cX0_lost 0 = .ok (.aload_n 0, 1) := dk_42 (dk_at dksX0_lost_0 0 rfl rfl)
theorem dX0_lost_1 : decode cX0_lost 1 = .ok (.invokevirtual 477, 3) := dk_182 1 221 (dk_at dksX0_lost_0 1 rfl rfl)
theorem dX0_lost_4 : decode cX0_lost 4 = .ok (.ifCond .ne 6, 3) := dk_154 0 6 (dk_at dksX0_lost_0 4 rfl rfl)
theorem dX0_lost_7 : decode cX0_lost 7 = .ok (.bipush (-6), 2) := dk_16 250 (dk_at dksX0_lost_0 7 rfl rfl)
theorem dX0_lost_9 : decode cX0_lost 9 = .ok (.ireturn, 1) := dk_172 (dk_at dksX0_lost_0 9 rfl rfl)
theorem dX0_lost_10 : decode cX0_lost 10 = .ok (.aload_n 0, 1) := dk_42 (dk_at dksX0_lost_0 10 rfl rfl)
theorem dX0_lost_11 : decode cX0_lost 11 = .ok (.invokevirtual 480, 3) := dk_182 1 224 (dk_at dksX0_lost_0 11 rfl rfl)
theorem dX0_lost_14 : decode cX0_lost 14 = .ok (.lconst 0, 1) := dk_9 (dk_at dksX0_lost_0 14 rfl rfl)
theorem dX0_lost_15 : decode cX0_lost 15 = .ok (.lcmp, 1) := dk_148 (dk_at dksX0_lost_0 15 rfl rfl)
theorem dX0_lost_16 : decode cX0_lost 16 = .ok (.ifCond .gt 9, 3) := dk_157 0 9 (dk_at dksX0_lost_0 16 rfl rfl)
theorem dX0_lost_19 : decode cX0_lost 19 = .ok (.aload_n 0, 1) := dk_42 (dk_at dksX0_lost_0 19 rfl rfl)
theorem dX0_lost_20 : decode cX0_lost 20 = .ok (.iconst 4, 1) := dk_7 (dk_at dksX0_lost_0 20 rfl rfl)
theorem dX0_lost_21 : decode cX0_lost 21 = .ok (.invokevirtual 139, 3) := dk_182 0 139 (dk_at dksX0_lost_0 21 rfl rfl)
theorem dX0_lost_24 : decode cX0_lost 24 = .ok (.ireturn, 1) := dk_172 (dk_at dksX0_lost_1 0 rfl rfl)
theorem dX0_lost_25 : decode cX0_lost 25 = .ok (.aload_n 0, 1) := dk_42 (dk_at dksX0_lost_1 1 rfl rfl)
theorem dX0_lost_26 : decode cX0_lost 26 = .ok (.getfield 454, 3) := dk_180 1 198 (dk_at dksX0_lost_1 2 rfl rfl)
theorem dX0_lost_29 : decode cX0_lost 29 = .ok (.lstore_n 1, 1) := dk_64 (dk_at dksX0_lost_1 5 rfl rfl)
theorem dX0_lost_30 : decode cX0_lost 30 = .ok (.aload_n 0, 1) := dk_42 (dk_at dksX0_lost_1 6 rfl rfl)
theorem dX0_lost_31 : decode cX0_lost 31 = .ok (.invokevirtual 480, 3) := dk_182 1 224 (dk_at dksX0_lost_1 7 rfl rfl)
theorem dX0_lost_34 : decode cX0_lost 34 = .ok (.lstore_n 3, 1) := dk_66 (dk_at dksX0_lost_1 10 rfl rfl)
theorem dX0_lost_35 : decode cX0_lost 35 = .ok (.iconst 0, 1) := dk_3 (dk_at dksX0_lost_1 11 rfl rfl)
theorem dX0_lost_36 : decode cX0_lost 36 = .ok (.istore 5, 2) := dk_54 5 (dk_at dksX0_lost_1 12 rfl rfl)
theorem dX0_lost_38 : decode cX0_lost 38 = .ok (.iload 5, 2) := dk_21 5 (dk_at dksX0_lost_1 14 rfl rfl)
theorem dX0_lost_40 : decode cX0_lost 40 = .ok (.aload_n 0, 1) := dk_42 (dk_at dksX0_lost_1 16 rfl rfl)
theorem dX0_lost_41 : decode cX0_lost 41 = .ok (.getfield 126, 3) := dk_180 0 126 (dk_at dksX0_lost_1 17 rfl rfl)
theorem dX0_lost_44 : decode cX0_lost 44 = .ok (.arraylength, 1) := dk_190 (dk_at dksX0_lost_1 20 rfl rfl)
theorem dX0_lost_45 : decode cX0_lost 45 = .ok (.if_icmp .ge 115, 3) := dk_162 0 115 (dk_at dksX0_lost_1 21 rfl rfl)
theorem dX0_lost_48 : decode cX0_lost 48 = .ok (.aload_n 0, 1) := dk_42 (dk_at dksX0_lost_2 0 rfl rfl)
theorem dX0_lost_49 : decode cX0_lost 49 = .ok (.getfield 126, 3) := dk_180 0 126 (dk_at dksX0_lost_2 1 rfl rfl)
theorem dX0_lost_52 : decode cX0_lost 52 = .ok (.iload 5, 2) := dk_21 5 (dk_at dksX0_lost_2 4 rfl rfl)
theorem dX0_lost_54 : decode cX0_lost 54 = .ok (.baload, 1) := dk_51 (dk_at dksX0_lost_2 6 rfl rfl)
theorem dX0_lost_55 : decode cX0_lost 55 = .ok (.istore 6, 2) := dk_54 6 (dk_at dksX0_lost_2 7 rfl rfl)
theorem dX0_lost_57 : decode cX0_lost 57 = .ok (.iconst 0, 1) := dk_3 (dk_at dksX0_lost_2 9 rfl rfl)
theorem dX0_lost_58 : decode cX0_lost 58 = .ok (.istore 7, 2) := dk_54 7 (dk_at dksX0_lost_2 10 rfl rfl)
theorem dX0_lost_60 : decode cX0_lost 60 = .ok (.iload 7, 2) := dk_21 7 (dk_at dksX0_lost_2 12 rfl rfl)
theorem dX0_lost_62 : decode cX0_lost 62 = .ok (.iconst 3, 1) := dk_6 (dk_at dksX0_lost_2 14 rfl rfl)
theorem dX0_lost_63 : decode cX0_lost 63 = .ok (.if_icmp .ge 91, 3) := dk_162 0 91 (dk_at dksX0_lost_2 15 rfl rfl)
theorem dX0_lost_66 : decode cX0_lost 66 = .ok (.aload_n 0, 1) := dk_42 (dk_at dksX0_lost_2 18 rfl rfl)
theorem dX0_lost_67 : decode cX0_lost 67 = .ok (.getfield 126, 3) := dk_180 0 126 (dk_at dksX0_lost_2 19 rfl rfl)
theorem dX0_lost_70 : decode cX0_lost 70 = .ok (.iload 5, 2) := dk_21 5 (dk_at dksX0_lost_2 22 rfl rfl)
theorem dX0_lost_72 : decode cX0_lost 72 = .ok (.iload 7, 2) := dk_21 7 (dk_at dksX0_lost_3 0 rfl rfl)
theorem dX0_lost_74 : decode cX0_lost 74 = .ok (.bastore, 1) := dk_84 (dk_at dksX0_lost_3 2 rfl rfl)
theorem dX0_lost_75 : decode cX0_lost 75 = .ok (.iload 7, 2) := dk_21 7 (dk_at dksX0_lost_3 3 rfl rfl)
theorem dX0_lost_77 : decode cX0_lost 77 = .ok (.iload 6, 2) := dk_21 6 (dk_at dksX0_lost_3 5 rfl rfl)
theorem dX0_lost_79 : decode cX0_lost 79 = .ok (.if_icmp .eq 39, 3) := dk_159 0 39 (dk_at dksX0_lost_3 7 rfl rfl)
theorem dX0_lost_82 : decode cX0_lost 82 = .ok (.aload_n 0, 1) := dk_42 (dk_at dksX0_lost_3 10 rfl rfl)
theorem dX0_lost_83 : decode cX0_lost 83 = .ok (.invokevirtual 477, 3) := dk_182 1 221 (dk_at dksX0_lost_3 11 rfl rfl)
theorem dX0_lost_86 : decode cX0_lost 86 = .ok (.ifCond .eq 32, 3) := dk_153 0 32 (dk_at dksX0_lost_3 14 rfl rfl)
theorem dX0_lost_89 : decode cX0_lost 89 = .ok (.aload_n 0, 1) := dk_42 (dk_at dksX0_lost_3 17 rfl rfl)
theorem dX0_lost_90 : decode cX0_lost 90 = .ok (.invokevirtual 480, 3) := dk_182 1 224 (dk_at dksX0_lost_3 18 rfl rfl)
theorem dX0_lost_93 : decode cX0_lost 93 = .ok (.lconst 0, 1) := dk_9 (dk_at dksX0_lost_3 21 rfl rfl)
theorem dX0_lost_94 : decode cX0_lost 94 = .ok (.lcmp, 1) := dk_148 (dk_at dksX0_lost_3 22 rfl rfl)
theorem dX0_lost_95 : decode cX0_lost 95 = .ok (.ifCond .le 23, 3) := dk_158 0 23 (dk_at dksX0_lost_4 0 rfl rfl)
theorem dX0_lost_98 : decode cX0_lost 98 = .ok (.aload_n 0, 1) := dk_42 (dk_at dksX0_lost_4 3 rfl rfl)
theorem dX0_lost_99 : decode cX0_lost 99 = .ok (.getfield 454, 3) := dk_180 1 198 (dk_at dksX0_lost_4 4 rfl rfl)
theorem dX0_lost_102 : decode cX0_lost 102 = .ok (.lload_n 3, 1) := dk_33 (dk_at dksX0_lost_4 7 rfl rfl)
theorem dX0_lost_103 : decode cX0_lost 103 = .ok (.lmul, 1) := dk_105 (dk_at dksX0_lost_4 8 rfl rfl)
theorem dX0_lost_104 : decode cX0_lost 104 = .ok (.lload_n 1, 1) := dk_31 (dk_at dksX0_lost_4 9 rfl rfl)
theorem dX0_lost_105 : decode cX0_lost 105 = .ok (.aload_n 0, 1) := dk_42 (dk_at dksX0_lost_4 10 rfl rfl)
theorem dX0_lost_106 : decode cX0_lost 106 = .ok (.invokevirtual 480, 3) := dk_182 1 224 (dk_at dksX0_lost_4 11 rfl rfl)
theorem dX0_lost_109 : decode cX0_lost 109 = .ok (.lmul, 1) := dk_105 (dk_at dksX0_lost_4 14 rfl rfl)
theorem dX0_lost_110 : decode cX0_lost 110 = .ok (.lcmp, 1) := dk_148 (dk_at dksX0_lost_4 15 rfl rfl)
theorem dX0_lost_111 : decode cX0_lost 111 = .ok (.ifCond .ge 7, 3) := dk_156 0 7 (dk_at dksX0_lost_4 16 rfl rfl)
theorem dX0_lost_114 : decode cX0_lost 114 = .ok (.iconst 1, 1) := dk_4 (dk_at dksX0_lost_4 19 rfl rfl)
theorem dX0_lost_115 : decode cX0_lost 115 = .ok (.goto 4, 3) := dk_167 0 4 (dk_at dksX0_lost_4 20 rfl rfl)
theorem dX0_lost_118 : decode cX0_lost 118 = .ok (.iconst 0, 1) := dk_3 (dk_at dksX0_lost_4 23 rfl rfl)
theorem dX0_lost_119 : decode cX0_lost 119 = .ok (.istore 8, 2) := dk_54 8 (dk_at dksX0_lost_5 0 rfl rfl)
theorem dX0_lost_121 : decode cX0_lost 121 = .ok (.aload_n 0, 1) := dk_42 (dk_at dksX0_lost_5 2 rfl rfl)
theorem dX0_lost_122 : decode cX0_lost 122 = .ok (.getfield 126, 3) := dk_180 0 126 (dk_at dksX0_lost_5 3 rfl rfl)
theorem dX0_lost_125 : decode cX0_lost 125 = .ok (.iload 5, 2) := dk_21 5 (dk_at dksX0_lost_5 6 rfl rfl)
theorem dX0_lost_127 : decode cX0_lost 127 = .ok (.iload 6, 2) := dk_21 6 (dk_at dksX0_lost_5 8 rfl rfl)
theorem dX0_lost_129 : decode cX0_lost 129 = .ok (.bastore, 1) := dk_84 (dk_at dksX0_lost_5 10 rfl rfl)
theorem dX0_lost_130 : decode cX0_lost 130 = .ok (.iload 8, 2) := dk_21 8 (dk_at dksX0_lost_5 11 rfl rfl)
theorem dX0_lost_132 : decode cX0_lost 132 = .ok (.ifCond .eq 12, 3) := dk_153 0 12 (dk_at dksX0_lost_5 13 rfl rfl)
theorem dX0_lost_135 : decode cX0_lost 135 = .ok (.bipush 10, 2) := dk_16 10 (dk_at dksX0_lost_5 16 rfl rfl)
theorem dX0_lost_137 : decode cX0_lost 137 = .ok (.iload 5, 2) := dk_21 5 (dk_at dksX0_lost_5 18 rfl rfl)
theorem dX0_lost_139 : decode cX0_lost 139 = .ok (.imul, 1) := dk_104 (dk_at dksX0_lost_5 20 rfl rfl)
theorem dX0_lost_140 : decode cX0_lost 140 = .ok (.iload 7, 2) := dk_21 7 (dk_at dksX0_lost_5 21 rfl rfl)
theorem dX0_lost_142 : decode cX0_lost 142 = .ok (.iadd, 1) := dk_96 (dk_at dksX0_lost_5 23 rfl rfl)
theorem dX0_lost_143 : decode cX0_lost 143 = .ok (.ireturn, 1) := dk_172 (dk_at dksX0_lost_6 0 rfl rfl)
theorem dX0_lost_144 : decode cX0_lost 144 = .ok (.iload 7, 2) := dk_21 7 (dk_at dksX0_lost_6 1 rfl rfl)
theorem dX0_lost_146 : decode cX0_lost 146 = .ok (.iconst 1, 1) := dk_4 (dk_at dksX0_lost_6 3 rfl rfl)
theorem dX0_lost_147 : decode cX0_lost 147 = .ok (.iadd, 1) := dk_96 (dk_at dksX0_lost_6 4 rfl rfl)
theorem dX0_lost_148 : decode cX0_lost 148 = .ok (.i2b, 1) := dk_145 (dk_at dksX0_lost_6 5 rfl rfl)
theorem dX0_lost_149 : decode cX0_lost 149 = .ok (.istore 7, 2) := dk_54 7 (dk_at dksX0_lost_6 6 rfl rfl)
theorem dX0_lost_151 : decode cX0_lost 151 = .ok (.goto (-91), 3) := dk_167 255 165 (dk_at dksX0_lost_6 8 rfl rfl)
theorem dX0_lost_154 : decode cX0_lost 154 = .ok (.iinc 5 1, 3) := dk_132 5 1 (dk_at dksX0_lost_6 11 rfl rfl)
theorem dX0_lost_157 : decode cX0_lost 157 = .ok (.goto (-119), 3) := dk_167 255 137 (dk_at dksX0_lost_6 14 rfl rfl)
theorem dX0_lost_160 : decode cX0_lost 160 = .ok (.bipush (-9), 2) := dk_16 247 (dk_at dksX0_lost_6 17 rfl rfl)
theorem dX0_lost_162 : decode cX0_lost 162 = .ok (.ireturn, 1) := dk_172 (dk_at dksX0_lost_6 19 rfl rfl)
abbrev cX0_share : ByteArray := prog_1_method_82_code
def yX0_share : MethodName := ⟨RX0, "share", "(I)I"⟩
def dkwX0_share_2 : List UInt8 := [42, 180, 0, 113, 27, 47, 136, 182, 1, 228, 172]
abbrev dktX0_share_2 : List UInt8 := dkwX0_share_2 ++ []
def dkwX0_share_1 : List UInt8 := [9, 148, 154, 0, 11, 42, 7, 182, 0, 139, 167, 0, 24, 42, 42, 180, 0, 113, 27, 47, 42, 180, 1, 203]
abbrev dktX0_share_1 : List UInt8 := dkwX0_share_1 ++ dktX0_share_2
def dkwX0_share_0 : List UInt8 := [42, 27, 182, 1, 74, 154, 0, 5, 2, 172, 42, 182, 1, 221, 154, 0, 6, 16, 250, 172, 42, 180, 1, 203]
abbrev dktX0_share_0 : List UInt8 := dkwX0_share_0 ++ dktX0_share_1
theorem dksX0_share_0 : cX0_share.data.toList.drop 0 = dktX0_share_0 := by decide +kernel
theorem dksX0_share_1 : cX0_share.data.toList.drop 24 = dktX0_share_1 := dk_seg dksX0_share_0 24 rfl rfl
theorem dksX0_share_2 : cX0_share.data.toList.drop 48 = dktX0_share_2 := dk_seg dksX0_share_1 24 rfl rfl
theorem dX0_share_0 : decode cX0_share 0 = .ok (.aload_n 0, 1) := dk_42 (dk_at dksX0_share_0 0 rfl rfl)
theorem dX0_share_1 : decode cX0_share 1 = .ok (.iload_n 1, 1) := dk_27 (dk_at dksX0_share_0 1 rfl rfl)
theorem dX0_share_2 : decode cX0_share 2 = .ok (.invokevirtual 330, 3) := dk_182 1 74 (dk_at dksX0_share_0 2 rfl rfl)
theorem dX0_share_5 : decode cX0_share 5 = .ok (.ifCond .ne 5, 3) := dk_154 0 5 (dk_at dksX0_share_0 5 rfl rfl)
theorem dX0_share_8 : decode cX0_share 8 = .ok (.iconst (-1), 1) := dk_2 (dk_at dksX0_share_0 8 rfl rfl)
theorem dX0_share_9 : decode cX0_share 9 = .ok (.ireturn, 1) := dk_172 (dk_at dksX0_share_0 9 rfl rfl)
theorem dX0_share_10 : decode cX0_share 10 = .ok (.aload_n 0, 1) := dk_42 (dk_at dksX0_share_0 10 rfl rfl)
theorem dX0_share_11 : decode cX0_share 11 = .ok (.invokevirtual 477, 3) := dk_182 1 221 (dk_at dksX0_share_0 11 rfl rfl)
theorem dX0_share_14 : decode cX0_share 14 = .ok (.ifCond .ne 6, 3) := dk_154 0 6 (dk_at dksX0_share_0 14 rfl rfl)
theorem dX0_share_17 : decode cX0_share 17 = .ok (.bipush (-6), 2) := dk_16 250 (dk_at dksX0_share_0 17 rfl rfl)
theorem dX0_share_19 : decode cX0_share 19 = .ok (.ireturn, 1) := dk_172 (dk_at dksX0_share_0 19 rfl rfl)
theorem dX0_share_20 : decode cX0_share 20 = .ok (.aload_n 0, 1) := dk_42 (dk_at dksX0_share_0 20 rfl rfl)
theorem dX0_share_21 : decode cX0_share 21 = .ok (.getfield 459, 3) := dk_180 1 203 (dk_at dksX0_share_0 21 rfl rfl)
theorem dX0_share_24 : decode cX0_share 24 = .ok (.lconst 0, 1) := dk_9 (dk_at dksX0_share_1 0 rfl rfl)
theorem dX0_share_25 : decode cX0_share 25 = .ok (.lcmp, 1) := dk_148 (dk_at dksX0_share_1 1 rfl rfl)
theorem dX0_share_26 : decode cX0_share 26 = .ok (.ifCond .ne 11, 3) := dk_154 0 11 (dk_at dksX0_share_1 2 rfl rfl)
theorem dX0_share_29 : decode cX0_share 29 = .ok (.aload_n 0, 1) := dk_42 (dk_at dksX0_share_1 5 rfl rfl)
theorem dX0_share_30 : decode cX0_share 30 = .ok (.iconst 4, 1) := dk_7 (dk_at dksX0_share_1 6 rfl rfl)
theorem dX0_share_31 : decode cX0_share 31 = .ok (.invokevirtual 139, 3) := dk_182 0 139 (dk_at dksX0_share_1 7 rfl rfl)
theorem dX0_share_34 : decode cX0_share 34 = .ok (.goto 24, 3) := dk_167 0 24 (dk_at dksX0_share_1 10 rfl rfl)
theorem dX0_share_37 : decode cX0_share 37 = .ok (.aload_n 0, 1) := dk_42 (dk_at dksX0_share_1 13 rfl rfl)
theorem dX0_share_38 : decode cX0_share 38 = .ok (.aload_n 0, 1) := dk_42 (dk_at dksX0_share_1 14 rfl rfl)
theorem dX0_share_39 : decode cX0_share 39 = .ok (.getfield 113, 3) := dk_180 0 113 (dk_at dksX0_share_1 15 rfl rfl)
theorem dX0_share_42 : decode cX0_share 42 = .ok (.iload_n 1, 1) := dk_27 (dk_at dksX0_share_1 18 rfl rfl)
theorem dX0_share_43 : decode cX0_share 43 = .ok (.laload, 1) := dk_47 (dk_at dksX0_share_1 19 rfl rfl)
theorem dX0_share_44 : decode cX0_share 44 = .ok (.aload_n 0, 1) := dk_42 (dk_at dksX0_share_1 20 rfl rfl)
theorem dX0_share_45 : decode cX0_share 45 = .ok (.getfield 459, 3) := dk_180 1 203 (dk_at dksX0_share_1 21 rfl rfl)
theorem dX0_share_48 : decode cX0_share 48 = .ok (.aload_n 0, 1) := dk_42 (dk_at dksX0_share_2 0 rfl rfl)
theorem dX0_share_49 : decode cX0_share 49 = .ok (.getfield 113, 3) := dk_180 0 113 (dk_at dksX0_share_2 1 rfl rfl)
theorem dX0_share_52 : decode cX0_share 52 = .ok (.iload_n 1, 1) := dk_27 (dk_at dksX0_share_2 4 rfl rfl)
theorem dX0_share_53 : decode cX0_share 53 = .ok (.laload, 1) := dk_47 (dk_at dksX0_share_2 5 rfl rfl)
theorem dX0_share_54 : decode cX0_share 54 = .ok (.l2i, 1) := dk_136 (dk_at dksX0_share_2 6 rfl rfl)
theorem dX0_share_55 : decode cX0_share 55 = .ok (.invokevirtual 484, 3) := dk_182 1 228 (dk_at dksX0_share_2 7 rfl rfl)
theorem dX0_share_58 : decode cX0_share 58 = .ok (.ireturn, 1) := dk_172 (dk_at dksX0_share_2 10 rfl rfl)
abbrev cX0_seedlings : ByteArray := prog_1_method_83_code
def yX0_seedlings : MethodName := ⟨RX0, "seedlings", "()I"⟩
def dkwX0_seedlings_1 : List UInt8 := [16, 250, 172]
abbrev dktX0_seedlings_1 : List UInt8 := dkwX0_seedlings_1 ++ []
def dkwX0_seedlings_0 : List UInt8 := [42, 182, 1, 221, 153, 0, 20, 42, 42, 180, 1, 206, 42, 180, 1, 186, 133, 4, 182, 1, 228, 167, 0, 5]
abbrev dktX0_seedlings_0 : List UInt8 := dkwX0_seedlings_0 ++ dktX0_seedlings_1
theorem dksX0_seedlings_0 : cX0_seedlings.data.toList.drop 0 = dktX0_seedlings_0 := by decide +kernel
theorem dksX0_seedlings_1 : cX0_seedlings.data.toList.drop 24 = dktX0_seedlings_1 := dk_seg dksX0_seedlings_0 24 rfl rfl
theorem dX0_seedlings_0 : decode cX0_seedlings 0 = .ok (.aload_n 0, 1) := dk_42 (dk_at dksX0_seedlings_0 0 rfl rfl)
theorem dX0_seedlings_1 : decode cX0_seedlings 1 = .ok (.invokevirtual 477, 3) := dk_182 1 221 (dk_at dksX0_seedlings_0 1 rfl rfl)
theorem dX0_seedlings_4 : decode cX0_seedlings 4 = .ok (.ifCond .eq 20, 3) := dk_153 0 20 (dk_at dksX0_seedlings_0 4 rfl rfl)
theorem dX0_seedlings_7 : decode cX0_seedlings 7 = .ok (.aload_n 0, 1) := dk_42 (dk_at dksX0_seedlings_0 7 rfl rfl)
theorem dX0_seedlings_8 : decode cX0_seedlings 8 = .ok (.aload_n 0, 1) := dk_42 (dk_at dksX0_seedlings_0 8 rfl rfl)
theorem dX0_seedlings_9 : decode cX0_seedlings 9 = .ok (.getfield 462, 3) := dk_180 1 206 (dk_at dksX0_seedlings_0 9 rfl rfl)
theorem dX0_seedlings_12 : decode cX0_seedlings 12 = .ok (.aload_n 0, 1) := dk_42 (dk_at dksX0_seedlings_0 12 rfl rfl)
theorem dX0_seedlings_13 : decode cX0_seedlings 13 = .ok (.getfield 442, 3) := dk_180 1 186 (dk_at dksX0_seedlings_0 13 rfl rfl)
theorem dX0_seedlings_16 : decode cX0_seedlings 16 = .ok (.i2l, 1) := dk_133 (dk_at dksX0_seedlings_0 16 rfl rfl)
theorem dX0_seedlings_17 : decode cX0_seedlings 17 = .ok (.iconst 1, 1) := dk_4 (dk_at dksX0_seedlings_0 17 rfl rfl)
theorem dX0_seedlings_18 : decode cX0_seedlings 18 = .ok (.invokevirtual 484, 3) := dk_182 1 228 (dk_at dksX0_seedlings_0 18 rfl rfl)
theorem dX0_seedlings_21 : decode cX0_seedlings 21 = .ok (.goto 5, 3) := dk_167 0 5 (dk_at dksX0_seedlings_0 21 rfl rfl)
theorem dX0_seedlings_24 : decode cX0_seedlings 24 = .ok (.bipush (-6), 2) := dk_16 250 (dk_at dksX0_seedlings_1 0 rfl rfl)
theorem dX0_seedlings_26 : decode cX0_seedlings 26 = .ok (.ireturn, 1) := dk_172 (dk_at dksX0_seedlings_1 2 rfl rfl)
abbrev cX0_gain : ByteArray := prog_1_method_84_code
def yX0_gain : MethodName := ⟨RX0, "gain", "(I)I"⟩
def dkwX0_gain_1 : List UInt8 := [42, 180, 1, 186, 133, 4, 182, 1, 228, 167, 0, 5, 16, 250, 172]
abbrev dktX0_gain_1 : List UInt8 := dkwX0_gain_1 ++ []
def dkwX0_gain_0 : List UInt8 := [42, 27, 182, 1, 74, 154, 0, 5, 2, 172, 42, 182, 1, 221, 153, 0, 22, 42, 42, 180, 0, 117, 27, 47]
abbrev dktX0_gain_0 : List UInt8 := dkwX0_gain_0 ++ dktX0_gain_1
theorem dksX0_gain_0 : cX0_gain.data.toList.drop 0 = dktX0_gain_0 := by decide +kernel
theorem dksX0_gain_1 : cX0_gain.data.toList.drop 24 = dktX0_gain_1 := dk_seg dksX0_gain_0 24 rfl rfl
theorem dX0_gain_0 : decode cX0_gain 0 = .ok (.aload_n 0, 1) := dk_42 (dk_at dksX0_gain_0 0 rfl rfl)
theorem dX0_gain_1 : decode cX0_gain 1 = .ok (.iload_n 1, 1) := dk_27 (dk_at dksX0_gain_0 1 rfl rfl)
theorem dX0_gain_2 : decode cX0_gain 2 = .ok (.invokevirtual 330, 3) := dk_182 1 74 (dk_at dksX0_gain_0 2 rfl rfl)
theorem dX0_gain_5 : decode cX0_gain 5 = .ok (.ifCond .ne 5, 3) := dk_154 0 5 (dk_at dksX0_gain_0 5 rfl rfl)
theorem dX0_gain_8 : decode cX0_gain 8 = .ok (.iconst (-1), 1) := dk_2 (dk_at dksX0_gain_0 8 rfl rfl)
theorem dX0_gain_9 : decode cX0_gain 9 = .ok (.ireturn, 1) := dk_172 (dk_at dksX0_gain_0 9 rfl rfl)
theorem dX0_gain_10 : decode cX0_gain 10 = .ok (.aload_n 0, 1) := dk_42 (dk_at dksX0_gain_0 10 rfl rfl)
theorem dX0_gain_11 : decode cX0_gain 11 = .ok (.invokevirtual 477, 3) := dk_182 1 221 (dk_at dksX0_gain_0 11 rfl rfl)
theorem dX0_gain_14 : decode cX0_gain 14 = .ok (.ifCond .eq 22, 3) := dk_153 0 22 (dk_at dksX0_gain_0 14 rfl rfl)
theorem dX0_gain_17 : decode cX0_gain 17 = .ok (.aload_n 0, 1) := dk_42 (dk_at dksX0_gain_0 17 rfl rfl)
theorem dX0_gain_18 : decode cX0_gain 18 = .ok (.aload_n 0, 1) := dk_42 (dk_at dksX0_gain_0 18 rfl rfl)
theorem dX0_gain_19 : decode cX0_gain 19 = .ok (.getfield 117, 3) := dk_180 0 117 (dk_at dksX0_gain_0 19 rfl rfl)
theorem dX0_gain_22 : decode cX0_gain 22 = .ok (.iload_n 1, 1) := dk_27 (dk_at dksX0_gain_0 22 rfl rfl)
theorem dX0_gain_23 : decode cX0_gain 23 = .ok (.laload, 1) := dk_47 (dk_at dksX0_gain_0 23 rfl rfl)
theorem dX0_gain_24 : decode cX0_gain 24 = .ok (.aload_n 0, 1) := dk_42 (dk_at dksX0_gain_1 0 rfl rfl)
theorem dX0_gain_25 : decode cX0_gain 25 = .ok (.getfield 442, 3) := dk_180 1 186 (dk_at dksX0_gain_1 1 rfl rfl)
theorem dX0_gain_28 : decode cX0_gain 28 = .ok (.i2l, 1) := dk_133 (dk_at dksX0_gain_1 4 rfl rfl)
theorem dX0_gain_29 : decode cX0_gain 29 = .ok (.iconst 1, 1) := dk_4 (dk_at dksX0_gain_1 5 rfl rfl)
theorem dX0_gain_30 : decode cX0_gain 30 = .ok (.invokevirtual 484, 3) := dk_182 1 228 (dk_at dksX0_gain_1 6 rfl rfl)
theorem dX0_gain_33 : decode cX0_gain 33 = .ok (.goto 5, 3) := dk_167 0 5 (dk_at dksX0_gain_1 9 rfl rfl)
theorem dX0_gain_36 : decode cX0_gain 36 = .ok (.bipush (-6), 2) := dk_16 250 (dk_at dksX0_gain_1 12 rfl rfl)
theorem dX0_gain_38 : decode cX0_gain 38 = .ok (.ireturn, 1) := dk_172 (dk_at dksX0_gain_1 14 rfl rfl)
abbrev cX0_starve : ByteArray := prog_1_method_85_code
def yX0_starve : MethodName := ⟨RX0, "starve", "(I)I"⟩
def dkwX0_starve_1 : List UInt8 := [167, 0, 5, 16, 250, 172]
abbrev dktX0_starve_1 : List UInt8 := dkwX0_starve_1 ++ []
def dkwX0_starve_0 : List UInt8 := [42, 27, 182, 1, 80, 154, 0, 5, 2, 172, 42, 182, 1, 221, 153, 0, 12, 42, 180, 0, 120, 27, 46]
abbrev dktX0_starve_0 : List UInt8 := dkwX0_starve_0 ++ dktX0_starve_1
theorem dksX0_starve_0 : cX0_starve.data.toList.drop 0 = dktX0_starve_0 := by decide +kernel
theorem dksX0_starve_1 : cX0_starve.data.toList.drop 23 = dktX0_starve_1 := dk_seg dksX0_starve_0 23 rfl rfl
theorem dX0_starve_0 : decode cX0_starve 0 = .ok (.aload_n 0, 1) := dk_42 (dk_at dksX0_starve_0 0 rfl rfl)
theorem dX0_starve_1 : decode cX0_starve 1 = .ok (.iload_n 1, 1) := dk_27 (dk_at dksX0_starve_0 1 rfl rfl)
theorem dX0_starve_2 : decode cX0_starve 2 = .ok (.invokevirtual 336, 3) := dk_182 1 80 (dk_at dksX0_starve_0 2 rfl rfl)
theorem dX0_starve_5 : decode cX0_starve 5 = .ok (.ifCond .ne 5, 3) := dk_154 0 5 (dk_at dksX0_starve_0 5 rfl rfl)
theorem dX0_starve_8 : decode cX0_starve 8 = .ok (.iconst (-1), 1) := dk_2 (dk_at dksX0_starve_0 8 rfl rfl)
theorem dX0_starve_9 : decode cX0_starve 9 = .ok (.ireturn, 1) := dk_172 (dk_at dksX0_starve_0 9 rfl rfl)
theorem dX0_starve_10 : decode cX0_starve 10 = .ok (.aload_n 0, 1) := dk_42 (dk_at dksX0_starve_0 10 rfl rfl)
theorem dX0_starve_11 : decode cX0_starve 11 = .ok (.invokevirtual 477, 3) := dk_182 1 221 (dk_at dksX0_starve_0 11 rfl rfl)
theorem dX0_starve_14 : decode cX0_starve 14 = .ok (.ifCond .eq 12, 3) := dk_153 0 12 (dk_at dksX0_starve_0 14 rfl rfl)
theorem dX0_starve_17 : decode cX0_starve 17 = .ok (.aload_n 0, 1) := dk_42 (dk_at dksX0_starve_0 17 rfl rfl)
theorem dX0_starve_18 : decode cX0_starve 18 = .ok (.getfield 120, 3) := dk_180 0 120 (dk_at dksX0_starve_0 18 rfl rfl)
theorem dX0_starve_21 : decode cX0_starve 21 = .ok (.iload_n 1, 1) := dk_27 (dk_at dksX0_starve_0 21 rfl rfl)
theorem dX0_starve_22 : decode cX0_starve 22 = .ok (.iaload, 1) := dk_46 (dk_at dksX0_starve_0 22 rfl rfl)
theorem dX0_starve_23 : decode cX0_starve 23 = .ok (.goto 5, 3) := dk_167 0 5 (dk_at dksX0_starve_1 0 rfl rfl)
theorem dX0_starve_26 : decode cX0_starve 26 = .ok (.bipush (-6), 2) := dk_16 250 (dk_at dksX0_starve_1 3 rfl rfl)
theorem dX0_starve_28 : decode cX0_starve 28 = .ok (.ireturn, 1) := dk_172 (dk_at dksX0_starve_1 5 rfl rfl)
abbrev cX0_better : ByteArray := prog_1_method_87_code
def yX0_better : MethodName := ⟨RX0, "better", "(II)I"⟩
def dkwX0_better_4 : List UInt8 := [167, 0, 15, 22, 7, 9, 148, 154, 0, 7, 3, 167, 0, 4, 5, 182, 1, 228, 172]
abbrev dktX0_better_4 : List UInt8 := dkwX0_better_4 ++ []
def dkwX0_better_3 : List UInt8 := [105, 101, 55, 7, 42, 42, 180, 0, 117, 27, 47, 42, 180, 1, 186, 133, 22, 7, 9, 148, 158, 0, 7, 4]
abbrev dktX0_better_3 : List UInt8 := dkwX0_better_3 ++ dktX0_better_4
def dkwX0_better_2 : List UInt8 := [182, 1, 232, 154, 0, 6, 16, 250, 172, 42, 180, 0, 117, 27, 47, 22, 5, 105, 33, 42, 180, 1, 186, 133]
abbrev dktX0_better_2 : List UInt8 := dkwX0_better_2 ++ dktX0_better_3
def dkwX0_better_1 : List UInt8 := [154, 0, 6, 16, 250, 172, 42, 180, 0, 117, 27, 47, 66, 42, 180, 1, 186, 133, 55, 5, 42, 27, 28]
abbrev dktX0_better_1 : List UInt8 := dkwX0_better_1 ++ dktX0_better_2
def dkwX0_better_0 : List UInt8 := [42, 27, 182, 1, 74, 153, 0, 11, 42, 28, 182, 1, 35, 154, 0, 5, 2, 172, 42, 182, 1, 221]
abbrev dktX0_better_0 : List UInt8 := dkwX0_better_0 ++ dktX0_better_1
theorem dksX0_better_0 : cX0_better.data.toList.drop 0 = dktX0_better_0 := by decide +kernel
theorem dksX0_better_1 : cX0_better.data.toList.drop 22 = dktX0_better_1 := dk_seg dksX0_better_0 22 rfl rfl
theorem dksX0_better_2 : cX0_better.data.toList.drop 45 = dktX0_better_2 := dk_seg dksX0_better_1 23 rfl rfl
theorem dksX0_better_3 : cX0_better.data.toList.drop 69 = dktX0_better_3 := dk_seg dksX0_better_2 24 rfl rfl
theorem dksX0_better_4 : cX0_better.data.toList.drop 93 = dktX0_better_4 := dk_seg dksX0_better_3 24 rfl rfl
theorem dX0_better_0 : decode cX0_better 0 = .ok (.aload_n 0, 1) := dk_42 (dk_at dksX0_better_0 0 rfl rfl)
theorem dX0_better_1 : decode cX0_better 1 = .ok (.iload_n 1, 1) := dk_27 (dk_at dksX0_better_0 1 rfl rfl)
theorem dX0_better_2 : decode cX0_better 2 = .ok (.invokevirtual 330, 3) := dk_182 1 74 (dk_at dksX0_better_0 2 rfl rfl)
theorem dX0_better_5 : decode cX0_better 5 = .ok (.ifCond .eq 11, 3) := dk_153 0 11 (dk_at dksX0_better_0 5 rfl rfl)
theorem dX0_better_8 : decode cX0_better 8 = .ok (.aload_n 0, 1) := dk_42 (dk_at dksX0_better_0 8 rfl rfl)
theorem dX0_better_9 : decode cX0_better 9 = .ok (.iload_n 2, 1) := dk_28 (dk_at dksX0_better_0 9 rfl rfl)
theorem dX0_better_10 : decode cX0_better 10 = .ok (.invokevirtual 291, 3) := dk_182 1 35 (dk_at dksX0_better_0 10 rfl rfl)
theorem dX0_better_13 : decode cX0_better 13 = .ok (.ifCond .ne 5, 3) := dk_154 0 5 (dk_at dksX0_better_0 13 rfl rfl)
theorem dX0_better_16 : decode cX0_better 16 = .ok (.iconst (-1), 1) := dk_2 (dk_at dksX0_better_0 16 rfl rfl)
theorem dX0_better_17 : decode cX0_better 17 = .ok (.ireturn, 1) := dk_172 (dk_at dksX0_better_0 17 rfl rfl)
theorem dX0_better_18 : decode cX0_better 18 = .ok (.aload_n 0, 1) := dk_42 (dk_at dksX0_better_0 18 rfl rfl)
theorem dX0_better_19 : decode cX0_better 19 = .ok (.invokevirtual 477, 3) := dk_182 1 221 (dk_at dksX0_better_0 19 rfl rfl)
theorem dX0_better_22 : decode cX0_better 22 = .ok (.ifCond .ne 6, 3) := dk_154 0 6 (dk_at dksX0_better_1 0 rfl rfl)
theorem dX0_better_25 : decode cX0_better 25 = .ok (.bipush (-6), 2) := dk_16 250 (dk_at dksX0_better_1 3 rfl rfl)
theorem dX0_better_27 : decode cX0_better 27 = .ok (.ireturn, 1) := dk_172 (dk_at dksX0_better_1 5 rfl rfl)
theorem dX0_better_28 : decode cX0_better 28 = .ok (.aload_n 0, 1) := dk_42 (dk_at dksX0_better_1 6 rfl rfl)
theorem dX0_better_29 : decode cX0_better 29 = .ok (.getfield 117, 3) := dk_180 0 117 (dk_at dksX0_better_1 7 rfl rfl)
theorem dX0_better_32 : decode cX0_better 32 = .ok (.iload_n 1, 1) := dk_27 (dk_at dksX0_better_1 10 rfl rfl)
theorem dX0_better_33 : decode cX0_better 33 = .ok (.laload, 1) := dk_47 (dk_at dksX0_better_1 11 rfl rfl)
theorem dX0_better_34 : decode cX0_better 34 = .ok (.lstore_n 3, 1) := dk_66 (dk_at dksX0_better_1 12 rfl rfl)
theorem dX0_better_35 : decode cX0_better 35 = .ok (.aload_n 0, 1) := dk_42 (dk_at dksX0_better_1 13 rfl rfl)
theorem dX0_better_36 : decode cX0_better 36 = .ok (.getfield 442, 3) := dk_180 1 186 (dk_at dksX0_better_1 14 rfl rfl)
theorem dX0_better_39 : decode cX0_better 39 = .ok (.i2l, 1) := dk_133 (dk_at dksX0_better_1 17 rfl rfl)
theorem dX0_better_40 : decode cX0_better 40 = .ok (.lstore 5, 2) := dk_55 5 (dk_at dksX0_better_1 18 rfl rfl)
theorem dX0_better_42 : decode cX0_better 42 = .ok (.aload_n 0, 1) := dk_42 (dk_at dksX0_better_1 20 rfl rfl)
theorem dX0_better_43 : decode cX0_better 43 = .ok (.iload_n 1, 1) := dk_27 (dk_at dksX0_better_1 21 rfl rfl)
theorem dX0_better_44 : decode cX0_better 44 = .ok (.iload_n 2, 1) := dk_28 (dk_at dksX0_better_1 22 rfl rfl)
theorem dX0_better_45 : decode cX0_better 45 = .ok (.invokevirtual 488, 3) := dk_182 1 232 (dk_at dksX0_better_2 0 rfl rfl)
theorem dX0_better_48 : decode cX0_better 48 = .ok (.ifCond .ne 6, 3) := dk_154 0 6 (dk_at dksX0_better_2 3 rfl rfl)
theorem dX0_better_51 : decode cX0_better 51 = .ok (.bipush (-6), 2) := dk_16 250 (dk_at dksX0_better_2 6 rfl rfl)
theorem dX0_better_53 : decode cX0_better 53 = .ok (.ireturn, 1) := dk_172 (dk_at dksX0_better_2 8 rfl rfl)
theorem dX0_better_54 : decode cX0_better 54 = .ok (.aload_n 0, 1) := dk_42 (dk_at dksX0_better_2 9 rfl rfl)
theorem dX0_better_55 : decode cX0_better 55 = .ok (.getfield 117, 3) := dk_180 0 117 (dk_at dksX0_better_2 10 rfl rfl)
theorem dX0_better_58 : decode cX0_better 58 = .ok (.iload_n 1, 1) := dk_27 (dk_at dksX0_better_2 13 rfl rfl)
theorem dX0_better_59 : decode cX0_better 59 = .ok (.laload, 1) := dk_47 (dk_at dksX0_better_2 14 rfl rfl)
theorem dX0_better_60 : decode cX0_better 60 = .ok (.lload 5, 2) := dk_22 5 (dk_at dksX0_better_2 15 rfl rfl)
theorem dX0_better_62 : decode cX0_better 62 = .ok (.lmul, 1) := dk_105 (dk_at dksX0_better_2 17 rfl rfl)
theorem dX0_better_63 : decode cX0_better 63 = .ok (.lload_n 3, 1) := dk_33 (dk_at dksX0_better_2 18 rfl rfl)
theorem dX0_better_64 : decode cX0_better 64 = .ok (.aload_n 0, 1) := dk_42 (dk_at dksX0_better_2 19 rfl rfl)
theorem dX0_better_65 : decode cX0_better 65 = .ok (.getfield 442, 3) := dk_180 1 186 (dk_at dksX0_better_2 20 rfl rfl)
theorem dX0_better_68 : decode cX0_better 68 = .ok (.i2l, 1) := dk_133 (dk_at dksX0_better_2 23 rfl rfl)
theorem dX0_better_69 : decode cX0_better 69 = .ok (.lmul, 1) := dk_105 (dk_at dksX0_better_3 0 rfl rfl)
theorem dX0_better_70 : decode cX0_better 70 = .ok (.lsub, 1) := dk_101 (dk_at dksX0_better_3 1 rfl rfl)
theorem dX0_better_71 : decode cX0_better 71 = .ok (.lstore 7, 2) := dk_55 7 (dk_at dksX0_better_3 2 rfl rfl)
theorem dX0_better_73 : decode cX0_better 73 = .ok (.aload_n 0, 1) := dk_42 (dk_at dksX0_better_3 4 rfl rfl)
theorem dX0_better_74 : decode cX0_better 74 = .ok (.aload_n 0, 1) := dk_42 (dk_at dksX0_better_3 5 rfl rfl)
theorem dX0_better_75 : decode cX0_better 75 = .ok (.getfield 117, 3) := dk_180 0 117 (dk_at dksX0_better_3 6 rfl rfl)
theorem dX0_better_78 : decode cX0_better 78 = .ok (.iload_n 1, 1) := dk_27 (dk_at dksX0_better_3 9 rfl rfl)
theorem dX0_better_79 : decode cX0_better 79 = .ok (.laload, 1) := dk_47 (dk_at dksX0_better_3 10 rfl rfl)
theorem dX0_better_80 : decode cX0_better 80 = .ok (.aload_n 0, 1) := dk_42 (dk_at dksX0_better_3 11 rfl rfl)
theorem dX0_better_81 : decode cX0_better 81 = .ok (.getfield 442, 3) := dk_180 1 186 (dk_at dksX0_better_3 12 rfl rfl)
theorem dX0_better_84 : decode cX0_better 84 = .ok (.i2l, 1) := dk_133 (dk_at dksX0_better_3 15 rfl rfl)
theorem dX0_better_85 : decode cX0_better 85 = .ok (.lload 7, 2) := dk_22 7 (dk_at dksX0_better_3 16 rfl rfl)
theorem dX0_better_87 : decode cX0_better 87 = .ok (.lconst 0, 1) := dk_9 (dk_at dksX0_better_3 18 rfl rfl)
theorem dX0_better_88 : decode cX0_better 88 = .ok (.lcmp, 1) := dk_148 (dk_at dksX0_better_3 19 rfl rfl)
theorem dX0_better_89 : decode cX0_better 89 = .ok (.ifCond .le 7, 3) := dk_158 0 7 (dk_at dksX0_better_3 20 rfl rfl)
theorem dX0_better_92 : decode cX0_better 92 = .ok (.iconst 1, 1) := dk_4 (dk_at dksX0_better_3 23 rfl rfl)
theorem dX0_better_93 : decode cX0_better 93 = .ok (.goto 15, 3) := dk_167 0 15 (dk_at dksX0_better_4 0 rfl rfl)
theorem dX0_better_96 : decode cX0_better 96 = .ok (.lload 7, 2) := dk_22 7 (dk_at dksX0_better_4 3 rfl rfl)
theorem dX0_better_98 : decode cX0_better 98 = .ok (.lconst 0, 1) := dk_9 (dk_at dksX0_better_4 5 rfl rfl)
theorem dX0_better_99 : decode cX0_better 99 = .ok (.lcmp, 1) := dk_148 (dk_at dksX0_better_4 6 rfl rfl)
theorem dX0_better_100 : decode cX0_better 100 = .ok (.ifCond .ne 7, 3) := dk_154 0 7 (dk_at dksX0_better_4 7 rfl rfl)
theorem dX0_better_103 : decode cX0_better 103 = .ok (.iconst 0, 1) := dk_3 (dk_at dksX0_better_4 10 rfl rfl)
theorem dX0_better_104 : decode cX0_better 104 = .ok (.goto 4, 3) := dk_167 0 4 (dk_at dksX0_better_4 11 rfl rfl)
theorem dX0_better_107 : decode cX0_better 107 = .ok (.iconst 2, 1) := dk_5 (dk_at dksX0_better_4 14 rfl rfl)
theorem dX0_better_108 : decode cX0_better 108 = .ok (.invokevirtual 484, 3) := dk_182 1 228 (dk_at dksX0_better_4 15 rfl rfl)
theorem dX0_better_111 : decode cX0_better 111 = .ok (.ireturn, 1) := dk_172 (dk_at dksX0_better_4 18 rfl rfl)
abbrev cX0_goRoundAs : ByteArray := prog_1_method_86_code
def yX0_goRoundAs : MethodName := ⟨RX0, "goRoundAs", "(II)Z"⟩
def dkwX0_goRoundAs_1 : List UInt8 := [54, 4, 42, 180, 0, 79, 27, 50, 29, 181, 1, 65, 21, 4, 172]
abbrev dktX0_goRoundAs_1 : List UInt8 := dkwX0_goRoundAs_1 ++ []
def dkwX0_goRoundAs_0 : List UInt8 := [42, 180, 0, 79, 27, 50, 180, 1, 65, 62, 42, 180, 0, 79, 27, 50, 28, 181, 1, 65, 42, 182, 1, 221]
abbrev dktX0_goRoundAs_0 : List UInt8 := dkwX0_goRoundAs_0 ++ dktX0_goRoundAs_1
theorem dksX0_goRoundAs_0 : cX0_goRoundAs.data.toList.drop 0 = dktX0_goRoundAs_0 := by decide +kernel
theorem dksX0_goRoundAs_1 : cX0_goRoundAs.data.toList.drop 24 = dktX0_goRoundAs_1 := dk_seg dksX0_goRoundAs_0 24 rfl rfl
theorem dX0_goRoundAs_0 : decode cX0_goRoundAs 0 = .ok (.aload_n 0, 1) := dk_42 (dk_at dksX0_goRoundAs_0 0 rfl rfl)
theorem dX0_goRoundAs_1 : decode cX0_goRoundAs 1 = .ok (.getfield 79, 3) := dk_180 0 79 (dk_at dksX0_goRoundAs_0 1 rfl rfl)
theorem dX0_goRoundAs_4 : decode cX0_goRoundAs 4 = .ok (.iload_n 1, 1) := dk_27 (dk_at dksX0_goRoundAs_0 4 rfl rfl)
theorem dX0_goRoundAs_5 : decode cX0_goRoundAs 5 = .ok (.aaload, 1) := dk_50 (dk_at dksX0_goRoundAs_0 5 rfl rfl)
theorem dX0_goRoundAs_6 : decode cX0_goRoundAs 6 = .ok (.getfield 321, 3) := dk_180 1 65 (dk_at dksX0_goRoundAs_0 6 rfl rfl)
theorem dX0_goRoundAs_9 : decode cX0_goRoundAs 9 = .ok (.istore_n 3, 1) := dk_62 (dk_at dksX0_goRoundAs_0 9 rfl rfl)
theorem dX0_goRoundAs_10 : decode cX0_goRoundAs 10 = .ok (.aload_n 0, 1) := dk_42 (dk_at dksX0_goRoundAs_0 10 rfl rfl)
theorem dX0_goRoundAs_11 : decode cX0_goRoundAs 11 = .ok (.getfield 79, 3) := dk_180 0 79 (dk_at dksX0_goRoundAs_0 11 rfl rfl)
theorem dX0_goRoundAs_14 : decode cX0_goRoundAs 14 = .ok (.iload_n 1, 1) := dk_27 (dk_at dksX0_goRoundAs_0 14 rfl rfl)
theorem dX0_goRoundAs_15 : decode cX0_goRoundAs 15 = .ok (.aaload, 1) := dk_50 (dk_at dksX0_goRoundAs_0 15 rfl rfl)
theorem dX0_goRoundAs_16 : decode cX0_goRoundAs 16 = .ok (.iload_n 2, 1) := dk_28 (dk_at dksX0_goRoundAs_0 16 rfl rfl)
theorem dX0_goRoundAs_17 : decode cX0_goRoundAs 17 = .ok (.putfield 321, 3) := dk_181 1 65 (dk_at dksX0_goRoundAs_0 17 rfl rfl)
theorem dX0_goRoundAs_20 : decode cX0_goRoundAs 20 = .ok (.aload_n 0, 1) := dk_42 (dk_at dksX0_goRoundAs_0 20 rfl rfl)
theorem dX0_goRoundAs_21 : decode cX0_goRoundAs 21 = .ok (.invokevirtual 477, 3) := dk_182 1 221 (dk_at dksX0_goRoundAs_0 21 rfl rfl)
theorem dX0_goRoundAs_24 : decode cX0_goRoundAs 24 = .ok (.istore 4, 2) := dk_54 4 (dk_at dksX0_goRoundAs_1 0 rfl rfl)
theorem dX0_goRoundAs_26 : decode cX0_goRoundAs 26 = .ok (.aload_n 0, 1) := dk_42 (dk_at dksX0_goRoundAs_1 2 rfl rfl)
theorem dX0_goRoundAs_27 : decode cX0_goRoundAs 27 = .ok (.getfield 79, 3) := dk_180 0 79 (dk_at dksX0_goRoundAs_1 3 rfl rfl)
theorem dX0_goRoundAs_30 : decode cX0_goRoundAs 30 = .ok (.iload_n 1, 1) := dk_27 (dk_at dksX0_goRoundAs_1 6 rfl rfl)
theorem dX0_goRoundAs_31 : decode cX0_goRoundAs 31 = .ok (.aaload, 1) := dk_50 (dk_at dksX0_goRoundAs_1 7 rfl rfl)
theorem dX0_goRoundAs_32 : decode cX0_goRoundAs 32 = .ok (.iload_n 3, 1) := dk_29 (dk_at dksX0_goRoundAs_1 8 rfl rfl)
theorem dX0_goRoundAs_33 : decode cX0_goRoundAs 33 = .ok (.putfield 321, 3) := dk_181 1 65 (dk_at dksX0_goRoundAs_1 9 rfl rfl)
theorem dX0_goRoundAs_36 : decode cX0_goRoundAs 36 = .ok (.iload 4, 2) := dk_21 4 (dk_at dksX0_goRoundAs_1 12 rfl rfl)
theorem dX0_goRoundAs_38 : decode cX0_goRoundAs 38 = .ok (.ireturn, 1) := dk_172 (dk_at dksX0_goRoundAs_1 14 rfl rfl)
abbrev cX0_hold : ByteArray := prog_1_method_88_code
def yX0_hold : MethodName := ⟨RX0, "hold", "()I"⟩
def dkwX0_hold_5 : List UInt8 := [96, 172, 132, 5, 1, 167, 255, 185, 132, 4, 1, 167, 255, 167, 16, 247, 172]
abbrev dktX0_hold_5 : List UInt8 := dkwX0_hold_5 ++ []
def dkwX0_hold_4 : List UInt8 := [47, 32, 105, 43, 21, 4, 47, 42, 180, 1, 186, 133, 105, 148, 158, 0, 12, 16, 10, 21, 4, 104, 21, 5]
abbrev dktX0_hold_4 : List UInt8 := dkwX0_hold_4 ++ dktX0_hold_5
def dkwX0_hold_3 : List UInt8 := [50, 180, 1, 65, 159, 0, 46, 42, 21, 4, 21, 5, 182, 1, 232, 153, 0, 35, 42, 180, 0, 117, 21, 4]
abbrev dktX0_hold_3 : List UInt8 := dkwX0_hold_3 ++ dktX0_hold_4
def dkwX0_hold_2 : List UInt8 := [162, 0, 86, 3, 54, 5, 21, 5, 42, 180, 0, 40, 190, 162, 0, 67, 21, 5, 42, 180, 0, 79, 21, 4]
abbrev dktX0_hold_2 : List UInt8 := dkwX0_hold_2 ++ dktX0_hold_3
def dkwX0_hold_1 : List UInt8 := [42, 180, 1, 20, 184, 0, 154, 42, 180, 1, 186, 133, 65, 3, 54, 4, 21, 4, 42, 180, 1, 20]
abbrev dktX0_hold_1 : List UInt8 := dkwX0_hold_1 ++ dktX0_hold_2
def dkwX0_hold_0 : List UInt8 := [42, 182, 1, 221, 154, 0, 6, 16, 250, 172, 42, 180, 1, 20, 188, 11, 76, 42, 180, 0, 117, 3, 43, 3]
abbrev dktX0_hold_0 : List UInt8 := dkwX0_hold_0 ++ dktX0_hold_1
theorem dksX0_hold_0 : cX0_hold.data.toList.drop 0 = dktX0_hold_0 := by decide +kernel
theorem dksX0_hold_1 : cX0_hold.data.toList.drop 24 = dktX0_hold_1 := dk_seg dksX0_hold_0 24 rfl rfl
theorem dksX0_hold_2 : cX0_hold.data.toList.drop 46 = dktX0_hold_2 := dk_seg dksX0_hold_1 22 rfl rfl
theorem dksX0_hold_3 : cX0_hold.data.toList.drop 70 = dktX0_hold_3 := dk_seg dksX0_hold_2 24 rfl rfl
theorem dksX0_hold_4 : cX0_hold.data.toList.drop 94 = dktX0_hold_4 := dk_seg dksX0_hold_3 24 rfl rfl
theorem dksX0_hold_5 : cX0_hold.data.toList.drop 118 = dktX0_hold_5 := dk_seg dksX0_hold_4 24 rfl rfl
theorem dX0_hold_0 : decode cX0_hold 0 = .ok (.aload_n 0, 1) := dk_42 (dk_at dksX0_hold_0 0 rfl rfl)
theorem dX0_hold_1 : decode cX0_hold 1 = .ok (.invokevirtual 477, 3) := dk_182 1 221 (dk_at dksX0_hold_0 1 rfl rfl)
theorem dX0_hold_4 : decode cX0_hold 4 = .ok (.ifCond .ne 6, 3) := dk_154 0 6 (dk_at dksX0_hold_0 4 rfl rfl)
theorem dX0_hold_7 : decode cX0_hold 7 = .ok (.bipush (-6), 2) := dk_16 250 (dk_at dksX0_hold_0 7 rfl rfl)
theorem dX0_hold_9 : decode cX0_hold 9 = .ok (.ireturn, 1) := dk_172 (dk_at dksX0_hold_0 9 rfl rfl)
theorem dX0_hold_10 : decode cX0_hold 10 = .ok (.aload_n 0, 1) := dk_42 (dk_at dksX0_hold_0 10 rfl rfl)
theorem dX0_hold_11 : decode cX0_hold 11 = .ok (.getfield 276, 3) := dk_180 1 20 (dk_at dksX0_hold_0 11 rfl rfl)
theorem dX0_hold_14 : decode cX0_hold 14 = .ok (.newarray .long, 2) := dk_188_11 (dk_at dksX0_hold_0 14 rfl rfl)
theorem dX0_hold_16 : decode cX0_hold 16 = .ok (.astore_n 1, 1) := dk_76 (dk_at dksX0_hold_0 16 rfl rfl)
theorem dX0_hold_17 : decode cX0_hold 17 = .ok (.aload_n 0, 1) := dk_42 (dk_at dksX0_hold_0 17 rfl rfl)
theorem dX0_hold_18 : decode cX0_hold 18 = .ok (.getfield 117, 3) := dk_180 0 117 (dk_at dksX0_hold_0 18 rfl rfl)
theorem dX0_hold_21 : decode cX0_hold 21 = .ok (.iconst 0, 1) := dk_3 (dk_at dksX0_hold_0 21 rfl rfl)
theorem dX0_hold_22 : decode cX0_hold 22 = .ok (.aload_n 1, 1) := dk_43 (dk_at dksX0_hold_0 22 rfl rfl)
theorem dX0_hold_23 : decode cX0_hold 23 = .ok (.iconst 0, 1) := dk_3 (dk_at dksX0_hold_0 23 rfl rfl)
theorem dX0_hold_24 : decode cX0_hold 24 = .ok (.aload_n 0, 1) := dk_42 (dk_at dksX0_hold_1 0 rfl rfl)
theorem dX0_hold_25 : decode cX0_hold 25 = .ok (.getfield 276, 3) := dk_180 1 20 (dk_at dksX0_hold_1 1 rfl rfl)
theorem dX0_hold_28 : decode cX0_hold 28 = .ok (.invokestatic 154, 3) := dk_184 0 154 (dk_at dksX0_hold_1 4 rfl rfl)
theorem dX0_hold_31 : decode cX0_hold 31 = .ok (.aload_n 0, 1) := dk_42 (dk_at dksX0_hold_1 7 rfl rfl)
theorem dX0_hold_32 : decode cX0_hold 32 = .ok (.getfield 442, 3) := dk_180 1 186 (dk_at dksX0_hold_1 8 rfl rfl)
theorem dX0_hold_35 : decode cX0_hold 35 = .ok (.i2l, 1) := dk_133 (dk_at dksX0_hold_1 11 rfl rfl)
theorem dX0_hold_36 : decode cX0_hold 36 = .ok (.lstore_n 2, 1) := dk_65 (dk_at dksX0_hold_1 12 rfl rfl)
theorem dX0_hold_37 : decode cX0_hold 37 = .ok (.iconst 0, 1) := dk_3 (dk_at dksX0_hold_1 13 rfl rfl)
theorem dX0_hold_38 : decode cX0_hold 38 = .ok (.istore 4, 2) := dk_54 4 (dk_at dksX0_hold_1 14 rfl rfl)
theorem dX0_hold_40 : decode cX0_hold 40 = .ok (.iload 4, 2) := dk_21 4 (dk_at dksX0_hold_1 16 rfl rfl)
theorem dX0_hold_42 : decode cX0_hold 42 = .ok (.aload_n 0, 1) := dk_42 (dk_at dksX0_hold_1 18 rfl rfl)
theorem dX0_hold_43 : decode cX0_hold 43 = .ok (.getfield 276, 3) := dk_180 1 20 (dk_at dksX0_hold_1 19 rfl rfl)
theorem dX0_hold_46 : decode cX0_hold 46 = .ok (.if_icmp .ge 86, 3) := dk_162 0 86 (dk_at dksX0_hold_2 0 rfl rfl)
theorem dX0_hold_49 : decode cX0_hold 49 = .ok (.iconst 0, 1) := dk_3 (dk_at dksX0_hold_2 3 rfl rfl)
theorem dX0_hold_50 : decode cX0_hold 50 = .ok (.istore 5, 2) := dk_54 5 (dk_at dksX0_hold_2 4 rfl rfl)
theorem dX0_hold_52 : decode cX0_hold 52 = .ok (.iload 5, 2) := dk_21 5 (dk_at dksX0_hold_2 6 rfl rfl)
theorem dX0_hold_54 : decode cX0_hold 54 = .ok (.aload_n 0, 1) := dk_42 (dk_at dksX0_hold_2 8 rfl rfl)
theorem dX0_hold_55 : decode cX0_hold 55 = .ok (.getfield 40, 3) := dk_180 0 40 (dk_at dksX0_hold_2 9 rfl rfl)
theorem dX0_hold_58 : decode cX0_hold 58 = .ok (.arraylength, 1) := dk_190 (dk_at dksX0_hold_2 12 rfl rfl)
theorem dX0_hold_59 : decode cX0_hold 59 = .ok (.if_icmp .ge 67, 3) := dk_162 0 67 (dk_at dksX0_hold_2 13 rfl rfl)
theorem dX0_hold_62 : decode cX0_hold 62 = .ok (.iload 5, 2) := dk_21 5 (dk_at dksX0_hold_2 16 rfl rfl)
theorem dX0_hold_64 : decode cX0_hold 64 = .ok (.aload_n 0, 1) := dk_42 (dk_at dksX0_hold_2 18 rfl rfl)
theorem dX0_hold_65 : decode cX0_hold 65 = .ok (.getfield 79, 3) := dk_180 0 79 (dk_at dksX0_hold_2 19 rfl rfl)
theorem dX0_hold_68 : decode cX0_hold 68 = .ok (.iload 4, 2) := dk_21 4 (dk_at dksX0_hold_2 22 rfl rfl)
theorem dX0_hold_70 : decode cX0_hold 70 = .ok (.aaload, 1) := dk_50 (dk_at dksX0_hold_3 0 rfl rfl)
theorem dX0_hold_71 : decode cX0_hold 71 = .ok (.getfield 321, 3) := dk_180 1 65 (dk_at dksX0_hold_3 1 rfl rfl)
theorem dX0_hold_74 : decode cX0_hold 74 = .ok (.if_icmp .eq 46, 3) := dk_159 0 46 (dk_at dksX0_hold_3 4 rfl rfl)
theorem dX0_hold_77 : decode cX0_hold 77 = .ok (.aload_n 0, 1) := dk_42 (dk_at dksX0_hold_3 7 rfl rfl)
theorem dX0_hold_78 : decode cX0_hold 78 = .ok (.iload 4, 2) := dk_21 4 (dk_at dksX0_hold_3 8 rfl rfl)
theorem dX0_hold_80 : decode cX0_hold 80 = .ok (.iload 5, 2) := dk_21 5 (dk_at dksX0_hold_3 10 rfl rfl)
theorem dX0_hold_82 : decode cX0_hold 82 = .ok (.invokevirtual 488, 3) := dk_182 1 232 (dk_at dksX0_hold_3 12 rfl rfl)
theorem dX0_hold_85 : decode cX0_hold 85 = .ok (.ifCond .eq 35, 3) := dk_153 0 35 (dk_at dksX0_hold_3 15 rfl rfl)
theorem dX0_hold_88 : decode cX0_hold 88 = .ok (.aload_n 0, 1) := dk_42 (dk_at dksX0_hold_3 18 rfl rfl)
theorem dX0_hold_89 : decode cX0_hold 89 = .ok (.getfield 117, 3) := dk_180 0 117 (dk_at dksX0_hold_3 19 rfl rfl)
theorem dX0_hold_92 : decode cX0_hold 92 = .ok (.iload 4, 2) := dk_21 4 (dk_at dksX0_hold_3 22 rfl rfl)
theorem dX0_hold_94 : decode cX0_hold 94 = .ok (.laload, 1) := dk_47 (dk_at dksX0_hold_4 0 rfl rfl)
theorem dX0_hold_95 : decode cX0_hold 95 = .ok (.lload_n 2, 1) := dk_32 (dk_at dksX0_hold_4 1 rfl rfl)
theorem dX0_hold_96 : decode cX0_hold 96 = .ok (.lmul, 1) := dk_105 (dk_at dksX0_hold_4 2 rfl rfl)
theorem dX0_hold_97 : decode cX0_hold 97 = .ok (.aload_n 1, 1) := dk_43 (dk_at dksX0_hold_4 3 rfl rfl)
theorem dX0_hold_98 : decode cX0_hold 98 = .ok (.iload 4, 2) := dk_21 4 (dk_at dksX0_hold_4 4 rfl rfl)
theorem dX0_hold_100 : decode cX0_hold 100 = .ok (.laload, 1) := dk_47 (dk_at dksX0_hold_4 6 rfl rfl)
theorem dX0_hold_101 : decode cX0_hold 101 = .ok (.aload_n 0, 1) := dk_42 (dk_at dksX0_hold_4 7 rfl rfl)
theorem dX0_hold_102 : decode cX0_hold 102 = .ok (.getfield 442, 3) := dk_180 1 186 (dk_at dksX0_hold_4 8 rfl rfl)
theorem dX0_hold_105 : decode cX0_hold 105 = .ok (.i2l, 1) := dk_133 (dk_at dksX0_hold_4 11 rfl rfl)
theorem dX0_hold_106 : decode cX0_hold 106 = .ok (.lmul, 1) := dk_105 (dk_at dksX0_hold_4 12 rfl rfl)
theorem dX0_hold_107 : decode cX0_hold 107 = .ok (.lcmp, 1) := dk_148 (dk_at dksX0_hold_4 13 rfl rfl)
theorem dX0_hold_108 : decode cX0_hold 108 = .ok (.ifCond .le 12, 3) := dk_158 0 12 (dk_at dksX0_hold_4 14 rfl rfl)
theorem dX0_hold_111 : decode cX0_hold 111 = .ok (.bipush 10, 2) := dk_16 10 (dk_at dksX0_hold_4 17 rfl rfl)
theorem dX0_hold_113 : decode cX0_hold 113 = .ok (.iload 4, 2) := dk_21 4 (dk_at dksX0_hold_4 19 rfl rfl)
theorem dX0_hold_115 : decode cX0_hold 115 = .ok (.imul, 1) := dk_104 (dk_at dksX0_hold_4 21 rfl rfl)
theorem dX0_hold_116 : decode cX0_hold 116 = .ok (.iload 5, 2) := dk_21 5 (dk_at dksX0_hold_4 22 rfl rfl)
theorem dX0_hold_118 : decode cX0_hold 118 = .ok (.iadd, 1) := dk_96 (dk_at dksX0_hold_5 0 rfl rfl)
theorem dX0_hold_119 : decode cX0_hold 119 = .ok (.ireturn, 1) := dk_172 (dk_at dksX0_hold_5 1 rfl rfl)
theorem dX0_hold_120 : decode cX0_hold 120 = .ok (.iinc 5 1, 3) := dk_132 5 1 (dk_at dksX0_hold_5 2 rfl rfl)
theorem dX0_hold_123 : decode cX0_hold 123 = .ok (.goto (-71), 3) := dk_167 255 185 (dk_at dksX0_hold_5 5 rfl rfl)
theorem dX0_hold_126 : decode cX0_hold 126 = .ok (.iinc 4 1, 3) := dk_132 4 1 (dk_at dksX0_hold_5 8 rfl rfl)
theorem dX0_hold_129 : decode cX0_hold 129 = .ok (.goto (-89), 3) := dk_167 255 167 (dk_at dksX0_hold_5 11 rfl rfl)
theorem dX0_hold_132 : decode cX0_hold 132 = .ok (.bipush (-9), 2) := dk_16 247 (dk_at dksX0_hold_5 14 rfl rfl)
theorem dX0_hold_134 : decode cX0_hold 134 = .ok (.ireturn, 1) := dk_172 (dk_at dksX0_hold_5 16 rfl rfl)
abbrev cX0_step : ByteArray := prog_1_method_89_code
def yX0_step : MethodName := ⟨RX0, "step", "(II)I"⟩
def dkwX0_step_6 : List UInt8 := [16, 247, 62, 132, 4, 1, 167, 255, 162, 42, 16, 247, 181, 0, 96, 29, 172]
abbrev dktX0_step_6 : List UInt8 := dkwX0_step_6 ++ []
def dkwX0_step_5 : List UInt8 := [132, 6, 1, 167, 255, 208, 21, 5, 4, 159, 0, 9, 21, 5, 5, 160, 0, 8, 21, 4, 167, 0, 5]
abbrev dktX0_step_5 : List UInt8 := dkwX0_step_5 ++ dktX0_step_6
def dkwX0_step_4 : List UInt8 := [153, 0, 20, 27, 21, 6, 184, 1, 89, 153, 0, 7, 4, 167, 0, 8, 5, 167, 0, 4, 3, 128, 54, 5]
abbrev dktX0_step_4 : List UInt8 := dkwX0_step_4 ++ dktX0_step_5
def dkwX0_step_3 : List UInt8 := [54, 6, 21, 6, 42, 180, 1, 20, 162, 0, 45, 21, 5, 42, 180, 0, 90, 180, 1, 96, 21, 6, 51]
abbrev dktX0_step_3 : List UInt8 := dkwX0_step_3 ++ dktX0_step_4
def dkwX0_step_2 : List UInt8 := [182, 1, 173, 4, 54, 4, 21, 4, 28, 163, 0, 94, 29, 156, 0, 90, 42, 182, 1, 189, 3, 54, 5, 3]
abbrev dktX0_step_2 : List UInt8 := dkwX0_step_2 ++ dktX0_step_3
def dkwX0_step_1 : List UInt8 := [100, 161, 0, 5, 2, 172, 16, 247, 62, 42, 27, 181, 0, 96, 42, 180, 0, 90, 42, 180, 0, 86]
abbrev dktX0_step_1 : List UInt8 := dkwX0_step_1 ++ dktX0_step_2
def dkwX0_step_0 : List UInt8 := [28, 4, 17, 0, 200, 184, 0, 129, 153, 0, 20, 27, 4, 161, 0, 15, 27, 4, 42, 180, 1, 20, 120, 4]
abbrev dktX0_step_0 : List UInt8 := dkwX0_step_0 ++ dktX0_step_1
theorem dksX0_step_0 : cX0_step.data.toList.drop 0 = dktX0_step_0 := by decide +kernel
theorem dksX0_step_1 : cX0_step.data.toList.drop 24 = dktX0_step_1 := dk_seg dksX0_step_0 24 rfl rfl
theorem dksX0_step_2 : cX0_step.data.toList.drop 46 = dktX0_step_2 := dk_seg dksX0_step_1 22 rfl rfl
theorem dksX0_step_3 : cX0_step.data.toList.drop 70 = dktX0_step_3 := dk_seg dksX0_step_2 24 rfl rfl
theorem dksX0_step_4 : cX0_step.data.toList.drop 93 = dktX0_step_4 := dk_seg dksX0_step_3 23 rfl rfl
theorem dksX0_step_5 : cX0_step.data.toList.drop 117 = dktX0_step_5 := dk_seg dksX0_step_4 24 rfl rfl
theorem dksX0_step_6 : cX0_step.data.toList.drop 140 = dktX0_step_6 := dk_seg dksX0_step_5 23 rfl rfl
theorem dX0_step_0 : decode cX0_step 0 = .ok (.iload_n 2, 1) := dk_28 (dk_at dksX0_step_0 0 rfl rfl)
theorem dX0_step_1 : decode cX0_step 1 = .ok (.iconst 1, 1) := dk_4 (dk_at dksX0_step_0 1 rfl rfl)
theorem dX0_step_2 : decode cX0_step 2 = .ok (.sipush 200, 3) := dk_17 0 200 (dk_at dksX0_step_0 2 rfl rfl)
theorem dX0_step_5 : decode cX0_step 5 = .ok (.invokestatic 129, 3) := dk_184 0 129 (dk_at dksX0_step_0 5 rfl rfl)
theorem dX0_step_8 : decode cX0_step 8 = .ok (.ifCond .eq 20, 3) := dk_153 0 20 (dk_at dksX0_step_0 8 rfl rfl)
theorem dX0_step_11 : decode cX0_step 11 = .ok (.iload_n 1, 1) := dk_27 (dk_at dksX0_step_0 11 rfl rfl)
theorem dX0_step_12 : decode cX0_step 12 = .ok (.iconst 1, 1) := dk_4 (dk_at dksX0_step_0 12 rfl rfl)
theorem dX0_step_13 : decode cX0_step 13 = .ok (.if_icmp .lt 15, 3) := dk_161 0 15 (dk_at dksX0_step_0 13 rfl rfl)
theorem dX0_step_16 : decode cX0_step 16 = .ok (.iload_n 1, 1) := dk_27 (dk_at dksX0_step_0 16 rfl rfl)
theorem dX0_step_17 : decode cX0_step 17 = .ok (.iconst 1, 1) := dk_4 (dk_at dksX0_step_0 17 rfl rfl)
theorem dX0_step_18 : decode cX0_step 18 = .ok (.aload_n 0, 1) := dk_42 (dk_at dksX0_step_0 18 rfl rfl)
theorem dX0_step_19 : decode cX0_step 19 = .ok (.getfield 276, 3) := dk_180 1 20 (dk_at dksX0_step_0 19 rfl rfl)
theorem dX0_step_22 : decode cX0_step 22 = .ok (.ishl, 1) := dk_120 (dk_at dksX0_step_0 22 rfl rfl)
theorem dX0_step_23 : decode cX0_step 23 = .ok (.iconst 1, 1) := dk_4 (dk_at dksX0_step_0 23 rfl rfl)
theorem dX0_step_24 : decode cX0_step 24 = .ok (.isub, 1) := dk_100 (dk_at dksX0_step_1 0 rfl rfl)
theorem dX0_step_25 : decode cX0_step 25 = .ok (.if_icmp .lt 5, 3) := dk_161 0 5 (dk_at dksX0_step_1 1 rfl rfl)
theorem dX0_step_28 : decode cX0_step 28 = .ok (.iconst (-1), 1) := dk_2 (dk_at dksX0_step_1 4 rfl rfl)
theorem dX0_step_29 : decode cX0_step 29 = .ok (.ireturn, 1) := dk_172 (dk_at dksX0_step_1 5 rfl rfl)
theorem dX0_step_30 : decode cX0_step 30 = .ok (.bipush (-9), 2) := dk_16 247 (dk_at dksX0_step_1 6 rfl rfl)
theorem dX0_step_32 : decode cX0_step 32 = .ok (.istore_n 3, 1) := dk_62 (dk_at dksX0_step_1 8 rfl rfl)
theorem dX0_step_33 : decode cX0_step 33 = .ok (.aload_n 0, 1) := dk_42 (dk_at dksX0_step_1 9 rfl rfl)
theorem dX0_step_34 : decode cX0_step 34 = .ok (.iload_n 1, 1) := dk_27 (dk_at dksX0_step_1 10 rfl rfl)
theorem dX0_step_35 : decode cX0_step 35 = .ok (.putfield 96, 3) := dk_181 0 96 (dk_at dksX0_step_1 11 rfl rfl)
theorem dX0_step_38 : decode cX0_step 38 = .ok (.aload_n 0, 1) := dk_42 (dk_at dksX0_step_1 14 rfl rfl)
theorem dX0_step_39 : decode cX0_step 39 = .ok (.getfield 90, 3) := dk_180 0 90 (dk_at dksX0_step_1 15 rfl rfl)
theorem dX0_step_42 : decode cX0_step 42 = .ok (.aload_n 0, 1) := dk_42 (dk_at dksX0_step_1 18 rfl rfl)
theorem dX0_step_43 : decode cX0_step 43 = .ok (.getfield 86, 3) := dk_180 0 86 (dk_at dksX0_step_1 19 rfl rfl)
theorem dX0_step_46 : decode cX0_step 46 = .ok (.invokevirtual 429, 3) := dk_182 1 173 (dk_at dksX0_step_2 0 rfl rfl)
theorem dX0_step_49 : decode cX0_step 49 = .ok (.iconst 1, 1) := dk_4 (dk_at dksX0_step_2 3 rfl rfl)
theorem dX0_step_50 : decode cX0_step 50 = .ok (.istore 4, 2) := dk_54 4 (dk_at dksX0_step_2 4 rfl rfl)
theorem dX0_step_52 : decode cX0_step 52 = .ok (.iload 4, 2) := dk_21 4 (dk_at dksX0_step_2 6 rfl rfl)
theorem dX0_step_54 : decode cX0_step 54 = .ok (.iload_n 2, 1) := dk_28 (dk_at dksX0_step_2 8 rfl rfl)
theorem dX0_step_55 : decode cX0_step 55 = .ok (.if_icmp .gt 94, 3) := dk_163 0 94 (dk_at dksX0_step_2 9 rfl rfl)
theorem dX0_step_58 : decode cX0_step 58 = .ok (.iload_n 3, 1) := dk_29 (dk_at dksX0_step_2 12 rfl rfl)
theorem dX0_step_59 : decode cX0_step 59 = .ok (.ifCond .ge 90, 3) := dk_156 0 90 (dk_at dksX0_step_2 13 rfl rfl)
theorem dX0_step_62 : decode cX0_step 62 = .ok (.aload_n 0, 1) := dk_42 (dk_at dksX0_step_2 16 rfl rfl)
theorem dX0_step_63 : decode cX0_step 63 = .ok (.invokevirtual 445, 3) := dk_182 1 189 (dk_at dksX0_step_2 17 rfl rfl)
theorem dX0_step_66 : decode cX0_step 66 = .ok (.iconst 0, 1) := dk_3 (dk_at dksX0_step_2 20 rfl rfl)
theorem dX0_step_67 : decode cX0_step 67 = .ok (.istore 5, 2) := dk_54 5 (dk_at dksX0_step_2 21 rfl rfl)
theorem dX0_step_69 : decode cX0_step 69 = .ok (.iconst 0, 1) := dk_3 (dk_at dksX0_step_2 23 rfl rfl)
theorem dX0_step_70 : decode cX0_step 70 = .ok (.istore 6, 2) := dk_54 6 (dk_at dksX0_step_3 0 rfl rfl)
theorem dX0_step_72 : decode cX0_step 72 = .ok (.iload 6, 2) := dk_21 6 (dk_at dksX0_step_3 2 rfl rfl)
theorem dX0_step_74 : decode cX0_step 74 = .ok (.aload_n 0, 1) := dk_42 (dk_at dksX0_step_3 4 rfl rfl)
theorem dX0_step_75 : decode cX0_step 75 = .ok (.getfield 276, 3) := dk_180 1 20 (dk_at dksX0_step_3 5 rfl rfl)
theorem dX0_step_78 : decode cX0_step 78 = .ok (.if_icmp .ge 45, 3) := dk_162 0 45 (dk_at dksX0_step_3 8 rfl rfl)
theorem dX0_step_81 : decode cX0_step 81 = .ok (.iload 5, 2) := dk_21 5 (dk_at dksX0_step_3 11 rfl rfl)
theorem dX0_step_83 : decode cX0_step 83 = .ok (.aload_n 0, 1) := dk_42 (dk_at dksX0_step_3 13 rfl rfl)
theorem dX0_step_84 : decode cX0_step 84 = .ok (.getfield 90, 3) := dk_180 0 90 (dk_at dksX0_step_3 14 rfl rfl)
theorem dX0_step_87 : decode cX0_step 87 = .ok (.getfield 352, 3) := dk_180 1 96 (dk_at dksX0_step_3 17 rfl rfl)
theorem dX0_step_90 : decode cX0_step 90 = .ok (.iload 6, 2) := dk_21 6 (dk_at dksX0_step_3 20 rfl rfl)
theorem dX0_step_92 : decode cX0_step 92 = .ok (.baload, 1) := dk_51 (dk_at dksX0_step_3 22 rfl rfl)
theorem dX0_step_93 : decode cX0_step 93 = .ok (.ifCond .eq 20, 3) := dk_153 0 20 (dk_at dksX0_step_4 0 rfl rfl)
theorem dX0_step_96 : decode cX0_step 96 = .ok (.iload_n 1, 1) := dk_27 (dk_at dksX0_step_4 3 rfl rfl)
theorem dX0_step_97 : decode cX0_step 97 = .ok (.iload 6, 2) := dk_21 6 (dk_at dksX0_step_4 4 rfl rfl)
theorem dX0_step_99 : decode cX0_step 99 = .ok (.invokestatic 345, 3) := dk_184 1 89 (dk_at dksX0_step_4 6 rfl rfl)
theorem dX0_step_102 : decode cX0_step 102 = .ok (.ifCond .eq 7, 3) := dk_153 0 7 (dk_at dksX0_step_4 9 rfl rfl)
theorem dX0_step_105 : decode cX0_step 105 = .ok (.iconst 1, 1) := dk_4 (dk_at dksX0_step_4 12 rfl rfl)
theorem dX0_step_106 : decode cX0_step 106 = .ok (.goto 8, 3) := dk_167 0 8 (dk_at dksX0_step_4 13 rfl rfl)
theorem dX0_step_109 : decode cX0_step 109 = .ok (.iconst 2, 1) := dk_5 (dk_at dksX0_step_4 16 rfl rfl)
theorem dX0_step_110 : decode cX0_step 110 = .ok (.goto 4, 3) := dk_167 0 4 (dk_at dksX0_step_4 17 rfl rfl)
theorem dX0_step_113 : decode cX0_step 113 = .ok (.iconst 0, 1) := dk_3 (dk_at dksX0_step_4 20 rfl rfl)
theorem dX0_step_114 : decode cX0_step 114 = .ok (.ior, 1) := dk_128 (dk_at dksX0_step_4 21 rfl rfl)
theorem dX0_step_115 : decode cX0_step 115 = .ok (.istore 5, 2) := dk_54 5 (dk_at dksX0_step_4 22 rfl rfl)
theorem dX0_step_117 : decode cX0_step 117 = .ok (.iinc 6 1, 3) := dk_132 6 1 (dk_at dksX0_step_5 0 rfl rfl)
theorem dX0_step_120 : decode cX0_step 120 = .ok (.goto (-48), 3) := dk_167 255 208 (dk_at dksX0_step_5 3 rfl rfl)
theorem dX0_step_123 : decode cX0_step 123 = .ok (.iload 5, 2) := dk_21 5 (dk_at dksX0_step_5 6 rfl rfl)
theorem dX0_step_125 : decode cX0_step 125 = .ok (.iconst 1, 1) := dk_4 (dk_at dksX0_step_5 8 rfl rfl)
theorem dX0_step_126 : decode cX0_step 126 = .ok (.if_icmp .eq 9, 3) := dk_159 0 9 (dk_at dksX0_step_5 9 rfl rfl)
theorem dX0_step_129 : decode cX0_step 129 = .ok (.iload 5, 2) := dk_21 5 (dk_at dksX0_step_5 12 rfl rfl)
theorem dX0_step_131 : decode cX0_step 131 = .ok (.iconst 2, 1) := dk_5 (dk_at dksX0_step_5 14 rfl rfl)
theorem dX0_step_132 : decode cX0_step 132 = .ok (.if_icmp .ne 8, 3) := dk_160 0 8 (dk_at dksX0_step_5 15 rfl rfl)
theorem dX0_step_135 : decode cX0_step 135 = .ok (.iload 4, 2) := dk_21 4 (dk_at dksX0_step_5 18 rfl rfl)
theorem dX0_step_137 : decode cX0_step 137 = .ok (.goto 5, 3) := dk_167 0 5 (dk_at dksX0_step_5 20 rfl rfl)
theorem dX0_step_140 : decode cX0_step 140 = .ok (.bipush (-9), 2) := dk_16 247 (dk_at dksX0_step_6 0 rfl rfl)
theorem dX0_step_142 : decode cX0_step 142 = .ok (.istore_n 3, 1) := dk_62 (dk_at dksX0_step_6 2 rfl rfl)
theorem dX0_step_143 : decode cX0_step 143 = .ok (.iinc 4 1, 3) := dk_132 4 1 (dk_at dksX0_step_6 3 rfl rfl)
theorem dX0_step_146 : decode cX0_step 146 = .ok (.goto (-94), 3) := dk_167 255 162 (dk_at dksX0_step_6 6 rfl rfl)
theorem dX0_step_149 : decode cX0_step 149 = .ok (.aload_n 0, 1) := dk_42 (dk_at dksX0_step_6 9 rfl rfl)
theorem dX0_step_150 : decode cX0_step 150 = .ok (.bipush (-9), 2) := dk_16 247 (dk_at dksX0_step_6 10 rfl rfl)
theorem dX0_step_152 : decode cX0_step 152 = .ok (.putfield 96, 3) := dk_181 0 96 (dk_at dksX0_step_6 12 rfl rfl)
theorem dX0_step_155 : decode cX0_step 155 = .ok (.iload_n 3, 1) := dk_29 (dk_at dksX0_step_6 15 rfl rfl)
theorem dX0_step_156 : decode cX0_step 156 = .ok (.ireturn, 1) := dk_172 (dk_at dksX0_step_6 16 rfl rfl)
abbrev cX0_hope : ByteArray := prog_1_method_90_code
def yX0_hope : MethodName := ⟨RX0, "hope", "(I)I"⟩
def dkwX0_hope_6 : List UInt8 := [22, 8, 22, 10, 105, 97, 55, 5, 132, 7, 1, 167, 255, 154, 42, 22, 5, 33, 4, 182, 1, 228, 172]
abbrev dktX0_hope_6 : List UInt8 := dkwX0_hope_6 ++ []
def dkwX0_hope_5 : List UInt8 := [180, 0, 90, 180, 1, 143, 133, 97, 55, 10, 21, 12, 6, 108, 54, 12, 132, 13, 1, 167, 255, 200, 22, 5]
abbrev dktX0_hope_5 : List UInt8 := dkwX0_hope_5 ++ dktX0_hope_6
def dkwX0_hope_4 : List UInt8 := [112, 46, 133, 105, 55, 8, 42, 42, 180, 0, 90, 21, 12, 6, 112, 3, 182, 1, 146, 22, 10, 42]
abbrev dktX0_hope_4 : List UInt8 := dkwX0_hope_4 ++ dktX0_hope_5
def dkwX0_hope_3 : List UInt8 := [55, 10, 21, 7, 54, 12, 3, 54, 13, 21, 13, 27, 162, 0, 56, 22, 8, 42, 180, 0, 44, 21, 12, 6]
abbrev dktX0_hope_3 : List UInt8 := dkwX0_hope_3 ++ dktX0_hope_4
def dkwX0_hope_2 : List UInt8 := [54, 7, 21, 7, 28, 162, 0, 102, 42, 180, 0, 90, 42, 180, 0, 86, 182, 1, 173, 10, 55, 8, 9]
abbrev dktX0_hope_2 : List UInt8 := dkwX0_hope_2 ++ dktX0_hope_3
def dkwX0_hope_1 : List UInt8 := [162, 0, 19, 28, 6, 104, 61, 33, 20, 1, 235, 105, 66, 132, 5, 1, 167, 255, 237, 9, 55, 5, 3]
abbrev dktX0_hope_1 : List UInt8 := dkwX0_hope_1 ++ dktX0_hope_2
def dkwX0_hope_0 : List UInt8 := [27, 4, 16, 6, 184, 0, 129, 154, 0, 5, 2, 172, 4, 61, 10, 66, 3, 54, 5, 21, 5, 27]
abbrev dktX0_hope_0 : List UInt8 := dkwX0_hope_0 ++ dktX0_hope_1
theorem dksX0_hope_0 : cX0_hope.data.toList.drop 0 = dktX0_hope_0 := by decide +kernel
theorem dksX0_hope_1 : cX0_hope.data.toList.drop 22 = dktX0_hope_1 := dk_seg dksX0_hope_0 22 rfl rfl
theorem dksX0_hope_2 : cX0_hope.data.toList.drop 45 = dktX0_hope_2 := dk_seg dksX0_hope_1 23 rfl rfl
theorem dksX0_hope_3 : cX0_hope.data.toList.drop 68 = dktX0_hope_3 := dk_seg dksX0_hope_2 23 rfl rfl
theorem dksX0_hope_4 : cX0_hope.data.toList.drop 92 = dktX0_hope_4 := dk_seg dksX0_hope_3 24 rfl rfl
theorem dksX0_hope_5 : cX0_hope.data.toList.drop 114 = dktX0_hope_5 := dk_seg dksX0_hope_4 22 rfl rfl
theorem dksX0_hope_6 : cX0_hope.data.toList.drop 138 = dktX0_hope_6 := dk_seg dksX0_hope_5 24 rfl rfl
theorem dX0_hope_0 : decode cX0_hope 0 = .ok (.iload_n 1, 1) := dk_27 (dk_at dksX0_hope_0 0 rfl rfl)
theorem dX0_hope_1 : decode cX0_hope 1 = .ok (.iconst 1, 1) := dk_4 (dk_at dksX0_hope_0 1 rfl rfl)
theorem dX0_hope_2 : decode cX0_hope 2 = .ok (.bipush 6, 2) := dk_16 6 (dk_at dksX0_hope_0 2 rfl rfl)
theorem dX0_hope_4 : decode cX0_hope 4 = .ok (.invokestatic 129, 3) := dk_184 0 129 (dk_at dksX0_hope_0 4 rfl rfl)
theorem dX0_hope_7 : decode cX0_hope 7 = .ok (.ifCond .ne 5, 3) := dk_154 0 5 (dk_at dksX0_hope_0 7 rfl rfl)
theorem dX0_hope_10 : decode cX0_hope 10 = .ok (.iconst (-1), 1) := dk_2 (dk_at dksX0_hope_0 10 rfl rfl)
theorem dX0_hope_11 : decode cX0_hope 11 = .ok (.ireturn, 1) := dk_172 (dk_at dksX0_hope_0 11 rfl rfl)
theorem dX0_hope_12 : decode cX0_hope 12 = .ok (.iconst 1, 1) := dk_4 (dk_at dksX0_hope_0 12 rfl rfl)
theorem dX0_hope_13 : decode cX0_hope 13 = .ok (.istore_n 2, 1) := dk_61 (dk_at dksX0_hope_0 13 rfl rfl)
theorem dX0_hope_14 : decode cX0_hope 14 = .ok (.lconst 1, 1) := dk_10 (dk_at dksX0_hope_0 14 rfl rfl)
theorem dX0_hope_15 : decode cX0_hope 15 = .ok (.lstore_n 3, 1) := dk_66 (dk_at dksX0_hope_0 15 rfl rfl)
theorem dX0_hope_16 : decode cX0_hope 16 = .ok (.iconst 0, 1) := dk_3 (dk_at dksX0_hope_0 16 rfl rfl)
theorem dX0_hope_17 : decode cX0_hope 17 = .ok (.istore 5, 2) := dk_54 5 (dk_at dksX0_hope_0 17 rfl rfl)
theorem dX0_hope_19 : decode cX0_hope 19 = .ok (.iload 5, 2) := dk_21 5 (dk_at dksX0_hope_0 19 rfl rfl)
theorem dX0_hope_21 : decode cX0_hope 21 = .ok (.iload_n 1, 1) := dk_27 (dk_at dksX0_hope_0 21 rfl rfl)
theorem dX0_hope_22 : decode cX0_hope 22 = .ok (.if_icmp .ge 19, 3) := dk_162 0 19 (dk_at dksX0_hope_1 0 rfl rfl)
theorem dX0_hope_25 : decode cX0_hope 25 = .ok (.iload_n 2, 1) := dk_28 (dk_at dksX0_hope_1 3 rfl rfl)
theorem dX0_hope_26 : decode cX0_hope 26 = .ok (.iconst 3, 1) := dk_6 (dk_at dksX0_hope_1 4 rfl rfl)
theorem dX0_hope_27 : decode cX0_hope 27 = .ok (.imul, 1) := dk_104 (dk_at dksX0_hope_1 5 rfl rfl)
theorem dX0_hope_28 : decode cX0_hope 28 = .ok (.istore_n 2, 1) := dk_61 (dk_at dksX0_hope_1 6 rfl rfl)
theorem dX0_hope_29 : decode cX0_hope 29 = .ok (.lload_n 3, 1) := dk_33 (dk_at dksX0_hope_1 7 rfl rfl)
theorem dX0_hope_30 : decode cX0_hope 30 = .ok (.ldc2_w 491, 3) := dk_20 1 235 (dk_at dksX0_hope_1 8 rfl rfl)
theorem dX0_hope_33 : decode cX0_hope 33 = .ok (.lmul, 1) := dk_105 (dk_at dksX0_hope_1 11 rfl rfl)
theorem dX0_hope_34 : decode cX0_hope 34 = .ok (.lstore_n 3, 1) := dk_66 (dk_at dksX0_hope_1 12 rfl rfl)
theorem dX0_hope_35 : decode cX0_hope 35 = .ok (.iinc 5 1, 3) := dk_132 5 1 (dk_at dksX0_hope_1 13 rfl rfl)
theorem dX0_hope_38 : decode cX0_hope 38 = .ok (.goto (-19), 3) := dk_167 255 237 (dk_at dksX0_hope_1 16 rfl rfl)
theorem dX0_hope_41 : decode cX0_hope 41 = .ok (.lconst 0, 1) := dk_9 (dk_at dksX0_hope_1 19 rfl rfl)
theorem dX0_hope_42 : decode cX0_hope 42 = .ok (.lstore 5, 2) := dk_55 5 (dk_at dksX0_hope_1 20 rfl rfl)
theorem dX0_hope_44 : decode cX0_hope 44 = .ok (.iconst 0, 1) := dk_3 (dk_at dksX0_hope_1 22 rfl rfl)
theorem dX0_hope_45 : decode cX0_hope 45 = .ok (.istore 7, 2) := dk_54 7 (dk_at dksX0_hope_2 0 rfl rfl)
theorem dX0_hope_47 : decode cX0_hope 47 = .ok (.iload 7, 2) := dk_21 7 (dk_at dksX0_hope_2 2 rfl rfl)
theorem dX0_hope_49 : decode cX0_hope 49 = .ok (.iload_n 2, 1) := dk_28 (dk_at dksX0_hope_2 4 rfl rfl)
theorem dX0_hope_50 : decode cX0_hope 50 = .ok (.if_icmp .ge 102, 3) := dk_162 0 102 (dk_at dksX0_hope_2 5 rfl rfl)
theorem dX0_hope_53 : decode cX0_hope 53 = .ok (.aload_n 0, 1) := dk_42 (dk_at dksX0_hope_2 8 rfl rfl)
theorem dX0_hope_54 : decode cX0_hope 54 = .ok (.getfield 90, 3) := dk_180 0 90 (dk_at dksX0_hope_2 9 rfl rfl)
theorem dX0_hope_57 : decode cX0_hope 57 = .ok (.aload_n 0, 1) := dk_42 (dk_at dksX0_hope_2 12 rfl rfl)
theorem dX0_hope_58 : decode cX0_hope 58 = .ok (.getfield 86, 3) := dk_180 0 86 (dk_at dksX0_hope_2 13 rfl rfl)
theorem dX0_hope_61 : decode cX0_hope 61 = .ok (.invokevirtual 429, 3) := dk_182 1 173 (dk_at dksX0_hope_2 16 rfl rfl)
theorem dX0_hope_64 : decode cX0_hope 64 = .ok (.lconst 1, 1) := dk_10 (dk_at dksX0_hope_2 19 rfl rfl)
theorem dX0_hope_65 : decode cX0_hope 65 = .ok (.lstore 8, 2) := dk_55 8 (dk_at dksX0_hope_2 20 rfl rfl)
theorem dX0_hope_67 : decode cX0_hope 67 = .ok (.lconst 0, 1) := dk_9 (dk_at dksX0_hope_2 22 rfl rfl)
theorem dX0_hope_68 : decode cX0_hope 68 = .ok (.lstore 10, 2) := dk_55 10 (dk_at dksX0_hope_3 0 rfl rfl)
theorem dX0_hope_70 : decode cX0_hope 70 = .ok (.iload 7, 2) := dk_21 7 (dk_at dksX0_hope_3 2 rfl rfl)
theorem dX0_hope_72 : decode cX0_hope 72 = .ok (.istore 12, 2) := dk_54 12 (dk_at dksX0_hope_3 4 rfl rfl)
theorem dX0_hope_74 : decode cX0_hope 74 = .ok (.iconst 0, 1) := dk_3 (dk_at dksX0_hope_3 6 rfl rfl)
theorem dX0_hope_75 : decode cX0_hope 75 = .ok (.istore 13, 2) := dk_54 13 (dk_at dksX0_hope_3 7 rfl rfl)
theorem dX0_hope_77 : decode cX0_hope 77 = .ok (.iload 13, 2) := dk_21 13 (dk_at dksX0_hope_3 9 rfl rfl)
theorem dX0_hope_79 : decode cX0_hope 79 = .ok (.iload_n 1, 1) := dk_27 (dk_at dksX0_hope_3 11 rfl rfl)
theorem dX0_hope_80 : decode cX0_hope 80 = .ok (.if_icmp .ge 56, 3) := dk_162 0 56 (dk_at dksX0_hope_3 12 rfl rfl)
theorem dX0_hope_83 : decode cX0_hope 83 = .ok (.lload 8, 2) := dk_22 8 (dk_at dksX0_hope_3 15 rfl rfl)
theorem dX0_hope_85 : decode cX0_hope 85 = .ok (.aload_n 0, 1) := dk_42 (dk_at dksX0_hope_3 17 rfl rfl)
theorem dX0_hope_86 : decode cX0_hope 86 = .ok (.getfield 44, 3) := dk_180 0 44 (dk_at dksX0_hope_3 18 rfl rfl)
theorem dX0_hope_89 : decode cX0_hope 89 = .ok (.iload 12, 2) := dk_21 12 (dk_at dksX0_hope_3 21 rfl rfl)
theorem dX0_hope_91 : decode cX0_hope 91 = .ok (.iconst 3, 1) := dk_6 (dk_at dksX0_hope_3 23 rfl rfl)
theorem dX0_hope_92 : decode cX0_hope 92 = .ok (.irem, 1) := dk_112 (dk_at dksX0_hope_4 0 rfl rfl)
theorem dX0_hope_93 : decode cX0_hope 93 = .ok (.iaload, 1) := dk_46 (dk_at dksX0_hope_4 1 rfl rfl)
theorem dX0_hope_94 : decode cX0_hope 94 = .ok (.i2l, 1) := dk_133 (dk_at dksX0_hope_4 2 rfl rfl)
theorem dX0_hope_95 : decode cX0_hope 95 = .ok (.lmul, 1) := dk_105 (dk_at dksX0_hope_4 3 rfl rfl)
theorem dX0_hope_96 : decode cX0_hope 96 = .ok (.lstore 8, 2) := dk_55 8 (dk_at dksX0_hope_4 4 rfl rfl)
theorem dX0_hope_98 : decode cX0_hope 98 = .ok (.aload_n 0, 1) := dk_42 (dk_at dksX0_hope_4 6 rfl rfl)
theorem dX0_hope_99 : decode cX0_hope 99 = .ok (.aload_n 0, 1) := dk_42 (dk_at dksX0_hope_4 7 rfl rfl)
theorem dX0_hope_100 : decode cX0_hope 100 = .ok (.getfield 90, 3) := dk_180 0 90 (dk_at dksX0_hope_4 8 rfl rfl)
theorem dX0_hope_103 : decode cX0_hope 103 = .ok (.iload 12, 2) := dk_21 12 (dk_at dksX0_hope_4 11 rfl rfl)
theorem dX0_hope_105 : decode cX0_hope 105 = .ok (.iconst 3, 1) := dk_6 (dk_at dksX0_hope_4 13 rfl rfl)
theorem dX0_hope_106 : decode cX0_hope 106 = .ok (.irem, 1) := dk_112 (dk_at dksX0_hope_4 14 rfl rfl)
theorem dX0_hope_107 : decode cX0_hope 107 = .ok (.iconst 0, 1) := dk_3 (dk_at dksX0_hope_4 15 rfl rfl)
theorem dX0_hope_108 : decode cX0_hope 108 = .ok (.invokevirtual 402, 3) := dk_182 1 146 (dk_at dksX0_hope_4 16 rfl rfl)
theorem dX0_hope_111 : decode cX0_hope 111 = .ok (.lload 10, 2) := dk_22 10 (dk_at dksX0_hope_4 19 rfl rfl)
theorem dX0_hope_113 : decode cX0_hope 113 = .ok (.aload_n 0, 1) := dk_42 (dk_at dksX0_hope_4 21 rfl rfl)
theorem dX0_hope_114 : decode cX0_hope 114 = .ok (.getfield 90, 3) := dk_180 0 90 (dk_at dksX0_hope_5 0 rfl rfl)
theorem dX0_hope_117 : decode cX0_hope 117 = .ok (.getfield 399, 3) := dk_180 1 143 (dk_at dksX0_hope_5 3 rfl rfl)
theorem dX0_hope_120 : decode cX0_hope 120 = .ok (.i2l, 1) := dk_133 (dk_at dksX0_hope_5 6 rfl rfl)
theorem dX0_hope_121 : decode cX0_hope 121 = .ok (.ladd, 1) := dk_97 (dk_at dksX0_hope_5 7 rfl rfl)
theorem dX0_hope_122 : decode cX0_hope 122 = .ok (.lstore 10, 2) := dk_55 10 (dk_at dksX0_hope_5 8 rfl rfl)
theorem dX0_hope_124 : decode cX0_hope 124 = .ok (.iload 12, 2) := dk_21 12 (dk_at dksX0_hope_5 10 rfl rfl)
theorem dX0_hope_126 : decode cX0_hope 126 = .ok (.iconst 3, 1) := dk_6 (dk_at dksX0_hope_5 12 rfl rfl)
theorem dX0_hope_127 : decode cX0_hope 127 = .ok (.idiv, 1) := dk_108 (dk_at dksX0_hope_5 13 rfl rfl)
theorem dX0_hope_128 : decode cX0_hope 128 = .ok (.istore 12, 2) := dk_54 12 (dk_at dksX0_hope_5 14 rfl rfl)
theorem dX0_hope_130 : decode cX0_hope 130 = .ok (.iinc 13 1, 3) := dk_132 13 1 (dk_at dksX0_hope_5 16 rfl rfl)
theorem dX0_hope_133 : decode cX0_hope 133 = .ok (.goto (-56), 3) := dk_167 255 200 (dk_at dksX0_hope_5 19 rfl rfl)
theorem dX0_hope_136 : decode cX0_hope 136 = .ok (.lload 5, 2) := dk_22 5 (dk_at dksX0_hope_5 22 rfl rfl)
theorem dX0_hope_138 : decode cX0_hope 138 = .ok (.lload 8, 2) := dk_22 8 (dk_at dksX0_hope_6 0 rfl rfl)
theorem dX0_hope_140 : decode cX0_hope 140 = .ok (.lload 10, 2) := dk_22 10 (dk_at dksX0_hope_6 2 rfl rfl)
theorem dX0_hope_142 : decode cX0_hope 142 = .ok (.lmul, 1) := dk_105 (dk_at dksX0_hope_6 4 rfl rfl)
theorem dX0_hope_143 : decode cX0_hope 143 = .ok (.ladd, 1) := dk_97 (dk_at dksX0_hope_6 5 rfl rfl)
theorem dX0_hope_144 : decode cX0_hope 144 = .ok (.lstore 5, 2) := dk_55 5 (dk_at dksX0_hope_6 6 rfl rfl)
theorem dX0_hope_146 : decode cX0_hope 146 = .ok (.iinc 7 1, 3) := dk_132 7 1 (dk_at dksX0_hope_6 8 rfl rfl)
theorem dX0_hope_149 : decode cX0_hope 149 = .ok (.goto (-102), 3) := dk_167 255 154 (dk_at dksX0_hope_6 11 rfl rfl)
theorem dX0_hope_152 : decode cX0_hope 152 = .ok (.aload_n 0, 1) := dk_42 (dk_at dksX0_hope_6 14 rfl rfl)
theorem dX0_hope_153 : decode cX0_hope 153 = .ok (.lload 5, 2) := dk_22 5 (dk_at dksX0_hope_6 15 rfl rfl)
theorem dX0_hope_155 : decode cX0_hope 155 = .ok (.lload_n 3, 1) := dk_33 (dk_at dksX0_hope_6 17 rfl rfl)
theorem dX0_hope_156 : decode cX0_hope 156 = .ok (.iconst 1, 1) := dk_4 (dk_at dksX0_hope_6 18 rfl rfl)
theorem dX0_hope_157 : decode cX0_hope 157 = .ok (.invokevirtual 484, 3) := dk_182 1 228 (dk_at dksX0_hope_6 19 rfl rfl)
theorem dX0_hope_160 : decode cX0_hope 160 = .ok (.ireturn, 1) := dk_172 (dk_at dksX0_hope_6 22 rfl rfl)
abbrev cX0_period : ByteArray := prog_1_method_92_code
def yX0_period : MethodName := ⟨RX0, "period", "(I)I"⟩
def dkwX0_period_4 : List UInt8 := [21, 5, 153, 0, 7, 3, 167, 0, 4, 4, 96, 54, 4, 167, 255, 179, 21, 4, 172]
abbrev dktX0_period_4 : List UInt8 := dkwX0_period_4 ++ []
def dkwX0_period_3 : List UInt8 := [21, 6, 21, 4, 96, 46, 160, 0, 7, 4, 167, 0, 4, 3, 54, 5, 132, 6, 1, 167, 255, 208, 21, 4]
abbrev dktX0_period_3 : List UInt8 := dkwX0_period_3 ++ dktX0_period_4
def dkwX0_period_2 : List UInt8 := [162, 0, 45, 21, 5, 153, 0, 40, 42, 180, 0, 28, 27, 50, 21, 6, 46, 42, 180, 0, 28, 27, 50]
abbrev dktX0_period_2 : List UInt8 := dkwX0_period_2 ++ dktX0_period_3
def dkwX0_period_1 : List UInt8 := [54, 4, 3, 54, 5, 21, 5, 154, 0, 78, 4, 54, 5, 3, 54, 6, 21, 6, 21, 4, 96, 29]
abbrev dktX0_period_1 : List UInt8 := dkwX0_period_1 ++ dktX0_period_2
def dkwX0_period_0 : List UInt8 := [42, 27, 16, 80, 182, 1, 237, 61, 28, 156, 0, 5, 28, 172, 42, 180, 0, 28, 27, 50, 190, 62, 4]
abbrev dktX0_period_0 : List UInt8 := dkwX0_period_0 ++ dktX0_period_1
theorem dksX0_period_0 : cX0_period.data.toList.drop 0 = dktX0_period_0 := by decide +kernel
theorem dksX0_period_1 : cX0_period.data.toList.drop 23 = dktX0_period_1 := dk_seg dksX0_period_0 23 rfl rfl
theorem dksX0_period_2 : cX0_period.data.toList.drop 45 = dktX0_period_2 := dk_seg dksX0_period_1 22 rfl rfl
theorem dksX0_period_3 : cX0_period.data.toList.drop 68 = dktX0_period_3 := dk_seg dksX0_period_2 23 rfl rfl
theorem dksX0_period_4 : cX0_period.data.toList.drop 92 = dktX0_period_4 := dk_seg dksX0_period_3 24 rfl rfl
theorem dX0_period_0 : decode cX0_period 0 = .ok (.aload_n 0, 1) := dk_42 (dk_at dksX0_period_0 0 rfl rfl)
theorem dX0_period_1 : decode cX0_period 1 = .ok (.iload_n 1, 1) := dk_27 (dk_at dksX0_period_0 1 rfl rfl)
theorem dX0_period_2 : decode cX0_period 2 = .ok (.bipush 80, 2) := dk_16 80 (dk_at dksX0_period_0 2 rfl rfl)
theorem dX0_period_4 : decode cX0_period 4 = .ok (.invokevirtual 493, 3) := dk_182 1 237 (dk_at dksX0_period_0 4 rfl rfl)
theorem dX0_period_7 : decode cX0_period 7 = .ok (.istore_n 2, 1) := dk_61 (dk_at dksX0_period_0 7 rfl rfl)
theorem dX0_period_8 : decode cX0_period 8 = .ok (.iload_n 2, 1) := dk_28 (dk_at dksX0_period_0 8 rfl rfl)
theorem dX0_period_9 : decode cX0_period 9 = .ok (.ifCond .ge 5, 3) := dk_156 0 5 (dk_at dksX0_period_0 9 rfl rfl)
theorem dX0_period_12 : decode cX0_period 12 = .ok (.iload_n 2, 1) := dk_28 (dk_at dksX0_period_0 12 rfl rfl)
theorem dX0_period_13 : decode cX0_period 13 = .ok (.ireturn, 1) := dk_172 (dk_at dksX0_period_0 13 rfl rfl)
theorem dX0_period_14 : decode cX0_period 14 = .ok (.aload_n 0, 1) := dk_42 (dk_at dksX0_period_0 14 rfl rfl)
theorem dX0_period_15 : decode cX0_period 15 = .ok (.getfield 28, 3) := dk_180 0 28 (dk_at dksX0_period_0 15 rfl rfl)
theorem dX0_period_18 : decode cX0_period 18 = .ok (.iload_n 1, 1) := dk_27 (dk_at dksX0_period_0 18 rfl rfl)
theorem dX0_period_19 : decode cX0_period 19 = .ok (.aaload, 1) := dk_50 (dk_at dksX0_period_0 19 rfl rfl)
theorem dX0_period_20 : decode cX0_period 20 = .ok (.arraylength, 1) := dk_190 (dk_at dksX0_period_0 20 rfl rfl)
theorem dX0_period_21 : decode cX0_period 21 = .ok (.istore_n 3, 1) := dk_62 (dk_at dksX0_period_0 21 rfl rfl)
theorem dX0_period_22 : decode cX0_period 22 = .ok (.iconst 1, 1) := dk_4 (dk_at dksX0_period_0 22 rfl rfl)
theorem dX0_period_23 : decode cX0_period 23 = .ok (.istore 4, 2) := dk_54 4 (dk_at dksX0_period_1 0 rfl rfl)
theorem dX0_period_25 : decode cX0_period 25 = .ok (.iconst 0, 1) := dk_3 (dk_at dksX0_period_1 2 rfl rfl)
theorem dX0_period_26 : decode cX0_period 26 = .ok (.istore 5, 2) := dk_54 5 (dk_at dksX0_period_1 3 rfl rfl)
theorem dX0_period_28 : decode cX0_period 28 = .ok (.iload 5, 2) := dk_21 5 (dk_at dksX0_period_1 5 rfl rfl)
theorem dX0_period_30 : decode cX0_period 30 = .ok (.ifCond .ne 78, 3) := dk_154 0 78 (dk_at dksX0_period_1 7 rfl rfl)
theorem dX0_period_33 : decode cX0_period 33 = .ok (.iconst 1, 1) := dk_4 (dk_at dksX0_period_1 10 rfl rfl)
theorem dX0_period_34 : decode cX0_period 34 = .ok (.istore 5, 2) := dk_54 5 (dk_at dksX0_period_1 11 rfl rfl)
theorem dX0_period_36 : decode cX0_period 36 = .ok (.iconst 0, 1) := dk_3 (dk_at dksX0_period_1 13 rfl rfl)
theorem dX0_period_37 : decode cX0_period 37 = .ok (.istore 6, 2) := dk_54 6 (dk_at dksX0_period_1 14 rfl rfl)
theorem dX0_period_39 : decode cX0_period 39 = .ok (.iload 6, 2) := dk_21 6 (dk_at dksX0_period_1 16 rfl rfl)
theorem dX0_period_41 : decode cX0_period 41 = .ok (.iload 4, 2) := dk_21 4 (dk_at dksX0_period_1 18 rfl rfl)
theorem dX0_period_43 : decode cX0_period 43 = .ok (.iadd, 1) := dk_96 (dk_at dksX0_period_1 20 rfl rfl)
theorem dX0_period_44 : decode cX0_period 44 = .ok (.iload_n 3, 1) := dk_29 (dk_at dksX0_period_1 21 rfl rfl)
theorem dX0_period_45 : decode cX0_period 45 = .ok (.if_icmp .ge 45, 3) := dk_162 0 45 (dk_at dksX0_period_2 0 rfl rfl)
theorem dX0_period_48 : decode cX0_period 48 = .ok (.iload 5, 2) := dk_21 5 (dk_at dksX0_period_2 3 rfl rfl)
theorem dX0_period_50 : decode cX0_period 50 = .ok (.ifCond .eq 40, 3) := dk_153 0 40 (dk_at dksX0_period_2 5 rfl rfl)
theorem dX0_period_53 : decode cX0_period 53 = .ok (.aload_n 0, 1) := dk_42 (dk_at dksX0_period_2 8 rfl rfl)
theorem dX0_period_54 : decode cX0_period 54 = .ok (.getfield 28, 3) := dk_180 0 28 (dk_at dksX0_period_2 9 rfl rfl)
theorem dX0_period_57 : decode cX0_period 57 = .ok (.iload_n 1, 1) := dk_27 (dk_at dksX0_period_2 12 rfl rfl)
theorem dX0_period_58 : decode cX0_period 58 = .ok (.aaload, 1) := dk_50 (dk_at dksX0_period_2 13 rfl rfl)
theorem dX0_period_59 : decode cX0_period 59 = .ok (.iload 6, 2) := dk_21 6 (dk_at dksX0_period_2 14 rfl rfl)
theorem dX0_period_61 : decode cX0_period 61 = .ok (.iaload, 1) := dk_46 (dk_at dksX0_period_2 16 rfl rfl)
theorem dX0_period_62 : decode cX0_period 62 = .ok (.aload_n 0, 1) := dk_42 (dk_at dksX0_period_2 17 rfl rfl)
theorem dX0_period_63 : decode cX0_period 63 = .ok (.getfield 28, 3) := dk_180 0 28 (dk_at dksX0_period_2 18 rfl rfl)
theorem dX0_period_66 : decode cX0_period 66 = .ok (.iload_n 1, 1) := dk_27 (dk_at dksX0_period_2 21 rfl rfl)
theorem dX0_period_67 : decode cX0_period 67 = .ok (.aaload, 1) := dk_50 (dk_at dksX0_period_2 22 rfl rfl)
theorem dX0_period_68 : decode cX0_period 68 = .ok (.iload 6, 2) := dk_21 6 (dk_at dksX0_period_3 0 rfl rfl)
theorem dX0_period_70 : decode cX0_period 70 = .ok (.iload 4, 2) := dk_21 4 (dk_at dksX0_period_3 2 rfl rfl)
theorem dX0_period_72 : decode cX0_period 72 = .ok (.iadd, 1) := dk_96 (dk_at dksX0_period_3 4 rfl rfl)
theorem dX0_period_73 : decode cX0_period 73 = .ok (.iaload, 1) := dk_46 (dk_at dksX0_period_3 5 rfl rfl)
theorem dX0_period_74 : decode cX0_period 74 = .ok (.if_icmp .ne 7, 3) := dk_160 0 7 (dk_at dksX0_period_3 6 rfl rfl)
theorem dX0_period_77 : decode cX0_period 77 = .ok (.iconst 1, 1) := dk_4 (dk_at dksX0_period_3 9 rfl rfl)
theorem dX0_period_78 : decode cX0_period 78 = .ok (.goto 4, 3) := dk_167 0 4 (dk_at dksX0_period_3 10 rfl rfl)
theorem dX0_period_81 : decode cX0_period 81 = .ok (.iconst 0, 1) := dk_3 (dk_at dksX0_period_3 13 rfl rfl)
theorem dX0_period_82 : decode cX0_period 82 = .ok (.istore 5, 2) := dk_54 5 (dk_at dksX0_period_3 14 rfl rfl)
theorem dX0_period_84 : decode cX0_period 84 = .ok (.iinc 6 1, 3) := dk_132 6 1 (dk_at dksX0_period_3 16 rfl rfl)
theorem dX0_period_87 : decode cX0_period 87 = .ok (.goto (-48), 3) := dk_167 255 208 (dk_at dksX0_period_3 19 rfl rfl)
theorem dX0_period_90 : decode cX0_period 90 = .ok (.iload 4, 2) := dk_21 4 (dk_at dksX0_period_3 22 rfl rfl)
theorem dX0_period_92 : decode cX0_period 92 = .ok (.iload 5, 2) := dk_21 5 (dk_at dksX0_period_4 0 rfl rfl)
theorem dX0_period_94 : decode cX0_period 94 = .ok (.ifCond .eq 7, 3) := dk_153 0 7 (dk_at dksX0_period_4 2 rfl rfl)
theorem dX0_period_97 : decode cX0_period 97 = .ok (.iconst 0, 1) := dk_3 (dk_at dksX0_period_4 5 rfl rfl)
theorem dX0_period_98 : decode cX0_period 98 = .ok (.goto 4, 3) := dk_167 0 4 (dk_at dksX0_period_4 6 rfl rfl)
theorem dX0_period_101 : decode cX0_period 101 = .ok (.iconst 1, 1) := dk_4 (dk_at dksX0_period_4 9 rfl rfl)
theorem dX0_period_102 : decode cX0_period 102 = .ok (.iadd, 1) := dk_96 (dk_at dksX0_period_4 10 rfl rfl)
theorem dX0_period_103 : decode cX0_period 103 = .ok (.istore 4, 2) := dk_54 4 (dk_at dksX0_period_4 11 rfl rfl)
theorem dX0_period_105 : decode cX0_period 105 = .ok (.goto (-77), 3) := dk_167 255 179 (dk_at dksX0_period_4 13 rfl rfl)
theorem dX0_period_108 : decode cX0_period 108 = .ok (.iload 4, 2) := dk_21 4 (dk_at dksX0_period_4 16 rfl rfl)
theorem dX0_period_110 : decode cX0_period 110 = .ok (.ireturn, 1) := dk_172 (dk_at dksX0_period_4 18 rfl rfl)
abbrev cX0_askedLayers : ByteArray := prog_1_method_91_code
def yX0_askedLayers : MethodName := ⟨RX0, "askedLayers", "(II)I"⟩
def dkwX0_askedLayers_4 : List UInt8 := [3, 172]
abbrev dktX0_askedLayers_4 : List UInt8 := dkwX0_askedLayers_4 ++ []
def dkwX0_askedLayers_3 : List UInt8 := [54, 6, 21, 6, 3, 4, 184, 0, 129, 154, 0, 9, 42, 6, 182, 0, 139, 172, 132, 5, 1, 167, 255, 224]
abbrev dktX0_askedLayers_3 : List UInt8 := dkwX0_askedLayers_3 ++ dktX0_askedLayers_4
def dkwX0_askedLayers_2 : List UInt8 := [180, 0, 28, 27, 50, 78, 45, 190, 54, 4, 3, 54, 5, 21, 5, 21, 4, 162, 0, 31, 45, 21, 5, 46]
abbrev dktX0_askedLayers_2 : List UInt8 := dkwX0_askedLayers_2 ++ dktX0_askedLayers_3
def dkwX0_askedLayers_1 : List UInt8 := [42, 180, 0, 28, 27, 50, 190, 4, 28, 184, 0, 129, 154, 0, 9, 42, 8, 182, 0, 139, 172, 42]
abbrev dktX0_askedLayers_1 : List UInt8 := dkwX0_askedLayers_1 ++ dktX0_askedLayers_2
def dkwX0_askedLayers_0 : List UInt8 := [27, 184, 0, 133, 154, 0, 5, 2, 172, 42, 180, 0, 28, 27, 50, 199, 0, 9, 42, 4, 182, 0, 139, 172]
abbrev dktX0_askedLayers_0 : List UInt8 := dkwX0_askedLayers_0 ++ dktX0_askedLayers_1
theorem dksX0_askedLayers_0 : cX0_askedLayers.data.toList.drop 0 = dktX0_askedLayers_0 := by decide +kernel
theorem dksX0_askedLayers_1 : cX0_askedLayers.data.toList.drop 24 = dktX0_askedLayers_1 := dk_seg dksX0_askedLayers_0 24 rfl rfl
theorem dksX0_askedLayers_2 : cX0_askedLayers.data.toList.drop 46 = dktX0_askedLayers_2 := dk_seg dksX0_askedLayers_1 22 rfl rfl
theorem dksX0_askedLayers_3 : cX0_askedLayers.data.toList.drop 70 = dktX0_askedLayers_3 := dk_seg dksX0_askedLayers_2 24 rfl rfl
theorem dksX0_askedLayers_4 : cX0_askedLayers.data.toList.drop 94 = dktX0_askedLayers_4 := dk_seg dksX0_askedLayers_3 24 rfl rfl
theorem dX0_askedLayers_0 : decode cX0_askedLayers 0 = .ok (.iload_n 1, 1) := dk_27 (dk_at dksX0_askedLayers_0 0 rfl rfl)
theorem dX0_askedLayers_1 : decode cX0_askedLayers 1 = .ok (.invokestatic 133, 3) := dk_184 0 133 (dk_at dksX0_askedLayers_0 1 rfl rfl)
theorem dX0_askedLayers_4 : decode cX0_askedLayers 4 = .ok (.ifCond .ne 5, 3) := dk_154 0 5 (dk_at dksX0_askedLayers_0 4 rfl rfl)
theorem dX0_askedLayers_7 : decode cX0_askedLayers 7 = .ok (.iconst (-1), 1) := dk_2 (dk_at dksX0_askedLayers_0 7 rfl rfl)
theorem dX0_askedLayers_8 : decode cX0_askedLayers 8 = .ok (.ireturn, 1) := dk_172 (dk_at dksX0_askedLayers_0 8 rfl rfl)
theorem dX0_askedLayers_9 : decode cX0_askedLayers 9 = .ok (.aload_n 0, 1) := dk_42 (dk_at dksX0_askedLayers_0 9 rfl rfl)
theorem dX0_askedLayers_10 : decode cX0_askedLayers 10 = .ok (.getfield 28, 3) := dk_180 0 28 (dk_at dksX0_askedLayers_0 10 rfl rfl)
theorem dX0_askedLayers_13 : decode cX0_askedLayers 13 = .ok (.iload_n 1, 1) := dk_27 (dk_at dksX0_askedLayers_0 13 rfl rfl)
theorem dX0_askedLayers_14 : decode cX0_askedLayers 14 = .ok (.aaload, 1) := dk_50 (dk_at dksX0_askedLayers_0 14 rfl rfl)
theorem dX0_askedLayers_15 : decode cX0_askedLayers 15 = .ok (.ifnonnull 9, 3) := dk_199 0 9 (dk_at dksX0_askedLayers_0 15 rfl rfl)
theorem dX0_askedLayers_18 : decode cX0_askedLayers 18 = .ok (.aload_n 0, 1) := dk_42 (dk_at dksX0_askedLayers_0 18 rfl rfl)
theorem dX0_askedLayers_19 : decode cX0_askedLayers 19 = .ok (.iconst 1, 1) := dk_4 (dk_at dksX0_askedLayers_0 19 rfl rfl)
theorem dX0_askedLayers_20 : decode cX0_askedLayers 20 = .ok (.invokevirtual 139, 3) := dk_182 0 139 (dk_at dksX0_askedLayers_0 20 rfl rfl)
theorem dX0_askedLayers_23 : decode cX0_askedLayers 23 = .ok (.ireturn, 1) := dk_172 (dk_at dksX0_askedLayers_0 23 rfl rfl)
theorem dX0_askedLayers_24 : decode cX0_askedLayers 24 = .ok (.aload_n 0, 1) := dk_42 (dk_at dksX0_askedLayers_1 0 rfl rfl)
theorem dX0_askedLayers_25 : decode cX0_askedLayers 25 = .ok (.getfield 28, 3) := dk_180 0 28 (dk_at dksX0_askedLayers_1 1 rfl rfl)
theorem dX0_askedLayers_28 : decode cX0_askedLayers 28 = .ok (.iload_n 1, 1) := dk_27 (dk_at dksX0_askedLayers_1 4 rfl rfl)
theorem dX0_askedLayers_29 : decode cX0_askedLayers 29 = .ok (.aaload, 1) := dk_50 (dk_at dksX0_askedLayers_1 5 rfl rfl)
theorem dX0_askedLayers_30 : decode cX0_askedLayers 30 = .ok (.arraylength, 1) := dk_190 (dk_at dksX0_askedLayers_1 6 rfl rfl)
theorem dX0_askedLayers_31 : decode cX0_askedLayers 31 = .ok (.iconst 1, 1) := dk_4 (dk_at dksX0_askedLayers_1 7 rfl rfl)
theorem dX0_askedLayers_32 : decode cX0_askedLayers 32 = .ok (.iload_n 2, 1) := dk_28 (dk_at dksX0_askedLayers_1 8 rfl rfl)
theorem dX0_askedLayers_33 : decode cX0_askedLayers 33 = .ok (.invokestatic 129, 3) := dk_184 0 129 (dk_at dksX0_askedLayers_1 9 rfl rfl)
theorem dX0_askedLayers_36 : decode cX0_askedLayers 36 = .ok (.ifCond .ne 9, 3) := dk_154 0 9 (dk_at dksX0_askedLayers_1 12 rfl rfl)
theorem dX0_askedLayers_39 : decode cX0_askedLayers 39 = .ok (.aload_n 0, 1) := dk_42 (dk_at dksX0_askedLayers_1 15 rfl rfl)
theorem dX0_askedLayers_40 : decode cX0_askedLayers 40 = .ok (.iconst 5, 1) := dk_8 (dk_at dksX0_askedLayers_1 16 rfl rfl)
theorem dX0_askedLayers_41 : decode cX0_askedLayers 41 = .ok (.invokevirtual 139, 3) := dk_182 0 139 (dk_at dksX0_askedLayers_1 17 rfl rfl)
theorem dX0_askedLayers_44 : decode cX0_askedLayers 44 = .ok (.ireturn, 1) := dk_172 (dk_at dksX0_askedLayers_1 20 rfl rfl)
theorem dX0_askedLayers_45 : decode cX0_askedLayers 45 = .ok (.aload_n 0, 1) := dk_42 (dk_at dksX0_askedLayers_1 21 rfl rfl)
theorem dX0_askedLayers_46 : decode cX0_askedLayers 46 = .ok (.getfield 28, 3) := dk_180 0 28 (dk_at dksX0_askedLayers_2 0 rfl rfl)
theorem dX0_askedLayers_49 : decode cX0_askedLayers 49 = .ok (.iload_n 1, 1) := dk_27 (dk_at dksX0_askedLayers_2 3 rfl rfl)
theorem dX0_askedLayers_50 : decode cX0_askedLayers 50 = .ok (.aaload, 1) := dk_50 (dk_at dksX0_askedLayers_2 4 rfl rfl)
theorem dX0_askedLayers_51 : decode cX0_askedLayers 51 = .ok (.astore_n 3, 1) := dk_78 (dk_at dksX0_askedLayers_2 5 rfl rfl)
theorem dX0_askedLayers_52 : decode cX0_askedLayers 52 = .ok (.aload_n 3, 1) := dk_45 (dk_at dksX0_askedLayers_2 6 rfl rfl)
theorem dX0_askedLayers_53 : decode cX0_askedLayers 53 = .ok (.arraylength, 1) := dk_190 (dk_at dksX0_askedLayers_2 7 rfl rfl)
theorem dX0_askedLayers_54 : decode cX0_askedLayers 54 = .ok (.istore 4, 2) := dk_54 4 (dk_at dksX0_askedLayers_2 8 rfl rfl)
theorem dX0_askedLayers_56 : decode cX0_askedLayers 56 = .ok (.iconst 0, 1) := dk_3 (dk_at dksX0_askedLayers_2 10 rfl rfl)
theorem dX0_askedLayers_57 : decode cX0_askedLayers 57 = .ok (.istore 5, 2) := dk_54 5 (dk_at dksX0_askedLayers_2 11 rfl rfl)
theorem dX0_askedLayers_59 : decode cX0_askedLayers 59 = .ok (.iload 5, 2) := dk_21 5 (dk_at dksX0_askedLayers_2 13 rfl rfl)
theorem dX0_askedLayers_61 : decode cX0_askedLayers 61 = .ok (.iload 4, 2) := dk_21 4 (dk_at dksX0_askedLayers_2 15 rfl rfl)
theorem dX0_askedLayers_63 : decode cX0_askedLayers 63 = .ok (.if_icmp .ge 31, 3) := dk_162 0 31 (dk_at dksX0_askedLayers_2 17 rfl rfl)
theorem dX0_askedLayers_66 : decode cX0_askedLayers 66 = .ok (.aload_n 3, 1) := dk_45 (dk_at dksX0_askedLayers_2 20 rfl rfl)
theorem dX0_askedLayers_67 : decode cX0_askedLayers 67 = .ok (.iload 5, 2) := dk_21 5 (dk_at dksX0_askedLayers_2 21 rfl rfl)
theorem dX0_askedLayers_69 : decode cX0_askedLayers 69 = .ok (.iaload, 1) := dk_46 (dk_at dksX0_askedLayers_2 23 rfl rfl)
theorem dX0_askedLayers_70 : decode cX0_askedLayers 70 = .ok (.istore 6, 2) := dk_54 6 (dk_at dksX0_askedLayers_3 0 rfl rfl)
theorem dX0_askedLayers_72 : decode cX0_askedLayers 72 = .ok (.iload 6, 2) := dk_21 6 (dk_at dksX0_askedLayers_3 2 rfl rfl)
theorem dX0_askedLayers_74 : decode cX0_askedLayers 74 = .ok (.iconst 0, 1) := dk_3 (dk_at dksX0_askedLayers_3 4 rfl rfl)
theorem dX0_askedLayers_75 : decode cX0_askedLayers 75 = .ok (.iconst 1, 1) := dk_4 (dk_at dksX0_askedLayers_3 5 rfl rfl)
theorem dX0_askedLayers_76 : decode cX0_askedLayers 76 = .ok (.invokestatic 129, 3) := dk_184 0 129 (dk_at dksX0_askedLayers_3 6 rfl rfl)
theorem dX0_askedLayers_79 : decode cX0_askedLayers 79 = .ok (.ifCond .ne 9, 3) := dk_154 0 9 (dk_at dksX0_askedLayers_3 9 rfl rfl)
theorem dX0_askedLayers_82 : decode cX0_askedLayers 82 = .ok (.aload_n 0, 1) := dk_42 (dk_at dksX0_askedLayers_3 12 rfl rfl)
theorem dX0_askedLayers_83 : decode cX0_askedLayers 83 = .ok (.iconst 3, 1) := dk_6 (dk_at dksX0_askedLayers_3 13 rfl rfl)
theorem dX0_askedLayers_84 : decode cX0_askedLayers 84 = .ok (.invokevirtual 139, 3) := dk_182 0 139 (dk_at dksX0_askedLayers_3 14 rfl rfl)
theorem dX0_askedLayers_87 : decode cX0_askedLayers 87 = .ok (.ireturn, 1) := dk_172 (dk_at dksX0_askedLayers_3 17 rfl rfl)
theorem dX0_askedLayers_88 : decode cX0_askedLayers 88 = .ok (.iinc 5 1, 3) := dk_132 5 1 (dk_at dksX0_askedLayers_3 18 rfl rfl)
theorem dX0_askedLayers_91 : decode cX0_askedLayers 91 = .ok (.goto (-32), 3) := dk_167 255 224 (dk_at dksX0_askedLayers_3 21 rfl rfl)
theorem dX0_askedLayers_94 : decode cX0_askedLayers 94 = .ok (.iconst 0, 1) := dk_3 (dk_at dksX0_askedLayers_4 0 rfl rfl)
theorem dX0_askedLayers_95 : decode cX0_askedLayers 95 = .ok (.ireturn, 1) := dk_172 (dk_at dksX0_askedLayers_4 1 rfl rfl)
abbrev cX0_guess : ByteArray := prog_1_method_94_code
def yX0_guess : MethodName := ⟨RX0, "guess", "(I)I"⟩
def dkwX0_guess_5 : List UInt8 := [132, 5, 1, 167, 255, 160, 42, 21, 4, 29, 182, 0, 147, 172]
abbrev dktX0_guess_5 : List UInt8 := dkwX0_guess_5 ++ []
def dkwX0_guess_4 : List UInt8 := [96, 167, 0, 5, 21, 4, 54, 4, 132, 3, 1, 132, 7, 1, 167, 255, 192, 132, 6, 1, 167, 255, 176]
abbrev dktX0_guess_4 : List UInt8 := dkwX0_guess_4 ++ dktX0_guess_5
def dkwX0_guess_3 : List UInt8 := [184, 1, 240, 153, 0, 32, 29, 154, 0, 21, 17, 39, 16, 21, 5, 104, 16, 100, 21, 6, 104, 96, 21, 7]
abbrev dktX0_guess_3 : List UInt8 := dkwX0_guess_3 ++ dktX0_guess_4
def dkwX0_guess_2 : List UInt8 := [21, 6, 4, 96, 184, 0, 207, 163, 0, 56, 42, 180, 0, 28, 27, 50, 21, 5, 21, 6, 21, 7]
abbrev dktX0_guess_2 : List UInt8 := dkwX0_guess_2 ++ dktX0_guess_3
def dkwX0_guess_1 : List UInt8 := [21, 5, 16, 9, 163, 0, 95, 3, 54, 6, 21, 6, 16, 60, 163, 0, 79, 4, 54, 7, 21, 7, 16, 60]
abbrev dktX0_guess_1 : List UInt8 := dkwX0_guess_1 ++ dktX0_guess_2
def dkwX0_guess_0 : List UInt8 := [42, 27, 16, 40, 182, 1, 237, 61, 28, 156, 0, 5, 28, 172, 3, 62, 16, 247, 54, 4, 4, 54, 5]
abbrev dktX0_guess_0 : List UInt8 := dkwX0_guess_0 ++ dktX0_guess_1
theorem dksX0_guess_0 : cX0_guess.data.toList.drop 0 = dktX0_guess_0 := by decide +kernel
theorem dksX0_guess_1 : cX0_guess.data.toList.drop 23 = dktX0_guess_1 := dk_seg dksX0_guess_0 23 rfl rfl
theorem dksX0_guess_2 : cX0_guess.data.toList.drop 47 = dktX0_guess_2 := dk_seg dksX0_guess_1 24 rfl rfl
theorem dksX0_guess_3 : cX0_guess.data.toList.drop 69 = dktX0_guess_3 := dk_seg dksX0_guess_2 22 rfl rfl
theorem dksX0_guess_4 : cX0_guess.data.toList.drop 93 = dktX0_guess_4 := dk_seg dksX0_guess_3 24 rfl rfl
theorem dksX0_guess_5 : cX0_guess.data.toList.drop 116 = dktX0_guess_5 := dk_seg dksX0_guess_4 23 rfl rfl
theorem dX0_guess_0 : decode cX0_guess 0 = .ok (.aload_n 0, 1) := dk_42 (dk_at dksX0_guess_0 0 rfl rfl)
theorem dX0_guess_1 : decode cX0_guess 1 = .ok (.iload_n 1, 1) := dk_27 (dk_at dksX0_guess_0 1 rfl rfl)
theorem dX0_guess_2 : decode cX0_guess 2 = .ok (.bipush 40, 2) := dk_16 40 (dk_at dksX0_guess_0 2 rfl rfl)
theorem dX0_guess_4 : decode cX0_guess 4 = .ok (.invokevirtual 493, 3) := dk_182 1 237 (dk_at dksX0_guess_0 4 rfl rfl)
theorem dX0_guess_7 : decode cX0_guess 7 = .ok (.istore_n 2, 1) := dk_61 (dk_at dksX0_guess_0 7 rfl rfl)
theorem dX0_guess_8 : decode cX0_guess 8 = .ok (.iload_n 2, 1) := dk_28 (dk_at dksX0_guess_0 8 rfl rfl)
theorem dX0_guess_9 : decode cX0_guess 9 = .ok (.ifCond .ge 5, 3) := dk_156 0 5 (dk_at dksX0_guess_0 9 rfl rfl)
theorem dX0_guess_12 : decode cX0_guess 12 = .ok (.iload_n 2, 1) := dk_28 (dk_at dksX0_guess_0 12 rfl rfl)
theorem dX0_guess_13 : decode cX0_guess 13 = .ok (.ireturn, 1) := dk_172 (dk_at dksX0_guess_0 13 rfl rfl)
theorem dX0_guess_14 : decode cX0_guess 14 = .ok (.iconst 0, 1) := dk_3 (dk_at dksX0_guess_0 14 rfl rfl)
theorem dX0_guess_15 : decode cX0_guess 15 = .ok (.istore_n 3, 1) := dk_62 (dk_at dksX0_guess_0 15 rfl rfl)
theorem dX0_guess_16 : decode cX0_guess 16 = .ok (.bipush (-9), 2) := dk_16 247 (dk_at dksX0_guess_0 16 rfl rfl)
theorem dX0_guess_18 : decode cX0_guess 18 = .ok (.istore 4, 2) := dk_54 4 (dk_at dksX0_guess_0 18 rfl rfl)
theorem dX0_guess_20 : decode cX0_guess 20 = .ok (.iconst 1, 1) := dk_4 (dk_at dksX0_guess_0 20 rfl rfl)
theorem dX0_guess_21 : decode cX0_guess 21 = .ok (.istore 5, 2) := dk_54 5 (dk_at dksX0_guess_0 21 rfl rfl)
theorem dX0_guess_23 : decode cX0_guess 23 = .ok (.iload 5, 2) := dk_21 5 (dk_at dksX0_guess_1 0 rfl rfl)
theorem dX0_guess_25 : decode cX0_guess 25 = .ok (.bipush 9, 2) := dk_16 9 (dk_at dksX0_guess_1 2 rfl rfl)
theorem dX0_guess_27 : decode cX0_guess 27 = .ok (.if_icmp .gt 95, 3) := dk_163 0 95 (dk_at dksX0_guess_1 4 rfl rfl)
theorem dX0_guess_30 : decode cX0_guess 30 = .ok (.iconst 0, 1) := dk_3 (dk_at dksX0_guess_1 7 rfl rfl)
theorem dX0_guess_31 : decode cX0_guess 31 = .ok (.istore 6, 2) := dk_54 6 (dk_at dksX0_guess_1 8 rfl rfl)
theorem dX0_guess_33 : decode cX0_guess 33 = .ok (.iload 6, 2) := dk_21 6 (dk_at dksX0_guess_1 10 rfl rfl)
theorem dX0_guess_35 : decode cX0_guess 35 = .ok (.bipush 60, 2) := dk_16 60 (dk_at dksX0_guess_1 12 rfl rfl)
theorem dX0_guess_37 : decode cX0_guess 37 = .ok (.if_icmp .gt 79, 3) := dk_163 0 79 (dk_at dksX0_guess_1 14 rfl rfl)
theorem dX0_guess_40 : decode cX0_guess 40 = .ok (.iconst 1, 1) := dk_4 (dk_at dksX0_guess_1 17 rfl rfl)
theorem dX0_guess_41 : decode cX0_guess 41 = .ok (.istore 7, 2) := dk_54 7 (dk_at dksX0_guess_1 18 rfl rfl)
theorem dX0_guess_43 : decode cX0_guess 43 = .ok (.iload 7, 2) := dk_21 7 (dk_at dksX0_guess_1 20 rfl rfl)
theorem dX0_guess_45 : decode cX0_guess 45 = .ok (.bipush 60, 2) := dk_16 60 (dk_at dksX0_guess_1 22 rfl rfl)
theorem dX0_guess_47 : decode cX0_guess 47 = .ok (.iload 6, 2) := dk_21 6 (dk_at dksX0_guess_2 0 rfl rfl)
theorem dX0_guess_49 : decode cX0_guess 49 = .ok (.iconst 1, 1) := dk_4 (dk_at dksX0_guess_2 2 rfl rfl)
theorem dX0_guess_50 : decode cX0_guess 50 = .ok (.iadd, 1) := dk_96 (dk_at dksX0_guess_2 3 rfl rfl)
theorem dX0_guess_51 : decode cX0_guess 51 = .ok (.invokestatic 207, 3) := dk_184 0 207 (dk_at dksX0_guess_2 4 rfl rfl)
theorem dX0_guess_54 : decode cX0_guess 54 = .ok (.if_icmp .gt 56, 3) := dk_163 0 56 (dk_at dksX0_guess_2 7 rfl rfl)
theorem dX0_guess_57 : decode cX0_guess 57 = .ok (.aload_n 0, 1) := dk_42 (dk_at dksX0_guess_2 10 rfl rfl)
theorem dX0_guess_58 : decode cX0_guess 58 = .ok (.getfield 28, 3) := dk_180 0 28 (dk_at dksX0_guess_2 11 rfl rfl)
theorem dX0_guess_61 : decode cX0_guess 61 = .ok (.iload_n 1, 1) := dk_27 (dk_at dksX0_guess_2 14 rfl rfl)
theorem dX0_guess_62 : decode cX0_guess 62 = .ok (.aaload, 1) := dk_50 (dk_at dksX0_guess_2 15 rfl rfl)
theorem dX0_guess_63 : decode cX0_guess 63 = .ok (.iload 5, 2) := dk_21 5 (dk_at dksX0_guess_2 16 rfl rfl)
theorem dX0_guess_65 : decode cX0_guess 65 = .ok (.iload 6, 2) := dk_21 6 (dk_at dksX0_guess_2 18 rfl rfl)
theorem dX0_guess_67 : decode cX0_guess 67 = .ok (.iload 7, 2) := dk_21 7 (dk_at dksX0_guess_2 20 rfl rfl)
theorem dX0_guess_69 : decode cX0_guess 69 = .ok (.invokestatic 496, 3) := dk_184 1 240 (dk_at dksX0_guess_3 0 rfl rfl)
theorem dX0_guess_72 : decode cX0_guess 72 = .ok (.ifCond .eq 32, 3) := dk_153 0 32 (dk_at dksX0_guess_3 3 rfl rfl)
theorem dX0_guess_75 : decode cX0_guess 75 = .ok (.iload_n 3, 1) := dk_29 (dk_at dksX0_guess_3 6 rfl rfl)
theorem dX0_guess_76 : decode cX0_guess 76 = .ok (.ifCond .ne 21, 3) := dk_154 0 21 (dk_at dksX0_guess_3 7 rfl rfl)
theorem dX0_guess_79 : decode cX0_guess 79 = .ok (.sipush 10000, 3) := dk_17 39 16 (dk_at dksX0_guess_3 10 rfl rfl)
theorem dX0_guess_82 : decode cX0_guess 82 = .ok (.iload 5, 2) := dk_21 5 (dk_at dksX0_guess_3 13 rfl rfl)
theorem dX0_guess_84 : decode cX0_guess 84 = .ok (.imul, 1) := dk_104 (dk_at dksX0_guess_3 15 rfl rfl)
theorem dX0_guess_85 : decode cX0_guess 85 = .ok (.bipush 100, 2) := dk_16 100 (dk_at dksX0_guess_3 16 rfl rfl)
theorem dX0_guess_87 : decode cX0_guess 87 = .ok (.iload 6, 2) := dk_21 6 (dk_at dksX0_guess_3 18 rfl rfl)
theorem dX0_guess_89 : decode cX0_guess 89 = .ok (.imul, 1) := dk_104 (dk_at dksX0_guess_3 20 rfl rfl)
theorem dX0_guess_90 : decode cX0_guess 90 = .ok (.iadd, 1) := dk_96 (dk_at dksX0_guess_3 21 rfl rfl)
theorem dX0_guess_91 : decode cX0_guess 91 = .ok (.iload 7, 2) := dk_21 7 (dk_at dksX0_guess_3 22 rfl rfl)
theorem dX0_guess_93 : decode cX0_guess 93 = .ok (.iadd, 1) := dk_96 (dk_at dksX0_guess_4 0 rfl rfl)
theorem dX0_guess_94 : decode cX0_guess 94 = .ok (.goto 5, 3) := dk_167 0 5 (dk_at dksX0_guess_4 1 rfl rfl)
theorem dX0_guess_97 : decode cX0_guess 97 = .ok (.iload 4, 2) := dk_21 4 (dk_at dksX0_guess_4 4 rfl rfl)
theorem dX0_guess_99 : decode cX0_guess 99 = .ok (.istore 4, 2) := dk_54 4 (dk_at dksX0_guess_4 6 rfl rfl)
theorem dX0_guess_101 : decode cX0_guess 101 = .ok (.iinc 3 1, 3) := dk_132 3 1 (dk_at dksX0_guess_4 8 rfl rfl)
theorem dX0_guess_104 : decode cX0_guess 104 = .ok (.iinc 7 1, 3) := dk_132 7 1 (dk_at dksX0_guess_4 11 rfl rfl)
theorem dX0_guess_107 : decode cX0_guess 107 = .ok (.goto (-64), 3) := dk_167 255 192 (dk_at dksX0_guess_4 14 rfl rfl)
theorem dX0_guess_110 : decode cX0_guess 110 = .ok (.iinc 6 1, 3) := dk_132 6 1 (dk_at dksX0_guess_4 17 rfl rfl)
theorem dX0_guess_113 : decode cX0_guess 113 = .ok (.goto (-80), 3) := dk_167 255 176 (dk_at dksX0_guess_4 20 rfl rfl)
theorem dX0_guess_116 : decode cX0_guess 116 = .ok (.iinc 5 1, 3) := dk_132 5 1 (dk_at dksX0_guess_5 0 rfl rfl)
theorem dX0_guess_119 : decode cX0_guess 119 = .ok (.goto (-96), 3) := dk_167 255 160 (dk_at dksX0_guess_5 3 rfl rfl)
theorem dX0_guess_122 : decode cX0_guess 122 = .ok (.aload_n 0, 1) := dk_42 (dk_at dksX0_guess_5 6 rfl rfl)
theorem dX0_guess_123 : decode cX0_guess 123 = .ok (.iload 4, 2) := dk_21 4 (dk_at dksX0_guess_5 7 rfl rfl)
theorem dX0_guess_125 : decode cX0_guess 125 = .ok (.iload_n 3, 1) := dk_29 (dk_at dksX0_guess_5 9 rfl rfl)
theorem dX0_guess_126 : decode cX0_guess 126 = .ok (.invokevirtual 147, 3) := dk_182 0 147 (dk_at dksX0_guess_5 10 rfl rfl)
theorem dX0_guess_129 : decode cX0_guess 129 = .ok (.ireturn, 1) := dk_172 (dk_at dksX0_guess_5 13 rfl rfl)
abbrev cX0_fits : ByteArray := prog_1_method_93_code
def yX0_fits : MethodName := ⟨RX0, "fits", "([IIII)Z"⟩
def dkwX0_fits_3 : List UInt8 := [4, 160, 0, 7, 29, 167, 0, 4, 3, 100, 54, 4, 132, 7, 1, 167, 255, 185, 4, 172]
abbrev dktX0_fits_3 : List UInt8 := dkwX0_fits_3 ++ []
def dkwX0_fits_2 : List UInt8 := [167, 0, 4, 3, 21, 8, 4, 160, 0, 7, 4, 167, 0, 4, 3, 159, 0, 5, 3, 172, 21, 4, 21, 8]
abbrev dktX0_fits_2 : List UInt8 := dkwX0_fits_2 ++ dktX0_fits_3
def dkwX0_fits_1 : List UInt8 := [21, 7, 46, 54, 8, 16, 60, 21, 4, 27, 96, 184, 0, 207, 54, 4, 21, 4, 28, 164, 0, 7, 4]
abbrev dktX0_fits_1 : List UInt8 := dkwX0_fits_1 ++ dktX0_fits_2
def dkwX0_fits_0 : List UInt8 := [3, 54, 4, 42, 58, 5, 25, 5, 190, 54, 6, 3, 54, 7, 21, 7, 21, 6, 162, 0, 70, 25, 5]
abbrev dktX0_fits_0 : List UInt8 := dkwX0_fits_0 ++ dktX0_fits_1
theorem dksX0_fits_0 : cX0_fits.data.toList.drop 0 = dktX0_fits_0 := by decide +kernel
theorem dksX0_fits_1 : cX0_fits.data.toList.drop 23 = dktX0_fits_1 := dk_seg dksX0_fits_0 23 rfl rfl
theorem dksX0_fits_2 : cX0_fits.data.toList.drop 46 = dktX0_fits_2 := dk_seg dksX0_fits_1 23 rfl rfl
theorem dksX0_fits_3 : cX0_fits.data.toList.drop 70 = dktX0_fits_3 := dk_seg dksX0_fits_2 24 rfl rfl
theorem dX0_fits_0 : decode cX0_fits 0 = .ok (.iconst 0, 1) := dk_3 (dk_at dksX0_fits_0 0 rfl rfl)
theorem dX0_fits_1 : decode cX0_fits 1 = .ok (.istore 4, 2) := dk_54 4 (dk_at dksX0_fits_0 1 rfl rfl)
theorem dX0_fits_3 : decode cX0_fits 3 = .ok (.aload_n 0, 1) := dk_42 (dk_at dksX0_fits_0 3 rfl rfl)
theorem dX0_fits_4 : decode cX0_fits 4 = .ok (.astore 5, 2) := dk_58 5 (dk_at dksX0_fits_0 4 rfl rfl)
theorem dX0_fits_6 : decode cX0_fits 6 = .ok (.aload 5, 2) := dk_25 5 (dk_at dksX0_fits_0 6 rfl rfl)
theorem dX0_fits_8 : decode cX0_fits 8 = .ok (.arraylength, 1) := dk_190 (dk_at dksX0_fits_0 8 rfl rfl)
theorem dX0_fits_9 : decode cX0_fits 9 = .ok (.istore 6, 2) := dk_54 6 (dk_at dksX0_fits_0 9 rfl rfl)
theorem dX0_fits_11 : decode cX0_fits 11 = .ok (.iconst 0, 1) := dk_3 (dk_at dksX0_fits_0 11 rfl rfl)
theorem dX0_fits_12 : decode cX0_fits 12 = .ok (.istore 7, 2) := dk_54 7 (dk_at dksX0_fits_0 12 rfl rfl)
theorem dX0_fits_14 : decode cX0_fits 14 = .ok (.iload 7, 2) := dk_21 7 (dk_at dksX0_fits_0 14 rfl rfl)
theorem dX0_fits_16 : decode cX0_fits 16 = .ok (.iload 6, 2) := dk_21 6 (dk_at dksX0_fits_0 16 rfl rfl)
theorem dX0_fits_18 : decode cX0_fits 18 = .ok (.if_icmp .ge 70, 3) := dk_162 0 70 (dk_at dksX0_fits_0 18 rfl rfl)
theorem dX0_fits_21 : decode cX0_fits 21 = .ok (.aload 5, 2) := dk_25 5 (dk_at dksX0_fits_0 21 rfl rfl)
theorem dX0_fits_23 : decode cX0_fits 23 = .ok (.iload 7, 2) := dk_21 7 (dk_at dksX0_fits_1 0 rfl rfl)
theorem dX0_fits_25 : decode cX0_fits 25 = .ok (.iaload, 1) := dk_46 (dk_at dksX0_fits_1 2 rfl rfl)
theorem dX0_fits_26 : decode cX0_fits 26 = .ok (.istore 8, 2) := dk_54 8 (dk_at dksX0_fits_1 3 rfl rfl)
theorem dX0_fits_28 : decode cX0_fits 28 = .ok (.bipush 60, 2) := dk_16 60 (dk_at dksX0_fits_1 5 rfl rfl)
theorem dX0_fits_30 : decode cX0_fits 30 = .ok (.iload 4, 2) := dk_21 4 (dk_at dksX0_fits_1 7 rfl rfl)
theorem dX0_fits_32 : decode cX0_fits 32 = .ok (.iload_n 1, 1) := dk_27 (dk_at dksX0_fits_1 9 rfl rfl)
theorem dX0_fits_33 : decode cX0_fits 33 = .ok (.iadd, 1) := dk_96 (dk_at dksX0_fits_1 10 rfl rfl)
theorem dX0_fits_34 : decode cX0_fits 34 = .ok (.invokestatic 207, 3) := dk_184 0 207 (dk_at dksX0_fits_1 11 rfl rfl)
theorem dX0_fits_37 : decode cX0_fits 37 = .ok (.istore 4, 2) := dk_54 4 (dk_at dksX0_fits_1 14 rfl rfl)
theorem dX0_fits_39 : decode cX0_fits 39 = .ok (.iload 4, 2) := dk_21 4 (dk_at dksX0_fits_1 16 rfl rfl)
theorem dX0_fits_41 : decode cX0_fits 41 = .ok (.iload_n 2, 1) := dk_28 (dk_at dksX0_fits_1 18 rfl rfl)
theorem dX0_fits_42 : decode cX0_fits 42 = .ok (.if_icmp .le 7, 3) := dk_164 0 7 (dk_at dksX0_fits_1 19 rfl rfl)
theorem dX0_fits_45 : decode cX0_fits 45 = .ok (.iconst 1, 1) := dk_4 (dk_at dksX0_fits_1 22 rfl rfl)
theorem dX0_fits_46 : decode cX0_fits 46 = .ok (.goto 4, 3) := dk_167 0 4 (dk_at dksX0_fits_2 0 rfl rfl)
theorem dX0_fits_49 : decode cX0_fits 49 = .ok (.iconst 0, 1) := dk_3 (dk_at dksX0_fits_2 3 rfl rfl)
theorem dX0_fits_50 : decode cX0_fits 50 = .ok (.iload 8, 2) := dk_21 8 (dk_at dksX0_fits_2 4 rfl rfl)
theorem dX0_fits_52 : decode cX0_fits 52 = .ok (.iconst 1, 1) := dk_4 (dk_at dksX0_fits_2 6 rfl rfl)
theorem dX0_fits_53 : decode cX0_fits 53 = .ok (.if_icmp .ne 7, 3) := dk_160 0 7 (dk_at dksX0_fits_2 7 rfl rfl)
theorem dX0_fits_56 : decode cX0_fits 56 = .ok (.iconst 1, 1) := dk_4 (dk_at dksX0_fits_2 10 rfl rfl)
theorem dX0_fits_57 : decode cX0_fits 57 = .ok (.goto 4, 3) := dk_167 0 4 (dk_at dksX0_fits_2 11 rfl rfl)
theorem dX0_fits_60 : decode cX0_fits 60 = .ok (.iconst 0, 1) := dk_3 (dk_at dksX0_fits_2 14 rfl rfl)
theorem dX0_fits_61 : decode cX0_fits 61 = .ok (.if_icmp .eq 5, 3) := dk_159 0 5 (dk_at dksX0_fits_2 15 rfl rfl)
theorem dX0_fits_64 : decode cX0_fits 64 = .ok (.iconst 0, 1) := dk_3 (dk_at dksX0_fits_2 18 rfl rfl)
theorem dX0_fits_65 : decode cX0_fits 65 = .ok (.ireturn, 1) := dk_172 (dk_at dksX0_fits_2 19 rfl rfl)
theorem dX0_fits_66 : decode cX0_fits 66 = .ok (.iload 4, 2) := dk_21 4 (dk_at dksX0_fits_2 20 rfl rfl)
theorem dX0_fits_68 : decode cX0_fits 68 = .ok (.iload 8, 2) := dk_21 8 (dk_at dksX0_fits_2 22 rfl rfl)
theorem dX0_fits_70 : decode cX0_fits 70 = .ok (.iconst 1, 1) := dk_4 (dk_at dksX0_fits_3 0 rfl rfl)
theorem dX0_fits_71 : decode cX0_fits 71 = .ok (.if_icmp .ne 7, 3) := dk_160 0 7 (dk_at dksX0_fits_3 1 rfl rfl)
theorem dX0_fits_74 : decode cX0_fits 74 = .ok (.iload_n 3, 1) := dk_29 (dk_at dksX0_fits_3 4 rfl rfl)
theorem dX0_fits_75 : decode cX0_fits 75 = .ok (.goto 4, 3) := dk_167 0 4 (dk_at dksX0_fits_3 5 rfl rfl)
theorem dX0_fits_78 : decode cX0_fits 78 = .ok (.iconst 0, 1) := dk_3 (dk_at dksX0_fits_3 8 rfl rfl)
theorem dX0_fits_79 : decode cX0_fits 79 = .ok (.isub, 1) := dk_100 (dk_at dksX0_fits_3 9 rfl rfl)
theorem dX0_fits_80 : decode cX0_fits 80 = .ok (.istore 4, 2) := dk_54 4 (dk_at dksX0_fits_3 10 rfl rfl)
theorem dX0_fits_82 : decode cX0_fits 82 = .ok (.iinc 7 1, 3) := dk_132 7 1 (dk_at dksX0_fits_3 12 rfl rfl)
theorem dX0_fits_85 : decode cX0_fits 85 = .ok (.goto (-71), 3) := dk_167 255 185 (dk_at dksX0_fits_3 15 rfl rfl)
theorem dX0_fits_88 : decode cX0_fits 88 = .ok (.iconst 1, 1) := dk_4 (dk_at dksX0_fits_3 18 rfl rfl)
theorem dX0_fits_89 : decode cX0_fits 89 = .ok (.ireturn, 1) := dk_172 (dk_at dksX0_fits_3 19 rfl rfl)
abbrev cX0_plan : ByteArray := prog_1_method_95_code
def yX0_plan : MethodName := ⟨RX0, "plan", "(II)I"⟩
def dkwX0_plan_8 : List UInt8 := [172]
abbrev dktX0_plan_8 : List UInt8 := dkwX0_plan_8 ++ []
def dkwX0_plan_7 : List UInt8 := [132, 5, 1, 167, 255, 127, 29, 16, 247, 160, 0, 8, 16, 247, 167, 0, 10, 42, 29, 21, 4, 182, 0, 147]
abbrev dktX0_plan_7 : List UInt8 := dkwX0_plan_7 ++ dktX0_plan_8
def dkwX0_plan_6 : List UInt8 := [167, 255, 181, 21, 7, 28, 161, 0, 17, 21, 6, 21, 4, 164, 0, 10, 21, 5, 62, 21, 6, 54, 4]
abbrev dktX0_plan_6 : List UInt8 := dkwX0_plan_6 ++ dktX0_plan_7
def dkwX0_plan_5 : List UInt8 := [167, 0, 4, 3, 96, 54, 6, 21, 7, 42, 180, 0, 90, 180, 1, 143, 96, 54, 7, 132, 8, 1]
abbrev dktX0_plan_5 : List UInt8 := dkwX0_plan_5 ++ dktX0_plan_6
def dkwX0_plan_4 : List UInt8 := [182, 1, 146, 21, 6, 21, 5, 21, 8, 184, 1, 89, 153, 0, 13, 42, 180, 0, 90, 180, 1, 118]
abbrev dktX0_plan_4 : List UInt8 := dkwX0_plan_4 ++ dktX0_plan_5
def dkwX0_plan_3 : List UInt8 := [180, 0, 90, 42, 42, 180, 0, 90, 180, 1, 23, 4, 96, 182, 1, 153, 21, 5, 21, 8, 184, 1, 89]
abbrev dktX0_plan_3 : List UInt8 := dkwX0_plan_3 ++ dktX0_plan_4
def dkwX0_plan_2 : List UInt8 := [180, 0, 86, 182, 1, 173, 3, 54, 6, 3, 54, 7, 3, 54, 8, 21, 8, 27, 162, 0, 75, 42, 42]
abbrev dktX0_plan_2 : List UInt8 := dkwX0_plan_2 ++ dktX0_plan_3
def dkwX0_plan_1 : List UInt8 := [16, 247, 62, 16, 247, 54, 4, 3, 54, 5, 21, 5, 4, 27, 120, 162, 0, 127, 42, 180, 0, 90, 42]
abbrev dktX0_plan_1 : List UInt8 := dkwX0_plan_1 ++ dktX0_plan_2
def dkwX0_plan_0 : List UInt8 := [27, 4, 16, 10, 184, 0, 129, 153, 0, 14, 28, 3, 17, 39, 15, 184, 0, 129, 154, 0, 5, 2, 172]
abbrev dktX0_plan_0 : List UInt8 := dkwX0_plan_0 ++ dktX0_plan_1
theorem dksX0_plan_0 : cX0_plan.data.toList.drop 0 = dktX0_plan_0 := by decide +kernel
theorem dksX0_plan_1 : cX0_plan.data.toList.drop 23 = dktX0_plan_1 := dk_seg dksX0_plan_0 23 rfl rfl
theorem dksX0_plan_2 : cX0_plan.data.toList.drop 46 = dktX0_plan_2 := dk_seg dksX0_plan_1 23 rfl rfl
theorem dksX0_plan_3 : cX0_plan.data.toList.drop 69 = dktX0_plan_3 := dk_seg dksX0_plan_2 23 rfl rfl
theorem dksX0_plan_4 : cX0_plan.data.toList.drop 92 = dktX0_plan_4 := dk_seg dksX0_plan_3 23 rfl rfl
theorem dksX0_plan_5 : cX0_plan.data.toList.drop 114 = dktX0_plan_5 := dk_seg dksX0_plan_4 22 rfl rfl
theorem dksX0_plan_6 : cX0_plan.data.toList.drop 136 = dktX0_plan_6 := dk_seg dksX0_plan_5 22 rfl rfl
theorem dksX0_plan_7 : cX0_plan.data.toList.drop 159 = dktX0_plan_7 := dk_seg dksX0_plan_6 23 rfl rfl
theorem dksX0_plan_8 : cX0_plan.data.toList.drop 183 = dktX0_plan_8 := dk_seg dksX0_plan_7 24 rfl rfl
theorem dX0_plan_0 : decode cX0_plan 0 = .ok (.iload_n 1, 1) := dk_27 (dk_at dksX0_plan_0 0 rfl rfl)
theorem dX0_plan_1 : decode cX0_plan 1 = .ok (.iconst 1, 1) := dk_4 (dk_at dksX0_plan_0 1 rfl rfl)
theorem dX0_plan_2 : decode cX0_plan 2 = .ok (.bipush 10, 2) := dk_16 10 (dk_at dksX0_plan_0 2 rfl rfl)
theorem dX0_plan_4 : decode cX0_plan 4 = .ok (.invokestatic 129, 3) := dk_184 0 129 (dk_at dksX0_plan_0 4 rfl rfl)
theorem dX0_plan_7 : decode cX0_plan 7 = .ok (.ifCond .eq 14, 3) := dk_153 0 14 (dk_at dksX0_plan_0 7 rfl rfl)
theorem dX0_plan_10 : decode cX0_plan 10 = .ok (.iload_n 2, 1) := dk_28 (dk_at dksX0_plan_0 10 rfl rfl)
theorem dX0_plan_11 : decode cX0_plan 11 = .ok (.iconst 0, 1) := dk_3 (dk_at dksX0_plan_0 11 rfl rfl)
theorem dX0_plan_12 : decode cX0_plan 12 = .ok (.sipush 9999, 3) := dk_17 39 15 (dk_at dksX0_plan_0 12 rfl rfl)
theorem dX0_plan_15 : decode cX0_plan 15 = .ok (.invokestatic 129, 3) := dk_184 0 129 (dk_at dksX0_plan_0 15 rfl rfl)
theorem dX0_plan_18 : decode cX0_plan 18 = .ok (.ifCond .ne 5, 3) := dk_154 0 5 (dk_at dksX0_plan_0 18 rfl rfl)
theorem dX0_plan_21 : decode cX0_plan 21 = .ok (.iconst (-1), 1) := dk_2 (dk_at dksX0_plan_0 21 rfl rfl)
theorem dX0_plan_22 : decode cX0_plan 22 = .ok (.ireturn, 1) := dk_172 (dk_at dksX0_plan_0 22 rfl rfl)
theorem dX0_plan_23 : decode cX0_plan 23 = .ok (.bipush (-9), 2) := dk_16 247 (dk_at dksX0_plan_1 0 rfl rfl)
theorem dX0_plan_25 : decode cX0_plan 25 = .ok (.istore_n 3, 1) := dk_62 (dk_at dksX0_plan_1 2 rfl rfl)
theorem dX0_plan_26 : decode cX0_plan 26 = .ok (.bipush (-9), 2) := dk_16 247 (dk_at dksX0_plan_1 3 rfl rfl)
theorem dX0_plan_28 : decode cX0_plan 28 = .ok (.istore 4, 2) := dk_54 4 (dk_at dksX0_plan_1 5 rfl rfl)
theorem dX0_plan_30 : decode cX0_plan 30 = .ok (.iconst 0, 1) := dk_3 (dk_at dksX0_plan_1 7 rfl rfl)
theorem dX0_plan_31 : decode cX0_plan 31 = .ok (.istore 5, 2) := dk_54 5 (dk_at dksX0_plan_1 8 rfl rfl)
theorem dX0_plan_33 : decode cX0_plan 33 = .ok (.iload 5, 2) := dk_21 5 (dk_at dksX0_plan_1 10 rfl rfl)
theorem dX0_plan_35 : decode cX0_plan 35 = .ok (.iconst 1, 1) := dk_4 (dk_at dksX0_plan_1 12 rfl rfl)
theorem dX0_plan_36 : decode cX0_plan 36 = .ok (.iload_n 1, 1) := dk_27 (dk_at dksX0_plan_1 13 rfl rfl)
theorem dX0_plan_37 : decode cX0_plan 37 = .ok (.ishl, 1) := dk_120 (dk_at dksX0_plan_1 14 rfl rfl)
theorem dX0_plan_38 : decode cX0_plan 38 = .ok (.if_icmp .ge 127, 3) := dk_162 0 127 (dk_at dksX0_plan_1 15 rfl rfl)
theorem dX0_plan_41 : decode cX0_plan 41 = .ok (.aload_n 0, 1) := dk_42 (dk_at dksX0_plan_1 18 rfl rfl)
theorem dX0_plan_42 : decode cX0_plan 42 = .ok (.getfield 90, 3) := dk_180 0 90 (dk_at dksX0_plan_1 19 rfl rfl)
theorem dX0_plan_45 : decode cX0_plan 45 = .ok (.aload_n 0, 1) := dk_42 (dk_at dksX0_plan_1 22 rfl rfl)
theorem dX0_plan_46 : decode cX0_plan 46 = .ok (.getfield 86, 3) := dk_180 0 86 (dk_at dksX0_plan_2 0 rfl rfl)
theorem dX0_plan_49 : decode cX0_plan 49 = .ok (.invokevirtual 429, 3) := dk_182 1 173 (dk_at dksX0_plan_2 3 rfl rfl)
theorem dX0_plan_52 : decode cX0_plan 52 = .ok (.iconst 0, 1) := dk_3 (dk_at dksX0_plan_2 6 rfl rfl)
theorem dX0_plan_53 : decode cX0_plan 53 = .ok (.istore 6, 2) := dk_54 6 (dk_at dksX0_plan_2 7 rfl rfl)
theorem dX0_plan_55 : decode cX0_plan 55 = .ok (.iconst 0, 1) := dk_3 (dk_at dksX0_plan_2 9 rfl rfl)
theorem dX0_plan_56 : decode cX0_plan 56 = .ok (.istore 7, 2) := dk_54 7 (dk_at dksX0_plan_2 10 rfl rfl)
theorem dX0_plan_58 : decode cX0_plan 58 = .ok (.iconst 0, 1) := dk_3 (dk_at dksX0_plan_2 12 rfl rfl)
theorem dX0_plan_59 : decode cX0_plan 59 = .ok (.istore 8, 2) := dk_54 8 (dk_at dksX0_plan_2 13 rfl rfl)
theorem dX0_plan_61 : decode cX0_plan 61 = .ok (.iload 8, 2) := dk_21 8 (dk_at dksX0_plan_2 15 rfl rfl)
theorem dX0_plan_63 : decode cX0_plan 63 = .ok (.iload_n 1, 1) := dk_27 (dk_at dksX0_plan_2 17 rfl rfl)
theorem dX0_plan_64 : decode cX0_plan 64 = .ok (.if_icmp .ge 75, 3) := dk_162 0 75 (dk_at dksX0_plan_2 18 rfl rfl)
theorem dX0_plan_67 : decode cX0_plan 67 = .ok (.aload_n 0, 1) := dk_42 (dk_at dksX0_plan_2 21 rfl rfl)
theorem dX0_plan_68 : decode cX0_plan 68 = .ok (.aload_n 0, 1) := dk_42 (dk_at dksX0_plan_2 22 rfl rfl)
theorem dX0_plan_69 : decode cX0_plan 69 = .ok (.getfield 90, 3) := dk_180 0 90 (dk_at dksX0_plan_3 0 rfl rfl)
theorem dX0_plan_72 : decode cX0_plan 72 = .ok (.aload_n 0, 1) := dk_42 (dk_at dksX0_plan_3 3 rfl rfl)
theorem dX0_plan_73 : decode cX0_plan 73 = .ok (.aload_n 0, 1) := dk_42 (dk_at dksX0_plan_3 4 rfl rfl)
theorem dX0_plan_74 : decode cX0_plan 74 = .ok (.getfield 90, 3) := dk_180 0 90 (dk_at dksX0_plan_3 5 rfl rfl)
theorem dX0_plan_77 : decode cX0_plan 77 = .ok (.getfield 279, 3) := dk_180 1 23 (dk_at dksX0_plan_3 8 rfl rfl)
theorem dX0_plan_80 : decode cX0_plan 80 = .ok (.iconst 1, 1) := dk_4 (dk_at dksX0_plan_3 11 rfl rfl)
theorem dX0_plan_81 : decode cX0_plan 81 = .ok (.iadd, 1) := dk_96 (dk_at dksX0_plan_3 12 rfl rfl)
theorem dX0_plan_82 : decode cX0_plan 82 = .ok (.invokevirtual 409, 3) := dk_182 1 153 (dk_at dksX0_plan_3 13 rfl rfl)
theorem dX0_plan_85 : decode cX0_plan 85 = .ok (.iload 5, 2) := dk_21 5 (dk_at dksX0_plan_3 16 rfl rfl)
theorem dX0_plan_87 : decode cX0_plan 87 = .ok (.iload 8, 2) := dk_21 8 (dk_at dksX0_plan_3 18 rfl rfl)
theorem dX0_plan_89 : decode cX0_plan 89 = .ok (.invokestatic 345, 3) := dk_184 1 89 (dk_at dksX0_plan_3 20 rfl rfl)
theorem dX0_plan_92 : decode cX0_plan 92 = .ok (.invokevirtual 402, 3) := dk_182 1 146 (dk_at dksX0_plan_4 0 rfl rfl)
theorem dX0_plan_95 : decode cX0_plan 95 = .ok (.iload 6, 2) := dk_21 6 (dk_at dksX0_plan_4 3 rfl rfl)
theorem dX0_plan_97 : decode cX0_plan 97 = .ok (.iload 5, 2) := dk_21 5 (dk_at dksX0_plan_4 5 rfl rfl)
theorem dX0_plan_99 : decode cX0_plan 99 = .ok (.iload 8, 2) := dk_21 8 (dk_at dksX0_plan_4 7 rfl rfl)
theorem dX0_plan_101 : decode cX0_plan 101 = .ok (.invokestatic 345, 3) := dk_184 1 89 (dk_at dksX0_plan_4 9 rfl rfl)
theorem dX0_plan_104 : decode cX0_plan 104 = .ok (.ifCond .eq 13, 3) := dk_153 0 13 (dk_at dksX0_plan_4 12 rfl rfl)
theorem dX0_plan_107 : decode cX0_plan 107 = .ok (.aload_n 0, 1) := dk_42 (dk_at dksX0_plan_4 15 rfl rfl)
theorem dX0_plan_108 : decode cX0_plan 108 = .ok (.getfield 90, 3) := dk_180 0 90 (dk_at dksX0_plan_4 16 rfl rfl)
theorem dX0_plan_111 : decode cX0_plan 111 = .ok (.getfield 374, 3) := dk_180 1 118 (dk_at dksX0_plan_4 19 rfl rfl)
theorem dX0_plan_114 : decode cX0_plan 114 = .ok (.goto 4, 3) := dk_167 0 4 (dk_at dksX0_plan_5 0 rfl rfl)
theorem dX0_plan_117 : decode cX0_plan 117 = .ok (.iconst 0, 1) := dk_3 (dk_at dksX0_plan_5 3 rfl rfl)
theorem dX0_plan_118 : decode cX0_plan 118 = .ok (.iadd, 1) := dk_96 (dk_at dksX0_plan_5 4 rfl rfl)
theorem dX0_plan_119 : decode cX0_plan 119 = .ok (.istore 6, 2) := dk_54 6 (dk_at dksX0_plan_5 5 rfl rfl)
theorem dX0_plan_121 : decode cX0_plan 121 = .ok (.iload 7, 2) := dk_21 7 (dk_at dksX0_plan_5 7 rfl rfl)
theorem dX0_plan_123 : decode cX0_plan 123 = .ok (.aload_n 0, 1) := dk_42 (dk_at dksX0_plan_5 9 rfl rfl)
theorem dX0_plan_124 : decode cX0_plan 124 = .ok (.getfield 90, 3) := dk_180 0 90 (dk_at dksX0_plan_5 10 rfl rfl)
theorem dX0_plan_127 : decode cX0_plan 127 = .ok (.getfield 399, 3) := dk_180 1 143 (dk_at dksX0_plan_5 13 rfl rfl)
theorem dX0_plan_130 : decode cX0_plan 130 = .ok (.iadd, 1) := dk_96 (dk_at dksX0_plan_5 16 rfl rfl)
theorem dX0_plan_131 : decode cX0_plan 131 = .ok (.istore 7, 2) := dk_54 7 (dk_at dksX0_plan_5 17 rfl rfl)
theorem dX0_plan_133 : decode cX0_plan 133 = .ok (.iinc 8 1, 3) := dk_132 8 1 (dk_at dksX0_plan_5 19 rfl rfl)
theorem dX0_plan_136 : decode cX0_plan 136 = .ok (.goto (-75), 3) := dk_167 255 181 (dk_at dksX0_plan_6 0 rfl rfl)
theorem dX0_plan_139 : decode cX0_plan 139 = .ok (.iload 7, 2) := dk_21 7 (dk_at dksX0_plan_6 3 rfl rfl)
theorem dX0_plan_141 : decode cX0_plan 141 = .ok (.iload_n 2, 1) := dk_28 (dk_at dksX0_plan_6 5 rfl rfl)
theorem dX0_plan_142 : decode cX0_plan 142 = .ok (.if_icmp .lt 17, 3) := dk_161 0 17 (dk_at dksX0_plan_6 6 rfl rfl)
theorem dX0_plan_145 : decode cX0_plan 145 = .ok (.iload 6, 2) := dk_21 6 (dk_at dksX0_plan_6 9 rfl rfl)
theorem dX0_plan_147 : decode cX0_plan 147 = .ok (.iload 4, 2) := dk_21 4 (dk_at dksX0_plan_6 11 rfl rfl)
theorem dX0_plan_149 : decode cX0_plan 149 = .ok (.if_icmp .le 10, 3) := dk_164 0 10 (dk_at dksX0_plan_6 13 rfl rfl)
theorem dX0_plan_152 : decode cX0_plan 152 = .ok (.iload 5, 2) := dk_21 5 (dk_at dksX0_plan_6 16 rfl rfl)
theorem dX0_plan_154 : decode cX0_plan 154 = .ok (.istore_n 3, 1) := dk_62 (dk_at dksX0_plan_6 18 rfl rfl)
theorem dX0_plan_155 : decode cX0_plan 155 = .ok (.iload 6, 2) := dk_21 6 (dk_at dksX0_plan_6 19 rfl rfl)
theorem dX0_plan_157 : decode cX0_plan 157 = .ok (.istore 4, 2) := dk_54 4 (dk_at dksX0_plan_6 21 rfl rfl)
theorem dX0_plan_159 : decode cX0_plan 159 = .ok (.iinc 5 1, 3) := dk_132 5 1 (dk_at dksX0_plan_7 0 rfl rfl)
theorem dX0_plan_162 : decode cX0_plan 162 = .ok (.goto (-129), 3) := dk_167 255 127 (dk_at dksX0_plan_7 3 rfl rfl)
theorem dX0_plan_165 : decode cX0_plan 165 = .ok (.iload_n 3, 1) := dk_29 (dk_at dksX0_plan_7 6 rfl rfl)
theorem dX0_plan_166 : decode cX0_plan 166 = .ok (.bipush (-9), 2) := dk_16 247 (dk_at dksX0_plan_7 7 rfl rfl)
theorem dX0_plan_168 : decode cX0_plan 168 = .ok (.if_icmp .ne 8, 3) := dk_160 0 8 (dk_at dksX0_plan_7 9 rfl rfl)
theorem dX0_plan_171 : decode cX0_plan 171 = .ok (.bipush (-9), 2) := dk_16 247 (dk_at dksX0_plan_7 12 rfl rfl)
theorem dX0_plan_173 : decode cX0_plan 173 = .ok (.goto 10, 3) := dk_167 0 10 (dk_at dksX0_plan_7 14 rfl rfl)
theorem dX0_plan_176 : decode cX0_plan 176 = .ok (.aload_n 0, 1) := dk_42 (dk_at dksX0_plan_7 17 rfl rfl)
theorem dX0_plan_177 : decode cX0_plan 177 = .ok (.iload_n 3, 1) := dk_29 (dk_at dksX0_plan_7 18 rfl rfl)
theorem dX0_plan_178 : decode cX0_plan 178 = .ok (.iload 4, 2) := dk_21 4 (dk_at dksX0_plan_7 19 rfl rfl)
theorem dX0_plan_180 : decode cX0_plan 180 = .ok (.invokevirtual 147, 3) := dk_182 0 147 (dk_at dksX0_plan_7 21 rfl rfl)
theorem dX0_plan_183 : decode cX0_plan 183 = .ok (.ireturn, 1) := dk_172 (dk_at dksX0_plan_8 0 rfl rfl)
abbrev cX0_asked : ByteArray := prog_1_method_96_code
def yX0_asked : MethodName := ⟨RX0, "asked", "()I"⟩
theorem dX0_asked_0 : decode cX0_asked 0 = .ok (.aload_n 0, 1) := by decide +kernel
theorem dX0_asked_1 : decode cX0_asked 1 = .ok (.getfield 11, 3) := by decide +kernel
theorem dX0_asked_4 : decode cX0_asked 4 = .ok (.ireturn, 1) := by decide +kernel
abbrev cX0_upper : ByteArray := prog_1_method_97_code
def yX0_upper : MethodName := ⟨RX0, "upper", "()J"⟩
theorem dX0_upper_0 : decode cX0_upper 0 = .ok (.aload_n 0, 1) := by decide +kernel
theorem dX0_upper_1 : decode cX0_upper 1 = .ok (.getfield 14, 3) := by decide +kernel
theorem dX0_upper_4 : decode cX0_upper 4 = .ok (.lreturn, 1) := by decide +kernel
abbrev cX0_lower : ByteArray := prog_1_method_98_code
def yX0_lower : MethodName := ⟨RX0, "lower", "()J"⟩
theorem dX0_lower_0 : decode cX0_lower 0 = .ok (.aload_n 0, 1) := by decide +kernel
theorem dX0_lower_1 : decode cX0_lower 1 = .ok (.getfield 18, 3) := by decide +kernel
theorem dX0_lower_4 : decode cX0_lower 4 = .ok (.lreturn, 1) := by decide +kernel
abbrev cX0_count : ByteArray := prog_1_method_103_code
def yX0_count : MethodName := ⟨RX0, "count", "(I)I"⟩
def dkwX0_count_0 : List UInt8 := [27, 3, 8, 184, 0, 129, 153, 0, 11, 42, 27, 182, 1, 253, 167, 0, 4, 2, 172]
abbrev dktX0_count_0 : List UInt8 := dkwX0_count_0 ++ []
theorem dksX0_count_0 : cX0_count.data.toList.drop 0 = dktX0_count_0 := by decide +kernel
theorem dX0_count_0 : decode cX0_count 0 = .ok (.iload_n 1, 1) := dk_27 (dk_at dksX0_count_0 0 rfl rfl)
theorem dX0_count_1 : decode cX0_count 1 = .ok (.iconst 0, 1) := dk_3 (dk_at dksX0_count_0 1 rfl rfl)
theorem dX0_count_2 : decode cX0_count 2 = .ok (.iconst 5, 1) := dk_8 (dk_at dksX0_count_0 2 rfl rfl)
theorem dX0_count_3 : decode cX0_count 3 = .ok (.invokestatic 129, 3) := dk_184 0 129 (dk_at dksX0_count_0 3 rfl rfl)
theorem dX0_count_6 : decode cX0_count 6 = .ok (.ifCond .eq 11, 3) := dk_153 0 11 (dk_at dksX0_count_0 6 rfl rfl)
theorem dX0_count_9 : decode cX0_count 9 = .ok (.aload_n 0, 1) := dk_42 (dk_at dksX0_count_0 9 rfl rfl)
theorem dX0_count_10 : decode cX0_count 10 = .ok (.iload_n 1, 1) := dk_27 (dk_at dksX0_count_0 10 rfl rfl)
theorem dX0_count_11 : decode cX0_count 11 = .ok (.invokevirtual 509, 3) := dk_182 1 253 (dk_at dksX0_count_0 11 rfl rfl)
theorem dX0_count_14 : decode cX0_count 14 = .ok (.goto 4, 3) := dk_167 0 4 (dk_at dksX0_count_0 14 rfl rfl)
theorem dX0_count_17 : decode cX0_count 17 = .ok (.iconst (-1), 1) := dk_2 (dk_at dksX0_count_0 17 rfl rfl)
theorem dX0_count_18 : decode cX0_count 18 = .ok (.ireturn, 1) := dk_172 (dk_at dksX0_count_0 18 rfl rfl)
abbrev cX0_countsOf : ByteArray := prog_1_method_102_code
def yX0_countsOf : MethodName := ⟨RX0, "countsOf", "(I)I"⟩
def dkwX0_countsOf_3 : List UInt8 := [182, 1, 250, 172, 42, 180, 1, 17, 172]
abbrev dktX0_countsOf_3 : List UInt8 := dkwX0_countsOf_3 ++ []
def dkwX0_countsOf_2 : List UInt8 := [42, 182, 1, 244, 172, 42, 182, 1, 247, 172, 42, 180, 0, 40, 190, 172, 42, 180, 1, 20, 172, 42, 5]
abbrev dktX0_countsOf_2 : List UInt8 := dkwX0_countsOf_2 ++ dktX0_countsOf_3
def dkwX0_countsOf_1 : List UInt8 := [170, 0, 0, 0, 0, 0, 62, 0, 0, 0, 0, 0, 0, 0, 4, 0, 0, 0, 35, 0, 0, 0, 40, 0, 0, 0, 45, 0, 0, 0, 51, 0, 0, 0, 56]
abbrev dktX0_countsOf_1 : List UInt8 := dkwX0_countsOf_1 ++ dktX0_countsOf_2
def dkwX0_countsOf_0 : List UInt8 := [27]
abbrev dktX0_countsOf_0 : List UInt8 := dkwX0_countsOf_0 ++ dktX0_countsOf_1
theorem dksX0_countsOf_0 : cX0_countsOf.data.toList.drop 0 = dktX0_countsOf_0 := by decide +kernel
theorem dksX0_countsOf_1 : cX0_countsOf.data.toList.drop 1 = dktX0_countsOf_1 := dk_seg dksX0_countsOf_0 1 rfl rfl
theorem dksX0_countsOf_2 : cX0_countsOf.data.toList.drop 36 = dktX0_countsOf_2 := dk_seg dksX0_countsOf_1 35 rfl rfl
theorem dksX0_countsOf_3 : cX0_countsOf.data.toList.drop 59 = dktX0_countsOf_3 := dk_seg dksX0_countsOf_2 23 rfl rfl
theorem dX0_countsOf_0 : decode cX0_countsOf 0 = .ok (.iload_n 1, 1) := dk_27 (dk_at dksX0_countsOf_0 0 rfl rfl)
theorem dX0_countsOf_1 : decode cX0_countsOf 1 = .ok (.tableswitch 62 0 4 #[35, 40, 45, 51, 56], 35) := by decide +kernel
theorem dX0_countsOf_36 : decode cX0_countsOf 36 = .ok (.aload_n 0, 1) := dk_42 (dk_at dksX0_countsOf_2 0 rfl rfl)
theorem dX0_countsOf_37 : decode cX0_countsOf 37 = .ok (.invokevirtual 500, 3) := dk_182 1 244 (dk_at dksX0_countsOf_2 1 rfl rfl)
theorem dX0_countsOf_40 : decode cX0_countsOf 40 = .ok (.ireturn, 1) := dk_172 (dk_at dksX0_countsOf_2 4 rfl rfl)
theorem dX0_countsOf_41 : decode cX0_countsOf 41 = .ok (.aload_n 0, 1) := dk_42 (dk_at dksX0_countsOf_2 5 rfl rfl)
theorem dX0_countsOf_42 : decode cX0_countsOf 42 = .ok (.invokevirtual 503, 3) := dk_182 1 247 (dk_at dksX0_countsOf_2 6 rfl rfl)
theorem dX0_countsOf_45 : decode cX0_countsOf 45 = .ok (.ireturn, 1) := dk_172 (dk_at dksX0_countsOf_2 9 rfl rfl)
theorem dX0_countsOf_46 : decode cX0_countsOf 46 = .ok (.aload_n 0, 1) := dk_42 (dk_at dksX0_countsOf_2 10 rfl rfl)
theorem dX0_countsOf_47 : decode cX0_countsOf 47 = .ok (.getfield 40, 3) := dk_180 0 40 (dk_at dksX0_countsOf_2 11 rfl rfl)
theorem dX0_countsOf_50 : decode cX0_countsOf 50 = .ok (.arraylength, 1) := dk_190 (dk_at dksX0_countsOf_2 14 rfl rfl)
theorem dX0_countsOf_51 : decode cX0_countsOf 51 = .ok (.ireturn, 1) := dk_172 (dk_at dksX0_countsOf_2 15 rfl rfl)
theorem dX0_countsOf_52 : decode cX0_countsOf 52 = .ok (.aload_n 0, 1) := dk_42 (dk_at dksX0_countsOf_2 16 rfl rfl)
theorem dX0_countsOf_53 : decode cX0_countsOf 53 = .ok (.getfield 276, 3) := dk_180 1 20 (dk_at dksX0_countsOf_2 17 rfl rfl)
theorem dX0_countsOf_56 : decode cX0_countsOf 56 = .ok (.ireturn, 1) := dk_172 (dk_at dksX0_countsOf_2 20 rfl rfl)
theorem dX0_countsOf_57 : decode cX0_countsOf 57 = .ok (.aload_n 0, 1) := dk_42 (dk_at dksX0_countsOf_2 21 rfl rfl)
theorem dX0_countsOf_58 : decode cX0_countsOf 58 = .ok (.iconst 2, 1) := dk_5 (dk_at dksX0_countsOf_2 22 rfl rfl)
theorem dX0_countsOf_59 : decode cX0_countsOf 59 = .ok (.invokevirtual 506, 3) := dk_182 1 250 (dk_at dksX0_countsOf_3 0 rfl rfl)
theorem dX0_countsOf_62 : decode cX0_countsOf 62 = .ok (.ireturn, 1) := dk_172 (dk_at dksX0_countsOf_3 3 rfl rfl)
theorem dX0_countsOf_63 : decode cX0_countsOf 63 = .ok (.aload_n 0, 1) := dk_42 (dk_at dksX0_countsOf_3 4 rfl rfl)
theorem dX0_countsOf_64 : decode cX0_countsOf 64 = .ok (.getfield 273, 3) := dk_180 1 17 (dk_at dksX0_countsOf_3 5 rfl rfl)
theorem dX0_countsOf_67 : decode cX0_countsOf 67 = .ok (.ireturn, 1) := dk_172 (dk_at dksX0_countsOf_3 8 rfl rfl)
abbrev cX0_rowCount : ByteArray := prog_1_method_99_code
def yX0_rowCount : MethodName := ⟨RX0, "rowCount", "()I"⟩
def dkwX0_rowCount_1 : List UInt8 := [58, 5, 27, 25, 5, 199, 0, 7, 3, 167, 0, 4, 4, 96, 60, 132, 4, 1, 167, 255, 228, 27, 172]
abbrev dktX0_rowCount_1 : List UInt8 := dkwX0_rowCount_1 ++ []
def dkwX0_rowCount_0 : List UInt8 := [3, 60, 42, 180, 0, 28, 77, 44, 190, 62, 3, 54, 4, 21, 4, 29, 162, 0, 28, 44, 21, 4, 50]
abbrev dktX0_rowCount_0 : List UInt8 := dkwX0_rowCount_0 ++ dktX0_rowCount_1
theorem dksX0_rowCount_0 : cX0_rowCount.data.toList.drop 0 = dktX0_rowCount_0 := by decide +kernel
theorem dksX0_rowCount_1 : cX0_rowCount.data.toList.drop 23 = dktX0_rowCount_1 := dk_seg dksX0_rowCount_0 23 rfl rfl
theorem dX0_rowCount_0 : decode cX0_rowCount 0 = .ok (.iconst 0, 1) := dk_3 (dk_at dksX0_rowCount_0 0 rfl rfl)
theorem dX0_rowCount_1 : decode cX0_rowCount 1 = .ok (.istore_n 1, 1) := dk_60 (dk_at dksX0_rowCount_0 1 rfl rfl)
theorem dX0_rowCount_2 : decode cX0_rowCount 2 = .ok (.aload_n 0, 1) := dk_42 (dk_at dksX0_rowCount_0 2 rfl rfl)
theorem dX0_rowCount_3 : decode cX0_rowCount 3 = .ok (.getfield 28, 3) := dk_180 0 28 (dk_at dksX0_rowCount_0 3 rfl rfl)
theorem dX0_rowCount_6 : decode cX0_rowCount 6 = .ok (.astore_n 2, 1) := dk_77 (dk_at dksX0_rowCount_0 6 rfl rfl)
theorem dX0_rowCount_7 : decode cX0_rowCount 7 = .ok (.aload_n 2, 1) := dk_44 (dk_at dksX0_rowCount_0 7 rfl rfl)
theorem dX0_rowCount_8 : decode cX0_rowCount 8 = .ok (.arraylength, 1) := dk_190 (dk_at dksX0_rowCount_0 8 rfl rfl)
theorem dX0_rowCount_9 : decode cX0_rowCount 9 = .ok (.istore_n 3, 1) := dk_62 (dk_at dksX0_rowCount_0 9 rfl rfl)
theorem dX0_rowCount_10 : decode cX0_rowCount 10 = .ok (.iconst 0, 1) := dk_3 (dk_at dksX0_rowCount_0 10 rfl rfl)
theorem dX0_rowCount_11 : decode cX0_rowCount 11 = .ok (.istore 4, 2) := dk_54 4 (dk_at dksX0_rowCount_0 11 rfl rfl)
theorem dX0_rowCount_13 : decode cX0_rowCount 13 = .ok (.iload 4, 2) := dk_21 4 (dk_at dksX0_rowCount_0 13 rfl rfl)
theorem dX0_rowCount_15 : decode cX0_rowCount 15 = .ok (.iload_n 3, 1) := dk_29 (dk_at dksX0_rowCount_0 15 rfl rfl)
theorem dX0_rowCount_16 : decode cX0_rowCount 16 = .ok (.if_icmp .ge 28, 3) := dk_162 0 28 (dk_at dksX0_rowCount_0 16 rfl rfl)
theorem dX0_rowCount_19 : decode cX0_rowCount 19 = .ok (.aload_n 2, 1) := dk_44 (dk_at dksX0_rowCount_0 19 rfl rfl)
theorem dX0_rowCount_20 : decode cX0_rowCount 20 = .ok (.iload 4, 2) := dk_21 4 (dk_at dksX0_rowCount_0 20 rfl rfl)
theorem dX0_rowCount_22 : decode cX0_rowCount 22 = .ok (.aaload, 1) := dk_50 (dk_at dksX0_rowCount_0 22 rfl rfl)
theorem dX0_rowCount_23 : decode cX0_rowCount 23 = .ok (.astore 5, 2) := dk_58 5 (dk_at dksX0_rowCount_1 0 rfl rfl)
theorem dX0_rowCount_25 : decode cX0_rowCount 25 = .ok (.iload_n 1, 1) := dk_27 (dk_at dksX0_rowCount_1 2 rfl rfl)
theorem dX0_rowCount_26 : decode cX0_rowCount 26 = .ok (.aload 5, 2) := dk_25 5 (dk_at dksX0_rowCount_1 3 rfl rfl)
theorem dX0_rowCount_28 : decode cX0_rowCount 28 = .ok (.ifnonnull 7, 3) := dk_199 0 7 (dk_at dksX0_rowCount_1 5 rfl rfl)
theorem dX0_rowCount_31 : decode cX0_rowCount 31 = .ok (.iconst 0, 1) := dk_3 (dk_at dksX0_rowCount_1 8 rfl rfl)
theorem dX0_rowCount_32 : decode cX0_rowCount 32 = .ok (.goto 4, 3) := dk_167 0 4 (dk_at dksX0_rowCount_1 9 rfl rfl)
theorem dX0_rowCount_35 : decode cX0_rowCount 35 = .ok (.iconst 1, 1) := dk_4 (dk_at dksX0_rowCount_1 12 rfl rfl)
theorem dX0_rowCount_36 : decode cX0_rowCount 36 = .ok (.iadd, 1) := dk_96 (dk_at dksX0_rowCount_1 13 rfl rfl)
theorem dX0_rowCount_37 : decode cX0_rowCount 37 = .ok (.istore_n 1, 1) := dk_60 (dk_at dksX0_rowCount_1 14 rfl rfl)
theorem dX0_rowCount_38 : decode cX0_rowCount 38 = .ok (.iinc 4 1, 3) := dk_132 4 1 (dk_at dksX0_rowCount_1 15 rfl rfl)
theorem dX0_rowCount_41 : decode cX0_rowCount 41 = .ok (.goto (-28), 3) := dk_167 255 228 (dk_at dksX0_rowCount_1 18 rfl rfl)
theorem dX0_rowCount_44 : decode cX0_rowCount 44 = .ok (.iload_n 1, 1) := dk_27 (dk_at dksX0_rowCount_1 21 rfl rfl)
theorem dX0_rowCount_45 : decode cX0_rowCount 45 = .ok (.ireturn, 1) := dk_172 (dk_at dksX0_rowCount_1 22 rfl rfl)
abbrev cX0_textCount : ByteArray := prog_1_method_100_code
def yX0_textCount : MethodName := ⟨RX0, "textCount", "()I"⟩
def dkwX0_textCount_1 : List UInt8 := [58, 5, 27, 25, 5, 199, 0, 7, 3, 167, 0, 4, 4, 96, 60, 132, 4, 1, 167, 255, 228, 27, 172]
abbrev dktX0_textCount_1 : List UInt8 := dkwX0_textCount_1 ++ []
def dkwX0_textCount_0 : List UInt8 := [3, 60, 42, 180, 0, 34, 77, 44, 190, 62, 3, 54, 4, 21, 4, 29, 162, 0, 28, 44, 21, 4, 50]
abbrev dktX0_textCount_0 : List UInt8 := dkwX0_textCount_0 ++ dktX0_textCount_1
theorem dksX0_textCount_0 : cX0_textCount.data.toList.drop 0 = dktX0_textCount_0 := by decide +kernel
theorem dksX0_textCount_1 : cX0_textCount.data.toList.drop 23 = dktX0_textCount_1 := dk_seg dksX0_textCount_0 23 rfl rfl
theorem dX0_textCount_0 : decode cX0_textCount 0 = .ok (.iconst 0, 1) := dk_3 (dk_at dksX0_textCount_0 0 rfl rfl)
theorem dX0_textCount_1 : decode cX0_textCount 1 = .ok (.istore_n 1, 1) := dk_60 (dk_at dksX0_textCount_0 1 rfl rfl)
theorem dX0_textCount_2 : decode cX0_textCount 2 = .ok (.aload_n 0, 1) := dk_42 (dk_at dksX0_textCount_0 2 rfl rfl)
theorem dX0_textCount_3 : decode cX0_textCount 3 = .ok (.getfield 34, 3) := dk_180 0 34 (dk_at dksX0_textCount_0 3 rfl rfl)
theorem dX0_textCount_6 : decode cX0_textCount 6 = .ok (.astore_n 2, 1) := dk_77 (dk_at dksX0_textCount_0 6 rfl rfl)
theorem dX0_textCount_7 : decode cX0_textCount 7 = .ok (.aload_n 2, 1) := dk_44 (dk_at dksX0_textCount_0 7 rfl rfl)
theorem dX0_textCount_8 : decode cX0_textCount 8 = .ok (.arraylength, 1) := dk_190 (dk_at dksX0_textCount_0 8 rfl rfl)
theorem dX0_textCount_9 : decode cX0_textCount 9 = .ok (.istore_n 3, 1) := dk_62 (dk_at dksX0_textCount_0 9 rfl rfl)
theorem dX0_textCount_10 : decode cX0_textCount 10 = .ok (.iconst 0, 1) := dk_3 (dk_at dksX0_textCount_0 10 rfl rfl)
theorem dX0_textCount_11 : decode cX0_textCount 11 = .ok (.istore 4, 2) := dk_54 4 (dk_at dksX0_textCount_0 11 rfl rfl)
theorem dX0_textCount_13 : decode cX0_textCount 13 = .ok (.iload 4, 2) := dk_21 4 (dk_at dksX0_textCount_0 13 rfl rfl)
theorem dX0_textCount_15 : decode cX0_textCount 15 = .ok (.iload_n 3, 1) := dk_29 (dk_at dksX0_textCount_0 15 rfl rfl)
theorem dX0_textCount_16 : decode cX0_textCount 16 = .ok (.if_icmp .ge 28, 3) := dk_162 0 28 (dk_at dksX0_textCount_0 16 rfl rfl)
theorem dX0_textCount_19 : decode cX0_textCount 19 = .ok (.aload_n 2, 1) := dk_44 (dk_at dksX0_textCount_0 19 rfl rfl)
theorem dX0_textCount_20 : decode cX0_textCount 20 = .ok (.iload 4, 2) := dk_21 4 (dk_at dksX0_textCount_0 20 rfl rfl)
theorem dX0_textCount_22 : decode cX0_textCount 22 = .ok (.aaload, 1) := dk_50 (dk_at dksX0_textCount_0 22 rfl rfl)
theorem dX0_textCount_23 : decode cX0_textCount 23 = .ok (.astore 5, 2) := dk_58 5 (dk_at dksX0_textCount_1 0 rfl rfl)
theorem dX0_textCount_25 : decode cX0_textCount 25 = .ok (.iload_n 1, 1) := dk_27 (dk_at dksX0_textCount_1 2 rfl rfl)
theorem dX0_textCount_26 : decode cX0_textCount 26 = .ok (.aload 5, 2) := dk_25 5 (dk_at dksX0_textCount_1 3 rfl rfl)
theorem dX0_textCount_28 : decode cX0_textCount 28 = .ok (.ifnonnull 7, 3) := dk_199 0 7 (dk_at dksX0_textCount_1 5 rfl rfl)
theorem dX0_textCount_31 : decode cX0_textCount 31 = .ok (.iconst 0, 1) := dk_3 (dk_at dksX0_textCount_1 8 rfl rfl)
theorem dX0_textCount_32 : decode cX0_textCount 32 = .ok (.goto 4, 3) := dk_167 0 4 (dk_at dksX0_textCount_1 9 rfl rfl)
theorem dX0_textCount_35 : decode cX0_textCount 35 = .ok (.iconst 1, 1) := dk_4 (dk_at dksX0_textCount_1 12 rfl rfl)
theorem dX0_textCount_36 : decode cX0_textCount 36 = .ok (.iadd, 1) := dk_96 (dk_at dksX0_textCount_1 13 rfl rfl)
theorem dX0_textCount_37 : decode cX0_textCount 37 = .ok (.istore_n 1, 1) := dk_60 (dk_at dksX0_textCount_1 14 rfl rfl)
theorem dX0_textCount_38 : decode cX0_textCount 38 = .ok (.iinc 4 1, 3) := dk_132 4 1 (dk_at dksX0_textCount_1 15 rfl rfl)
theorem dX0_textCount_41 : decode cX0_textCount 41 = .ok (.goto (-28), 3) := dk_167 255 228 (dk_at dksX0_textCount_1 18 rfl rfl)
theorem dX0_textCount_44 : decode cX0_textCount 44 = .ok (.iload_n 1, 1) := dk_27 (dk_at dksX0_textCount_1 21 rfl rfl)
theorem dX0_textCount_45 : decode cX0_textCount 45 = .ok (.ireturn, 1) := dk_172 (dk_at dksX0_textCount_1 22 rfl rfl)
abbrev cX0_treeCount : ByteArray := prog_1_method_101_code
def yX0_treeCount : MethodName := ⟨RX0, "treeCount", "(I)I"⟩
def dkwX0_treeCount_1 : List UInt8 := [153, 0, 7, 4, 167, 0, 4, 3, 96, 61, 132, 3, 1, 167, 255, 225, 28, 172]
abbrev dktX0_treeCount_1 : List UInt8 := dkwX0_treeCount_1 ++ []
def dkwX0_treeCount_0 : List UInt8 := [3, 61, 3, 62, 29, 42, 180, 1, 20, 162, 0, 29, 28, 42, 29, 182, 1, 100, 27, 182, 1, 160]
abbrev dktX0_treeCount_0 : List UInt8 := dkwX0_treeCount_0 ++ dktX0_treeCount_1
theorem dksX0_treeCount_0 : cX0_treeCount.data.toList.drop 0 = dktX0_treeCount_0 := by decide +kernel
theorem dksX0_treeCount_1 : cX0_treeCount.data.toList.drop 22 = dktX0_treeCount_1 := dk_seg dksX0_treeCount_0 22 rfl rfl
theorem dX0_treeCount_0 : decode cX0_treeCount 0 = .ok (.iconst 0, 1) := dk_3 (dk_at dksX0_treeCount_0 0 rfl rfl)
theorem dX0_treeCount_1 : decode cX0_treeCount 1 = .ok (.istore_n 2, 1) := dk_61 (dk_at dksX0_treeCount_0 1 rfl rfl)
theorem dX0_treeCount_2 : decode cX0_treeCount 2 = .ok (.iconst 0, 1) := dk_3 (dk_at dksX0_treeCount_0 2 rfl rfl)
theorem dX0_treeCount_3 : decode cX0_treeCount 3 = .ok (.istore_n 3, 1) := dk_62 (dk_at dksX0_treeCount_0 3 rfl rfl)
theorem dX0_treeCount_4 : decode cX0_treeCount 4 = .ok (.iload_n 3, 1) := dk_29 (dk_at dksX0_treeCount_0 4 rfl rfl)
theorem dX0_treeCount_5 : decode cX0_treeCount 5 = .ok (.aload_n 0, 1) := dk_42 (dk_at dksX0_treeCount_0 5 rfl rfl)
theorem dX0_treeCount_6 : decode cX0_treeCount 6 = .ok (.getfield 276, 3) := dk_180 1 20 (dk_at dksX0_treeCount_0 6 rfl rfl)
theorem dX0_treeCount_9 : decode cX0_treeCount 9 = .ok (.if_icmp .ge 29, 3) := dk_162 0 29 (dk_at dksX0_treeCount_0 9 rfl rfl)
theorem dX0_treeCount_12 : decode cX0_treeCount 12 = .ok (.iload_n 2, 1) := dk_28 (dk_at dksX0_treeCount_0 12 rfl rfl)
theorem dX0_treeCount_13 : decode cX0_treeCount 13 = .ok (.aload_n 0, 1) := dk_42 (dk_at dksX0_treeCount_0 13 rfl rfl)
theorem dX0_treeCount_14 : decode cX0_treeCount 14 = .ok (.iload_n 3, 1) := dk_29 (dk_at dksX0_treeCount_0 14 rfl rfl)
theorem dX0_treeCount_15 : decode cX0_treeCount 15 = .ok (.invokevirtual 356, 3) := dk_182 1 100 (dk_at dksX0_treeCount_0 15 rfl rfl)
theorem dX0_treeCount_18 : decode cX0_treeCount 18 = .ok (.iload_n 1, 1) := dk_27 (dk_at dksX0_treeCount_0 18 rfl rfl)
theorem dX0_treeCount_19 : decode cX0_treeCount 19 = .ok (.invokevirtual 416, 3) := dk_182 1 160 (dk_at dksX0_treeCount_0 19 rfl rfl)
theorem dX0_treeCount_22 : decode cX0_treeCount 22 = .ok (.ifCond .eq 7, 3) := dk_153 0 7 (dk_at dksX0_treeCount_1 0 rfl rfl)
theorem dX0_treeCount_25 : decode cX0_treeCount 25 = .ok (.iconst 1, 1) := dk_4 (dk_at dksX0_treeCount_1 3 rfl rfl)
theorem dX0_treeCount_26 : decode cX0_treeCount 26 = .ok (.goto 4, 3) := dk_167 0 4 (dk_at dksX0_treeCount_1 4 rfl rfl)
theorem dX0_treeCount_29 : decode cX0_treeCount 29 = .ok (.iconst 0, 1) := dk_3 (dk_at dksX0_treeCount_1 7 rfl rfl)
theorem dX0_treeCount_30 : decode cX0_treeCount 30 = .ok (.iadd, 1) := dk_96 (dk_at dksX0_treeCount_1 8 rfl rfl)
theorem dX0_treeCount_31 : decode cX0_treeCount 31 = .ok (.istore_n 2, 1) := dk_61 (dk_at dksX0_treeCount_1 9 rfl rfl)
theorem dX0_treeCount_32 : decode cX0_treeCount 32 = .ok (.iinc 3 1, 3) := dk_132 3 1 (dk_at dksX0_treeCount_1 10 rfl rfl)
theorem dX0_treeCount_35 : decode cX0_treeCount 35 = .ok (.goto (-31), 3) := dk_167 255 225 (dk_at dksX0_treeCount_1 13 rfl rfl)
theorem dX0_treeCount_38 : decode cX0_treeCount 38 = .ok (.iload_n 2, 1) := dk_28 (dk_at dksX0_treeCount_1 16 rfl rfl)
theorem dX0_treeCount_39 : decode cX0_treeCount 39 = .ok (.ireturn, 1) := dk_172 (dk_at dksX0_treeCount_1 17 rfl rfl)
abbrev cX0_finding : ByteArray := prog_1_method_104_code
def yX0_finding : MethodName := ⟨RX0, "finding", "()I"⟩
theorem dX0_finding_0 : decode cX0_finding 0 = .ok (.aload_n 0, 1) := by decide +kernel
theorem dX0_finding_1 : decode cX0_finding 1 = .ok (.getfield 3, 3) := by decide +kernel
theorem dX0_finding_4 : decode cX0_finding 4 = .ok (.ireturn, 1) := by decide +kernel
abbrev cX0_findings : ByteArray := prog_1_method_105_code
def yX0_findings : MethodName := ⟨RX0, "findings", "(I)I"⟩
def dkwX0_findings_0 : List UInt8 := [27, 4, 8, 184, 0, 129, 153, 0, 12, 42, 180, 0, 7, 27, 46, 167, 0, 4, 2, 172]
abbrev dktX0_findings_0 : List UInt8 := dkwX0_findings_0 ++ []
theorem dksX0_findings_0 : cX0_findings.data.toList.drop 0 = dktX0_findings_0 := by decide +kernel
theorem dX0_findings_0 : decode cX0_findings 0 = .ok (.iload_n 1, 1) := dk_27 (dk_at dksX0_findings_0 0 rfl rfl)
theorem dX0_findings_1 : decode cX0_findings 1 = .ok (.iconst 1, 1) := dk_4 (dk_at dksX0_findings_0 1 rfl rfl)
theorem dX0_findings_2 : decode cX0_findings 2 = .ok (.iconst 5, 1) := dk_8 (dk_at dksX0_findings_0 2 rfl rfl)
theorem dX0_findings_3 : decode cX0_findings 3 = .ok (.invokestatic 129, 3) := dk_184 0 129 (dk_at dksX0_findings_0 3 rfl rfl)
theorem dX0_findings_6 : decode cX0_findings 6 = .ok (.ifCond .eq 12, 3) := dk_153 0 12 (dk_at dksX0_findings_0 6 rfl rfl)
theorem dX0_findings_9 : decode cX0_findings 9 = .ok (.aload_n 0, 1) := dk_42 (dk_at dksX0_findings_0 9 rfl rfl)
theorem dX0_findings_10 : decode cX0_findings 10 = .ok (.getfield 7, 3) := dk_180 0 7 (dk_at dksX0_findings_0 10 rfl rfl)
theorem dX0_findings_13 : decode cX0_findings 13 = .ok (.iload_n 1, 1) := dk_27 (dk_at dksX0_findings_0 13 rfl rfl)
theorem dX0_findings_14 : decode cX0_findings 14 = .ok (.iaload, 1) := dk_46 (dk_at dksX0_findings_0 14 rfl rfl)
theorem dX0_findings_15 : decode cX0_findings 15 = .ok (.goto 4, 3) := dk_167 0 4 (dk_at dksX0_findings_0 15 rfl rfl)
theorem dX0_findings_18 : decode cX0_findings 18 = .ok (.iconst (-1), 1) := dk_2 (dk_at dksX0_findings_0 18 rfl rfl)
theorem dX0_findings_19 : decode cX0_findings 19 = .ok (.ireturn, 1) := dk_172 (dk_at dksX0_findings_0 19 rfl rfl)
abbrev cX0_digest : ByteArray := prog_1_method_108_code
def yX0_digest : MethodName := ⟨RX0, "digest", "()J"⟩
def dkwX0_digest_7 : List UInt8 := [132, 6, 1, 167, 255, 237, 132, 3, 1, 167, 255, 198, 42, 180, 2, 2, 173]
abbrev dktX0_digest_7 : List UInt8 := dkwX0_digest_7 ++ []
def dkwX0_digest_6 : List UInt8 := [21, 5, 182, 2, 5, 3, 54, 6, 21, 6, 21, 5, 162, 0, 18, 42, 25, 4, 21, 6, 51, 182, 2, 5]
abbrev dktX0_digest_6 : List UInt8 := dkwX0_digest_6 ++ dktX0_digest_7
def dkwX0_digest_5 : List UInt8 := [162, 0, 59, 43, 29, 50, 58, 4, 25, 4, 199, 0, 7, 2, 167, 0, 6, 25, 4, 190, 54, 5, 42]
abbrev dktX0_digest_5 : List UInt8 := dkwX0_digest_5 ++ dktX0_digest_6
def dkwX0_digest_4 : List UInt8 := [132, 6, 1, 167, 255, 237, 132, 3, 1, 167, 255, 198, 42, 180, 0, 34, 76, 43, 190, 61, 3, 62, 29, 28]
abbrev dktX0_digest_4 : List UInt8 := dkwX0_digest_4 ++ dktX0_digest_5
def dkwX0_digest_3 : List UInt8 := [21, 5, 182, 2, 5, 3, 54, 6, 21, 6, 21, 5, 162, 0, 18, 42, 25, 4, 21, 6, 46, 182, 2, 5]
abbrev dktX0_digest_3 : List UInt8 := dkwX0_digest_3 ++ dktX0_digest_4
def dkwX0_digest_2 : List UInt8 := [162, 0, 59, 43, 29, 50, 58, 4, 25, 4, 199, 0, 7, 2, 167, 0, 6, 25, 4, 190, 54, 5, 42]
abbrev dktX0_digest_2 : List UInt8 := dkwX0_digest_2 ++ dktX0_digest_3
def dkwX0_digest_1 : List UInt8 := [132, 1, 1, 167, 255, 239, 42, 182, 2, 10, 42, 180, 0, 28, 76, 43, 190, 61, 3, 62, 29, 28]
abbrev dktX0_digest_1 : List UInt8 := dkwX0_digest_1 ++ dktX0_digest_2
def dkwX0_digest_0 : List UInt8 := [42, 20, 2, 8, 181, 2, 2, 3, 60, 27, 8, 163, 0, 18, 42, 42, 27, 182, 1, 253, 182, 2, 5]
abbrev dktX0_digest_0 : List UInt8 := dkwX0_digest_0 ++ dktX0_digest_1
theorem dksX0_digest_0 : cX0_digest.data.toList.drop 0 = dktX0_digest_0 := by decide +kernel
theorem dksX0_digest_1 : cX0_digest.data.toList.drop 23 = dktX0_digest_1 := dk_seg dksX0_digest_0 23 rfl rfl
theorem dksX0_digest_2 : cX0_digest.data.toList.drop 45 = dktX0_digest_2 := dk_seg dksX0_digest_1 22 rfl rfl
theorem dksX0_digest_3 : cX0_digest.data.toList.drop 68 = dktX0_digest_3 := dk_seg dksX0_digest_2 23 rfl rfl
theorem dksX0_digest_4 : cX0_digest.data.toList.drop 92 = dktX0_digest_4 := dk_seg dksX0_digest_3 24 rfl rfl
theorem dksX0_digest_5 : cX0_digest.data.toList.drop 116 = dktX0_digest_5 := dk_seg dksX0_digest_4 24 rfl rfl
theorem dksX0_digest_6 : cX0_digest.data.toList.drop 139 = dktX0_digest_6 := dk_seg dksX0_digest_5 23 rfl rfl
theorem dksX0_digest_7 : cX0_digest.data.toList.drop 163 = dktX0_digest_7 := dk_seg dksX0_digest_6 24 rfl rfl
theorem dX0_digest_0 : decode cX0_digest 0 = .ok (.aload_n 0, 1) := dk_42 (dk_at dksX0_digest_0 0 rfl rfl)
theorem dX0_digest_1 : decode cX0_digest 1 = .ok (.ldc2_w 520, 3) := dk_20 2 8 (dk_at dksX0_digest_0 1 rfl rfl)
theorem dX0_digest_4 : decode cX0_digest 4 = .ok (.putfield 514, 3) := dk_181 2 2 (dk_at dksX0_digest_0 4 rfl rfl)
theorem dX0_digest_7 : decode cX0_digest 7 = .ok (.iconst 0, 1) := dk_3 (dk_at dksX0_digest_0 7 rfl rfl)
theorem dX0_digest_8 : decode cX0_digest 8 = .ok (.istore_n 1, 1) := dk_60 (dk_at dksX0_digest_0 8 rfl rfl)
theorem dX0_digest_9 : decode cX0_digest 9 = .ok (.iload_n 1, 1) := dk_27 (dk_at dksX0_digest_0 9 rfl rfl)
theorem dX0_digest_10 : decode cX0_digest 10 = .ok (.iconst 5, 1) := dk_8 (dk_at dksX0_digest_0 10 rfl rfl)
theorem dX0_digest_11 : decode cX0_digest 11 = .ok (.if_icmp .gt 18, 3) := dk_163 0 18 (dk_at dksX0_digest_0 11 rfl rfl)
theorem dX0_digest_14 : decode cX0_digest 14 = .ok (.aload_n 0, 1) := dk_42 (dk_at dksX0_digest_0 14 rfl rfl)
theorem dX0_digest_15 : decode cX0_digest 15 = .ok (.aload_n 0, 1) := dk_42 (dk_at dksX0_digest_0 15 rfl rfl)
theorem dX0_digest_16 : decode cX0_digest 16 = .ok (.iload_n 1, 1) := dk_27 (dk_at dksX0_digest_0 16 rfl rfl)
theorem dX0_digest_17 : decode cX0_digest 17 = .ok (.invokevirtual 509, 3) := dk_182 1 253 (dk_at dksX0_digest_0 17 rfl rfl)
theorem dX0_digest_20 : decode cX0_digest 20 = .ok (.invokevirtual 517, 3) := dk_182 2 5 (dk_at dksX0_digest_0 20 rfl rfl)
theorem dX0_digest_23 : decode cX0_digest 23 = .ok (.iinc 1 1, 3) := dk_132 1 1 (dk_at dksX0_digest_1 0 rfl rfl)
theorem dX0_digest_26 : decode cX0_digest 26 = .ok (.goto (-17), 3) := dk_167 255 239 (dk_at dksX0_digest_1 3 rfl rfl)
theorem dX0_digest_29 : decode cX0_digest 29 = .ok (.aload_n 0, 1) := dk_42 (dk_at dksX0_digest_1 6 rfl rfl)
theorem dX0_digest_30 : decode cX0_digest 30 = .ok (.invokevirtual 522, 3) := dk_182 2 10 (dk_at dksX0_digest_1 7 rfl rfl)
theorem dX0_digest_33 : decode cX0_digest 33 = .ok (.aload_n 0, 1) := dk_42 (dk_at dksX0_digest_1 10 rfl rfl)
theorem dX0_digest_34 : decode cX0_digest 34 = .ok (.getfield 28, 3) := dk_180 0 28 (dk_at dksX0_digest_1 11 rfl rfl)
theorem dX0_digest_37 : decode cX0_digest 37 = .ok (.astore_n 1, 1) := dk_76 (dk_at dksX0_digest_1 14 rfl rfl)
theorem dX0_digest_38 : decode cX0_digest 38 = .ok (.aload_n 1, 1) := dk_43 (dk_at dksX0_digest_1 15 rfl rfl)
theorem dX0_digest_39 : decode cX0_digest 39 = .ok (.arraylength, 1) := dk_190 (dk_at dksX0_digest_1 16 rfl rfl)
theorem dX0_digest_40 : decode cX0_digest 40 = .ok (.istore_n 2, 1) := dk_61 (dk_at dksX0_digest_1 17 rfl rfl)
theorem dX0_digest_41 : decode cX0_digest 41 = .ok (.iconst 0, 1) := dk_3 (dk_at dksX0_digest_1 18 rfl rfl)
theorem dX0_digest_42 : decode cX0_digest 42 = .ok (.istore_n 3, 1) := dk_62 (dk_at dksX0_digest_1 19 rfl rfl)
theorem dX0_digest_43 : decode cX0_digest 43 = .ok (.iload_n 3, 1) := dk_29 (dk_at dksX0_digest_1 20 rfl rfl)
theorem dX0_digest_44 : decode cX0_digest 44 = .ok (.iload_n 2, 1) := dk_28 (dk_at dksX0_digest_1 21 rfl rfl)
theorem dX0_digest_45 : decode cX0_digest 45 = .ok (.if_icmp .ge 59, 3) := dk_162 0 59 (dk_at dksX0_digest_2 0 rfl rfl)
theorem dX0_digest_48 : decode cX0_digest 48 = .ok (.aload_n 1, 1) := dk_43 (dk_at dksX0_digest_2 3 rfl rfl)
theorem dX0_digest_49 : decode cX0_digest 49 = .ok (.iload_n 3, 1) := dk_29 (dk_at dksX0_digest_2 4 rfl rfl)
theorem dX0_digest_50 : decode cX0_digest 50 = .ok (.aaload, 1) := dk_50 (dk_at dksX0_digest_2 5 rfl rfl)
theorem dX0_digest_51 : decode cX0_digest 51 = .ok (.astore 4, 2) := dk_58 4 (dk_at dksX0_digest_2 6 rfl rfl)
theorem dX0_digest_53 : decode cX0_digest 53 = .ok (.aload 4, 2) := dk_25 4 (dk_at dksX0_digest_2 8 rfl rfl)
theorem dX0_digest_55 : decode cX0_digest 55 = .ok (.ifnonnull 7, 3) := dk_199 0 7 (dk_at dksX0_digest_2 10 rfl rfl)
theorem dX0_digest_58 : decode cX0_digest 58 = .ok (.iconst (-1), 1) := dk_2 (dk_at dksX0_digest_2 13 rfl rfl)
theorem dX0_digest_59 : decode cX0_digest 59 = .ok (.goto 6, 3) := dk_167 0 6 (dk_at dksX0_digest_2 14 rfl rfl)
theorem dX0_digest_62 : decode cX0_digest 62 = .ok (.aload 4, 2) := dk_25 4 (dk_at dksX0_digest_2 17 rfl rfl)
theorem dX0_digest_64 : decode cX0_digest 64 = .ok (.arraylength, 1) := dk_190 (dk_at dksX0_digest_2 19 rfl rfl)
theorem dX0_digest_65 : decode cX0_digest 65 = .ok (.istore 5, 2) := dk_54 5 (dk_at dksX0_digest_2 20 rfl rfl)
theorem dX0_digest_67 : decode cX0_digest 67 = .ok (.aload_n 0, 1) := dk_42 (dk_at dksX0_digest_2 22 rfl rfl)
theorem dX0_digest_68 : decode cX0_digest 68 = .ok (.iload 5, 2) := dk_21 5 (dk_at dksX0_digest_3 0 rfl rfl)
theorem dX0_digest_70 : decode cX0_digest 70 = .ok (.invokevirtual 517, 3) := dk_182 2 5 (dk_at dksX0_digest_3 2 rfl rfl)
theorem dX0_digest_73 : decode cX0_digest 73 = .ok (.iconst 0, 1) := dk_3 (dk_at dksX0_digest_3 5 rfl rfl)
theorem dX0_digest_74 : decode cX0_digest 74 = .ok (.istore 6, 2) := dk_54 6 (dk_at dksX0_digest_3 6 rfl rfl)
theorem dX0_digest_76 : decode cX0_digest 76 = .ok (.iload 6, 2) := dk_21 6 (dk_at dksX0_digest_3 8 rfl rfl)
theorem dX0_digest_78 : decode cX0_digest 78 = .ok (.iload 5, 2) := dk_21 5 (dk_at dksX0_digest_3 10 rfl rfl)
theorem dX0_digest_80 : decode cX0_digest 80 = .ok (.if_icmp .ge 18, 3) := dk_162 0 18 (dk_at dksX0_digest_3 12 rfl rfl)
theorem dX0_digest_83 : decode cX0_digest 83 = .ok (.aload_n 0, 1) := dk_42 (dk_at dksX0_digest_3 15 rfl rfl)
theorem dX0_digest_84 : decode cX0_digest 84 = .ok (.aload 4, 2) := dk_25 4 (dk_at dksX0_digest_3 16 rfl rfl)
theorem dX0_digest_86 : decode cX0_digest 86 = .ok (.iload 6, 2) := dk_21 6 (dk_at dksX0_digest_3 18 rfl rfl)
theorem dX0_digest_88 : decode cX0_digest 88 = .ok (.iaload, 1) := dk_46 (dk_at dksX0_digest_3 20 rfl rfl)
theorem dX0_digest_89 : decode cX0_digest 89 = .ok (.invokevirtual 517, 3) := dk_182 2 5 (dk_at dksX0_digest_3 21 rfl rfl)
theorem dX0_digest_92 : decode cX0_digest 92 = .ok (.iinc 6 1, 3) := dk_132 6 1 (dk_at dksX0_digest_4 0 rfl rfl)
theorem dX0_digest_95 : decode cX0_digest 95 = .ok (.goto (-19), 3) := dk_167 255 237 (dk_at dksX0_digest_4 3 rfl rfl)
theorem dX0_digest_98 : decode cX0_digest 98 = .ok (.iinc 3 1, 3) := dk_132 3 1 (dk_at dksX0_digest_4 6 rfl rfl)
theorem dX0_digest_101 : decode cX0_digest 101 = .ok (.goto (-58), 3) := dk_167 255 198 (dk_at dksX0_digest_4 9 rfl rfl)
theorem dX0_digest_104 : decode cX0_digest 104 = .ok (.aload_n 0, 1) := dk_42 (dk_at dksX0_digest_4 12 rfl rfl)
theorem dX0_digest_105 : decode cX0_digest 105 = .ok (.getfield 34, 3) := dk_180 0 34 (dk_at dksX0_digest_4 13 rfl rfl)
theorem dX0_digest_108 : decode cX0_digest 108 = .ok (.astore_n 1, 1) := dk_76 (dk_at dksX0_digest_4 16 rfl rfl)
theorem dX0_digest_109 : decode cX0_digest 109 = .ok (.aload_n 1, 1) := dk_43 (dk_at dksX0_digest_4 17 rfl rfl)
theorem dX0_digest_110 : decode cX0_digest 110 = .ok (.arraylength, 1) := dk_190 (dk_at dksX0_digest_4 18 rfl rfl)
theorem dX0_digest_111 : decode cX0_digest 111 = .ok (.istore_n 2, 1) := dk_61 (dk_at dksX0_digest_4 19 rfl rfl)
theorem dX0_digest_112 : decode cX0_digest 112 = .ok (.iconst 0, 1) := dk_3 (dk_at dksX0_digest_4 20 rfl rfl)
theorem dX0_digest_113 : decode cX0_digest 113 = .ok (.istore_n 3, 1) := dk_62 (dk_at dksX0_digest_4 21 rfl rfl)
theorem dX0_digest_114 : decode cX0_digest 114 = .ok (.iload_n 3, 1) := dk_29 (dk_at dksX0_digest_4 22 rfl rfl)
theorem dX0_digest_115 : decode cX0_digest 115 = .ok (.iload_n 2, 1) := dk_28 (dk_at dksX0_digest_4 23 rfl rfl)
theorem dX0_digest_116 : decode cX0_digest 116 = .ok (.if_icmp .ge 59, 3) := dk_162 0 59 (dk_at dksX0_digest_5 0 rfl rfl)
theorem dX0_digest_119 : decode cX0_digest 119 = .ok (.aload_n 1, 1) := dk_43 (dk_at dksX0_digest_5 3 rfl rfl)
theorem dX0_digest_120 : decode cX0_digest 120 = .ok (.iload_n 3, 1) := dk_29 (dk_at dksX0_digest_5 4 rfl rfl)
theorem dX0_digest_121 : decode cX0_digest 121 = .ok (.aaload, 1) := dk_50 (dk_at dksX0_digest_5 5 rfl rfl)
theorem dX0_digest_122 : decode cX0_digest 122 = .ok (.astore 4, 2) := dk_58 4 (dk_at dksX0_digest_5 6 rfl rfl)
theorem dX0_digest_124 : decode cX0_digest 124 = .ok (.aload 4, 2) := dk_25 4 (dk_at dksX0_digest_5 8 rfl rfl)
theorem dX0_digest_126 : decode cX0_digest 126 = .ok (.ifnonnull 7, 3) := dk_199 0 7 (dk_at dksX0_digest_5 10 rfl rfl)
theorem dX0_digest_129 : decode cX0_digest 129 = .ok (.iconst (-1), 1) := dk_2 (dk_at dksX0_digest_5 13 rfl rfl)
theorem dX0_digest_130 : decode cX0_digest 130 = .ok (.goto 6, 3) := dk_167 0 6 (dk_at dksX0_digest_5 14 rfl rfl)
theorem dX0_digest_133 : decode cX0_digest 133 = .ok (.aload 4, 2) := dk_25 4 (dk_at dksX0_digest_5 17 rfl rfl)
theorem dX0_digest_135 : decode cX0_digest 135 = .ok (.arraylength, 1) := dk_190 (dk_at dksX0_digest_5 19 rfl rfl)
theorem dX0_digest_136 : decode cX0_digest 136 = .ok (.istore 5, 2) := dk_54 5 (dk_at dksX0_digest_5 20 rfl rfl)
theorem dX0_digest_138 : decode cX0_digest 138 = .ok (.aload_n 0, 1) := dk_42 (dk_at dksX0_digest_5 22 rfl rfl)
theorem dX0_digest_139 : decode cX0_digest 139 = .ok (.iload 5, 2) := dk_21 5 (dk_at dksX0_digest_6 0 rfl rfl)
theorem dX0_digest_141 : decode cX0_digest 141 = .ok (.invokevirtual 517, 3) := dk_182 2 5 (dk_at dksX0_digest_6 2 rfl rfl)
theorem dX0_digest_144 : decode cX0_digest 144 = .ok (.iconst 0, 1) := dk_3 (dk_at dksX0_digest_6 5 rfl rfl)
theorem dX0_digest_145 : decode cX0_digest 145 = .ok (.istore 6, 2) := dk_54 6 (dk_at dksX0_digest_6 6 rfl rfl)
theorem dX0_digest_147 : decode cX0_digest 147 = .ok (.iload 6, 2) := dk_21 6 (dk_at dksX0_digest_6 8 rfl rfl)
theorem dX0_digest_149 : decode cX0_digest 149 = .ok (.iload 5, 2) := dk_21 5 (dk_at dksX0_digest_6 10 rfl rfl)
theorem dX0_digest_151 : decode cX0_digest 151 = .ok (.if_icmp .ge 18, 3) := dk_162 0 18 (dk_at dksX0_digest_6 12 rfl rfl)
theorem dX0_digest_154 : decode cX0_digest 154 = .ok (.aload_n 0, 1) := dk_42 (dk_at dksX0_digest_6 15 rfl rfl)
theorem dX0_digest_155 : decode cX0_digest 155 = .ok (.aload 4, 2) := dk_25 4 (dk_at dksX0_digest_6 16 rfl rfl)
theorem dX0_digest_157 : decode cX0_digest 157 = .ok (.iload 6, 2) := dk_21 6 (dk_at dksX0_digest_6 18 rfl rfl)
theorem dX0_digest_159 : decode cX0_digest 159 = .ok (.baload, 1) := dk_51 (dk_at dksX0_digest_6 20 rfl rfl)
theorem dX0_digest_160 : decode cX0_digest 160 = .ok (.invokevirtual 517, 3) := dk_182 2 5 (dk_at dksX0_digest_6 21 rfl rfl)
theorem dX0_digest_163 : decode cX0_digest 163 = .ok (.iinc 6 1, 3) := dk_132 6 1 (dk_at dksX0_digest_7 0 rfl rfl)
theorem dX0_digest_166 : decode cX0_digest 166 = .ok (.goto (-19), 3) := dk_167 255 237 (dk_at dksX0_digest_7 3 rfl rfl)
theorem dX0_digest_169 : decode cX0_digest 169 = .ok (.iinc 3 1, 3) := dk_132 3 1 (dk_at dksX0_digest_7 6 rfl rfl)
theorem dX0_digest_172 : decode cX0_digest 172 = .ok (.goto (-58), 3) := dk_167 255 198 (dk_at dksX0_digest_7 9 rfl rfl)
theorem dX0_digest_175 : decode cX0_digest 175 = .ok (.aload_n 0, 1) := dk_42 (dk_at dksX0_digest_7 12 rfl rfl)
theorem dX0_digest_176 : decode cX0_digest 176 = .ok (.getfield 514, 3) := dk_180 2 2 (dk_at dksX0_digest_7 13 rfl rfl)
theorem dX0_digest_179 : decode cX0_digest 179 = .ok (.lreturn, 1) := dk_173 (dk_at dksX0_digest_7 16 rfl rfl)
abbrev cX0_mix : ByteArray := prog_1_method_106_code
def yX0_mix : MethodName := ⟨RX0, "mix", "(I)V"⟩
def dkwX0_mix_0 : List UInt8 := [42, 20, 2, 0, 42, 180, 2, 2, 105, 27, 133, 97, 181, 2, 2, 177]
abbrev dktX0_mix_0 : List UInt8 := dkwX0_mix_0 ++ []
theorem dksX0_mix_0 : cX0_mix.data.toList.drop 0 = dktX0_mix_0 := by decide +kernel
theorem dX0_mix_0 : decode cX0_mix 0 = .ok (.aload_n 0, 1) := dk_42 (dk_at dksX0_mix_0 0 rfl rfl)
theorem dX0_mix_1 : decode cX0_mix 1 = .ok (.ldc2_w 512, 3) := dk_20 2 0 (dk_at dksX0_mix_0 1 rfl rfl)
theorem dX0_mix_4 : decode cX0_mix 4 = .ok (.aload_n 0, 1) := dk_42 (dk_at dksX0_mix_0 4 rfl rfl)
theorem dX0_mix_5 : decode cX0_mix 5 = .ok (.getfield 514, 3) := dk_180 2 2 (dk_at dksX0_mix_0 5 rfl rfl)
theorem dX0_mix_8 : decode cX0_mix 8 = .ok (.lmul, 1) := dk_105 (dk_at dksX0_mix_0 8 rfl rfl)
theorem dX0_mix_9 : decode cX0_mix 9 = .ok (.iload_n 1, 1) := dk_27 (dk_at dksX0_mix_0 9 rfl rfl)
theorem dX0_mix_10 : decode cX0_mix 10 = .ok (.i2l, 1) := dk_133 (dk_at dksX0_mix_0 10 rfl rfl)
theorem dX0_mix_11 : decode cX0_mix 11 = .ok (.ladd, 1) := dk_97 (dk_at dksX0_mix_0 11 rfl rfl)
theorem dX0_mix_12 : decode cX0_mix 12 = .ok (.putfield 514, 3) := dk_181 2 2 (dk_at dksX0_mix_0 12 rfl rfl)
theorem dX0_mix_15 : decode cX0_mix 15 = .ok (.return_, 1) := dk_177 (dk_at dksX0_mix_0 15 rfl rfl)
abbrev cX0_mixWood : ByteArray := prog_1_method_107_code
def yX0_mixWood : MethodName := ⟨RX0, "mixWood", "()V"⟩
def dkwX0_mixWood_8 : List UInt8 := [167, 255, 238, 132, 1, 1, 167, 255, 222, 177]
abbrev dktX0_mixWood_8 : List UInt8 := dkwX0_mixWood_8 ++ []
def dkwX0_mixWood_7 : List UInt8 := [162, 0, 32, 3, 61, 28, 6, 163, 0, 19, 42, 42, 27, 28, 182, 1, 77, 182, 2, 5, 132, 2, 1]
abbrev dktX0_mixWood_7 : List UInt8 := dkwX0_mixWood_7 ++ dktX0_mixWood_8
def dkwX0_mixWood_6 : List UInt8 := [43, 29, 51, 54, 4, 42, 21, 4, 182, 2, 5, 132, 3, 1, 167, 255, 237, 3, 60, 27, 42, 180, 1, 20]
abbrev dktX0_mixWood_6 : List UInt8 := dkwX0_mixWood_6 ++ dktX0_mixWood_7
def dkwX0_mixWood_5 : List UInt8 := [182, 2, 5, 132, 1, 1, 167, 255, 238, 42, 180, 0, 126, 76, 43, 190, 61, 3, 62, 29, 28, 162, 0, 20]
abbrev dktX0_mixWood_5 : List UInt8 := dkwX0_mixWood_5 ++ dktX0_mixWood_6
def dkwX0_mixWood_4 : List UInt8 := [182, 2, 5, 132, 1, 1, 167, 255, 215, 3, 60, 27, 16, 8, 163, 0, 18, 42, 42, 27, 182, 1, 86]
abbrev dktX0_mixWood_4 : List UInt8 := dkwX0_mixWood_4 ++ dktX0_mixWood_5
def dkwX0_mixWood_3 : List UInt8 := [27, 46, 182, 2, 5, 42, 42, 180, 0, 53, 27, 46, 182, 2, 5, 42, 42, 180, 0, 56, 27, 46]
abbrev dktX0_mixWood_3 : List UInt8 := dkwX0_mixWood_3 ++ dktX0_mixWood_4
def dkwX0_mixWood_2 : List UInt8 := [182, 2, 5, 132, 1, 1, 167, 255, 208, 3, 60, 27, 42, 180, 1, 17, 162, 0, 39, 42, 42, 180, 0, 50]
abbrev dktX0_mixWood_2 : List UInt8 := dkwX0_mixWood_2 ++ dktX0_mixWood_3
def dkwX0_mixWood_1 : List UInt8 := [182, 1, 47, 182, 2, 5, 132, 2, 1, 167, 255, 238, 42, 42, 180, 0, 40, 27, 50, 182, 1, 163]
abbrev dktX0_mixWood_1 : List UInt8 := dkwX0_mixWood_1 ++ dktX0_mixWood_2
def dkwX0_mixWood_0 : List UInt8 := [3, 60, 27, 42, 180, 0, 40, 190, 162, 0, 45, 3, 61, 28, 6, 163, 0, 19, 42, 42, 27, 28]
abbrev dktX0_mixWood_0 : List UInt8 := dkwX0_mixWood_0 ++ dktX0_mixWood_1
theorem dksX0_mixWood_0 : cX0_mixWood.data.toList.drop 0 = dktX0_mixWood_0 := by decide +kernel
theorem dksX0_mixWood_1 : cX0_mixWood.data.toList.drop 22 = dktX0_mixWood_1 := dk_seg dksX0_mixWood_0 22 rfl rfl
theorem dksX0_mixWood_2 : cX0_mixWood.data.toList.drop 44 = dktX0_mixWood_2 := dk_seg dksX0_mixWood_1 22 rfl rfl
theorem dksX0_mixWood_3 : cX0_mixWood.data.toList.drop 68 = dktX0_mixWood_3 := dk_seg dksX0_mixWood_2 24 rfl rfl
theorem dksX0_mixWood_4 : cX0_mixWood.data.toList.drop 90 = dktX0_mixWood_4 := dk_seg dksX0_mixWood_3 22 rfl rfl
theorem dksX0_mixWood_5 : cX0_mixWood.data.toList.drop 113 = dktX0_mixWood_5 := dk_seg dksX0_mixWood_4 23 rfl rfl
theorem dksX0_mixWood_6 : cX0_mixWood.data.toList.drop 137 = dktX0_mixWood_6 := dk_seg dksX0_mixWood_5 24 rfl rfl
theorem dksX0_mixWood_7 : cX0_mixWood.data.toList.drop 161 = dktX0_mixWood_7 := dk_seg dksX0_mixWood_6 24 rfl rfl
theorem dksX0_mixWood_8 : cX0_mixWood.data.toList.drop 184 = dktX0_mixWood_8 := dk_seg dksX0_mixWood_7 23 rfl rfl
theorem dX0_mixWood_0 : decode cX0_mixWood 0 = .ok (.iconst 0, 1) := dk_3 (dk_at dksX0_mixWood_0 0 rfl rfl)
theorem dX0_mixWood_1 : decode cX0_mixWood 1 = .ok (.istore_n 1, 1) := dk_60 (dk_at dksX0_mixWood_0 1 rfl rfl)
theorem dX0_mixWood_2 : decode cX0_mixWood 2 = .ok (.iload_n 1, 1) := dk_27 (dk_at dksX0_mixWood_0 2 rfl rfl)
theorem dX0_mixWood_3 : decode cX0_mixWood 3 = .ok (.aload_n 0, 1) := dk_42 (dk_at dksX0_mixWood_0 3 rfl rfl)
theorem dX0_mixWood_4 : decode cX0_mixWood 4 = .ok (.getfield 40, 3) := dk_180 0 40 (dk_at dksX0_mixWood_0 4 rfl rfl)
theorem dX0_mixWood_7 : decode cX0_mixWood 7 = .ok (.arraylength, 1) := dk_190 (dk_at dksX0_mixWood_0 7 rfl rfl)
theorem dX0_mixWood_8 : decode cX0_mixWood 8 = .ok (.if_icmp .ge 45, 3) := dk_162 0 45 (dk_at dksX0_mixWood_0 8 rfl rfl)
theorem dX0_mixWood_11 : decode cX0_mixWood 11 = .ok (.iconst 0, 1) := dk_3 (dk_at dksX0_mixWood_0 11 rfl rfl)
theorem dX0_mixWood_12 : decode cX0_mixWood 12 = .ok (.istore_n 2, 1) := dk_61 (dk_at dksX0_mixWood_0 12 rfl rfl)
theorem dX0_mixWood_13 : decode cX0_mixWood 13 = .ok (.iload_n 2, 1) := dk_28 (dk_at dksX0_mixWood_0 13 rfl rfl)
theorem dX0_mixWood_14 : decode cX0_mixWood 14 = .ok (.iconst 3, 1) := dk_6 (dk_at dksX0_mixWood_0 14 rfl rfl)
theorem dX0_mixWood_15 : decode cX0_mixWood 15 = .ok (.if_icmp .gt 19, 3) := dk_163 0 19 (dk_at dksX0_mixWood_0 15 rfl rfl)
theorem dX0_mixWood_18 : decode cX0_mixWood 18 = .ok (.aload_n 0, 1) := dk_42 (dk_at dksX0_mixWood_0 18 rfl rfl)
theorem dX0_mixWood_19 : decode cX0_mixWood 19 = .ok (.aload_n 0, 1) := dk_42 (dk_at dksX0_mixWood_0 19 rfl rfl)
theorem dX0_mixWood_20 : decode cX0_mixWood 20 = .ok (.iload_n 1, 1) := dk_27 (dk_at dksX0_mixWood_0 20 rfl rfl)
theorem dX0_mixWood_21 : decode cX0_mixWood 21 = .ok (.iload_n 2, 1) := dk_28 (dk_at dksX0_mixWood_0 21 rfl rfl)
theorem dX0_mixWood_22 : decode cX0_mixWood 22 = .ok (.invokevirtual 303, 3) := dk_182 1 47 (dk_at dksX0_mixWood_1 0 rfl rfl)
theorem dX0_mixWood_25 : decode cX0_mixWood 25 = .ok (.invokevirtual 517, 3) := dk_182 2 5 (dk_at dksX0_mixWood_1 3 rfl rfl)
theorem dX0_mixWood_28 : decode cX0_mixWood 28 = .ok (.iinc 2 1, 3) := dk_132 2 1 (dk_at dksX0_mixWood_1 6 rfl rfl)
theorem dX0_mixWood_31 : decode cX0_mixWood 31 = .ok (.goto (-18), 3) := dk_167 255 238 (dk_at dksX0_mixWood_1 9 rfl rfl)
theorem dX0_mixWood_34 : decode cX0_mixWood 34 = .ok (.aload_n 0, 1) := dk_42 (dk_at dksX0_mixWood_1 12 rfl rfl)
theorem dX0_mixWood_35 : decode cX0_mixWood 35 = .ok (.aload_n 0, 1) := dk_42 (dk_at dksX0_mixWood_1 13 rfl rfl)
theorem dX0_mixWood_36 : decode cX0_mixWood 36 = .ok (.getfield 40, 3) := dk_180 0 40 (dk_at dksX0_mixWood_1 14 rfl rfl)
theorem dX0_mixWood_39 : decode cX0_mixWood 39 = .ok (.iload_n 1, 1) := dk_27 (dk_at dksX0_mixWood_1 17 rfl rfl)
theorem dX0_mixWood_40 : decode cX0_mixWood 40 = .ok (.aaload, 1) := dk_50 (dk_at dksX0_mixWood_1 18 rfl rfl)
theorem dX0_mixWood_41 : decode cX0_mixWood 41 = .ok (.invokevirtual 419, 3) := dk_182 1 163 (dk_at dksX0_mixWood_1 19 rfl rfl)
theorem dX0_mixWood_44 : decode cX0_mixWood 44 = .ok (.invokevirtual 517, 3) := dk_182 2 5 (dk_at dksX0_mixWood_2 0 rfl rfl)
theorem dX0_mixWood_47 : decode cX0_mixWood 47 = .ok (.iinc 1 1, 3) := dk_132 1 1 (dk_at dksX0_mixWood_2 3 rfl rfl)
theorem dX0_mixWood_50 : decode cX0_mixWood 50 = .ok (.goto (-48), 3) := dk_167 255 208 (dk_at dksX0_mixWood_2 6 rfl rfl)
theorem dX0_mixWood_53 : decode cX0_mixWood 53 = .ok (.iconst 0, 1) := dk_3 (dk_at dksX0_mixWood_2 9 rfl rfl)
theorem dX0_mixWood_54 : decode cX0_mixWood 54 = .ok (.istore_n 1, 1) := dk_60 (dk_at dksX0_mixWood_2 10 rfl rfl)
theorem dX0_mixWood_55 : decode cX0_mixWood 55 = .ok (.iload_n 1, 1) := dk_27 (dk_at dksX0_mixWood_2 11 rfl rfl)
theorem dX0_mixWood_56 : decode cX0_mixWood 56 = .ok (.aload_n 0, 1) := dk_42 (dk_at dksX0_mixWood_2 12 rfl rfl)
theorem dX0_mixWood_57 : decode cX0_mixWood 57 = .ok (.getfield 273, 3) := dk_180 1 17 (dk_at dksX0_mixWood_2 13 rfl rfl)
theorem dX0_mixWood_60 : decode cX0_mixWood 60 = .ok (.if_icmp .ge 39, 3) := dk_162 0 39 (dk_at dksX0_mixWood_2 16 rfl rfl)
theorem dX0_mixWood_63 : decode cX0_mixWood 63 = .ok (.aload_n 0, 1) := dk_42 (dk_at dksX0_mixWood_2 19 rfl rfl)
theorem dX0_mixWood_64 : decode cX0_mixWood 64 = .ok (.aload_n 0, 1) := dk_42 (dk_at dksX0_mixWood_2 20 rfl rfl)
theorem dX0_mixWood_65 : decode cX0_mixWood 65 = .ok (.getfield 50, 3) := dk_180 0 50 (dk_at dksX0_mixWood_2 21 rfl rfl)
theorem dX0_mixWood_68 : decode cX0_mixWood 68 = .ok (.iload_n 1, 1) := dk_27 (dk_at dksX0_mixWood_3 0 rfl rfl)
theorem dX0_mixWood_69 : decode cX0_mixWood 69 = .ok (.iaload, 1) := dk_46 (dk_at dksX0_mixWood_3 1 rfl rfl)
theorem dX0_mixWood_70 : decode cX0_mixWood 70 = .ok (.invokevirtual 517, 3) := dk_182 2 5 (dk_at dksX0_mixWood_3 2 rfl rfl)
theorem dX0_mixWood_73 : decode cX0_mixWood 73 = .ok (.aload_n 0, 1) := dk_42 (dk_at dksX0_mixWood_3 5 rfl rfl)
theorem dX0_mixWood_74 : decode cX0_mixWood 74 = .ok (.aload_n 0, 1) := dk_42 (dk_at dksX0_mixWood_3 6 rfl rfl)
theorem dX0_mixWood_75 : decode cX0_mixWood 75 = .ok (.getfield 53, 3) := dk_180 0 53 (dk_at dksX0_mixWood_3 7 rfl rfl)
theorem dX0_mixWood_78 : decode cX0_mixWood 78 = .ok (.iload_n 1, 1) := dk_27 (dk_at dksX0_mixWood_3 10 rfl rfl)
theorem dX0_mixWood_79 : decode cX0_mixWood 79 = .ok (.iaload, 1) := dk_46 (dk_at dksX0_mixWood_3 11 rfl rfl)
theorem dX0_mixWood_80 : decode cX0_mixWood 80 = .ok (.invokevirtual 517, 3) := dk_182 2 5 (dk_at dksX0_mixWood_3 12 rfl rfl)
theorem dX0_mixWood_83 : decode cX0_mixWood 83 = .ok (.aload_n 0, 1) := dk_42 (dk_at dksX0_mixWood_3 15 rfl rfl)
theorem dX0_mixWood_84 : decode cX0_mixWood 84 = .ok (.aload_n 0, 1) := dk_42 (dk_at dksX0_mixWood_3 16 rfl rfl)
theorem dX0_mixWood_85 : decode cX0_mixWood 85 = .ok (.getfield 56, 3) := dk_180 0 56 (dk_at dksX0_mixWood_3 17 rfl rfl)
theorem dX0_mixWood_88 : decode cX0_mixWood 88 = .ok (.iload_n 1, 1) := dk_27 (dk_at dksX0_mixWood_3 20 rfl rfl)
theorem dX0_mixWood_89 : decode cX0_mixWood 89 = .ok (.iaload, 1) := dk_46 (dk_at dksX0_mixWood_3 21 rfl rfl)
theorem dX0_mixWood_90 : decode cX0_mixWood 90 = .ok (.invokevirtual 517, 3) := dk_182 2 5 (dk_at dksX0_mixWood_4 0 rfl rfl)
theorem dX0_mixWood_93 : decode cX0_mixWood 93 = .ok (.iinc 1 1, 3) := dk_132 1 1 (dk_at dksX0_mixWood_4 3 rfl rfl)
theorem dX0_mixWood_96 : decode cX0_mixWood 96 = .ok (.goto (-41), 3) := dk_167 255 215 (dk_at dksX0_mixWood_4 6 rfl rfl)
theorem dX0_mixWood_99 : decode cX0_mixWood 99 = .ok (.iconst 0, 1) := dk_3 (dk_at dksX0_mixWood_4 9 rfl rfl)
theorem dX0_mixWood_100 : decode cX0_mixWood 100 = .ok (.istore_n 1, 1) := dk_60 (dk_at dksX0_mixWood_4 10 rfl rfl)
theorem dX0_mixWood_101 : decode cX0_mixWood 101 = .ok (.iload_n 1, 1) := dk_27 (dk_at dksX0_mixWood_4 11 rfl rfl)
theorem dX0_mixWood_102 : decode cX0_mixWood 102 = .ok (.bipush 8, 2) := dk_16 8 (dk_at dksX0_mixWood_4 12 rfl rfl)
theorem dX0_mixWood_104 : decode cX0_mixWood 104 = .ok (.if_icmp .gt 18, 3) := dk_163 0 18 (dk_at dksX0_mixWood_4 14 rfl rfl)
theorem dX0_mixWood_107 : decode cX0_mixWood 107 = .ok (.aload_n 0, 1) := dk_42 (dk_at dksX0_mixWood_4 17 rfl rfl)
theorem dX0_mixWood_108 : decode cX0_mixWood 108 = .ok (.aload_n 0, 1) := dk_42 (dk_at dksX0_mixWood_4 18 rfl rfl)
theorem dX0_mixWood_109 : decode cX0_mixWood 109 = .ok (.iload_n 1, 1) := dk_27 (dk_at dksX0_mixWood_4 19 rfl rfl)
theorem dX0_mixWood_110 : decode cX0_mixWood 110 = .ok (.invokevirtual 342, 3) := dk_182 1 86 (dk_at dksX0_mixWood_4 20 rfl rfl)
theorem dX0_mixWood_113 : decode cX0_mixWood 113 = .ok (.invokevirtual 517, 3) := dk_182 2 5 (dk_at dksX0_mixWood_5 0 rfl rfl)
theorem dX0_mixWood_116 : decode cX0_mixWood 116 = .ok (.iinc 1 1, 3) := dk_132 1 1 (dk_at dksX0_mixWood_5 3 rfl rfl)
theorem dX0_mixWood_119 : decode cX0_mixWood 119 = .ok (.goto (-18), 3) := dk_167 255 238 (dk_at dksX0_mixWood_5 6 rfl rfl)
theorem dX0_mixWood_122 : decode cX0_mixWood 122 = .ok (.aload_n 0, 1) := dk_42 (dk_at dksX0_mixWood_5 9 rfl rfl)
theorem dX0_mixWood_123 : decode cX0_mixWood 123 = .ok (.getfield 126, 3) := dk_180 0 126 (dk_at dksX0_mixWood_5 10 rfl rfl)
theorem dX0_mixWood_126 : decode cX0_mixWood 126 = .ok (.astore_n 1, 1) := dk_76 (dk_at dksX0_mixWood_5 13 rfl rfl)
theorem dX0_mixWood_127 : decode cX0_mixWood 127 = .ok (.aload_n 1, 1) := dk_43 (dk_at dksX0_mixWood_5 14 rfl rfl)
theorem dX0_mixWood_128 : decode cX0_mixWood 128 = .ok (.arraylength, 1) := dk_190 (dk_at dksX0_mixWood_5 15 rfl rfl)
theorem dX0_mixWood_129 : decode cX0_mixWood 129 = .ok (.istore_n 2, 1) := dk_61 (dk_at dksX0_mixWood_5 16 rfl rfl)
theorem dX0_mixWood_130 : decode cX0_mixWood 130 = .ok (.iconst 0, 1) := dk_3 (dk_at dksX0_mixWood_5 17 rfl rfl)
theorem dX0_mixWood_131 : decode cX0_mixWood 131 = .ok (.istore_n 3, 1) := dk_62 (dk_at dksX0_mixWood_5 18 rfl rfl)
theorem dX0_mixWood_132 : decode cX0_mixWood 132 = .ok (.iload_n 3, 1) := dk_29 (dk_at dksX0_mixWood_5 19 rfl rfl)
theorem dX0_mixWood_133 : decode cX0_mixWood 133 = .ok (.iload_n 2, 1) := dk_28 (dk_at dksX0_mixWood_5 20 rfl rfl)
theorem dX0_mixWood_134 : decode cX0_mixWood 134 = .ok (.if_icmp .ge 20, 3) := dk_162 0 20 (dk_at dksX0_mixWood_5 21 rfl rfl)
theorem dX0_mixWood_137 : decode cX0_mixWood 137 = .ok (.aload_n 1, 1) := dk_43 (dk_at dksX0_mixWood_6 0 rfl rfl)
theorem dX0_mixWood_138 : decode cX0_mixWood 138 = .ok (.iload_n 3, 1) := dk_29 (dk_at dksX0_mixWood_6 1 rfl rfl)
theorem dX0_mixWood_139 : decode cX0_mixWood 139 = .ok (.baload, 1) := dk_51 (dk_at dksX0_mixWood_6 2 rfl rfl)
theorem dX0_mixWood_140 : decode cX0_mixWood 140 = .ok (.istore 4, 2) := dk_54 4 (dk_at dksX0_mixWood_6 3 rfl rfl)
theorem dX0_mixWood_142 : decode cX0_mixWood 142 = .ok (.aload_n 0, 1) := dk_42 (dk_at dksX0_mixWood_6 5 rfl rfl)
theorem dX0_mixWood_143 : decode cX0_mixWood 143 = .ok (.iload 4, 2) := dk_21 4 (dk_at dksX0_mixWood_6 6 rfl rfl)
theorem dX0_mixWood_145 : decode cX0_mixWood 145 = .ok (.invokevirtual 517, 3) := dk_182 2 5 (dk_at dksX0_mixWood_6 8 rfl rfl)
theorem dX0_mixWood_148 : decode cX0_mixWood 148 = .ok (.iinc 3 1, 3) := dk_132 3 1 (dk_at dksX0_mixWood_6 11 rfl rfl)
theorem dX0_mixWood_151 : decode cX0_mixWood 151 = .ok (.goto (-19), 3) := dk_167 255 237 (dk_at dksX0_mixWood_6 14 rfl rfl)
theorem dX0_mixWood_154 : decode cX0_mixWood 154 = .ok (.iconst 0, 1) := dk_3 (dk_at dksX0_mixWood_6 17 rfl rfl)
theorem dX0_mixWood_155 : decode cX0_mixWood 155 = .ok (.istore_n 1, 1) := dk_60 (dk_at dksX0_mixWood_6 18 rfl rfl)
theorem dX0_mixWood_156 : decode cX0_mixWood 156 = .ok (.iload_n 1, 1) := dk_27 (dk_at dksX0_mixWood_6 19 rfl rfl)
theorem dX0_mixWood_157 : decode cX0_mixWood 157 = .ok (.aload_n 0, 1) := dk_42 (dk_at dksX0_mixWood_6 20 rfl rfl)
theorem dX0_mixWood_158 : decode cX0_mixWood 158 = .ok (.getfield 276, 3) := dk_180 1 20 (dk_at dksX0_mixWood_6 21 rfl rfl)
theorem dX0_mixWood_161 : decode cX0_mixWood 161 = .ok (.if_icmp .ge 32, 3) := dk_162 0 32 (dk_at dksX0_mixWood_7 0 rfl rfl)
theorem dX0_mixWood_164 : decode cX0_mixWood 164 = .ok (.iconst 0, 1) := dk_3 (dk_at dksX0_mixWood_7 3 rfl rfl)
theorem dX0_mixWood_165 : decode cX0_mixWood 165 = .ok (.istore_n 2, 1) := dk_61 (dk_at dksX0_mixWood_7 4 rfl rfl)
theorem dX0_mixWood_166 : decode cX0_mixWood 166 = .ok (.iload_n 2, 1) := dk_28 (dk_at dksX0_mixWood_7 5 rfl rfl)
theorem dX0_mixWood_167 : decode cX0_mixWood 167 = .ok (.iconst 3, 1) := dk_6 (dk_at dksX0_mixWood_7 6 rfl rfl)
theorem dX0_mixWood_168 : decode cX0_mixWood 168 = .ok (.if_icmp .gt 19, 3) := dk_163 0 19 (dk_at dksX0_mixWood_7 7 rfl rfl)
theorem dX0_mixWood_171 : decode cX0_mixWood 171 = .ok (.aload_n 0, 1) := dk_42 (dk_at dksX0_mixWood_7 10 rfl rfl)
theorem dX0_mixWood_172 : decode cX0_mixWood 172 = .ok (.aload_n 0, 1) := dk_42 (dk_at dksX0_mixWood_7 11 rfl rfl)
theorem dX0_mixWood_173 : decode cX0_mixWood 173 = .ok (.iload_n 1, 1) := dk_27 (dk_at dksX0_mixWood_7 12 rfl rfl)
theorem dX0_mixWood_174 : decode cX0_mixWood 174 = .ok (.iload_n 2, 1) := dk_28 (dk_at dksX0_mixWood_7 13 rfl rfl)
theorem dX0_mixWood_175 : decode cX0_mixWood 175 = .ok (.invokevirtual 333, 3) := dk_182 1 77 (dk_at dksX0_mixWood_7 14 rfl rfl)
theorem dX0_mixWood_178 : decode cX0_mixWood 178 = .ok (.invokevirtual 517, 3) := dk_182 2 5 (dk_at dksX0_mixWood_7 17 rfl rfl)
theorem dX0_mixWood_181 : decode cX0_mixWood 181 = .ok (.iinc 2 1, 3) := dk_132 2 1 (dk_at dksX0_mixWood_7 20 rfl rfl)
theorem dX0_mixWood_184 : decode cX0_mixWood 184 = .ok (.goto (-18), 3) := dk_167 255 238 (dk_at dksX0_mixWood_8 0 rfl rfl)
theorem dX0_mixWood_187 : decode cX0_mixWood 187 = .ok (.iinc 1 1, 3) := dk_132 1 1 (dk_at dksX0_mixWood_8 3 rfl rfl)
theorem dX0_mixWood_190 : decode cX0_mixWood 190 = .ok (.goto (-34), 3) := dk_167 255 222 (dk_at dksX0_mixWood_8 6 rfl rfl)
theorem dX0_mixWood_193 : decode cX0_mixWood 193 = .ok (.return_, 1) := dk_177 (dk_at dksX0_mixWood_8 9 rfl rfl)
theorem q107 : (Jvm.Cond.initialized "AcornYears") ∈ lw_all := lw_g (lw_at lw_m1 1 rfl) rfl
theorem q130 : (Jvm.Cond.instantiable "AcornYears" (54 : Nat)) ∈ lw_all := lw_g (lw_at lw_m1 24 rfl) rfl
theorem q132 : (Jvm.Cond.instanceMethod ({ cls := "AcornYears", name := "<init>", desc := "()V" } : Jvm.MethodName)) ∈ lw_all := lw_g (lw_at lw_m1 26 rfl) rfl
theorem q133 : (Jvm.Cond.code ({ cls := "AcornYears", name := "<init>", desc := "()V" } : Jvm.MethodName) prog_1_method_6_code (2 : Nat) (Option.none : Option Jvm.ClassFile.FieldType)) ∈ lw_all := lw_g (lw_at lw_m1 27 rfl) rfl
theorem q134 : (Jvm.Cond.methodLink "AcornYears" (21 : Nat) ({ cls := "java/lang/Object", name := "<init>", desc := "()V" } : Jvm.MethodName)) ∈ lw_all := lw_g (lw_at lw_m1 28 rfl) rfl
theorem q137 : (Jvm.Cond.classLink "AcornYears" (27 : Nat) "[I") ∈ lw_all := lw_g (lw_at lw_m1 31 rfl) rfl
theorem q139 : (Jvm.Cond.classLink "AcornYears" (32 : Nat) "[B") ∈ lw_all := lw_g (lw_at lw_m1 33 rfl) rfl
theorem q141 : (Jvm.Cond.classLink "AcornYears" (38 : Nat) "AcornYears$Sort") ∈ lw_all := lw_g (lw_at lw_m1 35 rfl) rfl
theorem q143 : (Jvm.Cond.classLink "AcornYears" (77 : Nat) "AcornYears$Tree") ∈ lw_all := lw_g (lw_at lw_m1 37 rfl) rfl
theorem q145 : (Jvm.Cond.classLink "AcornYears" (83 : Nat) "AcornYears$Wood") ∈ lw_all := lw_g (lw_at lw_m1 39 rfl) rfl
theorem q147 : (Jvm.Cond.methodLinkNest "AcornYears" (85 : Nat) ({ cls := "AcornYears$Wood", name := "<init>", desc := "()V" } : Jvm.MethodName) "AcornYears") ∈ lw_tbl := lw_at lw_m1 41 rfl
theorem q152 : (Jvm.Cond.fieldLinkNest "AcornYears" (288 : Nat) "AcornYears$Wood" "stores" "[I" "AcornYears") ∈ lw_tbl := lw_at lw_m1 46 rfl
theorem q154 : (Jvm.Cond.fieldLinkNest "AcornYears" (282 : Nat) "AcornYears$Wood" "mice" "[I" "AcornYears") ∈ lw_tbl := lw_at lw_m1 48 rfl
theorem q156 : (Jvm.Cond.fieldLinkNest "AcornYears" (279 : Nat) "AcornYears$Wood" "year" "I" "AcornYears") ∈ lw_tbl := lw_at lw_m1 50 rfl
theorem q158 : (Jvm.Cond.fieldLinkNest "AcornYears" (352 : Nat) "AcornYears$Wood" "bloomed" "[Z" "AcornYears") ∈ lw_tbl := lw_at lw_m1 52 rfl
theorem q160 : (Jvm.Cond.fieldLinkNest "AcornYears" (377 : Nat) "AcornYears$Wood" "gave" "[I" "AcornYears") ∈ lw_tbl := lw_at lw_m1 54 rfl
theorem q162 : (Jvm.Cond.fieldLinkNest "AcornYears" (385 : Nat) "AcornYears$Wood" "starved" "[Z" "AcornYears") ∈ lw_tbl := lw_at lw_m1 56 rfl
theorem q163 : (Jvm.Cond.fieldLinkNest "AcornYears" (374 : Nat) "AcornYears$Wood" "acorns" "I" "AcornYears") ∈ lw_tbl := lw_at lw_m1 57 rfl
theorem q164 : (Jvm.Cond.fieldLinkNest "AcornYears" (399 : Nat) "AcornYears$Wood" "seedlings" "I" "AcornYears") ∈ lw_tbl := lw_at lw_m1 58 rfl
theorem q184 : (Jvm.Cond.constant "AcornYears" (105 : Nat) (54027 : Int32)) ∈ lw_all := lw_g (lw_at lw_m1 78 rfl) rfl
theorem q185 : (Jvm.Cond.fieldLink "AcornYears" (3 : Nat) "AcornYears" "finding" "I") ∈ lw_all := lw_g (lw_at lw_m1 79 rfl) rfl
theorem q186 : (Jvm.Cond.fieldLink "AcornYears" (7 : Nat) "AcornYears" "findings" "[I") ∈ lw_all := lw_g (lw_at lw_m1 80 rfl) rfl
theorem q187 : (Jvm.Cond.fieldLink "AcornYears" (11 : Nat) "AcornYears" "asked" "I") ∈ lw_all := lw_g (lw_at lw_m1 81 rfl) rfl
theorem q188 : (Jvm.Cond.fieldLink "AcornYears" (14 : Nat) "AcornYears" "upper" "J") ∈ lw_all := lw_g (lw_at lw_m1 82 rfl) rfl
theorem q189 : (Jvm.Cond.fieldLink "AcornYears" (18 : Nat) "AcornYears" "lower" "J") ∈ lw_all := lw_g (lw_at lw_m1 83 rfl) rfl
theorem q190 : (Jvm.Cond.fieldLink "AcornYears" (28 : Nat) "AcornYears" "rows" "[[I") ∈ lw_all := lw_g (lw_at lw_m1 84 rfl) rfl
theorem q191 : (Jvm.Cond.fieldLink "AcornYears" (34 : Nat) "AcornYears" "texts" "[[B") ∈ lw_all := lw_g (lw_at lw_m1 85 rfl) rfl
theorem q192 : (Jvm.Cond.fieldLink "AcornYears" (40 : Nat) "AcornYears" "sorts" "[LAcornYears$Sort;") ∈ lw_all := lw_g (lw_at lw_m1 86 rfl) rfl
theorem q193 : (Jvm.Cond.fieldLink "AcornYears" (126 : Nat) "AcornYears" "calendar" "[B") ∈ lw_all := lw_g (lw_at lw_m1 87 rfl) rfl
theorem q194 : (Jvm.Cond.fieldLink "AcornYears" (44 : Nat) "AcornYears" "chances" "[I") ∈ lw_all := lw_g (lw_at lw_m1 88 rfl) rfl
theorem q195 : (Jvm.Cond.fieldLink "AcornYears" (267 : Nat) "AcornYears" "hides" "I") ∈ lw_all := lw_g (lw_at lw_m1 89 rfl) rfl
theorem q196 : (Jvm.Cond.fieldLink "AcornYears" (270 : Nat) "AcornYears" "forgets" "I") ∈ lw_all := lw_g (lw_at lw_m1 90 rfl) rfl
theorem q197 : (Jvm.Cond.fieldLink "AcornYears" (273 : Nat) "AcornYears" "eaterMany" "I") ∈ lw_all := lw_g (lw_at lw_m1 91 rfl) rfl
theorem q198 : (Jvm.Cond.fieldLink "AcornYears" (47 : Nat) "AcornYears" "firstMice" "[I") ∈ lw_all := lw_g (lw_at lw_m1 92 rfl) rfl
theorem q199 : (Jvm.Cond.fieldLink "AcornYears" (50 : Nat) "AcornYears" "eats" "[I") ∈ lw_all := lw_g (lw_at lw_m1 93 rfl) rfl
theorem q200 : (Jvm.Cond.fieldLink "AcornYears" (53 : Nat) "AcornYears" "grows" "[I") ∈ lw_all := lw_g (lw_at lw_m1 94 rfl) rfl
theorem q201 : (Jvm.Cond.fieldLink "AcornYears" (56 : Nat) "AcornYears" "come" "[I") ∈ lw_all := lw_g (lw_at lw_m1 95 rfl) rfl
theorem q202 : (Jvm.Cond.fieldLink "AcornYears" (170 : Nat) "AcornYears" "reading" "[B") ∈ lw_all := lw_g (lw_at lw_m1 96 rfl) rfl
theorem q203 : (Jvm.Cond.fieldLink "AcornYears" (167 : Nat) "AcornYears" "readAt" "I") ∈ lw_all := lw_g (lw_at lw_m1 97 rfl) rfl
theorem q204 : (Jvm.Cond.fieldLink "AcornYears" (177 : Nat) "AcornYears" "readNumber" "I") ∈ lw_all := lw_g (lw_at lw_m1 98 rfl) rfl
theorem q205 : (Jvm.Cond.fieldLink "AcornYears" (59 : Nat) "AcornYears" "readSorts" "[LAcornYears$Sort;") ∈ lw_all := lw_g (lw_at lw_m1 99 rfl) rfl
theorem q206 : (Jvm.Cond.fieldLink "AcornYears" (196 : Nat) "AcornYears" "readMany" "I") ∈ lw_all := lw_g (lw_at lw_m1 100 rfl) rfl
theorem q207 : (Jvm.Cond.fieldLink "AcornYears" (232 : Nat) "AcornYears" "readCalendar" "[B") ∈ lw_all := lw_g (lw_at lw_m1 101 rfl) rfl
theorem q208 : (Jvm.Cond.fieldLink "AcornYears" (62 : Nat) "AcornYears" "readChances" "[I") ∈ lw_all := lw_g (lw_at lw_m1 102 rfl) rfl
theorem q209 : (Jvm.Cond.fieldLink "AcornYears" (226 : Nat) "AcornYears" "readHides" "I") ∈ lw_all := lw_g (lw_at lw_m1 103 rfl) rfl
theorem q210 : (Jvm.Cond.fieldLink "AcornYears" (229 : Nat) "AcornYears" "readForgets" "I") ∈ lw_all := lw_g (lw_at lw_m1 104 rfl) rfl
theorem q211 : (Jvm.Cond.fieldLink "AcornYears" (223 : Nat) "AcornYears" "readEaters" "I") ∈ lw_all := lw_g (lw_at lw_m1 105 rfl) rfl
theorem q212 : (Jvm.Cond.fieldLink "AcornYears" (65 : Nat) "AcornYears" "readMice" "[I") ∈ lw_all := lw_g (lw_at lw_m1 106 rfl) rfl
theorem q213 : (Jvm.Cond.fieldLink "AcornYears" (68 : Nat) "AcornYears" "readEats" "[I") ∈ lw_all := lw_g (lw_at lw_m1 107 rfl) rfl
theorem q214 : (Jvm.Cond.fieldLink "AcornYears" (71 : Nat) "AcornYears" "readGrows" "[I") ∈ lw_all := lw_g (lw_at lw_m1 108 rfl) rfl
theorem q215 : (Jvm.Cond.fieldLink "AcornYears" (74 : Nat) "AcornYears" "readCome" "[I") ∈ lw_all := lw_g (lw_at lw_m1 109 rfl) rfl
theorem q216 : (Jvm.Cond.fieldLink "AcornYears" (79 : Nat) "AcornYears" "trees" "[LAcornYears$Tree;") ∈ lw_all := lw_g (lw_at lw_m1 110 rfl) rfl
theorem q217 : (Jvm.Cond.fieldLink "AcornYears" (276 : Nat) "AcornYears" "treeMany" "I") ∈ lw_all := lw_g (lw_at lw_m1 111 rfl) rfl
theorem q218 : (Jvm.Cond.fieldLink "AcornYears" (86 : Nat) "AcornYears" "wood" "LAcornYears$Wood;") ∈ lw_all := lw_g (lw_at lw_m1 112 rfl) rfl
theorem q219 : (Jvm.Cond.fieldLink "AcornYears" (90 : Nat) "AcornYears" "trial" "LAcornYears$Wood;") ∈ lw_all := lw_g (lw_at lw_m1 113 rfl) rfl
theorem q220 : (Jvm.Cond.fieldLink "AcornYears" (93 : Nat) "AcornYears" "needed" "I") ∈ lw_all := lw_g (lw_at lw_m1 114 rfl) rfl
theorem q221 : (Jvm.Cond.fieldLink "AcornYears" (96 : Nat) "AcornYears" "half" "I") ∈ lw_all := lw_g (lw_at lw_m1 115 rfl) rfl
theorem q222 : (Jvm.Cond.fieldLink "AcornYears" (99 : Nat) "AcornYears" "halfAll" "[I") ∈ lw_all := lw_g (lw_at lw_m1 116 rfl) rfl
theorem q223 : (Jvm.Cond.fieldLink "AcornYears" (102 : Nat) "AcornYears" "halfBlooming" "[I") ∈ lw_all := lw_g (lw_at lw_m1 117 rfl) rfl
theorem q224 : (Jvm.Cond.fieldLink "AcornYears" (106 : Nat) "AcornYears" "states" "[S") ∈ lw_all := lw_g (lw_at lw_m1 118 rfl) rfl
theorem q225 : (Jvm.Cond.fieldLink "AcornYears" (110 : Nat) "AcornYears" "board" "[S") ∈ lw_all := lw_g (lw_at lw_m1 119 rfl) rfl
theorem q226 : (Jvm.Cond.fieldLink "AcornYears" (439 : Nat) "AcornYears" "since" "I") ∈ lw_all := lw_g (lw_at lw_m1 120 rfl) rfl
theorem q227 : (Jvm.Cond.fieldLink "AcornYears" (442 : Nat) "AcornYears" "ring" "I") ∈ lw_all := lw_g (lw_at lw_m1 121 rfl) rfl
theorem q228 : (Jvm.Cond.fieldLink "AcornYears" (448 : Nat) "AcornYears" "most" "I") ∈ lw_all := lw_g (lw_at lw_m1 122 rfl) rfl
theorem q229 : (Jvm.Cond.fieldLink "AcornYears" (451 : Nat) "AcornYears" "masts" "I") ∈ lw_all := lw_g (lw_at lw_m1 123 rfl) rfl
theorem q230 : (Jvm.Cond.fieldLink "AcornYears" (454 : Nat) "AcornYears" "pairs" "J") ∈ lw_all := lw_g (lw_at lw_m1 124 rfl) rfl
theorem q231 : (Jvm.Cond.fieldLink "AcornYears" (457 : Nat) "AcornYears" "blooms" "J") ∈ lw_all := lw_g (lw_at lw_m1 125 rfl) rfl
theorem q232 : (Jvm.Cond.fieldLink "AcornYears" (459 : Nat) "AcornYears" "allAcorns" "J") ∈ lw_all := lw_g (lw_at lw_m1 126 rfl) rfl
theorem q233 : (Jvm.Cond.fieldLink "AcornYears" (462 : Nat) "AcornYears" "allSeedlings" "J") ∈ lw_all := lw_g (lw_at lw_m1 127 rfl) rfl
theorem q234 : (Jvm.Cond.fieldLink "AcornYears" (113 : Nat) "AcornYears" "acornsOf" "[J") ∈ lw_all := lw_g (lw_at lw_m1 128 rfl) rfl
theorem q235 : (Jvm.Cond.fieldLink "AcornYears" (117 : Nat) "AcornYears" "gainsOf" "[J") ∈ lw_all := lw_g (lw_at lw_m1 129 rfl) rfl
theorem q236 : (Jvm.Cond.fieldLink "AcornYears" (120 : Nat) "AcornYears" "starving" "[I") ∈ lw_all := lw_g (lw_at lw_m1 130 rfl) rfl
theorem q237 : (Jvm.Cond.fieldLink "AcornYears" (123 : Nat) "AcornYears" "acornsBy" "[I") ∈ lw_all := lw_g (lw_at lw_m1 131 rfl) rfl
theorem q238 : (Jvm.Cond.fieldLink "AcornYears" (514 : Nat) "AcornYears" "h" "J") ∈ lw_all := lw_g (lw_at lw_m1 132 rfl) rfl
theorem q239 : (Jvm.Cond.lays "AcornYears" "AcornYears" "finding" "I") ∈ lw_all := lw_g (lw_at lw_m1 133 rfl) rfl
theorem q240 : (Jvm.Cond.soleField "AcornYears" "finding") ∈ lw_all := lw_g (lw_at lw_m1 134 rfl) rfl
theorem q241 : (Jvm.Cond.laysFinal "AcornYears" "AcornYears" "findings" "[I") ∈ lw_all := lw_g (lw_at lw_m1 135 rfl) rfl
theorem q242 : (Jvm.Cond.soleField "AcornYears" "findings") ∈ lw_all := lw_g (lw_at lw_m1 136 rfl) rfl
theorem q243 : (Jvm.Cond.lays "AcornYears" "AcornYears" "asked" "I") ∈ lw_all := lw_g (lw_at lw_m1 137 rfl) rfl
theorem q244 : (Jvm.Cond.soleField "AcornYears" "asked") ∈ lw_all := lw_g (lw_at lw_m1 138 rfl) rfl
theorem q245 : (Jvm.Cond.lays "AcornYears" "AcornYears" "upper" "J") ∈ lw_all := lw_g (lw_at lw_m1 139 rfl) rfl
theorem q246 : (Jvm.Cond.soleField "AcornYears" "upper") ∈ lw_all := lw_g (lw_at lw_m1 140 rfl) rfl
theorem q247 : (Jvm.Cond.lays "AcornYears" "AcornYears" "lower" "J") ∈ lw_all := lw_g (lw_at lw_m1 141 rfl) rfl
theorem q248 : (Jvm.Cond.soleField "AcornYears" "lower") ∈ lw_all := lw_g (lw_at lw_m1 142 rfl) rfl
theorem q249 : (Jvm.Cond.laysFinal "AcornYears" "AcornYears" "rows" "[[I") ∈ lw_all := lw_g (lw_at lw_m1 143 rfl) rfl
theorem q250 : (Jvm.Cond.soleField "AcornYears" "rows") ∈ lw_all := lw_g (lw_at lw_m1 144 rfl) rfl
theorem q251 : (Jvm.Cond.laysFinal "AcornYears" "AcornYears" "texts" "[[B") ∈ lw_all := lw_g (lw_at lw_m1 145 rfl) rfl
theorem q252 : (Jvm.Cond.soleField "AcornYears" "texts") ∈ lw_all := lw_g (lw_at lw_m1 146 rfl) rfl
theorem q253 : (Jvm.Cond.lays "AcornYears" "AcornYears" "sorts" "[LAcornYears$Sort;") ∈ lw_all := lw_g (lw_at lw_m1 147 rfl) rfl
theorem q254 : (Jvm.Cond.soleField "AcornYears" "sorts") ∈ lw_all := lw_g (lw_at lw_m1 148 rfl) rfl
theorem q255 : (Jvm.Cond.lays "AcornYears" "AcornYears" "calendar" "[B") ∈ lw_all := lw_g (lw_at lw_m1 149 rfl) rfl
theorem q256 : (Jvm.Cond.soleField "AcornYears" "calendar") ∈ lw_all := lw_g (lw_at lw_m1 150 rfl) rfl
theorem q257 : (Jvm.Cond.laysFinal "AcornYears" "AcornYears" "chances" "[I") ∈ lw_all := lw_g (lw_at lw_m1 151 rfl) rfl
theorem q258 : (Jvm.Cond.soleField "AcornYears" "chances") ∈ lw_all := lw_g (lw_at lw_m1 152 rfl) rfl
theorem q259 : (Jvm.Cond.lays "AcornYears" "AcornYears" "hides" "I") ∈ lw_all := lw_g (lw_at lw_m1 153 rfl) rfl
theorem q260 : (Jvm.Cond.soleField "AcornYears" "hides") ∈ lw_all := lw_g (lw_at lw_m1 154 rfl) rfl
theorem q261 : (Jvm.Cond.lays "AcornYears" "AcornYears" "forgets" "I") ∈ lw_all := lw_g (lw_at lw_m1 155 rfl) rfl
theorem q262 : (Jvm.Cond.soleField "AcornYears" "forgets") ∈ lw_all := lw_g (lw_at lw_m1 156 rfl) rfl
theorem q263 : (Jvm.Cond.lays "AcornYears" "AcornYears" "eaterMany" "I") ∈ lw_all := lw_g (lw_at lw_m1 157 rfl) rfl
theorem q264 : (Jvm.Cond.soleField "AcornYears" "eaterMany") ∈ lw_all := lw_g (lw_at lw_m1 158 rfl) rfl
theorem q265 : (Jvm.Cond.laysFinal "AcornYears" "AcornYears" "firstMice" "[I") ∈ lw_all := lw_g (lw_at lw_m1 159 rfl) rfl
theorem q266 : (Jvm.Cond.soleField "AcornYears" "firstMice") ∈ lw_all := lw_g (lw_at lw_m1 160 rfl) rfl
theorem q267 : (Jvm.Cond.laysFinal "AcornYears" "AcornYears" "eats" "[I") ∈ lw_all := lw_g (lw_at lw_m1 161 rfl) rfl
theorem q268 : (Jvm.Cond.soleField "AcornYears" "eats") ∈ lw_all := lw_g (lw_at lw_m1 162 rfl) rfl
theorem q269 : (Jvm.Cond.laysFinal "AcornYears" "AcornYears" "grows" "[I") ∈ lw_all := lw_g (lw_at lw_m1 163 rfl) rfl
theorem q270 : (Jvm.Cond.soleField "AcornYears" "grows") ∈ lw_all := lw_g (lw_at lw_m1 164 rfl) rfl
theorem q271 : (Jvm.Cond.laysFinal "AcornYears" "AcornYears" "come" "[I") ∈ lw_all := lw_g (lw_at lw_m1 165 rfl) rfl
theorem q272 : (Jvm.Cond.soleField "AcornYears" "come") ∈ lw_all := lw_g (lw_at lw_m1 166 rfl) rfl
theorem q273 : (Jvm.Cond.lays "AcornYears" "AcornYears" "reading" "[B") ∈ lw_all := lw_g (lw_at lw_m1 167 rfl) rfl
theorem q274 : (Jvm.Cond.soleField "AcornYears" "reading") ∈ lw_all := lw_g (lw_at lw_m1 168 rfl) rfl
theorem q275 : (Jvm.Cond.lays "AcornYears" "AcornYears" "readAt" "I") ∈ lw_all := lw_g (lw_at lw_m1 169 rfl) rfl
theorem q276 : (Jvm.Cond.soleField "AcornYears" "readAt") ∈ lw_all := lw_g (lw_at lw_m1 170 rfl) rfl
theorem q277 : (Jvm.Cond.lays "AcornYears" "AcornYears" "readNumber" "I") ∈ lw_all := lw_g (lw_at lw_m1 171 rfl) rfl
theorem q278 : (Jvm.Cond.soleField "AcornYears" "readNumber") ∈ lw_all := lw_g (lw_at lw_m1 172 rfl) rfl
theorem q279 : (Jvm.Cond.laysFinal "AcornYears" "AcornYears" "readSorts" "[LAcornYears$Sort;") ∈ lw_all := lw_g (lw_at lw_m1 173 rfl) rfl
theorem q280 : (Jvm.Cond.soleField "AcornYears" "readSorts") ∈ lw_all := lw_g (lw_at lw_m1 174 rfl) rfl
theorem q281 : (Jvm.Cond.lays "AcornYears" "AcornYears" "readMany" "I") ∈ lw_all := lw_g (lw_at lw_m1 175 rfl) rfl
theorem q282 : (Jvm.Cond.soleField "AcornYears" "readMany") ∈ lw_all := lw_g (lw_at lw_m1 176 rfl) rfl
theorem q283 : (Jvm.Cond.lays "AcornYears" "AcornYears" "readCalendar" "[B") ∈ lw_all := lw_g (lw_at lw_m1 177 rfl) rfl
theorem q284 : (Jvm.Cond.soleField "AcornYears" "readCalendar") ∈ lw_all := lw_g (lw_at lw_m1 178 rfl) rfl
theorem q285 : (Jvm.Cond.laysFinal "AcornYears" "AcornYears" "readChances" "[I") ∈ lw_all := lw_g (lw_at lw_m1 179 rfl) rfl
theorem q286 : (Jvm.Cond.soleField "AcornYears" "readChances") ∈ lw_all := lw_g (lw_at lw_m1 180 rfl) rfl
theorem q287 : (Jvm.Cond.lays "AcornYears" "AcornYears" "readHides" "I") ∈ lw_all := lw_g (lw_at lw_m1 181 rfl) rfl
theorem q288 : (Jvm.Cond.soleField "AcornYears" "readHides") ∈ lw_all := lw_g (lw_at lw_m1 182 rfl) rfl
theorem q289 : (Jvm.Cond.lays "AcornYears" "AcornYears" "readForgets" "I") ∈ lw_all := lw_g (lw_at lw_m1 183 rfl) rfl
theorem q290 : (Jvm.Cond.soleField "AcornYears" "readForgets") ∈ lw_all := lw_g (lw_at lw_m1 184 rfl) rfl
theorem q291 : (Jvm.Cond.lays "AcornYears" "AcornYears" "readEaters" "I") ∈ lw_all := lw_g (lw_at lw_m1 185 rfl) rfl
theorem q292 : (Jvm.Cond.soleField "AcornYears" "readEaters") ∈ lw_all := lw_g (lw_at lw_m1 186 rfl) rfl
theorem q293 : (Jvm.Cond.laysFinal "AcornYears" "AcornYears" "readMice" "[I") ∈ lw_all := lw_g (lw_at lw_m1 187 rfl) rfl
theorem q294 : (Jvm.Cond.soleField "AcornYears" "readMice") ∈ lw_all := lw_g (lw_at lw_m1 188 rfl) rfl
theorem q295 : (Jvm.Cond.laysFinal "AcornYears" "AcornYears" "readEats" "[I") ∈ lw_all := lw_g (lw_at lw_m1 189 rfl) rfl
theorem q296 : (Jvm.Cond.soleField "AcornYears" "readEats") ∈ lw_all := lw_g (lw_at lw_m1 190 rfl) rfl
theorem q297 : (Jvm.Cond.laysFinal "AcornYears" "AcornYears" "readGrows" "[I") ∈ lw_all := lw_g (lw_at lw_m1 191 rfl) rfl
theorem q298 : (Jvm.Cond.soleField "AcornYears" "readGrows") ∈ lw_all := lw_g (lw_at lw_m1 192 rfl) rfl
theorem q299 : (Jvm.Cond.laysFinal "AcornYears" "AcornYears" "readCome" "[I") ∈ lw_all := lw_g (lw_at lw_m1 193 rfl) rfl
theorem q300 : (Jvm.Cond.soleField "AcornYears" "readCome") ∈ lw_all := lw_g (lw_at lw_m1 194 rfl) rfl
theorem q301 : (Jvm.Cond.laysFinal "AcornYears" "AcornYears" "trees" "[LAcornYears$Tree;") ∈ lw_all := lw_g (lw_at lw_m1 195 rfl) rfl
theorem q302 : (Jvm.Cond.soleField "AcornYears" "trees") ∈ lw_all := lw_g (lw_at lw_m1 196 rfl) rfl
theorem q303 : (Jvm.Cond.lays "AcornYears" "AcornYears" "treeMany" "I") ∈ lw_all := lw_g (lw_at lw_m1 197 rfl) rfl
theorem q304 : (Jvm.Cond.soleField "AcornYears" "treeMany") ∈ lw_all := lw_g (lw_at lw_m1 198 rfl) rfl
theorem q305 : (Jvm.Cond.laysFinal "AcornYears" "AcornYears" "wood" "LAcornYears$Wood;") ∈ lw_all := lw_g (lw_at lw_m1 199 rfl) rfl
theorem q306 : (Jvm.Cond.soleField "AcornYears" "wood") ∈ lw_all := lw_g (lw_at lw_m1 200 rfl) rfl
theorem q307 : (Jvm.Cond.laysFinal "AcornYears" "AcornYears" "trial" "LAcornYears$Wood;") ∈ lw_all := lw_g (lw_at lw_m1 201 rfl) rfl
theorem q308 : (Jvm.Cond.soleField "AcornYears" "trial") ∈ lw_all := lw_g (lw_at lw_m1 202 rfl) rfl
theorem q309 : (Jvm.Cond.lays "AcornYears" "AcornYears" "needed" "I") ∈ lw_all := lw_g (lw_at lw_m1 203 rfl) rfl
theorem q310 : (Jvm.Cond.soleField "AcornYears" "needed") ∈ lw_all := lw_g (lw_at lw_m1 204 rfl) rfl
theorem q311 : (Jvm.Cond.lays "AcornYears" "AcornYears" "half" "I") ∈ lw_all := lw_g (lw_at lw_m1 205 rfl) rfl
theorem q312 : (Jvm.Cond.soleField "AcornYears" "half") ∈ lw_all := lw_g (lw_at lw_m1 206 rfl) rfl
theorem q313 : (Jvm.Cond.laysFinal "AcornYears" "AcornYears" "halfAll" "[I") ∈ lw_all := lw_g (lw_at lw_m1 207 rfl) rfl
theorem q314 : (Jvm.Cond.soleField "AcornYears" "halfAll") ∈ lw_all := lw_g (lw_at lw_m1 208 rfl) rfl
theorem q315 : (Jvm.Cond.laysFinal "AcornYears" "AcornYears" "halfBlooming" "[I") ∈ lw_all := lw_g (lw_at lw_m1 209 rfl) rfl
theorem q316 : (Jvm.Cond.soleField "AcornYears" "halfBlooming") ∈ lw_all := lw_g (lw_at lw_m1 210 rfl) rfl
theorem q317 : (Jvm.Cond.laysFinal "AcornYears" "AcornYears" "states" "[S") ∈ lw_all := lw_g (lw_at lw_m1 211 rfl) rfl
theorem q318 : (Jvm.Cond.soleField "AcornYears" "states") ∈ lw_all := lw_g (lw_at lw_m1 212 rfl) rfl
theorem q319 : (Jvm.Cond.laysFinal "AcornYears" "AcornYears" "board" "[S") ∈ lw_all := lw_g (lw_at lw_m1 213 rfl) rfl
theorem q320 : (Jvm.Cond.soleField "AcornYears" "board") ∈ lw_all := lw_g (lw_at lw_m1 214 rfl) rfl
theorem q321 : (Jvm.Cond.lays "AcornYears" "AcornYears" "since" "I") ∈ lw_all := lw_g (lw_at lw_m1 215 rfl) rfl
theorem q322 : (Jvm.Cond.soleField "AcornYears" "since") ∈ lw_all := lw_g (lw_at lw_m1 216 rfl) rfl
theorem q323 : (Jvm.Cond.lays "AcornYears" "AcornYears" "ring" "I") ∈ lw_all := lw_g (lw_at lw_m1 217 rfl) rfl
theorem q324 : (Jvm.Cond.soleField "AcornYears" "ring") ∈ lw_all := lw_g (lw_at lw_m1 218 rfl) rfl
theorem q325 : (Jvm.Cond.lays "AcornYears" "AcornYears" "most" "I") ∈ lw_all := lw_g (lw_at lw_m1 219 rfl) rfl
theorem q326 : (Jvm.Cond.soleField "AcornYears" "most") ∈ lw_all := lw_g (lw_at lw_m1 220 rfl) rfl
theorem q327 : (Jvm.Cond.lays "AcornYears" "AcornYears" "masts" "I") ∈ lw_all := lw_g (lw_at lw_m1 221 rfl) rfl
theorem q328 : (Jvm.Cond.soleField "AcornYears" "masts") ∈ lw_all := lw_g (lw_at lw_m1 222 rfl) rfl
theorem q329 : (Jvm.Cond.lays "AcornYears" "AcornYears" "pairs" "J") ∈ lw_all := lw_g (lw_at lw_m1 223 rfl) rfl
theorem q330 : (Jvm.Cond.soleField "AcornYears" "pairs") ∈ lw_all := lw_g (lw_at lw_m1 224 rfl) rfl
theorem q331 : (Jvm.Cond.lays "AcornYears" "AcornYears" "blooms" "J") ∈ lw_all := lw_g (lw_at lw_m1 225 rfl) rfl
theorem q332 : (Jvm.Cond.soleField "AcornYears" "blooms") ∈ lw_all := lw_g (lw_at lw_m1 226 rfl) rfl
theorem q333 : (Jvm.Cond.lays "AcornYears" "AcornYears" "allAcorns" "J") ∈ lw_all := lw_g (lw_at lw_m1 227 rfl) rfl
theorem q334 : (Jvm.Cond.soleField "AcornYears" "allAcorns") ∈ lw_all := lw_g (lw_at lw_m1 228 rfl) rfl
theorem q335 : (Jvm.Cond.lays "AcornYears" "AcornYears" "allSeedlings" "J") ∈ lw_all := lw_g (lw_at lw_m1 229 rfl) rfl
theorem q336 : (Jvm.Cond.soleField "AcornYears" "allSeedlings") ∈ lw_all := lw_g (lw_at lw_m1 230 rfl) rfl
theorem q337 : (Jvm.Cond.laysFinal "AcornYears" "AcornYears" "acornsOf" "[J") ∈ lw_all := lw_g (lw_at lw_m1 231 rfl) rfl
theorem q338 : (Jvm.Cond.soleField "AcornYears" "acornsOf") ∈ lw_all := lw_g (lw_at lw_m1 232 rfl) rfl
theorem q339 : (Jvm.Cond.laysFinal "AcornYears" "AcornYears" "gainsOf" "[J") ∈ lw_all := lw_g (lw_at lw_m1 233 rfl) rfl
theorem q340 : (Jvm.Cond.soleField "AcornYears" "gainsOf") ∈ lw_all := lw_g (lw_at lw_m1 234 rfl) rfl
theorem q341 : (Jvm.Cond.laysFinal "AcornYears" "AcornYears" "starving" "[I") ∈ lw_all := lw_g (lw_at lw_m1 235 rfl) rfl
theorem q342 : (Jvm.Cond.soleField "AcornYears" "starving") ∈ lw_all := lw_g (lw_at lw_m1 236 rfl) rfl
theorem q343 : (Jvm.Cond.laysFinal "AcornYears" "AcornYears" "acornsBy" "[I") ∈ lw_all := lw_g (lw_at lw_m1 237 rfl) rfl
theorem q344 : (Jvm.Cond.soleField "AcornYears" "acornsBy") ∈ lw_all := lw_g (lw_at lw_m1 238 rfl) rfl
theorem q345 : (Jvm.Cond.lays "AcornYears" "AcornYears" "h" "J") ∈ lw_all := lw_g (lw_at lw_m1 239 rfl) rfl
theorem q346 : (Jvm.Cond.soleField "AcornYears" "h") ∈ lw_all := lw_g (lw_at lw_m2 0 rfl) rfl
theorem q347 : (Jvm.Cond.superclass "AcornYears" "java/lang/Object") ∈ lw_all := lw_g (lw_at lw_m2 1 rfl) rfl
theorem q352 : (Jvm.Cond.instanceMethod ({ cls := "AcornYears", name := "row", desc := "(II)I" } : Jvm.MethodName)) ∈ lw_all := lw_g (lw_at lw_m2 6 rfl) rfl
theorem q353 : (Jvm.Cond.selects "AcornYears" ({ cls := "AcornYears", name := "row", desc := "(II)I" } : Jvm.MethodName) ({ cls := "AcornYears", name := "row", desc := "(II)I" } : Jvm.MethodName)) ∈ lw_all := lw_g (lw_at lw_m2 7 rfl) rfl
theorem q354 : (Jvm.Cond.codeWith ({ cls := "AcornYears", name := "row", desc := "(II)I" } : Jvm.MethodName) prog_1_method_9_code (4 : Nat) (Option.some Jvm.ClassFile.FieldType.int) [((15 : Nat), (25 : Nat), (26 : Nat), (137 : Nat))]) ∈ lw_all := lw_g (lw_at lw_m2 8 rfl) rfl
theorem q355 : (Jvm.Cond.classLink "AcornYears" (137 : Nat) "java/lang/NegativeArraySizeException") ∈ lw_all := lw_g (lw_at lw_m2 9 rfl) rfl
theorem q440 : (Jvm.Cond.methodLink "AcornYears" (133 : Nat) ({ cls := "AcornYears", name := "isRow", desc := "(I)Z" } : Jvm.MethodName)) ∈ lw_all := lw_g (lw_at lw_m2 94 rfl) rfl
theorem q441 : (Jvm.Cond.static ({ cls := "AcornYears", name := "isRow", desc := "(I)Z" } : Jvm.MethodName)) ∈ lw_all := lw_g (lw_at lw_m2 95 rfl) rfl
theorem q442 : (Jvm.Cond.code ({ cls := "AcornYears", name := "isRow", desc := "(I)Z" } : Jvm.MethodName) prog_1_method_7_code (1 : Nat) (Option.some Jvm.ClassFile.FieldType.boolean)) ∈ lw_all := lw_g (lw_at lw_m2 96 rfl) rfl
theorem q443 : (Jvm.Cond.methodLink "AcornYears" (129 : Nat) ({ cls := "AcornYears", name := "isIn", desc := "(III)Z" } : Jvm.MethodName)) ∈ lw_all := lw_g (lw_at lw_m2 97 rfl) rfl
theorem q444 : (Jvm.Cond.static ({ cls := "AcornYears", name := "isIn", desc := "(III)Z" } : Jvm.MethodName)) ∈ lw_all := lw_g (lw_at lw_m2 98 rfl) rfl
theorem q445 : (Jvm.Cond.code ({ cls := "AcornYears", name := "isIn", desc := "(III)Z" } : Jvm.MethodName) prog_1_method_1_code (3 : Nat) (Option.some Jvm.ClassFile.FieldType.boolean)) ∈ lw_all := lw_g (lw_at lw_m2 99 rfl) rfl
theorem q446 : (Jvm.Cond.methodLink "AcornYears" (139 : Nat) ({ cls := "AcornYears", name := "met", desc := "(I)I" } : Jvm.MethodName)) ∈ lw_all := lw_g (lw_at lw_m2 100 rfl) rfl
theorem q447 : (Jvm.Cond.privateMethod ({ cls := "AcornYears", name := "met", desc := "(I)I" } : Jvm.MethodName)) ∈ lw_tbl := lw_at lw_m2 101 rfl
theorem q448 : (Jvm.Cond.instanceMethod ({ cls := "AcornYears", name := "met", desc := "(I)I" } : Jvm.MethodName)) ∈ lw_all := lw_g (lw_at lw_m2 102 rfl) rfl
theorem q449 : (Jvm.Cond.code ({ cls := "AcornYears", name := "met", desc := "(I)I" } : Jvm.MethodName) prog_1_method_3_code (2 : Nat) (Option.some Jvm.ClassFile.FieldType.int)) ∈ lw_all := lw_g (lw_at lw_m2 103 rfl) rfl
theorem q451 : (Jvm.Cond.instanceMethod ({ cls := "AcornYears", name := "lay", desc := "(III)I" } : Jvm.MethodName)) ∈ lw_all := lw_g (lw_at lw_m2 105 rfl) rfl
theorem q452 : (Jvm.Cond.selects "AcornYears" ({ cls := "AcornYears", name := "lay", desc := "(III)I" } : Jvm.MethodName) ({ cls := "AcornYears", name := "lay", desc := "(III)I" } : Jvm.MethodName)) ∈ lw_all := lw_g (lw_at lw_m2 106 rfl) rfl
theorem q453 : (Jvm.Cond.code ({ cls := "AcornYears", name := "lay", desc := "(III)I" } : Jvm.MethodName) prog_1_method_10_code (5 : Nat) (Option.some Jvm.ClassFile.FieldType.int)) ∈ lw_all := lw_g (lw_at lw_m2 107 rfl) rfl
theorem q454 : (Jvm.Cond.methodLink "AcornYears" (143 : Nat) ({ cls := "AcornYears", name := "at", desc := "(II)I" } : Jvm.MethodName)) ∈ lw_all := lw_g (lw_at lw_m2 108 rfl) rfl
theorem q455 : (Jvm.Cond.instanceMethod ({ cls := "AcornYears", name := "at", desc := "(II)I" } : Jvm.MethodName)) ∈ lw_all := lw_g (lw_at lw_m2 109 rfl) rfl
theorem q456 : (Jvm.Cond.selects "AcornYears" ({ cls := "AcornYears", name := "at", desc := "(II)I" } : Jvm.MethodName) ({ cls := "AcornYears", name := "at", desc := "(II)I" } : Jvm.MethodName)) ∈ lw_all := lw_g (lw_at lw_m2 110 rfl) rfl
theorem q457 : (Jvm.Cond.codeWith ({ cls := "AcornYears", name := "at", desc := "(II)I" } : Jvm.MethodName) prog_1_method_11_code (4 : Nat) (Option.some Jvm.ClassFile.FieldType.int) [((9 : Nat), (22 : Nat), (23 : Nat), (150 : Nat)), ((9 : Nat), (22 : Nat), (30 : Nat), (152 : Nat))]) ∈ lw_all := lw_g (lw_at lw_m2 111 rfl) rfl
theorem q458 : (Jvm.Cond.classLink "AcornYears" (150 : Nat) "java/lang/NullPointerException") ∈ lw_all := lw_g (lw_at lw_m2 112 rfl) rfl
theorem q483 : (Jvm.Cond.classLink "AcornYears" (152 : Nat) "java/lang/ArrayIndexOutOfBoundsException") ∈ lw_all := lw_g (lw_at lw_m2 137 rfl) rfl
theorem q502 : (Jvm.Cond.methodLink "AcornYears" (147 : Nat) ({ cls := "AcornYears", name := "ask", desc := "(II)I" } : Jvm.MethodName)) ∈ lw_all := lw_g (lw_at lw_m2 156 rfl) rfl
theorem q503 : (Jvm.Cond.privateMethod ({ cls := "AcornYears", name := "ask", desc := "(II)I" } : Jvm.MethodName)) ∈ lw_tbl := lw_at lw_m2 157 rfl
theorem q504 : (Jvm.Cond.instanceMethod ({ cls := "AcornYears", name := "ask", desc := "(II)I" } : Jvm.MethodName)) ∈ lw_all := lw_g (lw_at lw_m2 158 rfl) rfl
theorem q505 : (Jvm.Cond.code ({ cls := "AcornYears", name := "ask", desc := "(II)I" } : Jvm.MethodName) prog_1_method_4_code (3 : Nat) (Option.some Jvm.ClassFile.FieldType.int)) ∈ lw_all := lw_g (lw_at lw_m2 159 rfl) rfl
theorem q508 : (Jvm.Cond.instanceMethod ({ cls := "AcornYears", name := "tear", desc := "(I)I" } : Jvm.MethodName)) ∈ lw_all := lw_g (lw_at lw_m2 162 rfl) rfl
theorem q509 : (Jvm.Cond.selects "AcornYears" ({ cls := "AcornYears", name := "tear", desc := "(I)I" } : Jvm.MethodName) ({ cls := "AcornYears", name := "tear", desc := "(I)I" } : Jvm.MethodName)) ∈ lw_all := lw_g (lw_at lw_m2 163 rfl) rfl
theorem q510 : (Jvm.Cond.code ({ cls := "AcornYears", name := "tear", desc := "(I)I" } : Jvm.MethodName) prog_1_method_12_code (2 : Nat) (Option.some Jvm.ClassFile.FieldType.int)) ∈ lw_all := lw_g (lw_at lw_m2 164 rfl) rfl
theorem q512 : (Jvm.Cond.instanceMethod ({ cls := "AcornYears", name := "copy", desc := "(IIIII)I" } : Jvm.MethodName)) ∈ lw_all := lw_g (lw_at lw_m2 166 rfl) rfl
theorem q513 : (Jvm.Cond.selects "AcornYears" ({ cls := "AcornYears", name := "copy", desc := "(IIIII)I" } : Jvm.MethodName) ({ cls := "AcornYears", name := "copy", desc := "(IIIII)I" } : Jvm.MethodName)) ∈ lw_all := lw_g (lw_at lw_m2 167 rfl) rfl
theorem q514 : (Jvm.Cond.codeWith ({ cls := "AcornYears", name := "copy", desc := "(IIIII)I" } : Jvm.MethodName) prog_1_method_13_code (7 : Nat) (Option.some Jvm.ClassFile.FieldType.int) [((27 : Nat), (48 : Nat), (49 : Nat), (150 : Nat)), ((27 : Nat), (48 : Nat), (57 : Nat), (160 : Nat))]) ∈ lw_all := lw_g (lw_at lw_m2 168 rfl) rfl
theorem q515 : (Jvm.Cond.classLink "AcornYears" (160 : Nat) "java/lang/IndexOutOfBoundsException") ∈ lw_all := lw_g (lw_at lw_m2 169 rfl) rfl
theorem q516 : (Jvm.Cond.methodLink "AcornYears" (154 : Nat) ({ cls := "java/lang/System", name := "arraycopy", desc := "(Ljava/lang/Object;ILjava/lang/Object;II)V" } : Jvm.MethodName)) ∈ lw_all := lw_g (lw_at lw_m2 170 rfl) rfl
theorem q520 : (Jvm.Cond.instanceMethod ({ cls := "AcornYears", name := "mean", desc := "(I)I" } : Jvm.MethodName)) ∈ lw_all := lw_g (lw_at lw_m2 174 rfl) rfl
theorem q521 : (Jvm.Cond.selects "AcornYears" ({ cls := "AcornYears", name := "mean", desc := "(I)I" } : Jvm.MethodName) ({ cls := "AcornYears", name := "mean", desc := "(I)I" } : Jvm.MethodName)) ∈ lw_all := lw_g (lw_at lw_m2 175 rfl) rfl
theorem q522 : (Jvm.Cond.codeWith ({ cls := "AcornYears", name := "mean", desc := "(I)I" } : Jvm.MethodName) prog_1_method_14_code (8 : Nat) (Option.some Jvm.ClassFile.FieldType.int) [((9 : Nat), (69 : Nat), (70 : Nat), (150 : Nat)), ((9 : Nat), (69 : Nat), (77 : Nat), (162 : Nat))]) ∈ lw_all := lw_g (lw_at lw_m2 176 rfl) rfl
theorem q523 : (Jvm.Cond.classLink "AcornYears" (162 : Nat) "java/lang/ArithmeticException") ∈ lw_all := lw_g (lw_at lw_m2 177 rfl) rfl
theorem q538 : (Jvm.Cond.instanceMethod ({ cls := "AcornYears", name := "text", desc := "(II)I" } : Jvm.MethodName)) ∈ lw_all := lw_g (lw_at lw_m2 192 rfl) rfl
theorem q539 : (Jvm.Cond.selects "AcornYears" ({ cls := "AcornYears", name := "text", desc := "(II)I" } : Jvm.MethodName) ({ cls := "AcornYears", name := "text", desc := "(II)I" } : Jvm.MethodName)) ∈ lw_all := lw_g (lw_at lw_m2 193 rfl) rfl
theorem q540 : (Jvm.Cond.codeWith ({ cls := "AcornYears", name := "text", desc := "(II)I" } : Jvm.MethodName) prog_1_method_15_code (5 : Nat) (Option.some Jvm.ClassFile.FieldType.int) [((15 : Nat), (48 : Nat), (49 : Nat), (137 : Nat))]) ∈ lw_all := lw_g (lw_at lw_m2 194 rfl) rfl
theorem q541 : (Jvm.Cond.methodLink "AcornYears" (164 : Nat) ({ cls := "AcornYears", name := "isText", desc := "(I)Z" } : Jvm.MethodName)) ∈ lw_all := lw_g (lw_at lw_m2 195 rfl) rfl
theorem q542 : (Jvm.Cond.static ({ cls := "AcornYears", name := "isText", desc := "(I)Z" } : Jvm.MethodName)) ∈ lw_all := lw_g (lw_at lw_m2 196 rfl) rfl
theorem q543 : (Jvm.Cond.code ({ cls := "AcornYears", name := "isText", desc := "(I)Z" } : Jvm.MethodName) prog_1_method_8_code (1 : Nat) (Option.some Jvm.ClassFile.FieldType.boolean)) ∈ lw_all := lw_g (lw_at lw_m2 197 rfl) rfl
theorem q545 : (Jvm.Cond.instanceMethod ({ cls := "AcornYears", name := "put", desc := "(III)I" } : Jvm.MethodName)) ∈ lw_all := lw_g (lw_at lw_m2 199 rfl) rfl
theorem q546 : (Jvm.Cond.selects "AcornYears" ({ cls := "AcornYears", name := "put", desc := "(III)I" } : Jvm.MethodName) ({ cls := "AcornYears", name := "put", desc := "(III)I" } : Jvm.MethodName)) ∈ lw_all := lw_g (lw_at lw_m2 200 rfl) rfl
theorem q547 : (Jvm.Cond.codeWith ({ cls := "AcornYears", name := "put", desc := "(III)I" } : Jvm.MethodName) prog_1_method_16_code (5 : Nat) (Option.some Jvm.ClassFile.FieldType.int) [((9 : Nat), (35 : Nat), (36 : Nat), (150 : Nat)), ((9 : Nat), (35 : Nat), (44 : Nat), (152 : Nat))]) ∈ lw_all := lw_g (lw_at lw_m2 201 rfl) rfl
theorem q549 : (Jvm.Cond.instanceMethod ({ cls := "AcornYears", name := "fault", desc := "(I)I" } : Jvm.MethodName)) ∈ lw_all := lw_g (lw_at lw_m2 203 rfl) rfl
theorem q550 : (Jvm.Cond.selects "AcornYears" ({ cls := "AcornYears", name := "fault", desc := "(I)I" } : Jvm.MethodName) ({ cls := "AcornYears", name := "fault", desc := "(I)I" } : Jvm.MethodName)) ∈ lw_all := lw_g (lw_at lw_m2 204 rfl) rfl
theorem q551 : (Jvm.Cond.code ({ cls := "AcornYears", name := "fault", desc := "(I)I" } : Jvm.MethodName) prog_1_method_32_code (2 : Nat) (Option.some Jvm.ClassFile.FieldType.int)) ∈ lw_all := lw_g (lw_at lw_m2 205 rfl) rfl
theorem q552 : (Jvm.Cond.methodLink "AcornYears" (263 : Nat) ({ cls := "AcornYears", name := "goesOn", desc := "([B)I" } : Jvm.MethodName)) ∈ lw_all := lw_g (lw_at lw_m2 206 rfl) rfl
theorem q553 : (Jvm.Cond.privateMethod ({ cls := "AcornYears", name := "goesOn", desc := "([B)I" } : Jvm.MethodName)) ∈ lw_tbl := lw_at lw_m2 207 rfl
theorem q554 : (Jvm.Cond.instanceMethod ({ cls := "AcornYears", name := "goesOn", desc := "([B)I" } : Jvm.MethodName)) ∈ lw_all := lw_g (lw_at lw_m2 208 rfl) rfl
theorem q555 : (Jvm.Cond.code ({ cls := "AcornYears", name := "goesOn", desc := "([B)I" } : Jvm.MethodName) prog_1_method_31_code (3 : Nat) (Option.some Jvm.ClassFile.FieldType.int)) ∈ lw_all := lw_g (lw_at lw_m2 209 rfl) rfl
theorem q556 : (Jvm.Cond.methodLink "AcornYears" (254 : Nat) ({ cls := "AcornYears", name := "wipe", desc := "()V" } : Jvm.MethodName)) ∈ lw_all := lw_g (lw_at lw_m2 210 rfl) rfl
theorem q557 : (Jvm.Cond.privateMethod ({ cls := "AcornYears", name := "wipe", desc := "()V" } : Jvm.MethodName)) ∈ lw_tbl := lw_at lw_m2 211 rfl
theorem q558 : (Jvm.Cond.instanceMethod ({ cls := "AcornYears", name := "wipe", desc := "()V" } : Jvm.MethodName)) ∈ lw_all := lw_g (lw_at lw_m2 212 rfl) rfl
theorem q559 : (Jvm.Cond.code ({ cls := "AcornYears", name := "wipe", desc := "()V" } : Jvm.MethodName) prog_1_method_30_code (2 : Nat) (Option.none : Option Jvm.ClassFile.FieldType)) ∈ lw_all := lw_g (lw_at lw_m2 213 rfl) rfl
theorem q560 : (Jvm.Cond.methodLink "AcornYears" (173 : Nat) ({ cls := "AcornYears", name := "here", desc := "()I" } : Jvm.MethodName)) ∈ lw_all := lw_g (lw_at lw_m2 214 rfl) rfl
theorem q561 : (Jvm.Cond.privateMethod ({ cls := "AcornYears", name := "here", desc := "()I" } : Jvm.MethodName)) ∈ lw_tbl := lw_at lw_m2 215 rfl
theorem q562 : (Jvm.Cond.instanceMethod ({ cls := "AcornYears", name := "here", desc := "()I" } : Jvm.MethodName)) ∈ lw_all := lw_g (lw_at lw_m2 216 rfl) rfl
theorem q563 : (Jvm.Cond.code ({ cls := "AcornYears", name := "here", desc := "()I" } : Jvm.MethodName) prog_1_method_17_code (1 : Nat) (Option.some Jvm.ClassFile.FieldType.int)) ∈ lw_all := lw_g (lw_at lw_m2 217 rfl) rfl
theorem q564 : (Jvm.Cond.methodLink "AcornYears" (257 : Nat) ({ cls := "AcornYears", name := "mayBegin", desc := "(I)Z" } : Jvm.MethodName)) ∈ lw_all := lw_g (lw_at lw_m2 218 rfl) rfl
theorem q565 : (Jvm.Cond.privateMethod ({ cls := "AcornYears", name := "mayBegin", desc := "(I)Z" } : Jvm.MethodName)) ∈ lw_tbl := lw_at lw_m2 219 rfl
theorem q566 : (Jvm.Cond.instanceMethod ({ cls := "AcornYears", name := "mayBegin", desc := "(I)Z" } : Jvm.MethodName)) ∈ lw_all := lw_g (lw_at lw_m2 220 rfl) rfl
theorem q567 : (Jvm.Cond.code ({ cls := "AcornYears", name := "mayBegin", desc := "(I)Z" } : Jvm.MethodName) prog_1_method_29_code (2 : Nat) (Option.some Jvm.ClassFile.FieldType.boolean)) ∈ lw_all := lw_g (lw_at lw_m2 221 rfl) rfl
theorem q568 : (Jvm.Cond.methodLink "AcornYears" (251 : Nat) ({ cls := "AcornYears", name := "isSortLetter", desc := "(I)Z" } : Jvm.MethodName)) ∈ lw_all := lw_g (lw_at lw_m2 222 rfl) rfl
theorem q569 : (Jvm.Cond.static ({ cls := "AcornYears", name := "isSortLetter", desc := "(I)Z" } : Jvm.MethodName)) ∈ lw_all := lw_g (lw_at lw_m2 223 rfl) rfl
theorem q570 : (Jvm.Cond.code ({ cls := "AcornYears", name := "isSortLetter", desc := "(I)Z" } : Jvm.MethodName) prog_1_method_28_code (1 : Nat) (Option.some Jvm.ClassFile.FieldType.boolean)) ∈ lw_all := lw_g (lw_at lw_m2 224 rfl) rfl
theorem q571 : (Jvm.Cond.methodLink "AcornYears" (260 : Nat) ({ cls := "AcornYears", name := "readsItem", desc := "(I)Z" } : Jvm.MethodName)) ∈ lw_all := lw_g (lw_at lw_m2 225 rfl) rfl
theorem q572 : (Jvm.Cond.privateMethod ({ cls := "AcornYears", name := "readsItem", desc := "(I)Z" } : Jvm.MethodName)) ∈ lw_tbl := lw_at lw_m2 226 rfl
theorem q573 : (Jvm.Cond.instanceMethod ({ cls := "AcornYears", name := "readsItem", desc := "(I)Z" } : Jvm.MethodName)) ∈ lw_all := lw_g (lw_at lw_m2 227 rfl) rfl
theorem q574 : (Jvm.Cond.code ({ cls := "AcornYears", name := "readsItem", desc := "(I)Z" } : Jvm.MethodName) prog_1_method_27_code (2 : Nat) (Option.some Jvm.ClassFile.FieldType.boolean)) ∈ lw_all := lw_g (lw_at lw_m2 228 rfl) rfl
theorem q575 : (Jvm.Cond.methodLink "AcornYears" (235 : Nat) ({ cls := "AcornYears", name := "readsEaters", desc := "()Z" } : Jvm.MethodName)) ∈ lw_all := lw_g (lw_at lw_m2 229 rfl) rfl
theorem q576 : (Jvm.Cond.privateMethod ({ cls := "AcornYears", name := "readsEaters", desc := "()Z" } : Jvm.MethodName)) ∈ lw_tbl := lw_at lw_m2 230 rfl
theorem q577 : (Jvm.Cond.instanceMethod ({ cls := "AcornYears", name := "readsEaters", desc := "()Z" } : Jvm.MethodName)) ∈ lw_all := lw_g (lw_at lw_m2 231 rfl) rfl
theorem q578 : (Jvm.Cond.code ({ cls := "AcornYears", name := "readsEaters", desc := "()Z" } : Jvm.MethodName) prog_1_method_23_code (2 : Nat) (Option.some Jvm.ClassFile.FieldType.boolean)) ∈ lw_all := lw_g (lw_at lw_m2 232 rfl) rfl
theorem q579 : (Jvm.Cond.methodLink "AcornYears" (180 : Nat) ({ cls := "AcornYears", name := "readsNumber", desc := "(III)Z" } : Jvm.MethodName)) ∈ lw_all := lw_g (lw_at lw_m2 233 rfl) rfl
theorem q580 : (Jvm.Cond.privateMethod ({ cls := "AcornYears", name := "readsNumber", desc := "(III)Z" } : Jvm.MethodName)) ∈ lw_tbl := lw_at lw_m2 234 rfl
theorem q581 : (Jvm.Cond.instanceMethod ({ cls := "AcornYears", name := "readsNumber", desc := "(III)Z" } : Jvm.MethodName)) ∈ lw_all := lw_g (lw_at lw_m2 235 rfl) rfl
theorem q582 : (Jvm.Cond.code ({ cls := "AcornYears", name := "readsNumber", desc := "(III)Z" } : Jvm.MethodName) prog_1_method_19_code (5 : Nat) (Option.some Jvm.ClassFile.FieldType.boolean)) ∈ lw_all := lw_g (lw_at lw_m2 236 rfl) rfl
theorem q583 : (Jvm.Cond.methodLink "AcornYears" (199 : Nat) ({ cls := "AcornYears", name := "reads", desc := "(I)Z" } : Jvm.MethodName)) ∈ lw_all := lw_g (lw_at lw_m2 237 rfl) rfl
theorem q584 : (Jvm.Cond.privateMethod ({ cls := "AcornYears", name := "reads", desc := "(I)Z" } : Jvm.MethodName)) ∈ lw_tbl := lw_at lw_m2 238 rfl
theorem q585 : (Jvm.Cond.instanceMethod ({ cls := "AcornYears", name := "reads", desc := "(I)Z" } : Jvm.MethodName)) ∈ lw_all := lw_g (lw_at lw_m2 239 rfl) rfl
theorem q586 : (Jvm.Cond.code ({ cls := "AcornYears", name := "reads", desc := "(I)Z" } : Jvm.MethodName) prog_1_method_18_code (3 : Nat) (Option.some Jvm.ClassFile.FieldType.boolean)) ∈ lw_all := lw_g (lw_at lw_m3 0 rfl) rfl
theorem q587 : (Jvm.Cond.methodLink "AcornYears" (239 : Nat) ({ cls := "AcornYears", name := "readsJay", desc := "()Z" } : Jvm.MethodName)) ∈ lw_all := lw_g (lw_at lw_m3 1 rfl) rfl
theorem q588 : (Jvm.Cond.privateMethod ({ cls := "AcornYears", name := "readsJay", desc := "()Z" } : Jvm.MethodName)) ∈ lw_tbl := lw_at lw_m3 2 rfl
theorem q589 : (Jvm.Cond.instanceMethod ({ cls := "AcornYears", name := "readsJay", desc := "()Z" } : Jvm.MethodName)) ∈ lw_all := lw_g (lw_at lw_m3 3 rfl) rfl
theorem q590 : (Jvm.Cond.code ({ cls := "AcornYears", name := "readsJay", desc := "()Z" } : Jvm.MethodName) prog_1_method_24_code (2 : Nat) (Option.some Jvm.ClassFile.FieldType.boolean)) ∈ lw_all := lw_g (lw_at lw_m3 4 rfl) rfl
theorem q591 : (Jvm.Cond.methodLink "AcornYears" (242 : Nat) ({ cls := "AcornYears", name := "readsCalendar", desc := "()Z" } : Jvm.MethodName)) ∈ lw_all := lw_g (lw_at lw_m3 5 rfl) rfl
theorem q592 : (Jvm.Cond.privateMethod ({ cls := "AcornYears", name := "readsCalendar", desc := "()Z" } : Jvm.MethodName)) ∈ lw_tbl := lw_at lw_m3 6 rfl
theorem q593 : (Jvm.Cond.instanceMethod ({ cls := "AcornYears", name := "readsCalendar", desc := "()Z" } : Jvm.MethodName)) ∈ lw_all := lw_g (lw_at lw_m3 7 rfl) rfl
theorem q594 : (Jvm.Cond.code ({ cls := "AcornYears", name := "readsCalendar", desc := "()Z" } : Jvm.MethodName) prog_1_method_25_code (4 : Nat) (Option.some Jvm.ClassFile.FieldType.boolean)) ∈ lw_all := lw_g (lw_at lw_m3 8 rfl) rfl
theorem q595 : (Jvm.Cond.methodLink "AcornYears" (245 : Nat) ({ cls := "AcornYears", name := "readsChances", desc := "()Z" } : Jvm.MethodName)) ∈ lw_all := lw_g (lw_at lw_m3 9 rfl) rfl
theorem q596 : (Jvm.Cond.privateMethod ({ cls := "AcornYears", name := "readsChances", desc := "()Z" } : Jvm.MethodName)) ∈ lw_tbl := lw_at lw_m3 10 rfl
theorem q597 : (Jvm.Cond.instanceMethod ({ cls := "AcornYears", name := "readsChances", desc := "()Z" } : Jvm.MethodName)) ∈ lw_all := lw_g (lw_at lw_m3 11 rfl) rfl
theorem q598 : (Jvm.Cond.code ({ cls := "AcornYears", name := "readsChances", desc := "()Z" } : Jvm.MethodName) prog_1_method_26_code (3 : Nat) (Option.some Jvm.ClassFile.FieldType.boolean)) ∈ lw_all := lw_g (lw_at lw_m3 12 rfl) rfl
theorem q599 : (Jvm.Cond.methodLink "AcornYears" (248 : Nat) ({ cls := "AcornYears", name := "readsSort", desc := "(I)Z" } : Jvm.MethodName)) ∈ lw_all := lw_g (lw_at lw_m3 13 rfl) rfl
theorem q600 : (Jvm.Cond.privateMethod ({ cls := "AcornYears", name := "readsSort", desc := "(I)Z" } : Jvm.MethodName)) ∈ lw_tbl := lw_at lw_m3 14 rfl
theorem q601 : (Jvm.Cond.instanceMethod ({ cls := "AcornYears", name := "readsSort", desc := "(I)Z" } : Jvm.MethodName)) ∈ lw_all := lw_g (lw_at lw_m3 15 rfl) rfl
theorem q602 : (Jvm.Cond.code ({ cls := "AcornYears", name := "readsSort", desc := "(I)Z" } : Jvm.MethodName) prog_1_method_20_code (4 : Nat) (Option.some Jvm.ClassFile.FieldType.boolean)) ∈ lw_all := lw_g (lw_at lw_m3 16 rfl) rfl
theorem q603 : (Jvm.Cond.classLink "AcornYears" (183 : Nat) "AcornYears$Steady") ∈ lw_all := lw_g (lw_at lw_m3 17 rfl) rfl
theorem q605 : (Jvm.Cond.methodLink "AcornYears" (185 : Nat) ({ cls := "AcornYears$Steady", name := "<init>", desc := "([B)V" } : Jvm.MethodName)) ∈ lw_all := lw_g (lw_at lw_m3 19 rfl) rfl
theorem q616 : (Jvm.Cond.methodLink "AcornYears" (188 : Nat) ({ cls := "AcornYears", name := "readsWarm", desc := "([B)LAcornYears$Sort;" } : Jvm.MethodName)) ∈ lw_all := lw_g (lw_at lw_m3 30 rfl) rfl
theorem q617 : (Jvm.Cond.privateMethod ({ cls := "AcornYears", name := "readsWarm", desc := "([B)LAcornYears$Sort;" } : Jvm.MethodName)) ∈ lw_tbl := lw_at lw_m3 31 rfl
theorem q618 : (Jvm.Cond.instanceMethod ({ cls := "AcornYears", name := "readsWarm", desc := "([B)LAcornYears$Sort;" } : Jvm.MethodName)) ∈ lw_all := lw_g (lw_at lw_m3 32 rfl) rfl
theorem q619 : (Jvm.Cond.code ({ cls := "AcornYears", name := "readsWarm", desc := "([B)LAcornYears$Sort;" } : Jvm.MethodName) prog_1_method_21_code (3 : Nat) (Option.some (Jvm.ClassFile.FieldType.object "AcornYears$Sort"))) ∈ lw_all := lw_g (lw_at lw_m3 33 rfl) rfl
theorem q620 : (Jvm.Cond.classLink "AcornYears" (202 : Nat) "AcornYears$Warm") ∈ lw_all := lw_g (lw_at lw_m3 34 rfl) rfl
theorem q622 : (Jvm.Cond.methodLink "AcornYears" (204 : Nat) ({ cls := "AcornYears$Warm", name := "<init>", desc := "([BII)V" } : Jvm.MethodName)) ∈ lw_all := lw_g (lw_at lw_m3 36 rfl) rfl
theorem q634 : (Jvm.Cond.methodLink "AcornYears" (192 : Nat) ({ cls := "AcornYears", name := "readsSaver", desc := "(I[B)LAcornYears$Sort;" } : Jvm.MethodName)) ∈ lw_all := lw_g (lw_at lw_m3 48 rfl) rfl
theorem q635 : (Jvm.Cond.privateMethod ({ cls := "AcornYears", name := "readsSaver", desc := "(I[B)LAcornYears$Sort;" } : Jvm.MethodName)) ∈ lw_tbl := lw_at lw_m3 49 rfl
theorem q636 : (Jvm.Cond.instanceMethod ({ cls := "AcornYears", name := "readsSaver", desc := "(I[B)LAcornYears$Sort;" } : Jvm.MethodName)) ∈ lw_all := lw_g (lw_at lw_m3 50 rfl) rfl
theorem q637 : (Jvm.Cond.code ({ cls := "AcornYears", name := "readsSaver", desc := "(I[B)LAcornYears$Sort;" } : Jvm.MethodName) prog_1_method_22_code (5 : Nat) (Option.some (Jvm.ClassFile.FieldType.object "AcornYears$Sort"))) ∈ lw_all := lw_g (lw_at lw_m3 51 rfl) rfl
theorem q638 : (Jvm.Cond.methodLink "AcornYears" (207 : Nat) ({ cls := "java/lang/Math", name := "min", desc := "(II)I" } : Jvm.MethodName)) ∈ lw_all := lw_g (lw_at lw_m3 52 rfl) rfl
theorem q641 : (Jvm.Cond.classLink "AcornYears" (212 : Nat) "AcornYears$Saver") ∈ lw_all := lw_g (lw_at lw_m3 55 rfl) rfl
theorem q643 : (Jvm.Cond.methodLink "AcornYears" (214 : Nat) ({ cls := "AcornYears$Saver", name := "<init>", desc := "([BII)V" } : Jvm.MethodName)) ∈ lw_all := lw_g (lw_at lw_m3 57 rfl) rfl
theorem q655 : (Jvm.Cond.classLink "AcornYears" (215 : Nat) "AcornYears$Needing") ∈ lw_all := lw_g (lw_at lw_m3 69 rfl) rfl
theorem q657 : (Jvm.Cond.methodLink "AcornYears" (217 : Nat) ({ cls := "AcornYears$Needing", name := "<init>", desc := "([BIII)V" } : Jvm.MethodName)) ∈ lw_all := lw_g (lw_at lw_m3 71 rfl) rfl
theorem q662 : (Jvm.Cond.fieldLinkNest "AcornYears" (313 : Nat) "AcornYears$Needing" "part" "I" "AcornYears") ∈ lw_tbl := lw_at lw_m3 76 rfl
theorem q669 : (Jvm.Cond.classLink "AcornYears" (220 : Nat) "AcornYears$Odd") ∈ lw_all := lw_g (lw_at lw_m3 83 rfl) rfl
theorem q671 : (Jvm.Cond.methodLink "AcornYears" (222 : Nat) ({ cls := "AcornYears$Odd", name := "<init>", desc := "([BIII)V" } : Jvm.MethodName)) ∈ lw_all := lw_g (lw_at lw_m3 85 rfl) rfl
theorem q676 : (Jvm.Cond.fieldLinkNest "AcornYears" (316 : Nat) "AcornYears$Odd" "each" "I" "AcornYears") ∈ lw_tbl := lw_at lw_m3 90 rfl
theorem q684 : (Jvm.Cond.instanceMethod ({ cls := "AcornYears", name := "wood", desc := "(I)I" } : Jvm.MethodName)) ∈ lw_all := lw_g (lw_at lw_m3 98 rfl) rfl
theorem q685 : (Jvm.Cond.selects "AcornYears" ({ cls := "AcornYears", name := "wood", desc := "(I)I" } : Jvm.MethodName) ({ cls := "AcornYears", name := "wood", desc := "(I)I" } : Jvm.MethodName)) ∈ lw_all := lw_g (lw_at lw_m3 99 rfl) rfl
theorem q686 : (Jvm.Cond.code ({ cls := "AcornYears", name := "wood", desc := "(I)I" } : Jvm.MethodName) prog_1_method_33_code (2 : Nat) (Option.some Jvm.ClassFile.FieldType.int)) ∈ lw_all := lw_g (lw_at lw_m3 100 rfl) rfl
theorem q688 : (Jvm.Cond.instanceMethod ({ cls := "AcornYears", name := "plant", desc := "(II)I" } : Jvm.MethodName)) ∈ lw_all := lw_g (lw_at lw_m3 102 rfl) rfl
theorem q689 : (Jvm.Cond.selects "AcornYears" ({ cls := "AcornYears", name := "plant", desc := "(II)I" } : Jvm.MethodName) ({ cls := "AcornYears", name := "plant", desc := "(II)I" } : Jvm.MethodName)) ∈ lw_all := lw_g (lw_at lw_m3 103 rfl) rfl
theorem q690 : (Jvm.Cond.code ({ cls := "AcornYears", name := "plant", desc := "(II)I" } : Jvm.MethodName) prog_1_method_38_code (3 : Nat) (Option.some Jvm.ClassFile.FieldType.int)) ∈ lw_all := lw_g (lw_at lw_m3 104 rfl) rfl
theorem q691 : (Jvm.Cond.methodLink "AcornYears" (291 : Nat) ({ cls := "AcornYears", name := "isSort", desc := "(I)Z" } : Jvm.MethodName)) ∈ lw_all := lw_g (lw_at lw_m3 105 rfl) rfl
theorem q692 : (Jvm.Cond.privateMethod ({ cls := "AcornYears", name := "isSort", desc := "(I)Z" } : Jvm.MethodName)) ∈ lw_tbl := lw_at lw_m3 106 rfl
theorem q693 : (Jvm.Cond.instanceMethod ({ cls := "AcornYears", name := "isSort", desc := "(I)Z" } : Jvm.MethodName)) ∈ lw_all := lw_g (lw_at lw_m3 107 rfl) rfl
theorem q694 : (Jvm.Cond.code ({ cls := "AcornYears", name := "isSort", desc := "(I)Z" } : Jvm.MethodName) prog_1_method_34_code (2 : Nat) (Option.some Jvm.ClassFile.FieldType.boolean)) ∈ lw_all := lw_g (lw_at lw_m3 108 rfl) rfl
theorem q695 : (Jvm.Cond.methodLink "AcornYears" (294 : Nat) ({ cls := "AcornYears", name := "newTree", desc := "(II)I" } : Jvm.MethodName)) ∈ lw_all := lw_g (lw_at lw_m3 109 rfl) rfl
theorem q696 : (Jvm.Cond.privateMethod ({ cls := "AcornYears", name := "newTree", desc := "(II)I" } : Jvm.MethodName)) ∈ lw_tbl := lw_at lw_m3 110 rfl
theorem q697 : (Jvm.Cond.instanceMethod ({ cls := "AcornYears", name := "newTree", desc := "(II)I" } : Jvm.MethodName)) ∈ lw_all := lw_g (lw_at lw_m3 111 rfl) rfl
theorem q698 : (Jvm.Cond.code ({ cls := "AcornYears", name := "newTree", desc := "(II)I" } : Jvm.MethodName) prog_1_method_37_code (3 : Nat) (Option.some Jvm.ClassFile.FieldType.int)) ∈ lw_all := lw_g (lw_at lw_m3 112 rfl) rfl
theorem q700 : (Jvm.Cond.methodLink "AcornYears" (285 : Nat) ({ cls := "AcornYears$Tree", name := "<init>", desc := "(I)V" } : Jvm.MethodName)) ∈ lw_all := lw_g (lw_at lw_m3 114 rfl) rfl
theorem q705 : (Jvm.Cond.fieldLinkNest "AcornYears" (321 : Nat) "AcornYears$Tree" "sort" "I" "AcornYears") ∈ lw_tbl := lw_at lw_m3 119 rfl
theorem q706 : (Jvm.Cond.fieldLinkNest "AcornYears" (324 : Nat) "AcornYears$Tree" "times" "I" "AcornYears") ∈ lw_tbl := lw_at lw_m3 120 rfl
theorem q708 : (Jvm.Cond.fieldLinkNest "AcornYears" (327 : Nat) "AcornYears$Tree" "last" "I" "AcornYears") ∈ lw_tbl := lw_at lw_m3 122 rfl
theorem q717 : (Jvm.Cond.instanceMethod ({ cls := "AcornYears", name := "plants", desc := "(I)I" } : Jvm.MethodName)) ∈ lw_all := lw_g (lw_at lw_m3 131 rfl) rfl
theorem q718 : (Jvm.Cond.selects "AcornYears" ({ cls := "AcornYears", name := "plants", desc := "(I)I" } : Jvm.MethodName) ({ cls := "AcornYears", name := "plants", desc := "(I)I" } : Jvm.MethodName)) ∈ lw_all := lw_g (lw_at lw_m3 132 rfl) rfl
theorem q719 : (Jvm.Cond.code ({ cls := "AcornYears", name := "plants", desc := "(I)I" } : Jvm.MethodName) prog_1_method_39_code (4 : Nat) (Option.some Jvm.ClassFile.FieldType.int)) ∈ lw_all := lw_g (lw_at lw_m3 133 rfl) rfl
theorem q721 : (Jvm.Cond.instanceMethod ({ cls := "AcornYears", name := "about", desc := "(II)I" } : Jvm.MethodName)) ∈ lw_all := lw_g (lw_at lw_m3 135 rfl) rfl
theorem q722 : (Jvm.Cond.selects "AcornYears" ({ cls := "AcornYears", name := "about", desc := "(II)I" } : Jvm.MethodName) ({ cls := "AcornYears", name := "about", desc := "(II)I" } : Jvm.MethodName)) ∈ lw_all := lw_g (lw_at lw_m3 136 rfl) rfl
theorem q723 : (Jvm.Cond.code ({ cls := "AcornYears", name := "about", desc := "(II)I" } : Jvm.MethodName) prog_1_method_41_code (3 : Nat) (Option.some Jvm.ClassFile.FieldType.int)) ∈ lw_all := lw_g (lw_at lw_m3 137 rfl) rfl
theorem q724 : (Jvm.Cond.methodLink "AcornYears" (303 : Nat) ({ cls := "AcornYears", name := "aboutOf", desc := "(II)I" } : Jvm.MethodName)) ∈ lw_all := lw_g (lw_at lw_m3 138 rfl) rfl
theorem q725 : (Jvm.Cond.privateMethod ({ cls := "AcornYears", name := "aboutOf", desc := "(II)I" } : Jvm.MethodName)) ∈ lw_tbl := lw_at lw_m3 139 rfl
theorem q726 : (Jvm.Cond.instanceMethod ({ cls := "AcornYears", name := "aboutOf", desc := "(II)I" } : Jvm.MethodName)) ∈ lw_all := lw_g (lw_at lw_m3 140 rfl) rfl
theorem q727 : (Jvm.Cond.code ({ cls := "AcornYears", name := "aboutOf", desc := "(II)I" } : Jvm.MethodName) prog_1_method_40_code (3 : Nat) (Option.some Jvm.ClassFile.FieldType.int)) ∈ lw_all := lw_g (lw_at lw_m3 141 rfl) rfl
theorem q728 : (Jvm.Cond.methodLink "AcornYears" (297 : Nat) ({ cls := "AcornYears$Sort", name := "adds", desc := "(I)I" } : Jvm.MethodName)) ∈ lw_all := lw_g (lw_at lw_m3 142 rfl) rfl
theorem q737 : (Jvm.Cond.methodLink "AcornYears" (300 : Nat) ({ cls := "AcornYears$Sort", name := "kind", desc := "()I" } : Jvm.MethodName)) ∈ lw_all := lw_g (lw_at lw_m3 151 rfl) rfl
theorem q757 : (Jvm.Cond.instanceMethod ({ cls := "AcornYears", name := "mark", desc := "(II)I" } : Jvm.MethodName)) ∈ lw_all := lw_g (lw_at lw_m3 171 rfl) rfl
theorem q758 : (Jvm.Cond.selects "AcornYears" ({ cls := "AcornYears", name := "mark", desc := "(II)I" } : Jvm.MethodName) ({ cls := "AcornYears", name := "mark", desc := "(II)I" } : Jvm.MethodName)) ∈ lw_all := lw_g (lw_at lw_m3 172 rfl) rfl
theorem q759 : (Jvm.Cond.codeWith ({ cls := "AcornYears", name := "mark", desc := "(II)I" } : Jvm.MethodName) prog_1_method_42_code (5 : Nat) (Option.some Jvm.ClassFile.FieldType.int) [((26 : Nat), (63 : Nat), (96 : Nat), (319 : Nat)), ((64 : Nat), (71 : Nat), (96 : Nat), (319 : Nat)), ((72 : Nat), (79 : Nat), (96 : Nat), (319 : Nat)), ((80 : Nat), (87 : Nat), (96 : Nat), (319 : Nat)), ((88 : Nat), (95 : Nat), (96 : Nat), (319 : Nat))]) ∈ lw_all := lw_g (lw_at lw_m3 173 rfl) rfl
theorem q760 : (Jvm.Cond.classLink "AcornYears" (319 : Nat) "java/lang/ClassCastException") ∈ lw_all := lw_g (lw_at lw_m3 174 rfl) rfl
theorem q774 : (Jvm.Cond.methodLink "AcornYears" (306 : Nat) ({ cls := "AcornYears$Steady", name := "tells", desc := "()I" } : Jvm.MethodName)) ∈ lw_all := lw_g (lw_at lw_m3 188 rfl) rfl
theorem q782 : (Jvm.Cond.methodLink "AcornYears" (309 : Nat) ({ cls := "AcornYears$Saver", name := "saves", desc := "()I" } : Jvm.MethodName)) ∈ lw_all := lw_g (lw_at lw_m3 196 rfl) rfl
theorem q789 : (Jvm.Cond.methodLink "AcornYears" (312 : Nat) ({ cls := "AcornYears$Warm", name := "tells", desc := "()I" } : Jvm.MethodName)) ∈ lw_all := lw_g (lw_at lw_m3 203 rfl) rfl
theorem q794 : (Jvm.Cond.instanceMethod ({ cls := "AcornYears", name := "told", desc := "(II)I" } : Jvm.MethodName)) ∈ lw_all := lw_g (lw_at lw_m3 208 rfl) rfl
theorem q795 : (Jvm.Cond.selects "AcornYears" ({ cls := "AcornYears", name := "told", desc := "(II)I" } : Jvm.MethodName) ({ cls := "AcornYears", name := "told", desc := "(II)I" } : Jvm.MethodName)) ∈ lw_all := lw_g (lw_at lw_m3 209 rfl) rfl
theorem q796 : (Jvm.Cond.code ({ cls := "AcornYears", name := "told", desc := "(II)I" } : Jvm.MethodName) prog_1_method_44_code (3 : Nat) (Option.some Jvm.ClassFile.FieldType.int)) ∈ lw_all := lw_g (lw_at lw_m3 210 rfl) rfl
theorem q797 : (Jvm.Cond.methodLink "AcornYears" (330 : Nat) ({ cls := "AcornYears", name := "isTree", desc := "(I)Z" } : Jvm.MethodName)) ∈ lw_all := lw_g (lw_at lw_m3 211 rfl) rfl
theorem q798 : (Jvm.Cond.privateMethod ({ cls := "AcornYears", name := "isTree", desc := "(I)Z" } : Jvm.MethodName)) ∈ lw_tbl := lw_at lw_m3 212 rfl
theorem q799 : (Jvm.Cond.instanceMethod ({ cls := "AcornYears", name := "isTree", desc := "(I)Z" } : Jvm.MethodName)) ∈ lw_all := lw_g (lw_at lw_m3 213 rfl) rfl
theorem q800 : (Jvm.Cond.code ({ cls := "AcornYears", name := "isTree", desc := "(I)Z" } : Jvm.MethodName) prog_1_method_35_code (2 : Nat) (Option.some Jvm.ClassFile.FieldType.boolean)) ∈ lw_all := lw_g (lw_at lw_m3 214 rfl) rfl
theorem q801 : (Jvm.Cond.methodLink "AcornYears" (333 : Nat) ({ cls := "AcornYears", name := "toldOf", desc := "(II)I" } : Jvm.MethodName)) ∈ lw_all := lw_g (lw_at lw_m3 215 rfl) rfl
theorem q802 : (Jvm.Cond.privateMethod ({ cls := "AcornYears", name := "toldOf", desc := "(II)I" } : Jvm.MethodName)) ∈ lw_tbl := lw_at lw_m3 216 rfl
theorem q803 : (Jvm.Cond.instanceMethod ({ cls := "AcornYears", name := "toldOf", desc := "(II)I" } : Jvm.MethodName)) ∈ lw_all := lw_g (lw_at lw_m3 217 rfl) rfl
theorem q804 : (Jvm.Cond.code ({ cls := "AcornYears", name := "toldOf", desc := "(II)I" } : Jvm.MethodName) prog_1_method_43_code (4 : Nat) (Option.some Jvm.ClassFile.FieldType.int)) ∈ lw_all := lw_g (lw_at lw_m3 218 rfl) rfl
theorem q806 : (Jvm.Cond.instanceMethod ({ cls := "AcornYears", name := "now", desc := "(I)I" } : Jvm.MethodName)) ∈ lw_all := lw_g (lw_at lw_m3 220 rfl) rfl
theorem q807 : (Jvm.Cond.selects "AcornYears" ({ cls := "AcornYears", name := "now", desc := "(I)I" } : Jvm.MethodName) ({ cls := "AcornYears", name := "now", desc := "(I)I" } : Jvm.MethodName)) ∈ lw_all := lw_g (lw_at lw_m3 221 rfl) rfl
theorem q808 : (Jvm.Cond.code ({ cls := "AcornYears", name := "now", desc := "(I)I" } : Jvm.MethodName) prog_1_method_47_code (2 : Nat) (Option.some Jvm.ClassFile.FieldType.int)) ∈ lw_all := lw_g (lw_at lw_m3 222 rfl) rfl
theorem q809 : (Jvm.Cond.methodLink "AcornYears" (342 : Nat) ({ cls := "AcornYears", name := "nowOf", desc := "(I)I" } : Jvm.MethodName)) ∈ lw_all := lw_g (lw_at lw_m3 223 rfl) rfl
theorem q810 : (Jvm.Cond.privateMethod ({ cls := "AcornYears", name := "nowOf", desc := "(I)I" } : Jvm.MethodName)) ∈ lw_tbl := lw_at lw_m3 224 rfl
theorem q811 : (Jvm.Cond.instanceMethod ({ cls := "AcornYears", name := "nowOf", desc := "(I)I" } : Jvm.MethodName)) ∈ lw_all := lw_g (lw_at lw_m3 225 rfl) rfl
theorem q812 : (Jvm.Cond.code ({ cls := "AcornYears", name := "nowOf", desc := "(I)I" } : Jvm.MethodName) prog_1_method_46_code (2 : Nat) (Option.some Jvm.ClassFile.FieldType.int)) ∈ lw_all := lw_g (lw_at lw_m3 226 rfl) rfl
theorem q813 : (Jvm.Cond.methodLink "AcornYears" (339 : Nat) ({ cls := "AcornYears", name := "miceOf", desc := "(I)I" } : Jvm.MethodName)) ∈ lw_all := lw_g (lw_at lw_m3 227 rfl) rfl
theorem q814 : (Jvm.Cond.privateMethod ({ cls := "AcornYears", name := "miceOf", desc := "(I)I" } : Jvm.MethodName)) ∈ lw_tbl := lw_at lw_m3 228 rfl
theorem q815 : (Jvm.Cond.instanceMethod ({ cls := "AcornYears", name := "miceOf", desc := "(I)I" } : Jvm.MethodName)) ∈ lw_all := lw_g (lw_at lw_m3 229 rfl) rfl
theorem q816 : (Jvm.Cond.code ({ cls := "AcornYears", name := "miceOf", desc := "(I)I" } : Jvm.MethodName) prog_1_method_45_code (2 : Nat) (Option.some Jvm.ClassFile.FieldType.int)) ∈ lw_all := lw_g (lw_at lw_m3 230 rfl) rfl
theorem q817 : (Jvm.Cond.methodLink "AcornYears" (336 : Nat) ({ cls := "AcornYears", name := "areEaters", desc := "(I)Z" } : Jvm.MethodName)) ∈ lw_all := lw_g (lw_at lw_m3 231 rfl) rfl
theorem q818 : (Jvm.Cond.privateMethod ({ cls := "AcornYears", name := "areEaters", desc := "(I)Z" } : Jvm.MethodName)) ∈ lw_tbl := lw_at lw_m3 232 rfl
theorem q819 : (Jvm.Cond.instanceMethod ({ cls := "AcornYears", name := "areEaters", desc := "(I)Z" } : Jvm.MethodName)) ∈ lw_all := lw_g (lw_at lw_m3 233 rfl) rfl
theorem q820 : (Jvm.Cond.code ({ cls := "AcornYears", name := "areEaters", desc := "(I)Z" } : Jvm.MethodName) prog_1_method_36_code (2 : Nat) (Option.some Jvm.ClassFile.FieldType.boolean)) ∈ lw_all := lw_g (lw_at lw_m3 234 rfl) rfl
theorem q822 : (Jvm.Cond.instanceMethod ({ cls := "AcornYears", name := "spring", desc := "(II)I" } : Jvm.MethodName)) ∈ lw_all := lw_g (lw_at lw_m3 236 rfl) rfl
theorem q823 : (Jvm.Cond.selects "AcornYears" ({ cls := "AcornYears", name := "spring", desc := "(II)I" } : Jvm.MethodName) ({ cls := "AcornYears", name := "spring", desc := "(II)I" } : Jvm.MethodName)) ∈ lw_all := lw_g (lw_at lw_m3 237 rfl) rfl
theorem q824 : (Jvm.Cond.codeWith ({ cls := "AcornYears", name := "spring", desc := "(II)I" } : Jvm.MethodName) prog_1_method_48_code (4 : Nat) (Option.some Jvm.ClassFile.FieldType.int) [((11 : Nat), (27 : Nat), (28 : Nat), (152 : Nat))]) ∈ lw_all := lw_g (lw_at lw_m3 238 rfl) rfl
theorem q826 : (Jvm.Cond.instanceMethod ({ cls := "AcornYears", name := "jay", desc := "(II)I" } : Jvm.MethodName)) ∈ lw_all := lw_g (lw_at lw_m4 0 rfl) rfl
theorem q827 : (Jvm.Cond.selects "AcornYears" ({ cls := "AcornYears", name := "jay", desc := "(II)I" } : Jvm.MethodName) ({ cls := "AcornYears", name := "jay", desc := "(II)I" } : Jvm.MethodName)) ∈ lw_all := lw_g (lw_at lw_m4 1 rfl) rfl
theorem q828 : (Jvm.Cond.code ({ cls := "AcornYears", name := "jay", desc := "(II)I" } : Jvm.MethodName) prog_1_method_49_code (3 : Nat) (Option.some Jvm.ClassFile.FieldType.int)) ∈ lw_all := lw_g (lw_at lw_m4 2 rfl) rfl
theorem q830 : (Jvm.Cond.instanceMethod ({ cls := "AcornYears", name := "mice", desc := "(II)I" } : Jvm.MethodName)) ∈ lw_all := lw_g (lw_at lw_m4 4 rfl) rfl
theorem q831 : (Jvm.Cond.selects "AcornYears" ({ cls := "AcornYears", name := "mice", desc := "(II)I" } : Jvm.MethodName) ({ cls := "AcornYears", name := "mice", desc := "(II)I" } : Jvm.MethodName)) ∈ lw_all := lw_g (lw_at lw_m4 5 rfl) rfl
theorem q832 : (Jvm.Cond.code ({ cls := "AcornYears", name := "mice", desc := "(II)I" } : Jvm.MethodName) prog_1_method_50_code (4 : Nat) (Option.some Jvm.ClassFile.FieldType.int)) ∈ lw_all := lw_g (lw_at lw_m4 6 rfl) rfl
theorem q834 : (Jvm.Cond.instanceMethod ({ cls := "AcornYears", name := "next", desc := "(I)I" } : Jvm.MethodName)) ∈ lw_all := lw_g (lw_at lw_m4 8 rfl) rfl
theorem q835 : (Jvm.Cond.selects "AcornYears" ({ cls := "AcornYears", name := "next", desc := "(I)I" } : Jvm.MethodName) ({ cls := "AcornYears", name := "next", desc := "(I)I" } : Jvm.MethodName)) ∈ lw_all := lw_g (lw_at lw_m4 9 rfl) rfl
theorem q836 : (Jvm.Cond.code ({ cls := "AcornYears", name := "next", desc := "(I)I" } : Jvm.MethodName) prog_1_method_61_code (2 : Nat) (Option.some Jvm.ClassFile.FieldType.int)) ∈ lw_all := lw_g (lw_at lw_m4 10 rfl) rfl
theorem q837 : (Jvm.Cond.methodLink "AcornYears" (406 : Nat) ({ cls := "AcornYears", name := "passHere", desc := "(I)V" } : Jvm.MethodName)) ∈ lw_all := lw_g (lw_at lw_m4 11 rfl) rfl
theorem q838 : (Jvm.Cond.privateMethod ({ cls := "AcornYears", name := "passHere", desc := "(I)V" } : Jvm.MethodName)) ∈ lw_tbl := lw_at lw_m4 12 rfl
theorem q839 : (Jvm.Cond.instanceMethod ({ cls := "AcornYears", name := "passHere", desc := "(I)V" } : Jvm.MethodName)) ∈ lw_all := lw_g (lw_at lw_m4 13 rfl) rfl
theorem q840 : (Jvm.Cond.code ({ cls := "AcornYears", name := "passHere", desc := "(I)V" } : Jvm.MethodName) prog_1_method_60_code (3 : Nat) (Option.none : Option Jvm.ClassFile.FieldType)) ∈ lw_all := lw_g (lw_at lw_m4 14 rfl) rfl
theorem q841 : (Jvm.Cond.methodLink "AcornYears" (402 : Nat) ({ cls := "AcornYears", name := "pass", desc := "(LAcornYears$Wood;IZ)V" } : Jvm.MethodName)) ∈ lw_all := lw_g (lw_at lw_m4 15 rfl) rfl
theorem q842 : (Jvm.Cond.privateMethod ({ cls := "AcornYears", name := "pass", desc := "(LAcornYears$Wood;IZ)V" } : Jvm.MethodName)) ∈ lw_tbl := lw_at lw_m4 16 rfl
theorem q843 : (Jvm.Cond.instanceMethod ({ cls := "AcornYears", name := "pass", desc := "(LAcornYears$Wood;IZ)V" } : Jvm.MethodName)) ∈ lw_all := lw_g (lw_at lw_m4 17 rfl) rfl
theorem q844 : (Jvm.Cond.code ({ cls := "AcornYears", name := "pass", desc := "(LAcornYears$Wood;IZ)V" } : Jvm.MethodName) prog_1_method_58_code (7 : Nat) (Option.none : Option Jvm.ClassFile.FieldType)) ∈ lw_all := lw_g (lw_at lw_m4 18 rfl) rfl
theorem q845 : (Jvm.Cond.methodLink "AcornYears" (388 : Nat) ({ cls := "AcornYears", name := "grow", desc := "(LAcornYears$Wood;I)V" } : Jvm.MethodName)) ∈ lw_all := lw_g (lw_at lw_m4 19 rfl) rfl
theorem q846 : (Jvm.Cond.privateMethod ({ cls := "AcornYears", name := "grow", desc := "(LAcornYears$Wood;I)V" } : Jvm.MethodName)) ∈ lw_tbl := lw_at lw_m4 20 rfl
theorem q847 : (Jvm.Cond.instanceMethod ({ cls := "AcornYears", name := "grow", desc := "(LAcornYears$Wood;I)V" } : Jvm.MethodName)) ∈ lw_all := lw_g (lw_at lw_m4 21 rfl) rfl
theorem q848 : (Jvm.Cond.code ({ cls := "AcornYears", name := "grow", desc := "(LAcornYears$Wood;I)V" } : Jvm.MethodName) prog_1_method_54_code (5 : Nat) (Option.none : Option Jvm.ClassFile.FieldType)) ∈ lw_all := lw_g (lw_at lw_m4 22 rfl) rfl
theorem q849 : (Jvm.Cond.methodLink "AcornYears" (356 : Nat) ({ cls := "AcornYears", name := "sortOf", desc := "(I)LAcornYears$Sort;" } : Jvm.MethodName)) ∈ lw_all := lw_g (lw_at lw_m4 23 rfl) rfl
theorem q850 : (Jvm.Cond.privateMethod ({ cls := "AcornYears", name := "sortOf", desc := "(I)LAcornYears$Sort;" } : Jvm.MethodName)) ∈ lw_tbl := lw_at lw_m4 24 rfl
theorem q851 : (Jvm.Cond.instanceMethod ({ cls := "AcornYears", name := "sortOf", desc := "(I)LAcornYears$Sort;" } : Jvm.MethodName)) ∈ lw_all := lw_g (lw_at lw_m4 25 rfl) rfl
theorem q852 : (Jvm.Cond.code ({ cls := "AcornYears", name := "sortOf", desc := "(I)LAcornYears$Sort;" } : Jvm.MethodName) prog_1_method_51_code (2 : Nat) (Option.some (Jvm.ClassFile.FieldType.object "AcornYears$Sort"))) ∈ lw_all := lw_g (lw_at lw_m4 26 rfl) rfl
theorem q853 : (Jvm.Cond.methodLink "AcornYears" (360 : Nat) ({ cls := "AcornYears$Sort", name := "stores", desc := "()Z" } : Jvm.MethodName)) ∈ lw_all := lw_g (lw_at lw_m4 27 rfl) rfl
theorem q864 : (Jvm.Cond.methodLink "AcornYears" (362 : Nat) ({ cls := "AcornYears$Sort", name := "blooms", desc := "(III)Z" } : Jvm.MethodName)) ∈ lw_all := lw_g (lw_at lw_m4 38 rfl) rfl
theorem q882 : (Jvm.Cond.methodLink "AcornYears" (392 : Nat) ({ cls := "AcornYears", name := "bear", desc := "(LAcornYears$Wood;I)V" } : Jvm.MethodName)) ∈ lw_all := lw_g (lw_at lw_m4 56 rfl) rfl
theorem q883 : (Jvm.Cond.privateMethod ({ cls := "AcornYears", name := "bear", desc := "(LAcornYears$Wood;I)V" } : Jvm.MethodName)) ∈ lw_tbl := lw_at lw_m4 57 rfl
theorem q884 : (Jvm.Cond.instanceMethod ({ cls := "AcornYears", name := "bear", desc := "(LAcornYears$Wood;I)V" } : Jvm.MethodName)) ∈ lw_all := lw_g (lw_at lw_m4 58 rfl) rfl
theorem q885 : (Jvm.Cond.code ({ cls := "AcornYears", name := "bear", desc := "(LAcornYears$Wood;I)V" } : Jvm.MethodName) prog_1_method_56_code (7 : Nat) (Option.none : Option Jvm.ClassFile.FieldType)) ∈ lw_all := lw_g (lw_at lw_m4 59 rfl) rfl
theorem q886 : (Jvm.Cond.methodLink "AcornYears" (370 : Nat) ({ cls := "AcornYears", name := "countHalves", desc := "(LAcornYears$Wood;)V" } : Jvm.MethodName)) ∈ lw_all := lw_g (lw_at lw_m4 60 rfl) rfl
theorem q887 : (Jvm.Cond.privateMethod ({ cls := "AcornYears", name := "countHalves", desc := "(LAcornYears$Wood;)V" } : Jvm.MethodName)) ∈ lw_tbl := lw_at lw_m4 61 rfl
theorem q888 : (Jvm.Cond.instanceMethod ({ cls := "AcornYears", name := "countHalves", desc := "(LAcornYears$Wood;)V" } : Jvm.MethodName)) ∈ lw_all := lw_g (lw_at lw_m4 62 rfl) rfl
theorem q889 : (Jvm.Cond.code ({ cls := "AcornYears", name := "countHalves", desc := "(LAcornYears$Wood;)V" } : Jvm.MethodName) prog_1_method_53_code (3 : Nat) (Option.none : Option Jvm.ClassFile.FieldType)) ∈ lw_all := lw_g (lw_at lw_m4 63 rfl) rfl
theorem q890 : (Jvm.Cond.methodLink "AcornYears" (349 : Nat) ({ cls := "AcornYears", name := "halfOf", desc := "(I)I" } : Jvm.MethodName)) ∈ lw_all := lw_g (lw_at lw_m4 64 rfl) rfl
theorem q891 : (Jvm.Cond.privateMethod ({ cls := "AcornYears", name := "halfOf", desc := "(I)I" } : Jvm.MethodName)) ∈ lw_tbl := lw_at lw_m4 65 rfl
theorem q892 : (Jvm.Cond.instanceMethod ({ cls := "AcornYears", name := "halfOf", desc := "(I)I" } : Jvm.MethodName)) ∈ lw_all := lw_g (lw_at lw_m4 66 rfl) rfl
theorem q893 : (Jvm.Cond.code ({ cls := "AcornYears", name := "halfOf", desc := "(I)I" } : Jvm.MethodName) prog_1_method_52_code (2 : Nat) (Option.some Jvm.ClassFile.FieldType.int)) ∈ lw_all := lw_g (lw_at lw_m4 67 rfl) rfl
theorem q894 : (Jvm.Cond.methodLink "AcornYears" (345 : Nat) ({ cls := "AcornYears", name := "has", desc := "(II)Z" } : Jvm.MethodName)) ∈ lw_all := lw_g (lw_at lw_m4 68 rfl) rfl
theorem q895 : (Jvm.Cond.static ({ cls := "AcornYears", name := "has", desc := "(II)Z" } : Jvm.MethodName)) ∈ lw_all := lw_g (lw_at lw_m4 69 rfl) rfl
theorem q896 : (Jvm.Cond.code ({ cls := "AcornYears", name := "has", desc := "(II)Z" } : Jvm.MethodName) prog_1_method_2_code (2 : Nat) (Option.some Jvm.ClassFile.FieldType.boolean)) ∈ lw_all := lw_g (lw_at lw_m4 70 rfl) rfl
theorem q897 : (Jvm.Cond.methodLink "AcornYears" (380 : Nat) ({ cls := "AcornYears$Sort", name := "gives", desc := "(I)I" } : Jvm.MethodName)) ∈ lw_all := lw_g (lw_at lw_m4 71 rfl) rfl
theorem q912 : (Jvm.Cond.methodLink "AcornYears" (383 : Nat) ({ cls := "AcornYears", name := "sets", desc := "(I)Z" } : Jvm.MethodName)) ∈ lw_all := lw_g (lw_at lw_m4 86 rfl) rfl
theorem q913 : (Jvm.Cond.privateMethod ({ cls := "AcornYears", name := "sets", desc := "(I)Z" } : Jvm.MethodName)) ∈ lw_tbl := lw_at lw_m4 87 rfl
theorem q914 : (Jvm.Cond.instanceMethod ({ cls := "AcornYears", name := "sets", desc := "(I)Z" } : Jvm.MethodName)) ∈ lw_all := lw_g (lw_at lw_m4 88 rfl) rfl
theorem q915 : (Jvm.Cond.code ({ cls := "AcornYears", name := "sets", desc := "(I)Z" } : Jvm.MethodName) prog_1_method_55_code (3 : Nat) (Option.some Jvm.ClassFile.FieldType.boolean)) ∈ lw_all := lw_g (lw_at lw_m4 89 rfl) rfl
theorem q916 : (Jvm.Cond.interfaceEntry "AcornYears" (365 : Nat)) ∈ lw_tbl := lw_at lw_m4 90 rfl
theorem q917 : (Jvm.Cond.methodLink "AcornYears" (365 : Nat) ({ cls := "AcornYears$Pollen", name := "sets", desc := "(III)Z" } : Jvm.MethodName)) ∈ lw_all := lw_g (lw_at lw_m4 91 rfl) rfl
theorem q937 : (Jvm.Cond.methodLink "AcornYears" (395 : Nat) ({ cls := "AcornYears", name := "feed", desc := "(LAcornYears$Wood;I)I" } : Jvm.MethodName)) ∈ lw_all := lw_g (lw_at lw_m4 111 rfl) rfl
theorem q938 : (Jvm.Cond.privateMethod ({ cls := "AcornYears", name := "feed", desc := "(LAcornYears$Wood;I)I" } : Jvm.MethodName)) ∈ lw_tbl := lw_at lw_m4 112 rfl
theorem q939 : (Jvm.Cond.instanceMethod ({ cls := "AcornYears", name := "feed", desc := "(LAcornYears$Wood;I)I" } : Jvm.MethodName)) ∈ lw_all := lw_g (lw_at lw_m4 113 rfl) rfl
theorem q940 : (Jvm.Cond.code ({ cls := "AcornYears", name := "feed", desc := "(LAcornYears$Wood;I)I" } : Jvm.MethodName) prog_1_method_57_code (8 : Nat) (Option.some Jvm.ClassFile.FieldType.int)) ∈ lw_all := lw_g (lw_at lw_m4 114 rfl) rfl
theorem q942 : (Jvm.Cond.instanceMethod ({ cls := "AcornYears", name := "run", desc := "(I)I" } : Jvm.MethodName)) ∈ lw_all := lw_g (lw_at lw_m4 116 rfl) rfl
theorem q943 : (Jvm.Cond.selects "AcornYears" ({ cls := "AcornYears", name := "run", desc := "(I)I" } : Jvm.MethodName) ({ cls := "AcornYears", name := "run", desc := "(I)I" } : Jvm.MethodName)) ∈ lw_all := lw_g (lw_at lw_m4 117 rfl) rfl
theorem q944 : (Jvm.Cond.code ({ cls := "AcornYears", name := "run", desc := "(I)I" } : Jvm.MethodName) prog_1_method_62_code (5 : Nat) (Option.some Jvm.ClassFile.FieldType.int)) ∈ lw_all := lw_g (lw_at lw_m4 118 rfl) rfl
theorem q945 : (Jvm.Cond.methodLink "AcornYears" (409 : Nat) ({ cls := "AcornYears", name := "mayOf", desc := "(I)I" } : Jvm.MethodName)) ∈ lw_all := lw_g (lw_at lw_m4 119 rfl) rfl
theorem q946 : (Jvm.Cond.privateMethod ({ cls := "AcornYears", name := "mayOf", desc := "(I)I" } : Jvm.MethodName)) ∈ lw_tbl := lw_at lw_m4 120 rfl
theorem q947 : (Jvm.Cond.instanceMethod ({ cls := "AcornYears", name := "mayOf", desc := "(I)I" } : Jvm.MethodName)) ∈ lw_all := lw_g (lw_at lw_m4 121 rfl) rfl
theorem q948 : (Jvm.Cond.code ({ cls := "AcornYears", name := "mayOf", desc := "(I)I" } : Jvm.MethodName) prog_1_method_59_code (2 : Nat) (Option.some Jvm.ClassFile.FieldType.int)) ∈ lw_all := lw_g (lw_at lw_m4 122 rfl) rfl
theorem q950 : (Jvm.Cond.instanceMethod ({ cls := "AcornYears", name := "image", desc := "(I)I" } : Jvm.MethodName)) ∈ lw_all := lw_g (lw_at lw_m4 124 rfl) rfl
theorem q951 : (Jvm.Cond.selects "AcornYears" ({ cls := "AcornYears", name := "image", desc := "(I)I" } : Jvm.MethodName) ({ cls := "AcornYears", name := "image", desc := "(I)I" } : Jvm.MethodName)) ∈ lw_all := lw_g (lw_at lw_m4 125 rfl) rfl
theorem q952 : (Jvm.Cond.code ({ cls := "AcornYears", name := "image", desc := "(I)I" } : Jvm.MethodName) prog_1_method_63_code (4 : Nat) (Option.some Jvm.ClassFile.FieldType.int)) ∈ lw_all := lw_g (lw_at lw_m4 126 rfl) rfl
theorem q954 : (Jvm.Cond.instanceMethod ({ cls := "AcornYears", name := "on", desc := "(I)I" } : Jvm.MethodName)) ∈ lw_all := lw_g (lw_at lw_m4 128 rfl) rfl
theorem q955 : (Jvm.Cond.selects "AcornYears" ({ cls := "AcornYears", name := "on", desc := "(I)I" } : Jvm.MethodName) ({ cls := "AcornYears", name := "on", desc := "(I)I" } : Jvm.MethodName)) ∈ lw_all := lw_g (lw_at lw_m4 129 rfl) rfl
theorem q956 : (Jvm.Cond.code ({ cls := "AcornYears", name := "on", desc := "(I)I" } : Jvm.MethodName) prog_1_method_65_code (4 : Nat) (Option.some Jvm.ClassFile.FieldType.int)) ∈ lw_all := lw_g (lw_at lw_m4 130 rfl) rfl
theorem q957 : (Jvm.Cond.methodLink "AcornYears" (412 : Nat) ({ cls := "AcornYears", name := "isImage", desc := "([I)Z" } : Jvm.MethodName)) ∈ lw_all := lw_g (lw_at lw_m4 131 rfl) rfl
theorem q958 : (Jvm.Cond.privateMethod ({ cls := "AcornYears", name := "isImage", desc := "([I)Z" } : Jvm.MethodName)) ∈ lw_tbl := lw_at lw_m4 132 rfl
theorem q959 : (Jvm.Cond.instanceMethod ({ cls := "AcornYears", name := "isImage", desc := "([I)Z" } : Jvm.MethodName)) ∈ lw_all := lw_g (lw_at lw_m4 133 rfl) rfl
theorem q960 : (Jvm.Cond.code ({ cls := "AcornYears", name := "isImage", desc := "([I)Z" } : Jvm.MethodName) prog_1_method_64_code (4 : Nat) (Option.some Jvm.ClassFile.FieldType.boolean)) ∈ lw_all := lw_g (lw_at lw_m4 134 rfl) rfl
theorem q962 : (Jvm.Cond.instanceMethod ({ cls := "AcornYears", name := "ring", desc := "()I" } : Jvm.MethodName)) ∈ lw_all := lw_g (lw_at lw_m4 136 rfl) rfl
theorem q963 : (Jvm.Cond.selects "AcornYears" ({ cls := "AcornYears", name := "ring", desc := "()I" } : Jvm.MethodName) ({ cls := "AcornYears", name := "ring", desc := "()I" } : Jvm.MethodName)) ∈ lw_all := lw_g (lw_at lw_m4 137 rfl) rfl
theorem q964 : (Jvm.Cond.code ({ cls := "AcornYears", name := "ring", desc := "()I" } : Jvm.MethodName) prog_1_method_77_code (1 : Nat) (Option.some Jvm.ClassFile.FieldType.int)) ∈ lw_all := lw_g (lw_at lw_m4 138 rfl) rfl
theorem q965 : (Jvm.Cond.methodLink "AcornYears" (468 : Nat) ({ cls := "AcornYears", name := "setRing", desc := "()Z" } : Jvm.MethodName)) ∈ lw_all := lw_g (lw_at lw_m4 139 rfl) rfl
theorem q966 : (Jvm.Cond.privateMethod ({ cls := "AcornYears", name := "setRing", desc := "()Z" } : Jvm.MethodName)) ∈ lw_tbl := lw_at lw_m4 140 rfl
theorem q967 : (Jvm.Cond.instanceMethod ({ cls := "AcornYears", name := "setRing", desc := "()Z" } : Jvm.MethodName)) ∈ lw_all := lw_g (lw_at lw_m4 141 rfl) rfl
theorem q968 : (Jvm.Cond.code ({ cls := "AcornYears", name := "setRing", desc := "()Z" } : Jvm.MethodName) prog_1_method_72_code (4 : Nat) (Option.some Jvm.ClassFile.FieldType.boolean)) ∈ lw_all := lw_g (lw_at lw_m4 142 rfl) rfl
theorem q969 : (Jvm.Cond.methodLink "AcornYears" (426 : Nat) ({ cls := "AcornYears", name := "phases", desc := "()I" } : Jvm.MethodName)) ∈ lw_all := lw_g (lw_at lw_m4 143 rfl) rfl
theorem q970 : (Jvm.Cond.privateMethod ({ cls := "AcornYears", name := "phases", desc := "()I" } : Jvm.MethodName)) ∈ lw_tbl := lw_at lw_m4 144 rfl
theorem q971 : (Jvm.Cond.instanceMethod ({ cls := "AcornYears", name := "phases", desc := "()I" } : Jvm.MethodName)) ∈ lw_all := lw_g (lw_at lw_m4 145 rfl) rfl
theorem q972 : (Jvm.Cond.code ({ cls := "AcornYears", name := "phases", desc := "()I" } : Jvm.MethodName) prog_1_method_66_code (9 : Nat) (Option.some Jvm.ClassFile.FieldType.int)) ∈ lw_all := lw_g (lw_at lw_m4 146 rfl) rfl
theorem q973 : (Jvm.Cond.methodLink "AcornYears" (416 : Nat) ({ cls := "AcornYears$Sort", name := "is", desc := "(I)Z" } : Jvm.MethodName)) ∈ lw_all := lw_g (lw_at lw_m4 147 rfl) rfl
theorem q997 : (Jvm.Cond.methodLink "AcornYears" (419 : Nat) ({ cls := "AcornYears$Sort", name := "tells", desc := "()I" } : Jvm.MethodName)) ∈ lw_all := lw_g (lw_at lw_m4 171 rfl) rfl
theorem q1013 : (Jvm.Cond.methodLink "AcornYears" (429 : Nat) ({ cls := "AcornYears$Wood", name := "comesTo", desc := "(LAcornYears$Wood;)V" } : Jvm.MethodName)) ∈ lw_all := lw_g (lw_at lw_m4 187 rfl) rfl
theorem q1018 : (Jvm.Cond.methodLink "AcornYears" (432 : Nat) ({ cls := "AcornYears", name := "note", desc := "(II)V" } : Jvm.MethodName)) ∈ lw_all := lw_g (lw_at lw_m4 192 rfl) rfl
theorem q1019 : (Jvm.Cond.privateMethod ({ cls := "AcornYears", name := "note", desc := "(II)V" } : Jvm.MethodName)) ∈ lw_tbl := lw_at lw_m4 193 rfl
theorem q1020 : (Jvm.Cond.instanceMethod ({ cls := "AcornYears", name := "note", desc := "(II)V" } : Jvm.MethodName)) ∈ lw_all := lw_g (lw_at lw_m4 194 rfl) rfl
theorem q1021 : (Jvm.Cond.code ({ cls := "AcornYears", name := "note", desc := "(II)V" } : Jvm.MethodName) prog_1_method_67_code (5 : Nat) (Option.none : Option Jvm.ClassFile.FieldType)) ∈ lw_all := lw_g (lw_at lw_m4 195 rfl) rfl
theorem q1022 : (Jvm.Cond.methodLink "AcornYears" (436 : Nat) ({ cls := "AcornYears", name := "earlier", desc := "(I)I" } : Jvm.MethodName)) ∈ lw_all := lw_g (lw_at lw_m4 196 rfl) rfl
theorem q1023 : (Jvm.Cond.privateMethod ({ cls := "AcornYears", name := "earlier", desc := "(I)I" } : Jvm.MethodName)) ∈ lw_tbl := lw_at lw_m4 197 rfl
theorem q1024 : (Jvm.Cond.instanceMethod ({ cls := "AcornYears", name := "earlier", desc := "(I)I" } : Jvm.MethodName)) ∈ lw_all := lw_g (lw_at lw_m4 198 rfl) rfl
theorem q1025 : (Jvm.Cond.code ({ cls := "AcornYears", name := "earlier", desc := "(I)I" } : Jvm.MethodName) prog_1_method_70_code (3 : Nat) (Option.some Jvm.ClassFile.FieldType.int)) ∈ lw_all := lw_g (lw_at lw_m4 199 rfl) rfl
theorem q1026 : (Jvm.Cond.methodLink "AcornYears" (420 : Nat) ({ cls := "AcornYears", name := "placeOf", desc := "(I)I" } : Jvm.MethodName)) ∈ lw_all := lw_g (lw_at lw_m4 200 rfl) rfl
theorem q1027 : (Jvm.Cond.privateMethod ({ cls := "AcornYears", name := "placeOf", desc := "(I)I" } : Jvm.MethodName)) ∈ lw_tbl := lw_at lw_m4 201 rfl
theorem q1028 : (Jvm.Cond.instanceMethod ({ cls := "AcornYears", name := "placeOf", desc := "(I)I" } : Jvm.MethodName)) ∈ lw_all := lw_g (lw_at lw_m4 202 rfl) rfl
theorem q1029 : (Jvm.Cond.code ({ cls := "AcornYears", name := "placeOf", desc := "(I)I" } : Jvm.MethodName) prog_1_method_69_code (4 : Nat) (Option.some Jvm.ClassFile.FieldType.int)) ∈ lw_all := lw_g (lw_at lw_m4 203 rfl) rfl
theorem q1030 : (Jvm.Cond.methodLink "AcornYears" (423 : Nat) ({ cls := "AcornYears", name := "areAlike", desc := "(II)Z" } : Jvm.MethodName)) ∈ lw_all := lw_g (lw_at lw_m4 204 rfl) rfl
theorem q1031 : (Jvm.Cond.privateMethod ({ cls := "AcornYears", name := "areAlike", desc := "(II)Z" } : Jvm.MethodName)) ∈ lw_tbl := lw_at lw_m4 205 rfl
theorem q1032 : (Jvm.Cond.instanceMethod ({ cls := "AcornYears", name := "areAlike", desc := "(II)Z" } : Jvm.MethodName)) ∈ lw_all := lw_g (lw_at lw_m4 206 rfl) rfl
theorem q1033 : (Jvm.Cond.code ({ cls := "AcornYears", name := "areAlike", desc := "(II)Z" } : Jvm.MethodName) prog_1_method_68_code (4 : Nat) (Option.some Jvm.ClassFile.FieldType.boolean)) ∈ lw_all := lw_g (lw_at lw_m4 207 rfl) rfl
theorem q1034 : (Jvm.Cond.methodLink "AcornYears" (445 : Nat) ({ cls := "AcornYears", name := "passTrial", desc := "()V" } : Jvm.MethodName)) ∈ lw_all := lw_g (lw_at lw_m4 208 rfl) rfl
theorem q1035 : (Jvm.Cond.privateMethod ({ cls := "AcornYears", name := "passTrial", desc := "()V" } : Jvm.MethodName)) ∈ lw_tbl := lw_at lw_m4 209 rfl
theorem q1036 : (Jvm.Cond.instanceMethod ({ cls := "AcornYears", name := "passTrial", desc := "()V" } : Jvm.MethodName)) ∈ lw_all := lw_g (lw_at lw_m4 210 rfl) rfl
theorem q1037 : (Jvm.Cond.code ({ cls := "AcornYears", name := "passTrial", desc := "()V" } : Jvm.MethodName) prog_1_method_71_code (1 : Nat) (Option.none : Option Jvm.ClassFile.FieldType)) ∈ lw_all := lw_g (lw_at lw_m4 211 rfl) rfl
theorem q1039 : (Jvm.Cond.instanceMethod ({ cls := "AcornYears", name := "masts", desc := "()I" } : Jvm.MethodName)) ∈ lw_all := lw_g (lw_at lw_m4 213 rfl) rfl
theorem q1040 : (Jvm.Cond.selects "AcornYears" ({ cls := "AcornYears", name := "masts", desc := "()I" } : Jvm.MethodName) ({ cls := "AcornYears", name := "masts", desc := "()I" } : Jvm.MethodName)) ∈ lw_all := lw_g (lw_at lw_m4 214 rfl) rfl
theorem q1041 : (Jvm.Cond.code ({ cls := "AcornYears", name := "masts", desc := "()I" } : Jvm.MethodName) prog_1_method_78_code (1 : Nat) (Option.some Jvm.ClassFile.FieldType.int)) ∈ lw_all := lw_g (lw_at lw_m4 215 rfl) rfl
theorem q1042 : (Jvm.Cond.methodLink "AcornYears" (477 : Nat) ({ cls := "AcornYears", name := "goRound", desc := "()Z" } : Jvm.MethodName)) ∈ lw_all := lw_g (lw_at lw_m4 216 rfl) rfl
theorem q1043 : (Jvm.Cond.privateMethod ({ cls := "AcornYears", name := "goRound", desc := "()Z" } : Jvm.MethodName)) ∈ lw_tbl := lw_at lw_m4 217 rfl
theorem q1044 : (Jvm.Cond.instanceMethod ({ cls := "AcornYears", name := "goRound", desc := "()Z" } : Jvm.MethodName)) ∈ lw_all := lw_g (lw_at lw_m4 218 rfl) rfl
theorem q1045 : (Jvm.Cond.code ({ cls := "AcornYears", name := "goRound", desc := "()Z" } : Jvm.MethodName) prog_1_method_75_code (2 : Nat) (Option.some Jvm.ClassFile.FieldType.boolean)) ∈ lw_all := lw_g (lw_at lw_m4 219 rfl) rfl
theorem q1046 : (Jvm.Cond.methodLink "AcornYears" (471 : Nat) ({ cls := "AcornYears", name := "wipeRing", desc := "()V" } : Jvm.MethodName)) ∈ lw_all := lw_g (lw_at lw_m4 220 rfl) rfl
theorem q1047 : (Jvm.Cond.privateMethod ({ cls := "AcornYears", name := "wipeRing", desc := "()V" } : Jvm.MethodName)) ∈ lw_tbl := lw_at lw_m4 221 rfl
theorem q1048 : (Jvm.Cond.instanceMethod ({ cls := "AcornYears", name := "wipeRing", desc := "()V" } : Jvm.MethodName)) ∈ lw_all := lw_g (lw_at lw_m4 222 rfl) rfl
theorem q1049 : (Jvm.Cond.code ({ cls := "AcornYears", name := "wipeRing", desc := "()V" } : Jvm.MethodName) prog_1_method_73_code (2 : Nat) (Option.none : Option Jvm.ClassFile.FieldType)) ∈ lw_all := lw_g (lw_at lw_m4 223 rfl) rfl
theorem q1050 : (Jvm.Cond.methodLink "AcornYears" (474 : Nat) ({ cls := "AcornYears", name := "countYear", desc := "(I)V" } : Jvm.MethodName)) ∈ lw_all := lw_g (lw_at lw_m4 224 rfl) rfl
theorem q1051 : (Jvm.Cond.privateMethod ({ cls := "AcornYears", name := "countYear", desc := "(I)V" } : Jvm.MethodName)) ∈ lw_tbl := lw_at lw_m4 225 rfl
theorem q1052 : (Jvm.Cond.instanceMethod ({ cls := "AcornYears", name := "countYear", desc := "(I)V" } : Jvm.MethodName)) ∈ lw_all := lw_g (lw_at lw_m4 226 rfl) rfl
theorem q1053 : (Jvm.Cond.code ({ cls := "AcornYears", name := "countYear", desc := "(I)V" } : Jvm.MethodName) prog_1_method_74_code (4 : Nat) (Option.none : Option Jvm.ClassFile.FieldType)) ∈ lw_all := lw_g (lw_at lw_m4 227 rfl) rfl
theorem q1054 : (Jvm.Cond.methodLink "AcornYears" (465 : Nat) ({ cls := "java/lang/Math", name := "max", desc := "(II)I" } : Jvm.MethodName)) ∈ lw_all := lw_g (lw_at lw_m4 228 rfl) rfl
theorem q1058 : (Jvm.Cond.instanceMethod ({ cls := "AcornYears", name := "together", desc := "()I" } : Jvm.MethodName)) ∈ lw_all := lw_g (lw_at lw_m4 232 rfl) rfl
theorem q1059 : (Jvm.Cond.selects "AcornYears" ({ cls := "AcornYears", name := "together", desc := "()I" } : Jvm.MethodName) ({ cls := "AcornYears", name := "together", desc := "()I" } : Jvm.MethodName)) ∈ lw_all := lw_g (lw_at lw_m4 233 rfl) rfl
theorem q1060 : (Jvm.Cond.code ({ cls := "AcornYears", name := "together", desc := "()I" } : Jvm.MethodName) prog_1_method_79_code (1 : Nat) (Option.some Jvm.ClassFile.FieldType.int)) ∈ lw_all := lw_g (lw_at lw_m4 234 rfl) rfl
theorem q1061 : (Jvm.Cond.methodLink "AcornYears" (480 : Nat) ({ cls := "AcornYears", name := "allPairs", desc := "()J" } : Jvm.MethodName)) ∈ lw_all := lw_g (lw_at lw_m4 235 rfl) rfl
theorem q1062 : (Jvm.Cond.privateMethod ({ cls := "AcornYears", name := "allPairs", desc := "()J" } : Jvm.MethodName)) ∈ lw_tbl := lw_at lw_m4 236 rfl
theorem q1063 : (Jvm.Cond.instanceMethod ({ cls := "AcornYears", name := "allPairs", desc := "()J" } : Jvm.MethodName)) ∈ lw_all := lw_g (lw_at lw_m4 237 rfl) rfl
theorem q1064 : (Jvm.Cond.code ({ cls := "AcornYears", name := "allPairs", desc := "()J" } : Jvm.MethodName) prog_1_method_76_code (1 : Nat) (Option.some Jvm.ClassFile.FieldType.long)) ∈ lw_all := lw_g (lw_at lw_m4 238 rfl) rfl
theorem q1065 : (Jvm.Cond.methodLink "AcornYears" (484 : Nat) ({ cls := "AcornYears", name := "tell", desc := "(JJI)I" } : Jvm.MethodName)) ∈ lw_all := lw_g (lw_at lw_m4 239 rfl) rfl
theorem q1066 : (Jvm.Cond.privateMethod ({ cls := "AcornYears", name := "tell", desc := "(JJI)I" } : Jvm.MethodName)) ∈ lw_tbl := lw_at lw_m5 0 rfl
theorem q1067 : (Jvm.Cond.instanceMethod ({ cls := "AcornYears", name := "tell", desc := "(JJI)I" } : Jvm.MethodName)) ∈ lw_all := lw_g (lw_at lw_m5 1 rfl) rfl
theorem q1068 : (Jvm.Cond.code ({ cls := "AcornYears", name := "tell", desc := "(JJI)I" } : Jvm.MethodName) prog_1_method_5_code (12 : Nat) (Option.some Jvm.ClassFile.FieldType.int)) ∈ lw_all := lw_g (lw_at lw_m5 2 rfl) rfl
theorem q1070 : (Jvm.Cond.instanceMethod ({ cls := "AcornYears", name := "need", desc := "()I" } : Jvm.MethodName)) ∈ lw_all := lw_g (lw_at lw_m5 4 rfl) rfl
theorem q1071 : (Jvm.Cond.selects "AcornYears" ({ cls := "AcornYears", name := "need", desc := "()I" } : Jvm.MethodName) ({ cls := "AcornYears", name := "need", desc := "()I" } : Jvm.MethodName)) ∈ lw_all := lw_g (lw_at lw_m5 5 rfl) rfl
theorem q1072 : (Jvm.Cond.code ({ cls := "AcornYears", name := "need", desc := "()I" } : Jvm.MethodName) prog_1_method_80_code (6 : Nat) (Option.some Jvm.ClassFile.FieldType.int)) ∈ lw_all := lw_g (lw_at lw_m5 6 rfl) rfl
theorem q1074 : (Jvm.Cond.instanceMethod ({ cls := "AcornYears", name := "lost", desc := "()I" } : Jvm.MethodName)) ∈ lw_all := lw_g (lw_at lw_m5 8 rfl) rfl
theorem q1075 : (Jvm.Cond.selects "AcornYears" ({ cls := "AcornYears", name := "lost", desc := "()I" } : Jvm.MethodName) ({ cls := "AcornYears", name := "lost", desc := "()I" } : Jvm.MethodName)) ∈ lw_all := lw_g (lw_at lw_m5 9 rfl) rfl
theorem q1076 : (Jvm.Cond.code ({ cls := "AcornYears", name := "lost", desc := "()I" } : Jvm.MethodName) prog_1_method_81_code (9 : Nat) (Option.some Jvm.ClassFile.FieldType.int)) ∈ lw_all := lw_g (lw_at lw_m5 10 rfl) rfl
theorem q1078 : (Jvm.Cond.instanceMethod ({ cls := "AcornYears", name := "share", desc := "(I)I" } : Jvm.MethodName)) ∈ lw_all := lw_g (lw_at lw_m5 12 rfl) rfl
theorem q1079 : (Jvm.Cond.selects "AcornYears" ({ cls := "AcornYears", name := "share", desc := "(I)I" } : Jvm.MethodName) ({ cls := "AcornYears", name := "share", desc := "(I)I" } : Jvm.MethodName)) ∈ lw_all := lw_g (lw_at lw_m5 13 rfl) rfl
theorem q1080 : (Jvm.Cond.code ({ cls := "AcornYears", name := "share", desc := "(I)I" } : Jvm.MethodName) prog_1_method_82_code (2 : Nat) (Option.some Jvm.ClassFile.FieldType.int)) ∈ lw_all := lw_g (lw_at lw_m5 14 rfl) rfl
theorem q1082 : (Jvm.Cond.instanceMethod ({ cls := "AcornYears", name := "seedlings", desc := "()I" } : Jvm.MethodName)) ∈ lw_all := lw_g (lw_at lw_m5 16 rfl) rfl
theorem q1083 : (Jvm.Cond.selects "AcornYears" ({ cls := "AcornYears", name := "seedlings", desc := "()I" } : Jvm.MethodName) ({ cls := "AcornYears", name := "seedlings", desc := "()I" } : Jvm.MethodName)) ∈ lw_all := lw_g (lw_at lw_m5 17 rfl) rfl
theorem q1084 : (Jvm.Cond.code ({ cls := "AcornYears", name := "seedlings", desc := "()I" } : Jvm.MethodName) prog_1_method_83_code (1 : Nat) (Option.some Jvm.ClassFile.FieldType.int)) ∈ lw_all := lw_g (lw_at lw_m5 18 rfl) rfl
theorem q1086 : (Jvm.Cond.instanceMethod ({ cls := "AcornYears", name := "gain", desc := "(I)I" } : Jvm.MethodName)) ∈ lw_all := lw_g (lw_at lw_m5 20 rfl) rfl
theorem q1087 : (Jvm.Cond.selects "AcornYears" ({ cls := "AcornYears", name := "gain", desc := "(I)I" } : Jvm.MethodName) ({ cls := "AcornYears", name := "gain", desc := "(I)I" } : Jvm.MethodName)) ∈ lw_all := lw_g (lw_at lw_m5 21 rfl) rfl
theorem q1088 : (Jvm.Cond.code ({ cls := "AcornYears", name := "gain", desc := "(I)I" } : Jvm.MethodName) prog_1_method_84_code (2 : Nat) (Option.some Jvm.ClassFile.FieldType.int)) ∈ lw_all := lw_g (lw_at lw_m5 22 rfl) rfl
theorem q1090 : (Jvm.Cond.instanceMethod ({ cls := "AcornYears", name := "starve", desc := "(I)I" } : Jvm.MethodName)) ∈ lw_all := lw_g (lw_at lw_m5 24 rfl) rfl
theorem q1091 : (Jvm.Cond.selects "AcornYears" ({ cls := "AcornYears", name := "starve", desc := "(I)I" } : Jvm.MethodName) ({ cls := "AcornYears", name := "starve", desc := "(I)I" } : Jvm.MethodName)) ∈ lw_all := lw_g (lw_at lw_m5 25 rfl) rfl
theorem q1092 : (Jvm.Cond.code ({ cls := "AcornYears", name := "starve", desc := "(I)I" } : Jvm.MethodName) prog_1_method_85_code (2 : Nat) (Option.some Jvm.ClassFile.FieldType.int)) ∈ lw_all := lw_g (lw_at lw_m5 26 rfl) rfl
theorem q1094 : (Jvm.Cond.instanceMethod ({ cls := "AcornYears", name := "better", desc := "(II)I" } : Jvm.MethodName)) ∈ lw_all := lw_g (lw_at lw_m5 28 rfl) rfl
theorem q1095 : (Jvm.Cond.selects "AcornYears" ({ cls := "AcornYears", name := "better", desc := "(II)I" } : Jvm.MethodName) ({ cls := "AcornYears", name := "better", desc := "(II)I" } : Jvm.MethodName)) ∈ lw_all := lw_g (lw_at lw_m5 29 rfl) rfl
theorem q1096 : (Jvm.Cond.code ({ cls := "AcornYears", name := "better", desc := "(II)I" } : Jvm.MethodName) prog_1_method_87_code (9 : Nat) (Option.some Jvm.ClassFile.FieldType.int)) ∈ lw_all := lw_g (lw_at lw_m5 30 rfl) rfl
theorem q1097 : (Jvm.Cond.methodLink "AcornYears" (488 : Nat) ({ cls := "AcornYears", name := "goRoundAs", desc := "(II)Z" } : Jvm.MethodName)) ∈ lw_all := lw_g (lw_at lw_m5 31 rfl) rfl
theorem q1098 : (Jvm.Cond.privateMethod ({ cls := "AcornYears", name := "goRoundAs", desc := "(II)Z" } : Jvm.MethodName)) ∈ lw_tbl := lw_at lw_m5 32 rfl
theorem q1099 : (Jvm.Cond.instanceMethod ({ cls := "AcornYears", name := "goRoundAs", desc := "(II)Z" } : Jvm.MethodName)) ∈ lw_all := lw_g (lw_at lw_m5 33 rfl) rfl
theorem q1100 : (Jvm.Cond.code ({ cls := "AcornYears", name := "goRoundAs", desc := "(II)Z" } : Jvm.MethodName) prog_1_method_86_code (5 : Nat) (Option.some Jvm.ClassFile.FieldType.boolean)) ∈ lw_all := lw_g (lw_at lw_m5 34 rfl) rfl
theorem q1102 : (Jvm.Cond.instanceMethod ({ cls := "AcornYears", name := "hold", desc := "()I" } : Jvm.MethodName)) ∈ lw_all := lw_g (lw_at lw_m5 36 rfl) rfl
theorem q1103 : (Jvm.Cond.selects "AcornYears" ({ cls := "AcornYears", name := "hold", desc := "()I" } : Jvm.MethodName) ({ cls := "AcornYears", name := "hold", desc := "()I" } : Jvm.MethodName)) ∈ lw_all := lw_g (lw_at lw_m5 37 rfl) rfl
theorem q1104 : (Jvm.Cond.code ({ cls := "AcornYears", name := "hold", desc := "()I" } : Jvm.MethodName) prog_1_method_88_code (6 : Nat) (Option.some Jvm.ClassFile.FieldType.int)) ∈ lw_all := lw_g (lw_at lw_m5 38 rfl) rfl
theorem q1106 : (Jvm.Cond.instanceMethod ({ cls := "AcornYears", name := "step", desc := "(II)I" } : Jvm.MethodName)) ∈ lw_all := lw_g (lw_at lw_m5 40 rfl) rfl
theorem q1107 : (Jvm.Cond.selects "AcornYears" ({ cls := "AcornYears", name := "step", desc := "(II)I" } : Jvm.MethodName) ({ cls := "AcornYears", name := "step", desc := "(II)I" } : Jvm.MethodName)) ∈ lw_all := lw_g (lw_at lw_m5 41 rfl) rfl
theorem q1108 : (Jvm.Cond.code ({ cls := "AcornYears", name := "step", desc := "(II)I" } : Jvm.MethodName) prog_1_method_89_code (7 : Nat) (Option.some Jvm.ClassFile.FieldType.int)) ∈ lw_all := lw_g (lw_at lw_m5 42 rfl) rfl
theorem q1110 : (Jvm.Cond.instanceMethod ({ cls := "AcornYears", name := "hope", desc := "(I)I" } : Jvm.MethodName)) ∈ lw_all := lw_g (lw_at lw_m5 44 rfl) rfl
theorem q1111 : (Jvm.Cond.selects "AcornYears" ({ cls := "AcornYears", name := "hope", desc := "(I)I" } : Jvm.MethodName) ({ cls := "AcornYears", name := "hope", desc := "(I)I" } : Jvm.MethodName)) ∈ lw_all := lw_g (lw_at lw_m5 45 rfl) rfl
theorem q1112 : (Jvm.Cond.code ({ cls := "AcornYears", name := "hope", desc := "(I)I" } : Jvm.MethodName) prog_1_method_90_code (14 : Nat) (Option.some Jvm.ClassFile.FieldType.int)) ∈ lw_all := lw_g (lw_at lw_m5 46 rfl) rfl
theorem q1113 : (Jvm.Cond.constantLong "AcornYears" (491 : Nat) (12 : Int64)) ∈ lw_all := lw_g (lw_at lw_m5 47 rfl) rfl
theorem q1115 : (Jvm.Cond.instanceMethod ({ cls := "AcornYears", name := "period", desc := "(I)I" } : Jvm.MethodName)) ∈ lw_all := lw_g (lw_at lw_m5 49 rfl) rfl
theorem q1116 : (Jvm.Cond.selects "AcornYears" ({ cls := "AcornYears", name := "period", desc := "(I)I" } : Jvm.MethodName) ({ cls := "AcornYears", name := "period", desc := "(I)I" } : Jvm.MethodName)) ∈ lw_all := lw_g (lw_at lw_m5 50 rfl) rfl
theorem q1117 : (Jvm.Cond.code ({ cls := "AcornYears", name := "period", desc := "(I)I" } : Jvm.MethodName) prog_1_method_92_code (7 : Nat) (Option.some Jvm.ClassFile.FieldType.int)) ∈ lw_all := lw_g (lw_at lw_m5 51 rfl) rfl
theorem q1118 : (Jvm.Cond.methodLink "AcornYears" (493 : Nat) ({ cls := "AcornYears", name := "askedLayers", desc := "(II)I" } : Jvm.MethodName)) ∈ lw_all := lw_g (lw_at lw_m5 52 rfl) rfl
theorem q1119 : (Jvm.Cond.privateMethod ({ cls := "AcornYears", name := "askedLayers", desc := "(II)I" } : Jvm.MethodName)) ∈ lw_tbl := lw_at lw_m5 53 rfl
theorem q1120 : (Jvm.Cond.instanceMethod ({ cls := "AcornYears", name := "askedLayers", desc := "(II)I" } : Jvm.MethodName)) ∈ lw_all := lw_g (lw_at lw_m5 54 rfl) rfl
theorem q1121 : (Jvm.Cond.code ({ cls := "AcornYears", name := "askedLayers", desc := "(II)I" } : Jvm.MethodName) prog_1_method_91_code (7 : Nat) (Option.some Jvm.ClassFile.FieldType.int)) ∈ lw_all := lw_g (lw_at lw_m5 55 rfl) rfl
theorem q1123 : (Jvm.Cond.instanceMethod ({ cls := "AcornYears", name := "guess", desc := "(I)I" } : Jvm.MethodName)) ∈ lw_all := lw_g (lw_at lw_m5 57 rfl) rfl
theorem q1124 : (Jvm.Cond.selects "AcornYears" ({ cls := "AcornYears", name := "guess", desc := "(I)I" } : Jvm.MethodName) ({ cls := "AcornYears", name := "guess", desc := "(I)I" } : Jvm.MethodName)) ∈ lw_all := lw_g (lw_at lw_m5 58 rfl) rfl
theorem q1125 : (Jvm.Cond.code ({ cls := "AcornYears", name := "guess", desc := "(I)I" } : Jvm.MethodName) prog_1_method_94_code (8 : Nat) (Option.some Jvm.ClassFile.FieldType.int)) ∈ lw_all := lw_g (lw_at lw_m5 59 rfl) rfl
theorem q1126 : (Jvm.Cond.methodLink "AcornYears" (496 : Nat) ({ cls := "AcornYears", name := "fits", desc := "([IIII)Z" } : Jvm.MethodName)) ∈ lw_all := lw_g (lw_at lw_m5 60 rfl) rfl
theorem q1127 : (Jvm.Cond.static ({ cls := "AcornYears", name := "fits", desc := "([IIII)Z" } : Jvm.MethodName)) ∈ lw_all := lw_g (lw_at lw_m5 61 rfl) rfl
theorem q1128 : (Jvm.Cond.code ({ cls := "AcornYears", name := "fits", desc := "([IIII)Z" } : Jvm.MethodName) prog_1_method_93_code (9 : Nat) (Option.some Jvm.ClassFile.FieldType.boolean)) ∈ lw_all := lw_g (lw_at lw_m5 62 rfl) rfl
theorem q1130 : (Jvm.Cond.instanceMethod ({ cls := "AcornYears", name := "plan", desc := "(II)I" } : Jvm.MethodName)) ∈ lw_all := lw_g (lw_at lw_m5 64 rfl) rfl
theorem q1131 : (Jvm.Cond.selects "AcornYears" ({ cls := "AcornYears", name := "plan", desc := "(II)I" } : Jvm.MethodName) ({ cls := "AcornYears", name := "plan", desc := "(II)I" } : Jvm.MethodName)) ∈ lw_all := lw_g (lw_at lw_m5 65 rfl) rfl
theorem q1132 : (Jvm.Cond.code ({ cls := "AcornYears", name := "plan", desc := "(II)I" } : Jvm.MethodName) prog_1_method_95_code (9 : Nat) (Option.some Jvm.ClassFile.FieldType.int)) ∈ lw_all := lw_g (lw_at lw_m5 66 rfl) rfl
theorem q1134 : (Jvm.Cond.instanceMethod ({ cls := "AcornYears", name := "asked", desc := "()I" } : Jvm.MethodName)) ∈ lw_all := lw_g (lw_at lw_m5 68 rfl) rfl
theorem q1135 : (Jvm.Cond.selects "AcornYears" ({ cls := "AcornYears", name := "asked", desc := "()I" } : Jvm.MethodName) ({ cls := "AcornYears", name := "asked", desc := "()I" } : Jvm.MethodName)) ∈ lw_all := lw_g (lw_at lw_m5 69 rfl) rfl
theorem q1136 : (Jvm.Cond.code ({ cls := "AcornYears", name := "asked", desc := "()I" } : Jvm.MethodName) prog_1_method_96_code (1 : Nat) (Option.some Jvm.ClassFile.FieldType.int)) ∈ lw_all := lw_g (lw_at lw_m5 70 rfl) rfl
theorem q1138 : (Jvm.Cond.instanceMethod ({ cls := "AcornYears", name := "upper", desc := "()J" } : Jvm.MethodName)) ∈ lw_all := lw_g (lw_at lw_m5 72 rfl) rfl
theorem q1139 : (Jvm.Cond.selects "AcornYears" ({ cls := "AcornYears", name := "upper", desc := "()J" } : Jvm.MethodName) ({ cls := "AcornYears", name := "upper", desc := "()J" } : Jvm.MethodName)) ∈ lw_all := lw_g (lw_at lw_m5 73 rfl) rfl
theorem q1140 : (Jvm.Cond.code ({ cls := "AcornYears", name := "upper", desc := "()J" } : Jvm.MethodName) prog_1_method_97_code (1 : Nat) (Option.some Jvm.ClassFile.FieldType.long)) ∈ lw_all := lw_g (lw_at lw_m5 74 rfl) rfl
theorem q1142 : (Jvm.Cond.instanceMethod ({ cls := "AcornYears", name := "lower", desc := "()J" } : Jvm.MethodName)) ∈ lw_all := lw_g (lw_at lw_m5 76 rfl) rfl
theorem q1143 : (Jvm.Cond.selects "AcornYears" ({ cls := "AcornYears", name := "lower", desc := "()J" } : Jvm.MethodName) ({ cls := "AcornYears", name := "lower", desc := "()J" } : Jvm.MethodName)) ∈ lw_all := lw_g (lw_at lw_m5 77 rfl) rfl
theorem q1144 : (Jvm.Cond.code ({ cls := "AcornYears", name := "lower", desc := "()J" } : Jvm.MethodName) prog_1_method_98_code (1 : Nat) (Option.some Jvm.ClassFile.FieldType.long)) ∈ lw_all := lw_g (lw_at lw_m5 78 rfl) rfl
theorem q1146 : (Jvm.Cond.instanceMethod ({ cls := "AcornYears", name := "count", desc := "(I)I" } : Jvm.MethodName)) ∈ lw_all := lw_g (lw_at lw_m5 80 rfl) rfl
theorem q1147 : (Jvm.Cond.selects "AcornYears" ({ cls := "AcornYears", name := "count", desc := "(I)I" } : Jvm.MethodName) ({ cls := "AcornYears", name := "count", desc := "(I)I" } : Jvm.MethodName)) ∈ lw_all := lw_g (lw_at lw_m5 81 rfl) rfl
theorem q1148 : (Jvm.Cond.code ({ cls := "AcornYears", name := "count", desc := "(I)I" } : Jvm.MethodName) prog_1_method_103_code (2 : Nat) (Option.some Jvm.ClassFile.FieldType.int)) ∈ lw_all := lw_g (lw_at lw_m5 82 rfl) rfl
theorem q1149 : (Jvm.Cond.methodLink "AcornYears" (509 : Nat) ({ cls := "AcornYears", name := "countsOf", desc := "(I)I" } : Jvm.MethodName)) ∈ lw_all := lw_g (lw_at lw_m5 83 rfl) rfl
theorem q1150 : (Jvm.Cond.privateMethod ({ cls := "AcornYears", name := "countsOf", desc := "(I)I" } : Jvm.MethodName)) ∈ lw_tbl := lw_at lw_m5 84 rfl
theorem q1151 : (Jvm.Cond.instanceMethod ({ cls := "AcornYears", name := "countsOf", desc := "(I)I" } : Jvm.MethodName)) ∈ lw_all := lw_g (lw_at lw_m5 85 rfl) rfl
theorem q1152 : (Jvm.Cond.code ({ cls := "AcornYears", name := "countsOf", desc := "(I)I" } : Jvm.MethodName) prog_1_method_102_code (2 : Nat) (Option.some Jvm.ClassFile.FieldType.int)) ∈ lw_all := lw_g (lw_at lw_m5 86 rfl) rfl
theorem q1153 : (Jvm.Cond.methodLink "AcornYears" (500 : Nat) ({ cls := "AcornYears", name := "rowCount", desc := "()I" } : Jvm.MethodName)) ∈ lw_all := lw_g (lw_at lw_m5 87 rfl) rfl
theorem q1154 : (Jvm.Cond.privateMethod ({ cls := "AcornYears", name := "rowCount", desc := "()I" } : Jvm.MethodName)) ∈ lw_tbl := lw_at lw_m5 88 rfl
theorem q1155 : (Jvm.Cond.instanceMethod ({ cls := "AcornYears", name := "rowCount", desc := "()I" } : Jvm.MethodName)) ∈ lw_all := lw_g (lw_at lw_m5 89 rfl) rfl
theorem q1156 : (Jvm.Cond.code ({ cls := "AcornYears", name := "rowCount", desc := "()I" } : Jvm.MethodName) prog_1_method_99_code (6 : Nat) (Option.some Jvm.ClassFile.FieldType.int)) ∈ lw_all := lw_g (lw_at lw_m5 90 rfl) rfl
theorem q1157 : (Jvm.Cond.methodLink "AcornYears" (503 : Nat) ({ cls := "AcornYears", name := "textCount", desc := "()I" } : Jvm.MethodName)) ∈ lw_all := lw_g (lw_at lw_m5 91 rfl) rfl
theorem q1158 : (Jvm.Cond.privateMethod ({ cls := "AcornYears", name := "textCount", desc := "()I" } : Jvm.MethodName)) ∈ lw_tbl := lw_at lw_m5 92 rfl
theorem q1159 : (Jvm.Cond.instanceMethod ({ cls := "AcornYears", name := "textCount", desc := "()I" } : Jvm.MethodName)) ∈ lw_all := lw_g (lw_at lw_m5 93 rfl) rfl
theorem q1160 : (Jvm.Cond.code ({ cls := "AcornYears", name := "textCount", desc := "()I" } : Jvm.MethodName) prog_1_method_100_code (6 : Nat) (Option.some Jvm.ClassFile.FieldType.int)) ∈ lw_all := lw_g (lw_at lw_m5 94 rfl) rfl
theorem q1161 : (Jvm.Cond.methodLink "AcornYears" (506 : Nat) ({ cls := "AcornYears", name := "treeCount", desc := "(I)I" } : Jvm.MethodName)) ∈ lw_all := lw_g (lw_at lw_m5 95 rfl) rfl
theorem q1162 : (Jvm.Cond.privateMethod ({ cls := "AcornYears", name := "treeCount", desc := "(I)I" } : Jvm.MethodName)) ∈ lw_tbl := lw_at lw_m5 96 rfl
theorem q1163 : (Jvm.Cond.instanceMethod ({ cls := "AcornYears", name := "treeCount", desc := "(I)I" } : Jvm.MethodName)) ∈ lw_all := lw_g (lw_at lw_m5 97 rfl) rfl
theorem q1164 : (Jvm.Cond.code ({ cls := "AcornYears", name := "treeCount", desc := "(I)I" } : Jvm.MethodName) prog_1_method_101_code (4 : Nat) (Option.some Jvm.ClassFile.FieldType.int)) ∈ lw_all := lw_g (lw_at lw_m5 98 rfl) rfl
theorem q1166 : (Jvm.Cond.instanceMethod ({ cls := "AcornYears", name := "finding", desc := "()I" } : Jvm.MethodName)) ∈ lw_all := lw_g (lw_at lw_m5 100 rfl) rfl
theorem q1167 : (Jvm.Cond.selects "AcornYears" ({ cls := "AcornYears", name := "finding", desc := "()I" } : Jvm.MethodName) ({ cls := "AcornYears", name := "finding", desc := "()I" } : Jvm.MethodName)) ∈ lw_all := lw_g (lw_at lw_m5 101 rfl) rfl
theorem q1168 : (Jvm.Cond.code ({ cls := "AcornYears", name := "finding", desc := "()I" } : Jvm.MethodName) prog_1_method_104_code (1 : Nat) (Option.some Jvm.ClassFile.FieldType.int)) ∈ lw_all := lw_g (lw_at lw_m5 102 rfl) rfl
theorem q1170 : (Jvm.Cond.instanceMethod ({ cls := "AcornYears", name := "findings", desc := "(I)I" } : Jvm.MethodName)) ∈ lw_all := lw_g (lw_at lw_m5 104 rfl) rfl
theorem q1171 : (Jvm.Cond.selects "AcornYears" ({ cls := "AcornYears", name := "findings", desc := "(I)I" } : Jvm.MethodName) ({ cls := "AcornYears", name := "findings", desc := "(I)I" } : Jvm.MethodName)) ∈ lw_all := lw_g (lw_at lw_m5 105 rfl) rfl
theorem q1172 : (Jvm.Cond.code ({ cls := "AcornYears", name := "findings", desc := "(I)I" } : Jvm.MethodName) prog_1_method_105_code (2 : Nat) (Option.some Jvm.ClassFile.FieldType.int)) ∈ lw_all := lw_g (lw_at lw_m5 106 rfl) rfl
theorem q1174 : (Jvm.Cond.instanceMethod ({ cls := "AcornYears", name := "digest", desc := "()J" } : Jvm.MethodName)) ∈ lw_all := lw_g (lw_at lw_m5 108 rfl) rfl
theorem q1175 : (Jvm.Cond.selects "AcornYears" ({ cls := "AcornYears", name := "digest", desc := "()J" } : Jvm.MethodName) ({ cls := "AcornYears", name := "digest", desc := "()J" } : Jvm.MethodName)) ∈ lw_all := lw_g (lw_at lw_m5 109 rfl) rfl
theorem q1176 : (Jvm.Cond.code ({ cls := "AcornYears", name := "digest", desc := "()J" } : Jvm.MethodName) prog_1_method_108_code (7 : Nat) (Option.some Jvm.ClassFile.FieldType.long)) ∈ lw_all := lw_g (lw_at lw_m5 110 rfl) rfl
theorem q1177 : (Jvm.Cond.constantLong "AcornYears" (520 : Nat) (17 : Int64)) ∈ lw_all := lw_g (lw_at lw_m5 111 rfl) rfl
theorem q1178 : (Jvm.Cond.methodLink "AcornYears" (517 : Nat) ({ cls := "AcornYears", name := "mix", desc := "(I)V" } : Jvm.MethodName)) ∈ lw_all := lw_g (lw_at lw_m5 112 rfl) rfl
theorem q1179 : (Jvm.Cond.privateMethod ({ cls := "AcornYears", name := "mix", desc := "(I)V" } : Jvm.MethodName)) ∈ lw_tbl := lw_at lw_m5 113 rfl
theorem q1180 : (Jvm.Cond.instanceMethod ({ cls := "AcornYears", name := "mix", desc := "(I)V" } : Jvm.MethodName)) ∈ lw_all := lw_g (lw_at lw_m5 114 rfl) rfl
theorem q1181 : (Jvm.Cond.code ({ cls := "AcornYears", name := "mix", desc := "(I)V" } : Jvm.MethodName) prog_1_method_106_code (2 : Nat) (Option.none : Option Jvm.ClassFile.FieldType)) ∈ lw_all := lw_g (lw_at lw_m5 115 rfl) rfl
theorem q1182 : (Jvm.Cond.constantLong "AcornYears" (512 : Nat) (31 : Int64)) ∈ lw_all := lw_g (lw_at lw_m5 116 rfl) rfl
theorem q1183 : (Jvm.Cond.methodLink "AcornYears" (522 : Nat) ({ cls := "AcornYears", name := "mixWood", desc := "()V" } : Jvm.MethodName)) ∈ lw_all := lw_g (lw_at lw_m5 117 rfl) rfl
theorem q1184 : (Jvm.Cond.privateMethod ({ cls := "AcornYears", name := "mixWood", desc := "()V" } : Jvm.MethodName)) ∈ lw_tbl := lw_at lw_m5 118 rfl
theorem q1185 : (Jvm.Cond.instanceMethod ({ cls := "AcornYears", name := "mixWood", desc := "()V" } : Jvm.MethodName)) ∈ lw_all := lw_g (lw_at lw_m5 119 rfl) rfl
theorem q1186 : (Jvm.Cond.code ({ cls := "AcornYears", name := "mixWood", desc := "()V" } : Jvm.MethodName) prog_1_method_107_code (5 : Nat) (Option.none : Option Jvm.ClassFile.FieldType)) ∈ lw_all := lw_g (lw_at lw_m5 120 rfl) rfl
theorem in_X0 : ∀ w ∈ wsX00, w ∈ lw_all := lw_in wsX00 [239, 241, 243, 245, 247, 249, 251, 253, 255, 257, 259, 261, 263, 265, 267, 269, 271, 273, 275, 277, 279, 281, 283, 285, 287, 289, 291, 293, 295, 297, 299, 301, 303, 305, 307, 309, 311, 313, 315, 317, 319, 321, 323, 325, 327, 329, 331, 333, 335, 337, 339, 341, 343, 345] (by decide +kernel) (by decide +kernel)
