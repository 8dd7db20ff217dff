set_option maxRecDepth 100000
/-! java/lang/Object -/
set_option maxRecDepth 100000
def RJ11 : String := "java/lang/Object"
abbrev cJ11_init : ByteArray := object_method_1_code
def yJ11_init : MethodName := ⟨RJ11, "<init>", "()V"⟩
theorem dJ11_init_0 : decode cJ11_init 0 = .ok (.return_, 1) := by decide +kernel
theorem q135 : (Jvm.Cond.instanceMethod ({ cls := "java/lang/Object", name := "<init>", desc := "()V" } : Jvm.MethodName)) ∈ lw_all := lw_g (lw_at lw_m1 29 rfl) rfl
theorem q136 : (Jvm.Cond.code ({ cls := "java/lang/Object", name := "<init>", desc := "()V" } : Jvm.MethodName) object_method_1_code (1 : Nat) (Option.none : Option Jvm.ClassFile.FieldType)) ∈ lw_all := lw_g (lw_at lw_m1 30 rfl) rfl
/-! java/lang/Math -/
set_option maxRecDepth 100000
def RJ9 : String := "java/lang/Math"
abbrev cJ9_min : ByteArray := prog_18_method_69_code
def yJ9_min : MethodName := ⟨RJ9, "min", "(II)I"⟩
def dkwJ9_min_0 : List UInt8 := [26, 27, 163, 0, 7, 26, 167, 0, 4, 27, 172]
abbrev dktJ9_min_0 : List UInt8 := dkwJ9_min_0 ++ []
theorem dksJ9_min_0 : cJ9_min.data.toList.drop 0 = dktJ9_min_0 := by decide +kernel
theorem dJ9_min_0 : decode cJ9_min 0 = .ok (.iload_n 0, 1) := dk_26 (dk_at dksJ9_min_0 0 rfl rfl)
theorem dJ9_min_1 : decode cJ9_min 1 = .ok (.iload_n 1, 1) := dk_27 (dk_at dksJ9_min_0 1 rfl rfl)
theorem dJ9_min_2 : decode cJ9_min 2 = .ok (.if_icmp .gt 7, 3) := dk_163 0 7 (dk_at dksJ9_min_0 2 rfl rfl)
theorem dJ9_min_5 : decode cJ9_min 5 = .ok (.iload_n 0, 1) := dk_26 (dk_at dksJ9_min_0 5 rfl rfl)
theorem dJ9_min_6 : decode cJ9_min 6 = .ok (.goto 4, 3) := dk_167 0 4 (dk_at dksJ9_min_0 6 rfl rfl)
theorem dJ9_min_9 : decode cJ9_min 9 = .ok (.iload_n 1, 1) := dk_27 (dk_at dksJ9_min_0 9 rfl rfl)
theorem dJ9_min_10 : decode cJ9_min 10 = .ok (.ireturn, 1) := dk_172 (dk_at dksJ9_min_0 10 rfl rfl)
abbrev cJ9_max : ByteArray := prog_18_method_65_code
def yJ9_max : MethodName := ⟨RJ9, "max", "(II)I"⟩
def dkwJ9_max_0 : List UInt8 := [26, 27, 161, 0, 7, 26, 167, 0, 4, 27, 172]
abbrev dktJ9_max_0 : List UInt8 := dkwJ9_max_0 ++ []
theorem dksJ9_max_0 : cJ9_max.data.toList.drop 0 = dktJ9_max_0 := by decide +kernel
theorem dJ9_max_0 : decode cJ9_max 0 = .ok (.iload_n 0, 1) := dk_26 (dk_at dksJ9_max_0 0 rfl rfl)
theorem dJ9_max_1 : decode cJ9_max 1 = .ok (.iload_n 1, 1) := dk_27 (dk_at dksJ9_max_0 1 rfl rfl)
theorem dJ9_max_2 : decode cJ9_max 2 = .ok (.if_icmp .lt 7, 3) := dk_161 0 7 (dk_at dksJ9_max_0 2 rfl rfl)
theorem dJ9_max_5 : decode cJ9_max 5 = .ok (.iload_n 0, 1) := dk_26 (dk_at dksJ9_max_0 5 rfl rfl)
theorem dJ9_max_6 : decode cJ9_max 6 = .ok (.goto 4, 3) := dk_167 0 4 (dk_at dksJ9_max_0 6 rfl rfl)
theorem dJ9_max_9 : decode cJ9_max 9 = .ok (.iload_n 1, 1) := dk_27 (dk_at dksJ9_max_0 9 rfl rfl)
theorem dJ9_max_10 : decode cJ9_max 10 = .ok (.ireturn, 1) := dk_172 (dk_at dksJ9_max_0 10 rfl rfl)
theorem q123 : (Jvm.Cond.initialized "java/lang/Math") ∈ lw_all := lw_g (lw_at lw_m1 17 rfl) rfl
theorem q639 : (Jvm.Cond.static ({ cls := "java/lang/Math", name := "min", desc := "(II)I" } : Jvm.MethodName)) ∈ lw_all := lw_g (lw_at lw_m3 53 rfl) rfl
theorem q640 : (Jvm.Cond.code ({ cls := "java/lang/Math", name := "min", desc := "(II)I" } : Jvm.MethodName) prog_18_method_69_code (2 : Nat) (Option.some Jvm.ClassFile.FieldType.int)) ∈ lw_all := lw_g (lw_at lw_m3 54 rfl) rfl
theorem q1055 : (Jvm.Cond.static ({ cls := "java/lang/Math", name := "max", desc := "(II)I" } : Jvm.MethodName)) ∈ lw_all := lw_g (lw_at lw_m4 229 rfl) rfl
theorem q1056 : (Jvm.Cond.code ({ cls := "java/lang/Math", name := "max", desc := "(II)I" } : Jvm.MethodName) prog_18_method_65_code (2 : Nat) (Option.some Jvm.ClassFile.FieldType.int)) ∈ lw_all := lw_g (lw_at lw_m4 230 rfl) rfl
theorem q138 : (Jvm.Cond.arrayOver (Jvm.ClassFile.FieldType.array Jvm.ClassFile.FieldType.int)) ∈ lw_tbl := lw_at lw_m1 32 rfl
set_option maxRecDepth 100000
theorem q140 : (Jvm.Cond.arrayOver (Jvm.ClassFile.FieldType.array Jvm.ClassFile.FieldType.byte)) ∈ lw_tbl := lw_at lw_m1 34 rfl
theorem q142 : (Jvm.Cond.arrayOver (Jvm.ClassFile.FieldType.object "AcornYears$Sort")) ∈ lw_tbl := lw_at lw_m1 36 rfl
theorem q144 : (Jvm.Cond.arrayOver (Jvm.ClassFile.FieldType.object "AcornYears$Tree")) ∈ lw_tbl := lw_at lw_m1 38 rfl
theorem q182 : (Jvm.Cond.arrayClass Jvm.ClassFile.FieldType.int) ∈ lw_all := lw_g (lw_at lw_m1 76 rfl) rfl
theorem q183 : (Jvm.Cond.arrayClass Jvm.ClassFile.FieldType.boolean) ∈ lw_all := lw_g (lw_at lw_m1 77 rfl) rfl
theorem q348 : (Jvm.Cond.arrayClass Jvm.ClassFile.FieldType.short) ∈ lw_all := lw_g (lw_at lw_m2 2 rfl) rfl
theorem q349 : (Jvm.Cond.arrayClass Jvm.ClassFile.FieldType.long) ∈ lw_all := lw_g (lw_at lw_m2 3 rfl) rfl
theorem q350 : (Jvm.Cond.arrayClass Jvm.ClassFile.FieldType.byte) ∈ lw_all := lw_g (lw_at lw_m2 4 rfl) rfl
theorem q118 : (Jvm.Cond.initialized "java/lang/System") ∈ lw_all := lw_g (lw_at lw_m1 12 rfl) rfl
set_option maxRecDepth 100000
theorem q517 : (Jvm.Cond.static ({ cls := "java/lang/System", name := "arraycopy", desc := "(Ljava/lang/Object;ILjava/lang/Object;II)V" } : Jvm.MethodName)) ∈ lw_all := lw_g (lw_at lw_m2 171 rfl) rfl
theorem q518 : (Jvm.Cond.native ({ cls := "java/lang/System", name := "arraycopy", desc := "(Ljava/lang/Object;ILjava/lang/Object;II)V" } : Jvm.MethodName)) ∈ lw_all := lw_g (lw_at lw_m2 172 rfl) rfl
theorem q106 : (Jvm.Cond.initialized "AcornYearsLaw") ∈ lw_all := lw_g (lw_at lw_m1 0 rfl) rfl
set_option maxRecDepth 100000
theorem q129 : (Jvm.Cond.classLink "AcornYearsLaw" (7 : Nat) "AcornYears") ∈ lw_all := lw_g (lw_at lw_m1 23 rfl) rfl
theorem q131 : (Jvm.Cond.methodLink "AcornYearsLaw" (9 : Nat) ({ cls := "AcornYears", name := "<init>", desc := "()V" } : Jvm.MethodName)) ∈ lw_all := lw_g (lw_at lw_m1 25 rfl) rfl
theorem q351 : (Jvm.Cond.methodLink "AcornYearsLaw" (13 : Nat) ({ cls := "AcornYears", name := "row", desc := "(II)I" } : Jvm.MethodName)) ∈ lw_all := lw_g (lw_at lw_m2 5 rfl) rfl
theorem q450 : (Jvm.Cond.methodLink "AcornYearsLaw" (18 : Nat) ({ cls := "AcornYears", name := "lay", desc := "(III)I" } : Jvm.MethodName)) ∈ lw_all := lw_g (lw_at lw_m2 104 rfl) rfl
theorem q506 : (Jvm.Cond.methodLink "AcornYearsLaw" (23 : Nat) ({ cls := "AcornYears", name := "at", desc := "(II)I" } : Jvm.MethodName)) ∈ lw_all := lw_g (lw_at lw_m2 160 rfl) rfl
theorem q507 : (Jvm.Cond.methodLink "AcornYearsLaw" (27 : Nat) ({ cls := "AcornYears", name := "tear", desc := "(I)I" } : Jvm.MethodName)) ∈ lw_all := lw_g (lw_at lw_m2 161 rfl) rfl
theorem q511 : (Jvm.Cond.methodLink "AcornYearsLaw" (32 : Nat) ({ cls := "AcornYears", name := "copy", desc := "(IIIII)I" } : Jvm.MethodName)) ∈ lw_all := lw_g (lw_at lw_m2 165 rfl) rfl
theorem q519 : (Jvm.Cond.methodLink "AcornYearsLaw" (37 : Nat) ({ cls := "AcornYears", name := "mean", desc := "(I)I" } : Jvm.MethodName)) ∈ lw_all := lw_g (lw_at lw_m2 173 rfl) rfl
theorem q537 : (Jvm.Cond.methodLink "AcornYearsLaw" (41 : Nat) ({ cls := "AcornYears", name := "text", desc := "(II)I" } : Jvm.MethodName)) ∈ lw_all := lw_g (lw_at lw_m2 191 rfl) rfl
theorem q544 : (Jvm.Cond.methodLink "AcornYearsLaw" (45 : Nat) ({ cls := "AcornYears", name := "put", desc := "(III)I" } : Jvm.MethodName)) ∈ lw_all := lw_g (lw_at lw_m2 198 rfl) rfl
theorem q548 : (Jvm.Cond.methodLink "AcornYearsLaw" (49 : Nat) ({ cls := "AcornYears", name := "fault", desc := "(I)I" } : Jvm.MethodName)) ∈ lw_all := lw_g (lw_at lw_m2 202 rfl) rfl
theorem q683 : (Jvm.Cond.methodLink "AcornYearsLaw" (53 : Nat) ({ cls := "AcornYears", name := "wood", desc := "(I)I" } : Jvm.MethodName)) ∈ lw_all := lw_g (lw_at lw_m3 97 rfl) rfl
theorem q687 : (Jvm.Cond.methodLink "AcornYearsLaw" (57 : Nat) ({ cls := "AcornYears", name := "plant", desc := "(II)I" } : Jvm.MethodName)) ∈ lw_all := lw_g (lw_at lw_m3 101 rfl) rfl
theorem q716 : (Jvm.Cond.methodLink "AcornYearsLaw" (61 : Nat) ({ cls := "AcornYears", name := "plants", desc := "(I)I" } : Jvm.MethodName)) ∈ lw_all := lw_g (lw_at lw_m3 130 rfl) rfl
theorem q720 : (Jvm.Cond.methodLink "AcornYearsLaw" (65 : Nat) ({ cls := "AcornYears", name := "about", desc := "(II)I" } : Jvm.MethodName)) ∈ lw_all := lw_g (lw_at lw_m3 134 rfl) rfl
theorem q756 : (Jvm.Cond.methodLink "AcornYearsLaw" (69 : Nat) ({ cls := "AcornYears", name := "mark", desc := "(II)I" } : Jvm.MethodName)) ∈ lw_all := lw_g (lw_at lw_m3 170 rfl) rfl
theorem q793 : (Jvm.Cond.methodLink "AcornYearsLaw" (73 : Nat) ({ cls := "AcornYears", name := "told", desc := "(II)I" } : Jvm.MethodName)) ∈ lw_all := lw_g (lw_at lw_m3 207 rfl) rfl
theorem q805 : (Jvm.Cond.methodLink "AcornYearsLaw" (77 : Nat) ({ cls := "AcornYears", name := "now", desc := "(I)I" } : Jvm.MethodName)) ∈ lw_all := lw_g (lw_at lw_m3 219 rfl) rfl
theorem q821 : (Jvm.Cond.methodLink "AcornYearsLaw" (81 : Nat) ({ cls := "AcornYears", name := "spring", desc := "(II)I" } : Jvm.MethodName)) ∈ lw_all := lw_g (lw_at lw_m3 235 rfl) rfl
theorem q825 : (Jvm.Cond.methodLink "AcornYearsLaw" (85 : Nat) ({ cls := "AcornYears", name := "jay", desc := "(II)I" } : Jvm.MethodName)) ∈ lw_all := lw_g (lw_at lw_m3 239 rfl) rfl
theorem q829 : (Jvm.Cond.methodLink "AcornYearsLaw" (89 : Nat) ({ cls := "AcornYears", name := "mice", desc := "(II)I" } : Jvm.MethodName)) ∈ lw_all := lw_g (lw_at lw_m4 3 rfl) rfl
theorem q833 : (Jvm.Cond.methodLink "AcornYearsLaw" (93 : Nat) ({ cls := "AcornYears", name := "next", desc := "(I)I" } : Jvm.MethodName)) ∈ lw_all := lw_g (lw_at lw_m4 7 rfl) rfl
theorem q941 : (Jvm.Cond.methodLink "AcornYearsLaw" (97 : Nat) ({ cls := "AcornYears", name := "run", desc := "(I)I" } : Jvm.MethodName)) ∈ lw_all := lw_g (lw_at lw_m4 115 rfl) rfl
theorem q949 : (Jvm.Cond.methodLink "AcornYearsLaw" (101 : Nat) ({ cls := "AcornYears", name := "image", desc := "(I)I" } : Jvm.MethodName)) ∈ lw_all := lw_g (lw_at lw_m4 123 rfl) rfl
theorem q953 : (Jvm.Cond.methodLink "AcornYearsLaw" (105 : Nat) ({ cls := "AcornYears", name := "on", desc := "(I)I" } : Jvm.MethodName)) ∈ lw_all := lw_g (lw_at lw_m4 127 rfl) rfl
theorem q961 : (Jvm.Cond.methodLink "AcornYearsLaw" (109 : Nat) ({ cls := "AcornYears", name := "ring", desc := "()I" } : Jvm.MethodName)) ∈ lw_all := lw_g (lw_at lw_m4 135 rfl) rfl
theorem q1038 : (Jvm.Cond.methodLink "AcornYearsLaw" (114 : Nat) ({ cls := "AcornYears", name := "masts", desc := "()I" } : Jvm.MethodName)) ∈ lw_all := lw_g (lw_at lw_m4 212 rfl) rfl
theorem q1057 : (Jvm.Cond.methodLink "AcornYearsLaw" (118 : Nat) ({ cls := "AcornYears", name := "together", desc := "()I" } : Jvm.MethodName)) ∈ lw_all := lw_g (lw_at lw_m4 231 rfl) rfl
theorem q1069 : (Jvm.Cond.methodLink "AcornYearsLaw" (122 : Nat) ({ cls := "AcornYears", name := "need", desc := "()I" } : Jvm.MethodName)) ∈ lw_all := lw_g (lw_at lw_m5 3 rfl) rfl
theorem q1073 : (Jvm.Cond.methodLink "AcornYearsLaw" (126 : Nat) ({ cls := "AcornYears", name := "lost", desc := "()I" } : Jvm.MethodName)) ∈ lw_all := lw_g (lw_at lw_m5 7 rfl) rfl
theorem q1077 : (Jvm.Cond.methodLink "AcornYearsLaw" (130 : Nat) ({ cls := "AcornYears", name := "share", desc := "(I)I" } : Jvm.MethodName)) ∈ lw_all := lw_g (lw_at lw_m5 11 rfl) rfl
theorem q1081 : (Jvm.Cond.methodLink "AcornYearsLaw" (134 : Nat) ({ cls := "AcornYears", name := "seedlings", desc := "()I" } : Jvm.MethodName)) ∈ lw_all := lw_g (lw_at lw_m5 15 rfl) rfl
theorem q1085 : (Jvm.Cond.methodLink "AcornYearsLaw" (138 : Nat) ({ cls := "AcornYears", name := "gain", desc := "(I)I" } : Jvm.MethodName)) ∈ lw_all := lw_g (lw_at lw_m5 19 rfl) rfl
theorem q1089 : (Jvm.Cond.methodLink "AcornYearsLaw" (142 : Nat) ({ cls := "AcornYears", name := "starve", desc := "(I)I" } : Jvm.MethodName)) ∈ lw_all := lw_g (lw_at lw_m5 23 rfl) rfl
theorem q1093 : (Jvm.Cond.methodLink "AcornYearsLaw" (146 : Nat) ({ cls := "AcornYears", name := "better", desc := "(II)I" } : Jvm.MethodName)) ∈ lw_all := lw_g (lw_at lw_m5 27 rfl) rfl
theorem q1101 : (Jvm.Cond.methodLink "AcornYearsLaw" (150 : Nat) ({ cls := "AcornYears", name := "hold", desc := "()I" } : Jvm.MethodName)) ∈ lw_all := lw_g (lw_at lw_m5 35 rfl) rfl
theorem q1105 : (Jvm.Cond.methodLink "AcornYearsLaw" (154 : Nat) ({ cls := "AcornYears", name := "step", desc := "(II)I" } : Jvm.MethodName)) ∈ lw_all := lw_g (lw_at lw_m5 39 rfl) rfl
theorem q1109 : (Jvm.Cond.methodLink "AcornYearsLaw" (158 : Nat) ({ cls := "AcornYears", name := "hope", desc := "(I)I" } : Jvm.MethodName)) ∈ lw_all := lw_g (lw_at lw_m5 43 rfl) rfl
theorem q1114 : (Jvm.Cond.methodLink "AcornYearsLaw" (162 : Nat) ({ cls := "AcornYears", name := "period", desc := "(I)I" } : Jvm.MethodName)) ∈ lw_all := lw_g (lw_at lw_m5 48 rfl) rfl
theorem q1122 : (Jvm.Cond.methodLink "AcornYearsLaw" (166 : Nat) ({ cls := "AcornYears", name := "guess", desc := "(I)I" } : Jvm.MethodName)) ∈ lw_all := lw_g (lw_at lw_m5 56 rfl) rfl
theorem q1129 : (Jvm.Cond.methodLink "AcornYearsLaw" (170 : Nat) ({ cls := "AcornYears", name := "plan", desc := "(II)I" } : Jvm.MethodName)) ∈ lw_all := lw_g (lw_at lw_m5 63 rfl) rfl
theorem q1133 : (Jvm.Cond.methodLink "AcornYearsLaw" (174 : Nat) ({ cls := "AcornYears", name := "asked", desc := "()I" } : Jvm.MethodName)) ∈ lw_all := lw_g (lw_at lw_m5 67 rfl) rfl
theorem q1137 : (Jvm.Cond.methodLink "AcornYearsLaw" (178 : Nat) ({ cls := "AcornYears", name := "upper", desc := "()J" } : Jvm.MethodName)) ∈ lw_all := lw_g (lw_at lw_m5 71 rfl) rfl
theorem q1141 : (Jvm.Cond.methodLink "AcornYearsLaw" (183 : Nat) ({ cls := "AcornYears", name := "lower", desc := "()J" } : Jvm.MethodName)) ∈ lw_all := lw_g (lw_at lw_m5 75 rfl) rfl
theorem q1145 : (Jvm.Cond.methodLink "AcornYearsLaw" (187 : Nat) ({ cls := "AcornYears", name := "count", desc := "(I)I" } : Jvm.MethodName)) ∈ lw_all := lw_g (lw_at lw_m5 79 rfl) rfl
theorem q1165 : (Jvm.Cond.methodLink "AcornYearsLaw" (191 : Nat) ({ cls := "AcornYears", name := "finding", desc := "()I" } : Jvm.MethodName)) ∈ lw_all := lw_g (lw_at lw_m5 99 rfl) rfl
theorem q1169 : (Jvm.Cond.methodLink "AcornYearsLaw" (195 : Nat) ({ cls := "AcornYears", name := "findings", desc := "(I)I" } : Jvm.MethodName)) ∈ lw_all := lw_g (lw_at lw_m5 103 rfl) rfl
theorem q1173 : (Jvm.Cond.methodLink "AcornYearsLaw" (199 : Nat) ({ cls := "AcornYears", name := "digest", desc := "()J" } : Jvm.MethodName)) ∈ lw_all := lw_g (lw_at lw_m5 107 rfl) rfl
theorem q1187 : (Jvm.Cond.classLink "AcornYearsLaw" (10 : Nat) "AcornYearsModel") ∈ lw_all := lw_g (lw_at lw_m5 121 rfl) rfl
theorem q1189 : (Jvm.Cond.methodLink "AcornYearsLaw" (12 : Nat) ({ cls := "AcornYearsModel", name := "<init>", desc := "()V" } : Jvm.MethodName)) ∈ lw_all := lw_g (lw_at lw_m5 123 rfl) rfl
theorem q1377 : (Jvm.Cond.methodLink "AcornYearsLaw" (194 : Nat) ({ cls := "AcornYearsModel", name := "finding", desc := "()I" } : Jvm.MethodName)) ∈ lw_all := lw_g (lw_at lw_m6 71 rfl) rfl
theorem q1381 : (Jvm.Cond.methodLink "AcornYearsLaw" (198 : Nat) ({ cls := "AcornYearsModel", name := "findings", desc := "(I)I" } : Jvm.MethodName)) ∈ lw_all := lw_g (lw_at lw_m6 75 rfl) rfl
theorem q1388 : (Jvm.Cond.methodLink "AcornYearsLaw" (177 : Nat) ({ cls := "AcornYearsModel", name := "asked", desc := "()I" } : Jvm.MethodName)) ∈ lw_all := lw_g (lw_at lw_m6 82 rfl) rfl
theorem q1392 : (Jvm.Cond.methodLink "AcornYearsLaw" (182 : Nat) ({ cls := "AcornYearsModel", name := "upper", desc := "()J" } : Jvm.MethodName)) ∈ lw_all := lw_g (lw_at lw_m6 86 rfl) rfl
theorem q1396 : (Jvm.Cond.methodLink "AcornYearsLaw" (186 : Nat) ({ cls := "AcornYearsModel", name := "lower", desc := "()J" } : Jvm.MethodName)) ∈ lw_all := lw_g (lw_at lw_m6 90 rfl) rfl
theorem q1400 : (Jvm.Cond.methodLink "AcornYearsLaw" (17 : Nat) ({ cls := "AcornYearsModel", name := "row", desc := "(II)I" } : Jvm.MethodName)) ∈ lw_all := lw_g (lw_at lw_m6 94 rfl) rfl
theorem q1411 : (Jvm.Cond.methodLink "AcornYearsLaw" (22 : Nat) ({ cls := "AcornYearsModel", name := "lay", desc := "(III)I" } : Jvm.MethodName)) ∈ lw_all := lw_g (lw_at lw_m6 105 rfl) rfl
theorem q1423 : (Jvm.Cond.methodLink "AcornYearsLaw" (26 : Nat) ({ cls := "AcornYearsModel", name := "at", desc := "(II)I" } : Jvm.MethodName)) ∈ lw_all := lw_g (lw_at lw_m6 117 rfl) rfl
theorem q1427 : (Jvm.Cond.methodLink "AcornYearsLaw" (31 : Nat) ({ cls := "AcornYearsModel", name := "tear", desc := "(I)I" } : Jvm.MethodName)) ∈ lw_all := lw_g (lw_at lw_m6 121 rfl) rfl
theorem q1431 : (Jvm.Cond.methodLink "AcornYearsLaw" (36 : Nat) ({ cls := "AcornYearsModel", name := "copy", desc := "(IIIII)I" } : Jvm.MethodName)) ∈ lw_all := lw_g (lw_at lw_m6 125 rfl) rfl
theorem q1435 : (Jvm.Cond.methodLink "AcornYearsLaw" (40 : Nat) ({ cls := "AcornYearsModel", name := "mean", desc := "(I)I" } : Jvm.MethodName)) ∈ lw_all := lw_g (lw_at lw_m6 129 rfl) rfl
theorem q1439 : (Jvm.Cond.methodLink "AcornYearsLaw" (44 : Nat) ({ cls := "AcornYearsModel", name := "text", desc := "(II)I" } : Jvm.MethodName)) ∈ lw_all := lw_g (lw_at lw_m6 133 rfl) rfl
theorem q1446 : (Jvm.Cond.methodLink "AcornYearsLaw" (48 : Nat) ({ cls := "AcornYearsModel", name := "put", desc := "(III)I" } : Jvm.MethodName)) ∈ lw_all := lw_g (lw_at lw_m6 140 rfl) rfl
theorem q1450 : (Jvm.Cond.methodLink "AcornYearsLaw" (52 : Nat) ({ cls := "AcornYearsModel", name := "fault", desc := "(I)I" } : Jvm.MethodName)) ∈ lw_all := lw_g (lw_at lw_m6 144 rfl) rfl
theorem q1508 : (Jvm.Cond.methodLink "AcornYearsLaw" (56 : Nat) ({ cls := "AcornYearsModel", name := "wood", desc := "(I)I" } : Jvm.MethodName)) ∈ lw_all := lw_g (lw_at lw_m6 202 rfl) rfl
theorem q1512 : (Jvm.Cond.methodLink "AcornYearsLaw" (68 : Nat) ({ cls := "AcornYearsModel", name := "about", desc := "(II)I" } : Jvm.MethodName)) ∈ lw_all := lw_g (lw_at lw_m6 206 rfl) rfl
theorem q1524 : (Jvm.Cond.methodLink "AcornYearsLaw" (72 : Nat) ({ cls := "AcornYearsModel", name := "mark", desc := "(II)I" } : Jvm.MethodName)) ∈ lw_all := lw_g (lw_at lw_m6 218 rfl) rfl
theorem q1536 : (Jvm.Cond.methodLink "AcornYearsLaw" (84 : Nat) ({ cls := "AcornYearsModel", name := "spring", desc := "(II)I" } : Jvm.MethodName)) ∈ lw_all := lw_g (lw_at lw_m6 230 rfl) rfl
theorem q1540 : (Jvm.Cond.methodLink "AcornYearsLaw" (88 : Nat) ({ cls := "AcornYearsModel", name := "jay", desc := "(II)I" } : Jvm.MethodName)) ∈ lw_all := lw_g (lw_at lw_m6 234 rfl) rfl
theorem q1544 : (Jvm.Cond.methodLink "AcornYearsLaw" (92 : Nat) ({ cls := "AcornYearsModel", name := "mice", desc := "(II)I" } : Jvm.MethodName)) ∈ lw_all := lw_g (lw_at lw_m6 238 rfl) rfl
theorem q1552 : (Jvm.Cond.methodLink "AcornYearsLaw" (60 : Nat) ({ cls := "AcornYearsModel", name := "plant", desc := "(II)I" } : Jvm.MethodName)) ∈ lw_all := lw_g (lw_at lw_m7 6 rfl) rfl
theorem q1560 : (Jvm.Cond.methodLink "AcornYearsLaw" (64 : Nat) ({ cls := "AcornYearsModel", name := "plants", desc := "(I)I" } : Jvm.MethodName)) ∈ lw_all := lw_g (lw_at lw_m7 14 rfl) rfl
theorem q1564 : (Jvm.Cond.methodLink "AcornYearsLaw" (76 : Nat) ({ cls := "AcornYearsModel", name := "told", desc := "(II)I" } : Jvm.MethodName)) ∈ lw_all := lw_g (lw_at lw_m7 18 rfl) rfl
theorem q1576 : (Jvm.Cond.methodLink "AcornYearsLaw" (80 : Nat) ({ cls := "AcornYearsModel", name := "now", desc := "(I)I" } : Jvm.MethodName)) ∈ lw_all := lw_g (lw_at lw_m7 30 rfl) rfl
theorem q1588 : (Jvm.Cond.methodLink "AcornYearsLaw" (96 : Nat) ({ cls := "AcornYearsModel", name := "next", desc := "(I)I" } : Jvm.MethodName)) ∈ lw_all := lw_g (lw_at lw_m7 42 rfl) rfl
theorem q1615 : (Jvm.Cond.methodLink "AcornYearsLaw" (100 : Nat) ({ cls := "AcornYearsModel", name := "run", desc := "(I)I" } : Jvm.MethodName)) ∈ lw_all := lw_g (lw_at lw_m7 69 rfl) rfl
theorem q1623 : (Jvm.Cond.methodLink "AcornYearsLaw" (104 : Nat) ({ cls := "AcornYearsModel", name := "image", desc := "(I)I" } : Jvm.MethodName)) ∈ lw_all := lw_g (lw_at lw_m7 77 rfl) rfl
theorem q1627 : (Jvm.Cond.methodLink "AcornYearsLaw" (108 : Nat) ({ cls := "AcornYearsModel", name := "on", desc := "(I)I" } : Jvm.MethodName)) ∈ lw_all := lw_g (lw_at lw_m7 81 rfl) rfl
theorem q1635 : (Jvm.Cond.methodLink "AcornYearsLaw" (113 : Nat) ({ cls := "AcornYearsModel", name := "ring", desc := "()I" } : Jvm.MethodName)) ∈ lw_all := lw_g (lw_at lw_m7 89 rfl) rfl
theorem q1667 : (Jvm.Cond.methodLink "AcornYearsLaw" (117 : Nat) ({ cls := "AcornYearsModel", name := "masts", desc := "()I" } : Jvm.MethodName)) ∈ lw_all := lw_g (lw_at lw_m7 121 rfl) rfl
theorem q1679 : (Jvm.Cond.methodLink "AcornYearsLaw" (121 : Nat) ({ cls := "AcornYearsModel", name := "together", desc := "()I" } : Jvm.MethodName)) ∈ lw_all := lw_g (lw_at lw_m7 133 rfl) rfl
theorem q1687 : (Jvm.Cond.methodLink "AcornYearsLaw" (125 : Nat) ({ cls := "AcornYearsModel", name := "need", desc := "()I" } : Jvm.MethodName)) ∈ lw_all := lw_g (lw_at lw_m7 141 rfl) rfl
theorem q1691 : (Jvm.Cond.methodLink "AcornYearsLaw" (129 : Nat) ({ cls := "AcornYearsModel", name := "lost", desc := "()I" } : Jvm.MethodName)) ∈ lw_all := lw_g (lw_at lw_m7 145 rfl) rfl
theorem q1698 : (Jvm.Cond.methodLink "AcornYearsLaw" (133 : Nat) ({ cls := "AcornYearsModel", name := "share", desc := "(I)I" } : Jvm.MethodName)) ∈ lw_all := lw_g (lw_at lw_m7 152 rfl) rfl
theorem q1702 : (Jvm.Cond.methodLink "AcornYearsLaw" (137 : Nat) ({ cls := "AcornYearsModel", name := "seedlings", desc := "()I" } : Jvm.MethodName)) ∈ lw_all := lw_g (lw_at lw_m7 156 rfl) rfl
theorem q1706 : (Jvm.Cond.methodLink "AcornYearsLaw" (141 : Nat) ({ cls := "AcornYearsModel", name := "gain", desc := "(I)I" } : Jvm.MethodName)) ∈ lw_all := lw_g (lw_at lw_m7 160 rfl) rfl
theorem q1710 : (Jvm.Cond.methodLink "AcornYearsLaw" (145 : Nat) ({ cls := "AcornYearsModel", name := "starve", desc := "(I)I" } : Jvm.MethodName)) ∈ lw_all := lw_g (lw_at lw_m7 164 rfl) rfl
theorem q1714 : (Jvm.Cond.methodLink "AcornYearsLaw" (149 : Nat) ({ cls := "AcornYearsModel", name := "better", desc := "(II)I" } : Jvm.MethodName)) ∈ lw_all := lw_g (lw_at lw_m7 168 rfl) rfl
theorem q1726 : (Jvm.Cond.methodLink "AcornYearsLaw" (153 : Nat) ({ cls := "AcornYearsModel", name := "hold", desc := "()I" } : Jvm.MethodName)) ∈ lw_all := lw_g (lw_at lw_m7 180 rfl) rfl
theorem q1730 : (Jvm.Cond.methodLink "AcornYearsLaw" (157 : Nat) ({ cls := "AcornYearsModel", name := "step", desc := "(II)I" } : Jvm.MethodName)) ∈ lw_all := lw_g (lw_at lw_m7 184 rfl) rfl
theorem q1734 : (Jvm.Cond.methodLink "AcornYearsLaw" (161 : Nat) ({ cls := "AcornYearsModel", name := "hope", desc := "(I)I" } : Jvm.MethodName)) ∈ lw_all := lw_g (lw_at lw_m7 188 rfl) rfl
theorem q1743 : (Jvm.Cond.methodLink "AcornYearsLaw" (165 : Nat) ({ cls := "AcornYearsModel", name := "period", desc := "(I)I" } : Jvm.MethodName)) ∈ lw_all := lw_g (lw_at lw_m7 197 rfl) rfl
theorem q1751 : (Jvm.Cond.methodLink "AcornYearsLaw" (169 : Nat) ({ cls := "AcornYearsModel", name := "guess", desc := "(I)I" } : Jvm.MethodName)) ∈ lw_all := lw_g (lw_at lw_m7 205 rfl) rfl
theorem q1759 : (Jvm.Cond.methodLink "AcornYearsLaw" (173 : Nat) ({ cls := "AcornYearsModel", name := "plan", desc := "(II)I" } : Jvm.MethodName)) ∈ lw_all := lw_g (lw_at lw_m7 213 rfl) rfl
theorem q1763 : (Jvm.Cond.methodLink "AcornYearsLaw" (190 : Nat) ({ cls := "AcornYearsModel", name := "count", desc := "(I)I" } : Jvm.MethodName)) ∈ lw_all := lw_g (lw_at lw_m7 217 rfl) rfl
theorem q1771 : (Jvm.Cond.methodLink "AcornYearsLaw" (202 : Nat) ({ cls := "AcornYearsModel", name := "digest", desc := "()J" } : Jvm.MethodName)) ∈ lw_all := lw_g (lw_at lw_m7 225 rfl) rfl
/-! AcornYears$Wood -/
set_option maxRecDepth 100000
def RX1 : String := "AcornYears$Wood"
def TX1 : u_T := fun k => match k with
  | 0 => ("AcornYears$Wood", "stores", "[I", true)
  | 1 => ("AcornYears$Wood", "mice", "[I", true)
  | 2 => ("AcornYears$Wood", "year", "I", false)
  | 3 => ("AcornYears$Wood", "bloomed", "[Z", true)
  | 4 => ("AcornYears$Wood", "gave", "[I", true)
  | 5 => ("AcornYears$Wood", "starved", "[Z", true)
  | 6 => ("AcornYears$Wood", "acorns", "I", false)
  | _ => ("AcornYears$Wood", "seedlings", "I", false)
def tyX1 : Nat → FieldType := fun k => match k with
  | 0 => .array .int
  | 1 => .array .int
  | 2 => .int
  | 3 => .array .boolean
  | 4 => .array .int
  | 5 => .array .boolean
  | 6 => .int
  | _ => .int
abbrev wsX10 : List Cond := u_ws RX1 TX1 8
theorem nmX1 : ∀ a, a < 8 → ∀ b, b < 8 → a ≠ b → (TX1 a).2.1 ≠ (TX1 b).2.1 := by decide +kernel
theorem tyX1_ok : ∀ k, k < 8 → parseFieldDescriptor (TX1 k).2.2.1 = some (tyX1 k) := by decide +kernel
abbrev cX1_init : ByteArray := prog_10_method_1_code
def yX1_init : MethodName := ⟨RX1, "<init>", "()V"⟩
def dkwX1_init_1 : List UInt8 := [181, 0, 18, 42, 16, 24, 188, 10, 181, 0, 22, 42, 5, 188, 4, 181, 0, 25, 177]
abbrev dktX1_init_1 : List UInt8 := dkwX1_init_1 ++ []
def dkwX1_init_0 : List UInt8 := [42, 183, 0, 3, 42, 16, 24, 188, 10, 181, 0, 9, 42, 5, 188, 10, 181, 0, 15, 42, 16, 24, 188, 4]
abbrev dktX1_init_0 : List UInt8 := dkwX1_init_0 ++ dktX1_init_1
theorem dksX1_init_0 : cX1_init.data.toList.drop 0 = dktX1_init_0 := by decide +kernel
theorem dksX1_init_1 : cX1_init.data.toList.drop 24 = dktX1_init_1 := dk_seg dksX1_init_0 24 rfl rfl
theorem dX1_init_0 : decode cX1_init 0 = .ok (.aload_n 0, 1) := dk_42 (dk_at dksX1_init_0 0 rfl rfl)
theorem dX1_init_1 : decode cX1_init 1 = .ok (.invokespecial 3, 3) := dk_183 0 3 (dk_at dksX1_init_0 1 rfl rfl)
theorem dX1_init_4 : decode cX1_init 4 = .ok (.aload_n 0, 1) := dk_42 (dk_at dksX1_init_0 4 rfl rfl)
theorem dX1_init_5 : decode cX1_init 5 = .ok (.bipush 24, 2) := dk_16 24 (dk_at dksX1_init_0 5 rfl rfl)
theorem dX1_init_7 : decode cX1_init 7 = .ok (.newarray .int, 2) := dk_188_10 (dk_at dksX1_init_0 7 rfl rfl)
theorem dX1_init_9 : decode cX1_init 9 = .ok (.putfield 9, 3) := dk_181 0 9 (dk_at dksX1_init_0 9 rfl rfl)
theorem dX1_init_12 : decode cX1_init 12 = .ok (.aload_n 0, 1) := dk_42 (dk_at dksX1_init_0 12 rfl rfl)
theorem dX1_init_13 : decode cX1_init 13 = .ok (.iconst 2, 1) := dk_5 (dk_at dksX1_init_0 13 rfl rfl)
theorem dX1_init_14 : decode cX1_init 14 = .ok (.newarray .int, 2) := dk_188_10 (dk_at dksX1_init_0 14 rfl rfl)
theorem dX1_init_16 : decode cX1_init 16 = .ok (.putfield 15, 3) := dk_181 0 15 (dk_at dksX1_init_0 16 rfl rfl)
theorem dX1_init_19 : decode cX1_init 19 = .ok (.aload_n 0, 1) := dk_42 (dk_at dksX1_init_0 19 rfl rfl)
theorem dX1_init_20 : decode cX1_init 20 = .ok (.bipush 24, 2) := dk_16 24 (dk_at dksX1_init_0 20 rfl rfl)
theorem dX1_init_22 : decode cX1_init 22 = .ok (.newarray .boolean, 2) := dk_188_4 (dk_at dksX1_init_0 22 rfl rfl)
theorem dX1_init_24 : decode cX1_init 24 = .ok (.putfield 18, 3) := dk_181 0 18 (dk_at dksX1_init_1 0 rfl rfl)
theorem dX1_init_27 : decode cX1_init 27 = .ok (.aload_n 0, 1) := dk_42 (dk_at dksX1_init_1 3 rfl rfl)
theorem dX1_init_28 : decode cX1_init 28 = .ok (.bipush 24, 2) := dk_16 24 (dk_at dksX1_init_1 4 rfl rfl)
theorem dX1_init_30 : decode cX1_init 30 = .ok (.newarray .int, 2) := dk_188_10 (dk_at dksX1_init_1 6 rfl rfl)
theorem dX1_init_32 : decode cX1_init 32 = .ok (.putfield 22, 3) := dk_181 0 22 (dk_at dksX1_init_1 8 rfl rfl)
theorem dX1_init_35 : decode cX1_init 35 = .ok (.aload_n 0, 1) := dk_42 (dk_at dksX1_init_1 11 rfl rfl)
theorem dX1_init_36 : decode cX1_init 36 = .ok (.iconst 2, 1) := dk_5 (dk_at dksX1_init_1 12 rfl rfl)
theorem dX1_init_37 : decode cX1_init 37 = .ok (.newarray .boolean, 2) := dk_188_4 (dk_at dksX1_init_1 13 rfl rfl)
theorem dX1_init_39 : decode cX1_init 39 = .ok (.putfield 25, 3) := dk_181 0 25 (dk_at dksX1_init_1 15 rfl rfl)
theorem dX1_init_42 : decode cX1_init 42 = .ok (.return_, 1) := dk_177 (dk_at dksX1_init_1 18 rfl rfl)
abbrev cX1_comesTo : ByteArray := prog_10_method_2_code
def yX1_comesTo : MethodName := ⟨RX1, "comesTo", "(LAcornYears$Wood;)V"⟩
def dkwX1_comesTo_1 : List UInt8 := [3, 5, 184, 0, 28, 42, 43, 180, 0, 34, 181, 0, 34, 177]
abbrev dktX1_comesTo_1 : List UInt8 := dkwX1_comesTo_1 ++ []
def dkwX1_comesTo_0 : List UInt8 := [43, 180, 0, 9, 3, 42, 180, 0, 9, 3, 16, 24, 184, 0, 28, 43, 180, 0, 15, 3, 42, 180, 0, 15]
abbrev dktX1_comesTo_0 : List UInt8 := dkwX1_comesTo_0 ++ dktX1_comesTo_1
theorem dksX1_comesTo_0 : cX1_comesTo.data.toList.drop 0 = dktX1_comesTo_0 := by decide +kernel
theorem dksX1_comesTo_1 : cX1_comesTo.data.toList.drop 24 = dktX1_comesTo_1 := dk_seg dksX1_comesTo_0 24 rfl rfl
theorem dX1_comesTo_0 : decode cX1_comesTo 0 = .ok (.aload_n 1, 1) := dk_43 (dk_at dksX1_comesTo_0 0 rfl rfl)
theorem dX1_comesTo_1 : decode cX1_comesTo 1 = .ok (.getfield 9, 3) := dk_180 0 9 (dk_at dksX1_comesTo_0 1 rfl rfl)
theorem dX1_comesTo_4 : decode cX1_comesTo 4 = .ok (.iconst 0, 1) := dk_3 (dk_at dksX1_comesTo_0 4 rfl rfl)
theorem dX1_comesTo_5 : decode cX1_comesTo 5 = .ok (.aload_n 0, 1) := dk_42 (dk_at dksX1_comesTo_0 5 rfl rfl)
theorem dX1_comesTo_6 : decode cX1_comesTo 6 = .ok (.getfield 9, 3) := dk_180 0 9 (dk_at dksX1_comesTo_0 6 rfl rfl)
theorem dX1_comesTo_9 : decode cX1_comesTo 9 = .ok (.iconst 0, 1) := dk_3 (dk_at dksX1_comesTo_0 9 rfl rfl)
theorem dX1_comesTo_10 : decode cX1_comesTo 10 = .ok (.bipush 24, 2) := dk_16 24 (dk_at dksX1_comesTo_0 10 rfl rfl)
theorem dX1_comesTo_12 : decode cX1_comesTo 12 = .ok (.invokestatic 28, 3) := dk_184 0 28 (dk_at dksX1_comesTo_0 12 rfl rfl)
theorem dX1_comesTo_15 : decode cX1_comesTo 15 = .ok (.aload_n 1, 1) := dk_43 (dk_at dksX1_comesTo_0 15 rfl rfl)
theorem dX1_comesTo_16 : decode cX1_comesTo 16 = .ok (.getfield 15, 3) := dk_180 0 15 (dk_at dksX1_comesTo_0 16 rfl rfl)
theorem dX1_comesTo_19 : decode cX1_comesTo 19 = .ok (.iconst 0, 1) := dk_3 (dk_at dksX1_comesTo_0 19 rfl rfl)
theorem dX1_comesTo_20 : decode cX1_comesTo 20 = .ok (.aload_n 0, 1) := dk_42 (dk_at dksX1_comesTo_0 20 rfl rfl)
theorem dX1_comesTo_21 : decode cX1_comesTo 21 = .ok (.getfield 15, 3) := dk_180 0 15 (dk_at dksX1_comesTo_0 21 rfl rfl)
theorem dX1_comesTo_24 : decode cX1_comesTo 24 = .ok (.iconst 0, 1) := dk_3 (dk_at dksX1_comesTo_1 0 rfl rfl)
theorem dX1_comesTo_25 : decode cX1_comesTo 25 = .ok (.iconst 2, 1) := dk_5 (dk_at dksX1_comesTo_1 1 rfl rfl)
theorem dX1_comesTo_26 : decode cX1_comesTo 26 = .ok (.invokestatic 28, 3) := dk_184 0 28 (dk_at dksX1_comesTo_1 2 rfl rfl)
theorem dX1_comesTo_29 : decode cX1_comesTo 29 = .ok (.aload_n 0, 1) := dk_42 (dk_at dksX1_comesTo_1 5 rfl rfl)
theorem dX1_comesTo_30 : decode cX1_comesTo 30 = .ok (.aload_n 1, 1) := dk_43 (dk_at dksX1_comesTo_1 6 rfl rfl)
theorem dX1_comesTo_31 : decode cX1_comesTo 31 = .ok (.getfield 34, 3) := dk_180 0 34 (dk_at dksX1_comesTo_1 7 rfl rfl)
theorem dX1_comesTo_34 : decode cX1_comesTo 34 = .ok (.putfield 34, 3) := dk_181 0 34 (dk_at dksX1_comesTo_1 10 rfl rfl)
theorem dX1_comesTo_37 : decode cX1_comesTo 37 = .ok (.return_, 1) := dk_177 (dk_at dksX1_comesTo_1 13 rfl rfl)
theorem q108 : (Jvm.Cond.initialized "AcornYears$Wood") ∈ lw_all := lw_g (lw_at lw_m1 2 rfl) rfl
theorem q146 : (Jvm.Cond.instantiable "AcornYears$Wood" (8 : Nat)) ∈ lw_all := lw_g (lw_at lw_m1 40 rfl) rfl
theorem q148 : (Jvm.Cond.instanceMethod ({ cls := "AcornYears$Wood", name := "<init>", desc := "()V" } : Jvm.MethodName)) ∈ lw_all := lw_g (lw_at lw_m1 42 rfl) rfl
theorem q149 : (Jvm.Cond.code ({ cls := "AcornYears$Wood", name := "<init>", desc := "()V" } : Jvm.MethodName) prog_10_method_1_code (1 : Nat) (Option.none : Option Jvm.ClassFile.FieldType)) ∈ lw_all := lw_g (lw_at lw_m1 43 rfl) rfl
theorem q150 : (Jvm.Cond.methodLink "AcornYears$Wood" (3 : Nat) ({ cls := "java/lang/Object", name := "<init>", desc := "()V" } : Jvm.MethodName)) ∈ lw_all := lw_g (lw_at lw_m1 44 rfl) rfl
theorem q151 : (Jvm.Cond.fieldLink "AcornYears$Wood" (9 : Nat) "AcornYears$Wood" "stores" "[I") ∈ lw_all := lw_g (lw_at lw_m1 45 rfl) rfl
theorem q153 : (Jvm.Cond.fieldLink "AcornYears$Wood" (15 : Nat) "AcornYears$Wood" "mice" "[I") ∈ lw_all := lw_g (lw_at lw_m1 47 rfl) rfl
theorem q155 : (Jvm.Cond.fieldLink "AcornYears$Wood" (34 : Nat) "AcornYears$Wood" "year" "I") ∈ lw_all := lw_g (lw_at lw_m1 49 rfl) rfl
theorem q157 : (Jvm.Cond.fieldLink "AcornYears$Wood" (18 : Nat) "AcornYears$Wood" "bloomed" "[Z") ∈ lw_all := lw_g (lw_at lw_m1 51 rfl) rfl
theorem q159 : (Jvm.Cond.fieldLink "AcornYears$Wood" (22 : Nat) "AcornYears$Wood" "gave" "[I") ∈ lw_all := lw_g (lw_at lw_m1 53 rfl) rfl
theorem q161 : (Jvm.Cond.fieldLink "AcornYears$Wood" (25 : Nat) "AcornYears$Wood" "starved" "[Z") ∈ lw_all := lw_g (lw_at lw_m1 55 rfl) rfl
theorem q165 : (Jvm.Cond.laysFinal "AcornYears$Wood" "AcornYears$Wood" "stores" "[I") ∈ lw_all := lw_g (lw_at lw_m1 59 rfl) rfl
theorem q166 : (Jvm.Cond.soleField "AcornYears$Wood" "stores") ∈ lw_all := lw_g (lw_at lw_m1 60 rfl) rfl
theorem q167 : (Jvm.Cond.laysFinal "AcornYears$Wood" "AcornYears$Wood" "mice" "[I") ∈ lw_all := lw_g (lw_at lw_m1 61 rfl) rfl
theorem q168 : (Jvm.Cond.soleField "AcornYears$Wood" "mice") ∈ lw_all := lw_g (lw_at lw_m1 62 rfl) rfl
theorem q169 : (Jvm.Cond.lays "AcornYears$Wood" "AcornYears$Wood" "year" "I") ∈ lw_all := lw_g (lw_at lw_m1 63 rfl) rfl
theorem q170 : (Jvm.Cond.soleField "AcornYears$Wood" "year") ∈ lw_all := lw_g (lw_at lw_m1 64 rfl) rfl
theorem q171 : (Jvm.Cond.laysFinal "AcornYears$Wood" "AcornYears$Wood" "bloomed" "[Z") ∈ lw_all := lw_g (lw_at lw_m1 65 rfl) rfl
theorem q172 : (Jvm.Cond.soleField "AcornYears$Wood" "bloomed") ∈ lw_all := lw_g (lw_at lw_m1 66 rfl) rfl
theorem q173 : (Jvm.Cond.laysFinal "AcornYears$Wood" "AcornYears$Wood" "gave" "[I") ∈ lw_all := lw_g (lw_at lw_m1 67 rfl) rfl
theorem q174 : (Jvm.Cond.soleField "AcornYears$Wood" "gave") ∈ lw_all := lw_g (lw_at lw_m1 68 rfl) rfl
theorem q175 : (Jvm.Cond.laysFinal "AcornYears$Wood" "AcornYears$Wood" "starved" "[Z") ∈ lw_all := lw_g (lw_at lw_m1 69 rfl) rfl
theorem q176 : (Jvm.Cond.soleField "AcornYears$Wood" "starved") ∈ lw_all := lw_g (lw_at lw_m1 70 rfl) rfl
theorem q177 : (Jvm.Cond.lays "AcornYears$Wood" "AcornYears$Wood" "acorns" "I") ∈ lw_all := lw_g (lw_at lw_m1 71 rfl) rfl
theorem q178 : (Jvm.Cond.soleField "AcornYears$Wood" "acorns") ∈ lw_all := lw_g (lw_at lw_m1 72 rfl) rfl
theorem q179 : (Jvm.Cond.lays "AcornYears$Wood" "AcornYears$Wood" "seedlings" "I") ∈ lw_all := lw_g (lw_at lw_m1 73 rfl) rfl
theorem q180 : (Jvm.Cond.soleField "AcornYears$Wood" "seedlings") ∈ lw_all := lw_g (lw_at lw_m1 74 rfl) rfl
theorem q181 : (Jvm.Cond.superclass "AcornYears$Wood" "java/lang/Object") ∈ lw_all := lw_g (lw_at lw_m1 75 rfl) rfl
theorem q1014 : (Jvm.Cond.instanceMethod ({ cls := "AcornYears$Wood", name := "comesTo", desc := "(LAcornYears$Wood;)V" } : Jvm.MethodName)) ∈ lw_all := lw_g (lw_at lw_m4 188 rfl) rfl
theorem q1015 : (Jvm.Cond.selects "AcornYears$Wood" ({ cls := "AcornYears$Wood", name := "comesTo", desc := "(LAcornYears$Wood;)V" } : Jvm.MethodName) ({ cls := "AcornYears$Wood", name := "comesTo", desc := "(LAcornYears$Wood;)V" } : Jvm.MethodName)) ∈ lw_all := lw_g (lw_at lw_m4 189 rfl) rfl
theorem q1016 : (Jvm.Cond.code ({ cls := "AcornYears$Wood", name := "comesTo", desc := "(LAcornYears$Wood;)V" } : Jvm.MethodName) prog_10_method_2_code (2 : Nat) (Option.none : Option Jvm.ClassFile.FieldType)) ∈ lw_all := lw_g (lw_at lw_m4 190 rfl) rfl
theorem q1017 : (Jvm.Cond.methodLink "AcornYears$Wood" (28 : Nat) ({ cls := "java/lang/System", name := "arraycopy", desc := "(Ljava/lang/Object;ILjava/lang/Object;II)V" } : Jvm.MethodName)) ∈ lw_all := lw_g (lw_at lw_m4 191 rfl) rfl
theorem in_X1 : ∀ w ∈ wsX10, w ∈ lw_all := lw_in wsX10 [165, 167, 169, 171, 173, 175, 177, 179] (by decide +kernel) (by decide +kernel)
/-! AcornYears$Sort -/
set_option maxRecDepth 100000
def RX3 : String := "AcornYears$Sort"
abbrev cX3_init : ByteArray := prog_6_method_1_code
def yX3_init : MethodName := ⟨RX3, "<init>", "([B)V"⟩
def dkwX3_init_0 : List UInt8 := [42, 183, 0, 1, 42, 43, 181, 0, 7, 177]
abbrev dktX3_init_0 : List UInt8 := dkwX3_init_0 ++ []
theorem dksX3_init_0 : cX3_init.data.toList.drop 0 = dktX3_init_0 := by decide +kernel
theorem dX3_init_0 : decode cX3_init 0 = .ok (.aload_n 0, 1) := dk_42 (dk_at dksX3_init_0 0 rfl rfl)
theorem dX3_init_1 : decode cX3_init 1 = .ok (.invokespecial 1, 3) := dk_183 0 1 (dk_at dksX3_init_0 1 rfl rfl)
theorem dX3_init_4 : decode cX3_init 4 = .ok (.aload_n 0, 1) := dk_42 (dk_at dksX3_init_0 4 rfl rfl)
theorem dX3_init_5 : decode cX3_init 5 = .ok (.aload_n 1, 1) := dk_43 (dk_at dksX3_init_0 5 rfl rfl)
theorem dX3_init_6 : decode cX3_init 6 = .ok (.putfield 7, 3) := dk_181 0 7 (dk_at dksX3_init_0 6 rfl rfl)
theorem dX3_init_9 : decode cX3_init 9 = .ok (.return_, 1) := dk_177 (dk_at dksX3_init_0 9 rfl rfl)
abbrev cX3_adds : ByteArray := prog_6_method_5_code
def yX3_adds : MethodName := ⟨RX3, "adds", "(I)I"⟩
def dkwX3_adds_0 : List UInt8 := [42, 180, 0, 7, 27, 51, 172]
abbrev dktX3_adds_0 : List UInt8 := dkwX3_adds_0 ++ []
theorem dksX3_adds_0 : cX3_adds.data.toList.drop 0 = dktX3_adds_0 := by decide +kernel
theorem dX3_adds_0 : decode cX3_adds 0 = .ok (.aload_n 0, 1) := dk_42 (dk_at dksX3_adds_0 0 rfl rfl)
theorem dX3_adds_1 : decode cX3_adds 1 = .ok (.getfield 7, 3) := dk_180 0 7 (dk_at dksX3_adds_0 1 rfl rfl)
theorem dX3_adds_4 : decode cX3_adds 4 = .ok (.iload_n 1, 1) := dk_27 (dk_at dksX3_adds_0 4 rfl rfl)
theorem dX3_adds_5 : decode cX3_adds 5 = .ok (.baload, 1) := dk_51 (dk_at dksX3_adds_0 5 rfl rfl)
theorem dX3_adds_6 : decode cX3_adds 6 = .ok (.ireturn, 1) := dk_172 (dk_at dksX3_adds_0 6 rfl rfl)
abbrev cX3_kind : ByteArray := prog_6_method_2_code
def yX3_kind : MethodName := ⟨RX3, "kind", "()I"⟩
theorem dX3_kind_0 : decode cX3_kind 0 = .ok (.iconst 0, 1) := by decide +kernel
theorem dX3_kind_1 : decode cX3_kind 1 = .ok (.ireturn, 1) := by decide +kernel
abbrev cX3_stores : ByteArray := prog_6_method_6_code
def yX3_stores : MethodName := ⟨RX3, "stores", "()Z"⟩
theorem dX3_stores_0 : decode cX3_stores 0 = .ok (.iconst 1, 1) := by decide +kernel
theorem dX3_stores_1 : decode cX3_stores 1 = .ok (.ireturn, 1) := by decide +kernel
abbrev cX3_blooms : ByteArray := prog_6_method_7_code
def yX3_blooms : MethodName := ⟨RX3, "blooms", "(III)Z"⟩
theorem dX3_blooms_0 : decode cX3_blooms 0 = .ok (.iconst 0, 1) := by decide +kernel
theorem dX3_blooms_1 : decode cX3_blooms 1 = .ok (.ireturn, 1) := by decide +kernel
abbrev cX3_gives : ByteArray := prog_6_method_8_code
def yX3_gives : MethodName := ⟨RX3, "gives", "(I)I"⟩
theorem dX3_gives_0 : decode cX3_gives 0 = .ok (.iconst 0, 1) := by decide +kernel
theorem dX3_gives_1 : decode cX3_gives 1 = .ok (.ireturn, 1) := by decide +kernel
abbrev cX3_is : ByteArray := prog_6_method_3_code
def yX3_is : MethodName := ⟨RX3, "is", "(I)Z"⟩
def dkwX3_is_0 : List UInt8 := [27, 154, 0, 7, 4, 167, 0, 4, 3, 172]
abbrev dktX3_is_0 : List UInt8 := dkwX3_is_0 ++ []
theorem dksX3_is_0 : cX3_is.data.toList.drop 0 = dktX3_is_0 := by decide +kernel
theorem dX3_is_0 : decode cX3_is 0 = .ok (.iload_n 1, 1) := dk_27 (dk_at dksX3_is_0 0 rfl rfl)
theorem dX3_is_1 : decode cX3_is 1 = .ok (.ifCond .ne 7, 3) := dk_154 0 7 (dk_at dksX3_is_0 1 rfl rfl)
theorem dX3_is_4 : decode cX3_is 4 = .ok (.iconst 1, 1) := dk_4 (dk_at dksX3_is_0 4 rfl rfl)
theorem dX3_is_5 : decode cX3_is 5 = .ok (.goto 4, 3) := dk_167 0 4 (dk_at dksX3_is_0 5 rfl rfl)
theorem dX3_is_8 : decode cX3_is 8 = .ok (.iconst 0, 1) := dk_3 (dk_at dksX3_is_0 8 rfl rfl)
theorem dX3_is_9 : decode cX3_is 9 = .ok (.ireturn, 1) := dk_172 (dk_at dksX3_is_0 9 rfl rfl)
abbrev cX3_tells : ByteArray := prog_6_method_4_code
def yX3_tells : MethodName := ⟨RX3, "tells", "()I"⟩
theorem dX3_tells_0 : decode cX3_tells 0 = .ok (.iconst 0, 1) := by decide +kernel
theorem dX3_tells_1 : decode cX3_tells 1 = .ok (.ireturn, 1) := by decide +kernel
theorem q120 : (Jvm.Cond.initialized "AcornYears$Sort") ∈ lw_all := lw_g (lw_at lw_m1 14 rfl) rfl
theorem q609 : (Jvm.Cond.instanceMethod ({ cls := "AcornYears$Sort", name := "<init>", desc := "([B)V" } : Jvm.MethodName)) ∈ lw_all := lw_g (lw_at lw_m3 23 rfl) rfl
theorem q610 : (Jvm.Cond.code ({ cls := "AcornYears$Sort", name := "<init>", desc := "([B)V" } : Jvm.MethodName) prog_6_method_1_code (2 : Nat) (Option.none : Option Jvm.ClassFile.FieldType)) ∈ lw_all := lw_g (lw_at lw_m3 24 rfl) rfl
theorem q611 : (Jvm.Cond.methodLink "AcornYears$Sort" (1 : Nat) ({ cls := "java/lang/Object", name := "<init>", desc := "()V" } : Jvm.MethodName)) ∈ lw_all := lw_g (lw_at lw_m3 25 rfl) rfl
theorem q612 : (Jvm.Cond.fieldLink "AcornYears$Sort" (7 : Nat) "AcornYears$Sort" "adds" "[B") ∈ lw_all := lw_g (lw_at lw_m3 26 rfl) rfl
theorem q614 : (Jvm.Cond.soleField "AcornYears$Sort" "adds") ∈ lw_all := lw_g (lw_at lw_m3 28 rfl) rfl
theorem q729 : (Jvm.Cond.instanceMethod ({ cls := "AcornYears$Sort", name := "adds", desc := "(I)I" } : Jvm.MethodName)) ∈ lw_all := lw_g (lw_at lw_m3 143 rfl) rfl
theorem q730 : (Jvm.Cond.sameMethod "AcornYears$Sort" "AcornYears$Sort" "adds" "(I)I") ∈ lw_all := lw_g (lw_at lw_m3 144 rfl) rfl
theorem q736 : (Jvm.Cond.code ({ cls := "AcornYears$Sort", name := "adds", desc := "(I)I" } : Jvm.MethodName) prog_6_method_5_code (2 : Nat) (Option.some Jvm.ClassFile.FieldType.int)) ∈ lw_all := lw_g (lw_at lw_m3 150 rfl) rfl
theorem q738 : (Jvm.Cond.instanceMethod ({ cls := "AcornYears$Sort", name := "kind", desc := "()I" } : Jvm.MethodName)) ∈ lw_all := lw_g (lw_at lw_m3 152 rfl) rfl
theorem q739 : (Jvm.Cond.sameMethod "AcornYears$Sort" "AcornYears$Sort" "kind" "()I") ∈ lw_all := lw_g (lw_at lw_m3 153 rfl) rfl
theorem q755 : (Jvm.Cond.code ({ cls := "AcornYears$Sort", name := "kind", desc := "()I" } : Jvm.MethodName) prog_6_method_2_code (1 : Nat) (Option.some Jvm.ClassFile.FieldType.int)) ∈ lw_all := lw_g (lw_at lw_m3 169 rfl) rfl
theorem q780 : (Jvm.Cond.declares ({ cls := "AcornYears$Sort", name := "adds", desc := "(I)I" } : Jvm.MethodName)) ∈ lw_tbl := lw_at lw_m3 194 rfl
theorem q854 : (Jvm.Cond.instanceMethod ({ cls := "AcornYears$Sort", name := "stores", desc := "()Z" } : Jvm.MethodName)) ∈ lw_all := lw_g (lw_at lw_m4 28 rfl) rfl
theorem q855 : (Jvm.Cond.sameMethod "AcornYears$Sort" "AcornYears$Sort" "stores" "()Z") ∈ lw_all := lw_g (lw_at lw_m4 29 rfl) rfl
theorem q863 : (Jvm.Cond.code ({ cls := "AcornYears$Sort", name := "stores", desc := "()Z" } : Jvm.MethodName) prog_6_method_6_code (1 : Nat) (Option.some Jvm.ClassFile.FieldType.boolean)) ∈ lw_all := lw_g (lw_at lw_m4 37 rfl) rfl
theorem q865 : (Jvm.Cond.instanceMethod ({ cls := "AcornYears$Sort", name := "blooms", desc := "(III)Z" } : Jvm.MethodName)) ∈ lw_all := lw_g (lw_at lw_m4 39 rfl) rfl
theorem q866 : (Jvm.Cond.sameMethod "AcornYears$Sort" "AcornYears$Sort" "blooms" "(III)Z") ∈ lw_all := lw_g (lw_at lw_m4 40 rfl) rfl
theorem q881 : (Jvm.Cond.code ({ cls := "AcornYears$Sort", name := "blooms", desc := "(III)Z" } : Jvm.MethodName) prog_6_method_7_code (4 : Nat) (Option.some Jvm.ClassFile.FieldType.boolean)) ∈ lw_all := lw_g (lw_at lw_m4 55 rfl) rfl
theorem q898 : (Jvm.Cond.instanceMethod ({ cls := "AcornYears$Sort", name := "gives", desc := "(I)I" } : Jvm.MethodName)) ∈ lw_all := lw_g (lw_at lw_m4 72 rfl) rfl
theorem q899 : (Jvm.Cond.sameMethod "AcornYears$Sort" "AcornYears$Sort" "gives" "(I)I") ∈ lw_all := lw_g (lw_at lw_m4 73 rfl) rfl
theorem q911 : (Jvm.Cond.code ({ cls := "AcornYears$Sort", name := "gives", desc := "(I)I" } : Jvm.MethodName) prog_6_method_8_code (2 : Nat) (Option.some Jvm.ClassFile.FieldType.int)) ∈ lw_all := lw_g (lw_at lw_m4 85 rfl) rfl
theorem q974 : (Jvm.Cond.instanceMethod ({ cls := "AcornYears$Sort", name := "is", desc := "(I)Z" } : Jvm.MethodName)) ∈ lw_all := lw_g (lw_at lw_m4 148 rfl) rfl
theorem q975 : (Jvm.Cond.sameMethod "AcornYears$Sort" "AcornYears$Sort" "is" "(I)Z") ∈ lw_all := lw_g (lw_at lw_m4 149 rfl) rfl
theorem q996 : (Jvm.Cond.code ({ cls := "AcornYears$Sort", name := "is", desc := "(I)Z" } : Jvm.MethodName) prog_6_method_3_code (2 : Nat) (Option.some Jvm.ClassFile.FieldType.boolean)) ∈ lw_all := lw_g (lw_at lw_m4 170 rfl) rfl
theorem q998 : (Jvm.Cond.instanceMethod ({ cls := "AcornYears$Sort", name := "tells", desc := "()I" } : Jvm.MethodName)) ∈ lw_all := lw_g (lw_at lw_m4 172 rfl) rfl
theorem q999 : (Jvm.Cond.sameMethod "AcornYears$Sort" "AcornYears$Sort" "tells" "()I") ∈ lw_all := lw_g (lw_at lw_m4 173 rfl) rfl
theorem q1012 : (Jvm.Cond.code ({ cls := "AcornYears$Sort", name := "tells", desc := "()I" } : Jvm.MethodName) prog_6_method_4_code (1 : Nat) (Option.some Jvm.ClassFile.FieldType.int)) ∈ lw_all := lw_g (lw_at lw_m4 186 rfl) rfl
/-! AcornYears$Steady -/
set_option maxRecDepth 100000
def RX4 : String := "AcornYears$Steady"
def TX4 : u_T := fun k => match k with
  | _ => ("AcornYears$Sort", "adds", "[B", true)
def tyX4 : Nat → FieldType := fun k => match k with
  | _ => .array .byte
abbrev wsX40 : List Cond := u_ws RX4 TX4 1
theorem nmX4 : ∀ a, a < 1 → ∀ b, b < 1 → a ≠ b → (TX4 a).2.1 ≠ (TX4 b).2.1 := by decide +kernel
theorem tyX4_ok : ∀ k, k < 1 → parseFieldDescriptor (TX4 k).2.2.1 = some (tyX4 k) := by decide +kernel
abbrev cX4_init : ByteArray := prog_7_method_1_code
def yX4_init : MethodName := ⟨RX4, "<init>", "([B)V"⟩
def dkwX4_init_0 : List UInt8 := [42, 43, 183, 0, 3, 177]
abbrev dktX4_init_0 : List UInt8 := dkwX4_init_0 ++ []
theorem dksX4_init_0 : cX4_init.data.toList.drop 0 = dktX4_init_0 := by decide +kernel
theorem dX4_init_0 : decode cX4_init 0 = .ok (.aload_n 0, 1) := dk_42 (dk_at dksX4_init_0 0 rfl rfl)
theorem dX4_init_1 : decode cX4_init 1 = .ok (.aload_n 1, 1) := dk_43 (dk_at dksX4_init_0 1 rfl rfl)
theorem dX4_init_2 : decode cX4_init 2 = .ok (.invokespecial 3, 3) := dk_183 0 3 (dk_at dksX4_init_0 2 rfl rfl)
theorem dX4_init_5 : decode cX4_init 5 = .ok (.return_, 1) := dk_177 (dk_at dksX4_init_0 5 rfl rfl)
abbrev cX4_kind : ByteArray := prog_7_method_2_code
def yX4_kind : MethodName := ⟨RX4, "kind", "()I"⟩
theorem dX4_kind_0 : decode cX4_kind 0 = .ok (.iconst 1, 1) := by decide +kernel
theorem dX4_kind_1 : decode cX4_kind 1 = .ok (.ireturn, 1) := by decide +kernel
abbrev cX4_tells : ByteArray := prog_7_method_4_code
def yX4_tells : MethodName := ⟨RX4, "tells", "()I"⟩
def dkwX4_tells_0 : List UInt8 := [42, 3, 182, 0, 13, 42, 4, 182, 0, 13, 96, 42, 5, 182, 0, 13, 96, 172]
abbrev dktX4_tells_0 : List UInt8 := dkwX4_tells_0 ++ []
theorem dksX4_tells_0 : cX4_tells.data.toList.drop 0 = dktX4_tells_0 := by decide +kernel
theorem dX4_tells_0 : decode cX4_tells 0 = .ok (.aload_n 0, 1) := dk_42 (dk_at dksX4_tells_0 0 rfl rfl)
theorem dX4_tells_1 : decode cX4_tells 1 = .ok (.iconst 0, 1) := dk_3 (dk_at dksX4_tells_0 1 rfl rfl)
theorem dX4_tells_2 : decode cX4_tells 2 = .ok (.invokevirtual 13, 3) := dk_182 0 13 (dk_at dksX4_tells_0 2 rfl rfl)
theorem dX4_tells_5 : decode cX4_tells 5 = .ok (.aload_n 0, 1) := dk_42 (dk_at dksX4_tells_0 5 rfl rfl)
theorem dX4_tells_6 : decode cX4_tells 6 = .ok (.iconst 1, 1) := dk_4 (dk_at dksX4_tells_0 6 rfl rfl)
theorem dX4_tells_7 : decode cX4_tells 7 = .ok (.invokevirtual 13, 3) := dk_182 0 13 (dk_at dksX4_tells_0 7 rfl rfl)
theorem dX4_tells_10 : decode cX4_tells 10 = .ok (.iadd, 1) := dk_96 (dk_at dksX4_tells_0 10 rfl rfl)
theorem dX4_tells_11 : decode cX4_tells 11 = .ok (.aload_n 0, 1) := dk_42 (dk_at dksX4_tells_0 11 rfl rfl)
theorem dX4_tells_12 : decode cX4_tells 12 = .ok (.iconst 2, 1) := dk_5 (dk_at dksX4_tells_0 12 rfl rfl)
theorem dX4_tells_13 : decode cX4_tells 13 = .ok (.invokevirtual 13, 3) := dk_182 0 13 (dk_at dksX4_tells_0 13 rfl rfl)
theorem dX4_tells_16 : decode cX4_tells 16 = .ok (.iadd, 1) := dk_96 (dk_at dksX4_tells_0 16 rfl rfl)
theorem dX4_tells_17 : decode cX4_tells 17 = .ok (.ireturn, 1) := dk_172 (dk_at dksX4_tells_0 17 rfl rfl)
abbrev cX4_stores : ByteArray := prog_7_method_5_code
def yX4_stores : MethodName := ⟨RX4, "stores", "()Z"⟩
theorem dX4_stores_0 : decode cX4_stores 0 = .ok (.iconst 0, 1) := by decide +kernel
theorem dX4_stores_1 : decode cX4_stores 1 = .ok (.ireturn, 1) := by decide +kernel
abbrev cX4_blooms : ByteArray := prog_7_method_6_code
def yX4_blooms : MethodName := ⟨RX4, "blooms", "(III)Z"⟩
def dkwX4_blooms_0 : List UInt8 := [42, 28, 182, 0, 13, 158, 0, 7, 4, 167, 0, 4, 3, 172]
abbrev dktX4_blooms_0 : List UInt8 := dkwX4_blooms_0 ++ []
theorem dksX4_blooms_0 : cX4_blooms.data.toList.drop 0 = dktX4_blooms_0 := by decide +kernel
theorem dX4_blooms_0 : decode cX4_blooms 0 = .ok (.aload_n 0, 1) := dk_42 (dk_at dksX4_blooms_0 0 rfl rfl)
theorem dX4_blooms_1 : decode cX4_blooms 1 = .ok (.iload_n 2, 1) := dk_28 (dk_at dksX4_blooms_0 1 rfl rfl)
theorem dX4_blooms_2 : decode cX4_blooms 2 = .ok (.invokevirtual 13, 3) := dk_182 0 13 (dk_at dksX4_blooms_0 2 rfl rfl)
theorem dX4_blooms_5 : decode cX4_blooms 5 = .ok (.ifCond .le 7, 3) := dk_158 0 7 (dk_at dksX4_blooms_0 5 rfl rfl)
theorem dX4_blooms_8 : decode cX4_blooms 8 = .ok (.iconst 1, 1) := dk_4 (dk_at dksX4_blooms_0 8 rfl rfl)
theorem dX4_blooms_9 : decode cX4_blooms 9 = .ok (.goto 4, 3) := dk_167 0 4 (dk_at dksX4_blooms_0 9 rfl rfl)
theorem dX4_blooms_12 : decode cX4_blooms 12 = .ok (.iconst 0, 1) := dk_3 (dk_at dksX4_blooms_0 12 rfl rfl)
theorem dX4_blooms_13 : decode cX4_blooms 13 = .ok (.ireturn, 1) := dk_172 (dk_at dksX4_blooms_0 13 rfl rfl)
abbrev cX4_gives : ByteArray := prog_7_method_7_code
def yX4_gives : MethodName := ⟨RX4, "gives", "(I)I"⟩
def dkwX4_gives_0 : List UInt8 := [42, 27, 182, 0, 13, 172]
abbrev dktX4_gives_0 : List UInt8 := dkwX4_gives_0 ++ []
theorem dksX4_gives_0 : cX4_gives.data.toList.drop 0 = dktX4_gives_0 := by decide +kernel
theorem dX4_gives_0 : decode cX4_gives 0 = .ok (.aload_n 0, 1) := dk_42 (dk_at dksX4_gives_0 0 rfl rfl)
theorem dX4_gives_1 : decode cX4_gives 1 = .ok (.iload_n 1, 1) := dk_27 (dk_at dksX4_gives_0 1 rfl rfl)
theorem dX4_gives_2 : decode cX4_gives 2 = .ok (.invokevirtual 13, 3) := dk_182 0 13 (dk_at dksX4_gives_0 2 rfl rfl)
theorem dX4_gives_5 : decode cX4_gives 5 = .ok (.ireturn, 1) := dk_172 (dk_at dksX4_gives_0 5 rfl rfl)
abbrev cX4_is : ByteArray := prog_7_method_3_code
def yX4_is : MethodName := ⟨RX4, "is", "(I)Z"⟩
def dkwX4_is_0 : List UInt8 := [27, 4, 159, 0, 11, 42, 27, 183, 0, 9, 153, 0, 7, 4, 167, 0, 4, 3, 172]
abbrev dktX4_is_0 : List UInt8 := dkwX4_is_0 ++ []
theorem dksX4_is_0 : cX4_is.data.toList.drop 0 = dktX4_is_0 := by decide +kernel
theorem dX4_is_0 : decode cX4_is 0 = .ok (.iload_n 1, 1) := dk_27 (dk_at dksX4_is_0 0 rfl rfl)
theorem dX4_is_1 : decode cX4_is 1 = .ok (.iconst 1, 1) := dk_4 (dk_at dksX4_is_0 1 rfl rfl)
theorem dX4_is_2 : decode cX4_is 2 = .ok (.if_icmp .eq 11, 3) := dk_159 0 11 (dk_at dksX4_is_0 2 rfl rfl)
theorem dX4_is_5 : decode cX4_is 5 = .ok (.aload_n 0, 1) := dk_42 (dk_at dksX4_is_0 5 rfl rfl)
theorem dX4_is_6 : decode cX4_is 6 = .ok (.iload_n 1, 1) := dk_27 (dk_at dksX4_is_0 6 rfl rfl)
theorem dX4_is_7 : decode cX4_is 7 = .ok (.invokespecial 9, 3) := dk_183 0 9 (dk_at dksX4_is_0 7 rfl rfl)
theorem dX4_is_10 : decode cX4_is 10 = .ok (.ifCond .eq 7, 3) := dk_153 0 7 (dk_at dksX4_is_0 10 rfl rfl)
theorem dX4_is_13 : decode cX4_is 13 = .ok (.iconst 1, 1) := dk_4 (dk_at dksX4_is_0 13 rfl rfl)
theorem dX4_is_14 : decode cX4_is 14 = .ok (.goto 4, 3) := dk_167 0 4 (dk_at dksX4_is_0 14 rfl rfl)
theorem dX4_is_17 : decode cX4_is 17 = .ok (.iconst 0, 1) := dk_3 (dk_at dksX4_is_0 17 rfl rfl)
theorem dX4_is_18 : decode cX4_is 18 = .ok (.ireturn, 1) := dk_172 (dk_at dksX4_is_0 18 rfl rfl)
theorem q121 : (Jvm.Cond.initialized "AcornYears$Steady") ∈ lw_all := lw_g (lw_at lw_m1 15 rfl) rfl
theorem q604 : (Jvm.Cond.instantiable "AcornYears$Steady" (1 : Nat)) ∈ lw_all := lw_g (lw_at lw_m3 18 rfl) rfl
theorem q606 : (Jvm.Cond.instanceMethod ({ cls := "AcornYears$Steady", name := "<init>", desc := "([B)V" } : Jvm.MethodName)) ∈ lw_all := lw_g (lw_at lw_m3 20 rfl) rfl
theorem q607 : (Jvm.Cond.code ({ cls := "AcornYears$Steady", name := "<init>", desc := "([B)V" } : Jvm.MethodName) prog_7_method_1_code (2 : Nat) (Option.none : Option Jvm.ClassFile.FieldType)) ∈ lw_all := lw_g (lw_at lw_m3 21 rfl) rfl
theorem q608 : (Jvm.Cond.methodLink "AcornYears$Steady" (3 : Nat) ({ cls := "AcornYears$Sort", name := "<init>", desc := "([B)V" } : Jvm.MethodName)) ∈ lw_all := lw_g (lw_at lw_m3 22 rfl) rfl
theorem q613 : (Jvm.Cond.laysFinal "AcornYears$Steady" "AcornYears$Sort" "adds" "[B") ∈ lw_all := lw_g (lw_at lw_m3 27 rfl) rfl
theorem q615 : (Jvm.Cond.superclass "AcornYears$Steady" "AcornYears$Sort") ∈ lw_all := lw_g (lw_at lw_m3 29 rfl) rfl
theorem q734 : (Jvm.Cond.selects "AcornYears$Steady" ({ cls := "AcornYears$Sort", name := "adds", desc := "(I)I" } : Jvm.MethodName) ({ cls := "AcornYears$Sort", name := "adds", desc := "(I)I" } : Jvm.MethodName)) ∈ lw_all := lw_g (lw_at lw_m3 148 rfl) rfl
theorem q749 : (Jvm.Cond.selects "AcornYears$Steady" ({ cls := "AcornYears$Sort", name := "kind", desc := "()I" } : Jvm.MethodName) ({ cls := "AcornYears$Steady", name := "kind", desc := "()I" } : Jvm.MethodName)) ∈ lw_all := lw_g (lw_at lw_m3 163 rfl) rfl
theorem q750 : (Jvm.Cond.instanceMethod ({ cls := "AcornYears$Steady", name := "kind", desc := "()I" } : Jvm.MethodName)) ∈ lw_all := lw_g (lw_at lw_m3 164 rfl) rfl
theorem q751 : (Jvm.Cond.code ({ cls := "AcornYears$Steady", name := "kind", desc := "()I" } : Jvm.MethodName) prog_7_method_2_code (1 : Nat) (Option.some Jvm.ClassFile.FieldType.int)) ∈ lw_all := lw_g (lw_at lw_m3 165 rfl) rfl
theorem q775 : (Jvm.Cond.instanceMethod ({ cls := "AcornYears$Steady", name := "tells", desc := "()I" } : Jvm.MethodName)) ∈ lw_all := lw_g (lw_at lw_m3 189 rfl) rfl
theorem q776 : (Jvm.Cond.selects "AcornYears$Steady" ({ cls := "AcornYears$Steady", name := "tells", desc := "()I" } : Jvm.MethodName) ({ cls := "AcornYears$Steady", name := "tells", desc := "()I" } : Jvm.MethodName)) ∈ lw_all := lw_g (lw_at lw_m3 190 rfl) rfl
theorem q777 : (Jvm.Cond.code ({ cls := "AcornYears$Steady", name := "tells", desc := "()I" } : Jvm.MethodName) prog_7_method_4_code (1 : Nat) (Option.some Jvm.ClassFile.FieldType.int)) ∈ lw_all := lw_g (lw_at lw_m3 191 rfl) rfl
theorem q778 : (Jvm.Cond.methodLink "AcornYears$Steady" (13 : Nat) ({ cls := "AcornYears$Steady", name := "adds", desc := "(I)I" } : Jvm.MethodName)) ∈ lw_all := lw_g (lw_at lw_m3 192 rfl) rfl
theorem q779 : (Jvm.Cond.sameMethod "AcornYears$Steady" "AcornYears$Sort" "adds" "(I)I") ∈ lw_all := lw_g (lw_at lw_m3 193 rfl) rfl
theorem q781 : (Jvm.Cond.selects "AcornYears$Steady" ({ cls := "AcornYears$Steady", name := "adds", desc := "(I)I" } : Jvm.MethodName) ({ cls := "AcornYears$Sort", name := "adds", desc := "(I)I" } : Jvm.MethodName)) ∈ lw_all := lw_g (lw_at lw_m3 195 rfl) rfl
theorem q859 : (Jvm.Cond.selects "AcornYears$Steady" ({ cls := "AcornYears$Sort", name := "stores", desc := "()Z" } : Jvm.MethodName) ({ cls := "AcornYears$Steady", name := "stores", desc := "()Z" } : Jvm.MethodName)) ∈ lw_all := lw_g (lw_at lw_m4 33 rfl) rfl
theorem q860 : (Jvm.Cond.instanceMethod ({ cls := "AcornYears$Steady", name := "stores", desc := "()Z" } : Jvm.MethodName)) ∈ lw_all := lw_g (lw_at lw_m4 34 rfl) rfl
theorem q861 : (Jvm.Cond.code ({ cls := "AcornYears$Steady", name := "stores", desc := "()Z" } : Jvm.MethodName) prog_7_method_5_code (1 : Nat) (Option.some Jvm.ClassFile.FieldType.boolean)) ∈ lw_all := lw_g (lw_at lw_m4 35 rfl) rfl
theorem q875 : (Jvm.Cond.selects "AcornYears$Steady" ({ cls := "AcornYears$Sort", name := "blooms", desc := "(III)Z" } : Jvm.MethodName) ({ cls := "AcornYears$Steady", name := "blooms", desc := "(III)Z" } : Jvm.MethodName)) ∈ lw_all := lw_g (lw_at lw_m4 49 rfl) rfl
theorem q876 : (Jvm.Cond.instanceMethod ({ cls := "AcornYears$Steady", name := "blooms", desc := "(III)Z" } : Jvm.MethodName)) ∈ lw_all := lw_g (lw_at lw_m4 50 rfl) rfl
theorem q877 : (Jvm.Cond.code ({ cls := "AcornYears$Steady", name := "blooms", desc := "(III)Z" } : Jvm.MethodName) prog_7_method_6_code (4 : Nat) (Option.some Jvm.ClassFile.FieldType.boolean)) ∈ lw_all := lw_g (lw_at lw_m4 51 rfl) rfl
theorem q905 : (Jvm.Cond.selects "AcornYears$Steady" ({ cls := "AcornYears$Sort", name := "gives", desc := "(I)I" } : Jvm.MethodName) ({ cls := "AcornYears$Steady", name := "gives", desc := "(I)I" } : Jvm.MethodName)) ∈ lw_all := lw_g (lw_at lw_m4 79 rfl) rfl
theorem q906 : (Jvm.Cond.instanceMethod ({ cls := "AcornYears$Steady", name := "gives", desc := "(I)I" } : Jvm.MethodName)) ∈ lw_all := lw_g (lw_at lw_m4 80 rfl) rfl
theorem q907 : (Jvm.Cond.code ({ cls := "AcornYears$Steady", name := "gives", desc := "(I)I" } : Jvm.MethodName) prog_7_method_7_code (2 : Nat) (Option.some Jvm.ClassFile.FieldType.int)) ∈ lw_all := lw_g (lw_at lw_m4 81 rfl) rfl
theorem q933 : (Jvm.Cond.castable "AcornYears$Steady" "AcornYears$Pollen") ∈ lw_tbl := lw_at lw_m4 107 rfl
theorem q934 : (Jvm.Cond.unhidden "AcornYears$Steady" "sets" "(III)Z") ∈ lw_tbl := lw_at lw_m4 108 rfl
theorem q988 : (Jvm.Cond.selects "AcornYears$Steady" ({ cls := "AcornYears$Sort", name := "is", desc := "(I)Z" } : Jvm.MethodName) ({ cls := "AcornYears$Steady", name := "is", desc := "(I)Z" } : Jvm.MethodName)) ∈ lw_all := lw_g (lw_at lw_m4 162 rfl) rfl
theorem q989 : (Jvm.Cond.instanceMethod ({ cls := "AcornYears$Steady", name := "is", desc := "(I)Z" } : Jvm.MethodName)) ∈ lw_all := lw_g (lw_at lw_m4 163 rfl) rfl
theorem q990 : (Jvm.Cond.code ({ cls := "AcornYears$Steady", name := "is", desc := "(I)Z" } : Jvm.MethodName) prog_7_method_3_code (2 : Nat) (Option.some Jvm.ClassFile.FieldType.boolean)) ∈ lw_all := lw_g (lw_at lw_m4 164 rfl) rfl
theorem q991 : (Jvm.Cond.methodLink "AcornYears$Steady" (9 : Nat) ({ cls := "AcornYears$Sort", name := "is", desc := "(I)Z" } : Jvm.MethodName)) ∈ lw_all := lw_g (lw_at lw_m4 165 rfl) rfl
theorem q1010 : (Jvm.Cond.selects "AcornYears$Steady" ({ cls := "AcornYears$Sort", name := "tells", desc := "()I" } : Jvm.MethodName) ({ cls := "AcornYears$Steady", name := "tells", desc := "()I" } : Jvm.MethodName)) ∈ lw_all := lw_g (lw_at lw_m4 184 rfl) rfl
theorem q1791 : (Jvm.Cond.castable "AcornYears$Steady" "AcornYears$Sort") ∈ lw_tbl := lw_at lw_m8 5 rfl
theorem in_X4 : ∀ w ∈ wsX40, w ∈ lw_all := lw_in wsX40 [613] (by decide +kernel) (by decide +kernel)
/-! AcornYears$Warm -/
set_option maxRecDepth 100000
def RX5 : String := "AcornYears$Warm"
def TX5 : u_T := fun k => match k with
  | 0 => ("AcornYears$Sort", "adds", "[B", true)
  | 1 => ("AcornYears$Warm", "may", "I", true)
  | _ => ("AcornYears$Warm", "cost", "I", true)
def tyX5 : Nat → FieldType := fun k => match k with
  | 0 => .array .byte
  | 1 => .int
  | _ => .int
abbrev wsX50 : List Cond := u_ws RX5 TX5 3
theorem nmX5 : ∀ a, a < 3 → ∀ b, b < 3 → a ≠ b → (TX5 a).2.1 ≠ (TX5 b).2.1 := by decide +kernel
theorem tyX5_ok : ∀ k, k < 3 → parseFieldDescriptor (TX5 k).2.2.1 = some (tyX5 k) := by decide +kernel
abbrev cX5_init : ByteArray := prog_9_method_1_code
def yX5_init : MethodName := ⟨RX5, "<init>", "([BII)V"⟩
def dkwX5_init_0 : List UInt8 := [42, 43, 183, 0, 3, 42, 28, 181, 0, 9, 42, 29, 181, 0, 15, 177]
abbrev dktX5_init_0 : List UInt8 := dkwX5_init_0 ++ []
theorem dksX5_init_0 : cX5_init.data.toList.drop 0 = dktX5_init_0 := by decide +kernel
theorem dX5_init_0 : decode cX5_init 0 = .ok (.aload_n 0, 1) := dk_42 (dk_at dksX5_init_0 0 rfl rfl)
theorem dX5_init_1 : decode cX5_init 1 = .ok (.aload_n 1, 1) := dk_43 (dk_at dksX5_init_0 1 rfl rfl)
theorem dX5_init_2 : decode cX5_init 2 = .ok (.invokespecial 3, 3) := dk_183 0 3 (dk_at dksX5_init_0 2 rfl rfl)
theorem dX5_init_5 : decode cX5_init 5 = .ok (.aload_n 0, 1) := dk_42 (dk_at dksX5_init_0 5 rfl rfl)
theorem dX5_init_6 : decode cX5_init 6 = .ok (.iload_n 2, 1) := dk_28 (dk_at dksX5_init_0 6 rfl rfl)
theorem dX5_init_7 : decode cX5_init 7 = .ok (.putfield 9, 3) := dk_181 0 9 (dk_at dksX5_init_0 7 rfl rfl)
theorem dX5_init_10 : decode cX5_init 10 = .ok (.aload_n 0, 1) := dk_42 (dk_at dksX5_init_0 10 rfl rfl)
theorem dX5_init_11 : decode cX5_init 11 = .ok (.iload_n 3, 1) := dk_29 (dk_at dksX5_init_0 11 rfl rfl)
theorem dX5_init_12 : decode cX5_init 12 = .ok (.putfield 15, 3) := dk_181 0 15 (dk_at dksX5_init_0 12 rfl rfl)
theorem dX5_init_15 : decode cX5_init 15 = .ok (.return_, 1) := dk_177 (dk_at dksX5_init_0 15 rfl rfl)
abbrev cX5_kind : ByteArray := prog_9_method_2_code
def yX5_kind : MethodName := ⟨RX5, "kind", "()I"⟩
theorem dX5_kind_0 : decode cX5_kind 0 = .ok (.iconst 3, 1) := by decide +kernel
theorem dX5_kind_1 : decode cX5_kind 1 = .ok (.ireturn, 1) := by decide +kernel
abbrev cX5_tells : ByteArray := prog_9_method_4_code
def yX5_tells : MethodName := ⟨RX5, "tells", "()I"⟩
def dkwX5_tells_0 : List UInt8 := [16, 100, 42, 180, 0, 9, 104, 42, 180, 0, 15, 96, 172]
abbrev dktX5_tells_0 : List UInt8 := dkwX5_tells_0 ++ []
theorem dksX5_tells_0 : cX5_tells.data.toList.drop 0 = dktX5_tells_0 := by decide +kernel
theorem dX5_tells_0 : decode cX5_tells 0 = .ok (.bipush 100, 2) := dk_16 100 (dk_at dksX5_tells_0 0 rfl rfl)
theorem dX5_tells_2 : decode cX5_tells 2 = .ok (.aload_n 0, 1) := dk_42 (dk_at dksX5_tells_0 2 rfl rfl)
theorem dX5_tells_3 : decode cX5_tells 3 = .ok (.getfield 9, 3) := dk_180 0 9 (dk_at dksX5_tells_0 3 rfl rfl)
theorem dX5_tells_6 : decode cX5_tells 6 = .ok (.imul, 1) := dk_104 (dk_at dksX5_tells_0 6 rfl rfl)
theorem dX5_tells_7 : decode cX5_tells 7 = .ok (.aload_n 0, 1) := dk_42 (dk_at dksX5_tells_0 7 rfl rfl)
theorem dX5_tells_8 : decode cX5_tells 8 = .ok (.getfield 15, 3) := dk_180 0 15 (dk_at dksX5_tells_0 8 rfl rfl)
theorem dX5_tells_11 : decode cX5_tells 11 = .ok (.iadd, 1) := dk_96 (dk_at dksX5_tells_0 11 rfl rfl)
theorem dX5_tells_12 : decode cX5_tells 12 = .ok (.ireturn, 1) := dk_172 (dk_at dksX5_tells_0 12 rfl rfl)
abbrev cX5_blooms : ByteArray := prog_9_method_5_code
def yX5_blooms : MethodName := ⟨RX5, "blooms", "(III)Z"⟩
def dkwX5_blooms_0 : List UInt8 := [28, 42, 180, 0, 9, 161, 0, 15, 27, 42, 180, 0, 15, 161, 0, 7, 4, 167, 0, 4, 3, 172]
abbrev dktX5_blooms_0 : List UInt8 := dkwX5_blooms_0 ++ []
theorem dksX5_blooms_0 : cX5_blooms.data.toList.drop 0 = dktX5_blooms_0 := by decide +kernel
theorem dX5_blooms_0 : decode cX5_blooms 0 = .ok (.iload_n 2, 1) := dk_28 (dk_at dksX5_blooms_0 0 rfl rfl)
theorem dX5_blooms_1 : decode cX5_blooms 1 = .ok (.aload_n 0, 1) := dk_42 (dk_at dksX5_blooms_0 1 rfl rfl)
theorem dX5_blooms_2 : decode cX5_blooms 2 = .ok (.getfield 9, 3) := dk_180 0 9 (dk_at dksX5_blooms_0 2 rfl rfl)
theorem dX5_blooms_5 : decode cX5_blooms 5 = .ok (.if_icmp .lt 15, 3) := dk_161 0 15 (dk_at dksX5_blooms_0 5 rfl rfl)
theorem dX5_blooms_8 : decode cX5_blooms 8 = .ok (.iload_n 1, 1) := dk_27 (dk_at dksX5_blooms_0 8 rfl rfl)
theorem dX5_blooms_9 : decode cX5_blooms 9 = .ok (.aload_n 0, 1) := dk_42 (dk_at dksX5_blooms_0 9 rfl rfl)
theorem dX5_blooms_10 : decode cX5_blooms 10 = .ok (.getfield 15, 3) := dk_180 0 15 (dk_at dksX5_blooms_0 10 rfl rfl)
theorem dX5_blooms_13 : decode cX5_blooms 13 = .ok (.if_icmp .lt 7, 3) := dk_161 0 7 (dk_at dksX5_blooms_0 13 rfl rfl)
theorem dX5_blooms_16 : decode cX5_blooms 16 = .ok (.iconst 1, 1) := dk_4 (dk_at dksX5_blooms_0 16 rfl rfl)
theorem dX5_blooms_17 : decode cX5_blooms 17 = .ok (.goto 4, 3) := dk_167 0 4 (dk_at dksX5_blooms_0 17 rfl rfl)
theorem dX5_blooms_20 : decode cX5_blooms 20 = .ok (.iconst 0, 1) := dk_3 (dk_at dksX5_blooms_0 20 rfl rfl)
theorem dX5_blooms_21 : decode cX5_blooms 21 = .ok (.ireturn, 1) := dk_172 (dk_at dksX5_blooms_0 21 rfl rfl)
abbrev cX5_gives : ByteArray := prog_9_method_6_code
def yX5_gives : MethodName := ⟨RX5, "gives", "(I)I"⟩
theorem dX5_gives_0 : decode cX5_gives 0 = .ok (.aload_n 0, 1) := by decide +kernel
theorem dX5_gives_1 : decode cX5_gives 1 = .ok (.getfield 15, 3) := by decide +kernel
theorem dX5_gives_4 : decode cX5_gives 4 = .ok (.ireturn, 1) := by decide +kernel
abbrev cX5_is : ByteArray := prog_9_method_3_code
def yX5_is : MethodName := ⟨RX5, "is", "(I)Z"⟩
def dkwX5_is_0 : List UInt8 := [27, 6, 159, 0, 11, 42, 27, 183, 0, 18, 153, 0, 7, 4, 167, 0, 4, 3, 172]
abbrev dktX5_is_0 : List UInt8 := dkwX5_is_0 ++ []
theorem dksX5_is_0 : cX5_is.data.toList.drop 0 = dktX5_is_0 := by decide +kernel
theorem dX5_is_0 : decode cX5_is 0 = .ok (.iload_n 1, 1) := dk_27 (dk_at dksX5_is_0 0 rfl rfl)
theorem dX5_is_1 : decode cX5_is 1 = .ok (.iconst 3, 1) := dk_6 (dk_at dksX5_is_0 1 rfl rfl)
theorem dX5_is_2 : decode cX5_is 2 = .ok (.if_icmp .eq 11, 3) := dk_159 0 11 (dk_at dksX5_is_0 2 rfl rfl)
theorem dX5_is_5 : decode cX5_is 5 = .ok (.aload_n 0, 1) := dk_42 (dk_at dksX5_is_0 5 rfl rfl)
theorem dX5_is_6 : decode cX5_is 6 = .ok (.iload_n 1, 1) := dk_27 (dk_at dksX5_is_0 6 rfl rfl)
theorem dX5_is_7 : decode cX5_is 7 = .ok (.invokespecial 18, 3) := dk_183 0 18 (dk_at dksX5_is_0 7 rfl rfl)
theorem dX5_is_10 : decode cX5_is 10 = .ok (.ifCond .eq 7, 3) := dk_153 0 7 (dk_at dksX5_is_0 10 rfl rfl)
theorem dX5_is_13 : decode cX5_is 13 = .ok (.iconst 1, 1) := dk_4 (dk_at dksX5_is_0 13 rfl rfl)
theorem dX5_is_14 : decode cX5_is 14 = .ok (.goto 4, 3) := dk_167 0 4 (dk_at dksX5_is_0 14 rfl rfl)
theorem dX5_is_17 : decode cX5_is 17 = .ok (.iconst 0, 1) := dk_3 (dk_at dksX5_is_0 17 rfl rfl)
theorem dX5_is_18 : decode cX5_is 18 = .ok (.ireturn, 1) := dk_172 (dk_at dksX5_is_0 18 rfl rfl)
theorem q122 : (Jvm.Cond.initialized "AcornYears$Warm") ∈ lw_all := lw_g (lw_at lw_m1 16 rfl) rfl
theorem q621 : (Jvm.Cond.instantiable "AcornYears$Warm" (3 : Nat)) ∈ lw_all := lw_g (lw_at lw_m3 35 rfl) rfl
theorem q623 : (Jvm.Cond.instanceMethod ({ cls := "AcornYears$Warm", name := "<init>", desc := "([BII)V" } : Jvm.MethodName)) ∈ lw_all := lw_g (lw_at lw_m3 37 rfl) rfl
theorem q624 : (Jvm.Cond.code ({ cls := "AcornYears$Warm", name := "<init>", desc := "([BII)V" } : Jvm.MethodName) prog_9_method_1_code (4 : Nat) (Option.none : Option Jvm.ClassFile.FieldType)) ∈ lw_all := lw_g (lw_at lw_m3 38 rfl) rfl
theorem q625 : (Jvm.Cond.methodLink "AcornYears$Warm" (3 : Nat) ({ cls := "AcornYears$Sort", name := "<init>", desc := "([B)V" } : Jvm.MethodName)) ∈ lw_all := lw_g (lw_at lw_m3 39 rfl) rfl
theorem q626 : (Jvm.Cond.fieldLink "AcornYears$Warm" (9 : Nat) "AcornYears$Warm" "may" "I") ∈ lw_all := lw_g (lw_at lw_m3 40 rfl) rfl
theorem q627 : (Jvm.Cond.fieldLink "AcornYears$Warm" (15 : Nat) "AcornYears$Warm" "cost" "I") ∈ lw_all := lw_g (lw_at lw_m3 41 rfl) rfl
theorem q628 : (Jvm.Cond.laysFinal "AcornYears$Warm" "AcornYears$Warm" "may" "I") ∈ lw_all := lw_g (lw_at lw_m3 42 rfl) rfl
theorem q629 : (Jvm.Cond.soleField "AcornYears$Warm" "may") ∈ lw_all := lw_g (lw_at lw_m3 43 rfl) rfl
theorem q630 : (Jvm.Cond.laysFinal "AcornYears$Warm" "AcornYears$Warm" "cost" "I") ∈ lw_all := lw_g (lw_at lw_m3 44 rfl) rfl
theorem q631 : (Jvm.Cond.soleField "AcornYears$Warm" "cost") ∈ lw_all := lw_g (lw_at lw_m3 45 rfl) rfl
theorem q632 : (Jvm.Cond.laysFinal "AcornYears$Warm" "AcornYears$Sort" "adds" "[B") ∈ lw_all := lw_g (lw_at lw_m3 46 rfl) rfl
theorem q633 : (Jvm.Cond.superclass "AcornYears$Warm" "AcornYears$Sort") ∈ lw_all := lw_g (lw_at lw_m3 47 rfl) rfl
theorem q735 : (Jvm.Cond.selects "AcornYears$Warm" ({ cls := "AcornYears$Sort", name := "adds", desc := "(I)I" } : Jvm.MethodName) ({ cls := "AcornYears$Sort", name := "adds", desc := "(I)I" } : Jvm.MethodName)) ∈ lw_all := lw_g (lw_at lw_m3 149 rfl) rfl
theorem q752 : (Jvm.Cond.selects "AcornYears$Warm" ({ cls := "AcornYears$Sort", name := "kind", desc := "()I" } : Jvm.MethodName) ({ cls := "AcornYears$Warm", name := "kind", desc := "()I" } : Jvm.MethodName)) ∈ lw_all := lw_g (lw_at lw_m3 166 rfl) rfl
theorem q753 : (Jvm.Cond.instanceMethod ({ cls := "AcornYears$Warm", name := "kind", desc := "()I" } : Jvm.MethodName)) ∈ lw_all := lw_g (lw_at lw_m3 167 rfl) rfl
theorem q754 : (Jvm.Cond.code ({ cls := "AcornYears$Warm", name := "kind", desc := "()I" } : Jvm.MethodName) prog_9_method_2_code (1 : Nat) (Option.some Jvm.ClassFile.FieldType.int)) ∈ lw_all := lw_g (lw_at lw_m3 168 rfl) rfl
theorem q790 : (Jvm.Cond.instanceMethod ({ cls := "AcornYears$Warm", name := "tells", desc := "()I" } : Jvm.MethodName)) ∈ lw_all := lw_g (lw_at lw_m3 204 rfl) rfl
theorem q791 : (Jvm.Cond.selects "AcornYears$Warm" ({ cls := "AcornYears$Warm", name := "tells", desc := "()I" } : Jvm.MethodName) ({ cls := "AcornYears$Warm", name := "tells", desc := "()I" } : Jvm.MethodName)) ∈ lw_all := lw_g (lw_at lw_m3 205 rfl) rfl
theorem q792 : (Jvm.Cond.code ({ cls := "AcornYears$Warm", name := "tells", desc := "()I" } : Jvm.MethodName) prog_9_method_4_code (1 : Nat) (Option.some Jvm.ClassFile.FieldType.int)) ∈ lw_all := lw_g (lw_at lw_m3 206 rfl) rfl
theorem q862 : (Jvm.Cond.selects "AcornYears$Warm" ({ cls := "AcornYears$Sort", name := "stores", desc := "()Z" } : Jvm.MethodName) ({ cls := "AcornYears$Sort", name := "stores", desc := "()Z" } : Jvm.MethodName)) ∈ lw_all := lw_g (lw_at lw_m4 36 rfl) rfl
theorem q878 : (Jvm.Cond.selects "AcornYears$Warm" ({ cls := "AcornYears$Sort", name := "blooms", desc := "(III)Z" } : Jvm.MethodName) ({ cls := "AcornYears$Warm", name := "blooms", desc := "(III)Z" } : Jvm.MethodName)) ∈ lw_all := lw_g (lw_at lw_m4 52 rfl) rfl
theorem q879 : (Jvm.Cond.instanceMethod ({ cls := "AcornYears$Warm", name := "blooms", desc := "(III)Z" } : Jvm.MethodName)) ∈ lw_all := lw_g (lw_at lw_m4 53 rfl) rfl
theorem q880 : (Jvm.Cond.code ({ cls := "AcornYears$Warm", name := "blooms", desc := "(III)Z" } : Jvm.MethodName) prog_9_method_5_code (4 : Nat) (Option.some Jvm.ClassFile.FieldType.boolean)) ∈ lw_all := lw_g (lw_at lw_m4 54 rfl) rfl
theorem q908 : (Jvm.Cond.selects "AcornYears$Warm" ({ cls := "AcornYears$Sort", name := "gives", desc := "(I)I" } : Jvm.MethodName) ({ cls := "AcornYears$Warm", name := "gives", desc := "(I)I" } : Jvm.MethodName)) ∈ lw_all := lw_g (lw_at lw_m4 82 rfl) rfl
theorem q909 : (Jvm.Cond.instanceMethod ({ cls := "AcornYears$Warm", name := "gives", desc := "(I)I" } : Jvm.MethodName)) ∈ lw_all := lw_g (lw_at lw_m4 83 rfl) rfl
theorem q910 : (Jvm.Cond.code ({ cls := "AcornYears$Warm", name := "gives", desc := "(I)I" } : Jvm.MethodName) prog_9_method_6_code (2 : Nat) (Option.some Jvm.ClassFile.FieldType.int)) ∈ lw_all := lw_g (lw_at lw_m4 84 rfl) rfl
theorem q935 : (Jvm.Cond.castable "AcornYears$Warm" "AcornYears$Pollen") ∈ lw_tbl := lw_at lw_m4 109 rfl
theorem q936 : (Jvm.Cond.unhidden "AcornYears$Warm" "sets" "(III)Z") ∈ lw_tbl := lw_at lw_m4 110 rfl
theorem q992 : (Jvm.Cond.selects "AcornYears$Warm" ({ cls := "AcornYears$Sort", name := "is", desc := "(I)Z" } : Jvm.MethodName) ({ cls := "AcornYears$Warm", name := "is", desc := "(I)Z" } : Jvm.MethodName)) ∈ lw_all := lw_g (lw_at lw_m4 166 rfl) rfl
theorem q993 : (Jvm.Cond.instanceMethod ({ cls := "AcornYears$Warm", name := "is", desc := "(I)Z" } : Jvm.MethodName)) ∈ lw_all := lw_g (lw_at lw_m4 167 rfl) rfl
theorem q994 : (Jvm.Cond.code ({ cls := "AcornYears$Warm", name := "is", desc := "(I)Z" } : Jvm.MethodName) prog_9_method_3_code (2 : Nat) (Option.some Jvm.ClassFile.FieldType.boolean)) ∈ lw_all := lw_g (lw_at lw_m4 168 rfl) rfl
theorem q995 : (Jvm.Cond.methodLink "AcornYears$Warm" (18 : Nat) ({ cls := "AcornYears$Sort", name := "is", desc := "(I)Z" } : Jvm.MethodName)) ∈ lw_all := lw_g (lw_at lw_m4 169 rfl) rfl
theorem q1011 : (Jvm.Cond.selects "AcornYears$Warm" ({ cls := "AcornYears$Sort", name := "tells", desc := "()I" } : Jvm.MethodName) ({ cls := "AcornYears$Warm", name := "tells", desc := "()I" } : Jvm.MethodName)) ∈ lw_all := lw_g (lw_at lw_m4 185 rfl) rfl
theorem q1792 : (Jvm.Cond.castable "AcornYears$Warm" "AcornYears$Sort") ∈ lw_tbl := lw_at lw_m8 6 rfl
theorem in_X5 : ∀ w ∈ wsX50, w ∈ lw_all := lw_in wsX50 [632, 628, 630] (by decide +kernel) (by decide +kernel)
/-! AcornYears$Saver -/
set_option maxRecDepth 100000
def RX6 : String := "AcornYears$Saver"
def TX6 : u_T := fun k => match k with
  | 0 => ("AcornYears$Sort", "adds", "[B", true)
  | 1 => ("AcornYears$Saver", "above", "I", true)
  | _ => ("AcornYears$Saver", "cost", "I", true)
def tyX6 : Nat → FieldType := fun k => match k with
  | 0 => .array .byte
  | 1 => .int
  | _ => .int
abbrev wsX60 : List Cond := u_ws RX6 TX6 3
theorem nmX6 : ∀ a, a < 3 → ∀ b, b < 3 → a ≠ b → (TX6 a).2.1 ≠ (TX6 b).2.1 := by decide +kernel
theorem tyX6_ok : ∀ k, k < 3 → parseFieldDescriptor (TX6 k).2.2.1 = some (tyX6 k) := by decide +kernel
abbrev cX6_init : ByteArray := prog_5_method_1_code
def yX6_init : MethodName := ⟨RX6, "<init>", "([BII)V"⟩
def dkwX6_init_0 : List UInt8 := [42, 43, 183, 0, 3, 42, 28, 181, 0, 9, 42, 29, 181, 0, 15, 177]
abbrev dktX6_init_0 : List UInt8 := dkwX6_init_0 ++ []
theorem dksX6_init_0 : cX6_init.data.toList.drop 0 = dktX6_init_0 := by decide +kernel
theorem dX6_init_0 : decode cX6_init 0 = .ok (.aload_n 0, 1) := dk_42 (dk_at dksX6_init_0 0 rfl rfl)
theorem dX6_init_1 : decode cX6_init 1 = .ok (.aload_n 1, 1) := dk_43 (dk_at dksX6_init_0 1 rfl rfl)
theorem dX6_init_2 : decode cX6_init 2 = .ok (.invokespecial 3, 3) := dk_183 0 3 (dk_at dksX6_init_0 2 rfl rfl)
theorem dX6_init_5 : decode cX6_init 5 = .ok (.aload_n 0, 1) := dk_42 (dk_at dksX6_init_0 5 rfl rfl)
theorem dX6_init_6 : decode cX6_init 6 = .ok (.iload_n 2, 1) := dk_28 (dk_at dksX6_init_0 6 rfl rfl)
theorem dX6_init_7 : decode cX6_init 7 = .ok (.putfield 9, 3) := dk_181 0 9 (dk_at dksX6_init_0 7 rfl rfl)
theorem dX6_init_10 : decode cX6_init 10 = .ok (.aload_n 0, 1) := dk_42 (dk_at dksX6_init_0 10 rfl rfl)
theorem dX6_init_11 : decode cX6_init 11 = .ok (.iload_n 3, 1) := dk_29 (dk_at dksX6_init_0 11 rfl rfl)
theorem dX6_init_12 : decode cX6_init 12 = .ok (.putfield 15, 3) := dk_181 0 15 (dk_at dksX6_init_0 12 rfl rfl)
theorem dX6_init_15 : decode cX6_init 15 = .ok (.return_, 1) := dk_177 (dk_at dksX6_init_0 15 rfl rfl)
abbrev cX6_kind : ByteArray := prog_5_method_2_code
def yX6_kind : MethodName := ⟨RX6, "kind", "()I"⟩
theorem dX6_kind_0 : decode cX6_kind 0 = .ok (.iconst 2, 1) := by decide +kernel
theorem dX6_kind_1 : decode cX6_kind 1 = .ok (.ireturn, 1) := by decide +kernel
abbrev cX6_saves : ByteArray := prog_5_method_5_code
def yX6_saves : MethodName := ⟨RX6, "saves", "()I"⟩
def dkwX6_saves_0 : List UInt8 := [16, 100, 42, 180, 0, 9, 104, 42, 180, 0, 15, 96, 172]
abbrev dktX6_saves_0 : List UInt8 := dkwX6_saves_0 ++ []
theorem dksX6_saves_0 : cX6_saves.data.toList.drop 0 = dktX6_saves_0 := by decide +kernel
theorem dX6_saves_0 : decode cX6_saves 0 = .ok (.bipush 100, 2) := dk_16 100 (dk_at dksX6_saves_0 0 rfl rfl)
theorem dX6_saves_2 : decode cX6_saves 2 = .ok (.aload_n 0, 1) := dk_42 (dk_at dksX6_saves_0 2 rfl rfl)
theorem dX6_saves_3 : decode cX6_saves 3 = .ok (.getfield 9, 3) := dk_180 0 9 (dk_at dksX6_saves_0 3 rfl rfl)
theorem dX6_saves_6 : decode cX6_saves 6 = .ok (.imul, 1) := dk_104 (dk_at dksX6_saves_0 6 rfl rfl)
theorem dX6_saves_7 : decode cX6_saves 7 = .ok (.aload_n 0, 1) := dk_42 (dk_at dksX6_saves_0 7 rfl rfl)
theorem dX6_saves_8 : decode cX6_saves 8 = .ok (.getfield 15, 3) := dk_180 0 15 (dk_at dksX6_saves_0 8 rfl rfl)
theorem dX6_saves_11 : decode cX6_saves 11 = .ok (.iadd, 1) := dk_96 (dk_at dksX6_saves_0 11 rfl rfl)
theorem dX6_saves_12 : decode cX6_saves 12 = .ok (.ireturn, 1) := dk_172 (dk_at dksX6_saves_0 12 rfl rfl)
abbrev cX6_blooms : ByteArray := prog_5_method_6_code
def yX6_blooms : MethodName := ⟨RX6, "blooms", "(III)Z"⟩
def dkwX6_blooms_0 : List UInt8 := [27, 42, 180, 0, 9, 164, 0, 7, 4, 167, 0, 4, 3, 172]
abbrev dktX6_blooms_0 : List UInt8 := dkwX6_blooms_0 ++ []
theorem dksX6_blooms_0 : cX6_blooms.data.toList.drop 0 = dktX6_blooms_0 := by decide +kernel
theorem dX6_blooms_0 : decode cX6_blooms 0 = .ok (.iload_n 1, 1) := dk_27 (dk_at dksX6_blooms_0 0 rfl rfl)
theorem dX6_blooms_1 : decode cX6_blooms 1 = .ok (.aload_n 0, 1) := dk_42 (dk_at dksX6_blooms_0 1 rfl rfl)
theorem dX6_blooms_2 : decode cX6_blooms 2 = .ok (.getfield 9, 3) := dk_180 0 9 (dk_at dksX6_blooms_0 2 rfl rfl)
theorem dX6_blooms_5 : decode cX6_blooms 5 = .ok (.if_icmp .le 7, 3) := dk_164 0 7 (dk_at dksX6_blooms_0 5 rfl rfl)
theorem dX6_blooms_8 : decode cX6_blooms 8 = .ok (.iconst 1, 1) := dk_4 (dk_at dksX6_blooms_0 8 rfl rfl)
theorem dX6_blooms_9 : decode cX6_blooms 9 = .ok (.goto 4, 3) := dk_167 0 4 (dk_at dksX6_blooms_0 9 rfl rfl)
theorem dX6_blooms_12 : decode cX6_blooms 12 = .ok (.iconst 0, 1) := dk_3 (dk_at dksX6_blooms_0 12 rfl rfl)
theorem dX6_blooms_13 : decode cX6_blooms 13 = .ok (.ireturn, 1) := dk_172 (dk_at dksX6_blooms_0 13 rfl rfl)
abbrev cX6_gives : ByteArray := prog_5_method_7_code
def yX6_gives : MethodName := ⟨RX6, "gives", "(I)I"⟩
theorem dX6_gives_0 : decode cX6_gives 0 = .ok (.aload_n 0, 1) := by decide +kernel
theorem dX6_gives_1 : decode cX6_gives 1 = .ok (.getfield 15, 3) := by decide +kernel
theorem dX6_gives_4 : decode cX6_gives 4 = .ok (.ireturn, 1) := by decide +kernel
abbrev cX6_is : ByteArray := prog_5_method_3_code
def yX6_is : MethodName := ⟨RX6, "is", "(I)Z"⟩
def dkwX6_is_0 : List UInt8 := [27, 5, 159, 0, 11, 42, 27, 183, 0, 18, 153, 0, 7, 4, 167, 0, 4, 3, 172]
abbrev dktX6_is_0 : List UInt8 := dkwX6_is_0 ++ []
theorem dksX6_is_0 : cX6_is.data.toList.drop 0 = dktX6_is_0 := by decide +kernel
theorem dX6_is_0 : decode cX6_is 0 = .ok (.iload_n 1, 1) := dk_27 (dk_at dksX6_is_0 0 rfl rfl)
theorem dX6_is_1 : decode cX6_is 1 = .ok (.iconst 2, 1) := dk_5 (dk_at dksX6_is_0 1 rfl rfl)
theorem dX6_is_2 : decode cX6_is 2 = .ok (.if_icmp .eq 11, 3) := dk_159 0 11 (dk_at dksX6_is_0 2 rfl rfl)
theorem dX6_is_5 : decode cX6_is 5 = .ok (.aload_n 0, 1) := dk_42 (dk_at dksX6_is_0 5 rfl rfl)
theorem dX6_is_6 : decode cX6_is 6 = .ok (.iload_n 1, 1) := dk_27 (dk_at dksX6_is_0 6 rfl rfl)
theorem dX6_is_7 : decode cX6_is 7 = .ok (.invokespecial 18, 3) := dk_183 0 18 (dk_at dksX6_is_0 7 rfl rfl)
theorem dX6_is_10 : decode cX6_is 10 = .ok (.ifCond .eq 7, 3) := dk_153 0 7 (dk_at dksX6_is_0 10 rfl rfl)
theorem dX6_is_13 : decode cX6_is 13 = .ok (.iconst 1, 1) := dk_4 (dk_at dksX6_is_0 13 rfl rfl)
theorem dX6_is_14 : decode cX6_is 14 = .ok (.goto 4, 3) := dk_167 0 4 (dk_at dksX6_is_0 14 rfl rfl)
theorem dX6_is_17 : decode cX6_is 17 = .ok (.iconst 0, 1) := dk_3 (dk_at dksX6_is_0 17 rfl rfl)
theorem dX6_is_18 : decode cX6_is 18 = .ok (.ireturn, 1) := dk_172 (dk_at dksX6_is_0 18 rfl rfl)
abbrev cX6_tells : ByteArray := prog_5_method_4_code
def yX6_tells : MethodName := ⟨RX6, "tells", "()I"⟩
theorem dX6_tells_0 : decode cX6_tells 0 = .ok (.aload_n 0, 1) := by decide +kernel
theorem dX6_tells_1 : decode cX6_tells 1 = .ok (.invokevirtual 22, 3) := by decide +kernel
theorem dX6_tells_4 : decode cX6_tells 4 = .ok (.ireturn, 1) := by decide +kernel
theorem q124 : (Jvm.Cond.initialized "AcornYears$Saver") ∈ lw_all := lw_g (lw_at lw_m1 18 rfl) rfl
theorem q642 : (Jvm.Cond.instantiable "AcornYears$Saver" (3 : Nat)) ∈ lw_all := lw_g (lw_at lw_m3 56 rfl) rfl
theorem q644 : (Jvm.Cond.instanceMethod ({ cls := "AcornYears$Saver", name := "<init>", desc := "([BII)V" } : Jvm.MethodName)) ∈ lw_all := lw_g (lw_at lw_m3 58 rfl) rfl
theorem q645 : (Jvm.Cond.code ({ cls := "AcornYears$Saver", name := "<init>", desc := "([BII)V" } : Jvm.MethodName) prog_5_method_1_code (4 : Nat) (Option.none : Option Jvm.ClassFile.FieldType)) ∈ lw_all := lw_g (lw_at lw_m3 59 rfl) rfl
theorem q646 : (Jvm.Cond.methodLink "AcornYears$Saver" (3 : Nat) ({ cls := "AcornYears$Sort", name := "<init>", desc := "([B)V" } : Jvm.MethodName)) ∈ lw_all := lw_g (lw_at lw_m3 60 rfl) rfl
theorem q647 : (Jvm.Cond.fieldLink "AcornYears$Saver" (9 : Nat) "AcornYears$Saver" "above" "I") ∈ lw_all := lw_g (lw_at lw_m3 61 rfl) rfl
theorem q648 : (Jvm.Cond.fieldLink "AcornYears$Saver" (15 : Nat) "AcornYears$Saver" "cost" "I") ∈ lw_all := lw_g (lw_at lw_m3 62 rfl) rfl
theorem q649 : (Jvm.Cond.laysFinal "AcornYears$Saver" "AcornYears$Saver" "above" "I") ∈ lw_all := lw_g (lw_at lw_m3 63 rfl) rfl
theorem q650 : (Jvm.Cond.soleField "AcornYears$Saver" "above") ∈ lw_all := lw_g (lw_at lw_m3 64 rfl) rfl
theorem q651 : (Jvm.Cond.laysFinal "AcornYears$Saver" "AcornYears$Saver" "cost" "I") ∈ lw_all := lw_g (lw_at lw_m3 65 rfl) rfl
theorem q652 : (Jvm.Cond.soleField "AcornYears$Saver" "cost") ∈ lw_all := lw_g (lw_at lw_m3 66 rfl) rfl
theorem q653 : (Jvm.Cond.laysFinal "AcornYears$Saver" "AcornYears$Sort" "adds" "[B") ∈ lw_all := lw_g (lw_at lw_m3 67 rfl) rfl
theorem q654 : (Jvm.Cond.superclass "AcornYears$Saver" "AcornYears$Sort") ∈ lw_all := lw_g (lw_at lw_m3 68 rfl) rfl
theorem q733 : (Jvm.Cond.selects "AcornYears$Saver" ({ cls := "AcornYears$Sort", name := "adds", desc := "(I)I" } : Jvm.MethodName) ({ cls := "AcornYears$Sort", name := "adds", desc := "(I)I" } : Jvm.MethodName)) ∈ lw_all := lw_g (lw_at lw_m3 147 rfl) rfl
theorem q746 : (Jvm.Cond.selects "AcornYears$Saver" ({ cls := "AcornYears$Sort", name := "kind", desc := "()I" } : Jvm.MethodName) ({ cls := "AcornYears$Saver", name := "kind", desc := "()I" } : Jvm.MethodName)) ∈ lw_all := lw_g (lw_at lw_m3 160 rfl) rfl
theorem q747 : (Jvm.Cond.instanceMethod ({ cls := "AcornYears$Saver", name := "kind", desc := "()I" } : Jvm.MethodName)) ∈ lw_all := lw_g (lw_at lw_m3 161 rfl) rfl
theorem q748 : (Jvm.Cond.code ({ cls := "AcornYears$Saver", name := "kind", desc := "()I" } : Jvm.MethodName) prog_5_method_2_code (1 : Nat) (Option.some Jvm.ClassFile.FieldType.int)) ∈ lw_all := lw_g (lw_at lw_m3 162 rfl) rfl
theorem q783 : (Jvm.Cond.instanceMethod ({ cls := "AcornYears$Saver", name := "saves", desc := "()I" } : Jvm.MethodName)) ∈ lw_all := lw_g (lw_at lw_m3 197 rfl) rfl
theorem q784 : (Jvm.Cond.selects "AcornYears$Saver" ({ cls := "AcornYears$Saver", name := "saves", desc := "()I" } : Jvm.MethodName) ({ cls := "AcornYears$Saver", name := "saves", desc := "()I" } : Jvm.MethodName)) ∈ lw_all := lw_g (lw_at lw_m3 198 rfl) rfl
theorem q785 : (Jvm.Cond.sameMethod "AcornYears$Saver" "AcornYears$Saver" "saves" "()I") ∈ lw_all := lw_g (lw_at lw_m3 199 rfl) rfl
theorem q788 : (Jvm.Cond.code ({ cls := "AcornYears$Saver", name := "saves", desc := "()I" } : Jvm.MethodName) prog_5_method_5_code (1 : Nat) (Option.some Jvm.ClassFile.FieldType.int)) ∈ lw_all := lw_g (lw_at lw_m3 202 rfl) rfl
theorem q858 : (Jvm.Cond.selects "AcornYears$Saver" ({ cls := "AcornYears$Sort", name := "stores", desc := "()Z" } : Jvm.MethodName) ({ cls := "AcornYears$Sort", name := "stores", desc := "()Z" } : Jvm.MethodName)) ∈ lw_all := lw_g (lw_at lw_m4 32 rfl) rfl
theorem q868 : (Jvm.Cond.instanceMethod ({ cls := "AcornYears$Saver", name := "blooms", desc := "(III)Z" } : Jvm.MethodName)) ∈ lw_all := lw_g (lw_at lw_m4 42 rfl) rfl
theorem q869 : (Jvm.Cond.code ({ cls := "AcornYears$Saver", name := "blooms", desc := "(III)Z" } : Jvm.MethodName) prog_5_method_6_code (4 : Nat) (Option.some Jvm.ClassFile.FieldType.boolean)) ∈ lw_all := lw_g (lw_at lw_m4 43 rfl) rfl
theorem q874 : (Jvm.Cond.selects "AcornYears$Saver" ({ cls := "AcornYears$Sort", name := "blooms", desc := "(III)Z" } : Jvm.MethodName) ({ cls := "AcornYears$Saver", name := "blooms", desc := "(III)Z" } : Jvm.MethodName)) ∈ lw_all := lw_g (lw_at lw_m4 48 rfl) rfl
theorem q901 : (Jvm.Cond.instanceMethod ({ cls := "AcornYears$Saver", name := "gives", desc := "(I)I" } : Jvm.MethodName)) ∈ lw_all := lw_g (lw_at lw_m4 75 rfl) rfl
theorem q902 : (Jvm.Cond.code ({ cls := "AcornYears$Saver", name := "gives", desc := "(I)I" } : Jvm.MethodName) prog_5_method_7_code (2 : Nat) (Option.some Jvm.ClassFile.FieldType.int)) ∈ lw_all := lw_g (lw_at lw_m4 76 rfl) rfl
theorem q904 : (Jvm.Cond.selects "AcornYears$Saver" ({ cls := "AcornYears$Sort", name := "gives", desc := "(I)I" } : Jvm.MethodName) ({ cls := "AcornYears$Saver", name := "gives", desc := "(I)I" } : Jvm.MethodName)) ∈ lw_all := lw_g (lw_at lw_m4 78 rfl) rfl
theorem q931 : (Jvm.Cond.castable "AcornYears$Saver" "AcornYears$Pollen") ∈ lw_tbl := lw_at lw_m4 105 rfl
theorem q932 : (Jvm.Cond.unhidden "AcornYears$Saver" "sets" "(III)Z") ∈ lw_tbl := lw_at lw_m4 106 rfl
theorem q980 : (Jvm.Cond.instanceMethod ({ cls := "AcornYears$Saver", name := "is", desc := "(I)Z" } : Jvm.MethodName)) ∈ lw_all := lw_g (lw_at lw_m4 154 rfl) rfl
theorem q981 : (Jvm.Cond.code ({ cls := "AcornYears$Saver", name := "is", desc := "(I)Z" } : Jvm.MethodName) prog_5_method_3_code (2 : Nat) (Option.some Jvm.ClassFile.FieldType.boolean)) ∈ lw_all := lw_g (lw_at lw_m4 155 rfl) rfl
theorem q982 : (Jvm.Cond.methodLink "AcornYears$Saver" (18 : Nat) ({ cls := "AcornYears$Sort", name := "is", desc := "(I)Z" } : Jvm.MethodName)) ∈ lw_all := lw_g (lw_at lw_m4 156 rfl) rfl
theorem q987 : (Jvm.Cond.selects "AcornYears$Saver" ({ cls := "AcornYears$Sort", name := "is", desc := "(I)Z" } : Jvm.MethodName) ({ cls := "AcornYears$Saver", name := "is", desc := "(I)Z" } : Jvm.MethodName)) ∈ lw_all := lw_g (lw_at lw_m4 161 rfl) rfl
theorem q1006 : (Jvm.Cond.selects "AcornYears$Saver" ({ cls := "AcornYears$Sort", name := "tells", desc := "()I" } : Jvm.MethodName) ({ cls := "AcornYears$Saver", name := "tells", desc := "()I" } : Jvm.MethodName)) ∈ lw_all := lw_g (lw_at lw_m4 180 rfl) rfl
theorem q1007 : (Jvm.Cond.instanceMethod ({ cls := "AcornYears$Saver", name := "tells", desc := "()I" } : Jvm.MethodName)) ∈ lw_all := lw_g (lw_at lw_m4 181 rfl) rfl
theorem q1008 : (Jvm.Cond.code ({ cls := "AcornYears$Saver", name := "tells", desc := "()I" } : Jvm.MethodName) prog_5_method_4_code (1 : Nat) (Option.some Jvm.ClassFile.FieldType.int)) ∈ lw_all := lw_g (lw_at lw_m4 182 rfl) rfl
theorem q1009 : (Jvm.Cond.methodLink "AcornYears$Saver" (22 : Nat) ({ cls := "AcornYears$Saver", name := "saves", desc := "()I" } : Jvm.MethodName)) ∈ lw_all := lw_g (lw_at lw_m4 183 rfl) rfl
theorem q1786 : (Jvm.Cond.sameMethod "AcornYears$Saver" "AcornYears$Saver" "blooms" "(III)Z") ∈ lw_all := lw_g (lw_at lw_m8 0 rfl) rfl
theorem q1787 : (Jvm.Cond.sameMethod "AcornYears$Saver" "AcornYears$Saver" "is" "(I)Z") ∈ lw_all := lw_g (lw_at lw_m8 1 rfl) rfl
theorem q1793 : (Jvm.Cond.castable "AcornYears$Saver" "AcornYears$Sort") ∈ lw_tbl := lw_at lw_m8 7 rfl
theorem in_X6 : ∀ w ∈ wsX60, w ∈ lw_all := lw_in wsX60 [653, 649, 651] (by decide +kernel) (by decide +kernel)
/-! AcornYears$Needing -/
set_option maxRecDepth 100000
def RX7 : String := "AcornYears$Needing"
def TX7 : u_T := fun k => match k with
  | 0 => ("AcornYears$Sort", "adds", "[B", true)
  | 1 => ("AcornYears$Saver", "above", "I", true)
  | 2 => ("AcornYears$Saver", "cost", "I", true)
  | _ => ("AcornYears$Needing", "part", "I", true)
def tyX7 : Nat → FieldType := fun k => match k with
  | 0 => .array .byte
  | 1 => .int
  | 2 => .int
  | _ => .int
abbrev wsX70 : List Cond := u_ws RX7 TX7 4
theorem nmX7 : ∀ a, a < 4 → ∀ b, b < 4 → a ≠ b → (TX7 a).2.1 ≠ (TX7 b).2.1 := by decide +kernel
theorem tyX7_ok : ∀ k, k < 4 → parseFieldDescriptor (TX7 k).2.2.1 = some (tyX7 k) := by decide +kernel
abbrev cX7_init : ByteArray := prog_2_method_1_code
def yX7_init : MethodName := ⟨RX7, "<init>", "([BIII)V"⟩
def dkwX7_init_0 : List UInt8 := [42, 43, 28, 29, 183, 0, 3, 42, 21, 4, 181, 0, 9, 177]
abbrev dktX7_init_0 : List UInt8 := dkwX7_init_0 ++ []
theorem dksX7_init_0 : cX7_init.data.toList.drop 0 = dktX7_init_0 := by decide +kernel
theorem dX7_init_0 : decode cX7_init 0 = .ok (.aload_n 0, 1) := dk_42 (dk_at dksX7_init_0 0 rfl rfl)
theorem dX7_init_1 : decode cX7_init 1 = .ok (.aload_n 1, 1) := dk_43 (dk_at dksX7_init_0 1 rfl rfl)
theorem dX7_init_2 : decode cX7_init 2 = .ok (.iload_n 2, 1) := dk_28 (dk_at dksX7_init_0 2 rfl rfl)
theorem dX7_init_3 : decode cX7_init 3 = .ok (.iload_n 3, 1) := dk_29 (dk_at dksX7_init_0 3 rfl rfl)
theorem dX7_init_4 : decode cX7_init 4 = .ok (.invokespecial 3, 3) := dk_183 0 3 (dk_at dksX7_init_0 4 rfl rfl)
theorem dX7_init_7 : decode cX7_init 7 = .ok (.aload_n 0, 1) := dk_42 (dk_at dksX7_init_0 7 rfl rfl)
theorem dX7_init_8 : decode cX7_init 8 = .ok (.iload 4, 2) := dk_21 4 (dk_at dksX7_init_0 8 rfl rfl)
theorem dX7_init_10 : decode cX7_init 10 = .ok (.putfield 9, 3) := dk_181 0 9 (dk_at dksX7_init_0 10 rfl rfl)
theorem dX7_init_13 : decode cX7_init 13 = .ok (.return_, 1) := dk_177 (dk_at dksX7_init_0 13 rfl rfl)
abbrev cX7_kind : ByteArray := prog_2_method_2_code
def yX7_kind : MethodName := ⟨RX7, "kind", "()I"⟩
theorem dX7_kind_0 : decode cX7_kind 0 = .ok (.iconst 4, 1) := by decide +kernel
theorem dX7_kind_1 : decode cX7_kind 1 = .ok (.ireturn, 1) := by decide +kernel
abbrev cX7_sets : ByteArray := prog_2_method_5_code
def yX7_sets : MethodName := ⟨RX7, "sets", "(III)Z"⟩
def dkwX7_sets_1 : List UInt8 := [167, 0, 4, 3, 172]
abbrev dktX7_sets_1 : List UInt8 := dkwX7_sets_1 ++ []
def dkwX7_sets_0 : List UInt8 := [16, 100, 27, 104, 29, 156, 0, 10, 42, 180, 0, 9, 167, 0, 4, 29, 28, 104, 161, 0, 7, 4]
abbrev dktX7_sets_0 : List UInt8 := dkwX7_sets_0 ++ dktX7_sets_1
theorem dksX7_sets_0 : cX7_sets.data.toList.drop 0 = dktX7_sets_0 := by decide +kernel
theorem dksX7_sets_1 : cX7_sets.data.toList.drop 22 = dktX7_sets_1 := dk_seg dksX7_sets_0 22 rfl rfl
theorem dX7_sets_0 : decode cX7_sets 0 = .ok (.bipush 100, 2) := dk_16 100 (dk_at dksX7_sets_0 0 rfl rfl)
theorem dX7_sets_2 : decode cX7_sets 2 = .ok (.iload_n 1, 1) := dk_27 (dk_at dksX7_sets_0 2 rfl rfl)
theorem dX7_sets_3 : decode cX7_sets 3 = .ok (.imul, 1) := dk_104 (dk_at dksX7_sets_0 3 rfl rfl)
theorem dX7_sets_4 : decode cX7_sets 4 = .ok (.iload_n 3, 1) := dk_29 (dk_at dksX7_sets_0 4 rfl rfl)
theorem dX7_sets_5 : decode cX7_sets 5 = .ok (.ifCond .ge 10, 3) := dk_156 0 10 (dk_at dksX7_sets_0 5 rfl rfl)
theorem dX7_sets_8 : decode cX7_sets 8 = .ok (.aload_n 0, 1) := dk_42 (dk_at dksX7_sets_0 8 rfl rfl)
theorem dX7_sets_9 : decode cX7_sets 9 = .ok (.getfield 9, 3) := dk_180 0 9 (dk_at dksX7_sets_0 9 rfl rfl)
theorem dX7_sets_12 : decode cX7_sets 12 = .ok (.goto 4, 3) := dk_167 0 4 (dk_at dksX7_sets_0 12 rfl rfl)
theorem dX7_sets_15 : decode cX7_sets 15 = .ok (.iload_n 3, 1) := dk_29 (dk_at dksX7_sets_0 15 rfl rfl)
theorem dX7_sets_16 : decode cX7_sets 16 = .ok (.iload_n 2, 1) := dk_28 (dk_at dksX7_sets_0 16 rfl rfl)
theorem dX7_sets_17 : decode cX7_sets 17 = .ok (.imul, 1) := dk_104 (dk_at dksX7_sets_0 17 rfl rfl)
theorem dX7_sets_18 : decode cX7_sets 18 = .ok (.if_icmp .lt 7, 3) := dk_161 0 7 (dk_at dksX7_sets_0 18 rfl rfl)
theorem dX7_sets_21 : decode cX7_sets 21 = .ok (.iconst 1, 1) := dk_4 (dk_at dksX7_sets_0 21 rfl rfl)
theorem dX7_sets_22 : decode cX7_sets 22 = .ok (.goto 4, 3) := dk_167 0 4 (dk_at dksX7_sets_1 0 rfl rfl)
theorem dX7_sets_25 : decode cX7_sets 25 = .ok (.iconst 0, 1) := dk_3 (dk_at dksX7_sets_1 3 rfl rfl)
theorem dX7_sets_26 : decode cX7_sets 26 = .ok (.ireturn, 1) := dk_172 (dk_at dksX7_sets_1 4 rfl rfl)
abbrev cX7_is : ByteArray := prog_2_method_3_code
def yX7_is : MethodName := ⟨RX7, "is", "(I)Z"⟩
def dkwX7_is_0 : List UInt8 := [27, 7, 159, 0, 11, 42, 27, 183, 0, 15, 153, 0, 7, 4, 167, 0, 4, 3, 172]
abbrev dktX7_is_0 : List UInt8 := dkwX7_is_0 ++ []
theorem dksX7_is_0 : cX7_is.data.toList.drop 0 = dktX7_is_0 := by decide +kernel
theorem dX7_is_0 : decode cX7_is 0 = .ok (.iload_n 1, 1) := dk_27 (dk_at dksX7_is_0 0 rfl rfl)
theorem dX7_is_1 : decode cX7_is 1 = .ok (.iconst 4, 1) := dk_7 (dk_at dksX7_is_0 1 rfl rfl)
theorem dX7_is_2 : decode cX7_is 2 = .ok (.if_icmp .eq 11, 3) := dk_159 0 11 (dk_at dksX7_is_0 2 rfl rfl)
theorem dX7_is_5 : decode cX7_is 5 = .ok (.aload_n 0, 1) := dk_42 (dk_at dksX7_is_0 5 rfl rfl)
theorem dX7_is_6 : decode cX7_is 6 = .ok (.iload_n 1, 1) := dk_27 (dk_at dksX7_is_0 6 rfl rfl)
theorem dX7_is_7 : decode cX7_is 7 = .ok (.invokespecial 15, 3) := dk_183 0 15 (dk_at dksX7_is_0 7 rfl rfl)
theorem dX7_is_10 : decode cX7_is 10 = .ok (.ifCond .eq 7, 3) := dk_153 0 7 (dk_at dksX7_is_0 10 rfl rfl)
theorem dX7_is_13 : decode cX7_is 13 = .ok (.iconst 1, 1) := dk_4 (dk_at dksX7_is_0 13 rfl rfl)
theorem dX7_is_14 : decode cX7_is 14 = .ok (.goto 4, 3) := dk_167 0 4 (dk_at dksX7_is_0 14 rfl rfl)
theorem dX7_is_17 : decode cX7_is 17 = .ok (.iconst 0, 1) := dk_3 (dk_at dksX7_is_0 17 rfl rfl)
theorem dX7_is_18 : decode cX7_is 18 = .ok (.ireturn, 1) := dk_172 (dk_at dksX7_is_0 18 rfl rfl)
abbrev cX7_tells : ByteArray := prog_2_method_4_code
def yX7_tells : MethodName := ⟨RX7, "tells", "()I"⟩
theorem dX7_tells_0 : decode cX7_tells 0 = .ok (.aload_n 0, 1) := by decide +kernel
theorem dX7_tells_1 : decode cX7_tells 1 = .ok (.getfield 9, 3) := by decide +kernel
theorem dX7_tells_4 : decode cX7_tells 4 = .ok (.ireturn, 1) := by decide +kernel
theorem q125 : (Jvm.Cond.initialized "AcornYears$Needing") ∈ lw_all := lw_g (lw_at lw_m1 19 rfl) rfl
theorem q656 : (Jvm.Cond.instantiable "AcornYears$Needing" (4 : Nat)) ∈ lw_all := lw_g (lw_at lw_m3 70 rfl) rfl
theorem q658 : (Jvm.Cond.instanceMethod ({ cls := "AcornYears$Needing", name := "<init>", desc := "([BIII)V" } : Jvm.MethodName)) ∈ lw_all := lw_g (lw_at lw_m3 72 rfl) rfl
theorem q659 : (Jvm.Cond.code ({ cls := "AcornYears$Needing", name := "<init>", desc := "([BIII)V" } : Jvm.MethodName) prog_2_method_1_code (5 : Nat) (Option.none : Option Jvm.ClassFile.FieldType)) ∈ lw_all := lw_g (lw_at lw_m3 73 rfl) rfl
theorem q660 : (Jvm.Cond.methodLink "AcornYears$Needing" (3 : Nat) ({ cls := "AcornYears$Saver", name := "<init>", desc := "([BII)V" } : Jvm.MethodName)) ∈ lw_all := lw_g (lw_at lw_m3 74 rfl) rfl
theorem q661 : (Jvm.Cond.fieldLink "AcornYears$Needing" (9 : Nat) "AcornYears$Needing" "part" "I") ∈ lw_all := lw_g (lw_at lw_m3 75 rfl) rfl
theorem q663 : (Jvm.Cond.laysFinal "AcornYears$Needing" "AcornYears$Needing" "part" "I") ∈ lw_all := lw_g (lw_at lw_m3 77 rfl) rfl
theorem q664 : (Jvm.Cond.soleField "AcornYears$Needing" "part") ∈ lw_all := lw_g (lw_at lw_m3 78 rfl) rfl
theorem q665 : (Jvm.Cond.laysFinal "AcornYears$Needing" "AcornYears$Saver" "above" "I") ∈ lw_all := lw_g (lw_at lw_m3 79 rfl) rfl
theorem q666 : (Jvm.Cond.laysFinal "AcornYears$Needing" "AcornYears$Saver" "cost" "I") ∈ lw_all := lw_g (lw_at lw_m3 80 rfl) rfl
theorem q667 : (Jvm.Cond.laysFinal "AcornYears$Needing" "AcornYears$Sort" "adds" "[B") ∈ lw_all := lw_g (lw_at lw_m3 81 rfl) rfl
theorem q668 : (Jvm.Cond.superclass "AcornYears$Needing" "AcornYears$Saver") ∈ lw_all := lw_g (lw_at lw_m3 82 rfl) rfl
theorem q731 : (Jvm.Cond.selects "AcornYears$Needing" ({ cls := "AcornYears$Sort", name := "adds", desc := "(I)I" } : Jvm.MethodName) ({ cls := "AcornYears$Sort", name := "adds", desc := "(I)I" } : Jvm.MethodName)) ∈ lw_all := lw_g (lw_at lw_m3 145 rfl) rfl
theorem q740 : (Jvm.Cond.selects "AcornYears$Needing" ({ cls := "AcornYears$Sort", name := "kind", desc := "()I" } : Jvm.MethodName) ({ cls := "AcornYears$Needing", name := "kind", desc := "()I" } : Jvm.MethodName)) ∈ lw_all := lw_g (lw_at lw_m3 154 rfl) rfl
theorem q741 : (Jvm.Cond.instanceMethod ({ cls := "AcornYears$Needing", name := "kind", desc := "()I" } : Jvm.MethodName)) ∈ lw_all := lw_g (lw_at lw_m3 155 rfl) rfl
theorem q742 : (Jvm.Cond.code ({ cls := "AcornYears$Needing", name := "kind", desc := "()I" } : Jvm.MethodName) prog_2_method_2_code (1 : Nat) (Option.some Jvm.ClassFile.FieldType.int)) ∈ lw_all := lw_g (lw_at lw_m3 156 rfl) rfl
theorem q786 : (Jvm.Cond.selects "AcornYears$Needing" ({ cls := "AcornYears$Saver", name := "saves", desc := "()I" } : Jvm.MethodName) ({ cls := "AcornYears$Saver", name := "saves", desc := "()I" } : Jvm.MethodName)) ∈ lw_all := lw_g (lw_at lw_m3 200 rfl) rfl
theorem q856 : (Jvm.Cond.selects "AcornYears$Needing" ({ cls := "AcornYears$Sort", name := "stores", desc := "()Z" } : Jvm.MethodName) ({ cls := "AcornYears$Sort", name := "stores", desc := "()Z" } : Jvm.MethodName)) ∈ lw_all := lw_g (lw_at lw_m4 30 rfl) rfl
theorem q867 : (Jvm.Cond.selects "AcornYears$Needing" ({ cls := "AcornYears$Sort", name := "blooms", desc := "(III)Z" } : Jvm.MethodName) ({ cls := "AcornYears$Saver", name := "blooms", desc := "(III)Z" } : Jvm.MethodName)) ∈ lw_all := lw_g (lw_at lw_m4 41 rfl) rfl
theorem q900 : (Jvm.Cond.selects "AcornYears$Needing" ({ cls := "AcornYears$Sort", name := "gives", desc := "(I)I" } : Jvm.MethodName) ({ cls := "AcornYears$Saver", name := "gives", desc := "(I)I" } : Jvm.MethodName)) ∈ lw_all := lw_g (lw_at lw_m4 74 rfl) rfl
theorem q920 : (Jvm.Cond.castable "AcornYears$Needing" "AcornYears$Pollen") ∈ lw_tbl := lw_at lw_m4 94 rfl
theorem q921 : (Jvm.Cond.selects "AcornYears$Needing" ({ cls := "AcornYears$Pollen", name := "sets", desc := "(III)Z" } : Jvm.MethodName) ({ cls := "AcornYears$Needing", name := "sets", desc := "(III)Z" } : Jvm.MethodName)) ∈ lw_all := lw_g (lw_at lw_m4 95 rfl) rfl
theorem q922 : (Jvm.Cond.unhidden "AcornYears$Needing" "sets" "(III)Z") ∈ lw_tbl := lw_at lw_m4 96 rfl
theorem q923 : (Jvm.Cond.instanceMethod ({ cls := "AcornYears$Needing", name := "sets", desc := "(III)Z" } : Jvm.MethodName)) ∈ lw_all := lw_g (lw_at lw_m4 97 rfl) rfl
theorem q924 : (Jvm.Cond.publicMethod ({ cls := "AcornYears$Needing", name := "sets", desc := "(III)Z" } : Jvm.MethodName)) ∈ lw_tbl := lw_at lw_m4 98 rfl
theorem q925 : (Jvm.Cond.code ({ cls := "AcornYears$Needing", name := "sets", desc := "(III)Z" } : Jvm.MethodName) prog_2_method_5_code (4 : Nat) (Option.some Jvm.ClassFile.FieldType.boolean)) ∈ lw_all := lw_g (lw_at lw_m4 99 rfl) rfl
theorem q976 : (Jvm.Cond.selects "AcornYears$Needing" ({ cls := "AcornYears$Sort", name := "is", desc := "(I)Z" } : Jvm.MethodName) ({ cls := "AcornYears$Needing", name := "is", desc := "(I)Z" } : Jvm.MethodName)) ∈ lw_all := lw_g (lw_at lw_m4 150 rfl) rfl
theorem q977 : (Jvm.Cond.instanceMethod ({ cls := "AcornYears$Needing", name := "is", desc := "(I)Z" } : Jvm.MethodName)) ∈ lw_all := lw_g (lw_at lw_m4 151 rfl) rfl
theorem q978 : (Jvm.Cond.code ({ cls := "AcornYears$Needing", name := "is", desc := "(I)Z" } : Jvm.MethodName) prog_2_method_3_code (2 : Nat) (Option.some Jvm.ClassFile.FieldType.boolean)) ∈ lw_all := lw_g (lw_at lw_m4 152 rfl) rfl
theorem q979 : (Jvm.Cond.methodLink "AcornYears$Needing" (15 : Nat) ({ cls := "AcornYears$Saver", name := "is", desc := "(I)Z" } : Jvm.MethodName)) ∈ lw_all := lw_g (lw_at lw_m4 153 rfl) rfl
theorem q1000 : (Jvm.Cond.selects "AcornYears$Needing" ({ cls := "AcornYears$Sort", name := "tells", desc := "()I" } : Jvm.MethodName) ({ cls := "AcornYears$Needing", name := "tells", desc := "()I" } : Jvm.MethodName)) ∈ lw_all := lw_g (lw_at lw_m4 174 rfl) rfl
theorem q1001 : (Jvm.Cond.instanceMethod ({ cls := "AcornYears$Needing", name := "tells", desc := "()I" } : Jvm.MethodName)) ∈ lw_all := lw_g (lw_at lw_m4 175 rfl) rfl
theorem q1002 : (Jvm.Cond.code ({ cls := "AcornYears$Needing", name := "tells", desc := "()I" } : Jvm.MethodName) prog_2_method_4_code (1 : Nat) (Option.some Jvm.ClassFile.FieldType.int)) ∈ lw_all := lw_g (lw_at lw_m4 176 rfl) rfl
theorem q1789 : (Jvm.Cond.castable "AcornYears$Needing" "AcornYears$Saver") ∈ lw_tbl := lw_at lw_m8 3 rfl
theorem q1794 : (Jvm.Cond.castable "AcornYears$Needing" "AcornYears$Sort") ∈ lw_tbl := lw_at lw_m8 8 rfl
theorem in_X7 : ∀ w ∈ wsX70, w ∈ lw_all := lw_in wsX70 [667, 665, 666, 663] (by decide +kernel) (by decide +kernel)
/-! AcornYears$Odd -/
set_option maxRecDepth 100000
def RX8 : String := "AcornYears$Odd"
def TX8 : u_T := fun k => match k with
  | 0 => ("AcornYears$Sort", "adds", "[B", true)
  | 1 => ("AcornYears$Saver", "above", "I", true)
  | 2 => ("AcornYears$Saver", "cost", "I", true)
  | _ => ("AcornYears$Odd", "each", "I", true)
def tyX8 : Nat → FieldType := fun k => match k with
  | 0 => .array .byte
  | 1 => .int
  | 2 => .int
  | _ => .int
abbrev wsX80 : List Cond := u_ws RX8 TX8 4
theorem nmX8 : ∀ a, a < 4 → ∀ b, b < 4 → a ≠ b → (TX8 a).2.1 ≠ (TX8 b).2.1 := by decide +kernel
theorem tyX8_ok : ∀ k, k < 4 → parseFieldDescriptor (TX8 k).2.2.1 = some (tyX8 k) := by decide +kernel
abbrev cX8_init : ByteArray := prog_3_method_1_code
def yX8_init : MethodName := ⟨RX8, "<init>", "([BIII)V"⟩
def dkwX8_init_0 : List UInt8 := [42, 43, 28, 29, 183, 0, 3, 42, 21, 4, 181, 0, 9, 177]
abbrev dktX8_init_0 : List UInt8 := dkwX8_init_0 ++ []
theorem dksX8_init_0 : cX8_init.data.toList.drop 0 = dktX8_init_0 := by decide +kernel
theorem dX8_init_0 : decode cX8_init 0 = .ok (.aload_n 0, 1) := dk_42 (dk_at dksX8_init_0 0 rfl rfl)
theorem dX8_init_1 : decode cX8_init 1 = .ok (.aload_n 1, 1) := dk_43 (dk_at dksX8_init_0 1 rfl rfl)
theorem dX8_init_2 : decode cX8_init 2 = .ok (.iload_n 2, 1) := dk_28 (dk_at dksX8_init_0 2 rfl rfl)
theorem dX8_init_3 : decode cX8_init 3 = .ok (.iload_n 3, 1) := dk_29 (dk_at dksX8_init_0 3 rfl rfl)
theorem dX8_init_4 : decode cX8_init 4 = .ok (.invokespecial 3, 3) := dk_183 0 3 (dk_at dksX8_init_0 4 rfl rfl)
theorem dX8_init_7 : decode cX8_init 7 = .ok (.aload_n 0, 1) := dk_42 (dk_at dksX8_init_0 7 rfl rfl)
theorem dX8_init_8 : decode cX8_init 8 = .ok (.iload 4, 2) := dk_21 4 (dk_at dksX8_init_0 8 rfl rfl)
theorem dX8_init_10 : decode cX8_init 10 = .ok (.putfield 9, 3) := dk_181 0 9 (dk_at dksX8_init_0 10 rfl rfl)
theorem dX8_init_13 : decode cX8_init 13 = .ok (.return_, 1) := dk_177 (dk_at dksX8_init_0 13 rfl rfl)
abbrev cX8_kind : ByteArray := prog_3_method_2_code
def yX8_kind : MethodName := ⟨RX8, "kind", "()I"⟩
theorem dX8_kind_0 : decode cX8_kind 0 = .ok (.iconst 5, 1) := by decide +kernel
theorem dX8_kind_1 : decode cX8_kind 1 = .ok (.ireturn, 1) := by decide +kernel
abbrev cX8_blooms : ByteArray := prog_3_method_5_code
def yX8_blooms : MethodName := ⟨RX8, "blooms", "(III)Z"⟩
def dkwX8_blooms_1 : List UInt8 := [172]
abbrev dktX8_blooms_1 : List UInt8 := dkwX8_blooms_1 ++ []
def dkwX8_blooms_0 : List UInt8 := [42, 27, 28, 29, 183, 0, 19, 153, 0, 16, 29, 42, 180, 0, 9, 112, 154, 0, 7, 4, 167, 0, 4, 3]
abbrev dktX8_blooms_0 : List UInt8 := dkwX8_blooms_0 ++ dktX8_blooms_1
theorem dksX8_blooms_0 : cX8_blooms.data.toList.drop 0 = dktX8_blooms_0 := by decide +kernel
theorem dksX8_blooms_1 : cX8_blooms.data.toList.drop 24 = dktX8_blooms_1 := dk_seg dksX8_blooms_0 24 rfl rfl
theorem dX8_blooms_0 : decode cX8_blooms 0 = .ok (.aload_n 0, 1) := dk_42 (dk_at dksX8_blooms_0 0 rfl rfl)
theorem dX8_blooms_1 : decode cX8_blooms 1 = .ok (.iload_n 1, 1) := dk_27 (dk_at dksX8_blooms_0 1 rfl rfl)
theorem dX8_blooms_2 : decode cX8_blooms 2 = .ok (.iload_n 2, 1) := dk_28 (dk_at dksX8_blooms_0 2 rfl rfl)
theorem dX8_blooms_3 : decode cX8_blooms 3 = .ok (.iload_n 3, 1) := dk_29 (dk_at dksX8_blooms_0 3 rfl rfl)
theorem dX8_blooms_4 : decode cX8_blooms 4 = .ok (.invokespecial 19, 3) := dk_183 0 19 (dk_at dksX8_blooms_0 4 rfl rfl)
theorem dX8_blooms_7 : decode cX8_blooms 7 = .ok (.ifCond .eq 16, 3) := dk_153 0 16 (dk_at dksX8_blooms_0 7 rfl rfl)
theorem dX8_blooms_10 : decode cX8_blooms 10 = .ok (.iload_n 3, 1) := dk_29 (dk_at dksX8_blooms_0 10 rfl rfl)
theorem dX8_blooms_11 : decode cX8_blooms 11 = .ok (.aload_n 0, 1) := dk_42 (dk_at dksX8_blooms_0 11 rfl rfl)
theorem dX8_blooms_12 : decode cX8_blooms 12 = .ok (.getfield 9, 3) := dk_180 0 9 (dk_at dksX8_blooms_0 12 rfl rfl)
theorem dX8_blooms_15 : decode cX8_blooms 15 = .ok (.irem, 1) := dk_112 (dk_at dksX8_blooms_0 15 rfl rfl)
theorem dX8_blooms_16 : decode cX8_blooms 16 = .ok (.ifCond .ne 7, 3) := dk_154 0 7 (dk_at dksX8_blooms_0 16 rfl rfl)
theorem dX8_blooms_19 : decode cX8_blooms 19 = .ok (.iconst 1, 1) := dk_4 (dk_at dksX8_blooms_0 19 rfl rfl)
theorem dX8_blooms_20 : decode cX8_blooms 20 = .ok (.goto 4, 3) := dk_167 0 4 (dk_at dksX8_blooms_0 20 rfl rfl)
theorem dX8_blooms_23 : decode cX8_blooms 23 = .ok (.iconst 0, 1) := dk_3 (dk_at dksX8_blooms_0 23 rfl rfl)
theorem dX8_blooms_24 : decode cX8_blooms 24 = .ok (.ireturn, 1) := dk_172 (dk_at dksX8_blooms_1 0 rfl rfl)
abbrev cX8_is : ByteArray := prog_3_method_3_code
def yX8_is : MethodName := ⟨RX8, "is", "(I)Z"⟩
def dkwX8_is_0 : List UInt8 := [27, 8, 159, 0, 11, 42, 27, 183, 0, 15, 153, 0, 7, 4, 167, 0, 4, 3, 172]
abbrev dktX8_is_0 : List UInt8 := dkwX8_is_0 ++ []
theorem dksX8_is_0 : cX8_is.data.toList.drop 0 = dktX8_is_0 := by decide +kernel
theorem dX8_is_0 : decode cX8_is 0 = .ok (.iload_n 1, 1) := dk_27 (dk_at dksX8_is_0 0 rfl rfl)
theorem dX8_is_1 : decode cX8_is 1 = .ok (.iconst 5, 1) := dk_8 (dk_at dksX8_is_0 1 rfl rfl)
theorem dX8_is_2 : decode cX8_is 2 = .ok (.if_icmp .eq 11, 3) := dk_159 0 11 (dk_at dksX8_is_0 2 rfl rfl)
theorem dX8_is_5 : decode cX8_is 5 = .ok (.aload_n 0, 1) := dk_42 (dk_at dksX8_is_0 5 rfl rfl)
theorem dX8_is_6 : decode cX8_is 6 = .ok (.iload_n 1, 1) := dk_27 (dk_at dksX8_is_0 6 rfl rfl)
theorem dX8_is_7 : decode cX8_is 7 = .ok (.invokespecial 15, 3) := dk_183 0 15 (dk_at dksX8_is_0 7 rfl rfl)
theorem dX8_is_10 : decode cX8_is 10 = .ok (.ifCond .eq 7, 3) := dk_153 0 7 (dk_at dksX8_is_0 10 rfl rfl)
theorem dX8_is_13 : decode cX8_is 13 = .ok (.iconst 1, 1) := dk_4 (dk_at dksX8_is_0 13 rfl rfl)
theorem dX8_is_14 : decode cX8_is 14 = .ok (.goto 4, 3) := dk_167 0 4 (dk_at dksX8_is_0 14 rfl rfl)
theorem dX8_is_17 : decode cX8_is 17 = .ok (.iconst 0, 1) := dk_3 (dk_at dksX8_is_0 17 rfl rfl)
theorem dX8_is_18 : decode cX8_is 18 = .ok (.ireturn, 1) := dk_172 (dk_at dksX8_is_0 18 rfl rfl)
abbrev cX8_tells : ByteArray := prog_3_method_4_code
def yX8_tells : MethodName := ⟨RX8, "tells", "()I"⟩
theorem dX8_tells_0 : decode cX8_tells 0 = .ok (.aload_n 0, 1) := by decide +kernel
theorem dX8_tells_1 : decode cX8_tells 1 = .ok (.getfield 9, 3) := by decide +kernel
theorem dX8_tells_4 : decode cX8_tells 4 = .ok (.ireturn, 1) := by decide +kernel
theorem q126 : (Jvm.Cond.initialized "AcornYears$Odd") ∈ lw_all := lw_g (lw_at lw_m1 20 rfl) rfl
theorem q670 : (Jvm.Cond.instantiable "AcornYears$Odd" (4 : Nat)) ∈ lw_all := lw_g (lw_at lw_m3 84 rfl) rfl
theorem q672 : (Jvm.Cond.instanceMethod ({ cls := "AcornYears$Odd", name := "<init>", desc := "([BIII)V" } : Jvm.MethodName)) ∈ lw_all := lw_g (lw_at lw_m3 86 rfl) rfl
theorem q673 : (Jvm.Cond.code ({ cls := "AcornYears$Odd", name := "<init>", desc := "([BIII)V" } : Jvm.MethodName) prog_3_method_1_code (5 : Nat) (Option.none : Option Jvm.ClassFile.FieldType)) ∈ lw_all := lw_g (lw_at lw_m3 87 rfl) rfl
theorem q674 : (Jvm.Cond.methodLink "AcornYears$Odd" (3 : Nat) ({ cls := "AcornYears$Saver", name := "<init>", desc := "([BII)V" } : Jvm.MethodName)) ∈ lw_all := lw_g (lw_at lw_m3 88 rfl) rfl
theorem q675 : (Jvm.Cond.fieldLink "AcornYears$Odd" (9 : Nat) "AcornYears$Odd" "each" "I") ∈ lw_all := lw_g (lw_at lw_m3 89 rfl) rfl
theorem q677 : (Jvm.Cond.laysFinal "AcornYears$Odd" "AcornYears$Odd" "each" "I") ∈ lw_all := lw_g (lw_at lw_m3 91 rfl) rfl
theorem q678 : (Jvm.Cond.soleField "AcornYears$Odd" "each") ∈ lw_all := lw_g (lw_at lw_m3 92 rfl) rfl
theorem q679 : (Jvm.Cond.laysFinal "AcornYears$Odd" "AcornYears$Saver" "above" "I") ∈ lw_all := lw_g (lw_at lw_m3 93 rfl) rfl
theorem q680 : (Jvm.Cond.laysFinal "AcornYears$Odd" "AcornYears$Saver" "cost" "I") ∈ lw_all := lw_g (lw_at lw_m3 94 rfl) rfl
theorem q681 : (Jvm.Cond.laysFinal "AcornYears$Odd" "AcornYears$Sort" "adds" "[B") ∈ lw_all := lw_g (lw_at lw_m3 95 rfl) rfl
theorem q682 : (Jvm.Cond.superclass "AcornYears$Odd" "AcornYears$Saver") ∈ lw_all := lw_g (lw_at lw_m3 96 rfl) rfl
theorem q732 : (Jvm.Cond.selects "AcornYears$Odd" ({ cls := "AcornYears$Sort", name := "adds", desc := "(I)I" } : Jvm.MethodName) ({ cls := "AcornYears$Sort", name := "adds", desc := "(I)I" } : Jvm.MethodName)) ∈ lw_all := lw_g (lw_at lw_m3 146 rfl) rfl
theorem q743 : (Jvm.Cond.selects "AcornYears$Odd" ({ cls := "AcornYears$Sort", name := "kind", desc := "()I" } : Jvm.MethodName) ({ cls := "AcornYears$Odd", name := "kind", desc := "()I" } : Jvm.MethodName)) ∈ lw_all := lw_g (lw_at lw_m3 157 rfl) rfl
theorem q744 : (Jvm.Cond.instanceMethod ({ cls := "AcornYears$Odd", name := "kind", desc := "()I" } : Jvm.MethodName)) ∈ lw_all := lw_g (lw_at lw_m3 158 rfl) rfl
theorem q745 : (Jvm.Cond.code ({ cls := "AcornYears$Odd", name := "kind", desc := "()I" } : Jvm.MethodName) prog_3_method_2_code (1 : Nat) (Option.some Jvm.ClassFile.FieldType.int)) ∈ lw_all := lw_g (lw_at lw_m3 159 rfl) rfl
theorem q787 : (Jvm.Cond.selects "AcornYears$Odd" ({ cls := "AcornYears$Saver", name := "saves", desc := "()I" } : Jvm.MethodName) ({ cls := "AcornYears$Saver", name := "saves", desc := "()I" } : Jvm.MethodName)) ∈ lw_all := lw_g (lw_at lw_m3 201 rfl) rfl
theorem q857 : (Jvm.Cond.selects "AcornYears$Odd" ({ cls := "AcornYears$Sort", name := "stores", desc := "()Z" } : Jvm.MethodName) ({ cls := "AcornYears$Sort", name := "stores", desc := "()Z" } : Jvm.MethodName)) ∈ lw_all := lw_g (lw_at lw_m4 31 rfl) rfl
theorem q870 : (Jvm.Cond.selects "AcornYears$Odd" ({ cls := "AcornYears$Sort", name := "blooms", desc := "(III)Z" } : Jvm.MethodName) ({ cls := "AcornYears$Odd", name := "blooms", desc := "(III)Z" } : Jvm.MethodName)) ∈ lw_all := lw_g (lw_at lw_m4 44 rfl) rfl
theorem q871 : (Jvm.Cond.instanceMethod ({ cls := "AcornYears$Odd", name := "blooms", desc := "(III)Z" } : Jvm.MethodName)) ∈ lw_all := lw_g (lw_at lw_m4 45 rfl) rfl
theorem q872 : (Jvm.Cond.code ({ cls := "AcornYears$Odd", name := "blooms", desc := "(III)Z" } : Jvm.MethodName) prog_3_method_5_code (4 : Nat) (Option.some Jvm.ClassFile.FieldType.boolean)) ∈ lw_all := lw_g (lw_at lw_m4 46 rfl) rfl
theorem q873 : (Jvm.Cond.methodLink "AcornYears$Odd" (19 : Nat) ({ cls := "AcornYears$Saver", name := "blooms", desc := "(III)Z" } : Jvm.MethodName)) ∈ lw_all := lw_g (lw_at lw_m4 47 rfl) rfl
theorem q903 : (Jvm.Cond.selects "AcornYears$Odd" ({ cls := "AcornYears$Sort", name := "gives", desc := "(I)I" } : Jvm.MethodName) ({ cls := "AcornYears$Saver", name := "gives", desc := "(I)I" } : Jvm.MethodName)) ∈ lw_all := lw_g (lw_at lw_m4 77 rfl) rfl
theorem q926 : (Jvm.Cond.castable "AcornYears$Odd" "AcornYears$Pollen") ∈ lw_tbl := lw_at lw_m4 100 rfl
theorem q927 : (Jvm.Cond.unhidden "AcornYears$Odd" "sets" "(III)Z") ∈ lw_tbl := lw_at lw_m4 101 rfl
theorem q983 : (Jvm.Cond.selects "AcornYears$Odd" ({ cls := "AcornYears$Sort", name := "is", desc := "(I)Z" } : Jvm.MethodName) ({ cls := "AcornYears$Odd", name := "is", desc := "(I)Z" } : Jvm.MethodName)) ∈ lw_all := lw_g (lw_at lw_m4 157 rfl) rfl
theorem q984 : (Jvm.Cond.instanceMethod ({ cls := "AcornYears$Odd", name := "is", desc := "(I)Z" } : Jvm.MethodName)) ∈ lw_all := lw_g (lw_at lw_m4 158 rfl) rfl
theorem q985 : (Jvm.Cond.code ({ cls := "AcornYears$Odd", name := "is", desc := "(I)Z" } : Jvm.MethodName) prog_3_method_3_code (2 : Nat) (Option.some Jvm.ClassFile.FieldType.boolean)) ∈ lw_all := lw_g (lw_at lw_m4 159 rfl) rfl
theorem q986 : (Jvm.Cond.methodLink "AcornYears$Odd" (15 : Nat) ({ cls := "AcornYears$Saver", name := "is", desc := "(I)Z" } : Jvm.MethodName)) ∈ lw_all := lw_g (lw_at lw_m4 160 rfl) rfl
theorem q1003 : (Jvm.Cond.selects "AcornYears$Odd" ({ cls := "AcornYears$Sort", name := "tells", desc := "()I" } : Jvm.MethodName) ({ cls := "AcornYears$Odd", name := "tells", desc := "()I" } : Jvm.MethodName)) ∈ lw_all := lw_g (lw_at lw_m4 177 rfl) rfl
theorem q1004 : (Jvm.Cond.instanceMethod ({ cls := "AcornYears$Odd", name := "tells", desc := "()I" } : Jvm.MethodName)) ∈ lw_all := lw_g (lw_at lw_m4 178 rfl) rfl
theorem q1005 : (Jvm.Cond.code ({ cls := "AcornYears$Odd", name := "tells", desc := "()I" } : Jvm.MethodName) prog_3_method_4_code (1 : Nat) (Option.some Jvm.ClassFile.FieldType.int)) ∈ lw_all := lw_g (lw_at lw_m4 179 rfl) rfl
theorem q1790 : (Jvm.Cond.castable "AcornYears$Odd" "AcornYears$Saver") ∈ lw_tbl := lw_at lw_m8 4 rfl
theorem q1795 : (Jvm.Cond.castable "AcornYears$Odd" "AcornYears$Sort") ∈ lw_tbl := lw_at lw_m8 9 rfl
theorem in_X8 : ∀ w ∈ wsX80, w ∈ lw_all := lw_in wsX80 [681, 679, 680, 677] (by decide +kernel) (by decide +kernel)
/-! AcornYears$Tree -/
set_option maxRecDepth 100000
def RX9 : String := "AcornYears$Tree"
def TX9 : u_T := fun k => match k with
  | 0 => ("AcornYears$Tree", "sort", "I", false)
  | 1 => ("AcornYears$Tree", "times", "I", false)
  | _ => ("AcornYears$Tree", "last", "I", false)
def tyX9 : Nat → FieldType := fun k => match k with
  | 0 => .int
  | 1 => .int
  | _ => .int
abbrev wsX90 : List Cond := u_ws RX9 TX9 3
theorem nmX9 : ∀ a, a < 3 → ∀ b, b < 3 → a ≠ b → (TX9 a).2.1 ≠ (TX9 b).2.1 := by decide +kernel
theorem tyX9_ok : ∀ k, k < 3 → parseFieldDescriptor (TX9 k).2.2.1 = some (tyX9 k) := by decide +kernel
abbrev cX9_init : ByteArray := prog_8_method_1_code
def yX9_init : MethodName := ⟨RX9, "<init>", "(I)V"⟩
def dkwX9_init_0 : List UInt8 := [42, 183, 0, 3, 42, 16, 247, 181, 0, 9, 42, 27, 181, 0, 15, 177]
abbrev dktX9_init_0 : List UInt8 := dkwX9_init_0 ++ []
theorem dksX9_init_0 : cX9_init.data.toList.drop 0 = dktX9_init_0 := by decide +kernel
theorem dX9_init_0 : decode cX9_init 0 = .ok (.aload_n 0, 1) := dk_42 (dk_at dksX9_init_0 0 rfl rfl)
theorem dX9_init_1 : decode cX9_init 1 = .ok (.invokespecial 3, 3) := dk_183 0 3 (dk_at dksX9_init_0 1 rfl rfl)
theorem dX9_init_4 : decode cX9_init 4 = .ok (.aload_n 0, 1) := dk_42 (dk_at dksX9_init_0 4 rfl rfl)
theorem dX9_init_5 : decode cX9_init 5 = .ok (.bipush (-9), 2) := dk_16 247 (dk_at dksX9_init_0 5 rfl rfl)
theorem dX9_init_7 : decode cX9_init 7 = .ok (.putfield 9, 3) := dk_181 0 9 (dk_at dksX9_init_0 7 rfl rfl)
theorem dX9_init_10 : decode cX9_init 10 = .ok (.aload_n 0, 1) := dk_42 (dk_at dksX9_init_0 10 rfl rfl)
theorem dX9_init_11 : decode cX9_init 11 = .ok (.iload_n 1, 1) := dk_27 (dk_at dksX9_init_0 11 rfl rfl)
theorem dX9_init_12 : decode cX9_init 12 = .ok (.putfield 15, 3) := dk_181 0 15 (dk_at dksX9_init_0 12 rfl rfl)
theorem dX9_init_15 : decode cX9_init 15 = .ok (.return_, 1) := dk_177 (dk_at dksX9_init_0 15 rfl rfl)
theorem q127 : (Jvm.Cond.initialized "AcornYears$Tree") ∈ lw_all := lw_g (lw_at lw_m1 21 rfl) rfl
theorem q699 : (Jvm.Cond.instantiable "AcornYears$Tree" (3 : Nat)) ∈ lw_all := lw_g (lw_at lw_m3 113 rfl) rfl
theorem q701 : (Jvm.Cond.instanceMethod ({ cls := "AcornYears$Tree", name := "<init>", desc := "(I)V" } : Jvm.MethodName)) ∈ lw_all := lw_g (lw_at lw_m3 115 rfl) rfl
theorem q702 : (Jvm.Cond.code ({ cls := "AcornYears$Tree", name := "<init>", desc := "(I)V" } : Jvm.MethodName) prog_8_method_1_code (2 : Nat) (Option.none : Option Jvm.ClassFile.FieldType)) ∈ lw_all := lw_g (lw_at lw_m3 116 rfl) rfl
theorem q703 : (Jvm.Cond.methodLink "AcornYears$Tree" (3 : Nat) ({ cls := "java/lang/Object", name := "<init>", desc := "()V" } : Jvm.MethodName)) ∈ lw_all := lw_g (lw_at lw_m3 117 rfl) rfl
theorem q704 : (Jvm.Cond.fieldLink "AcornYears$Tree" (15 : Nat) "AcornYears$Tree" "sort" "I") ∈ lw_all := lw_g (lw_at lw_m3 118 rfl) rfl
theorem q707 : (Jvm.Cond.fieldLink "AcornYears$Tree" (9 : Nat) "AcornYears$Tree" "last" "I") ∈ lw_all := lw_g (lw_at lw_m3 121 rfl) rfl
theorem q709 : (Jvm.Cond.lays "AcornYears$Tree" "AcornYears$Tree" "sort" "I") ∈ lw_all := lw_g (lw_at lw_m3 123 rfl) rfl
theorem q710 : (Jvm.Cond.soleField "AcornYears$Tree" "sort") ∈ lw_all := lw_g (lw_at lw_m3 124 rfl) rfl
theorem q711 : (Jvm.Cond.lays "AcornYears$Tree" "AcornYears$Tree" "times" "I") ∈ lw_all := lw_g (lw_at lw_m3 125 rfl) rfl
theorem q712 : (Jvm.Cond.soleField "AcornYears$Tree" "times") ∈ lw_all := lw_g (lw_at lw_m3 126 rfl) rfl
theorem q713 : (Jvm.Cond.lays "AcornYears$Tree" "AcornYears$Tree" "last" "I") ∈ lw_all := lw_g (lw_at lw_m3 127 rfl) rfl
theorem q714 : (Jvm.Cond.soleField "AcornYears$Tree" "last") ∈ lw_all := lw_g (lw_at lw_m3 128 rfl) rfl
theorem q715 : (Jvm.Cond.superclass "AcornYears$Tree" "java/lang/Object") ∈ lw_all := lw_g (lw_at lw_m3 129 rfl) rfl
theorem in_X9 : ∀ w ∈ wsX90, w ∈ lw_all := lw_in wsX90 [709, 711, 713] (by decide +kernel) (by decide +kernel)
/-! AcornYears$Pollen -/
set_option maxRecDepth 100000
def RX10 : String := "AcornYears$Pollen"
abbrev cX10_sets : ByteArray := prog_4_method_1_code
def yX10_sets : MethodName := ⟨RX10, "sets", "(III)Z"⟩
def dkwX10_sets_0 : List UInt8 := [27, 158, 0, 7, 4, 167, 0, 4, 3, 172]
abbrev dktX10_sets_0 : List UInt8 := dkwX10_sets_0 ++ []
theorem dksX10_sets_0 : cX10_sets.data.toList.drop 0 = dktX10_sets_0 := by decide +kernel
theorem dX10_sets_0 : decode cX10_sets 0 = .ok (.iload_n 1, 1) := dk_27 (dk_at dksX10_sets_0 0 rfl rfl)
theorem dX10_sets_1 : decode cX10_sets 1 = .ok (.ifCond .le 7, 3) := dk_158 0 7 (dk_at dksX10_sets_0 1 rfl rfl)
theorem dX10_sets_4 : decode cX10_sets 4 = .ok (.iconst 1, 1) := dk_4 (dk_at dksX10_sets_0 4 rfl rfl)
theorem dX10_sets_5 : decode cX10_sets 5 = .ok (.goto 4, 3) := dk_167 0 4 (dk_at dksX10_sets_0 5 rfl rfl)
theorem dX10_sets_8 : decode cX10_sets 8 = .ok (.iconst 0, 1) := dk_3 (dk_at dksX10_sets_0 8 rfl rfl)
theorem dX10_sets_9 : decode cX10_sets 9 = .ok (.ireturn, 1) := dk_172 (dk_at dksX10_sets_0 9 rfl rfl)
theorem q918 : (Jvm.Cond.interfaceMethod "AcornYears$Pollen" "AcornYears$Pollen" "sets" "(III)Z") ∈ lw_tbl := lw_at lw_m4 92 rfl
theorem q919 : (Jvm.Cond.declares ({ cls := "AcornYears$Pollen", name := "sets", desc := "(III)Z" } : Jvm.MethodName)) ∈ lw_tbl := lw_at lw_m4 93 rfl
theorem q928 : (Jvm.Cond.instanceMethod ({ cls := "AcornYears$Pollen", name := "sets", desc := "(III)Z" } : Jvm.MethodName)) ∈ lw_all := lw_g (lw_at lw_m4 102 rfl) rfl
theorem q929 : (Jvm.Cond.publicMethod ({ cls := "AcornYears$Pollen", name := "sets", desc := "(III)Z" } : Jvm.MethodName)) ∈ lw_tbl := lw_at lw_m4 103 rfl
theorem q930 : (Jvm.Cond.code ({ cls := "AcornYears$Pollen", name := "sets", desc := "(III)Z" } : Jvm.MethodName) prog_4_method_1_code (4 : Nat) (Option.some Jvm.ClassFile.FieldType.boolean)) ∈ lw_all := lw_g (lw_at lw_m4 104 rfl) rfl
/-! java/lang/Throwable -/
set_option maxRecDepth 100000
def RJ0 : String := "java/lang/Throwable"
def TJ0 : u_T := fun k => match k with
  | 0 => ("java/lang/Throwable", "cause", "Ljava/lang/Throwable;", false)
  | 1 => ("java/lang/Throwable", "stackTrace", "[Ljava/lang/StackTraceElement;", false)
  | 2 => ("java/lang/Throwable", "suppressedExceptions", "Ljava/util/List;", false)
  | 3 => ("java/lang/Throwable", "detailMessage", "Ljava/lang/String;", false)
  | _ => ("java/lang/Throwable", "backtrace", "Ljava/lang/Object;", false)
def tyJ0 : Nat → FieldType := fun k => match k with
  | 0 => .object "java/lang/Throwable"
  | 1 => .array (.object "java/lang/StackTraceElement")
  | 2 => .object "java/util/List"
  | 3 => .object "java/lang/String"
  | _ => .object "java/lang/Object"
abbrev wsJ00 : List Cond := u_ws RJ0 TJ0 5
theorem nmJ0 : ∀ a, a < 5 → ∀ b, b < 5 → a ≠ b → (TJ0 a).2.1 ≠ (TJ0 b).2.1 := by decide +kernel
theorem tyJ0_ok : ∀ k, k < 5 → parseFieldDescriptor (TJ0 k).2.2.1 = some (tyJ0 k) := by decide +kernel
abbrev cJ0_init : ByteArray := prog_24_method_2_code
def yJ0_init : MethodName := ⟨RJ0, "<init>", "(Ljava/lang/String;)V"⟩
def dkwJ0_init_1 : List UInt8 := [182, 0, 27, 87, 42, 43, 181, 0, 31, 177]
abbrev dktJ0_init_1 : List UInt8 := dkwJ0_init_1 ++ []
def dkwJ0_init_0 : List UInt8 := [42, 183, 0, 1, 42, 42, 181, 0, 7, 42, 178, 0, 13, 181, 0, 17, 42, 178, 0, 20, 181, 0, 24, 42]
abbrev dktJ0_init_0 : List UInt8 := dkwJ0_init_0 ++ dktJ0_init_1
theorem dksJ0_init_0 : cJ0_init.data.toList.drop 0 = dktJ0_init_0 := by decide +kernel
theorem dksJ0_init_1 : cJ0_init.data.toList.drop 24 = dktJ0_init_1 := dk_seg dksJ0_init_0 24 rfl rfl
theorem dJ0_init_0 : decode cJ0_init 0 = .ok (.aload_n 0, 1) := dk_42 (dk_at dksJ0_init_0 0 rfl rfl)
theorem dJ0_init_1 : decode cJ0_init 1 = .ok (.invokespecial 1, 3) := dk_183 0 1 (dk_at dksJ0_init_0 1 rfl rfl)
theorem dJ0_init_4 : decode cJ0_init 4 = .ok (.aload_n 0, 1) := dk_42 (dk_at dksJ0_init_0 4 rfl rfl)
theorem dJ0_init_5 : decode cJ0_init 5 = .ok (.aload_n 0, 1) := dk_42 (dk_at dksJ0_init_0 5 rfl rfl)
theorem dJ0_init_6 : decode cJ0_init 6 = .ok (.putfield 7, 3) := dk_181 0 7 (dk_at dksJ0_init_0 6 rfl rfl)
theorem dJ0_init_9 : decode cJ0_init 9 = .ok (.aload_n 0, 1) := dk_42 (dk_at dksJ0_init_0 9 rfl rfl)
theorem dJ0_init_10 : decode cJ0_init 10 = .ok (.getstatic 13, 3) := dk_178 0 13 (dk_at dksJ0_init_0 10 rfl rfl)
theorem dJ0_init_13 : decode cJ0_init 13 = .ok (.putfield 17, 3) := dk_181 0 17 (dk_at dksJ0_init_0 13 rfl rfl)
theorem dJ0_init_16 : decode cJ0_init 16 = .ok (.aload_n 0, 1) := dk_42 (dk_at dksJ0_init_0 16 rfl rfl)
theorem dJ0_init_17 : decode cJ0_init 17 = .ok (.getstatic 20, 3) := dk_178 0 20 (dk_at dksJ0_init_0 17 rfl rfl)
theorem dJ0_init_20 : decode cJ0_init 20 = .ok (.putfield 24, 3) := dk_181 0 24 (dk_at dksJ0_init_0 20 rfl rfl)
theorem dJ0_init_23 : decode cJ0_init 23 = .ok (.aload_n 0, 1) := dk_42 (dk_at dksJ0_init_0 23 rfl rfl)
theorem dJ0_init_24 : decode cJ0_init 24 = .ok (.invokevirtual 27, 3) := dk_182 0 27 (dk_at dksJ0_init_1 0 rfl rfl)
theorem dJ0_init_27 : decode cJ0_init 27 = .ok (.pop, 1) := dk_87 (dk_at dksJ0_init_1 3 rfl rfl)
theorem dJ0_init_28 : decode cJ0_init 28 = .ok (.aload_n 0, 1) := dk_42 (dk_at dksJ0_init_1 4 rfl rfl)
theorem dJ0_init_29 : decode cJ0_init 29 = .ok (.aload_n 1, 1) := dk_43 (dk_at dksJ0_init_1 5 rfl rfl)
theorem dJ0_init_30 : decode cJ0_init 30 = .ok (.putfield 31, 3) := dk_181 0 31 (dk_at dksJ0_init_1 6 rfl rfl)
theorem dJ0_init_33 : decode cJ0_init 33 = .ok (.return_, 1) := dk_177 (dk_at dksJ0_init_1 9 rfl rfl)
abbrev cJ0_init_2 : ByteArray := prog_24_method_1_code
def yJ0_init_2 : MethodName := ⟨RJ0, "<init>", "()V"⟩
def dkwJ0_init_2_1 : List UInt8 := [182, 0, 27, 87, 177]
abbrev dktJ0_init_2_1 : List UInt8 := dkwJ0_init_2_1 ++ []
def dkwJ0_init_2_0 : List UInt8 := [42, 183, 0, 1, 42, 42, 181, 0, 7, 42, 178, 0, 13, 181, 0, 17, 42, 178, 0, 20, 181, 0, 24, 42]
abbrev dktJ0_init_2_0 : List UInt8 := dkwJ0_init_2_0 ++ dktJ0_init_2_1
theorem dksJ0_init_2_0 : cJ0_init_2.data.toList.drop 0 = dktJ0_init_2_0 := by decide +kernel
theorem dksJ0_init_2_1 : cJ0_init_2.data.toList.drop 24 = dktJ0_init_2_1 := dk_seg dksJ0_init_2_0 24 rfl rfl
theorem dJ0_init_2_0 : decode cJ0_init_2 0 = .ok (.aload_n 0, 1) := dk_42 (dk_at dksJ0_init_2_0 0 rfl rfl)
theorem dJ0_init_2_1 : decode cJ0_init_2 1 = .ok (.invokespecial 1, 3) := dk_183 0 1 (dk_at dksJ0_init_2_0 1 rfl rfl)
theorem dJ0_init_2_4 : decode cJ0_init_2 4 = .ok (.aload_n 0, 1) := dk_42 (dk_at dksJ0_init_2_0 4 rfl rfl)
theorem dJ0_init_2_5 : decode cJ0_init_2 5 = .ok (.aload_n 0, 1) := dk_42 (dk_at dksJ0_init_2_0 5 rfl rfl)
theorem dJ0_init_2_6 : decode cJ0_init_2 6 = .ok (.putfield 7, 3) := dk_181 0 7 (dk_at dksJ0_init_2_0 6 rfl rfl)
theorem dJ0_init_2_9 : decode cJ0_init_2 9 = .ok (.aload_n 0, 1) := dk_42 (dk_at dksJ0_init_2_0 9 rfl rfl)
theorem dJ0_init_2_10 : decode cJ0_init_2 10 = .ok (.getstatic 13, 3) := dk_178 0 13 (dk_at dksJ0_init_2_0 10 rfl rfl)
theorem dJ0_init_2_13 : decode cJ0_init_2 13 = .ok (.putfield 17, 3) := dk_181 0 17 (dk_at dksJ0_init_2_0 13 rfl rfl)
theorem dJ0_init_2_16 : decode cJ0_init_2 16 = .ok (.aload_n 0, 1) := dk_42 (dk_at dksJ0_init_2_0 16 rfl rfl)
theorem dJ0_init_2_17 : decode cJ0_init_2 17 = .ok (.getstatic 20, 3) := dk_178 0 20 (dk_at dksJ0_init_2_0 17 rfl rfl)
theorem dJ0_init_2_20 : decode cJ0_init_2 20 = .ok (.putfield 24, 3) := dk_181 0 24 (dk_at dksJ0_init_2_0 20 rfl rfl)
theorem dJ0_init_2_23 : decode cJ0_init_2 23 = .ok (.aload_n 0, 1) := dk_42 (dk_at dksJ0_init_2_0 23 rfl rfl)
theorem dJ0_init_2_24 : decode cJ0_init_2 24 = .ok (.invokevirtual 27, 3) := dk_182 0 27 (dk_at dksJ0_init_2_1 0 rfl rfl)
theorem dJ0_init_2_27 : decode cJ0_init_2 27 = .ok (.pop, 1) := dk_87 (dk_at dksJ0_init_2_1 3 rfl rfl)
theorem dJ0_init_2_28 : decode cJ0_init_2 28 = .ok (.return_, 1) := dk_177 (dk_at dksJ0_init_2_1 4 rfl rfl)
theorem q110 : (Jvm.Cond.initialized "java/lang/Throwable") ∈ lw_all := lw_g (lw_at lw_m1 4 rfl) rfl
theorem q366 : (Jvm.Cond.instanceMethod ({ cls := "java/lang/Throwable", name := "<init>", desc := "(Ljava/lang/String;)V" } : Jvm.MethodName)) ∈ lw_all := lw_g (lw_at lw_m2 20 rfl) rfl
theorem q367 : (Jvm.Cond.code ({ cls := "java/lang/Throwable", name := "<init>", desc := "(Ljava/lang/String;)V" } : Jvm.MethodName) prog_24_method_2_code (2 : Nat) (Option.none : Option Jvm.ClassFile.FieldType)) ∈ lw_all := lw_g (lw_at lw_m2 21 rfl) rfl
theorem q368 : (Jvm.Cond.methodLink "java/lang/Throwable" (1 : Nat) ({ cls := "java/lang/Object", name := "<init>", desc := "()V" } : Jvm.MethodName)) ∈ lw_all := lw_g (lw_at lw_m2 22 rfl) rfl
theorem q369 : (Jvm.Cond.fieldLink "java/lang/Throwable" (13 : Nat) "java/lang/Throwable" "UNASSIGNED_STACK" "[Ljava/lang/StackTraceElement;") ∈ lw_all := lw_g (lw_at lw_m2 23 rfl) rfl
theorem q370 : (Jvm.Cond.laysStatic "java/lang/Throwable" "UNASSIGNED_STACK" "[Ljava/lang/StackTraceElement;") ∈ lw_tbl := lw_at lw_m2 24 rfl
theorem q371 : (Jvm.Cond.fieldLink "java/lang/Throwable" (20 : Nat) "java/lang/Throwable" "SUPPRESSED_SENTINEL" "Ljava/util/List;") ∈ lw_all := lw_g (lw_at lw_m2 25 rfl) rfl
theorem q372 : (Jvm.Cond.laysStatic "java/lang/Throwable" "SUPPRESSED_SENTINEL" "Ljava/util/List;") ∈ lw_tbl := lw_at lw_m2 26 rfl
theorem q373 : (Jvm.Cond.methodLink "java/lang/Throwable" (27 : Nat) ({ cls := "java/lang/Throwable", name := "fillInStackTrace", desc := "()Ljava/lang/Throwable;" } : Jvm.MethodName)) ∈ lw_all := lw_g (lw_at lw_m2 27 rfl) rfl
theorem q374 : (Jvm.Cond.instanceMethod ({ cls := "java/lang/Throwable", name := "fillInStackTrace", desc := "()Ljava/lang/Throwable;" } : Jvm.MethodName)) ∈ lw_all := lw_g (lw_at lw_m2 28 rfl) rfl
theorem q375 : (Jvm.Cond.sameMethod "java/lang/Throwable" "java/lang/Throwable" "fillInStackTrace" "()Ljava/lang/Throwable;") ∈ lw_all := lw_g (lw_at lw_m2 29 rfl) rfl
theorem q390 : (Jvm.Cond.declares ({ cls := "java/lang/Throwable", name := "fillInStackTrace", desc := "()Ljava/lang/Throwable;" } : Jvm.MethodName)) ∈ lw_tbl := lw_at lw_m2 44 rfl
theorem q394 : (Jvm.Cond.codeSync ({ cls := "java/lang/Throwable", name := "fillInStackTrace", desc := "()Ljava/lang/Throwable;" } : Jvm.MethodName) prog_24_method_18_code (1 : Nat) (Option.some (Jvm.ClassFile.FieldType.object "java/lang/Throwable"))) ∈ lw_all := lw_g (lw_at lw_m2 48 rfl) rfl
theorem q395 : (Jvm.Cond.methodLink "java/lang/Throwable" (202 : Nat) ({ cls := "java/lang/Throwable", name := "fillInStackTrace", desc := "(I)Ljava/lang/Throwable;" } : Jvm.MethodName)) ∈ lw_all := lw_g (lw_at lw_m2 49 rfl) rfl
theorem q396 : (Jvm.Cond.privateMethod ({ cls := "java/lang/Throwable", name := "fillInStackTrace", desc := "(I)Ljava/lang/Throwable;" } : Jvm.MethodName)) ∈ lw_tbl := lw_at lw_m2 50 rfl
theorem q397 : (Jvm.Cond.instanceMethod ({ cls := "java/lang/Throwable", name := "fillInStackTrace", desc := "(I)Ljava/lang/Throwable;" } : Jvm.MethodName)) ∈ lw_all := lw_g (lw_at lw_m2 51 rfl) rfl
theorem q398 : (Jvm.Cond.instantiable "java/lang/Throwable" (6 : Nat)) ∈ lw_all := lw_g (lw_at lw_m2 52 rfl) rfl
theorem q399 : (Jvm.Cond.native ({ cls := "java/lang/Throwable", name := "fillInStackTrace", desc := "(I)Ljava/lang/Throwable;" } : Jvm.MethodName)) ∈ lw_all := lw_g (lw_at lw_m2 53 rfl) rfl
theorem q400 : (Jvm.Cond.fieldLink "java/lang/Throwable" (198 : Nat) "java/lang/Throwable" "backtrace" "Ljava/lang/Object;") ∈ lw_all := lw_g (lw_at lw_m2 54 rfl) rfl
theorem q401 : (Jvm.Cond.fieldLink "java/lang/Throwable" (31 : Nat) "java/lang/Throwable" "detailMessage" "Ljava/lang/String;") ∈ lw_all := lw_g (lw_at lw_m2 55 rfl) rfl
theorem q402 : (Jvm.Cond.fieldLink "java/lang/Throwable" (7 : Nat) "java/lang/Throwable" "cause" "Ljava/lang/Throwable;") ∈ lw_all := lw_g (lw_at lw_m2 56 rfl) rfl
theorem q403 : (Jvm.Cond.fieldLink "java/lang/Throwable" (17 : Nat) "java/lang/Throwable" "stackTrace" "[Ljava/lang/StackTraceElement;") ∈ lw_all := lw_g (lw_at lw_m2 57 rfl) rfl
theorem q404 : (Jvm.Cond.fieldLink "java/lang/Throwable" (24 : Nat) "java/lang/Throwable" "suppressedExceptions" "Ljava/util/List;") ∈ lw_all := lw_g (lw_at lw_m2 58 rfl) rfl
theorem q406 : (Jvm.Cond.soleField "java/lang/Throwable" "backtrace") ∈ lw_all := lw_g (lw_at lw_m2 60 rfl) rfl
theorem q408 : (Jvm.Cond.soleField "java/lang/Throwable" "detailMessage") ∈ lw_all := lw_g (lw_at lw_m2 62 rfl) rfl
theorem q410 : (Jvm.Cond.soleField "java/lang/Throwable" "cause") ∈ lw_all := lw_g (lw_at lw_m2 64 rfl) rfl
theorem q412 : (Jvm.Cond.soleField "java/lang/Throwable" "stackTrace") ∈ lw_all := lw_g (lw_at lw_m2 66 rfl) rfl
theorem q414 : (Jvm.Cond.soleField "java/lang/Throwable" "depth") ∈ lw_all := lw_g (lw_at lw_m2 68 rfl) rfl
theorem q416 : (Jvm.Cond.soleField "java/lang/Throwable" "suppressedExceptions") ∈ lw_all := lw_g (lw_at lw_m2 70 rfl) rfl
theorem q423 : (Jvm.Cond.declares ({ cls := "java/lang/Throwable", name := "<init>", desc := "()V" } : Jvm.MethodName)) ∈ lw_tbl := lw_at lw_m2 77 rfl
theorem q424 : (Jvm.Cond.declares ({ cls := "java/lang/Throwable", name := "<init>", desc := "(Ljava/lang/String;)V" } : Jvm.MethodName)) ∈ lw_tbl := lw_at lw_m2 78 rfl
theorem q426 : (Jvm.Cond.lays "java/lang/Throwable" "java/lang/Throwable" "cause" "Ljava/lang/Throwable;") ∈ lw_all := lw_g (lw_at lw_m2 80 rfl) rfl
theorem q427 : (Jvm.Cond.lays "java/lang/Throwable" "java/lang/Throwable" "stackTrace" "[Ljava/lang/StackTraceElement;") ∈ lw_all := lw_g (lw_at lw_m2 81 rfl) rfl
theorem q428 : (Jvm.Cond.lays "java/lang/Throwable" "java/lang/Throwable" "suppressedExceptions" "Ljava/util/List;") ∈ lw_all := lw_g (lw_at lw_m2 82 rfl) rfl
theorem q429 : (Jvm.Cond.lays "java/lang/Throwable" "java/lang/Throwable" "detailMessage" "Ljava/lang/String;") ∈ lw_all := lw_g (lw_at lw_m2 83 rfl) rfl
theorem q430 : (Jvm.Cond.lays "java/lang/Throwable" "java/lang/Throwable" "backtrace" "Ljava/lang/Object;") ∈ lw_all := lw_g (lw_at lw_m2 84 rfl) rfl
theorem q431 : (Jvm.Cond.fieldLink "java/lang/Throwable" (198 : Nat) "java/lang/Throwable" "backtrace" "Ljava/lang/Object;") ∈ lw_all := lw_g (lw_at lw_m2 85 rfl) rfl
theorem q432 : (Jvm.Cond.superclass "java/lang/Throwable" "java/lang/Object") ∈ lw_all := lw_g (lw_at lw_m2 86 rfl) rfl
theorem q433 : (Jvm.Cond.instanceMethod ({ cls := "java/lang/Throwable", name := "<init>", desc := "()V" } : Jvm.MethodName)) ∈ lw_all := lw_g (lw_at lw_m2 87 rfl) rfl
theorem q434 : (Jvm.Cond.code ({ cls := "java/lang/Throwable", name := "<init>", desc := "()V" } : Jvm.MethodName) prog_24_method_1_code (1 : Nat) (Option.none : Option Jvm.ClassFile.FieldType)) ∈ lw_all := lw_g (lw_at lw_m2 88 rfl) rfl
theorem q1785 : (Jvm.Cond.sameMethod "java/lang/Throwable" "java/lang/Throwable" "fillInStackTrace" "(I)Ljava/lang/Throwable;") ∈ lw_all := lw_g (lw_at lw_m7 239 rfl) rfl
theorem in_J0 : ∀ w ∈ wsJ00, w ∈ lw_all := lw_in wsJ00 [426, 427, 428, 429, 430] (by decide +kernel) (by decide +kernel)
/-! java/lang/Exception -/
set_option maxRecDepth 100000
def RJ1 : String := "java/lang/Exception"
abbrev cJ1_init : ByteArray := prog_16_method_2_code
def yJ1_init : MethodName := ⟨RJ1, "<init>", "(Ljava/lang/String;)V"⟩
def dkwJ1_init_0 : List UInt8 := [42, 43, 183, 0, 7, 177]
abbrev dktJ1_init_0 : List UInt8 := dkwJ1_init_0 ++ []
theorem dksJ1_init_0 : cJ1_init.data.toList.drop 0 = dktJ1_init_0 := by decide +kernel
theorem dJ1_init_0 : decode cJ1_init 0 = .ok (.aload_n 0, 1) := dk_42 (dk_at dksJ1_init_0 0 rfl rfl)
theorem dJ1_init_1 : decode cJ1_init 1 = .ok (.aload_n 1, 1) := dk_43 (dk_at dksJ1_init_0 1 rfl rfl)
theorem dJ1_init_2 : decode cJ1_init 2 = .ok (.invokespecial 7, 3) := dk_183 0 7 (dk_at dksJ1_init_0 2 rfl rfl)
theorem dJ1_init_5 : decode cJ1_init 5 = .ok (.return_, 1) := dk_177 (dk_at dksJ1_init_0 5 rfl rfl)
abbrev cJ1_init_2 : ByteArray := prog_16_method_1_code
def yJ1_init_2 : MethodName := ⟨RJ1, "<init>", "()V"⟩
theorem dJ1_init_2_0 : decode cJ1_init_2 0 = .ok (.aload_n 0, 1) := by decide +kernel
theorem dJ1_init_2_1 : decode cJ1_init_2 1 = .ok (.invokespecial 1, 3) := by decide +kernel
theorem dJ1_init_2_4 : decode cJ1_init_2 4 = .ok (.return_, 1) := by decide +kernel
theorem q111 : (Jvm.Cond.initialized "java/lang/Exception") ∈ lw_all := lw_g (lw_at lw_m1 5 rfl) rfl
theorem q363 : (Jvm.Cond.instanceMethod ({ cls := "java/lang/Exception", name := "<init>", desc := "(Ljava/lang/String;)V" } : Jvm.MethodName)) ∈ lw_all := lw_g (lw_at lw_m2 17 rfl) rfl
theorem q364 : (Jvm.Cond.code ({ cls := "java/lang/Exception", name := "<init>", desc := "(Ljava/lang/String;)V" } : Jvm.MethodName) prog_16_method_2_code (2 : Nat) (Option.none : Option Jvm.ClassFile.FieldType)) ∈ lw_all := lw_g (lw_at lw_m2 18 rfl) rfl
theorem q365 : (Jvm.Cond.methodLink "java/lang/Exception" (7 : Nat) ({ cls := "java/lang/Throwable", name := "<init>", desc := "(Ljava/lang/String;)V" } : Jvm.MethodName)) ∈ lw_all := lw_g (lw_at lw_m2 19 rfl) rfl
theorem q393 : (Jvm.Cond.superclass "java/lang/Exception" "java/lang/Throwable") ∈ lw_all := lw_g (lw_at lw_m2 47 rfl) rfl
theorem q421 : (Jvm.Cond.declares ({ cls := "java/lang/Exception", name := "<init>", desc := "()V" } : Jvm.MethodName)) ∈ lw_tbl := lw_at lw_m2 75 rfl
theorem q422 : (Jvm.Cond.declares ({ cls := "java/lang/Exception", name := "<init>", desc := "(Ljava/lang/String;)V" } : Jvm.MethodName)) ∈ lw_tbl := lw_at lw_m2 76 rfl
theorem q465 : (Jvm.Cond.instanceMethod ({ cls := "java/lang/Exception", name := "<init>", desc := "()V" } : Jvm.MethodName)) ∈ lw_all := lw_g (lw_at lw_m2 119 rfl) rfl
theorem q466 : (Jvm.Cond.code ({ cls := "java/lang/Exception", name := "<init>", desc := "()V" } : Jvm.MethodName) prog_16_method_1_code (1 : Nat) (Option.none : Option Jvm.ClassFile.FieldType)) ∈ lw_all := lw_g (lw_at lw_m2 120 rfl) rfl
theorem q467 : (Jvm.Cond.methodLink "java/lang/Exception" (1 : Nat) ({ cls := "java/lang/Throwable", name := "<init>", desc := "()V" } : Jvm.MethodName)) ∈ lw_all := lw_g (lw_at lw_m2 121 rfl) rfl
/-! java/lang/RuntimeException -/
set_option maxRecDepth 100000
def RJ2 : String := "java/lang/RuntimeException"
abbrev cJ2_init : ByteArray := prog_21_method_2_code
def yJ2_init : MethodName := ⟨RJ2, "<init>", "(Ljava/lang/String;)V"⟩
def dkwJ2_init_0 : List UInt8 := [42, 43, 183, 0, 7, 177]
abbrev dktJ2_init_0 : List UInt8 := dkwJ2_init_0 ++ []
theorem dksJ2_init_0 : cJ2_init.data.toList.drop 0 = dktJ2_init_0 := by decide +kernel
theorem dJ2_init_0 : decode cJ2_init 0 = .ok (.aload_n 0, 1) := dk_42 (dk_at dksJ2_init_0 0 rfl rfl)
theorem dJ2_init_1 : decode cJ2_init 1 = .ok (.aload_n 1, 1) := dk_43 (dk_at dksJ2_init_0 1 rfl rfl)
theorem dJ2_init_2 : decode cJ2_init 2 = .ok (.invokespecial 7, 3) := dk_183 0 7 (dk_at dksJ2_init_0 2 rfl rfl)
theorem dJ2_init_5 : decode cJ2_init 5 = .ok (.return_, 1) := dk_177 (dk_at dksJ2_init_0 5 rfl rfl)
abbrev cJ2_init_2 : ByteArray := prog_21_method_1_code
def yJ2_init_2 : MethodName := ⟨RJ2, "<init>", "()V"⟩
theorem dJ2_init_2_0 : decode cJ2_init_2 0 = .ok (.aload_n 0, 1) := by decide +kernel
theorem dJ2_init_2_1 : decode cJ2_init_2 1 = .ok (.invokespecial 1, 3) := by decide +kernel
theorem dJ2_init_2_4 : decode cJ2_init_2 4 = .ok (.return_, 1) := by decide +kernel
theorem q112 : (Jvm.Cond.initialized "java/lang/RuntimeException") ∈ lw_all := lw_g (lw_at lw_m1 6 rfl) rfl
theorem q360 : (Jvm.Cond.instanceMethod ({ cls := "java/lang/RuntimeException", name := "<init>", desc := "(Ljava/lang/String;)V" } : Jvm.MethodName)) ∈ lw_all := lw_g (lw_at lw_m2 14 rfl) rfl
theorem q361 : (Jvm.Cond.code ({ cls := "java/lang/RuntimeException", name := "<init>", desc := "(Ljava/lang/String;)V" } : Jvm.MethodName) prog_21_method_2_code (2 : Nat) (Option.none : Option Jvm.ClassFile.FieldType)) ∈ lw_all := lw_g (lw_at lw_m2 15 rfl) rfl
theorem q362 : (Jvm.Cond.methodLink "java/lang/RuntimeException" (7 : Nat) ({ cls := "java/lang/Exception", name := "<init>", desc := "(Ljava/lang/String;)V" } : Jvm.MethodName)) ∈ lw_all := lw_g (lw_at lw_m2 16 rfl) rfl
theorem q389 : (Jvm.Cond.sameMethod "java/lang/RuntimeException" "java/lang/Throwable" "fillInStackTrace" "()Ljava/lang/Throwable;") ∈ lw_all := lw_g (lw_at lw_m2 43 rfl) rfl
theorem q392 : (Jvm.Cond.superclass "java/lang/RuntimeException" "java/lang/Exception") ∈ lw_all := lw_g (lw_at lw_m2 46 rfl) rfl
theorem q419 : (Jvm.Cond.declares ({ cls := "java/lang/RuntimeException", name := "<init>", desc := "()V" } : Jvm.MethodName)) ∈ lw_tbl := lw_at lw_m2 73 rfl
theorem q420 : (Jvm.Cond.declares ({ cls := "java/lang/RuntimeException", name := "<init>", desc := "(Ljava/lang/String;)V" } : Jvm.MethodName)) ∈ lw_tbl := lw_at lw_m2 74 rfl
theorem q462 : (Jvm.Cond.instanceMethod ({ cls := "java/lang/RuntimeException", name := "<init>", desc := "()V" } : Jvm.MethodName)) ∈ lw_all := lw_g (lw_at lw_m2 116 rfl) rfl
theorem q463 : (Jvm.Cond.code ({ cls := "java/lang/RuntimeException", name := "<init>", desc := "()V" } : Jvm.MethodName) prog_21_method_1_code (1 : Nat) (Option.none : Option Jvm.ClassFile.FieldType)) ∈ lw_all := lw_g (lw_at lw_m2 117 rfl) rfl
theorem q464 : (Jvm.Cond.methodLink "java/lang/RuntimeException" (1 : Nat) ({ cls := "java/lang/Exception", name := "<init>", desc := "()V" } : Jvm.MethodName)) ∈ lw_all := lw_g (lw_at lw_m2 118 rfl) rfl
theorem q482 : (Jvm.Cond.castable "java/lang/RuntimeException" "java/lang/Throwable") ∈ lw_tbl := lw_at lw_m2 136 rfl
/-! java/lang/NegativeArraySizeException -/
set_option maxRecDepth 100000
def RJ3 : String := "java/lang/NegativeArraySizeException"
def TJ3 : u_T := fun k => match k with
  | 0 => ("java/lang/Throwable", "backtrace", "Ljava/lang/Object;", false)
  | 1 => ("java/lang/Throwable", "detailMessage", "Ljava/lang/String;", false)
  | 2 => ("java/lang/Throwable", "cause", "Ljava/lang/Throwable;", false)
  | 3 => ("java/lang/Throwable", "stackTrace", "[Ljava/lang/StackTraceElement;", false)
  | 4 => ("java/lang/Throwable", "depth", "I", false)
  | _ => ("java/lang/Throwable", "suppressedExceptions", "Ljava/util/List;", false)
def tyJ3 : Nat → FieldType := fun k => match k with
  | 0 => .object "java/lang/Object"
  | 1 => .object "java/lang/String"
  | 2 => .object "java/lang/Throwable"
  | 3 => .array (.object "java/lang/StackTraceElement")
  | 4 => .int
  | _ => .object "java/util/List"
abbrev wsJ30 : List Cond := u_ws RJ3 TJ3 6
theorem nmJ3 : ∀ a, a < 6 → ∀ b, b < 6 → a ≠ b → (TJ3 a).2.1 ≠ (TJ3 b).2.1 := by decide +kernel
theorem tyJ3_ok : ∀ k, k < 6 → parseFieldDescriptor (TJ3 k).2.2.1 = some (tyJ3 k) := by decide +kernel
abbrev cJ3_init : ByteArray := prog_19_method_2_code
def yJ3_init : MethodName := ⟨RJ3, "<init>", "(Ljava/lang/String;)V"⟩
def dkwJ3_init_0 : List UInt8 := [42, 43, 183, 0, 7, 177]
abbrev dktJ3_init_0 : List UInt8 := dkwJ3_init_0 ++ []
theorem dksJ3_init_0 : cJ3_init.data.toList.drop 0 = dktJ3_init_0 := by decide +kernel
theorem dJ3_init_0 : decode cJ3_init 0 = .ok (.aload_n 0, 1) := dk_42 (dk_at dksJ3_init_0 0 rfl rfl)
theorem dJ3_init_1 : decode cJ3_init 1 = .ok (.aload_n 1, 1) := dk_43 (dk_at dksJ3_init_0 1 rfl rfl)
theorem dJ3_init_2 : decode cJ3_init 2 = .ok (.invokespecial 7, 3) := dk_183 0 7 (dk_at dksJ3_init_0 2 rfl rfl)
theorem dJ3_init_5 : decode cJ3_init 5 = .ok (.return_, 1) := dk_177 (dk_at dksJ3_init_0 5 rfl rfl)
theorem q113 : (Jvm.Cond.initialized "java/lang/NegativeArraySizeException") ∈ lw_all := lw_g (lw_at lw_m1 7 rfl) rfl
theorem q356 : (Jvm.Cond.instantiable "java/lang/NegativeArraySizeException" (6 : Nat)) ∈ lw_all := lw_g (lw_at lw_m2 10 rfl) rfl
theorem q357 : (Jvm.Cond.instanceMethod ({ cls := "java/lang/NegativeArraySizeException", name := "<init>", desc := "(Ljava/lang/String;)V" } : Jvm.MethodName)) ∈ lw_all := lw_g (lw_at lw_m2 11 rfl) rfl
theorem q358 : (Jvm.Cond.code ({ cls := "java/lang/NegativeArraySizeException", name := "<init>", desc := "(Ljava/lang/String;)V" } : Jvm.MethodName) prog_19_method_2_code (2 : Nat) (Option.none : Option Jvm.ClassFile.FieldType)) ∈ lw_all := lw_g (lw_at lw_m2 12 rfl) rfl
theorem q359 : (Jvm.Cond.methodLink "java/lang/NegativeArraySizeException" (7 : Nat) ({ cls := "java/lang/RuntimeException", name := "<init>", desc := "(Ljava/lang/String;)V" } : Jvm.MethodName)) ∈ lw_all := lw_g (lw_at lw_m2 13 rfl) rfl
theorem q379 : (Jvm.Cond.selects "java/lang/NegativeArraySizeException" ({ cls := "java/lang/Throwable", name := "fillInStackTrace", desc := "()Ljava/lang/Throwable;" } : Jvm.MethodName) ({ cls := "java/lang/Throwable", name := "fillInStackTrace", desc := "()Ljava/lang/Throwable;" } : Jvm.MethodName)) ∈ lw_all := lw_g (lw_at lw_m2 33 rfl) rfl
theorem q405 : (Jvm.Cond.lays "java/lang/NegativeArraySizeException" "java/lang/Throwable" "backtrace" "Ljava/lang/Object;") ∈ lw_all := lw_g (lw_at lw_m2 59 rfl) rfl
theorem q407 : (Jvm.Cond.lays "java/lang/NegativeArraySizeException" "java/lang/Throwable" "detailMessage" "Ljava/lang/String;") ∈ lw_all := lw_g (lw_at lw_m2 61 rfl) rfl
theorem q409 : (Jvm.Cond.lays "java/lang/NegativeArraySizeException" "java/lang/Throwable" "cause" "Ljava/lang/Throwable;") ∈ lw_all := lw_g (lw_at lw_m2 63 rfl) rfl
theorem q411 : (Jvm.Cond.lays "java/lang/NegativeArraySizeException" "java/lang/Throwable" "stackTrace" "[Ljava/lang/StackTraceElement;") ∈ lw_all := lw_g (lw_at lw_m2 65 rfl) rfl
theorem q413 : (Jvm.Cond.lays "java/lang/NegativeArraySizeException" "java/lang/Throwable" "depth" "I") ∈ lw_all := lw_g (lw_at lw_m2 67 rfl) rfl
theorem q415 : (Jvm.Cond.lays "java/lang/NegativeArraySizeException" "java/lang/Throwable" "suppressedExceptions" "Ljava/util/List;") ∈ lw_all := lw_g (lw_at lw_m2 69 rfl) rfl
theorem q417 : (Jvm.Cond.superclass "java/lang/NegativeArraySizeException" "java/lang/RuntimeException") ∈ lw_all := lw_g (lw_at lw_m2 71 rfl) rfl
theorem q418 : (Jvm.Cond.castable "java/lang/NegativeArraySizeException" "java/lang/NegativeArraySizeException") ∈ lw_tbl := lw_at lw_m2 72 rfl
theorem q425 : (Jvm.Cond.selects "java/lang/NegativeArraySizeException" ({ cls := "java/lang/Throwable", name := "fillInStackTrace", desc := "(I)Ljava/lang/Throwable;" } : Jvm.MethodName) ({ cls := "java/lang/Throwable", name := "fillInStackTrace", desc := "(I)Ljava/lang/Throwable;" } : Jvm.MethodName)) ∈ lw_all := lw_g (lw_at lw_m2 79 rfl) rfl
theorem in_J3 : ∀ w ∈ wsJ30, w ∈ lw_all := lw_in wsJ30 [405, 407, 409, 411, 413, 415] (by decide +kernel) (by decide +kernel)
/-! java/lang/String -/
set_option maxRecDepth 100000
def RJ4 : String := "java/lang/String"
def TJ4 : u_T := fun k => match k with
  | 0 => ("java/lang/String", "value", "[B", true)
  | _ => ("java/lang/String", "coder", "B", true)
def tyJ4 : Nat → FieldType := fun k => match k with
  | 0 => .array .byte
  | _ => .byte
abbrev wsJ40 : List Cond := u_ws RJ4 TJ4 2
theorem nmJ4 : ∀ a, a < 2 → ∀ b, b < 2 → a ≠ b → (TJ4 a).2.1 ≠ (TJ4 b).2.1 := by decide +kernel
theorem tyJ4_ok : ∀ k, k < 2 → parseFieldDescriptor (TJ4 k).2.2.1 = some (tyJ4 k) := by decide +kernel
theorem q114 : (Jvm.Cond.initialized "java/lang/String") ∈ lw_all := lw_g (lw_at lw_m1 8 rfl) rfl
theorem q435 : (Jvm.Cond.instantiable "java/lang/String" (4 : Nat)) ∈ lw_all := lw_g (lw_at lw_m2 89 rfl) rfl
theorem q436 : (Jvm.Cond.laysFinal "java/lang/String" "java/lang/String" "value" "[B") ∈ lw_all := lw_g (lw_at lw_m2 90 rfl) rfl
theorem q437 : (Jvm.Cond.soleField "java/lang/String" "value") ∈ lw_all := lw_g (lw_at lw_m2 91 rfl) rfl
theorem q438 : (Jvm.Cond.laysFinal "java/lang/String" "java/lang/String" "coder" "B") ∈ lw_all := lw_g (lw_at lw_m2 92 rfl) rfl
theorem q439 : (Jvm.Cond.soleField "java/lang/String" "coder") ∈ lw_all := lw_g (lw_at lw_m2 93 rfl) rfl
theorem in_J4 : ∀ w ∈ wsJ40, w ∈ lw_all := lw_in wsJ40 [436, 438] (by decide +kernel) (by decide +kernel)
/-! java/lang/NullPointerException -/
set_option maxRecDepth 100000
def RJ5 : String := "java/lang/NullPointerException"
def TJ5 : u_T := fun k => match k with
  | 0 => ("java/lang/Throwable", "backtrace", "Ljava/lang/Object;", false)
  | 1 => ("java/lang/Throwable", "detailMessage", "Ljava/lang/String;", false)
  | 2 => ("java/lang/Throwable", "cause", "Ljava/lang/Throwable;", false)
  | 3 => ("java/lang/Throwable", "stackTrace", "[Ljava/lang/StackTraceElement;", false)
  | 4 => ("java/lang/Throwable", "depth", "I", false)
  | 5 => ("java/lang/Throwable", "suppressedExceptions", "Ljava/util/List;", false)
  | 6 => ("java/lang/NullPointerException", "extendedMessageState", "I", false)
  | _ => ("java/lang/NullPointerException", "extendedMessage", "Ljava/lang/String;", false)
def tyJ5 : Nat → FieldType := fun k => match k with
  | 0 => .object "java/lang/Object"
  | 1 => .object "java/lang/String"
  | 2 => .object "java/lang/Throwable"
  | 3 => .array (.object "java/lang/StackTraceElement")
  | 4 => .int
  | 5 => .object "java/util/List"
  | 6 => .int
  | _ => .object "java/lang/String"
abbrev wsJ50 : List Cond := u_ws RJ5 TJ5 8
theorem nmJ5 : ∀ a, a < 8 → ∀ b, b < 8 → a ≠ b → (TJ5 a).2.1 ≠ (TJ5 b).2.1 := by decide +kernel
theorem tyJ5_ok : ∀ k, k < 8 → parseFieldDescriptor (TJ5 k).2.2.1 = some (tyJ5 k) := by decide +kernel
abbrev cJ5_init : ByteArray := prog_20_method_1_code
def yJ5_init : MethodName := ⟨RJ5, "<init>", "()V"⟩
theorem dJ5_init_0 : decode cJ5_init 0 = .ok (.aload_n 0, 1) := by decide +kernel
theorem dJ5_init_1 : decode cJ5_init 1 = .ok (.invokespecial 1, 3) := by decide +kernel
theorem dJ5_init_4 : decode cJ5_init 4 = .ok (.return_, 1) := by decide +kernel
theorem q115 : (Jvm.Cond.initialized "java/lang/NullPointerException") ∈ lw_all := lw_g (lw_at lw_m1 9 rfl) rfl
theorem q380 : (Jvm.Cond.selects "java/lang/NullPointerException" ({ cls := "java/lang/Throwable", name := "fillInStackTrace", desc := "()Ljava/lang/Throwable;" } : Jvm.MethodName) ({ cls := "java/lang/NullPointerException", name := "fillInStackTrace", desc := "()Ljava/lang/Throwable;" } : Jvm.MethodName)) ∈ lw_all := lw_g (lw_at lw_m2 34 rfl) rfl
theorem q381 : (Jvm.Cond.instanceMethod ({ cls := "java/lang/NullPointerException", name := "fillInStackTrace", desc := "()Ljava/lang/Throwable;" } : Jvm.MethodName)) ∈ lw_all := lw_g (lw_at lw_m2 35 rfl) rfl
theorem q382 : (Jvm.Cond.codeSync ({ cls := "java/lang/NullPointerException", name := "fillInStackTrace", desc := "()Ljava/lang/Throwable;" } : Jvm.MethodName) prog_20_method_3_code (1 : Nat) (Option.some (Jvm.ClassFile.FieldType.object "java/lang/Throwable"))) ∈ lw_all := lw_g (lw_at lw_m2 36 rfl) rfl
theorem q383 : (Jvm.Cond.methodLink "java/lang/NullPointerException" (16 : Nat) ({ cls := "java/lang/NullPointerException", name := "getExtendedNPEMessage", desc := "()Ljava/lang/String;" } : Jvm.MethodName)) ∈ lw_all := lw_g (lw_at lw_m2 37 rfl) rfl
theorem q384 : (Jvm.Cond.privateMethod ({ cls := "java/lang/NullPointerException", name := "getExtendedNPEMessage", desc := "()Ljava/lang/String;" } : Jvm.MethodName)) ∈ lw_tbl := lw_at lw_m2 38 rfl
theorem q385 : (Jvm.Cond.instanceMethod ({ cls := "java/lang/NullPointerException", name := "getExtendedNPEMessage", desc := "()Ljava/lang/String;" } : Jvm.MethodName)) ∈ lw_all := lw_g (lw_at lw_m2 39 rfl) rfl
theorem q386 : (Jvm.Cond.instantiable "java/lang/NullPointerException" (8 : Nat)) ∈ lw_all := lw_g (lw_at lw_m2 40 rfl) rfl
theorem q387 : (Jvm.Cond.native ({ cls := "java/lang/NullPointerException", name := "getExtendedNPEMessage", desc := "()Ljava/lang/String;" } : Jvm.MethodName)) ∈ lw_all := lw_g (lw_at lw_m2 41 rfl) rfl
theorem q388 : (Jvm.Cond.methodLink "java/lang/NullPointerException" (24 : Nat) ({ cls := "java/lang/RuntimeException", name := "fillInStackTrace", desc := "()Ljava/lang/Throwable;" } : Jvm.MethodName)) ∈ lw_all := lw_g (lw_at lw_m2 42 rfl) rfl
theorem q391 : (Jvm.Cond.superclass "java/lang/NullPointerException" "java/lang/RuntimeException") ∈ lw_all := lw_g (lw_at lw_m2 45 rfl) rfl
theorem q459 : (Jvm.Cond.instanceMethod ({ cls := "java/lang/NullPointerException", name := "<init>", desc := "()V" } : Jvm.MethodName)) ∈ lw_all := lw_g (lw_at lw_m2 113 rfl) rfl
theorem q460 : (Jvm.Cond.code ({ cls := "java/lang/NullPointerException", name := "<init>", desc := "()V" } : Jvm.MethodName) prog_20_method_1_code (1 : Nat) (Option.none : Option Jvm.ClassFile.FieldType)) ∈ lw_all := lw_g (lw_at lw_m2 114 rfl) rfl
theorem q461 : (Jvm.Cond.methodLink "java/lang/NullPointerException" (1 : Nat) ({ cls := "java/lang/RuntimeException", name := "<init>", desc := "()V" } : Jvm.MethodName)) ∈ lw_all := lw_g (lw_at lw_m2 115 rfl) rfl
theorem q468 : (Jvm.Cond.fieldLink "java/lang/NullPointerException" (10 : Nat) "java/lang/NullPointerException" "extendedMessageState" "I") ∈ lw_all := lw_g (lw_at lw_m2 122 rfl) rfl
theorem q469 : (Jvm.Cond.fieldLink "java/lang/NullPointerException" (20 : Nat) "java/lang/NullPointerException" "extendedMessage" "Ljava/lang/String;") ∈ lw_all := lw_g (lw_at lw_m2 123 rfl) rfl
theorem q470 : (Jvm.Cond.lays "java/lang/NullPointerException" "java/lang/NullPointerException" "extendedMessageState" "I") ∈ lw_all := lw_g (lw_at lw_m2 124 rfl) rfl
theorem q471 : (Jvm.Cond.soleField "java/lang/NullPointerException" "extendedMessageState") ∈ lw_all := lw_g (lw_at lw_m2 125 rfl) rfl
theorem q472 : (Jvm.Cond.lays "java/lang/NullPointerException" "java/lang/NullPointerException" "extendedMessage" "Ljava/lang/String;") ∈ lw_all := lw_g (lw_at lw_m2 126 rfl) rfl
theorem q473 : (Jvm.Cond.soleField "java/lang/NullPointerException" "extendedMessage") ∈ lw_all := lw_g (lw_at lw_m2 127 rfl) rfl
theorem q474 : (Jvm.Cond.lays "java/lang/NullPointerException" "java/lang/Throwable" "backtrace" "Ljava/lang/Object;") ∈ lw_all := lw_g (lw_at lw_m2 128 rfl) rfl
theorem q475 : (Jvm.Cond.lays "java/lang/NullPointerException" "java/lang/Throwable" "detailMessage" "Ljava/lang/String;") ∈ lw_all := lw_g (lw_at lw_m2 129 rfl) rfl
theorem q476 : (Jvm.Cond.lays "java/lang/NullPointerException" "java/lang/Throwable" "cause" "Ljava/lang/Throwable;") ∈ lw_all := lw_g (lw_at lw_m2 130 rfl) rfl
theorem q477 : (Jvm.Cond.lays "java/lang/NullPointerException" "java/lang/Throwable" "stackTrace" "[Ljava/lang/StackTraceElement;") ∈ lw_all := lw_g (lw_at lw_m2 131 rfl) rfl
theorem q478 : (Jvm.Cond.lays "java/lang/NullPointerException" "java/lang/Throwable" "depth" "I") ∈ lw_all := lw_g (lw_at lw_m2 132 rfl) rfl
theorem q479 : (Jvm.Cond.lays "java/lang/NullPointerException" "java/lang/Throwable" "suppressedExceptions" "Ljava/util/List;") ∈ lw_all := lw_g (lw_at lw_m2 133 rfl) rfl
theorem q480 : (Jvm.Cond.castable "java/lang/NullPointerException" "java/lang/NullPointerException") ∈ lw_tbl := lw_at lw_m2 134 rfl
theorem q481 : (Jvm.Cond.selects "java/lang/NullPointerException" ({ cls := "java/lang/Throwable", name := "fillInStackTrace", desc := "(I)Ljava/lang/Throwable;" } : Jvm.MethodName) ({ cls := "java/lang/Throwable", name := "fillInStackTrace", desc := "(I)Ljava/lang/Throwable;" } : Jvm.MethodName)) ∈ lw_all := lw_g (lw_at lw_m2 135 rfl) rfl
theorem in_J5 : ∀ w ∈ wsJ50, w ∈ lw_all := lw_in wsJ50 [474, 475, 476, 477, 478, 479, 470, 472] (by decide +kernel) (by decide +kernel)
/-! java/lang/IndexOutOfBoundsException -/
set_option maxRecDepth 100000
def RJ6 : String := "java/lang/IndexOutOfBoundsException"
abbrev cJ6_init : ByteArray := prog_17_method_2_code
def yJ6_init : MethodName := ⟨RJ6, "<init>", "(Ljava/lang/String;)V"⟩
def dkwJ6_init_0 : List UInt8 := [42, 43, 183, 0, 7, 177]
abbrev dktJ6_init_0 : List UInt8 := dkwJ6_init_0 ++ []
theorem dksJ6_init_0 : cJ6_init.data.toList.drop 0 = dktJ6_init_0 := by decide +kernel
theorem dJ6_init_0 : decode cJ6_init 0 = .ok (.aload_n 0, 1) := dk_42 (dk_at dksJ6_init_0 0 rfl rfl)
theorem dJ6_init_1 : decode cJ6_init 1 = .ok (.aload_n 1, 1) := dk_43 (dk_at dksJ6_init_0 1 rfl rfl)
theorem dJ6_init_2 : decode cJ6_init 2 = .ok (.invokespecial 7, 3) := dk_183 0 7 (dk_at dksJ6_init_0 2 rfl rfl)
theorem dJ6_init_5 : decode cJ6_init 5 = .ok (.return_, 1) := dk_177 (dk_at dksJ6_init_0 5 rfl rfl)
theorem q116 : (Jvm.Cond.initialized "java/lang/IndexOutOfBoundsException") ∈ lw_all := lw_g (lw_at lw_m1 10 rfl) rfl
theorem q488 : (Jvm.Cond.instanceMethod ({ cls := "java/lang/IndexOutOfBoundsException", name := "<init>", desc := "(Ljava/lang/String;)V" } : Jvm.MethodName)) ∈ lw_all := lw_g (lw_at lw_m2 142 rfl) rfl
theorem q489 : (Jvm.Cond.code ({ cls := "java/lang/IndexOutOfBoundsException", name := "<init>", desc := "(Ljava/lang/String;)V" } : Jvm.MethodName) prog_17_method_2_code (2 : Nat) (Option.none : Option Jvm.ClassFile.FieldType)) ∈ lw_all := lw_g (lw_at lw_m2 143 rfl) rfl
theorem q490 : (Jvm.Cond.methodLink "java/lang/IndexOutOfBoundsException" (7 : Nat) ({ cls := "java/lang/RuntimeException", name := "<init>", desc := "(Ljava/lang/String;)V" } : Jvm.MethodName)) ∈ lw_all := lw_g (lw_at lw_m2 144 rfl) rfl
theorem q499 : (Jvm.Cond.declares ({ cls := "java/lang/IndexOutOfBoundsException", name := "<init>", desc := "()V" } : Jvm.MethodName)) ∈ lw_tbl := lw_at lw_m2 153 rfl
theorem q500 : (Jvm.Cond.declares ({ cls := "java/lang/IndexOutOfBoundsException", name := "<init>", desc := "(Ljava/lang/String;)V" } : Jvm.MethodName)) ∈ lw_tbl := lw_at lw_m2 154 rfl
/-! java/lang/ArrayIndexOutOfBoundsException -/
set_option maxRecDepth 100000
def RJ7 : String := "java/lang/ArrayIndexOutOfBoundsException"
def TJ7 : u_T := fun k => match k with
  | 0 => ("java/lang/Throwable", "backtrace", "Ljava/lang/Object;", false)
  | 1 => ("java/lang/Throwable", "detailMessage", "Ljava/lang/String;", false)
  | 2 => ("java/lang/Throwable", "cause", "Ljava/lang/Throwable;", false)
  | 3 => ("java/lang/Throwable", "stackTrace", "[Ljava/lang/StackTraceElement;", false)
  | 4 => ("java/lang/Throwable", "depth", "I", false)
  | _ => ("java/lang/Throwable", "suppressedExceptions", "Ljava/util/List;", false)
def tyJ7 : Nat → FieldType := fun k => match k with
  | 0 => .object "java/lang/Object"
  | 1 => .object "java/lang/String"
  | 2 => .object "java/lang/Throwable"
  | 3 => .array (.object "java/lang/StackTraceElement")
  | 4 => .int
  | _ => .object "java/util/List"
abbrev wsJ70 : List Cond := u_ws RJ7 TJ7 6
theorem nmJ7 : ∀ a, a < 6 → ∀ b, b < 6 → a ≠ b → (TJ7 a).2.1 ≠ (TJ7 b).2.1 := by decide +kernel
theorem tyJ7_ok : ∀ k, k < 6 → parseFieldDescriptor (TJ7 k).2.2.1 = some (tyJ7 k) := by decide +kernel
abbrev cJ7_init : ByteArray := prog_14_method_2_code
def yJ7_init : MethodName := ⟨RJ7, "<init>", "(Ljava/lang/String;)V"⟩
def dkwJ7_init_0 : List UInt8 := [42, 43, 183, 0, 7, 177]
abbrev dktJ7_init_0 : List UInt8 := dkwJ7_init_0 ++ []
theorem dksJ7_init_0 : cJ7_init.data.toList.drop 0 = dktJ7_init_0 := by decide +kernel
theorem dJ7_init_0 : decode cJ7_init 0 = .ok (.aload_n 0, 1) := dk_42 (dk_at dksJ7_init_0 0 rfl rfl)
theorem dJ7_init_1 : decode cJ7_init 1 = .ok (.aload_n 1, 1) := dk_43 (dk_at dksJ7_init_0 1 rfl rfl)
theorem dJ7_init_2 : decode cJ7_init 2 = .ok (.invokespecial 7, 3) := dk_183 0 7 (dk_at dksJ7_init_0 2 rfl rfl)
theorem dJ7_init_5 : decode cJ7_init 5 = .ok (.return_, 1) := dk_177 (dk_at dksJ7_init_0 5 rfl rfl)
theorem q117 : (Jvm.Cond.initialized "java/lang/ArrayIndexOutOfBoundsException") ∈ lw_all := lw_g (lw_at lw_m1 11 rfl) rfl
theorem q377 : (Jvm.Cond.selects "java/lang/ArrayIndexOutOfBoundsException" ({ cls := "java/lang/Throwable", name := "fillInStackTrace", desc := "()Ljava/lang/Throwable;" } : Jvm.MethodName) ({ cls := "java/lang/Throwable", name := "fillInStackTrace", desc := "()Ljava/lang/Throwable;" } : Jvm.MethodName)) ∈ lw_all := lw_g (lw_at lw_m2 31 rfl) rfl
theorem q484 : (Jvm.Cond.instantiable "java/lang/ArrayIndexOutOfBoundsException" (6 : Nat)) ∈ lw_all := lw_g (lw_at lw_m2 138 rfl) rfl
theorem q485 : (Jvm.Cond.instanceMethod ({ cls := "java/lang/ArrayIndexOutOfBoundsException", name := "<init>", desc := "(Ljava/lang/String;)V" } : Jvm.MethodName)) ∈ lw_all := lw_g (lw_at lw_m2 139 rfl) rfl
theorem q486 : (Jvm.Cond.code ({ cls := "java/lang/ArrayIndexOutOfBoundsException", name := "<init>", desc := "(Ljava/lang/String;)V" } : Jvm.MethodName) prog_14_method_2_code (2 : Nat) (Option.none : Option Jvm.ClassFile.FieldType)) ∈ lw_all := lw_g (lw_at lw_m2 140 rfl) rfl
theorem q487 : (Jvm.Cond.methodLink "java/lang/ArrayIndexOutOfBoundsException" (7 : Nat) ({ cls := "java/lang/IndexOutOfBoundsException", name := "<init>", desc := "(Ljava/lang/String;)V" } : Jvm.MethodName)) ∈ lw_all := lw_g (lw_at lw_m2 141 rfl) rfl
theorem q491 : (Jvm.Cond.lays "java/lang/ArrayIndexOutOfBoundsException" "java/lang/Throwable" "backtrace" "Ljava/lang/Object;") ∈ lw_all := lw_g (lw_at lw_m2 145 rfl) rfl
theorem q492 : (Jvm.Cond.lays "java/lang/ArrayIndexOutOfBoundsException" "java/lang/Throwable" "detailMessage" "Ljava/lang/String;") ∈ lw_all := lw_g (lw_at lw_m2 146 rfl) rfl
theorem q493 : (Jvm.Cond.lays "java/lang/ArrayIndexOutOfBoundsException" "java/lang/Throwable" "cause" "Ljava/lang/Throwable;") ∈ lw_all := lw_g (lw_at lw_m2 147 rfl) rfl
theorem q494 : (Jvm.Cond.lays "java/lang/ArrayIndexOutOfBoundsException" "java/lang/Throwable" "stackTrace" "[Ljava/lang/StackTraceElement;") ∈ lw_all := lw_g (lw_at lw_m2 148 rfl) rfl
theorem q495 : (Jvm.Cond.lays "java/lang/ArrayIndexOutOfBoundsException" "java/lang/Throwable" "depth" "I") ∈ lw_all := lw_g (lw_at lw_m2 149 rfl) rfl
theorem q496 : (Jvm.Cond.lays "java/lang/ArrayIndexOutOfBoundsException" "java/lang/Throwable" "suppressedExceptions" "Ljava/util/List;") ∈ lw_all := lw_g (lw_at lw_m2 150 rfl) rfl
theorem q497 : (Jvm.Cond.superclass "java/lang/ArrayIndexOutOfBoundsException" "java/lang/IndexOutOfBoundsException") ∈ lw_all := lw_g (lw_at lw_m2 151 rfl) rfl
theorem q498 : (Jvm.Cond.castable "java/lang/ArrayIndexOutOfBoundsException" "java/lang/ArrayIndexOutOfBoundsException") ∈ lw_tbl := lw_at lw_m2 152 rfl
theorem q501 : (Jvm.Cond.selects "java/lang/ArrayIndexOutOfBoundsException" ({ cls := "java/lang/Throwable", name := "fillInStackTrace", desc := "(I)Ljava/lang/Throwable;" } : Jvm.MethodName) ({ cls := "java/lang/Throwable", name := "fillInStackTrace", desc := "(I)Ljava/lang/Throwable;" } : Jvm.MethodName)) ∈ lw_all := lw_g (lw_at lw_m2 155 rfl) rfl
theorem q1788 : (Jvm.Cond.castable "java/lang/ArrayIndexOutOfBoundsException" "java/lang/IndexOutOfBoundsException") ∈ lw_tbl := lw_at lw_m8 2 rfl
theorem in_J7 : ∀ w ∈ wsJ70, w ∈ lw_all := lw_in wsJ70 [491, 492, 493, 494, 495, 496] (by decide +kernel) (by decide +kernel)
/-! java/lang/ArithmeticException -/
set_option maxRecDepth 100000
def RJ8 : String := "java/lang/ArithmeticException"
def TJ8 : u_T := fun k => match k with
  | 0 => ("java/lang/Throwable", "backtrace", "Ljava/lang/Object;", false)
  | 1 => ("java/lang/Throwable", "detailMessage", "Ljava/lang/String;", false)
  | 2 => ("java/lang/Throwable", "cause", "Ljava/lang/Throwable;", false)
  | 3 => ("java/lang/Throwable", "stackTrace", "[Ljava/lang/StackTraceElement;", false)
  | 4 => ("java/lang/Throwable", "depth", "I", false)
  | _ => ("java/lang/Throwable", "suppressedExceptions", "Ljava/util/List;", false)
def tyJ8 : Nat → FieldType := fun k => match k with
  | 0 => .object "java/lang/Object"
  | 1 => .object "java/lang/String"
  | 2 => .object "java/lang/Throwable"
  | 3 => .array (.object "java/lang/StackTraceElement")
  | 4 => .int
  | _ => .object "java/util/List"
abbrev wsJ80 : List Cond := u_ws RJ8 TJ8 6
theorem nmJ8 : ∀ a, a < 6 → ∀ b, b < 6 → a ≠ b → (TJ8 a).2.1 ≠ (TJ8 b).2.1 := by decide +kernel
theorem tyJ8_ok : ∀ k, k < 6 → parseFieldDescriptor (TJ8 k).2.2.1 = some (tyJ8 k) := by decide +kernel
abbrev cJ8_init : ByteArray := prog_13_method_2_code
def yJ8_init : MethodName := ⟨RJ8, "<init>", "(Ljava/lang/String;)V"⟩
def dkwJ8_init_0 : List UInt8 := [42, 43, 183, 0, 7, 177]
abbrev dktJ8_init_0 : List UInt8 := dkwJ8_init_0 ++ []
theorem dksJ8_init_0 : cJ8_init.data.toList.drop 0 = dktJ8_init_0 := by decide +kernel
theorem dJ8_init_0 : decode cJ8_init 0 = .ok (.aload_n 0, 1) := dk_42 (dk_at dksJ8_init_0 0 rfl rfl)
theorem dJ8_init_1 : decode cJ8_init 1 = .ok (.aload_n 1, 1) := dk_43 (dk_at dksJ8_init_0 1 rfl rfl)
theorem dJ8_init_2 : decode cJ8_init 2 = .ok (.invokespecial 7, 3) := dk_183 0 7 (dk_at dksJ8_init_0 2 rfl rfl)
theorem dJ8_init_5 : decode cJ8_init 5 = .ok (.return_, 1) := dk_177 (dk_at dksJ8_init_0 5 rfl rfl)
theorem q119 : (Jvm.Cond.initialized "java/lang/ArithmeticException") ∈ lw_all := lw_g (lw_at lw_m1 13 rfl) rfl
theorem q376 : (Jvm.Cond.selects "java/lang/ArithmeticException" ({ cls := "java/lang/Throwable", name := "fillInStackTrace", desc := "()Ljava/lang/Throwable;" } : Jvm.MethodName) ({ cls := "java/lang/Throwable", name := "fillInStackTrace", desc := "()Ljava/lang/Throwable;" } : Jvm.MethodName)) ∈ lw_all := lw_g (lw_at lw_m2 30 rfl) rfl
theorem q524 : (Jvm.Cond.instantiable "java/lang/ArithmeticException" (6 : Nat)) ∈ lw_all := lw_g (lw_at lw_m2 178 rfl) rfl
theorem q525 : (Jvm.Cond.instanceMethod ({ cls := "java/lang/ArithmeticException", name := "<init>", desc := "(Ljava/lang/String;)V" } : Jvm.MethodName)) ∈ lw_all := lw_g (lw_at lw_m2 179 rfl) rfl
theorem q526 : (Jvm.Cond.code ({ cls := "java/lang/ArithmeticException", name := "<init>", desc := "(Ljava/lang/String;)V" } : Jvm.MethodName) prog_13_method_2_code (2 : Nat) (Option.none : Option Jvm.ClassFile.FieldType)) ∈ lw_all := lw_g (lw_at lw_m2 180 rfl) rfl
theorem q527 : (Jvm.Cond.methodLink "java/lang/ArithmeticException" (7 : Nat) ({ cls := "java/lang/RuntimeException", name := "<init>", desc := "(Ljava/lang/String;)V" } : Jvm.MethodName)) ∈ lw_all := lw_g (lw_at lw_m2 181 rfl) rfl
theorem q528 : (Jvm.Cond.lays "java/lang/ArithmeticException" "java/lang/Throwable" "backtrace" "Ljava/lang/Object;") ∈ lw_all := lw_g (lw_at lw_m2 182 rfl) rfl
theorem q529 : (Jvm.Cond.lays "java/lang/ArithmeticException" "java/lang/Throwable" "detailMessage" "Ljava/lang/String;") ∈ lw_all := lw_g (lw_at lw_m2 183 rfl) rfl
theorem q530 : (Jvm.Cond.lays "java/lang/ArithmeticException" "java/lang/Throwable" "cause" "Ljava/lang/Throwable;") ∈ lw_all := lw_g (lw_at lw_m2 184 rfl) rfl
theorem q531 : (Jvm.Cond.lays "java/lang/ArithmeticException" "java/lang/Throwable" "stackTrace" "[Ljava/lang/StackTraceElement;") ∈ lw_all := lw_g (lw_at lw_m2 185 rfl) rfl
theorem q532 : (Jvm.Cond.lays "java/lang/ArithmeticException" "java/lang/Throwable" "depth" "I") ∈ lw_all := lw_g (lw_at lw_m2 186 rfl) rfl
theorem q533 : (Jvm.Cond.lays "java/lang/ArithmeticException" "java/lang/Throwable" "suppressedExceptions" "Ljava/util/List;") ∈ lw_all := lw_g (lw_at lw_m2 187 rfl) rfl
theorem q534 : (Jvm.Cond.superclass "java/lang/ArithmeticException" "java/lang/RuntimeException") ∈ lw_all := lw_g (lw_at lw_m2 188 rfl) rfl
theorem q535 : (Jvm.Cond.castable "java/lang/ArithmeticException" "java/lang/ArithmeticException") ∈ lw_tbl := lw_at lw_m2 189 rfl
theorem q536 : (Jvm.Cond.selects "java/lang/ArithmeticException" ({ cls := "java/lang/Throwable", name := "fillInStackTrace", desc := "(I)Ljava/lang/Throwable;" } : Jvm.MethodName) ({ cls := "java/lang/Throwable", name := "fillInStackTrace", desc := "(I)Ljava/lang/Throwable;" } : Jvm.MethodName)) ∈ lw_all := lw_g (lw_at lw_m2 190 rfl) rfl
theorem in_J8 : ∀ w ∈ wsJ80, w ∈ lw_all := lw_in wsJ80 [528, 529, 530, 531, 532, 533] (by decide +kernel) (by decide +kernel)
/-! java/lang/ClassCastException -/
set_option maxRecDepth 100000
def RJ10 : String := "java/lang/ClassCastException"
def TJ10 : u_T := fun k => match k with
  | 0 => ("java/lang/Throwable", "backtrace", "Ljava/lang/Object;", false)
  | 1 => ("java/lang/Throwable", "detailMessage", "Ljava/lang/String;", false)
  | 2 => ("java/lang/Throwable", "cause", "Ljava/lang/Throwable;", false)
  | 3 => ("java/lang/Throwable", "stackTrace", "[Ljava/lang/StackTraceElement;", false)
  | 4 => ("java/lang/Throwable", "depth", "I", false)
  | _ => ("java/lang/Throwable", "suppressedExceptions", "Ljava/util/List;", false)
def tyJ10 : Nat → FieldType := fun k => match k with
  | 0 => .object "java/lang/Object"
  | 1 => .object "java/lang/String"
  | 2 => .object "java/lang/Throwable"
  | 3 => .array (.object "java/lang/StackTraceElement")
  | 4 => .int
  | _ => .object "java/util/List"
abbrev wsJ100 : List Cond := u_ws RJ10 TJ10 6
theorem nmJ10 : ∀ a, a < 6 → ∀ b, b < 6 → a ≠ b → (TJ10 a).2.1 ≠ (TJ10 b).2.1 := by decide +kernel
theorem tyJ10_ok : ∀ k, k < 6 → parseFieldDescriptor (TJ10 k).2.2.1 = some (tyJ10 k) := by decide +kernel
abbrev cJ10_init : ByteArray := prog_15_method_2_code
def yJ10_init : MethodName := ⟨RJ10, "<init>", "(Ljava/lang/String;)V"⟩
def dkwJ10_init_0 : List UInt8 := [42, 43, 183, 0, 7, 177]
abbrev dktJ10_init_0 : List UInt8 := dkwJ10_init_0 ++ []
theorem dksJ10_init_0 : cJ10_init.data.toList.drop 0 = dktJ10_init_0 := by decide +kernel
theorem dJ10_init_0 : decode cJ10_init 0 = .ok (.aload_n 0, 1) := dk_42 (dk_at dksJ10_init_0 0 rfl rfl)
theorem dJ10_init_1 : decode cJ10_init 1 = .ok (.aload_n 1, 1) := dk_43 (dk_at dksJ10_init_0 1 rfl rfl)
theorem dJ10_init_2 : decode cJ10_init 2 = .ok (.invokespecial 7, 3) := dk_183 0 7 (dk_at dksJ10_init_0 2 rfl rfl)
theorem dJ10_init_5 : decode cJ10_init 5 = .ok (.return_, 1) := dk_177 (dk_at dksJ10_init_0 5 rfl rfl)
theorem q128 : (Jvm.Cond.initialized "java/lang/ClassCastException") ∈ lw_all := lw_g (lw_at lw_m1 22 rfl) rfl
theorem q378 : (Jvm.Cond.selects "java/lang/ClassCastException" ({ cls := "java/lang/Throwable", name := "fillInStackTrace", desc := "()Ljava/lang/Throwable;" } : Jvm.MethodName) ({ cls := "java/lang/Throwable", name := "fillInStackTrace", desc := "()Ljava/lang/Throwable;" } : Jvm.MethodName)) ∈ lw_all := lw_g (lw_at lw_m2 32 rfl) rfl
theorem q761 : (Jvm.Cond.instantiable "java/lang/ClassCastException" (6 : Nat)) ∈ lw_all := lw_g (lw_at lw_m3 175 rfl) rfl
theorem q762 : (Jvm.Cond.instanceMethod ({ cls := "java/lang/ClassCastException", name := "<init>", desc := "(Ljava/lang/String;)V" } : Jvm.MethodName)) ∈ lw_all := lw_g (lw_at lw_m3 176 rfl) rfl
theorem q763 : (Jvm.Cond.code ({ cls := "java/lang/ClassCastException", name := "<init>", desc := "(Ljava/lang/String;)V" } : Jvm.MethodName) prog_15_method_2_code (2 : Nat) (Option.none : Option Jvm.ClassFile.FieldType)) ∈ lw_all := lw_g (lw_at lw_m3 177 rfl) rfl
theorem q764 : (Jvm.Cond.methodLink "java/lang/ClassCastException" (7 : Nat) ({ cls := "java/lang/RuntimeException", name := "<init>", desc := "(Ljava/lang/String;)V" } : Jvm.MethodName)) ∈ lw_all := lw_g (lw_at lw_m3 178 rfl) rfl
theorem q765 : (Jvm.Cond.lays "java/lang/ClassCastException" "java/lang/Throwable" "backtrace" "Ljava/lang/Object;") ∈ lw_all := lw_g (lw_at lw_m3 179 rfl) rfl
theorem q766 : (Jvm.Cond.lays "java/lang/ClassCastException" "java/lang/Throwable" "detailMessage" "Ljava/lang/String;") ∈ lw_all := lw_g (lw_at lw_m3 180 rfl) rfl
theorem q767 : (Jvm.Cond.lays "java/lang/ClassCastException" "java/lang/Throwable" "cause" "Ljava/lang/Throwable;") ∈ lw_all := lw_g (lw_at lw_m3 181 rfl) rfl
theorem q768 : (Jvm.Cond.lays "java/lang/ClassCastException" "java/lang/Throwable" "stackTrace" "[Ljava/lang/StackTraceElement;") ∈ lw_all := lw_g (lw_at lw_m3 182 rfl) rfl
theorem q769 : (Jvm.Cond.lays "java/lang/ClassCastException" "java/lang/Throwable" "depth" "I") ∈ lw_all := lw_g (lw_at lw_m3 183 rfl) rfl
theorem q770 : (Jvm.Cond.lays "java/lang/ClassCastException" "java/lang/Throwable" "suppressedExceptions" "Ljava/util/List;") ∈ lw_all := lw_g (lw_at lw_m3 184 rfl) rfl
theorem q771 : (Jvm.Cond.superclass "java/lang/ClassCastException" "java/lang/RuntimeException") ∈ lw_all := lw_g (lw_at lw_m3 185 rfl) rfl
theorem q772 : (Jvm.Cond.castable "java/lang/ClassCastException" "java/lang/ClassCastException") ∈ lw_tbl := lw_at lw_m3 186 rfl
theorem q773 : (Jvm.Cond.selects "java/lang/ClassCastException" ({ cls := "java/lang/Throwable", name := "fillInStackTrace", desc := "(I)Ljava/lang/Throwable;" } : Jvm.MethodName) ({ cls := "java/lang/Throwable", name := "fillInStackTrace", desc := "(I)Ljava/lang/Throwable;" } : Jvm.MethodName)) ∈ lw_all := lw_g (lw_at lw_m3 187 rfl) rfl
theorem in_J10 : ∀ w ∈ wsJ100, w ∈ lw_all := lw_in wsJ100 [765, 766, 767, 768, 769, 770] (by decide +kernel) (by decide +kernel)
