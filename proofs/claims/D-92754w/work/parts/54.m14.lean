/-! a year, purely; AcornYearsModel: doesBloom, halfMany, sets, eaten -/
section
variable {Γ : gC} {v : gM} {K : gH} {t : Nat} {Q : gQ}
/-- whether a tree blooms: of a sort (kind k, what the May adds a, numbers x4 x5 x6) in the year y, a May w, with g stored -/
def yBl (k a x4 x5 x6 y w g : Int) : Bool := decide ((k = 1 ∧ 0 < a) ∨ (k = 3 ∧ x4 ≤ w ∧ x5 ≤ g) ∨ (k = 5 ∧ x4 < g ∧ y.tmod x6 = 0) ∨ (k ≠ 1 ∧ k ≠ 3 ∧ k ≠ 5 ∧ x4 < g))
theorem yBl_iff {k a x4 x5 x6 y w g : Int} : yBl k a x4 x5 x6 y w g = true ↔ ((k = 1 ∧ 0 < a) ∨ (k = 3 ∧ x4 ≤ w ∧ x5 ≤ g) ∨ (k = 5 ∧ x4 < g ∧ y.tmod x6 = 0) ∨ (k ≠ 1 ∧ k ≠ 3 ∧ k ≠ 5 ∧ x4 < g)) := by
  unfold yBl
  rw [decide_eq_true_iff]
/-- how many of the first n -/
def yCnt (q : Int → Bool) : Nat → Int
  | 0 => 0
  | n + 1 => yCnt q n + (if q n = true then 1 else 0)
theorem yCnt_le (q : Int → Bool) : ∀ n : Nat, 0 ≤ yCnt q n ∧ yCnt q n ≤ n
  | 0 => by unfold yCnt; omega
  | n + 1 => by
    unfold yCnt
    have := yCnt_le q n
    split <;> omega
def ySum (f : Int → Int) : Nat → Int
  | 0 => 0
  | n + 1 => ySum f n + f n
/-- what eaters leave, one kind behind the other -/
def yLeft (eats mo : Int → Int) (l : Int) : Nat → Int
  | 0 => l
  | n + 1 => yLeft eats mo l n - min (yLeft eats mo l n) (eats n * mo n)
/-- how many eaters there are then: l is there for them -/
def yMo (ea mo gr co l : Int) : Int := min 200 ((if min l (ea * mo) = ea * mo then mo + (mo * gr).tdiv 10 else (min l (ea * mo)).tdiv ea) + co)
def yStv (ea mo l : Int) : Bool := decide (0 < mo ∧ min l (ea * mo) < ea * mo)
abbrev mBl (v : gM) (i w : Int) : Bool := yBl (v 50 (7 * v 57 i)) (v 50 (7 * v 57 i + 1 + w)) (v 50 (7 * v 57 i + 4)) (v 50 (7 * v 57 i + 5)) (v 50 (7 * v 57 i + 6)) (v 38 31) w (v 58 i)

theorem ct_X2_has {x k : Int} (hk : 0 ≤ k ∧ k < 32) (k1 : gHas x k = true → Q (0, 1) v (gHd K) t) (k0 : gHas x k = false → Q (0, 0) v (gHd K) t) : Ctr Γ mX2_has [(0, x), (0, k)] v (gHd K) t Q := by
  refine Ctr.ofG (ls := [(0, x), (0, k)]) rfl rfl rfl rfl rfl ?_
  refine Gx_iload_n (i := 0) dX2_has_0 rfl rfl ?_
  refine Gx_iload_n (i := 1) dX2_has_1 rfl rfl ?_
  refine Gx_ishr dX2_has_2 ?_
  refine Gx_iconst ⟨by decide, by decide⟩ dX2_has_3 ?_
  refine Gx_iand dX2_has_4 ?_
  refine Gx_iconst ⟨by decide, by decide⟩ dX2_has_5 ?_
  refine Gx_icmp_ne (tgt := 13) dX2_has_6 (by decide) (fun c6 => ?_) (fun c6 => ?_)
  · refine Gx_iconst ⟨by decide, by decide⟩ dX2_has_13 ?_
    refine Gx_ireturn dX2_has_14 (Or.inl rfl) ?_
    have hh := has_iff (x := x) hk
    cases hx : gHas x k
    · rw [hx] at hh
      first | exact k0 hx | exact absurd (hh.mp c6) (by decide)
    · rw [hx] at hh
      first | exact k1 hx | exact absurd (hh.mpr rfl) c6
  · refine Gx_iconst ⟨by decide, by decide⟩ dX2_has_9 ?_
    refine Gx_goto (tgt := 14) dX2_has_10 (by decide) ?_
    refine Gx_ireturn dX2_has_14 (Or.inr rfl) ?_
    have hh := has_iff (x := x) hk
    cases hx : gHas x k
    · rw [hx] at hh
      first | exact k0 hx | exact absurd (hh.mp c6) (by decide)
    · rw [hx] at hh
      first | exact k1 hx | exact absurd (hh.mpr rfl) c6
theorem ct_X2_doesBloom {i w : Int} (hi : 0 ≤ i ∧ i < 24) (hw : 0 ≤ w ∧ w ≤ 2) (hs : 0 ≤ v 57 i ∧ v 57 i < 6) (h6 : v 50 (7 * v 57 i) = 5 → v 50 (7 * v 57 i + 6) ≠ 0) (k1 : mBl v i w = true → Q (0, 1) v (gHd K) t) (k0 : ¬ (mBl v i w = true) → Q (0, 0) v (gHd K) t) : Ctr Γ mX2_doesBloom [(2, 38), (0, i), (0, w)] v (gHd K) t Q := by
  refine Ctr.ofG (ls := [(2, 38), (0, i), (0, w), (9, 0)]) rfl rfl rfl rfl rfl ?_
  refine Gx_bipush dX2_doesBloom_0 ⟨by decide, by decide⟩ ?_
  refine Gx_aload_n (i := 0) dX2_doesBloom_2 rfl rfl ?_
  refine gf_X2_65_22 dX2_doesBloom_3 rfl rfl ?_
  refine Gx_iload_n (i := 1) dX2_doesBloom_6 rfl rfl ?_
  refine Gx_iaload dX2_doesBloom_7 rfl (by first | omega | (simp (disch := omega) only [w32_id]; omega)) ?_
  refine Gx_imul dX2_doesBloom_8 ?_
  try simp (disch := omega) only [w32_id]
  refine Gx_istore_n_3 dX2_doesBloom_9 (Nat.le_of_ble_eq_true rfl) (Nat.ne_of_beq_eq_false rfl) ?_
  refine Gx_aload_n (i := 0) dX2_doesBloom_10 rfl rfl ?_
  refine gf_X2_44_22 dX2_doesBloom_11 rfl rfl ?_
  refine Gx_iload_n (i := 3) dX2_doesBloom_14 rfl rfl ?_
  refine Gx_iaload dX2_doesBloom_15 rfl (by first | omega | (simp (disch := omega) only [w32_id]; omega)) ?_
  have hb := yBl_iff (k := v 50 (7 * v 57 i)) (a := v 50 (7 * v 57 i + 1 + w)) (x4 := v 50 (7 * v 57 i + 4)) (x5 := v 50 (7 * v 57 i + 5)) (x6 := v 50 (7 * v 57 i + 6)) (y := v 38 31) (w := w) (g := v 58 i)
  rcases (by omega : v 50 (7 * v 57 i) = 1 ∨ v 50 (7 * v 57 i) = 2 ∨ v 50 (7 * v 57 i) = 3 ∨ v 50 (7 * v 57 i) = 4 ∨ v 50 (7 * v 57 i) = 5 ∨ (v 50 (7 * v 57 i) < 1 ∨ 5 < v 50 (7 * v 57 i))) with w16 | w16 | w16 | w16 | w16 | w16
  · rw [w16]
    refine Gx_tableIn (off := 36) (tgt := 52) dX2_doesBloom_16 (by decide) (by decide) rfl (by decide) ?_
    refine Gx_aload_n (i := 0) dX2_doesBloom_52 rfl rfl ?_
    refine gf_X2_44_22 dX2_doesBloom_53 rfl rfl ?_
    refine Gx_iload_n (i := 3) dX2_doesBloom_56 rfl rfl ?_
    refine Gx_iconst ⟨by decide, by decide⟩ dX2_doesBloom_57 ?_
    refine Gx_iadd dX2_doesBloom_58 ?_
    try simp (disch := omega) only [w32_id]
    refine Gx_iload_n (i := 2) dX2_doesBloom_59 rfl rfl ?_
    refine Gx_iadd dX2_doesBloom_60 ?_
    try simp (disch := omega) only [w32_id]
    refine Gx_iaload dX2_doesBloom_61 rfl (by first | omega | (simp (disch := omega) only [w32_id]; omega)) ?_
    refine Gx_if_le (tgt := 69) dX2_doesBloom_62 (by decide) (fun c62 => ?_) (fun c62 => ?_)
    · refine Gx_iconst ⟨by decide, by decide⟩ dX2_doesBloom_69 ?_
      refine Gx_ireturn dX2_doesBloom_70 (Or.inl rfl) ?_
      first | exact k1 (hb.mpr (by omega)) | exact k0 (fun hz => by have hz2 := hb.mp hz; omega)
    · refine Gx_iconst ⟨by decide, by decide⟩ dX2_doesBloom_65 ?_
      refine Gx_goto (tgt := 70) dX2_doesBloom_66 (by decide) ?_
      refine Gx_ireturn dX2_doesBloom_70 (Or.inr rfl) ?_
      first | exact k1 (hb.mpr (by omega)) | exact k0 (fun hz => by have hz2 := hb.mp hz; omega)
  · rw [w16]
    refine Gx_tableIn (off := 130) (tgt := 146) dX2_doesBloom_16 (by decide) (by decide) rfl (by decide) ?_
    refine Gx_aload_n (i := 0) dX2_doesBloom_146 rfl rfl ?_
    refine gf_X2_68_22 dX2_doesBloom_147 rfl rfl ?_
    refine Gx_iload_n (i := 1) dX2_doesBloom_150 rfl rfl ?_
    refine Gx_iaload dX2_doesBloom_151 rfl (by first | omega | (simp (disch := omega) only [w32_id]; omega)) ?_
    refine Gx_aload_n (i := 0) dX2_doesBloom_152 rfl rfl ?_
    refine gf_X2_44_22 dX2_doesBloom_153 rfl rfl ?_
    refine Gx_iload_n (i := 3) dX2_doesBloom_156 rfl rfl ?_
    refine Gx_iconst ⟨by decide, by decide⟩ dX2_doesBloom_157 ?_
    refine Gx_iadd dX2_doesBloom_158 ?_
    try simp (disch := omega) only [w32_id]
    refine Gx_iaload dX2_doesBloom_159 rfl (by first | omega | (simp (disch := omega) only [w32_id]; omega)) ?_
    refine Gx_icmp_le (tgt := 167) dX2_doesBloom_160 (by decide) (fun c160 => ?_) (fun c160 => ?_)
    · refine Gx_iconst ⟨by decide, by decide⟩ dX2_doesBloom_167 ?_
      refine Gx_ireturn dX2_doesBloom_168 (Or.inl rfl) ?_
      first | exact k1 (hb.mpr (by omega)) | exact k0 (fun hz => by have hz2 := hb.mp hz; omega)
    · refine Gx_iconst ⟨by decide, by decide⟩ dX2_doesBloom_163 ?_
      refine Gx_goto (tgt := 168) dX2_doesBloom_164 (by decide) ?_
      refine Gx_ireturn dX2_doesBloom_168 (Or.inr rfl) ?_
      first | exact k1 (hb.mpr (by omega)) | exact k0 (fun hz => by have hz2 := hb.mp hz; omega)
  · rw [w16]
    refine Gx_tableIn (off := 55) (tgt := 71) dX2_doesBloom_16 (by decide) (by decide) rfl (by decide) ?_
    refine Gx_iload_n (i := 2) dX2_doesBloom_71 rfl rfl ?_
    refine Gx_aload_n (i := 0) dX2_doesBloom_72 rfl rfl ?_
    refine gf_X2_44_22 dX2_doesBloom_73 rfl rfl ?_
    refine Gx_iload_n (i := 3) dX2_doesBloom_76 rfl rfl ?_
    refine Gx_iconst ⟨by decide, by decide⟩ dX2_doesBloom_77 ?_
    refine Gx_iadd dX2_doesBloom_78 ?_
    try simp (disch := omega) only [w32_id]
    refine Gx_iaload dX2_doesBloom_79 rfl (by first | omega | (simp (disch := omega) only [w32_id]; omega)) ?_
    refine Gx_icmp_lt (tgt := 104) dX2_doesBloom_80 (by decide) (fun c80 => ?_) (fun c80 => ?_)
    · refine Gx_iconst ⟨by decide, by decide⟩ dX2_doesBloom_104 ?_
      refine Gx_ireturn dX2_doesBloom_105 (Or.inl rfl) ?_
      first | exact k1 (hb.mpr (by omega)) | exact k0 (fun hz => by have hz2 := hb.mp hz; omega)
    · refine Gx_aload_n (i := 0) dX2_doesBloom_83 rfl rfl ?_
      refine gf_X2_68_22 dX2_doesBloom_84 rfl rfl ?_
      refine Gx_iload_n (i := 1) dX2_doesBloom_87 rfl rfl ?_
      refine Gx_iaload dX2_doesBloom_88 rfl (by first | omega | (simp (disch := omega) only [w32_id]; omega)) ?_
      refine Gx_aload_n (i := 0) dX2_doesBloom_89 rfl rfl ?_
      refine gf_X2_44_22 dX2_doesBloom_90 rfl rfl ?_
      refine Gx_iload_n (i := 3) dX2_doesBloom_93 rfl rfl ?_
      refine Gx_iconst ⟨by decide, by decide⟩ dX2_doesBloom_94 ?_
      refine Gx_iadd dX2_doesBloom_95 ?_
      try simp (disch := omega) only [w32_id]
      refine Gx_iaload dX2_doesBloom_96 rfl (by first | omega | (simp (disch := omega) only [w32_id]; omega)) ?_
      refine Gx_icmp_lt (tgt := 104) dX2_doesBloom_97 (by decide) (fun c97 => ?_) (fun c97 => ?_)
      · refine Gx_iconst ⟨by decide, by decide⟩ dX2_doesBloom_104 ?_
        refine Gx_ireturn dX2_doesBloom_105 (Or.inl rfl) ?_
        first | exact k1 (hb.mpr (by omega)) | exact k0 (fun hz => by have hz2 := hb.mp hz; omega)
      · refine Gx_iconst ⟨by decide, by decide⟩ dX2_doesBloom_100 ?_
        refine Gx_goto (tgt := 105) dX2_doesBloom_101 (by decide) ?_
        refine Gx_ireturn dX2_doesBloom_105 (Or.inr rfl) ?_
        first | exact k1 (hb.mpr (by omega)) | exact k0 (fun hz => by have hz2 := hb.mp hz; omega)
  · rw [w16]
    refine Gx_tableIn (off := 130) (tgt := 146) dX2_doesBloom_16 (by decide) (by decide) rfl (by decide) ?_
    refine Gx_aload_n (i := 0) dX2_doesBloom_146 rfl rfl ?_
    refine gf_X2_68_22 dX2_doesBloom_147 rfl rfl ?_
    refine Gx_iload_n (i := 1) dX2_doesBloom_150 rfl rfl ?_
    refine Gx_iaload dX2_doesBloom_151 rfl (by first | omega | (simp (disch := omega) only [w32_id]; omega)) ?_
    refine Gx_aload_n (i := 0) dX2_doesBloom_152 rfl rfl ?_
    refine gf_X2_44_22 dX2_doesBloom_153 rfl rfl ?_
    refine Gx_iload_n (i := 3) dX2_doesBloom_156 rfl rfl ?_
    refine Gx_iconst ⟨by decide, by decide⟩ dX2_doesBloom_157 ?_
    refine Gx_iadd dX2_doesBloom_158 ?_
    try simp (disch := omega) only [w32_id]
    refine Gx_iaload dX2_doesBloom_159 rfl (by first | omega | (simp (disch := omega) only [w32_id]; omega)) ?_
    refine Gx_icmp_le (tgt := 167) dX2_doesBloom_160 (by decide) (fun c160 => ?_) (fun c160 => ?_)
    · refine Gx_iconst ⟨by decide, by decide⟩ dX2_doesBloom_167 ?_
      refine Gx_ireturn dX2_doesBloom_168 (Or.inl rfl) ?_
      first | exact k1 (hb.mpr (by omega)) | exact k0 (fun hz => by have hz2 := hb.mp hz; omega)
    · refine Gx_iconst ⟨by decide, by decide⟩ dX2_doesBloom_163 ?_
      refine Gx_goto (tgt := 168) dX2_doesBloom_164 (by decide) ?_
      refine Gx_ireturn dX2_doesBloom_168 (Or.inr rfl) ?_
      first | exact k1 (hb.mpr (by omega)) | exact k0 (fun hz => by have hz2 := hb.mp hz; omega)
  · rw [w16]
    refine Gx_tableIn (off := 90) (tgt := 106) dX2_doesBloom_16 (by decide) (by decide) rfl (by decide) ?_
    refine Gx_aload_n (i := 0) dX2_doesBloom_106 rfl rfl ?_
    refine gf_X2_68_22 dX2_doesBloom_107 rfl rfl ?_
    refine Gx_iload_n (i := 1) dX2_doesBloom_110 rfl rfl ?_
    refine Gx_iaload dX2_doesBloom_111 rfl (by first | omega | (simp (disch := omega) only [w32_id]; omega)) ?_
    refine Gx_aload_n (i := 0) dX2_doesBloom_112 rfl rfl ?_
    refine gf_X2_44_22 dX2_doesBloom_113 rfl rfl ?_
    refine Gx_iload_n (i := 3) dX2_doesBloom_116 rfl rfl ?_
    refine Gx_iconst ⟨by decide, by decide⟩ dX2_doesBloom_117 ?_
    refine Gx_iadd dX2_doesBloom_118 ?_
    try simp (disch := omega) only [w32_id]
    refine Gx_iaload dX2_doesBloom_119 rfl (by first | omega | (simp (disch := omega) only [w32_id]; omega)) ?_
    refine Gx_icmp_le (tgt := 144) dX2_doesBloom_120 (by decide) (fun c120 => ?_) (fun c120 => ?_)
    · refine Gx_iconst ⟨by decide, by decide⟩ dX2_doesBloom_144 ?_
      refine Gx_ireturn dX2_doesBloom_145 (Or.inl rfl) ?_
      first | exact k1 (hb.mpr (by omega)) | exact k0 (fun hz => by have hz2 := hb.mp hz; omega)
    · refine Gx_aload_n (i := 0) dX2_doesBloom_123 rfl rfl ?_
      refine gf_X2_206_22 dX2_doesBloom_124 rfl rfl ?_
      refine Gx_aload_n (i := 0) dX2_doesBloom_127 rfl rfl ?_
      refine gf_X2_44_22 dX2_doesBloom_128 rfl rfl ?_
      refine Gx_iload_n (i := 3) dX2_doesBloom_131 rfl rfl ?_
      refine Gx_bipush dX2_doesBloom_132 ⟨by decide, by decide⟩ ?_
      refine Gx_iadd dX2_doesBloom_134 ?_
      try simp (disch := omega) only [w32_id]
      refine Gx_iaload dX2_doesBloom_135 rfl (by first | omega | (simp (disch := omega) only [w32_id]; omega)) ?_
      refine Gx_irem dX2_doesBloom_136 (by exact h6 w16) ?_
      refine Gx_if_ne (tgt := 144) dX2_doesBloom_137 (by decide) (fun c137 => ?_) (fun c137 => ?_)
      · refine Gx_iconst ⟨by decide, by decide⟩ dX2_doesBloom_144 ?_
        refine Gx_ireturn dX2_doesBloom_145 (Or.inl rfl) ?_
        first | exact k1 (hb.mpr (by omega)) | exact k0 (fun hz => by have hz2 := hb.mp hz; omega)
      · refine Gx_iconst ⟨by decide, by decide⟩ dX2_doesBloom_140 ?_
        refine Gx_goto (tgt := 145) dX2_doesBloom_141 (by decide) ?_
        refine Gx_ireturn dX2_doesBloom_145 (Or.inr rfl) ?_
        first | exact k1 (hb.mpr (by omega)) | exact k0 (fun hz => by have hz2 := hb.mp hz; omega)
  · refine Gx_tableOut (tgt := 146) dX2_doesBloom_16 w16 (by decide) ?_
    refine Gx_aload_n (i := 0) dX2_doesBloom_146 rfl rfl ?_
    refine gf_X2_68_22 dX2_doesBloom_147 rfl rfl ?_
    refine Gx_iload_n (i := 1) dX2_doesBloom_150 rfl rfl ?_
    refine Gx_iaload dX2_doesBloom_151 rfl (by first | omega | (simp (disch := omega) only [w32_id]; omega)) ?_
    refine Gx_aload_n (i := 0) dX2_doesBloom_152 rfl rfl ?_
    refine gf_X2_44_22 dX2_doesBloom_153 rfl rfl ?_
    refine Gx_iload_n (i := 3) dX2_doesBloom_156 rfl rfl ?_
    refine Gx_iconst ⟨by decide, by decide⟩ dX2_doesBloom_157 ?_
    refine Gx_iadd dX2_doesBloom_158 ?_
    try simp (disch := omega) only [w32_id]
    refine Gx_iaload dX2_doesBloom_159 rfl (by first | omega | (simp (disch := omega) only [w32_id]; omega)) ?_
    refine Gx_icmp_le (tgt := 167) dX2_doesBloom_160 (by decide) (fun c160 => ?_) (fun c160 => ?_)
    · refine Gx_iconst ⟨by decide, by decide⟩ dX2_doesBloom_167 ?_
      refine Gx_ireturn dX2_doesBloom_168 (Or.inl rfl) ?_
      first | exact k1 (hb.mpr (by omega)) | exact k0 (fun hz => by have hz2 := hb.mp hz; omega)
    · refine Gx_iconst ⟨by decide, by decide⟩ dX2_doesBloom_163 ?_
      refine Gx_goto (tgt := 168) dX2_doesBloom_164 (by decide) ?_
      refine Gx_ireturn dX2_doesBloom_168 (Or.inr rfl) ?_
      first | exact k1 (hb.mpr (by omega)) | exact k0 (fun hz => by have hz2 := hb.mp hz; omega)
theorem yCnt_s {q : Int → Bool} {o : Int} (h : 0 ≤ o) : yCnt q (o + 1).toNat = yCnt q o.toNat + (if q o = true then 1 else 0) := by
  rw [show (o + 1).toNat = o.toNat + 1 by omega]
  show yCnt q o.toNat + (if q (o.toNat : Int) = true then 1 else 0) = _
  rw [show ((o.toNat : Nat) : Int) = o by omega]
theorem ySum_s {f : Int → Int} {o : Int} (h : 0 ≤ o) : ySum f (o + 1).toNat = ySum f o.toNat + f o := by
  rw [show (o + 1).toNat = o.toNat + 1 by omega]
  show ySum f o.toNat + f (o.toNat : Int) = _
  rw [show ((o.toNat : Nat) : Int) = o by omega]
/-- trees of a half (as the tree i's), those that bloom or all -/
def mHf (s h i bm : Int) (o : Int) : Bool := (gHas h o == gHas h i) && (decide (bm = 0) || gHas s o)

set_option maxHeartbeats 1000000 in
theorem lp_X2_halfMany {i h bm n : Int} {bc bs : Nat} (hi : 0 ≤ i ∧ i < 24) (hn : v 38 33 = n) (hn24 : n ≤ 24) : ∀ (j : Nat) (o : Int), 0 ≤ o → o + j = n → Q (0, yCnt (mHf (v 38 41) h i bm) n.toNat) v (gHd K) t → Gx Γ mX2_halfMany 6 [(2, 38), (0, i), (0, h), (0, bm), (0, yCnt (mHf (v 38 41) h i bm) o.toNat), (0, o)] [] v (gHd K) t bc bs Q := by
  intro j
  induction j with
  | zero =>
    intro o h0 h1 k
    refine Gx_iload dX2_halfMany_6 rfl ?_
    refine Gx_aload_n (i := 0) dX2_halfMany_8 rfl rfl ?_
    refine gf_X2_203_22 dX2_halfMany_9 rfl rfl ?_
    refine Gx_icmp_ge (tgt := 61) dX2_halfMany_12 (by decide) (fun c12 => ?_) (fun c12 => ?_)
    · refine Gx_iload dX2_halfMany_61 rfl ?_
      refine Gx_ireturn dX2_halfMany_63 trivial ?_
      have e : o = n := by omega
      rw [e]
      exact k
    · exfalso
      omega
  | succ j ih =>
    intro o h0 h1 k
    have hc := yCnt_le (mHf (v 38 41) h i bm) o.toNat
    refine Gx_iload dX2_halfMany_6 rfl ?_
    refine Gx_aload_n (i := 0) dX2_halfMany_8 rfl rfl ?_
    refine gf_X2_203_22 dX2_halfMany_9 rfl rfl ?_
    refine Gx_icmp_ge (tgt := 61) dX2_halfMany_12 (by decide) (fun c12 => ?_) (fun c12 => ?_)
    · refine Gx_iload dX2_halfMany_61 rfl ?_
      refine Gx_ireturn dX2_halfMany_63 trivial ?_
      exfalso
      omega
    · refine Gx_iload dX2_halfMany_15 rfl ?_
      refine Gx_iload_n (i := 2) dX2_halfMany_17 rfl rfl ?_
      refine Gx_iload dX2_halfMany_18 rfl ?_
      refine cl_X2_239 dX2_halfMany_20 rfl ⟨(Nat.le_of_ble_eq_true rfl), (Nat.le_of_ble_eq_true rfl)⟩ rfl ?_
      refine ct_X2_has (by omega) (fun c20 => ?_) (fun c20 => ?_)
      · refine Gx_iload_n (i := 2) dX2_halfMany_23 rfl rfl ?_
        refine Gx_iload_n (i := 1) dX2_halfMany_24 rfl rfl ?_
        refine cl_X2_239 dX2_halfMany_25 rfl ⟨(Nat.le_of_ble_eq_true rfl), (Nat.le_of_ble_eq_true rfl)⟩ rfl ?_
        refine ct_X2_has (by omega) (fun c25 => ?_) (fun c25 => ?_)
        · refine Gx_icmp_ne (tgt := 51) dX2_halfMany_28 (by decide) (fun hz => absurd hz (by decide)) (fun _ => ?_)
          refine Gx_iload_n (i := 3) dX2_halfMany_31 rfl rfl ?_
          refine Gx_if_eq (tgt := 47) dX2_halfMany_32 (by decide) (fun c32 => ?_) (fun c32 => ?_)
          · refine Gx_iconst ⟨by decide, by decide⟩ dX2_halfMany_47 ?_
            refine Gx_goto (tgt := 52) dX2_halfMany_48 (by decide) ?_
            refine Gx_iadd dX2_halfMany_52 ?_
            try simp (disch := omega) only [w32_id]
            refine Gx_istore_4 dX2_halfMany_53 (Nat.le_of_ble_eq_true rfl) (Nat.ne_of_beq_eq_false rfl) ?_
            refine Gx_iinc_5 dX2_halfMany_55 (Nat.le_of_ble_eq_true rfl) (Nat.ne_of_beq_eq_false rfl) ?_
            try simp (disch := omega) only [w32_id]
            refine Gx_goto (tgt := 6) dX2_halfMany_58 (by decide) ?_
            have hx := yCnt_s (q := mHf (v 38 41) h i bm) h0
            first
              | (rw [if_pos (by simp [mHf, *])] at hx
                 rw [← hx]
                 exact ih (o + 1) (by omega) (by omega) k)
              | (rw [if_neg (by simp [mHf, *])] at hx
                 rw [← hx]
                 exact ih (o + 1) (by omega) (by omega) k)
          · refine Gx_aload_n (i := 0) dX2_halfMany_35 rfl rfl ?_
            refine gf_X2_242_22 dX2_halfMany_36 rfl rfl ?_
            refine Gx_iload dX2_halfMany_39 rfl ?_
            refine cl_X2_239 dX2_halfMany_41 rfl ⟨(Nat.le_of_ble_eq_true rfl), (Nat.le_of_ble_eq_true rfl)⟩ rfl ?_
            refine ct_X2_has (by omega) (fun c41 => ?_) (fun c41 => ?_)
            · refine Gx_if_eq (tgt := 51) dX2_halfMany_44 (by decide) (fun hz => absurd hz (by decide)) (fun _ => ?_)
              refine Gx_iconst ⟨by decide, by decide⟩ dX2_halfMany_47 ?_
              refine Gx_goto (tgt := 52) dX2_halfMany_48 (by decide) ?_
              refine Gx_iadd dX2_halfMany_52 ?_
              try simp (disch := omega) only [w32_id]
              refine Gx_istore_4 dX2_halfMany_53 (Nat.le_of_ble_eq_true rfl) (Nat.ne_of_beq_eq_false rfl) ?_
              refine Gx_iinc_5 dX2_halfMany_55 (Nat.le_of_ble_eq_true rfl) (Nat.ne_of_beq_eq_false rfl) ?_
              try simp (disch := omega) only [w32_id]
              refine Gx_goto (tgt := 6) dX2_halfMany_58 (by decide) ?_
              have hx := yCnt_s (q := mHf (v 38 41) h i bm) h0
              first
                | (rw [if_pos (by simp [mHf, *])] at hx
                   rw [← hx]
                   exact ih (o + 1) (by omega) (by omega) k)
                | (rw [if_neg (by simp [mHf, *])] at hx
                   rw [← hx]
                   exact ih (o + 1) (by omega) (by omega) k)
            · refine Gx_if_eq (tgt := 51) dX2_halfMany_44 (by decide) (fun _ => ?_) (fun hz => absurd hz (by decide))
              refine Gx_iconst ⟨by decide, by decide⟩ dX2_halfMany_51 ?_
              refine Gx_iadd dX2_halfMany_52 ?_
              try simp (disch := omega) only [w32_id]
              refine Gx_istore_4 dX2_halfMany_53 (Nat.le_of_ble_eq_true rfl) (Nat.ne_of_beq_eq_false rfl) ?_
              refine Gx_iinc_5 dX2_halfMany_55 (Nat.le_of_ble_eq_true rfl) (Nat.ne_of_beq_eq_false rfl) ?_
              try simp (disch := omega) only [w32_id]
              refine Gx_goto (tgt := 6) dX2_halfMany_58 (by decide) ?_
              have hx := yCnt_s (q := mHf (v 38 41) h i bm) h0
              first
                | (rw [if_pos (by simp [mHf, *])] at hx
                   rw [← hx]
                   exact ih (o + 1) (by omega) (by omega) k)
                | (rw [if_neg (by simp [mHf, *])] at hx
                   rw [← hx]
                   exact ih (o + 1) (by omega) (by omega) k)
        · refine Gx_icmp_ne (tgt := 51) dX2_halfMany_28 (by decide) (fun _ => ?_) (fun hz => absurd hz (by decide))
          refine Gx_iconst ⟨by decide, by decide⟩ dX2_halfMany_51 ?_
          refine Gx_iadd dX2_halfMany_52 ?_
          try simp (disch := omega) only [w32_id]
          refine Gx_istore_4 dX2_halfMany_53 (Nat.le_of_ble_eq_true rfl) (Nat.ne_of_beq_eq_false rfl) ?_
          refine Gx_iinc_5 dX2_halfMany_55 (Nat.le_of_ble_eq_true rfl) (Nat.ne_of_beq_eq_false rfl) ?_
          try simp (disch := omega) only [w32_id]
          refine Gx_goto (tgt := 6) dX2_halfMany_58 (by decide) ?_
          have hx := yCnt_s (q := mHf (v 38 41) h i bm) h0
          first
            | (rw [if_pos (by simp [mHf, *])] at hx
               rw [← hx]
               exact ih (o + 1) (by omega) (by omega) k)
            | (rw [if_neg (by simp [mHf, *])] at hx
               rw [← hx]
               exact ih (o + 1) (by omega) (by omega) k)
      · refine Gx_iload_n (i := 2) dX2_halfMany_23 rfl rfl ?_
        refine Gx_iload_n (i := 1) dX2_halfMany_24 rfl rfl ?_
        refine cl_X2_239 dX2_halfMany_25 rfl ⟨(Nat.le_of_ble_eq_true rfl), (Nat.le_of_ble_eq_true rfl)⟩ rfl ?_
        refine ct_X2_has (by omega) (fun c25 => ?_) (fun c25 => ?_)
        · refine Gx_icmp_ne (tgt := 51) dX2_halfMany_28 (by decide) (fun _ => ?_) (fun hz => absurd hz (by decide))
          refine Gx_iconst ⟨by decide, by decide⟩ dX2_halfMany_51 ?_
          refine Gx_iadd dX2_halfMany_52 ?_
          try simp (disch := omega) only [w32_id]
          refine Gx_istore_4 dX2_halfMany_53 (Nat.le_of_ble_eq_true rfl) (Nat.ne_of_beq_eq_false rfl) ?_
          refine Gx_iinc_5 dX2_halfMany_55 (Nat.le_of_ble_eq_true rfl) (Nat.ne_of_beq_eq_false rfl) ?_
          try simp (disch := omega) only [w32_id]
          refine Gx_goto (tgt := 6) dX2_halfMany_58 (by decide) ?_
          have hx := yCnt_s (q := mHf (v 38 41) h i bm) h0
          first
            | (rw [if_pos (by simp [mHf, *])] at hx
               rw [← hx]
               exact ih (o + 1) (by omega) (by omega) k)
            | (rw [if_neg (by simp [mHf, *])] at hx
               rw [← hx]
               exact ih (o + 1) (by omega) (by omega) k)
        · refine Gx_icmp_ne (tgt := 51) dX2_halfMany_28 (by decide) (fun hz => absurd hz (by decide)) (fun _ => ?_)
          refine Gx_iload_n (i := 3) dX2_halfMany_31 rfl rfl ?_
          refine Gx_if_eq (tgt := 47) dX2_halfMany_32 (by decide) (fun c32 => ?_) (fun c32 => ?_)
          · refine Gx_iconst ⟨by decide, by decide⟩ dX2_halfMany_47 ?_
            refine Gx_goto (tgt := 52) dX2_halfMany_48 (by decide) ?_
            refine Gx_iadd dX2_halfMany_52 ?_
            try simp (disch := omega) only [w32_id]
            refine Gx_istore_4 dX2_halfMany_53 (Nat.le_of_ble_eq_true rfl) (Nat.ne_of_beq_eq_false rfl) ?_
            refine Gx_iinc_5 dX2_halfMany_55 (Nat.le_of_ble_eq_true rfl) (Nat.ne_of_beq_eq_false rfl) ?_
            try simp (disch := omega) only [w32_id]
            refine Gx_goto (tgt := 6) dX2_halfMany_58 (by decide) ?_
            have hx := yCnt_s (q := mHf (v 38 41) h i bm) h0
            first
              | (rw [if_pos (by simp [mHf, *])] at hx
                 rw [← hx]
                 exact ih (o + 1) (by omega) (by omega) k)
              | (rw [if_neg (by simp [mHf, *])] at hx
                 rw [← hx]
                 exact ih (o + 1) (by omega) (by omega) k)
          · refine Gx_aload_n (i := 0) dX2_halfMany_35 rfl rfl ?_
            refine gf_X2_242_22 dX2_halfMany_36 rfl rfl ?_
            refine Gx_iload dX2_halfMany_39 rfl ?_
            refine cl_X2_239 dX2_halfMany_41 rfl ⟨(Nat.le_of_ble_eq_true rfl), (Nat.le_of_ble_eq_true rfl)⟩ rfl ?_
            refine ct_X2_has (by omega) (fun c41 => ?_) (fun c41 => ?_)
            · refine Gx_if_eq (tgt := 51) dX2_halfMany_44 (by decide) (fun hz => absurd hz (by decide)) (fun _ => ?_)
              refine Gx_iconst ⟨by decide, by decide⟩ dX2_halfMany_47 ?_
              refine Gx_goto (tgt := 52) dX2_halfMany_48 (by decide) ?_
              refine Gx_iadd dX2_halfMany_52 ?_
              try simp (disch := omega) only [w32_id]
              refine Gx_istore_4 dX2_halfMany_53 (Nat.le_of_ble_eq_true rfl) (Nat.ne_of_beq_eq_false rfl) ?_
              refine Gx_iinc_5 dX2_halfMany_55 (Nat.le_of_ble_eq_true rfl) (Nat.ne_of_beq_eq_false rfl) ?_
              try simp (disch := omega) only [w32_id]
              refine Gx_goto (tgt := 6) dX2_halfMany_58 (by decide) ?_
              have hx := yCnt_s (q := mHf (v 38 41) h i bm) h0
              first
                | (rw [if_pos (by simp [mHf, *])] at hx
                   rw [← hx]
                   exact ih (o + 1) (by omega) (by omega) k)
                | (rw [if_neg (by simp [mHf, *])] at hx
                   rw [← hx]
                   exact ih (o + 1) (by omega) (by omega) k)
            · refine Gx_if_eq (tgt := 51) dX2_halfMany_44 (by decide) (fun _ => ?_) (fun hz => absurd hz (by decide))
              refine Gx_iconst ⟨by decide, by decide⟩ dX2_halfMany_51 ?_
              refine Gx_iadd dX2_halfMany_52 ?_
              try simp (disch := omega) only [w32_id]
              refine Gx_istore_4 dX2_halfMany_53 (Nat.le_of_ble_eq_true rfl) (Nat.ne_of_beq_eq_false rfl) ?_
              refine Gx_iinc_5 dX2_halfMany_55 (Nat.le_of_ble_eq_true rfl) (Nat.ne_of_beq_eq_false rfl) ?_
              try simp (disch := omega) only [w32_id]
              refine Gx_goto (tgt := 6) dX2_halfMany_58 (by decide) ?_
              have hx := yCnt_s (q := mHf (v 38 41) h i bm) h0
              first
                | (rw [if_pos (by simp [mHf, *])] at hx
                   rw [← hx]
                   exact ih (o + 1) (by omega) (by omega) k)
                | (rw [if_neg (by simp [mHf, *])] at hx
                   rw [← hx]
                   exact ih (o + 1) (by omega) (by omega) k)
theorem ct_X2_halfMany {i h bm : Int} (hi : 0 ≤ i ∧ i < 24) (hn : 0 ≤ v 38 33 ∧ v 38 33 ≤ 24) (k : Q (0, yCnt (mHf (v 38 41) h i bm) (v 38 33).toNat) v (gHd K) t) : Ctr Γ mX2_halfMany [(2, 38), (0, i), (0, h), (0, bm)] v (gHd K) t Q := by
  refine Ctr.ofG (ls := [(2, 38), (0, i), (0, h), (0, bm), (9, 0), (9, 0)]) rfl rfl rfl rfl rfl ?_
  refine Gx_iconst ⟨by decide, by decide⟩ dX2_halfMany_0 ?_
  refine Gx_istore_4 dX2_halfMany_1 (Nat.le_of_ble_eq_true rfl) (Nat.ne_of_beq_eq_false rfl) ?_
  refine Gx_iconst ⟨by decide, by decide⟩ dX2_halfMany_3 ?_
  refine Gx_istore_5 dX2_halfMany_4 (Nat.le_of_ble_eq_true rfl) (Nat.ne_of_beq_eq_false rfl) ?_
  exact lp_X2_halfMany hi rfl (by omega) (v 38 33).toNat 0 (by omega) (by omega) k
/-- what a tree that blooms has, and what is left in its store -/
abbrev mDo (v : gM) (i h : Int) : Bool := decide (v 50 (7 * v 57 i) ≠ 4) || decide (v 50 (7 * v 57 i + 6) * yCnt (mHf (v 38 41) h i 0) (v 38 33).toNat ≤ 100 * yCnt (mHf (v 38 41) h i 1) (v 38 33).toNat)
def sGv (v : gM) (i w h : Int) : Int := if v 50 (7 * v 57 i) = 1 then v 50 (7 * v 57 i + 1 + w) else if mDo v i h = true then v 50 (7 * v 57 i + 5) else 0
def sSt (v : gM) (i h : Int) : Int := if v 50 (7 * v 57 i) = 1 then v 58 i else v 58 i - (if mDo v i h = true then v 50 (7 * v 57 i + 5) else (v 50 (7 * v 57 i + 5)).tdiv 2)

set_option maxHeartbeats 2000000 in
theorem ct_X2_sets {i w h : Int} (hi : 0 ≤ i ∧ i < 24) (hw : 0 ≤ w ∧ w ≤ 2) (hn : 0 ≤ v 38 33 ∧ v 38 33 ≤ 24) (hs : 0 ≤ v 57 i ∧ v 57 i < 6) (h58 : 0 ≤ v 58 i ∧ v 58 i ≤ 60) (h5 : 0 ≤ v 50 (7 * v 57 i + 5) ∧ v 50 (7 * v 57 i + 5) ≤ 60) (h6 : 0 ≤ v 50 (7 * v 57 i + 6) ∧ v 50 (7 * v 57 i + 6) ≤ 99) (k1 : v 50 (7 * v 57 i) = 1 → Q (0, v 50 (7 * v 57 i + 1 + w)) v (gHd K) t) (k2 : v 50 (7 * v 57 i) ≠ 1 → Q (0, sGv v i w h) (gUp v 58 i (sSt v i h)) (gHd K) t) : Ctr Γ mX2_sets [(2, 38), (0, i), (0, w), (0, h)] v (gHd K) t Q := by
  refine Ctr.ofG (ls := [(2, 38), (0, i), (0, w), (0, h), (9, 0), (9, 0)]) rfl rfl rfl rfl rfl ?_
  refine Gx_bipush dX2_sets_0 ⟨by decide, by decide⟩ ?_
  refine Gx_aload_n (i := 0) dX2_sets_2 rfl rfl ?_
  refine gf_X2_65_22 dX2_sets_3 rfl rfl ?_
  refine Gx_iload_n (i := 1) dX2_sets_6 rfl rfl ?_
  refine Gx_iaload dX2_sets_7 rfl (by first | omega | (simp (disch := omega) only [w32_id]; omega)) ?_
  refine Gx_imul dX2_sets_8 ?_
  try simp (disch := omega) only [w32_id]
  refine Gx_istore_4 dX2_sets_9 (Nat.le_of_ble_eq_true rfl) (Nat.ne_of_beq_eq_false rfl) ?_
  refine Gx_aload_n (i := 0) dX2_sets_11 rfl rfl ?_
  refine gf_X2_44_22 dX2_sets_12 rfl rfl ?_
  refine Gx_iload dX2_sets_15 rfl ?_
  refine Gx_iaload dX2_sets_17 rfl (by first | omega | (simp (disch := omega) only [w32_id]; omega)) ?_
  refine Gx_iconst ⟨by decide, by decide⟩ dX2_sets_18 ?_
  refine Gx_icmp_ne (tgt := 34) dX2_sets_19 (by decide) (fun c19 => ?_) (fun c19 => ?_)
  · refine Gx_aload_n (i := 0) dX2_sets_34 rfl rfl ?_
    refine gf_X2_44_22 dX2_sets_35 rfl rfl ?_
    refine Gx_iload dX2_sets_38 rfl ?_
    refine Gx_iaload dX2_sets_40 rfl (by first | omega | (simp (disch := omega) only [w32_id]; omega)) ?_
    refine Gx_iconst ⟨by decide, by decide⟩ dX2_sets_41 ?_
    refine Gx_icmp_ne (tgt := 76) dX2_sets_42 (by decide) (fun c42 => ?_) (fun c42 => ?_)
    · refine Gx_iconst ⟨by decide, by decide⟩ dX2_sets_76 ?_
      refine Gx_goto (tgt := 81) dX2_sets_77 (by decide) ?_
      refine Gx_istore_5 dX2_sets_81 (Nat.le_of_ble_eq_true rfl) (Nat.ne_of_beq_eq_false rfl) ?_
      refine Gx_aload_n (i := 0) dX2_sets_83 rfl rfl ?_
      refine gf_X2_68_22 dX2_sets_84 rfl rfl ?_
      refine Gx_iload_n (i := 1) dX2_sets_87 rfl rfl ?_
      refine Gx_dup2 (Nat.ne_of_beq_eq_false rfl) (Nat.ne_of_beq_eq_false rfl) dX2_sets_88 ?_
      refine Gx_iaload dX2_sets_89 rfl (by first | omega | (simp (disch := omega) only [w32_id]; omega)) ?_
      refine Gx_iload dX2_sets_90 rfl ?_
      refine Gx_if_eq (tgt := 107) dX2_sets_92 (by decide) (fun hz => absurd hz (by decide)) (fun _ => ?_)
      refine Gx_aload_n (i := 0) dX2_sets_95 rfl rfl ?_
      refine gf_X2_44_22 dX2_sets_96 rfl rfl ?_
      refine Gx_iload dX2_sets_99 rfl ?_
      refine Gx_iconst ⟨by decide, by decide⟩ dX2_sets_101 ?_
      refine Gx_iadd dX2_sets_102 ?_
      try simp (disch := omega) only [w32_id]
      refine Gx_iaload dX2_sets_103 rfl (by first | omega | (simp (disch := omega) only [w32_id]; omega)) ?_
      refine Gx_goto (tgt := 118) dX2_sets_104 (by decide) ?_
      try simp (disch := omega) only [w32_id]
      refine Gx_isub dX2_sets_118 ?_
      try simp (disch := omega) only [w32_id]
      refine Gx_iastore dX2_sets_119 rfl (by first | omega | (simp (disch := omega) only [w32_id]; omega)) ?_
      refine Gx_iload dX2_sets_120 rfl ?_
      refine Gx_if_eq (tgt := 137) dX2_sets_122 (by decide) (fun hz => absurd hz (by decide)) (fun _ => ?_)
      refine Gx_aload_n (i := 0) dX2_sets_125 rfl rfl ?_
      refine gf_X2_44_22 dX2_sets_126 rfl rfl ?_
      refine Gx_iload dX2_sets_129 rfl ?_
      refine Gx_iconst ⟨by decide, by decide⟩ dX2_sets_131 ?_
      refine Gx_iadd dX2_sets_132 ?_
      try simp (disch := omega) only [w32_id]
      refine Gx_iaload dX2_sets_133 rfl (by first | omega | (simp (disch := omega) only [w32_id]; omega)) ?_
      refine Gx_goto (tgt := 138) dX2_sets_134 (by decide) ?_
      refine Gx_ireturn dX2_sets_138 trivial ?_
      have hd2 : 0 ≤ (v 50 (7 * v 57 i + 5)).tdiv 2 ∧ (v 50 (7 * v 57 i + 5)).tdiv 2 ≤ 60 := by
        rw [Int.tdiv_eq_ediv_of_nonneg h5.1]
        omega
      try simp (disch := omega) only [w32_id]
      have hk := k2 (by omega)
      first
        | (have hdo : mDo v i h = true := by
             simp only [mDo, Bool.or_eq_true, decide_eq_true_eq]
             omega
           have e1 : sGv v i w h = v 50 (7 * v 57 i + 5) := by
             unfold sGv
             rw [if_neg (by omega), if_pos hdo]
           have e2 : sSt v i h = v 58 i - v 50 (7 * v 57 i + 5) := by
             unfold sSt
             rw [if_neg (by omega), if_pos hdo]
           rw [e1, e2] at hk
           exact hk)
        | (have hdo : ¬ (mDo v i h = true) := by
             simp only [mDo, Bool.or_eq_true, decide_eq_true_eq]
             omega
           have e1 : sGv v i w h = 0 := by
             unfold sGv
             rw [if_neg (by omega), if_neg hdo]
           have e2 : sSt v i h = v 58 i - (v 50 (7 * v 57 i + 5)).tdiv 2 := by
             unfold sSt
             rw [if_neg (by omega), if_neg hdo]
           rw [e1, e2] at hk
           exact hk)
    · refine Gx_bipush dX2_sets_45 ⟨by decide, by decide⟩ ?_
      refine Gx_aload_n (i := 0) dX2_sets_47 rfl rfl ?_
      refine Gx_iload_n (i := 1) dX2_sets_48 rfl rfl ?_
      refine Gx_iload_n (i := 3) dX2_sets_49 rfl rfl ?_
      refine Gx_iconst ⟨by decide, by decide⟩ dX2_sets_50 ?_
      refine cl_X2_262 dX2_sets_51 rfl rfl ⟨(Nat.le_of_ble_eq_true rfl), (Nat.le_of_ble_eq_true rfl)⟩ rfl ?_
      refine ct_X2_halfMany (by omega) (by omega) ?_
      have hc1 := yCnt_le (mHf (v 38 41) h i 1) (v 38 33).toNat
      refine Gx_imul dX2_sets_54 ?_
      try simp (disch := omega) only [w32_id]
      refine Gx_aload_n (i := 0) dX2_sets_55 rfl rfl ?_
      refine gf_X2_44_22 dX2_sets_56 rfl rfl ?_
      refine Gx_iload dX2_sets_59 rfl ?_
      refine Gx_bipush dX2_sets_61 ⟨by decide, by decide⟩ ?_
      refine Gx_iadd dX2_sets_63 ?_
      try simp (disch := omega) only [w32_id]
      refine Gx_iaload dX2_sets_64 rfl (by first | omega | (simp (disch := omega) only [w32_id]; omega)) ?_
      refine Gx_aload_n (i := 0) dX2_sets_65 rfl rfl ?_
      refine Gx_iload_n (i := 1) dX2_sets_66 rfl rfl ?_
      refine Gx_iload_n (i := 3) dX2_sets_67 rfl rfl ?_
      refine Gx_iconst ⟨by decide, by decide⟩ dX2_sets_68 ?_
      refine cl_X2_262 dX2_sets_69 rfl rfl ⟨(Nat.le_of_ble_eq_true rfl), (Nat.le_of_ble_eq_true rfl)⟩ rfl ?_
      refine ct_X2_halfMany (by omega) (by omega) ?_
      have hc0 := yCnt_le (mHf (v 38 41) h i 0) (v 38 33).toNat
      refine Gx_imul dX2_sets_72 ?_
      try simp (disch := omega) only [w32_id]
      have hml : v 50 (7 * v 57 i + 6) * yCnt (mHf (v 38 41) h i 0) (v 38 33).toNat ≤ 99 * 24 ∧ 0 ≤ v 50 (7 * v 57 i + 6) * yCnt (mHf (v 38 41) h i 0) (v 38 33).toNat := ⟨Int.mul_le_mul h6.2 (by omega) hc0.1 (by omega), Int.mul_nonneg h6.1 hc0.1⟩
      try simp (disch := omega) only [w32_id]
      refine Gx_icmp_lt (tgt := 80) dX2_sets_73 (by decide) (fun c73 => ?_) (fun c73 => ?_)
      · refine Gx_iconst ⟨by decide, by decide⟩ dX2_sets_80 ?_
        refine Gx_istore_5 dX2_sets_81 (Nat.le_of_ble_eq_true rfl) (Nat.ne_of_beq_eq_false rfl) ?_
        refine Gx_aload_n (i := 0) dX2_sets_83 rfl rfl ?_
        refine gf_X2_68_22 dX2_sets_84 rfl rfl ?_
        refine Gx_iload_n (i := 1) dX2_sets_87 rfl rfl ?_
        refine Gx_dup2 (Nat.ne_of_beq_eq_false rfl) (Nat.ne_of_beq_eq_false rfl) dX2_sets_88 ?_
        refine Gx_iaload dX2_sets_89 rfl (by first | omega | (simp (disch := omega) only [w32_id]; omega)) ?_
        refine Gx_iload dX2_sets_90 rfl ?_
        refine Gx_if_eq (tgt := 107) dX2_sets_92 (by decide) (fun _ => ?_) (fun hz => absurd hz (by decide))
        refine Gx_aload_n (i := 0) dX2_sets_107 rfl rfl ?_
        refine gf_X2_44_22 dX2_sets_108 rfl rfl ?_
        refine Gx_iload dX2_sets_111 rfl ?_
        refine Gx_iconst ⟨by decide, by decide⟩ dX2_sets_113 ?_
        refine Gx_iadd dX2_sets_114 ?_
        try simp (disch := omega) only [w32_id]
        refine Gx_iaload dX2_sets_115 rfl (by first | omega | (simp (disch := omega) only [w32_id]; omega)) ?_
        refine Gx_iconst ⟨by decide, by decide⟩ dX2_sets_116 ?_
        refine Gx_idiv dX2_sets_117 (by first | omega | (simp (disch := omega) only [w32_id]; omega)) ?_
        try simp (disch := omega) only [w32_id]
        refine Gx_isub dX2_sets_118 ?_
        try simp (disch := omega) only [w32_id]
        refine Gx_iastore dX2_sets_119 rfl (by first | omega | (simp (disch := omega) only [w32_id]; omega)) ?_
        refine Gx_iload dX2_sets_120 rfl ?_
        refine Gx_if_eq (tgt := 137) dX2_sets_122 (by decide) (fun _ => ?_) (fun hz => absurd hz (by decide))
        refine Gx_iconst ⟨by decide, by decide⟩ dX2_sets_137 ?_
        refine Gx_ireturn dX2_sets_138 trivial ?_
        have hd2 : 0 ≤ (v 50 (7 * v 57 i + 5)).tdiv 2 ∧ (v 50 (7 * v 57 i + 5)).tdiv 2 ≤ 60 := by
          rw [Int.tdiv_eq_ediv_of_nonneg h5.1]
          omega
        try simp (disch := omega) only [w32_id]
        have hk := k2 (by omega)
        first
          | (have hdo : mDo v i h = true := by
               simp only [mDo, Bool.or_eq_true, decide_eq_true_eq]
               omega
             have e1 : sGv v i w h = v 50 (7 * v 57 i + 5) := by
               unfold sGv
               rw [if_neg (by omega), if_pos hdo]
             have e2 : sSt v i h = v 58 i - v 50 (7 * v 57 i + 5) := by
               unfold sSt
               rw [if_neg (by omega), if_pos hdo]
             rw [e1, e2] at hk
             exact hk)
          | (have hdo : ¬ (mDo v i h = true) := by
               simp only [mDo, Bool.or_eq_true, decide_eq_true_eq]
               omega
             have e1 : sGv v i w h = 0 := by
               unfold sGv
               rw [if_neg (by omega), if_neg hdo]
             have e2 : sSt v i h = v 58 i - (v 50 (7 * v 57 i + 5)).tdiv 2 := by
               unfold sSt
               rw [if_neg (by omega), if_neg hdo]
             rw [e1, e2] at hk
             exact hk)
      · refine Gx_iconst ⟨by decide, by decide⟩ dX2_sets_76 ?_
        refine Gx_goto (tgt := 81) dX2_sets_77 (by decide) ?_
        refine Gx_istore_5 dX2_sets_81 (Nat.le_of_ble_eq_true rfl) (Nat.ne_of_beq_eq_false rfl) ?_
        refine Gx_aload_n (i := 0) dX2_sets_83 rfl rfl ?_
        refine gf_X2_68_22 dX2_sets_84 rfl rfl ?_
        refine Gx_iload_n (i := 1) dX2_sets_87 rfl rfl ?_
        refine Gx_dup2 (Nat.ne_of_beq_eq_false rfl) (Nat.ne_of_beq_eq_false rfl) dX2_sets_88 ?_
        refine Gx_iaload dX2_sets_89 rfl (by first | omega | (simp (disch := omega) only [w32_id]; omega)) ?_
        refine Gx_iload dX2_sets_90 rfl ?_
        refine Gx_if_eq (tgt := 107) dX2_sets_92 (by decide) (fun hz => absurd hz (by decide)) (fun _ => ?_)
        refine Gx_aload_n (i := 0) dX2_sets_95 rfl rfl ?_
        refine gf_X2_44_22 dX2_sets_96 rfl rfl ?_
        refine Gx_iload dX2_sets_99 rfl ?_
        refine Gx_iconst ⟨by decide, by decide⟩ dX2_sets_101 ?_
        refine Gx_iadd dX2_sets_102 ?_
        try simp (disch := omega) only [w32_id]
        refine Gx_iaload dX2_sets_103 rfl (by first | omega | (simp (disch := omega) only [w32_id]; omega)) ?_
        refine Gx_goto (tgt := 118) dX2_sets_104 (by decide) ?_
        try simp (disch := omega) only [w32_id]
        refine Gx_isub dX2_sets_118 ?_
        try simp (disch := omega) only [w32_id]
        refine Gx_iastore dX2_sets_119 rfl (by first | omega | (simp (disch := omega) only [w32_id]; omega)) ?_
        refine Gx_iload dX2_sets_120 rfl ?_
        refine Gx_if_eq (tgt := 137) dX2_sets_122 (by decide) (fun hz => absurd hz (by decide)) (fun _ => ?_)
        refine Gx_aload_n (i := 0) dX2_sets_125 rfl rfl ?_
        refine gf_X2_44_22 dX2_sets_126 rfl rfl ?_
        refine Gx_iload dX2_sets_129 rfl ?_
        refine Gx_iconst ⟨by decide, by decide⟩ dX2_sets_131 ?_
        refine Gx_iadd dX2_sets_132 ?_
        try simp (disch := omega) only [w32_id]
        refine Gx_iaload dX2_sets_133 rfl (by first | omega | (simp (disch := omega) only [w32_id]; omega)) ?_
        refine Gx_goto (tgt := 138) dX2_sets_134 (by decide) ?_
        refine Gx_ireturn dX2_sets_138 trivial ?_
        have hd2 : 0 ≤ (v 50 (7 * v 57 i + 5)).tdiv 2 ∧ (v 50 (7 * v 57 i + 5)).tdiv 2 ≤ 60 := by
          rw [Int.tdiv_eq_ediv_of_nonneg h5.1]
          omega
        try simp (disch := omega) only [w32_id]
        have hk := k2 (by omega)
        first
          | (have hdo : mDo v i h = true := by
               simp only [mDo, Bool.or_eq_true, decide_eq_true_eq]
               omega
             have e1 : sGv v i w h = v 50 (7 * v 57 i + 5) := by
               unfold sGv
               rw [if_neg (by omega), if_pos hdo]
             have e2 : sSt v i h = v 58 i - v 50 (7 * v 57 i + 5) := by
               unfold sSt
               rw [if_neg (by omega), if_pos hdo]
             rw [e1, e2] at hk
             exact hk)
          | (have hdo : ¬ (mDo v i h = true) := by
               simp only [mDo, Bool.or_eq_true, decide_eq_true_eq]
               omega
             have e1 : sGv v i w h = 0 := by
               unfold sGv
               rw [if_neg (by omega), if_neg hdo]
             have e2 : sSt v i h = v 58 i - (v 50 (7 * v 57 i + 5)).tdiv 2 := by
               unfold sSt
               rw [if_neg (by omega), if_neg hdo]
             rw [e1, e2] at hk
             exact hk)
  · refine Gx_aload_n (i := 0) dX2_sets_22 rfl rfl ?_
    refine gf_X2_44_22 dX2_sets_23 rfl rfl ?_
    refine Gx_iload dX2_sets_26 rfl ?_
    refine Gx_iconst ⟨by decide, by decide⟩ dX2_sets_28 ?_
    refine Gx_iadd dX2_sets_29 ?_
    try simp (disch := omega) only [w32_id]
    refine Gx_iload_n (i := 2) dX2_sets_30 rfl rfl ?_
    refine Gx_iadd dX2_sets_31 ?_
    try simp (disch := omega) only [w32_id]
    refine Gx_iaload dX2_sets_32 rfl (by first | omega | (simp (disch := omega) only [w32_id]; omega)) ?_
    refine Gx_ireturn dX2_sets_33 trivial ?_
    exact k1 c19
end
