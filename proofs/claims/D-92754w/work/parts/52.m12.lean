/-! AcornYearsModel: fault, wood -/
section
variable {Γ : gC} {v : gM} {K : gH} {t : Nat} {Q : gQ}
theorem ct_X2_fault {r : Int} (hT : oTz v) (kB : ¬ (0 ≤ r ∧ r ≤ 3) → Q (0, -1) v (gHd K) t) (kN : 0 ≤ r ∧ r ≤ 3 → v 43 r < 0 → Q (0, -3) (sMeet v 1) (gHd K) t) (kF : 0 ≤ r ∧ r ≤ 3 → 0 ≤ v 43 r → ∀ v1, FRD v v1 → Q (0, pFault (mB v r) (v 43 r)) v1 (gHd K) t) : Ctr Γ mX2_fault [(2, 38), (0, r)] v (gHd K) t Q := by
  refine Ctr.ofG (ls := [(2, 38), (0, r)]) rfl rfl rfl rfl rfl ?_
  refine Gx_iload_n (i := 1) dX2_fault_0 rfl rfl ?_
  refine cl_X2_129 dX2_fault_1 rfl ⟨(Nat.le_of_ble_eq_true rfl), (Nat.le_of_ble_eq_true rfl)⟩ rfl ?_
  refine ct_X2_isText (fun c1 => ?_) (fun c1 => ?_)
  · refine Gx_if_ne (tgt := 9) dX2_fault_4 (by decide) (fun _ => ?_) (fun hz => absurd hz (by decide))
    have ht := hT r (by omega) (by omega)
    refine Gx_aload_n (i := 0) dX2_fault_9 rfl rfl ?_
    refine gf_X2_22_22 dX2_fault_10 rfl rfl ?_
    refine Gx_iload_n (i := 1) dX2_fault_13 rfl rfl ?_
    refine Gx_iaload dX2_fault_14 rfl (by first | omega | (simp (disch := omega) only [w32_id]; omega)) ?_
    refine Gx_if_ge (tgt := 26) dX2_fault_15 (by decide) (fun c15 => ?_) (fun c15 => ?_)
    · refine Gx_aload_n (i := 0) dX2_fault_26 rfl rfl ?_
      refine Gx_iload_n (i := 1) dX2_fault_27 rfl rfl ?_
      refine cl_X2_188 dX2_fault_28 rfl rfl ⟨(Nat.le_of_ble_eq_true rfl), (Nat.le_of_ble_eq_true rfl)⟩ rfl ?_
      refine ct_X2_faultOf (by omega) (by omega) (fun vF hF hR => ?_)
      refine Gx_ireturn dX2_fault_31 trivial ?_
      first | exact kN (by omega) (by omega) | exact kF (by omega) (by omega) vF hF
    · refine Gx_aload_n (i := 0) dX2_fault_18 rfl rfl ?_
      refine Gx_iconst ⟨by decide, by decide⟩ dX2_fault_19 ?_
      refine cl_X2_118 dX2_fault_20 rfl rfl ⟨(Nat.le_of_ble_eq_true rfl), (Nat.le_of_ble_eq_true rfl)⟩ rfl ?_
      refine ct_X2_meets (by omega) ?_
      refine Gx_goto (tgt := 31) dX2_fault_23 (by decide) ?_
      refine Gx_ireturn dX2_fault_31 trivial ?_
      first | exact kN (by omega) (by omega) | exact kF (by omega) (by omega) vF hF
  · refine Gx_if_ne (tgt := 9) dX2_fault_4 (by decide) (fun hz => absurd hz (by decide)) (fun _ => ?_)
    refine Gx_iconst ⟨by decide, by decide⟩ dX2_fault_7 ?_
    refine Gx_ireturn dX2_fault_8 trivial ?_
    exact kB (by omega)
theorem lp_X2_wood1 {r n : Int} {bc bs : Nat} {v : gM} (hn : n = 42) : ∀ (j : Nat) (x : Int), 0 ≤ x → x + j = n → Gx Γ mX2_wood 71 [(2, 38), (0, r), (0, n)] [] (gCopy v 50 0 n (v 45)) (gHd K) t bc bs Q → Gx Γ mX2_wood 47 [(2, 38), (0, r), (0, x)] [] (gCopy v 50 0 x (v 45)) (gHd K) t bc bs Q := by
  intro j
  induction j with
  | zero =>
    intro x h0 h1 k
    refine Gx_iload_n (i := 2) dX2_wood_47 rfl rfl ?_
    refine Gx_bipush dX2_wood_48 ⟨by decide, by decide⟩ ?_
    refine Gx_icmp_ge (tgt := 71) dX2_wood_50 (by decide) (fun c50 => ?_) (fun c50 => ?_)
    · have e : x = n := by omega
      rw [e]
      exact k
    · refine Gx_aload_n (i := 0) dX2_wood_53 rfl rfl ?_
      refine gf_X2_44_22 dX2_wood_54 rfl rfl ?_
      refine Gx_iload_n (i := 2) dX2_wood_57 rfl rfl ?_
      refine Gx_aload_n (i := 0) dX2_wood_58 rfl rfl ?_
      refine gf_X2_29_22 dX2_wood_59 rfl rfl ?_
      refine Gx_iload_n (i := 2) dX2_wood_62 rfl rfl ?_
      refine Gx_iaload dX2_wood_63 rfl (by first | omega | (simp (disch := omega) only [w32_id]; omega)) ?_
      refine Gx_iastore dX2_wood_64 rfl (by first | omega | (simp (disch := omega) only [w32_id]; omega)) ?_
      refine Gx_iinc_2 dX2_wood_65 (Nat.le_of_ble_eq_true rfl) (Nat.ne_of_beq_eq_false rfl) ?_
      try simp (disch := omega) only [w32_id]
      refine Gx_goto (tgt := 47) dX2_wood_68 (by decide) ?_
      exfalso
      omega
  | succ j ih =>
    intro x h0 h1 k
    refine Gx_iload_n (i := 2) dX2_wood_47 rfl rfl ?_
    refine Gx_bipush dX2_wood_48 ⟨by decide, by decide⟩ ?_
    refine Gx_icmp_ge (tgt := 71) dX2_wood_50 (by decide) (fun c50 => ?_) (fun c50 => ?_)
    · exfalso
      omega
    · refine Gx_aload_n (i := 0) dX2_wood_53 rfl rfl ?_
      refine gf_X2_44_22 dX2_wood_54 rfl rfl ?_
      refine Gx_iload_n (i := 2) dX2_wood_57 rfl rfl ?_
      refine Gx_aload_n (i := 0) dX2_wood_58 rfl rfl ?_
      refine gf_X2_29_22 dX2_wood_59 rfl rfl ?_
      refine Gx_iload_n (i := 2) dX2_wood_62 rfl rfl ?_
      refine Gx_iaload dX2_wood_63 rfl (by first | omega | (simp (disch := omega) only [w32_id]; omega)) ?_
      refine Gx_iastore dX2_wood_64 rfl (by first | omega | (simp (disch := omega) only [w32_id]; omega)) ?_
      refine Gx_iinc_2 dX2_wood_65 (Nat.le_of_ble_eq_true rfl) (Nat.ne_of_beq_eq_false rfl) ?_
      try simp (disch := omega) only [w32_id]
      refine Gx_goto (tgt := 47) dX2_wood_68 (by decide) ?_
      have e : gUp (gCopy v 50 0 x (v 45)) 50 x (gCopy v 50 0 x (v 45) 45 x) = gCopy v 50 0 (x + 1) (v 45) := by
        have h2 := gCopy_step (v := v) (a := 50) (lo := 0) (i := x) (f := v 45) h0
        rw [show (0 : Int) + x = x by omega] at h2
        rw [← h2]
        rfl
      rw [e]
      exact ih (x + 1) (by omega) (by omega) k
theorem lp_X2_wood3 {r n : Int} {bc bs : Nat} {v : gM} (hn : v 38 17 = n) (hn8 : n ≤ 8) : ∀ (j : Nat) (x : Int), 0 ≤ x → x + j = n → Gx Γ mX2_wood 213 [(2, 38), (0, r), (0, n)] [] (gCopy v 54 0 n (v 48)) (gHd K) t bc bs Q → Gx Γ mX2_wood 187 [(2, 38), (0, r), (0, x)] [] (gCopy v 54 0 x (v 48)) (gHd K) t bc bs Q := by
  intro j
  induction j with
  | zero =>
    intro x h0 h1 k
    refine Gx_iload_n (i := 2) dX2_wood_187 rfl rfl ?_
    refine Gx_aload_n (i := 0) dX2_wood_188 rfl rfl ?_
    refine gf_X2_164_22 dX2_wood_189 rfl rfl ?_
    rw [show gCopy v 54 0 x (v 48) 38 17 = n from hn]
    refine Gx_icmp_ge (tgt := 213) dX2_wood_192 (by decide) (fun c192 => ?_) (fun c192 => ?_)
    · have e : x = n := by omega
      rw [e]
      exact k
    · refine Gx_aload_n (i := 0) dX2_wood_195 rfl rfl ?_
      refine gf_X2_56_22 dX2_wood_196 rfl rfl ?_
      refine Gx_iload_n (i := 2) dX2_wood_199 rfl rfl ?_
      refine Gx_aload_n (i := 0) dX2_wood_200 rfl rfl ?_
      refine gf_X2_38_22 dX2_wood_201 rfl rfl ?_
      refine Gx_iload_n (i := 2) dX2_wood_204 rfl rfl ?_
      refine Gx_iaload dX2_wood_205 rfl (by first | omega | (simp (disch := omega) only [w32_id]; omega)) ?_
      refine Gx_iastore dX2_wood_206 rfl (by first | omega | (simp (disch := omega) only [w32_id]; omega)) ?_
      refine Gx_iinc_2 dX2_wood_207 (Nat.le_of_ble_eq_true rfl) (Nat.ne_of_beq_eq_false rfl) ?_
      try simp (disch := omega) only [w32_id]
      refine Gx_goto (tgt := 187) dX2_wood_210 (by decide) ?_
      exfalso
      omega
  | succ j ih =>
    intro x h0 h1 k
    refine Gx_iload_n (i := 2) dX2_wood_187 rfl rfl ?_
    refine Gx_aload_n (i := 0) dX2_wood_188 rfl rfl ?_
    refine gf_X2_164_22 dX2_wood_189 rfl rfl ?_
    rw [show gCopy v 54 0 x (v 48) 38 17 = n from hn]
    refine Gx_icmp_ge (tgt := 213) dX2_wood_192 (by decide) (fun c192 => ?_) (fun c192 => ?_)
    · exfalso
      omega
    · refine Gx_aload_n (i := 0) dX2_wood_195 rfl rfl ?_
      refine gf_X2_56_22 dX2_wood_196 rfl rfl ?_
      refine Gx_iload_n (i := 2) dX2_wood_199 rfl rfl ?_
      refine Gx_aload_n (i := 0) dX2_wood_200 rfl rfl ?_
      refine gf_X2_38_22 dX2_wood_201 rfl rfl ?_
      refine Gx_iload_n (i := 2) dX2_wood_204 rfl rfl ?_
      refine Gx_iaload dX2_wood_205 rfl (by first | omega | (simp (disch := omega) only [w32_id]; omega)) ?_
      refine Gx_iastore dX2_wood_206 rfl (by first | omega | (simp (disch := omega) only [w32_id]; omega)) ?_
      refine Gx_iinc_2 dX2_wood_207 (Nat.le_of_ble_eq_true rfl) (Nat.ne_of_beq_eq_false rfl) ?_
      try simp (disch := omega) only [w32_id]
      refine Gx_goto (tgt := 187) dX2_wood_210 (by decide) ?_
      have e : gUp (gCopy v 54 0 x (v 48)) 54 x (gCopy v 54 0 x (v 48) 48 x) = gCopy v 54 0 (x + 1) (v 48) := by
        have h2 := gCopy_step (v := v) (a := 54) (lo := 0) (i := x) (f := v 48) h0
        rw [show (0 : Int) + x = x by omega] at h2
        rw [← h2]
        rfl
      rw [e]
      exact ih (x + 1) (by omega) (by omega) k
set_option maxHeartbeats 1000000 in
theorem lp_X2_wood2 {r n : Int} {bc bs : Nat} (hn2 : n ≤ 2) : ∀ (j : Nat) (x : Int) (v : gM), 0 ≤ x → x + j = n → v 38 22 = n → (∀ v1, (∀ a l, ¬ ((a = 56 ∨ (51 ≤ a ∧ a ≤ 53)) ∧ x ≤ l ∧ l < n) → v1 a l = v a l) → (∀ l, x ≤ l → l < n → v1 56 l = v 46 (4 * l) ∧ v1 51 l = v 46 (4 * l + 1) ∧ v1 52 l = v 46 (4 * l + 2) ∧ v1 53 l = v 46 (4 * l + 3)) → Gx Γ mX2_wood 157 [(2, 38), (0, r), (0, n)] [] v1 (gHd K) t bc bs Q) → Gx Γ mX2_wood 81 [(2, 38), (0, r), (0, x)] [] v (gHd K) t bc bs Q := by
  intro j
  induction j with
  | zero =>
    intro x v h0 h1 h2 k
    refine Gx_iload_n (i := 2) dX2_wood_81 rfl rfl ?_
    refine Gx_aload_n (i := 0) dX2_wood_82 rfl rfl ?_
    refine gf_X2_194_22 dX2_wood_83 rfl rfl ?_
    refine Gx_icmp_ge (tgt := 157) dX2_wood_86 (by decide) (fun c86 => ?_) (fun c86 => ?_)
    · have e : x = n := by omega
      rw [e]
      refine k v (fun a l hn => rfl) (fun l l0 l1 => by omega)
    · exfalso
      omega
  | succ j ih =>
    intro x v h0 h1 h2 k
    refine Gx_iload_n (i := 2) dX2_wood_81 rfl rfl ?_
    refine Gx_aload_n (i := 0) dX2_wood_82 rfl rfl ?_
    refine gf_X2_194_22 dX2_wood_83 rfl rfl ?_
    refine Gx_icmp_ge (tgt := 157) dX2_wood_86 (by decide) (fun c86 => ?_) (fun c86 => ?_)
    · exfalso
      omega
    · refine Gx_aload_n (i := 0) dX2_wood_89 rfl rfl ?_
      refine gf_X2_62_22 dX2_wood_90 rfl rfl ?_
      refine Gx_iload_n (i := 2) dX2_wood_93 rfl rfl ?_
      refine Gx_aload_n (i := 0) dX2_wood_94 rfl rfl ?_
      refine gf_X2_32_22 dX2_wood_95 rfl rfl ?_
      refine Gx_iconst ⟨by decide, by decide⟩ dX2_wood_98 ?_
      refine Gx_iload_n (i := 2) dX2_wood_99 rfl rfl ?_
      refine Gx_imul dX2_wood_100 ?_
      try simp (disch := omega) only [w32_id]
      refine Gx_iaload dX2_wood_101 rfl (by first | omega | (simp (disch := omega) only [w32_id]; omega)) ?_
      refine Gx_iastore dX2_wood_102 rfl (by first | omega | (simp (disch := omega) only [w32_id]; omega)) ?_
      refine Gx_aload_n (i := 0) dX2_wood_103 rfl rfl ?_
      refine gf_X2_47_22 dX2_wood_104 rfl rfl ?_
      refine Gx_iload_n (i := 2) dX2_wood_107 rfl rfl ?_
      refine Gx_aload_n (i := 0) dX2_wood_108 rfl rfl ?_
      refine gf_X2_32_22 dX2_wood_109 rfl rfl ?_
      refine Gx_iconst ⟨by decide, by decide⟩ dX2_wood_112 ?_
      refine Gx_iload_n (i := 2) dX2_wood_113 rfl rfl ?_
      refine Gx_imul dX2_wood_114 ?_
      try simp (disch := omega) only [w32_id]
      refine Gx_iconst ⟨by decide, by decide⟩ dX2_wood_115 ?_
      refine Gx_iadd dX2_wood_116 ?_
      try simp (disch := omega) only [w32_id]
      refine Gx_iaload dX2_wood_117 rfl (by first | omega | (simp (disch := omega) only [w32_id]; omega)) ?_
      refine Gx_iastore dX2_wood_118 rfl (by first | omega | (simp (disch := omega) only [w32_id]; omega)) ?_
      refine Gx_aload_n (i := 0) dX2_wood_119 rfl rfl ?_
      refine gf_X2_50_22 dX2_wood_120 rfl rfl ?_
      refine Gx_iload_n (i := 2) dX2_wood_123 rfl rfl ?_
      refine Gx_aload_n (i := 0) dX2_wood_124 rfl rfl ?_
      refine gf_X2_32_22 dX2_wood_125 rfl rfl ?_
      refine Gx_iconst ⟨by decide, by decide⟩ dX2_wood_128 ?_
      refine Gx_iload_n (i := 2) dX2_wood_129 rfl rfl ?_
      refine Gx_imul dX2_wood_130 ?_
      try simp (disch := omega) only [w32_id]
      refine Gx_iconst ⟨by decide, by decide⟩ dX2_wood_131 ?_
      refine Gx_iadd dX2_wood_132 ?_
      try simp (disch := omega) only [w32_id]
      refine Gx_iaload dX2_wood_133 rfl (by first | omega | (simp (disch := omega) only [w32_id]; omega)) ?_
      refine Gx_iastore dX2_wood_134 rfl (by first | omega | (simp (disch := omega) only [w32_id]; omega)) ?_
      refine Gx_aload_n (i := 0) dX2_wood_135 rfl rfl ?_
      refine gf_X2_53_22 dX2_wood_136 rfl rfl ?_
      refine Gx_iload_n (i := 2) dX2_wood_139 rfl rfl ?_
      refine Gx_aload_n (i := 0) dX2_wood_140 rfl rfl ?_
      refine gf_X2_32_22 dX2_wood_141 rfl rfl ?_
      refine Gx_iconst ⟨by decide, by decide⟩ dX2_wood_144 ?_
      refine Gx_iload_n (i := 2) dX2_wood_145 rfl rfl ?_
      refine Gx_imul dX2_wood_146 ?_
      try simp (disch := omega) only [w32_id]
      refine Gx_iconst ⟨by decide, by decide⟩ dX2_wood_147 ?_
      refine Gx_iadd dX2_wood_148 ?_
      try simp (disch := omega) only [w32_id]
      refine Gx_iaload dX2_wood_149 rfl (by first | omega | (simp (disch := omega) only [w32_id]; omega)) ?_
      refine Gx_iastore dX2_wood_150 rfl (by first | omega | (simp (disch := omega) only [w32_id]; omega)) ?_
      refine Gx_iinc_2 dX2_wood_151 (Nat.le_of_ble_eq_true rfl) (Nat.ne_of_beq_eq_false rfl) ?_
      try simp (disch := omega) only [w32_id]
      refine Gx_goto (tgt := 81) dX2_wood_154 (by decide) ?_
      refine Gx_name (fun vN eN => ?_)
      have hFN : ∀ a l, ¬ ((a = 56 ∨ (51 ≤ a ∧ a ≤ 53)) ∧ l = x) → vN a l = v a l := by
        intro a l hn
        rw [eN]
        simp (disch := omega) only [gUp_ne2, gUp_eq2]
      have g56 : vN 56 x = v 46 (4 * x) := by rw [eN]; simp (disch := omega) only [gUp_ne2, gUp_eq2]
      have g51 : vN 51 x = v 46 (4 * x + 1) := by rw [eN]; simp (disch := omega) only [gUp_ne2, gUp_eq2]
      have g52 : vN 52 x = v 46 (4 * x + 2) := by rw [eN]; simp (disch := omega) only [gUp_ne2, gUp_eq2]
      have g53 : vN 53 x = v 46 (4 * x + 3) := by rw [eN]; simp (disch := omega) only [gUp_ne2, gUp_eq2]
      refine ih (x + 1) vN (by omega) (by omega) (by rw [hFN 38 22 (by omega)]; exact h2) (fun v1 f1 f2 => ?_)
      refine k v1 (fun a l hn => ?_) (fun l l0 l1 => ?_)
      · rw [f1 a l (by omega), hFN a l (by omega)]
      · by_cases hl : l = x
        · subst hl
          rw [f1 56 l (by omega), f1 51 l (by omega), f1 52 l (by omega), f1 53 l (by omega)]
          exact ⟨g56, g51, g52, g53⟩
        · have g := f2 l (by omega) (by omega)
          rw [hFN 46 (4 * l) (by omega), hFN 46 (4 * l + 1) (by omega), hFN 46 (4 * l + 2) (by omega), hFN 46 (4 * l + 3) (by omega)] at g
          exact g
/-- the model's memory once a wood is laid out of what was read -/
def oWood (v v1 s : gM) : Prop := (∀ a j, ¬ ((a = 38 ∧ (j = 10 ∨ j = 11 ∨ j = 12 ∨ j = 14 ∨ j = 17 ∨ j = 20 ∨ j = 22 ∨ j = 26 ∨ j = 27 ∨ j = 28 ∨ j = 31 ∨ j = 33)) ∨ (45 ≤ a ∧ a ≤ 56)) → v1 a j = v a j) ∧ v1 38 20 = s 38 12 ∧ v1 38 22 = s 38 14 ∧ v1 38 26 = s 47 0 ∧ v1 38 27 = s 47 1 ∧ v1 38 28 = s 38 17 ∧ v1 38 31 = 0 ∧ v1 38 33 = 0 ∧
  (∀ j, 0 ≤ j → j < 7 * s 38 12 → v1 50 j = s 45 j) ∧ (∀ l, 0 ≤ l → l < s 38 14 → v1 56 l = s 46 (4 * l) ∧ v1 51 l = s 46 (4 * l + 1) ∧ v1 52 l = s 46 (4 * l + 2) ∧ v1 53 l = s 46 (4 * l + 3)) ∧ (∀ j, 0 ≤ j → j < s 38 17 → v1 54 j = s 48 j) ∧ ∀ j, 0 ≤ j → j ≤ 2 → v1 55 j = s 49 j
theorem pFault_ok {b : pB} {n : Int} (h : pFault b n = -9) (hn : 0 ≤ n) : (∃ s, pText b n = .ok s ∧ s 38 12 ≠ 0 ∧ BP s) ∨ ∃ q, pText b n = .error q ∧ q = -9 := by
  unfold pFault at h
  cases hx : pText b n with
  | error q => rw [hx] at h; exact Or.inr ⟨q, rfl, h⟩
  | ok s =>
    rw [hx] at h
    refine Or.inl ⟨s, rfl, ?_, ?_⟩
    · intro h0
      have h : (if s 38 12 = 0 then n else -9) = -9 := h
      rw [if_pos h0] at h
      omega
    · exact pLoop_BP _ _ _ _ BP_S0 hx
theorem pLoop_err {b : pB} {n : Int} : ∀ (f : Nat) (p q : Int) (s : gM), pLoop b n f p s = .error q → p ≤ q
  | 0, p, q, s, h => by have e := Except.error.inj h; omega
  | f + 1, p, q, s, h => by
    unfold pLoop at h
    split at h
    · split at h
      · have := pLoop_err f _ _ _ h; omega
      · cases hx : pItem b p s with
        | error z =>
          rw [hx] at h
          have e := Except.error.inj h
          have := (Bnd_item (b := b) (p := p) (s := s)).1 z hx
          omega
        | ok a =>
          obtain ⟨q1, s1⟩ := a
          rw [hx] at h
          have := pLoop_err f _ _ _ h
          have h2 := (Bnd_item (b := b) (p := p) (s := s)).2 _ hx
          have h2 : p + 1 ≤ q1 ∧ q1 ≤ p + 17 := h2
          omega
    · cases h
theorem pFault_9 {b : pB} {n : Int} (h : pFault b n = -9) (hn : 0 ≤ n) : ∃ s, pText b n = .ok s ∧ s 38 12 ≠ 0 ∧ BP s := by
  rcases pFault_ok h hn with h1 | ⟨q, h1, h2⟩
  · exact h1
  · have := pLoop_err _ _ _ _ h1
    omega

set_option maxHeartbeats 4000000 in
theorem ct_X2_wood {r : Int} (hT : oTz v) (kB : ¬ (0 ≤ r ∧ r ≤ 3) → Q (0, -1) v (gHd K) t) (kN : 0 ≤ r ∧ r ≤ 3 → v 43 r < 0 → Q (0, -3) (sMeet v 1) (gHd K) t) (kF : 0 ≤ r ∧ r ≤ 3 → 0 ≤ v 43 r → pFault (mB v r) (v 43 r) ≠ -9 → ∀ v1, FRD v v1 → Q (0, -4) v1 (gHd K) t) (kW : pFault (mB v r) (v 43 r) = -9 → ∀ s v1, pText (mB v r) (v 43 r) = .ok s → oWood v v1 s → Q (0, s 38 12) v1 (gHd K) t) : Ctr Γ mX2_wood [(2, 38), (0, r)] v (gHd K) t Q := by
  refine Ctr.ofG (ls := [(2, 38), (0, r), (9, 0)]) rfl rfl rfl rfl rfl ?_
  refine Gx_iload_n (i := 1) dX2_wood_0 rfl rfl ?_
  refine cl_X2_129 dX2_wood_1 rfl ⟨(Nat.le_of_ble_eq_true rfl), (Nat.le_of_ble_eq_true rfl)⟩ rfl ?_
  refine ct_X2_isText (fun c1 => ?_) (fun c1 => ?_)
  · refine Gx_if_ne (tgt := 9) dX2_wood_4 (by decide) (fun _ => ?_) (fun hz => absurd hz (by decide))
    have ht := hT r (by omega) (by omega)
    refine Gx_aload_n (i := 0) dX2_wood_9 rfl rfl ?_
    refine gf_X2_22_22 dX2_wood_10 rfl rfl ?_
    refine Gx_iload_n (i := 1) dX2_wood_13 rfl rfl ?_
    refine Gx_iaload dX2_wood_14 rfl (by first | omega | (simp (disch := omega) only [w32_id]; omega)) ?_
    refine Gx_if_ge (tgt := 24) dX2_wood_15 (by decide) (fun c15 => ?_) (fun c15 => ?_)
    · refine Gx_aload_n (i := 0) dX2_wood_24 rfl rfl ?_
      refine Gx_iload_n (i := 1) dX2_wood_25 rfl rfl ?_
      refine cl_X2_188 dX2_wood_26 rfl rfl ⟨(Nat.le_of_ble_eq_true rfl), (Nat.le_of_ble_eq_true rfl)⟩ rfl ?_
      refine ct_X2_faultOf (by omega) (by omega) (fun vF hF hR => ?_)
      refine Gx_bipush dX2_wood_29 ⟨by decide, by decide⟩ ?_
      refine Gx_icmp_eq (tgt := 37) dX2_wood_31 (by decide) (fun c31 => ?_) (fun c31 => ?_)
      · obtain ⟨s, hs, hs0, hB⟩ := pFault_9 c31 (by omega)
        obtain ⟨r1, r2, r3, r4, r5, r6, r7, r8, r9⟩ := hR s hs
        obtain ⟨b1, b2, b3⟩ := hB
        refine Gx_aload_n (i := 0) dX2_wood_37 rfl rfl ?_
        refine Gx_aload_n (i := 0) dX2_wood_38 rfl rfl ?_
        refine gf_X2_144_22 dX2_wood_39 rfl rfl ?_
        refine pf_X2_191_22 dX2_wood_42 rfl rfl ?_
        refine Gx_iconst ⟨by decide, by decide⟩ dX2_wood_45 ?_
        refine Gx_istore_n_2 dX2_wood_46 (Nat.le_of_ble_eq_true rfl) (Nat.ne_of_beq_eq_false rfl) ?_
        have hl := lp_X2_wood1 (Γ := Γ) (K := K) (t := t) (Q := Q) (r := r) (n := 42) (bc := 0) (bs := 0) (v := gUp vF 38 20 (vF 38 12)) rfl 42 0 (by omega) (by omega)
        rw [gCopy_0] at hl
        refine hl ?_
        refine Gx_aload_n (i := 0) dX2_wood_71 rfl rfl ?_
        refine Gx_aload_n (i := 0) dX2_wood_72 rfl rfl ?_
        refine gf_X2_161_22 dX2_wood_73 rfl rfl ?_
        refine pf_X2_194_22 dX2_wood_76 rfl rfl ?_
        refine Gx_iconst ⟨by decide, by decide⟩ dX2_wood_79 ?_
        refine Gx_istore_n_2 dX2_wood_80 (Nat.le_of_ble_eq_true rfl) (Nat.ne_of_beq_eq_false rfl) ?_
        refine Gx_name (fun v1 e1 => ?_)
        have hF1 : ∀ a j, ¬ ((a = 38 ∧ (j = 20 ∨ j = 22)) ∨ a = 50) → v1 a j = vF a j := by
          intro a j hn
          rw [e1, gUp_ne2 (by omega)]
          unfold gCopy
          rw [if_neg (by omega), gUp_ne2 (by omega)]
        have h20 : v1 38 20 = s 38 12 := by
          rw [e1, gUp_ne2 (by omega)]
          unfold gCopy
          rw [if_neg (by omega), gUp_eq2 rfl rfl]
          exact r1
        have h22 : v1 38 22 = s 38 14 := by
          rw [e1, gUp_eq2 rfl rfl]
          exact r2
        have h50 : ∀ j, 0 ≤ j → j < 7 * s 38 12 → v1 50 j = s 45 j := by
          intro j j0 j1
          rw [e1, gUp_ne2 (by omega)]
          unfold gCopy
          rw [if_pos (by omega), gUp_ne2 (by omega), show j - 0 = j by omega]
          exact r4 j j0 j1
        refine lp_X2_wood2 (n := s 38 14) (by omega) (s 38 14).toNat 0 v1 (by omega) (by omega) h22 (fun v2 hF2 h56 => ?_)
        refine Gx_aload_n (i := 0) dX2_wood_157 rfl rfl ?_
        refine Gx_aload_n (i := 0) dX2_wood_158 rfl rfl ?_
        refine gf_X2_35_22 dX2_wood_159 rfl rfl ?_
        refine Gx_iconst ⟨by decide, by decide⟩ dX2_wood_162 ?_
        refine Gx_iaload dX2_wood_163 rfl (by first | omega | (simp (disch := omega) only [w32_id]; omega)) ?_
        refine pf_X2_197_22 dX2_wood_164 rfl rfl ?_
        refine Gx_aload_n (i := 0) dX2_wood_167 rfl rfl ?_
        refine Gx_aload_n (i := 0) dX2_wood_168 rfl rfl ?_
        refine gf_X2_35_22 dX2_wood_169 rfl rfl ?_
        refine Gx_iconst ⟨by decide, by decide⟩ dX2_wood_172 ?_
        refine Gx_iaload dX2_wood_173 rfl (by first | omega | (simp (disch := omega) only [w32_id]; omega)) ?_
        refine pf_X2_200_22 dX2_wood_174 rfl rfl ?_
        refine Gx_aload_n (i := 0) dX2_wood_177 rfl rfl ?_
        refine Gx_aload_n (i := 0) dX2_wood_178 rfl rfl ?_
        refine gf_X2_164_22 dX2_wood_179 rfl rfl ?_
        refine pf_X2_97_22 dX2_wood_182 rfl rfl ?_
        refine Gx_iconst ⟨by decide, by decide⟩ dX2_wood_185 ?_
        refine Gx_istore_n_2 dX2_wood_186 (Nat.le_of_ble_eq_true rfl) (Nat.ne_of_beq_eq_false rfl) ?_
        refine Gx_name (fun v3 e3 => ?_)
        have hF3 : ∀ a j, ¬ (a = 38 ∧ (j = 26 ∨ j = 27 ∨ j = 28)) → v3 a j = v2 a j := by
          intro a j hn
          rw [e3]
          simp (disch := omega) only [gUp_ne2, gUp_eq2]
        have h26 : v3 38 26 = s 47 0 := by
          rw [e3]
          simp (disch := omega) only [gUp_ne2, gUp_eq2, hF2, hF1]
          exact r6
        have h27 : v3 38 27 = s 47 1 := by
          rw [e3]
          simp (disch := omega) only [gUp_ne2, gUp_eq2, hF2, hF1]
          exact r7
        have h28 : v3 38 28 = s 38 17 := by
          rw [e3]
          simp (disch := omega) only [gUp_ne2, gUp_eq2, hF2, hF1]
          exact r3
        have h17 : v3 38 17 = s 38 17 := by
          rw [hF3 38 17 (by omega), hF2 38 17 (by omega), hF1 38 17 (by omega)]
          exact r3
        have hl := lp_X2_wood3 (Γ := Γ) (K := K) (t := t) (Q := Q) (r := r) (n := s 38 17) (bc := 0) (bs := 0) (v := v3) h17 (by omega) (s 38 17).toNat 0 (by omega) (by omega)
        rw [gCopy_0] at hl
        refine hl ?_
        refine Gx_iconst ⟨by decide, by decide⟩ dX2_wood_213 ?_
        refine Gx_istore_n_2 dX2_wood_214 (Nat.le_of_ble_eq_true rfl) (Nat.ne_of_beq_eq_false rfl) ?_
        refine Gx_iload_n (i := 2) dX2_wood_215 rfl rfl ?_
        refine Gx_iconst ⟨by decide, by decide⟩ dX2_wood_216 ?_
        refine Gx_icmp_ge (tgt := 238) dX2_wood_217 (by decide) (fun hz => absurd hz (by decide)) (fun _ => ?_)
        refine Gx_aload_n (i := 0) dX2_wood_220 rfl rfl ?_
        refine gf_X2_59_22 dX2_wood_221 rfl rfl ?_
        refine Gx_iload_n (i := 2) dX2_wood_224 rfl rfl ?_
        refine Gx_aload_n (i := 0) dX2_wood_225 rfl rfl ?_
        refine gf_X2_41_22 dX2_wood_226 rfl rfl ?_
        refine Gx_iload_n (i := 2) dX2_wood_229 rfl rfl ?_
        refine Gx_iaload dX2_wood_230 rfl (by first | omega | (simp (disch := omega) only [w32_id]; omega)) ?_
        refine Gx_iastore dX2_wood_231 rfl (by first | omega | (simp (disch := omega) only [w32_id]; omega)) ?_
        refine Gx_iinc_2 dX2_wood_232 (Nat.le_of_ble_eq_true rfl) (Nat.ne_of_beq_eq_false rfl) ?_
        rw [show w32 (0 + 1) = (1 : Int) from by decide]
        refine Gx_goto (tgt := 215) dX2_wood_235 (by decide) ?_
        refine Gx_iload_n (i := 2) dX2_wood_215 rfl rfl ?_
        refine Gx_iconst ⟨by decide, by decide⟩ dX2_wood_216 ?_
        refine Gx_icmp_ge (tgt := 238) dX2_wood_217 (by decide) (fun hz => absurd hz (by decide)) (fun _ => ?_)
        refine Gx_aload_n (i := 0) dX2_wood_220 rfl rfl ?_
        refine gf_X2_59_22 dX2_wood_221 rfl rfl ?_
        refine Gx_iload_n (i := 2) dX2_wood_224 rfl rfl ?_
        refine Gx_aload_n (i := 0) dX2_wood_225 rfl rfl ?_
        refine gf_X2_41_22 dX2_wood_226 rfl rfl ?_
        refine Gx_iload_n (i := 2) dX2_wood_229 rfl rfl ?_
        refine Gx_iaload dX2_wood_230 rfl (by first | omega | (simp (disch := omega) only [w32_id]; omega)) ?_
        refine Gx_iastore dX2_wood_231 rfl (by first | omega | (simp (disch := omega) only [w32_id]; omega)) ?_
        refine Gx_iinc_2 dX2_wood_232 (Nat.le_of_ble_eq_true rfl) (Nat.ne_of_beq_eq_false rfl) ?_
        rw [show w32 (1 + 1) = (2 : Int) from by decide]
        refine Gx_goto (tgt := 215) dX2_wood_235 (by decide) ?_
        refine Gx_iload_n (i := 2) dX2_wood_215 rfl rfl ?_
        refine Gx_iconst ⟨by decide, by decide⟩ dX2_wood_216 ?_
        refine Gx_icmp_ge (tgt := 238) dX2_wood_217 (by decide) (fun hz => absurd hz (by decide)) (fun _ => ?_)
        refine Gx_aload_n (i := 0) dX2_wood_220 rfl rfl ?_
        refine gf_X2_59_22 dX2_wood_221 rfl rfl ?_
        refine Gx_iload_n (i := 2) dX2_wood_224 rfl rfl ?_
        refine Gx_aload_n (i := 0) dX2_wood_225 rfl rfl ?_
        refine gf_X2_41_22 dX2_wood_226 rfl rfl ?_
        refine Gx_iload_n (i := 2) dX2_wood_229 rfl rfl ?_
        refine Gx_iaload dX2_wood_230 rfl (by first | omega | (simp (disch := omega) only [w32_id]; omega)) ?_
        refine Gx_iastore dX2_wood_231 rfl (by first | omega | (simp (disch := omega) only [w32_id]; omega)) ?_
        refine Gx_iinc_2 dX2_wood_232 (Nat.le_of_ble_eq_true rfl) (Nat.ne_of_beq_eq_false rfl) ?_
        rw [show w32 (2 + 1) = (3 : Int) from by decide]
        refine Gx_goto (tgt := 215) dX2_wood_235 (by decide) ?_
        refine Gx_iload_n (i := 2) dX2_wood_215 rfl rfl ?_
        refine Gx_iconst ⟨by decide, by decide⟩ dX2_wood_216 ?_
        refine Gx_icmp_ge (tgt := 238) dX2_wood_217 (by decide) (fun _ => ?_) (fun hz => absurd hz (by decide))
        refine Gx_aload_n (i := 0) dX2_wood_238 rfl rfl ?_
        refine Gx_iconst ⟨by decide, by decide⟩ dX2_wood_239 ?_
        refine pf_X2_203_22 dX2_wood_240 rfl rfl ?_
        refine Gx_aload_n (i := 0) dX2_wood_243 rfl rfl ?_
        refine Gx_iconst ⟨by decide, by decide⟩ dX2_wood_244 ?_
        refine pf_X2_206_22 dX2_wood_245 rfl rfl ?_
        refine Gx_name (fun v4 e4 => ?_)
        have hF4 : ∀ a j, ¬ ((a = 38 ∧ (j = 31 ∨ j = 33)) ∨ a = 54 ∨ a = 55) → v4 a j = v3 a j := by
          intro a j hn
          rw [e4]
          simp (disch := omega) only [gUp_ne2, gUp_eq2]
          unfold gCopy
          rw [if_neg (by omega)]
        have h20b : v4 38 20 = s 38 12 := by
          rw [hF4 38 20 (by omega), hF3 38 20 (by omega), hF2 38 20 (by omega)]
          exact h20
        refine Gx_aload_n (i := 0) dX2_wood_248 rfl rfl ?_
        refine gf_X2_191_22 dX2_wood_249 rfl rfl ?_
        refine Gx_ireturn dX2_wood_252 trivial ?_
        rw [h20b]
        refine kW c31 s v4 hs ⟨?_, ?_, ?_, ?_, ?_, ?_, ?_, ?_, ?_, ?_, ?_, ?_⟩
        · intro a j hn
          rw [hF4 a j (by omega), hF3 a j (by omega), hF2 a j (by omega), hF1 a j (by omega), hF a j (by omega)]
        · rw [hF4 38 20 (by omega), hF3 38 20 (by omega), hF2 38 20 (by omega)]; exact h20
        · rw [hF4 38 22 (by omega), hF3 38 22 (by omega), hF2 38 22 (by omega)]; exact h22
        · rw [hF4 38 26 (by omega)]; exact h26
        · rw [hF4 38 27 (by omega)]; exact h27
        · rw [hF4 38 28 (by omega)]; exact h28
        · rw [e4]; simp (disch := omega) only [gUp_ne2, gUp_eq2]
        · rw [e4]; simp (disch := omega) only [gUp_ne2, gUp_eq2]
        · intro j j0 j1
          rw [hF4 50 j (by omega), hF3 50 j (by omega), hF2 50 j (by omega)]; exact h50 j j0 j1
        · intro l l0 l1
          have g := h56 l l0 l1
          rw [hF4 56 l (by omega), hF3 56 l (by omega), hF4 51 l (by omega), hF3 51 l (by omega), hF4 52 l (by omega), hF3 52 l (by omega), hF4 53 l (by omega), hF3 53 l (by omega)]
          rw [hF1 46 (4 * l) (by omega), hF1 46 (4 * l + 1) (by omega), hF1 46 (4 * l + 2) (by omega), hF1 46 (4 * l + 3) (by omega), r5 _ (by omega) (by omega), r5 _ (by omega) (by omega), r5 _ (by omega) (by omega), r5 _ (by omega) (by omega)] at g
          exact g
        · intro j j0 j1
          rw [e4]
          simp (disch := omega) only [gUp_ne2, gUp_eq2]
          unfold gCopy
          rw [if_pos (by omega), show j - 0 = j by omega, hF3 48 j (by omega), hF2 48 j (by omega), hF1 48 j (by omega)]
          exact r8 j j0 j1
        · intro j j0 j1
          have hc : ∀ i, gCopy v3 54 0 (s 38 17) (v3 48) 49 i = vF 49 i := by
            intro i
            unfold gCopy
            rw [if_neg (by omega), hF3 49 i (by omega), hF2 49 i (by omega), hF1 49 i (by omega)]
          rw [← r9 j j0 j1]
          rcases (by omega : j = 0 ∨ j = 1 ∨ j = 2) with rfl | rfl | rfl <;> (rw [e4]; simp (disch := omega) only [gUp_ne2, gUp_eq2, hc])
      · refine Gx_bipush dX2_wood_34 ⟨by decide, by decide⟩ ?_
        refine Gx_ireturn dX2_wood_36 trivial ?_
        exact kF (by omega) (by omega) c31 vF hF
    · refine Gx_aload_n (i := 0) dX2_wood_18 rfl rfl ?_
      refine Gx_iconst ⟨by decide, by decide⟩ dX2_wood_19 ?_
      refine cl_X2_118 dX2_wood_20 rfl rfl ⟨(Nat.le_of_ble_eq_true rfl), (Nat.le_of_ble_eq_true rfl)⟩ rfl ?_
      refine ct_X2_meets (by omega) ?_
      refine Gx_ireturn dX2_wood_23 trivial ?_
      exact kN (by omega) (by omega)
  · refine Gx_if_ne (tgt := 9) dX2_wood_4 (by decide) (fun hz => absurd hz (by decide)) (fun _ => ?_)
    refine Gx_iconst ⟨by decide, by decide⟩ dX2_wood_7 ?_
    refine Gx_ireturn dX2_wood_8 trivial ?_
    exact kB (by omega)
end
