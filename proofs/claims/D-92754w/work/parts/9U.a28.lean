/-! AcornYears: rings: states, the board -/
section
variable {Γ : gC} {v : gM} {K : gH} {t : Nat} {Q : gQ}
theorem w16_id {x : Int} (h1 : -32768 ≤ x) (h2 : x < 32768) : w16 x = x := by unfold w16; omega
/-- a state as it is noted -/
def aSt (u : gM) (N i : Int) : Int := if i < 24 then u 58 i else if i < 26 then u 56 (i - 24) else u 38 31 % N
def oNt2 (v0 v : gM) (c : Int) (f : Int → Int) (i : Int) : Prop := (∀ a j, ¬ (a = 31 ∧ c ≤ j ∧ j < c + i) → v a j = v0 a j) ∧ ∀ z, 0 ≤ z → z < i → v 31 (c + z) = f z
theorem oNt2_0 (v : gM) (c : Int) (f : Int → Int) : oNt2 v v c f 0 := ⟨fun _ _ _ => rfl, fun z z0 z1 => absurd z1 (by omega)⟩
theorem oNt2_s {v0 v : gM} {c i x : Int} {f : Int → Int} (hi : 0 ≤ i) (h : oNt2 v0 v c f i) (hx : x = f i) : oNt2 v0 (gUp v 31 (c + i) x) c f (i + 1) := by
  refine ⟨fun a j hn => ?_, fun z z0 z1 => ?_⟩
  · rw [gUp_ne2 (by omega)]
    exact h.1 a j (by omega)
  · by_cases g : z = i
    · rw [g, gUp_eq2 rfl rfl]
      exact hx
    · rw [gUp_ne2 (by omega)]
      exact h.2 z z0 (by omega)

set_option maxHeartbeats 1000000 in
theorem lp_X0_note1 {k N : Int} {bc bs : Nat} {v0 : gM} (hk : 0 ≤ k ∧ k ≤ 2000) (hu : yOK (aN v0 (gHd K) 23)) (cont : ∀ v1, oNt2 v0 v1 (27 * k) (aSt (aN v0 (gHd K) 23) N) 24 → Gx Γ mX0_note 54 [(2, 0), (0, k), (0, N), (0, 27 * k), (0, 24)] [] v1 (gHd K) t bc bs Q) : ∀ (j : Nat) (i : Int) (v : gM), 0 ≤ i → i + j = 24 → oNt2 v0 v (27 * k) (aSt (aN v0 (gHd K) 23) N) i → Gx Γ mX0_note 8 [(2, 0), (0, k), (0, N), (0, 27 * k), (0, i)] [] v (gHd K) t bc bs Q := by
  intro j
  induction j with
  | zero =>
    intro i v h0 h1 hO
    refine Gx_iload dX0_note_8 rfl ?_
    refine Gx_bipush dX0_note_10 ⟨by decide, by decide⟩ ?_
    refine Gx_icmp_ge (tgt := 54) dX0_note_12 (by decide) (fun c12 => ?_) (fun c12 => ?_)
    · have e0 : i = 24 := by omega
      subst e0
      exact cont v hO
    · exfalso
      omega
  | succ j ih =>
    intro i v h0 h1 hO
    have e32 : v 0 32 = v0 0 32 := hO.1 0 32 (by omega)
    have e24 : v 24 i = v0 24 i := hO.1 24 i (by omega)
    have ef : aSt (aN v0 (gHd K) 23) N i = if i < v0 0 32 then v0 24 i else 0 := by
      unfold aSt
      rw [if_pos (by omega)]
      show (if 0 ≤ i ∧ i < v0 0 32 then v0 24 i else 0) = _
      by_cases g : i < v0 0 32
      · rw [if_pos g, if_pos ⟨h0, g⟩]
      · rw [if_neg g, if_neg (by omega)]
    have hr : i < v0 0 32 → 0 ≤ v0 24 i ∧ v0 24 i ≤ 60 := fun g => by
      have := (hu.2.2.2.1 i h0 g).2
      rw [aN_58 h0 g] at this
      exact this
    refine Gx_iload dX0_note_8 rfl ?_
    refine Gx_bipush dX0_note_10 ⟨by decide, by decide⟩ ?_
    refine Gx_icmp_ge (tgt := 54) dX0_note_12 (by decide) (fun c12 => ?_) (fun c12 => ?_)
    · exfalso
      omega
    · refine Gx_aload_n (i := 0) dX0_note_15 rfl rfl ?_
      refine gf_X0_106_20 dX0_note_16 rfl rfl ?_
      refine Gx_iload_n (i := 3) dX0_note_19 rfl rfl ?_
      refine Gx_iload dX0_note_20 rfl ?_
      refine Gx_iadd dX0_note_22 ?_
      try simp (disch := omega) only [w32_id]
      refine Gx_iload dX0_note_23 rfl ?_
      refine Gx_aload_n (i := 0) dX0_note_25 rfl rfl ?_
      refine gf_X0_276_20 dX0_note_26 rfl rfl ?_
      refine Gx_icmp_ge (tgt := 45) dX0_note_29 (by decide) (fun c29 => ?_) (fun c29 => ?_)
      · refine Gx_iconst ⟨by decide, by decide⟩ dX0_note_45 ?_
        refine Gx_i2s dX0_note_46 ?_
        refine Gx_sastore dX0_note_47 rfl (by first | omega | (simp (disch := omega) only [w32_id]; omega)) (by unfold w16; omega) ?_
        refine Gx_iinc_4 dX0_note_48 (Nat.le_of_ble_eq_true rfl) (Nat.ne_of_beq_eq_false rfl) ?_
        try simp (disch := omega) only [w32_id]
        refine Gx_goto (tgt := 8) dX0_note_51 (by decide) ?_
        refine ih (i + 1) _ (by omega) (by omega) (oNt2_s h0 hO ?_)
        rw [ef]
        first
        | (rw [if_pos (by omega), w16_id (by omega) (by omega)])
        | (rw [if_neg (by omega), w16_id (by omega) (by omega)])
      · refine Gx_aload_n (i := 0) dX0_note_32 rfl rfl ?_
        refine gf_X0_90_20 dX0_note_33 rfl rfl ?_
        refine gf_X0_288_21 dX0_note_36 rfl rfl ?_
        refine Gx_iload dX0_note_39 rfl ?_
        rw [show (23 : Int) + 1 = 24 from rfl]
        refine Gx_iaload dX0_note_41 rfl (by first | omega | (simp (disch := omega) only [w32_id]; omega)) ?_
        rw [e24]
        have hri := hr (by omega)
        refine Gx_goto (tgt := 46) dX0_note_42 (by decide) ?_
        refine Gx_i2s dX0_note_46 ?_
        refine Gx_sastore dX0_note_47 rfl (by first | omega | (simp (disch := omega) only [w32_id]; omega)) (by unfold w16; omega) ?_
        refine Gx_iinc_4 dX0_note_48 (Nat.le_of_ble_eq_true rfl) (Nat.ne_of_beq_eq_false rfl) ?_
        try simp (disch := omega) only [w32_id]
        refine Gx_goto (tgt := 8) dX0_note_51 (by decide) ?_
        refine ih (i + 1) _ (by omega) (by omega) (oNt2_s h0 hO ?_)
        rw [ef]
        first
        | (rw [if_pos (by omega), w16_id (by omega) (by omega)])
        | (rw [if_neg (by omega), w16_id (by omega) (by omega)])
set_option maxHeartbeats 1000000 in
theorem lp_X0_note2 {k N : Int} {bc bs : Nat} {v0 : gM} (hk : 0 ≤ k ∧ k ≤ 2000) (hu : yOK (aN v0 (gHd K) 23)) (cont : ∀ v1, oNt2 v0 v1 (27 * k) (aSt (aN v0 (gHd K) 23) N) 26 → Gx Γ mX0_note 105 [(2, 0), (0, k), (0, N), (0, 27 * k), (0, 2)] [] v1 (gHd K) t bc bs Q) : ∀ (j : Nat) (i : Int) (v : gM), 0 ≤ i → i + j = 2 → oNt2 v0 v (27 * k) (aSt (aN v0 (gHd K) 23) N) (24 + i) → Gx Γ mX0_note 57 [(2, 0), (0, k), (0, N), (0, 27 * k), (0, i)] [] v (gHd K) t bc bs Q := by
  intro j
  induction j with
  | zero =>
    intro i v h0 h1 hO
    refine Gx_iload dX0_note_57 rfl ?_
    refine Gx_iconst ⟨by decide, by decide⟩ dX0_note_59 ?_
    refine Gx_icmp_ge (tgt := 105) dX0_note_60 (by decide) (fun c60 => ?_) (fun c60 => ?_)
    · have e0 : i = 2 := by omega
      subst e0
      exact cont v hO
    · exfalso
      omega
  | succ j ih =>
    intro i v h0 h1 hO
    have e12 : v 0 12 = v0 0 12 := hO.1 0 12 (by omega)
    have e25 : v 25 i = v0 25 i := hO.1 25 i (by omega)
    have ef : aSt (aN v0 (gHd K) 23) N (24 + i) = if i < v0 0 12 then v0 25 i else 0 := by
      unfold aSt
      rw [if_neg (by omega), if_pos (by omega), show 24 + i - 24 = i by omega]
      show (if 0 ≤ i ∧ i < v0 0 12 then v0 25 i else 0) = _
      by_cases g : i < v0 0 12
      · rw [if_pos g, if_pos ⟨h0, g⟩]
      · rw [if_neg g, if_neg (by omega)]
    have hr : i < v0 0 12 → 0 ≤ v0 25 i ∧ v0 25 i ≤ 200 := fun g => by
      have := (hu.2.2.2.2.1.2 i h0 g).2.1
      rw [aN_56 h0 g] at this
      exact this
    refine Gx_iload dX0_note_57 rfl ?_
    refine Gx_iconst ⟨by decide, by decide⟩ dX0_note_59 ?_
    refine Gx_icmp_ge (tgt := 105) dX0_note_60 (by decide) (fun c60 => ?_) (fun c60 => ?_)
    · exfalso
      omega
    · refine Gx_aload_n (i := 0) dX0_note_63 rfl rfl ?_
      refine gf_X0_106_20 dX0_note_64 rfl rfl ?_
      refine Gx_iload_n (i := 3) dX0_note_67 rfl rfl ?_
      refine Gx_bipush dX0_note_68 ⟨by decide, by decide⟩ ?_
      refine Gx_iadd dX0_note_70 ?_
      try simp (disch := omega) only [w32_id]
      refine Gx_iload dX0_note_71 rfl ?_
      refine Gx_iadd dX0_note_73 ?_
      try simp (disch := omega) only [w32_id]
      refine Gx_iload dX0_note_74 rfl ?_
      refine Gx_aload_n (i := 0) dX0_note_76 rfl rfl ?_
      refine gf_X0_273_20 dX0_note_77 rfl rfl ?_
      refine Gx_icmp_ge (tgt := 96) dX0_note_80 (by decide) (fun c80 => ?_) (fun c80 => ?_)
      · refine Gx_iconst ⟨by decide, by decide⟩ dX0_note_96 ?_
        refine Gx_i2s dX0_note_97 ?_
        refine Gx_sastore dX0_note_98 rfl (by first | omega | (simp (disch := omega) only [w32_id]; omega)) (by unfold w16; omega) ?_
        refine Gx_iinc_4 dX0_note_99 (Nat.le_of_ble_eq_true rfl) (Nat.ne_of_beq_eq_false rfl) ?_
        try simp (disch := omega) only [w32_id]
        refine Gx_goto (tgt := 57) dX0_note_102 (by decide) ?_
        refine ih (i + 1) _ (by omega) (by omega) ?_
        rw [show 27 * k + 24 + i = 27 * k + (24 + i) by omega, show 24 + (i + 1) = 24 + i + 1 by omega]
        refine oNt2_s (by omega) hO ?_
        rw [ef]
        first
        | (rw [if_pos (by omega), w16_id (by omega) (by omega)])
        | (rw [if_neg (by omega), w16_id (by omega) (by omega)])
      · refine Gx_aload_n (i := 0) dX0_note_83 rfl rfl ?_
        refine gf_X0_90_20 dX0_note_84 rfl rfl ?_
        refine gf_X0_282_21 dX0_note_87 rfl rfl ?_
        refine Gx_iload dX0_note_90 rfl ?_
        rw [show (23 : Int) + 2 = 25 from rfl]
        refine Gx_iaload dX0_note_92 rfl (by first | omega | (simp (disch := omega) only [w32_id]; omega)) ?_
        rw [e25]
        have hri := hr (by omega)
        refine Gx_goto (tgt := 97) dX0_note_93 (by decide) ?_
        refine Gx_i2s dX0_note_97 ?_
        refine Gx_sastore dX0_note_98 rfl (by first | omega | (simp (disch := omega) only [w32_id]; omega)) (by unfold w16; omega) ?_
        refine Gx_iinc_4 dX0_note_99 (Nat.le_of_ble_eq_true rfl) (Nat.ne_of_beq_eq_false rfl) ?_
        try simp (disch := omega) only [w32_id]
        refine Gx_goto (tgt := 57) dX0_note_102 (by decide) ?_
        refine ih (i + 1) _ (by omega) (by omega) ?_
        rw [show 27 * k + 24 + i = 27 * k + (24 + i) by omega, show 24 + (i + 1) = 24 + i + 1 by omega]
        refine oNt2_s (by omega) hO ?_
        rw [ef]
        first
        | (rw [if_pos (by omega), w16_id (by omega) (by omega)])
        | (rw [if_neg (by omega), w16_id (by omega) (by omega)])
set_option maxHeartbeats 1000000 in
theorem ct_X0_note {k N : Int} (hk : 0 ≤ k ∧ k ≤ 2000) (hN : 1 ≤ N ∧ N ≤ 2520) (hu : yOK (aN v (gHd K) 23)) (hy : 0 ≤ v 23 2 ∧ v 23 2 ≤ 900000) (kk : ∀ v1, (∀ a j, ¬ (a = 31 ∧ 27 * k ≤ j ∧ j < 27 * k + 27) → v1 a j = v a j) → (∀ i, 0 ≤ i → i < 27 → v1 31 (27 * k + i) = aSt (aN v (gHd K) 23) N i) → Q (9, 0) v1 (gHd K) t) : Ctr Γ mX0_note [(2, 0), (0, k), (0, N)] v (gHd K) t Q := by
  refine Ctr.ofG (ls := [(2, 0), (0, k), (0, N), (9, 0), (9, 0)]) rfl rfl rfl rfl rfl ?_
  refine Gx_iload_n (i := 1) dX0_note_0 rfl rfl ?_
  refine Gx_bipush dX0_note_1 ⟨by decide, by decide⟩ ?_
  refine Gx_imul dX0_note_3 ?_
  try simp (disch := omega) only [w32_id]
  rw [show k * 27 = 27 * k by omega]
  refine Gx_istore_n_3 dX0_note_4 (Nat.le_of_ble_eq_true rfl) (Nat.ne_of_beq_eq_false rfl) ?_
  refine Gx_iconst ⟨by decide, by decide⟩ dX0_note_5 ?_
  refine Gx_istore_4 dX0_note_6 (Nat.le_of_ble_eq_true rfl) (Nat.ne_of_beq_eq_false rfl) ?_
  refine lp_X0_note1 (v0 := v) hk hu (fun v1 h1 => ?_) 24 0 v (by omega) (by omega) (oNt2_0 _ _ _)
  refine Gx_iconst ⟨by decide, by decide⟩ dX0_note_54 ?_
  refine Gx_istore_4 dX0_note_55 (Nat.le_of_ble_eq_true rfl) (Nat.ne_of_beq_eq_false rfl) ?_
  refine lp_X0_note2 (v0 := v) hk hu (fun v2 h2 => ?_) 2 0 v1 (by omega) (by omega) h1
  have e23 : v2 23 2 = v 23 2 := h2.1 23 2 (by omega)
  refine Gx_aload_n (i := 0) dX0_note_105 rfl rfl ?_
  refine gf_X0_106_20 dX0_note_106 rfl rfl ?_
  refine Gx_iload_n (i := 3) dX0_note_109 rfl rfl ?_
  refine Gx_bipush dX0_note_110 ⟨by decide, by decide⟩ ?_
  refine Gx_iadd dX0_note_112 ?_
  try simp (disch := omega) only [w32_id]
  refine Gx_iconst ⟨by decide, by decide⟩ dX0_note_113 ?_
  refine Gx_isub dX0_note_114 ?_
  try simp (disch := omega) only [w32_id]
  refine Gx_aload_n (i := 0) dX0_note_115 rfl rfl ?_
  refine gf_X0_90_20 dX0_note_116 rfl rfl ?_
  refine gf_X0_279_21 dX0_note_119 rfl rfl ?_
  rw [e23]
  refine Gx_iload_n (i := 2) dX0_note_122 rfl rfl ?_
  refine Gx_irem dX0_note_123 (by first | omega | (simp (disch := omega) only [w32_id]; omega)) ?_
  rw [Int.tmod_eq_emod_of_nonneg (by omega)]
  have m0 := Int.emod_nonneg (v 23 2) (show N ≠ 0 by omega)
  have m1 := Int.emod_lt_of_pos (v 23 2) (show 0 < N by omega)
  refine Gx_i2s dX0_note_124 ?_
  rw [w16_id (by omega) (by omega), show 27 * k + 27 - 1 = 27 * k + 26 by omega]
  refine Gx_sastore dX0_note_125 rfl (by first | omega | (simp (disch := omega) only [w32_id]; omega)) (by first | omega | (simp (disch := omega) only [w32_id]; omega)) ?_
  refine Gx_return dX0_note_126 rfl ?_
  have h3 := oNt2_s (x := v 23 2 % N) (by omega) h2 (by
    unfold aSt
    rw [if_neg (by omega), if_neg (by omega)]
    rfl)
  exact kk _ h3.1 h3.2
abbrev aEq (v : gM) (k l : Int) : Prop := ∀ i, 0 ≤ i → i < 27 → v 31 (27 * k + i) = v 31 (27 * l + i)

set_option maxHeartbeats 1000000 in
theorem lp_X0_areAlike {k l : Int} {bc bs : Nat} (hk : 0 ≤ k ∧ k ≤ 2000) (hl : 0 ≤ l ∧ l ≤ 2000) (k1 : aEq v k l → Q (0, 1) v (gHd K) t) (k0 : ¬ aEq v k l → Q (0, 0) v (gHd K) t) : ∀ (j : Nat) (i : Int), 0 ≤ i → i + j = 27 → (∀ z, 0 ≤ z → z < i → v 31 (27 * k + z) = v 31 (27 * l + z)) → Gx Γ mX0_areAlike 2 [(2, 0), (0, k), (0, l), (0, i)] [] v (gHd K) t bc bs Q := by
  intro j
  induction j with
  | zero =>
    intro i h0 h1 hA
    refine Gx_iload_n (i := 3) dX0_areAlike_2 rfl rfl ?_
    refine Gx_bipush dX0_areAlike_3 ⟨by decide, by decide⟩ ?_
    refine Gx_icmp_ge (tgt := 41) dX0_areAlike_5 (by decide) (fun c5 => ?_) (fun c5 => ?_)
    · refine Gx_iconst ⟨by decide, by decide⟩ dX0_areAlike_41 ?_
      refine Gx_ireturn dX0_areAlike_42 (Or.inr rfl) ?_
      exact k1 (fun z z0 z1 => hA z z0 (by omega))
    · exfalso
      omega
  | succ j ih =>
    intro i h0 h1 hA
    refine Gx_iload_n (i := 3) dX0_areAlike_2 rfl rfl ?_
    refine Gx_bipush dX0_areAlike_3 ⟨by decide, by decide⟩ ?_
    refine Gx_icmp_ge (tgt := 41) dX0_areAlike_5 (by decide) (fun c5 => ?_) (fun c5 => ?_)
    · refine Gx_iconst ⟨by decide, by decide⟩ dX0_areAlike_41 ?_
      refine Gx_ireturn dX0_areAlike_42 (Or.inr rfl) ?_
      exfalso
      omega
    · refine Gx_aload_n (i := 0) dX0_areAlike_8 rfl rfl ?_
      refine gf_X0_106_20 dX0_areAlike_9 rfl rfl ?_
      refine Gx_iload_n (i := 1) dX0_areAlike_12 rfl rfl ?_
      refine Gx_bipush dX0_areAlike_13 ⟨by decide, by decide⟩ ?_
      refine Gx_imul dX0_areAlike_15 ?_
      try simp (disch := omega) only [w32_id]
      rw [show k * 27 = 27 * k by omega]
      refine Gx_iload_n (i := 3) dX0_areAlike_16 rfl rfl ?_
      refine Gx_iadd dX0_areAlike_17 ?_
      try simp (disch := omega) only [w32_id]
      refine Gx_saload dX0_areAlike_18 rfl (by first | omega | (simp (disch := omega) only [w32_id]; omega)) ?_
      refine Gx_aload_n (i := 0) dX0_areAlike_19 rfl rfl ?_
      refine gf_X0_106_20 dX0_areAlike_20 rfl rfl ?_
      refine Gx_iload_n (i := 2) dX0_areAlike_23 rfl rfl ?_
      refine Gx_bipush dX0_areAlike_24 ⟨by decide, by decide⟩ ?_
      refine Gx_imul dX0_areAlike_26 ?_
      try simp (disch := omega) only [w32_id]
      rw [show l * 27 = 27 * l by omega]
      refine Gx_iload_n (i := 3) dX0_areAlike_27 rfl rfl ?_
      refine Gx_iadd dX0_areAlike_28 ?_
      try simp (disch := omega) only [w32_id]
      refine Gx_saload dX0_areAlike_29 rfl (by first | omega | (simp (disch := omega) only [w32_id]; omega)) ?_
      refine Gx_icmp_eq (tgt := 35) dX0_areAlike_30 (by decide) (fun c30 => ?_) (fun c30 => ?_)
      · refine Gx_iinc_3 dX0_areAlike_35 (Nat.le_of_ble_eq_true rfl) (Nat.ne_of_beq_eq_false rfl) ?_
        try simp (disch := omega) only [w32_id]
        refine Gx_goto (tgt := 2) dX0_areAlike_38 (by decide) ?_
        refine ih (i + 1) (by omega) (by omega) (fun z z0 z1 => ?_)
        by_cases g : z = i
        · rw [g]; exact c30
        · exact hA z z0 (by omega)
      · refine Gx_iconst ⟨by decide, by decide⟩ dX0_areAlike_33 ?_
        refine Gx_ireturn dX0_areAlike_34 (Or.inl rfl) ?_
        exact k0 (fun z => c30 (z i h0 (by omega)))
theorem ct_X0_areAlike {k l : Int} (hk : 0 ≤ k ∧ k ≤ 2000) (hl : 0 ≤ l ∧ l ≤ 2000) (k1 : aEq v k l → Q (0, 1) v (gHd K) t) (k0 : ¬ aEq v k l → Q (0, 0) v (gHd K) t) : Ctr Γ mX0_areAlike [(2, 0), (0, k), (0, l)] v (gHd K) t Q := by
  refine Ctr.ofG (ls := [(2, 0), (0, k), (0, l), (9, 0)]) rfl rfl rfl rfl rfl ?_
  refine Gx_iconst ⟨by decide, by decide⟩ dX0_areAlike_0 ?_
  refine Gx_istore_n_3 dX0_areAlike_1 (Nat.le_of_ble_eq_true rfl) (Nat.ne_of_beq_eq_false rfl) ?_
  exact lp_X0_areAlike hk hl k1 k0 27 0 (by omega) (by omega) (fun z z0 z1 => absurd z1 (by omega))
def aSm (f : Int → Int) : Nat → Int
  | 0 => 7
  | n + 1 => w32 (w32 (31 * aSm f n) + f (n : Int))
theorem aSm_s {f : Int → Int} {i : Int} (h : 0 ≤ i) : aSm f (i + 1).toNat = w32 (w32 (31 * aSm f i.toNat) + f i) := by
  rw [show (i + 1).toNat = i.toNat + 1 by omega]
  show w32 (w32 (31 * aSm f i.toNat) + f (i.toNat : Int)) = _
  rw [show (i.toNat : Int) = i by omega]
theorem aSm_congr {f g : Int → Int} : ∀ n : Nat, (∀ i, 0 ≤ i → i < (n : Int) → f i = g i) → aSm f n = aSm g n
  | 0, _ => rfl
  | n + 1, h => by
    unfold aSm
    rw [aSm_congr n (fun i i0 i1 => h i i0 (by omega)), h n (by omega) (by omega)]
/-- where a state is looked for first -/
def aPl (f : Int → Int) : Int := wAnd (wXor (aSm f 27) (wUshr (aSm f 27) 13)) 8191
theorem wAnd_m (x : Int) : wAnd x 8191 = (((Int32.ofInt x).toBitVec.toNat % 8192 : Nat) : Int) := by
  unfold wAnd
  have h1 : (Int32.ofInt x &&& Int32.ofInt 8191).toBitVec.toNat = (Int32.ofInt x).toBitVec.toNat % 8192 := by
    rw [Int32.toBitVec_and, BitVec.toNat_and]
    show (Int32.ofInt x).toBitVec.toNat &&& (2 ^ 13 - 1) = _
    rw [Nat.and_two_pow_sub_one_eq_mod]
  have h2 : (Int32.ofInt x &&& Int32.ofInt 8191).toInt = (Int32.ofInt x &&& Int32.ofInt 8191).toBitVec.toInt := rfl
  rw [h2, BitVec.toInt_eq_toNat_of_lt (by rw [h1]; omega), h1]
theorem wAnd_8 (x : Int) : 0 ≤ wAnd x 8191 ∧ wAnd x 8191 < 8192 := by
  rw [wAnd_m]
  omega
theorem wAnd_p {x : Int} (h0 : 0 ≤ x) (h1 : x < 2147483648) : wAnd x 8191 = x % 8192 := by
  rw [wAnd_m]
  have : (Int32.ofInt x).toBitVec.toNat = x.toNat := by
    show (BitVec.ofInt 32 x).toNat = x.toNat
    rw [BitVec.toNat_ofInt]
    omega
  rw [this]
  omega
theorem aPl_8 (f : Int → Int) : 0 ≤ aPl f ∧ aPl f < 8192 := wAnd_8 _

set_option maxHeartbeats 1000000 in
theorem lp_X0_placeOf {k : Int} {bc bs : Nat} (hk : 0 ≤ k ∧ k ≤ 2000) (cont : Gx Γ mX0_placeOf 34 [(2, 0), (0, k), (0, aSm (fun i => v 31 (27 * k + i)) 27), (0, 27)] [] v (gHd K) t bc bs Q) : ∀ (j : Nat) (i : Int), 0 ≤ i → i + j = 27 → Gx Γ mX0_placeOf 5 [(2, 0), (0, k), (0, aSm (fun i => v 31 (27 * k + i)) i.toNat), (0, i)] [] v (gHd K) t bc bs Q := by
  intro j
  induction j with
  | zero =>
    intro i h0 h1
    refine Gx_iload_n (i := 3) dX0_placeOf_5 rfl rfl ?_
    refine Gx_bipush dX0_placeOf_6 ⟨by decide, by decide⟩ ?_
    refine Gx_icmp_ge (tgt := 34) dX0_placeOf_8 (by decide) (fun c8 => ?_) (fun c8 => ?_)
    · have e0 : i = 27 := by omega
      subst e0
      exact cont
    · exfalso
      omega
  | succ j ih =>
    intro i h0 h1
    refine Gx_iload_n (i := 3) dX0_placeOf_5 rfl rfl ?_
    refine Gx_bipush dX0_placeOf_6 ⟨by decide, by decide⟩ ?_
    refine Gx_icmp_ge (tgt := 34) dX0_placeOf_8 (by decide) (fun c8 => ?_) (fun c8 => ?_)
    · exfalso
      omega
    · refine Gx_bipush dX0_placeOf_11 ⟨by decide, by decide⟩ ?_
      refine Gx_iload_n (i := 2) dX0_placeOf_13 rfl rfl ?_
      refine Gx_imul dX0_placeOf_14 ?_
      refine Gx_aload_n (i := 0) dX0_placeOf_15 rfl rfl ?_
      refine gf_X0_106_20 dX0_placeOf_16 rfl rfl ?_
      refine Gx_iload_n (i := 1) dX0_placeOf_19 rfl rfl ?_
      refine Gx_bipush dX0_placeOf_20 ⟨by decide, by decide⟩ ?_
      refine Gx_imul dX0_placeOf_22 ?_
      refine Gx_iload_n (i := 3) dX0_placeOf_23 rfl rfl ?_
      rw [w32_id (x := k * 27) (by omega) (by omega), show k * 27 = 27 * k by omega]
      refine Gx_iadd dX0_placeOf_24 ?_
      rw [w32_id (x := 27 * k + i) (by omega) (by omega)]
      refine Gx_saload dX0_placeOf_25 rfl (by first | omega | (simp (disch := omega) only [w32_id]; omega)) ?_
      refine Gx_iadd dX0_placeOf_26 ?_
      refine Gx_istore_n_2 dX0_placeOf_27 (Nat.le_of_ble_eq_true rfl) (Nat.ne_of_beq_eq_false rfl) ?_
      refine Gx_iinc_3 dX0_placeOf_28 (Nat.le_of_ble_eq_true rfl) (Nat.ne_of_beq_eq_false rfl) ?_
      refine Gx_goto (tgt := 5) dX0_placeOf_31 (by decide) ?_
      have hi := ih (i + 1) (by omega) (by omega)
      rw [aSm_s h0] at hi
      rw [w32_id (x := i + 1) (by omega) (by omega)]
      exact hi
theorem ct_X0_placeOf {k : Int} (hk : 0 ≤ k ∧ k ≤ 2000) (kk : Q (0, aPl (fun i => v 31 (27 * k + i))) v (gHd K) t) : Ctr Γ mX0_placeOf [(2, 0), (0, k)] v (gHd K) t Q := by
  refine Ctr.ofG (ls := [(2, 0), (0, k), (9, 0), (9, 0)]) rfl rfl rfl rfl rfl ?_
  refine Gx_bipush dX0_placeOf_0 ⟨by decide, by decide⟩ ?_
  refine Gx_istore_n_2 dX0_placeOf_2 (Nat.le_of_ble_eq_true rfl) (Nat.ne_of_beq_eq_false rfl) ?_
  refine Gx_iconst ⟨by decide, by decide⟩ dX0_placeOf_3 ?_
  refine Gx_istore_n_3 dX0_placeOf_4 (Nat.le_of_ble_eq_true rfl) (Nat.ne_of_beq_eq_false rfl) ?_
  refine lp_X0_placeOf hk ?_ 27 0 (by omega) (by omega)
  refine Gx_iload_n (i := 2) dX0_placeOf_34 rfl rfl ?_
  refine Gx_iload_n (i := 2) dX0_placeOf_35 rfl rfl ?_
  refine Gx_bipush dX0_placeOf_36 ⟨by decide, by decide⟩ ?_
  refine Gx_iushr dX0_placeOf_38 ?_
  refine Gx_ixor dX0_placeOf_39 ?_
  refine Gx_sipush dX0_placeOf_40 ⟨by decide, by decide⟩ ?_
  refine Gx_iand dX0_placeOf_43 ?_
  refine Gx_ireturn dX0_placeOf_44 trivial ?_
  exact kk
end
