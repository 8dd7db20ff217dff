/-! AcornYearsModel: keep, back -/
section
variable {Γ : gC} {v : gM} {K : gH} {t : Nat} {Q : gQ}
/-- what is kept of now; what was kept is now -/
def oKeep (v v1 : gM) : Prop := (∀ a k, a ≠ 64 → v1 a k = v a k) ∧ v1 64 0 = v 38 31 ∧ v1 64 1 = v 56 0 ∧ v1 64 2 = v 56 1 ∧ ∀ k, 0 ≤ k → k < v 38 33 → v1 64 (3 + 3 * k) = v 58 k ∧ v1 64 (4 + 3 * k) = v 59 k ∧ v1 64 (5 + 3 * k) = v 60 k
def oBack (v v1 : gM) : Prop := (∀ a k, ¬ ((a = 38 ∧ k = 31) ∨ (a = 56 ∧ 0 ≤ k ∧ k < 2) ∨ ((a = 58 ∨ a = 59 ∨ a = 60) ∧ 0 ≤ k ∧ k < v 38 33)) → v1 a k = v a k) ∧ v1 38 31 = v 64 0 ∧ v1 56 0 = v 64 1 ∧ v1 56 1 = v 64 2 ∧ ∀ k, 0 ≤ k → k < v 38 33 → v1 58 k = v 64 (3 + 3 * k) ∧ v1 59 k = v 64 (4 + 3 * k) ∧ v1 60 k = v 64 (5 + 3 * k)

set_option maxHeartbeats 1000000 in
theorem lp_X2_back {n : Int} {bc bs : Nat} {u : gM} (hn : u 38 33 = n) (hn24 : n ≤ 24) (cont : ∀ v1, (∀ a k, ¬ ((a = 58 ∨ a = 59 ∨ a = 60) ∧ 0 ≤ k ∧ k < n) → v1 a k = u a k) → (∀ k, 0 ≤ k → k < n → v1 58 k = u 64 (3 + 3 * k) ∧ v1 59 k = u 64 (4 + 3 * k) ∧ v1 60 k = u 64 (5 + 3 * k)) → Q (9, 0) v1 (gHd K) t) : ∀ (j : Nat) (x : Int) (v : gM), 0 ≤ x → x + j = n → (∀ a k, ¬ ((a = 58 ∨ a = 59 ∨ a = 60) ∧ 0 ≤ k ∧ k < x) → v a k = u a k) → (∀ k, 0 ≤ k → k < x → v 58 k = u 64 (3 + 3 * k) ∧ v 59 k = u 64 (4 + 3 * k) ∧ v 60 k = u 64 (5 + 3 * k)) → Gx Γ mX2_back 39 [(2, 38), (0, x)] [] v (gHd K) t bc bs Q := by
  intro j
  induction j with
  | zero =>
    intro x v h0 h1 hF hV
    have hv33 : v 38 33 = n := by rw [hF 38 33 (by omega)]; exact hn
    refine Gx_iload_n (i := 1) dX2_back_39 rfl rfl ?_
    refine Gx_aload_n (i := 0) dX2_back_40 rfl rfl ?_
    refine gf_X2_203_22 dX2_back_41 rfl rfl ?_
    refine Gx_icmp_ge (tgt := 101) dX2_back_44 (by decide) (fun c44 => ?_) (fun c44 => ?_)
    · refine Gx_return dX2_back_101 rfl ?_
      have e0 : x = n := by omega
      rw [e0] at hF hV
      exact cont v hF hV
    · exfalso
      omega
  | succ j ih =>
    intro x v h0 h1 hF hV
    have hv33 : v 38 33 = n := by rw [hF 38 33 (by omega)]; exact hn
    refine Gx_iload_n (i := 1) dX2_back_39 rfl rfl ?_
    refine Gx_aload_n (i := 0) dX2_back_40 rfl rfl ?_
    refine gf_X2_203_22 dX2_back_41 rfl rfl ?_
    refine Gx_icmp_ge (tgt := 101) dX2_back_44 (by decide) (fun c44 => ?_) (fun c44 => ?_)
    · refine Gx_return dX2_back_101 rfl ?_
      exfalso
      omega
    · refine Gx_aload_n (i := 0) dX2_back_47 rfl rfl ?_
      refine gf_X2_68_22 dX2_back_48 rfl rfl ?_
      refine Gx_iload_n (i := 1) dX2_back_51 rfl rfl ?_
      refine Gx_aload_n (i := 0) dX2_back_52 rfl rfl ?_
      refine gf_X2_87_22 dX2_back_53 rfl rfl ?_
      refine Gx_iconst ⟨by decide, by decide⟩ dX2_back_56 ?_
      refine Gx_iconst ⟨by decide, by decide⟩ dX2_back_57 ?_
      refine Gx_iload_n (i := 1) dX2_back_58 rfl rfl ?_
      refine Gx_imul dX2_back_59 ?_
      try simp (disch := omega) only [w32_id]
      refine Gx_iadd dX2_back_60 ?_
      try simp (disch := omega) only [w32_id]
      refine Gx_iaload dX2_back_61 rfl (by first | omega | (simp (disch := omega) only [w32_id]; omega)) ?_
      simp (disch := omega) only [gUp_ne2, hF]
      refine Gx_iastore dX2_back_62 rfl (by first | omega | (simp (disch := omega) only [w32_id]; omega)) ?_
      refine Gx_aload_n (i := 0) dX2_back_63 rfl rfl ?_
      refine gf_X2_71_22 dX2_back_64 rfl rfl ?_
      refine Gx_iload_n (i := 1) dX2_back_67 rfl rfl ?_
      refine Gx_aload_n (i := 0) dX2_back_68 rfl rfl ?_
      refine gf_X2_87_22 dX2_back_69 rfl rfl ?_
      refine Gx_iconst ⟨by decide, by decide⟩ dX2_back_72 ?_
      refine Gx_iconst ⟨by decide, by decide⟩ dX2_back_73 ?_
      refine Gx_iload_n (i := 1) dX2_back_74 rfl rfl ?_
      refine Gx_imul dX2_back_75 ?_
      try simp (disch := omega) only [w32_id]
      refine Gx_iadd dX2_back_76 ?_
      try simp (disch := omega) only [w32_id]
      refine Gx_iaload dX2_back_77 rfl (by first | omega | (simp (disch := omega) only [w32_id]; omega)) ?_
      simp (disch := omega) only [gUp_ne2, hF]
      refine Gx_iastore dX2_back_78 rfl (by first | omega | (simp (disch := omega) only [w32_id]; omega)) ?_
      refine Gx_aload_n (i := 0) dX2_back_79 rfl rfl ?_
      refine gf_X2_74_22 dX2_back_80 rfl rfl ?_
      refine Gx_iload_n (i := 1) dX2_back_83 rfl rfl ?_
      refine Gx_aload_n (i := 0) dX2_back_84 rfl rfl ?_
      refine gf_X2_87_22 dX2_back_85 rfl rfl ?_
      refine Gx_iconst ⟨by decide, by decide⟩ dX2_back_88 ?_
      refine Gx_iconst ⟨by decide, by decide⟩ dX2_back_89 ?_
      refine Gx_iload_n (i := 1) dX2_back_90 rfl rfl ?_
      refine Gx_imul dX2_back_91 ?_
      try simp (disch := omega) only [w32_id]
      refine Gx_iadd dX2_back_92 ?_
      try simp (disch := omega) only [w32_id]
      refine Gx_iaload dX2_back_93 rfl (by first | omega | (simp (disch := omega) only [w32_id]; omega)) ?_
      simp (disch := omega) only [gUp_ne2, hF]
      refine Gx_iastore dX2_back_94 rfl (by first | omega | (simp (disch := omega) only [w32_id]; omega)) ?_
      refine Gx_iinc_1 dX2_back_95 (Nat.le_of_ble_eq_true rfl) (Nat.ne_of_beq_eq_false rfl) ?_
      try simp (disch := omega) only [w32_id]
      refine Gx_goto (tgt := 39) dX2_back_98 (by decide) ?_
      refine Gx_name (fun vN eN => ?_)
      refine ih (x + 1) vN (by omega) (by omega) (fun a k hn9 => ?_) (fun k k0 k1 => ?_)
      · rw [eN]
        simp (disch := omega) only [gUp_ne2]
        exact hF a k (by omega)
      · by_cases hk : k = x
        · subst hk
          rw [eN]
          refine ⟨?_, ?_, ?_⟩
          · simp (disch := omega) only [gUp_ne2, gUp_eq2]
          · simp (disch := omega) only [gUp_ne2, gUp_eq2]
          · simp (disch := omega) only [gUp_ne2, gUp_eq2]
        · have hv := hV k k0 (by omega)
          rw [eN]
          simp (disch := omega) only [gUp_ne2]
          exact hv
set_option maxHeartbeats 1000000 in
theorem ct_X2_back  (h33 : 0 ≤ v 38 33 ∧ v 38 33 ≤ 24) (k1 : ∀ v1, oBack v v1 → Q (9, 0) v1 (gHd K) t) : Ctr Γ mX2_back [(2, 38)] v (gHd K) t Q := by
  refine Ctr.ofG (ls := [(2, 38), (9, 0)]) rfl rfl rfl rfl rfl ?_
  refine Gx_aload_n (i := 0) dX2_back_0 rfl rfl ?_
  refine Gx_aload_n (i := 0) dX2_back_1 rfl rfl ?_
  refine gf_X2_87_22 dX2_back_2 rfl rfl ?_
  refine Gx_iconst ⟨by decide, by decide⟩ dX2_back_5 ?_
  refine Gx_iaload dX2_back_6 rfl (by first | omega | (simp (disch := omega) only [w32_id]; omega)) ?_
  refine pf_X2_206_22 dX2_back_7 rfl rfl ?_
  refine Gx_iconst ⟨by decide, by decide⟩ dX2_back_10 ?_
  refine Gx_istore_n_1 dX2_back_11 (Nat.le_of_ble_eq_true rfl) (Nat.ne_of_beq_eq_false rfl) ?_
  refine Gx_iload_n (i := 1) dX2_back_12 rfl rfl ?_
  refine Gx_iconst ⟨by decide, by decide⟩ dX2_back_13 ?_
  refine Gx_icmp_ge (tgt := 37) dX2_back_14 (by decide) (fun hz => absurd hz (by decide)) (fun _ => ?_)
  refine Gx_aload_n (i := 0) dX2_back_17 rfl rfl ?_
  refine gf_X2_62_22 dX2_back_18 rfl rfl ?_
  refine Gx_iload_n (i := 1) dX2_back_21 rfl rfl ?_
  refine Gx_aload_n (i := 0) dX2_back_22 rfl rfl ?_
  refine gf_X2_87_22 dX2_back_23 rfl rfl ?_
  refine Gx_iconst ⟨by decide, by decide⟩ dX2_back_26 ?_
  refine Gx_iload_n (i := 1) dX2_back_27 rfl rfl ?_
  refine Gx_iadd dX2_back_28 ?_
  try simp (disch := omega) only [w32_id]
  refine Gx_iaload dX2_back_29 rfl (by first | omega | (simp (disch := omega) only [w32_id]; omega)) ?_
  refine Gx_iastore dX2_back_30 rfl (by first | omega | (simp (disch := omega) only [w32_id]; omega)) ?_
  refine Gx_iinc_1 dX2_back_31 (Nat.le_of_ble_eq_true rfl) (Nat.ne_of_beq_eq_false rfl) ?_
  rw [show w32 (0 + 1) = (1 : Int) from by decide]
  refine Gx_goto (tgt := 12) dX2_back_34 (by decide) ?_
  refine Gx_iload_n (i := 1) dX2_back_12 rfl rfl ?_
  refine Gx_iconst ⟨by decide, by decide⟩ dX2_back_13 ?_
  refine Gx_icmp_ge (tgt := 37) dX2_back_14 (by decide) (fun hz => absurd hz (by decide)) (fun _ => ?_)
  refine Gx_aload_n (i := 0) dX2_back_17 rfl rfl ?_
  refine gf_X2_62_22 dX2_back_18 rfl rfl ?_
  refine Gx_iload_n (i := 1) dX2_back_21 rfl rfl ?_
  refine Gx_aload_n (i := 0) dX2_back_22 rfl rfl ?_
  refine gf_X2_87_22 dX2_back_23 rfl rfl ?_
  refine Gx_iconst ⟨by decide, by decide⟩ dX2_back_26 ?_
  refine Gx_iload_n (i := 1) dX2_back_27 rfl rfl ?_
  refine Gx_iadd dX2_back_28 ?_
  try simp (disch := omega) only [w32_id]
  refine Gx_iaload dX2_back_29 rfl (by first | omega | (simp (disch := omega) only [w32_id]; omega)) ?_
  refine Gx_iastore dX2_back_30 rfl (by first | omega | (simp (disch := omega) only [w32_id]; omega)) ?_
  refine Gx_iinc_1 dX2_back_31 (Nat.le_of_ble_eq_true rfl) (Nat.ne_of_beq_eq_false rfl) ?_
  rw [show w32 (1 + 1) = (2 : Int) from by decide]
  refine Gx_goto (tgt := 12) dX2_back_34 (by decide) ?_
  refine Gx_iload_n (i := 1) dX2_back_12 rfl rfl ?_
  refine Gx_iconst ⟨by decide, by decide⟩ dX2_back_13 ?_
  refine Gx_icmp_ge (tgt := 37) dX2_back_14 (by decide) (fun _ => ?_) (fun hz => absurd hz (by decide))
  refine Gx_iconst ⟨by decide, by decide⟩ dX2_back_37 ?_
  refine Gx_istore_n_1 dX2_back_38 (Nat.le_of_ble_eq_true rfl) (Nat.ne_of_beq_eq_false rfl) ?_
  refine Gx_name (fun vN eN => ?_)
  have hFN : ∀ a k, ¬ ((a = 38 ∧ k = 31) ∨ (a = 56 ∧ 0 ≤ k ∧ k < 2)) → vN a k = v a k := by
    intro a k hk
    rw [eN]
    simp (disch := omega) only [gUp_ne2]
  refine lp_X2_back (u := vN) (n := v 38 33) (hFN 38 33 (by omega)) h33.2 (fun v1 hF1 hV1 => ?_) (v 38 33).toNat 0 vN (by omega) (by omega) (fun a k _ => rfl) (fun k k0 k1 => by omega)
  refine k1 v1 ⟨fun a k hk => ?_, ?_, ?_, ?_, fun k k0 k1 => ?_⟩
  · rw [hF1 a k (by omega), hFN a k (by omega)]
  · rw [hF1 38 31 (by omega), eN]
    simp (disch := omega) only [gUp_ne2, gUp_eq2]
  · rw [hF1 56 0 (by omega), eN]
    simp (disch := omega) only [gUp_ne2, gUp_eq2]
    try rfl
  · rw [hF1 56 1 (by omega), eN]
    simp (disch := omega) only [gUp_ne2, gUp_eq2]
    try rfl
  · have hv := hV1 k k0 k1
    rw [hFN _ _ (by omega), hFN _ _ (by omega), hFN _ _ (by omega)] at hv
    exact hv
end
