/-! AcornYearsModel: keep -/
section
variable {Γ : gC} {v : gM} {K : gH} {t : Nat} {Q : gQ}
theorem sTree1 {v : gM} {i : Int} : sTree v i 1 = v 58 i := rfl
theorem sTree2 {v : gM} {i : Int} : sTree v i 2 = v 59 i := rfl
theorem sTree3 {v : gM} {i : Int} : sTree v i 3 = v 60 i := rfl

set_option maxHeartbeats 1000000 in
theorem lp_X2_keep {n : Int} {bc bs : Nat} {u : gM} (hn : u 38 33 = n) (hn24 : n ≤ 24) (cont : ∀ v1, (∀ a k, ¬ (a = 64 ∧ 3 ≤ k) → v1 a k = u a k) → (∀ k, 0 ≤ k → k < n → v1 64 (3 + 3 * k) = u 58 k ∧ v1 64 (4 + 3 * k) = u 59 k ∧ v1 64 (5 + 3 * k) = u 60 k) → Q (9, 0) v1 (gHd K) t) : ∀ (j : Nat) (x : Int) (z : gV) (v : gM), 0 ≤ x → x + j = n → (∀ a k, ¬ (a = 64 ∧ 3 ≤ k) → v a k = u a k) → (∀ k, 0 ≤ k → k < x → v 64 (3 + 3 * k) = u 58 k ∧ v 64 (4 + 3 * k) = u 59 k ∧ v 64 (5 + 3 * k) = u 60 k) → Gx Γ mX2_keep 39 [(2, 38), (0, x), z] [] v (gHd K) t bc bs Q := by
  intro j
  induction j with
  | zero =>
    intro x z v h0 h1 hF hV
    have hv33 : v 38 33 = n := by rw [hF 38 33 (by omega)]; exact hn
    refine Gx_iload_n (i := 1) dX2_keep_39 rfl rfl ?_
    refine Gx_aload_n (i := 0) dX2_keep_40 rfl rfl ?_
    refine gf_X2_203_22 dX2_keep_41 rfl rfl ?_
    refine Gx_icmp_ge (tgt := 84) dX2_keep_44 (by decide) (fun c44 => ?_) (fun c44 => ?_)
    · refine Gx_return dX2_keep_84 rfl ?_
      have e0 : x = n := by omega
      rw [e0] at hV
      exact cont v hF hV
    · exfalso
      omega
  | succ j ih =>
    intro x z v h0 h1 hF hV
    have hv33 : v 38 33 = n := by rw [hF 38 33 (by omega)]; exact hn
    refine Gx_iload_n (i := 1) dX2_keep_39 rfl rfl ?_
    refine Gx_aload_n (i := 0) dX2_keep_40 rfl rfl ?_
    refine gf_X2_203_22 dX2_keep_41 rfl rfl ?_
    refine Gx_icmp_ge (tgt := 84) dX2_keep_44 (by decide) (fun c44 => ?_) (fun c44 => ?_)
    · refine Gx_return dX2_keep_84 rfl ?_
      exfalso
      omega
    · refine Gx_iconst ⟨by decide, by decide⟩ dX2_keep_47 ?_
      refine Gx_istore_n_2 dX2_keep_48 (Nat.le_of_ble_eq_true rfl) (Nat.ne_of_beq_eq_false rfl) ?_
      refine Gx_iload_n (i := 2) dX2_keep_49 rfl rfl ?_
      refine Gx_iconst ⟨by decide, by decide⟩ dX2_keep_50 ?_
      refine Gx_icmp_ge (tgt := 78) dX2_keep_51 (by decide) (fun hz => absurd hz (by decide)) (fun _ => ?_)
      refine Gx_aload_n (i := 0) dX2_keep_54 rfl rfl ?_
      refine gf_X2_87_22 dX2_keep_55 rfl rfl ?_
      refine Gx_iconst ⟨by decide, by decide⟩ dX2_keep_58 ?_
      refine Gx_iconst ⟨by decide, by decide⟩ dX2_keep_59 ?_
      refine Gx_iload_n (i := 1) dX2_keep_60 rfl rfl ?_
      refine Gx_imul dX2_keep_61 ?_
      try simp (disch := omega) only [w32_id]
      refine Gx_iadd dX2_keep_62 ?_
      try simp (disch := omega) only [w32_id]
      refine Gx_iload_n (i := 2) dX2_keep_63 rfl rfl ?_
      refine Gx_iadd dX2_keep_64 ?_
      try simp (disch := omega) only [w32_id]
      refine Gx_aload_n (i := 0) dX2_keep_65 rfl rfl ?_
      refine Gx_iload_n (i := 1) dX2_keep_66 rfl rfl ?_
      refine Gx_iload_n (i := 2) dX2_keep_67 rfl rfl ?_
      refine cl_X2_230 dX2_keep_68 rfl rfl ⟨(Nat.le_of_ble_eq_true rfl), (Nat.le_of_ble_eq_true rfl)⟩ rfl ?_
      refine ct_X2_treeTells (by omega) ?_
      refine Gx_iastore dX2_keep_71 rfl (by first | omega | (simp (disch := omega) only [w32_id]; omega)) ?_
      refine Gx_iinc_2 dX2_keep_72 (Nat.le_of_ble_eq_true rfl) (Nat.ne_of_beq_eq_false rfl) ?_
      rw [show w32 (1 + 1) = (2 : Int) from by decide]
      refine Gx_goto (tgt := 49) dX2_keep_75 (by decide) ?_
      refine Gx_iload_n (i := 2) dX2_keep_49 rfl rfl ?_
      refine Gx_iconst ⟨by decide, by decide⟩ dX2_keep_50 ?_
      refine Gx_icmp_ge (tgt := 78) dX2_keep_51 (by decide) (fun hz => absurd hz (by decide)) (fun _ => ?_)
      refine Gx_aload_n (i := 0) dX2_keep_54 rfl rfl ?_
      refine gf_X2_87_22 dX2_keep_55 rfl rfl ?_
      refine Gx_iconst ⟨by decide, by decide⟩ dX2_keep_58 ?_
      refine Gx_iconst ⟨by decide, by decide⟩ dX2_keep_59 ?_
      refine Gx_iload_n (i := 1) dX2_keep_60 rfl rfl ?_
      refine Gx_imul dX2_keep_61 ?_
      try simp (disch := omega) only [w32_id]
      refine Gx_iadd dX2_keep_62 ?_
      try simp (disch := omega) only [w32_id]
      refine Gx_iload_n (i := 2) dX2_keep_63 rfl rfl ?_
      refine Gx_iadd dX2_keep_64 ?_
      try simp (disch := omega) only [w32_id]
      refine Gx_aload_n (i := 0) dX2_keep_65 rfl rfl ?_
      refine Gx_iload_n (i := 1) dX2_keep_66 rfl rfl ?_
      refine Gx_iload_n (i := 2) dX2_keep_67 rfl rfl ?_
      refine cl_X2_230 dX2_keep_68 rfl rfl ⟨(Nat.le_of_ble_eq_true rfl), (Nat.le_of_ble_eq_true rfl)⟩ rfl ?_
      refine ct_X2_treeTells (by omega) ?_
      refine Gx_iastore dX2_keep_71 rfl (by first | omega | (simp (disch := omega) only [w32_id]; omega)) ?_
      refine Gx_iinc_2 dX2_keep_72 (Nat.le_of_ble_eq_true rfl) (Nat.ne_of_beq_eq_false rfl) ?_
      rw [show w32 (2 + 1) = (3 : Int) from by decide]
      refine Gx_goto (tgt := 49) dX2_keep_75 (by decide) ?_
      refine Gx_iload_n (i := 2) dX2_keep_49 rfl rfl ?_
      refine Gx_iconst ⟨by decide, by decide⟩ dX2_keep_50 ?_
      refine Gx_icmp_ge (tgt := 78) dX2_keep_51 (by decide) (fun hz => absurd hz (by decide)) (fun _ => ?_)
      refine Gx_aload_n (i := 0) dX2_keep_54 rfl rfl ?_
      refine gf_X2_87_22 dX2_keep_55 rfl rfl ?_
      refine Gx_iconst ⟨by decide, by decide⟩ dX2_keep_58 ?_
      refine Gx_iconst ⟨by decide, by decide⟩ dX2_keep_59 ?_
      refine Gx_iload_n (i := 1) dX2_keep_60 rfl rfl ?_
      refine Gx_imul dX2_keep_61 ?_
      try simp (disch := omega) only [w32_id]
      refine Gx_iadd dX2_keep_62 ?_
      try simp (disch := omega) only [w32_id]
      refine Gx_iload_n (i := 2) dX2_keep_63 rfl rfl ?_
      refine Gx_iadd dX2_keep_64 ?_
      try simp (disch := omega) only [w32_id]
      refine Gx_aload_n (i := 0) dX2_keep_65 rfl rfl ?_
      refine Gx_iload_n (i := 1) dX2_keep_66 rfl rfl ?_
      refine Gx_iload_n (i := 2) dX2_keep_67 rfl rfl ?_
      refine cl_X2_230 dX2_keep_68 rfl rfl ⟨(Nat.le_of_ble_eq_true rfl), (Nat.le_of_ble_eq_true rfl)⟩ rfl ?_
      refine ct_X2_treeTells (by omega) ?_
      refine Gx_iastore dX2_keep_71 rfl (by first | omega | (simp (disch := omega) only [w32_id]; omega)) ?_
      refine Gx_iinc_2 dX2_keep_72 (Nat.le_of_ble_eq_true rfl) (Nat.ne_of_beq_eq_false rfl) ?_
      rw [show w32 (3 + 1) = (4 : Int) from by decide]
      refine Gx_goto (tgt := 49) dX2_keep_75 (by decide) ?_
      refine Gx_iload_n (i := 2) dX2_keep_49 rfl rfl ?_
      refine Gx_iconst ⟨by decide, by decide⟩ dX2_keep_50 ?_
      refine Gx_icmp_ge (tgt := 78) dX2_keep_51 (by decide) (fun _ => ?_) (fun hz => absurd hz (by decide))
      refine Gx_iinc_1 dX2_keep_78 (Nat.le_of_ble_eq_true rfl) (Nat.ne_of_beq_eq_false rfl) ?_
      try simp (disch := omega) only [w32_id]
      refine Gx_goto (tgt := 39) dX2_keep_81 (by decide) ?_
      refine Gx_name (fun vN eN => ?_)
      simp (disch := omega) only [sTree1, sTree2, sTree3, gUp_ne2, hF] at eN
      refine ih (x + 1) _ vN (by omega) (by omega) (fun a k hn9 => ?_) (fun k k0 k1 => ?_)
      · rw [eN]
        simp (disch := omega) only [gUp_ne2]
        exact hF a k (by omega)
      · by_cases hk : k = x
        · subst hk
          rw [eN]
          refine ⟨?_, ?_, ?_⟩
          · simp (disch := omega) only [gUp_ne2, gUp_eq2]
          · simp (disch := omega) only [gUp_ne2, gUp_eq2]
          · simp (disch := omega) only [gUp_ne2, gUp_eq2]
        · have hv := hV k k0 (by omega)
          rw [eN]
          simp (disch := omega) only [gUp_ne2]
          exact hv
set_option maxHeartbeats 1000000 in
theorem ct_X2_keep  (h33 : 0 ≤ v 38 33 ∧ v 38 33 ≤ 24) (k1 : ∀ v1, oKeep v v1 → Q (9, 0) v1 (gHd K) t) : Ctr Γ mX2_keep [(2, 38)] v (gHd K) t Q := by
  refine Ctr.ofG (ls := [(2, 38), (9, 0), (9, 0)]) rfl rfl rfl rfl rfl ?_
  refine Gx_aload_n (i := 0) dX2_keep_0 rfl rfl ?_
  refine gf_X2_87_22 dX2_keep_1 rfl rfl ?_
  refine Gx_iconst ⟨by decide, by decide⟩ dX2_keep_4 ?_
  refine Gx_aload_n (i := 0) dX2_keep_5 rfl rfl ?_
  refine gf_X2_206_22 dX2_keep_6 rfl rfl ?_
  refine Gx_iastore dX2_keep_9 rfl (by first | omega | (simp (disch := omega) only [w32_id]; omega)) ?_
  refine Gx_iconst ⟨by decide, by decide⟩ dX2_keep_10 ?_
  refine Gx_istore_n_1 dX2_keep_11 (Nat.le_of_ble_eq_true rfl) (Nat.ne_of_beq_eq_false rfl) ?_
  refine Gx_iload_n (i := 1) dX2_keep_12 rfl rfl ?_
  refine Gx_iconst ⟨by decide, by decide⟩ dX2_keep_13 ?_
  refine Gx_icmp_ge (tgt := 37) dX2_keep_14 (by decide) (fun hz => absurd hz (by decide)) (fun _ => ?_)
  refine Gx_aload_n (i := 0) dX2_keep_17 rfl rfl ?_
  refine gf_X2_87_22 dX2_keep_18 rfl rfl ?_
  refine Gx_iconst ⟨by decide, by decide⟩ dX2_keep_21 ?_
  refine Gx_iload_n (i := 1) dX2_keep_22 rfl rfl ?_
  refine Gx_iadd dX2_keep_23 ?_
  try simp (disch := omega) only [w32_id]
  refine Gx_aload_n (i := 0) dX2_keep_24 rfl rfl ?_
  refine gf_X2_62_22 dX2_keep_25 rfl rfl ?_
  refine Gx_iload_n (i := 1) dX2_keep_28 rfl rfl ?_
  refine Gx_iaload dX2_keep_29 rfl (by first | omega | (simp (disch := omega) only [w32_id]; omega)) ?_
  refine Gx_iastore dX2_keep_30 rfl (by first | omega | (simp (disch := omega) only [w32_id]; omega)) ?_
  refine Gx_iinc_1 dX2_keep_31 (Nat.le_of_ble_eq_true rfl) (Nat.ne_of_beq_eq_false rfl) ?_
  rw [show w32 (0 + 1) = (1 : Int) from by decide]
  refine Gx_goto (tgt := 12) dX2_keep_34 (by decide) ?_
  refine Gx_iload_n (i := 1) dX2_keep_12 rfl rfl ?_
  refine Gx_iconst ⟨by decide, by decide⟩ dX2_keep_13 ?_
  refine Gx_icmp_ge (tgt := 37) dX2_keep_14 (by decide) (fun hz => absurd hz (by decide)) (fun _ => ?_)
  refine Gx_aload_n (i := 0) dX2_keep_17 rfl rfl ?_
  refine gf_X2_87_22 dX2_keep_18 rfl rfl ?_
  refine Gx_iconst ⟨by decide, by decide⟩ dX2_keep_21 ?_
  refine Gx_iload_n (i := 1) dX2_keep_22 rfl rfl ?_
  refine Gx_iadd dX2_keep_23 ?_
  try simp (disch := omega) only [w32_id]
  refine Gx_aload_n (i := 0) dX2_keep_24 rfl rfl ?_
  refine gf_X2_62_22 dX2_keep_25 rfl rfl ?_
  refine Gx_iload_n (i := 1) dX2_keep_28 rfl rfl ?_
  refine Gx_iaload dX2_keep_29 rfl (by first | omega | (simp (disch := omega) only [w32_id]; omega)) ?_
  refine Gx_iastore dX2_keep_30 rfl (by first | omega | (simp (disch := omega) only [w32_id]; omega)) ?_
  refine Gx_iinc_1 dX2_keep_31 (Nat.le_of_ble_eq_true rfl) (Nat.ne_of_beq_eq_false rfl) ?_
  rw [show w32 (1 + 1) = (2 : Int) from by decide]
  refine Gx_goto (tgt := 12) dX2_keep_34 (by decide) ?_
  refine Gx_iload_n (i := 1) dX2_keep_12 rfl rfl ?_
  refine Gx_iconst ⟨by decide, by decide⟩ dX2_keep_13 ?_
  refine Gx_icmp_ge (tgt := 37) dX2_keep_14 (by decide) (fun _ => ?_) (fun hz => absurd hz (by decide))
  refine Gx_iconst ⟨by decide, by decide⟩ dX2_keep_37 ?_
  refine Gx_istore_n_1 dX2_keep_38 (Nat.le_of_ble_eq_true rfl) (Nat.ne_of_beq_eq_false rfl) ?_
  refine Gx_name (fun vN eN => ?_)
  have hFN : ∀ a k, a ≠ 64 → vN a k = v a k := by
    intro a k hk
    rw [eN]
    simp (disch := omega) only [gUp_ne2]
  refine lp_X2_keep (u := vN) (n := v 38 33) (hFN 38 33 (by omega)) h33.2 (fun v1 hF1 hV1 => ?_) (v 38 33).toNat 0 _ vN (by omega) (by omega) (fun a k _ => rfl) (fun k k0 k1 => by omega)
  refine k1 v1 ⟨fun a k hk => ?_, ?_, ?_, ?_, fun k k0 k1 => ?_⟩
  · rw [hF1 a k (by omega), hFN a k (by omega)]
  · rw [hF1 64 0 (by omega), eN]
    simp (disch := omega) only [gUp_ne2, gUp_eq2]
  · rw [hF1 64 1 (by omega), eN]
    simp (disch := omega) only [gUp_ne2, gUp_eq2]
  · rw [hF1 64 2 (by omega), eN]
    simp (disch := omega) only [gUp_ne2, gUp_eq2]
  · have hv := hV1 k k0 k1
    rw [hFN _ _ (by omega), hFN _ _ (by omega), hFN _ _ (by omega)] at hv
    exact hv
end
