/-! AcornYears: comesTo, passTrial -/
section
variable {Γ : gC} {v : gM} {K : gH} {t : Nat} {Q : gQ}
/-- the wood that is tried comes to the wood as it is -/
def oCt (v v1 : gM) : Prop := (∀ a k, ¬ ((a = 23 ∧ k = 2) ∨ (a = 24 ∧ 0 ≤ k ∧ k < 24) ∨ (a = 25 ∧ 0 ≤ k ∧ k < 2)) → v1 a k = v a k) ∧ v1 23 2 = v 17 2 ∧ (∀ k, 0 ≤ k → k < 24 → v1 24 k = v 18 k) ∧ ∀ k, 0 ≤ k → k < 2 → v1 25 k = v 19 k

set_option maxHeartbeats 1000000 in
theorem ct_X1_comesTo  (k : ∀ v1, oCt v v1 → Q (9, 0) v1 (gHd K) t) : Ctr Γ mX1_comesTo [(2, 23), (2, 17)] v (gHd K) t Q := by
  refine Ctr.ofG (ls := [(2, 23), (2, 17)]) rfl rfl rfl rfl rfl ?_
  refine Gx_aload_n (i := 1) dX1_comesTo_0 rfl rfl ?_
  refine gf_X1_9_21 dX1_comesTo_1 rfl rfl ?_
  refine Gx_iconst ⟨by decide, by decide⟩ dX1_comesTo_4 ?_
  refine Gx_aload_n (i := 0) dX1_comesTo_5 rfl rfl ?_
  refine gf_X1_9_21 dX1_comesTo_6 rfl rfl ?_
  refine Gx_iconst ⟨by decide, by decide⟩ dX1_comesTo_9 ?_
  refine Gx_bipush dX1_comesTo_10 ⟨by decide, by decide⟩ ?_
  refine Gx_acopy10 dX1_comesTo_12 rfl rfl rfl q1017 q518 q517 q118 (by first | omega | (simp (disch := omega) only [w32_id]; omega)) ⟨(Nat.le_of_ble_eq_true rfl), (Nat.le_of_ble_eq_true rfl)⟩ rfl ?_
  refine Gx_aload_n (i := 1) dX1_comesTo_15 rfl rfl ?_
  refine gf_X1_15_21 dX1_comesTo_16 rfl rfl ?_
  refine Gx_iconst ⟨by decide, by decide⟩ dX1_comesTo_19 ?_
  refine Gx_aload_n (i := 0) dX1_comesTo_20 rfl rfl ?_
  refine gf_X1_15_21 dX1_comesTo_21 rfl rfl ?_
  refine Gx_iconst ⟨by decide, by decide⟩ dX1_comesTo_24 ?_
  refine Gx_iconst ⟨by decide, by decide⟩ dX1_comesTo_25 ?_
  refine Gx_acopy10 dX1_comesTo_26 rfl rfl rfl q1017 q518 q517 q118 (by first | omega | (simp (disch := omega) only [w32_id]; omega)) ⟨(Nat.le_of_ble_eq_true rfl), (Nat.le_of_ble_eq_true rfl)⟩ rfl ?_
  refine Gx_aload_n (i := 0) dX1_comesTo_29 rfl rfl ?_
  refine Gx_aload_n (i := 1) dX1_comesTo_30 rfl rfl ?_
  refine gf_X1_34_21 dX1_comesTo_31 rfl rfl ?_
  refine pf_X1_34_21 dX1_comesTo_34 rfl rfl ?_
  refine Gx_return dX1_comesTo_37 rfl ?_
  refine k _ ⟨fun a b hk => ?_, ?_, fun b b0 b1 => ?_, fun b b0 b1 => ?_⟩
  · rw [gUp_ne2 (by omega), gCpy_ne (by omega), gCpy_ne (by omega)]
  · rw [gUp_eq2 rfl rfl, gCpy_ne (by omega), gCpy_ne (by omega)]
  · rw [gUp_ne2 (by omega), gCpy_ne (by omega), gCpy_at ⟨by omega, by omega, by omega⟩, show (0 : Int) + (b - 0) = b by omega]
    rfl
  · rw [gUp_ne2 (by omega), gCpy_at ⟨by omega, by omega, by omega⟩, show (0 : Int) + (b - 0) = b by omega, gCpy_ne (by omega)]
    rfl
theorem oCt_N {v v1 : gM} {h : gH} (hW : aWf v h) (hu : yOK (aN v h 17)) (hc : oCt v v1) : aN v1 h 23 = aN v h 17 ∧ aN v1 h 17 = aN v h 17 := by
  obtain ⟨hF, c2, cs, cm⟩ := hc
  have h33 : v 0 32 ≤ 24 := hu.2.2.1.2
  have h22 : v 0 12 ≤ 2 := hu.2.2.2.2.1.1.2
  have q12 : v1 0 12 = v 0 12 := hF _ _ (by omega)
  have q32 : v1 0 32 = v 0 32 := hF _ _ (by omega)
  have hcg := fun (x a k : Int) (hak : ¬ ((a = 38 ∧ k = 31) ∨ a = 56 ∨ a = 58)) => aN_congr (x := x) hW (fun b j hb => hF b j (by omega)) a k hak
  refine ⟨?_, ?_⟩
  · funext a k
    by_cases c1 : a = 38 ∧ k = 31
    · rw [c1.1, c1.2]
      exact c2
    · by_cases c6 : a = 56
      · subst c6
        show (if 0 ≤ k ∧ k < v1 0 12 then v1 25 k else 0) = (if 0 ≤ k ∧ k < v 0 12 then v 19 k else 0)
        rw [q12]
        by_cases cr : 0 ≤ k ∧ k < v 0 12
        · rw [if_pos cr, if_pos cr, cm k cr.1 (by omega)]
        · rw [if_neg cr, if_neg cr]
      · by_cases c8 : a = 58
        · subst c8
          show (if 0 ≤ k ∧ k < v1 0 32 then v1 24 k else 0) = (if 0 ≤ k ∧ k < v 0 32 then v 18 k else 0)
          rw [q32]
          by_cases cr : 0 ≤ k ∧ k < v 0 32
          · rw [if_pos cr, if_pos cr, cs k cr.1 (by omega)]
          · rw [if_neg cr, if_neg cr]
        · have g1 := hcg 23 a k (by omega)
          rw [g1]
          unfold aN
          rw [if_neg c6, if_neg c8]
          rw [if_neg c6, if_neg c8]
          by_cases c38 : a = 38
          · rw [if_pos c38, if_pos c38]
            by_cases c31 : k = 31
            · exact absurd ⟨c38, c31⟩ c1
            · rw [if_neg c31, if_neg c31]
          · rw [if_neg c38, if_neg c38]
  · funext a k
    by_cases c1 : a = 38 ∧ k = 31
    · rw [c1.1, c1.2]
      exact hF 17 2 (by omega)
    · by_cases c6 : a = 56
      · subst c6
        show (if 0 ≤ k ∧ k < v1 0 12 then v1 19 k else 0) = (if 0 ≤ k ∧ k < v 0 12 then v 19 k else 0)
        rw [q12, hF 19 k (by omega)]
      · by_cases c8 : a = 58
        · subst c8
          show (if 0 ≤ k ∧ k < v1 0 32 then v1 18 k else 0) = (if 0 ≤ k ∧ k < v 0 32 then v 18 k else 0)
          rw [q32, hF 18 k (by omega)]
        · exact hcg 17 a k (by omega)
theorem aN_may {v : gM} {h : gH} {x : Int} (hu : yOK (aN v h x)) : yMay (aN v h x) = v (v 0 8) (v x 2 % (h (v 0 8)).2) := by
  have hc := hu.2.2.2.2.2.2.2.1
  rw [aN_c28] at hc
  unfold yMay
  rw [aN_c31, aN_c28]
  exact aN_54 (Int.emod_nonneg _ (by omega)) (Int.emod_lt_of_pos _ (by omega))

set_option maxHeartbeats 1000000 in
theorem ct_X0_passTrial  (hW : aWf v (gHd K)) (hu : yOK (aN v (gHd K) 23)) (hy : v 23 2 ≤ 900000) (h35 : v 0 35 ≤ 99) (h63 : ∀ s, 0 ≤ s → s < (gHd K (v 0 7)).2 → (gHd K (v (v 0 7) s)).1 = 6 → 0 ≤ v (v (v 0 7) s) 3 ∧ v (v (v 0 7) s) 3 ≤ 99) (k : ∀ v1, oPs v v1 (gHd K) 23 (yMay (aN v (gHd K) 23)) 0 → Q (9, 0) v1 (gHd K) t) : Ctr Γ mX0_passTrial [(2, 0)] v (gHd K) t Q := by
  refine Ctr.ofG (ls := [(2, 0)]) rfl rfl rfl rfl rfl ?_
  have hc := hu.2.2.2.2.2.2.2.1
  rw [aN_c28] at hc
  have hy0 := hu.2.2.2.2.2.2.2.2.2
  rw [aN_c31] at hy0
  refine Gx_aload_n (i := 0) dX0_passTrial_0 rfl rfl ?_
  refine Gx_aload_n (i := 0) dX0_passTrial_1 rfl rfl ?_
  refine gf_X0_90_20 dX0_passTrial_2 rfl rfl ?_
  refine Gx_aload_n (i := 0) dX0_passTrial_5 rfl rfl ?_
  refine Gx_aload_n (i := 0) dX0_passTrial_6 rfl rfl ?_
  refine gf_X0_90_20 dX0_passTrial_7 rfl rfl ?_
  refine gf_X0_279_21 dX0_passTrial_10 rfl rfl ?_
  refine Gx_iconst ⟨by decide, by decide⟩ dX0_passTrial_13 ?_
  refine Gx_iadd dX0_passTrial_14 ?_
  try simp (disch := omega) only [w32_id]
  refine cl_X0_409 dX0_passTrial_15 rfl rfl ⟨(Nat.le_of_ble_eq_true rfl), (Nat.le_of_ble_eq_true rfl)⟩ rfl ?_
  refine ct_X0_mayOf (n := (gHd K (v 0 8)).2) (pairEq hW.2.2.1.2) (by omega) (by omega) ?_
  rw [show v 23 2 + 1 - 1 = v 23 2 by omega, ← aN_may hu]
  refine Gx_iconst ⟨by decide, by decide⟩ dX0_passTrial_18 ?_
  refine cl_X0_402 dX0_passTrial_19 rfl rfl ⟨(Nat.le_of_ble_eq_true rfl), (Nat.le_of_ble_eq_true rfl)⟩ rfl ?_
  refine ct_X0_pass (Or.inr rfl) (yMay_le hu) hW hu ⟨hy0, by omega⟩ h35 h63 (fun v1 h1 => ?_)
  refine Gx_return dX0_passTrial_22 rfl ?_
  exact k v1 h1
end
