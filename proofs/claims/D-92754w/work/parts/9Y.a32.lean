/-! AcornYears: what rings tell -/
section
variable {Γ : gC} {v : gM} {K : gH} {t : Nat} {Q : gQ}
/-- what must hold for rings to be looked for -/
def aHy (v : gM) (h : gH) : Prop := aWf v h ∧ yOK (aN v h 17) ∧ v 0 36 < 0 ∧ v 0 35 ≤ 99 ∧ a63 v h ∧ v 17 2 ≤ 9999
theorem aHy_scr {v v1 : gM} {h : gH} (hH : aHy v h) (hS : aScr v v1) : aHy v1 h := by
  obtain ⟨h1, h2, h3, h4, h5, h6⟩ := hH
  exact ⟨aScr_W h1 hS, by rw [aScr_N h1 hS]; exact h2, by rw [hS 0 36 (by omega)]; exact h3, by rw [hS 0 35 (by omega)]; exact h4, aScr_63 h1 hS h5, by rw [hS 17 2 (by omega)]; exact h6⟩
theorem ct_X0_goR (hH : aHy v (gHd K)) (k1 : ∀ (v1 : gM) (m l : Nat), oHas (aN v (gHd K) 17) m l → aScr v v1 → v1 0 41 = m → v1 0 42 = l → 1 ≤ l → l ≤ 2000 → aSu v1 (yIt (aN v (gHd K) 17) m) l → v1 0 44 = yTot (yM1 (yMax (yIt (aN v (gHd K) 17) m) l)) (yIt (aN v (gHd K) 17) m) l → yOK (yIt (aN v (gHd K) 17) m) → yIt (aN v (gHd K) 17) m 38 33 = v 0 32 → yIt (aN v (gHd K) 17) m 38 22 = v 0 12 → (0 ≤ v1 0 46 ∧ v1 0 46 ≤ 100000) → (v1 0 46 * (v1 0 32 - 1) = yTot yO1 (yIt (aN v (gHd K) 17) m) l ∧ 0 ≤ yTot yO1 (yIt (aN v (gHd K) 17) m) l ∧ yTot yO1 (yIt (aN v (gHd K) 17) m) l ≤ 2000000) → (0 ≤ yTot yP1 (yIt (aN v (gHd K) 17) m) l ∧ yTot yP1 (yIt (aN v (gHd K) 17) m) l ≤ 2000000) → Q (0, 1) v1 (gHd K) t) (k0 : oNo (aN v (gHd K) 17) → ∀ v1, aScr v v1 → Q (0, 0) v1 (gHd K) t) : Ctr Γ mX0_goRound [(2, 0)] v (gHd K) t Q := by
  obtain ⟨h1, h2, h3, h4, h5, h6⟩ := hH
  refine ct_X0_goRound h1 h2 h3 h4 h5 h6 (fun v1 m l hml hS e41 e42 hA e44 => ?_) k0
  have hu := yOK_it h2 m
  have q33 : yIt (aN v (gHd K) 17) m 38 33 = v 0 32 := (yIt_o (by omega) m).1
  have q22 : yIt (aN v (gHd K) 17) m 38 22 = v 0 12 := (yIt_o (by omega) m).1
  have tN := yTot_le (F := yN1) (u := yIt (aN v (gHd K) 17) m) (B := 24) (fun q => by
    have z := yN1_le (yOK_it hu q)
    rw [(yIt_o (by omega) q).1] at z
    have := hu.2.2.1
    omega) l
  have tO := yTot_le (F := yO1) (u := yIt (aN v (gHd K) 17) m) (B := 552) (fun q => yO1_le (yOK_it hu q)) l
  have tP := yTot_le (F := yP1) (u := yIt (aN v (gHd K) 17) m) (B := 552) (fun q => yP1_le (yOK_it hu q)) l
  have hl := hml.1.1
  have hl2 := hml.2
  refine k1 v1 m l hml hS e41 e42 hl (by omega) hA e44 hu q33 q22 (by rw [hA.2.1]; omega) ⟨?_, by omega, by omega⟩ ⟨by omega, by omega⟩
  rw [hA.2.1, yTot_O, q33, hS 0 32 (by omega)]

theorem ct_X0_ring  (hH : aHy v (gHd K)) (k1 : ∀ (v1 : gM) (m l : Nat), oHas (aN v (gHd K) 17) m l → aScr v v1 → Q (0, l) (gUp v1 0 2 m) (gHd K) t) (k0 : oNo (aN v (gHd K) 17) → ∀ v1, aScr v v1 → Q (0, -6) v1 (gHd K) t) : Ctr Γ mX0_ring [(2, 0)] v (gHd K) t Q := by
  refine Ctr.ofG (ls := [(2, 0)]) rfl rfl rfl rfl rfl ?_
  refine Gx_aload_n (i := 0) dX0_ring_0 rfl rfl ?_
  refine cl_X0_468 dX0_ring_1 rfl rfl ⟨(Nat.le_of_ble_eq_true rfl), (Nat.le_of_ble_eq_true rfl)⟩ rfl ?_
  refine ct_X0_setRing hH.1 hH.2.1 hH.2.2.1 hH.2.2.2.1 hH.2.2.2.2.1 hH.2.2.2.2.2 (fun v1 m l hml hS e41 e42 => ?_) (fun hno v1 hS => ?_)
  · refine Gx_if_eq (tgt := 22) dX0_ring_4 (by decide) (fun hz => absurd hz (by decide)) (fun _ => ?_)
    refine Gx_aload_n (i := 0) dX0_ring_7 rfl rfl ?_
    refine Gx_aload_n (i := 0) dX0_ring_8 rfl rfl ?_
    refine gf_X0_439_20 dX0_ring_9 rfl rfl ?_
    refine Gx_aload_n (i := 0) dX0_ring_12 rfl rfl ?_
    refine gf_X0_442_20 dX0_ring_13 rfl rfl ?_
    refine cl_X0_147 dX0_ring_16 rfl rfl ⟨(Nat.le_of_ble_eq_true rfl), (Nat.le_of_ble_eq_true rfl)⟩ rfl ?_
    rw [e41, e42]
    refine ct_X0_ask ?_
    refine Gx_goto (tgt := 24) dX0_ring_19 (by decide) ?_
    refine Gx_ireturn dX0_ring_24 trivial ?_
    first
    | exact k1 v1 m l hml hS
    | exact k0 hno v1 hS
  · refine Gx_if_eq (tgt := 22) dX0_ring_4 (by decide) (fun _ => ?_) (fun hz => absurd hz (by decide))
    refine Gx_bipush dX0_ring_22 ⟨by decide, by decide⟩ ?_
    refine Gx_ireturn dX0_ring_24 trivial ?_
    first
    | exact k1 v1 m l hml hS
    | exact k0 hno v1 hS
theorem ct_X0_masts  (hH : aHy v (gHd K)) (k1 : ∀ (v1 : gM) (m l : Nat), oHas (aN v (gHd K) 17) m l → aScr v v1 → Q (0, yTot (yM1 (yMax (yIt (aN v (gHd K) 17) m) l)) (yIt (aN v (gHd K) 17) m) l) (gUp v1 0 2 (yMax (yIt (aN v (gHd K) 17) m) l)) (gHd K) t) (k0 : oNo (aN v (gHd K) 17) → ∀ v1, aScr v v1 → Q (0, -6) v1 (gHd K) t) : Ctr Γ mX0_masts [(2, 0)] v (gHd K) t Q := by
  refine Ctr.ofG (ls := [(2, 0)]) rfl rfl rfl rfl rfl ?_
  refine Gx_aload_n (i := 0) dX0_masts_0 rfl rfl ?_
  refine cl_X0_477 dX0_masts_1 rfl rfl ⟨(Nat.le_of_ble_eq_true rfl), (Nat.le_of_ble_eq_true rfl)⟩ rfl ?_
  refine ct_X0_goR hH (fun v1 m l hml hS e41 e42 l1 l2 hA e44 hu q33 q22 b46 bO bP => ?_) (fun hno v1 hS => ?_)
  · refine Gx_if_eq (tgt := 22) dX0_masts_4 (by decide) (fun hz => absurd hz (by decide)) (fun _ => ?_)
    refine Gx_aload_n (i := 0) dX0_masts_7 rfl rfl ?_
    refine Gx_aload_n (i := 0) dX0_masts_8 rfl rfl ?_
    refine gf_X0_448_20 dX0_masts_9 rfl rfl ?_
    refine Gx_aload_n (i := 0) dX0_masts_12 rfl rfl ?_
    refine gf_X0_451_20 dX0_masts_13 rfl rfl ?_
    refine cl_X0_147 dX0_masts_16 rfl rfl ⟨(Nat.le_of_ble_eq_true rfl), (Nat.le_of_ble_eq_true rfl)⟩ rfl ?_
    rw [e44, hA.2.2.2.2.1]
    refine ct_X0_ask ?_
    refine Gx_goto (tgt := 24) dX0_masts_19 (by decide) ?_
    refine Gx_ireturn dX0_masts_24 trivial ?_
    first
    | exact k1 v1 m l hml hS
    | exact k0 hno v1 hS
  · refine Gx_if_eq (tgt := 22) dX0_masts_4 (by decide) (fun _ => ?_) (fun hz => absurd hz (by decide))
    refine Gx_bipush dX0_masts_22 ⟨by decide, by decide⟩ ?_
    refine Gx_ireturn dX0_masts_24 trivial ?_
    first
    | exact k1 v1 m l hml hS
    | exact k0 hno v1 hS
set_option maxHeartbeats 1000000 in
theorem ct_X0_together  (hH : aHy v (gHd K)) (k1 : ∀ (v1 : gM) (m l : Nat), oHas (aN v (gHd K) 17) m l → aScr v v1 → (yTot yO1 (yIt (aN v (gHd K) 17) m) l = 0 → Q (0, -3) (aMet v1 4) (gHd K) t) ∧ (yTot yO1 (yIt (aN v (gHd K) 17) m) l ≠ 0 → Q (0, yTot yN1 (yIt (aN v (gHd K) 17) m) l) (tFrac v1 (yTot yP1 (yIt (aN v (gHd K) 17) m) l) (yTot yO1 (yIt (aN v (gHd K) 17) m) l)) (gHd K) t)) (k0 : oNo (aN v (gHd K) 17) → ∀ v1, aScr v v1 → Q (0, -6) v1 (gHd K) t) : Ctr Γ mX0_together [(2, 0)] v (gHd K) t Q := by
  refine Ctr.ofG (ls := [(2, 0)]) rfl rfl rfl rfl rfl ?_
  refine Gx_aload_n (i := 0) dX0_together_0 rfl rfl ?_
  refine cl_X0_477 dX0_together_1 rfl rfl ⟨(Nat.le_of_ble_eq_true rfl), (Nat.le_of_ble_eq_true rfl)⟩ rfl ?_
  refine ct_X0_goR hH (fun v1 m l hml hS e41 e42 l1 l2 hA e44 hu q33 q22 b46 bO bP => ?_) (fun hno v1 hS => ?_)
  · have h32 := hu.2.2.1
    rw [q33] at h32
    have w32 : v1 0 32 = v 0 32 := hS 0 32 (by omega)
    refine Gx_if_ne (tgt := 10) dX0_together_4 (by decide) (fun _ => ?_) (fun hz => absurd hz (by decide))
    refine Gx_aload_n (i := 0) dX0_together_10 rfl rfl ?_
    refine cl_X0_480 dX0_together_11 rfl rfl ⟨(Nat.le_of_ble_eq_true rfl), (Nat.le_of_ble_eq_true rfl)⟩ rfl ?_
    refine ct_X0_allPairs b46 (by omega) ?_
    rw [bO.1]
    refine Gx_lconst0 dX0_together_14 ?_
    try simp (disch := omega) only [w64_id]
    refine Gx_lcmpif_gt (tgt := 27) dX0_together_15 dX0_together_16 (by decide) (fun c15 => ?_) (fun c15 => ?_)
    · refine Gx_aload_n (i := 0) dX0_together_27 rfl rfl ?_
      refine Gx_aload_n (i := 0) dX0_together_28 rfl rfl ?_
      refine gf_X0_454_20 dX0_together_29 rfl rfl ?_
      refine Gx_aload_n (i := 0) dX0_together_32 rfl rfl ?_
      refine cl_X0_480 dX0_together_33 rfl rfl ⟨(Nat.le_of_ble_eq_true rfl), (Nat.le_of_ble_eq_true rfl)⟩ rfl ?_
      refine ct_X0_allPairs b46 (by omega) ?_
      rw [bO.1]
      refine Gx_aload_n (i := 0) dX0_together_36 rfl rfl ?_
      refine gf_X0_457_20 dX0_together_37 rfl rfl ?_
      refine Gx_l2i dX0_together_40 ?_
      rw [w32_id (by omega) (by omega)]
      refine cl_X0_484 dX0_together_41 rfl rfl ⟨(Nat.le_of_ble_eq_true rfl), (Nat.le_of_ble_eq_true rfl)⟩ rfl ?_
      rw [hA.1, hA.2.1] at *
      refine ct_X0_tell (by omega) ?_
      refine Gx_ireturn dX0_together_44 trivial ?_
      first
      | exact k0 hno v1 hS
      | exact (k1 v1 m l hml hS).1 (by omega)
      | exact (k1 v1 m l hml hS).2 (by omega)
    · refine Gx_aload_n (i := 0) dX0_together_19 rfl rfl ?_
      refine Gx_iconst ⟨by decide, by decide⟩ dX0_together_20 ?_
      refine cl_X0_139 dX0_together_21 rfl rfl ⟨(Nat.le_of_ble_eq_true rfl), (Nat.le_of_ble_eq_true rfl)⟩ rfl ?_
      refine ct_X0_met (by omega) ?_
      refine Gx_goto (tgt := 44) dX0_together_24 (by decide) ?_
      refine Gx_ireturn dX0_together_44 trivial ?_
      first
      | exact k0 hno v1 hS
      | exact (k1 v1 m l hml hS).1 (by omega)
      | exact (k1 v1 m l hml hS).2 (by omega)
  · refine Gx_if_ne (tgt := 10) dX0_together_4 (by decide) (fun hz => absurd hz (by decide)) (fun _ => ?_)
    refine Gx_bipush dX0_together_7 ⟨by decide, by decide⟩ ?_
    refine Gx_ireturn dX0_together_9 trivial ?_
    first
    | exact k0 hno v1 hS
    | exact (k1 v1 m l hml hS).1 (by omega)
    | exact (k1 v1 m l hml hS).2 (by omega)
set_option maxHeartbeats 1000000 in
theorem ct_X0_share {x : Int} (hH : aHy v (gHd K)) (kB : ¬ (0 ≤ x ∧ x < v 0 32) → Q (0, -1) v (gHd K) t) (k1 : 0 ≤ x ∧ x < v 0 32 → ∀ (v1 : gM) (m l : Nat), oHas (aN v (gHd K) 17) m l → aScr v v1 → (yTot yA1 (yIt (aN v (gHd K) 17) m) l = 0 → Q (0, -3) (aMet v1 4) (gHd K) t) ∧ (yTot yA1 (yIt (aN v (gHd K) 17) m) l ≠ 0 → Q (0, yTot (yT1 x) (yIt (aN v (gHd K) 17) m) l) (tFrac v1 (yTot (yT1 x) (yIt (aN v (gHd K) 17) m) l) (yTot yA1 (yIt (aN v (gHd K) 17) m) l)) (gHd K) t)) (k0 : 0 ≤ x ∧ x < v 0 32 → oNo (aN v (gHd K) 17) → ∀ v1, aScr v v1 → Q (0, -6) v1 (gHd K) t) : Ctr Γ mX0_share [(2, 0), (0, x)] v (gHd K) t Q := by
  refine Ctr.ofG (ls := [(2, 0), (0, x)]) rfl rfl rfl rfl rfl ?_
  refine Gx_aload_n (i := 0) dX0_share_0 rfl rfl ?_
  refine Gx_iload_n (i := 1) dX0_share_1 rfl rfl ?_
  refine cl_X0_330 dX0_share_2 rfl rfl ⟨(Nat.le_of_ble_eq_true rfl), (Nat.le_of_ble_eq_true rfl)⟩ rfl ?_
  refine ct_X0_isTree hH.2.1.2.2.1 (fun hx => ?_) (fun hx => ?_)
  · refine Gx_if_ne (tgt := 10) dX0_share_5 (by decide) (fun _ => ?_) (fun hz => absurd hz (by decide))
    refine Gx_aload_n (i := 0) dX0_share_10 rfl rfl ?_
    refine cl_X0_477 dX0_share_11 rfl rfl ⟨(Nat.le_of_ble_eq_true rfl), (Nat.le_of_ble_eq_true rfl)⟩ rfl ?_
    refine ct_X0_goR hH (fun v1 m l hml hS e41 e42 l1 l2 hA e44 hu q33 q22 b46 bO bP => ?_) (fun hno v1 hS => ?_)
    · have h32 := hu.2.2.1
      rw [q33] at h32
      have w32 : v1 0 32 = v 0 32 := hS 0 32 (by omega)
      have s47 := hA.2.2.1
      have s33 := (hA.2.2.2.2.2.1 x hx.1 (by omega)).1
      have t1 := yTot_le (F := yT1 x) (u := (yIt (aN v (gHd K) 17) m)) (B := 60) (fun q => yT1_le (yOK_it hu q) (by rw [(yIt_o (by omega) q).1]; omega)) l
      refine Gx_if_ne (tgt := 20) dX0_share_14 (by decide) (fun _ => ?_) (fun hz => absurd hz (by decide))
      refine Gx_aload_n (i := 0) dX0_share_20 rfl rfl ?_
      refine gf_X0_459_20 dX0_share_21 rfl rfl ?_
      rw [s47]
      refine Gx_lconst0 dX0_share_24 ?_
      try simp (disch := omega) only [w64_id]
      refine Gx_lcmpif_ne (tgt := 37) dX0_share_25 dX0_share_26 (by decide) (fun c25 => ?_) (fun c25 => ?_)
      · refine Gx_aload_n (i := 0) dX0_share_37 rfl rfl ?_
        refine Gx_aload_n (i := 0) dX0_share_38 rfl rfl ?_
        refine gf_X0_113_20 dX0_share_39 rfl rfl ?_
        refine Gx_iload_n (i := 1) dX0_share_42 rfl rfl ?_
        refine Gx_laload dX0_share_43 rfl (by first | omega | (simp (disch := omega) only [w32_id]; omega)) ?_
        rw [s33]
        refine Gx_aload_n (i := 0) dX0_share_44 rfl rfl ?_
        refine gf_X0_459_20 dX0_share_45 rfl rfl ?_
        rw [s47]
        refine Gx_aload_n (i := 0) dX0_share_48 rfl rfl ?_
        refine gf_X0_113_20 dX0_share_49 rfl rfl ?_
        refine Gx_iload_n (i := 1) dX0_share_52 rfl rfl ?_
        refine Gx_laload dX0_share_53 rfl (by first | omega | (simp (disch := omega) only [w32_id]; omega)) ?_
        rw [s33]
        refine Gx_l2i dX0_share_54 ?_
        rw [w32_id (by omega) (by omega)]
        refine cl_X0_484 dX0_share_55 rfl rfl ⟨(Nat.le_of_ble_eq_true rfl), (Nat.le_of_ble_eq_true rfl)⟩ rfl ?_
        refine ct_X0_tell (by omega) ?_
        refine Gx_ireturn dX0_share_58 trivial ?_
        first
        | exact kB hx
        | exact k0 hx hno v1 hS
        | exact (k1 hx v1 m l hml hS).1 (by omega)
        | exact (k1 hx v1 m l hml hS).2 (by omega)
      · refine Gx_aload_n (i := 0) dX0_share_29 rfl rfl ?_
        refine Gx_iconst ⟨by decide, by decide⟩ dX0_share_30 ?_
        refine cl_X0_139 dX0_share_31 rfl rfl ⟨(Nat.le_of_ble_eq_true rfl), (Nat.le_of_ble_eq_true rfl)⟩ rfl ?_
        refine ct_X0_met (by omega) ?_
        refine Gx_goto (tgt := 58) dX0_share_34 (by decide) ?_
        refine Gx_ireturn dX0_share_58 trivial ?_
        first
        | exact kB hx
        | exact k0 hx hno v1 hS
        | exact (k1 hx v1 m l hml hS).1 (by omega)
        | exact (k1 hx v1 m l hml hS).2 (by omega)
    · refine Gx_if_ne (tgt := 20) dX0_share_14 (by decide) (fun hz => absurd hz (by decide)) (fun _ => ?_)
      refine Gx_bipush dX0_share_17 ⟨by decide, by decide⟩ ?_
      refine Gx_ireturn dX0_share_19 trivial ?_
      first
      | exact kB hx
      | exact k0 hx hno v1 hS
      | exact (k1 hx v1 m l hml hS).1 (by omega)
      | exact (k1 hx v1 m l hml hS).2 (by omega)
  · refine Gx_if_ne (tgt := 10) dX0_share_5 (by decide) (fun hz => absurd hz (by decide)) (fun _ => ?_)
    refine Gx_iconst ⟨by decide, by decide⟩ dX0_share_8 ?_
    refine Gx_ireturn dX0_share_9 trivial ?_
    first
    | exact kB hx
    | exact k0 hx hno v1 hS
    | exact (k1 hx v1 m l hml hS).1 (by omega)
    | exact (k1 hx v1 m l hml hS).2 (by omega)
theorem ct_X0_seedlings  (hH : aHy v (gHd K)) (k1 : ∀ (v1 : gM) (m l : Nat), oHas (aN v (gHd K) 17) m l → aScr v v1 → Q (0, 1) (tFrac v1 (yTot yD1 (yIt (aN v (gHd K) 17) m) l) l) (gHd K) t) (k0 : oNo (aN v (gHd K) 17) → ∀ v1, aScr v v1 → Q (0, -6) v1 (gHd K) t) : Ctr Γ mX0_seedlings [(2, 0)] v (gHd K) t Q := by
  refine Ctr.ofG (ls := [(2, 0)]) rfl rfl rfl rfl rfl ?_
  refine Gx_aload_n (i := 0) dX0_seedlings_0 rfl rfl ?_
  refine cl_X0_477 dX0_seedlings_1 rfl rfl ⟨(Nat.le_of_ble_eq_true rfl), (Nat.le_of_ble_eq_true rfl)⟩ rfl ?_
  refine ct_X0_goR hH (fun v1 m l hml hS e41 e42 l1 l2 hA e44 hu q33 q22 b46 bO bP => ?_) (fun hno v1 hS => ?_)
  · refine Gx_if_eq (tgt := 24) dX0_seedlings_4 (by decide) (fun hz => absurd hz (by decide)) (fun _ => ?_)
    refine Gx_aload_n (i := 0) dX0_seedlings_7 rfl rfl ?_
    refine Gx_aload_n (i := 0) dX0_seedlings_8 rfl rfl ?_
    refine gf_X0_462_20 dX0_seedlings_9 rfl rfl ?_
    refine Gx_aload_n (i := 0) dX0_seedlings_12 rfl rfl ?_
    refine gf_X0_442_20 dX0_seedlings_13 rfl rfl ?_
    refine Gx_i2l dX0_seedlings_16 ?_
    refine Gx_iconst ⟨by decide, by decide⟩ dX0_seedlings_17 ?_
    refine cl_X0_484 dX0_seedlings_18 rfl rfl ⟨(Nat.le_of_ble_eq_true rfl), (Nat.le_of_ble_eq_true rfl)⟩ rfl ?_
    rw [hA.2.2.2.1, e42]
    refine ct_X0_tell (by omega) ?_
    refine Gx_goto (tgt := 26) dX0_seedlings_21 (by decide) ?_
    refine Gx_ireturn dX0_seedlings_26 trivial ?_
    first
    | exact k1 v1 m l hml hS
    | exact k0 hno v1 hS
  · refine Gx_if_eq (tgt := 24) dX0_seedlings_4 (by decide) (fun _ => ?_) (fun hz => absurd hz (by decide))
    refine Gx_bipush dX0_seedlings_24 ⟨by decide, by decide⟩ ?_
    refine Gx_ireturn dX0_seedlings_26 trivial ?_
    first
    | exact k1 v1 m l hml hS
    | exact k0 hno v1 hS
set_option maxHeartbeats 1000000 in
theorem ct_X0_gain {x : Int} (hH : aHy v (gHd K)) (kB : ¬ (0 ≤ x ∧ x < v 0 32) → Q (0, -1) v (gHd K) t) (k1 : 0 ≤ x ∧ x < v 0 32 → ∀ (v1 : gM) (m l : Nat), oHas (aN v (gHd K) 17) m l → aScr v v1 → Q (0, 1) (tFrac v1 (yTot (yG1 x) (yIt (aN v (gHd K) 17) m) l) l) (gHd K) t) (k0 : 0 ≤ x ∧ x < v 0 32 → oNo (aN v (gHd K) 17) → ∀ v1, aScr v v1 → Q (0, -6) v1 (gHd K) t) : Ctr Γ mX0_gain [(2, 0), (0, x)] v (gHd K) t Q := by
  refine Ctr.ofG (ls := [(2, 0), (0, x)]) rfl rfl rfl rfl rfl ?_
  refine Gx_aload_n (i := 0) dX0_gain_0 rfl rfl ?_
  refine Gx_iload_n (i := 1) dX0_gain_1 rfl rfl ?_
  refine cl_X0_330 dX0_gain_2 rfl rfl ⟨(Nat.le_of_ble_eq_true rfl), (Nat.le_of_ble_eq_true rfl)⟩ rfl ?_
  refine ct_X0_isTree hH.2.1.2.2.1 (fun hx => ?_) (fun hx => ?_)
  · refine Gx_if_ne (tgt := 10) dX0_gain_5 (by decide) (fun _ => ?_) (fun hz => absurd hz (by decide))
    refine Gx_aload_n (i := 0) dX0_gain_10 rfl rfl ?_
    refine cl_X0_477 dX0_gain_11 rfl rfl ⟨(Nat.le_of_ble_eq_true rfl), (Nat.le_of_ble_eq_true rfl)⟩ rfl ?_
    refine ct_X0_goR hH (fun v1 m l hml hS e41 e42 l1 l2 hA e44 hu q33 q22 b46 bO bP => ?_) (fun hno v1 hS => ?_)
    · have h32 := hu.2.2.1
      rw [q33] at h32
      have w32 : v1 0 32 = v 0 32 := hS 0 32 (by omega)
      have s34 := (hA.2.2.2.2.2.1 x hx.1 (by omega)).2
      refine Gx_if_eq (tgt := 36) dX0_gain_14 (by decide) (fun hz => absurd hz (by decide)) (fun _ => ?_)
      refine Gx_aload_n (i := 0) dX0_gain_17 rfl rfl ?_
      refine Gx_aload_n (i := 0) dX0_gain_18 rfl rfl ?_
      refine gf_X0_117_20 dX0_gain_19 rfl rfl ?_
      refine Gx_iload_n (i := 1) dX0_gain_22 rfl rfl ?_
      refine Gx_laload dX0_gain_23 rfl (by first | omega | (simp (disch := omega) only [w32_id]; omega)) ?_
      refine Gx_aload_n (i := 0) dX0_gain_24 rfl rfl ?_
      refine gf_X0_442_20 dX0_gain_25 rfl rfl ?_
      refine Gx_i2l dX0_gain_28 ?_
      refine Gx_iconst ⟨by decide, by decide⟩ dX0_gain_29 ?_
      refine cl_X0_484 dX0_gain_30 rfl rfl ⟨(Nat.le_of_ble_eq_true rfl), (Nat.le_of_ble_eq_true rfl)⟩ rfl ?_
      rw [s34, e42]
      refine ct_X0_tell (by omega) ?_
      refine Gx_goto (tgt := 38) dX0_gain_33 (by decide) ?_
      refine Gx_ireturn dX0_gain_38 trivial ?_
      first
      | exact kB hx
      | exact k0 hx hno v1 hS
      | exact k1 hx v1 m l hml hS
    · refine Gx_if_eq (tgt := 36) dX0_gain_14 (by decide) (fun _ => ?_) (fun hz => absurd hz (by decide))
      refine Gx_bipush dX0_gain_36 ⟨by decide, by decide⟩ ?_
      refine Gx_ireturn dX0_gain_38 trivial ?_
      first
      | exact kB hx
      | exact k0 hx hno v1 hS
      | exact k1 hx v1 m l hml hS
  · refine Gx_if_ne (tgt := 10) dX0_gain_5 (by decide) (fun hz => absurd hz (by decide)) (fun _ => ?_)
    refine Gx_iconst ⟨by decide, by decide⟩ dX0_gain_8 ?_
    refine Gx_ireturn dX0_gain_9 trivial ?_
    first
    | exact kB hx
    | exact k0 hx hno v1 hS
    | exact k1 hx v1 m l hml hS
set_option maxHeartbeats 1000000 in
theorem ct_X0_starve {x : Int} (hH : aHy v (gHd K)) (kB : ¬ (0 ≤ x ∧ x < v 0 12) → Q (0, -1) v (gHd K) t) (k1 : 0 ≤ x ∧ x < v 0 12 → ∀ (v1 : gM) (m l : Nat), oHas (aN v (gHd K) 17) m l → aScr v v1 → Q (0, yTot (yS1 x) (yIt (aN v (gHd K) 17) m) l) v1 (gHd K) t) (k0 : 0 ≤ x ∧ x < v 0 12 → oNo (aN v (gHd K) 17) → ∀ v1, aScr v v1 → Q (0, -6) v1 (gHd K) t) : Ctr Γ mX0_starve [(2, 0), (0, x)] v (gHd K) t Q := by
  refine Ctr.ofG (ls := [(2, 0), (0, x)]) rfl rfl rfl rfl rfl ?_
  refine Gx_aload_n (i := 0) dX0_starve_0 rfl rfl ?_
  refine Gx_iload_n (i := 1) dX0_starve_1 rfl rfl ?_
  refine cl_X0_336 dX0_starve_2 rfl rfl ⟨(Nat.le_of_ble_eq_true rfl), (Nat.le_of_ble_eq_true rfl)⟩ rfl ?_
  refine ct_X0_areEaters hH.2.1.2.2.2.2.1.1 (fun hx => ?_) (fun hx => ?_)
  · refine Gx_if_ne (tgt := 10) dX0_starve_5 (by decide) (fun _ => ?_) (fun hz => absurd hz (by decide))
    refine Gx_aload_n (i := 0) dX0_starve_10 rfl rfl ?_
    refine cl_X0_477 dX0_starve_11 rfl rfl ⟨(Nat.le_of_ble_eq_true rfl), (Nat.le_of_ble_eq_true rfl)⟩ rfl ?_
    refine ct_X0_goR hH (fun v1 m l hml hS e41 e42 l1 l2 hA e44 hu q33 q22 b46 bO bP => ?_) (fun hno v1 hS => ?_)
    · have h12 := hH.2.1.2.2.2.2.1.1
      rw [aN_c22] at h12
      have s35 := hA.2.2.2.2.2.2.1 x hx.1 (by omega)
      refine Gx_if_eq (tgt := 26) dX0_starve_14 (by decide) (fun hz => absurd hz (by decide)) (fun _ => ?_)
      refine Gx_aload_n (i := 0) dX0_starve_17 rfl rfl ?_
      refine gf_X0_120_20 dX0_starve_18 rfl rfl ?_
      refine Gx_iload_n (i := 1) dX0_starve_21 rfl rfl ?_
      refine Gx_iaload dX0_starve_22 rfl (by first | omega | (simp (disch := omega) only [w32_id]; omega)) ?_
      rw [s35]
      refine Gx_goto (tgt := 28) dX0_starve_23 (by decide) ?_
      refine Gx_ireturn dX0_starve_28 trivial ?_
      first
      | exact kB hx
      | exact k0 hx hno v1 hS
      | exact k1 hx v1 m l hml hS
    · refine Gx_if_eq (tgt := 26) dX0_starve_14 (by decide) (fun _ => ?_) (fun hz => absurd hz (by decide))
      refine Gx_bipush dX0_starve_26 ⟨by decide, by decide⟩ ?_
      refine Gx_ireturn dX0_starve_28 trivial ?_
      first
      | exact kB hx
      | exact k0 hx hno v1 hS
      | exact k1 hx v1 m l hml hS
  · refine Gx_if_ne (tgt := 10) dX0_starve_5 (by decide) (fun hz => absurd hz (by decide)) (fun _ => ?_)
    refine Gx_iconst ⟨by decide, by decide⟩ dX0_starve_8 ?_
    refine Gx_ireturn dX0_starve_9 trivial ?_
    first
    | exact kB hx
    | exact k0 hx hno v1 hS
    | exact k1 hx v1 m l hml hS
end
