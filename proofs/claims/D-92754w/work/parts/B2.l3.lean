/-! The law, 3: the operations over the ring -/
section LC
variable {Γ : gC} {v v1 v2 : gM} {K K1 : gH} {h h1 : gH} {t : Nat}
theorem lCs (H : lB v h) (e : lAm v v1) : v1 38 20 = (h (v 0 7)).2 ∧ v1 38 22 = v 0 12 ∧ v1 38 28 = (h (v 0 8)).2 ∧ v1 38 31 = v 17 2 ∧ v1 38 33 = v 0 32 ∧ v1 38 26 = v 0 10 ∧ v1 38 27 = v 0 11 := by
  obtain ⟨h20, h22, h26, h27, h28, h31, h33⟩ := H.1.2.2.2.1.1
  refine ⟨?_, ?_, ?_, ?_, ?_, ?_, ?_⟩
  · rw [e 38 20 (by omega) (by omega)]; exact h20
  · rw [e 38 22 (by omega) (by omega)]; exact h22
  · rw [e 38 28 (by omega) (by omega)]; exact h28
  · rw [e 38 31 (by omega) (by omega)]; exact h31
  · rw [e 38 33 (by omega) (by omega)]; exact h33
  · rw [e 38 26 (by omega) (by omega)]; exact h26
  · rw [e 38 27 (by omega) (by omega)]; exact h27
theorem lMC (H : lB v h) (e : lAm v v1) : (yOK v1 ∧ v1 38 31 ≤ 9999 ∧ mN v1 = mN v ∧ oSz v1 ∧ oTz v1) ∧ v1 38 20 = (h (v 0 7)).2 ∧ v1 38 22 = v 0 12 ∧ v1 38 28 = (h (v 0 8)).2 ∧ v1 38 31 = v 17 2 ∧ v1 38 33 = v 0 32 ∧ v1 38 26 = v 0 10 ∧ v1 38 27 = v 0 11 := ⟨lMok H e, lCs H e⟩
theorem lAm_rfl : lAm v v := fun _ _ _ _ => rfl
theorem lKu {n : Nat × Int} : ∀ a, a < (t : Int) → gHd (gUpH K t n) a = gHd K a := fun a ha => gHd_ne (by omega)
set_option maxHeartbeats 1000000 in
theorem op_ring  (H : RA v (gHd K)) (hT : gTop (gHd K) t) : lOp Γ mX0_ring mX2_ring [] 0 v (gHd K) t := by
  have hN := lB_N H.1
  have hok := lB_ok H.1
  have h66 := gHd_66 hT
  have hH := lB_hy H.1
  unfold lOp
  refine ct_X0_ring hH (fun v1 m l hO hS => ?_) (fun hO v1 hS => ?_)
  · rw [hN] at hO
    refine ⟨_, rfl, rfl, ?_⟩
    obtain ⟨⟨ok, y9, eN, sz, tz⟩, c20, c22, c28, c31, c33, c26, c27⟩ := lMC H.1 (lAm_up (lAm_of h66 (lAs_sc hS)))
    refine ct_X2_ring ok y9 (fun v2 m' l' g1 g2 hS' => ?_) (fun hO' v2 hS' => absurd hO.2 (hO' _ _ (by rw [eN]; exact hO.1)))
    rw [eN] at g1
    obtain ⟨rfl, rfl⟩ := oHas_u (yOK_N hok) hO ⟨g1, g2⟩
    exact ⟨rfl, K, rfl, lRA_ask H hT lKr (lAs_sc hS) (lMs_sc hS')⟩
  · rw [hN] at hO
    refine ⟨_, rfl, rfl, ?_⟩
    obtain ⟨⟨ok, y9, eN, sz, tz⟩, c20, c22, c28, c31, c33, c26, c27⟩ := lMC H.1 (lAm_of h66 (lAs_sc hS))
    refine ct_X2_ring ok y9 (fun v2 m' l' g1 g2 hS' => absurd g2 (hO m' l' (by rw [← eN]; exact g1))) (fun hO' v2 hS' => ?_)
    exact ⟨rfl, K, rfl, lRA_sc H hT lKr (lAs_sc hS) (lMs_sc hS')⟩
set_option maxHeartbeats 1000000 in
theorem op_masts  (H : RA v (gHd K)) (hT : gTop (gHd K) t) : lOp Γ mX0_masts mX2_masts [] 0 v (gHd K) t := by
  have hN := lB_N H.1
  have hok := lB_ok H.1
  have h66 := gHd_66 hT
  have hH := lB_hy H.1
  unfold lOp
  refine ct_X0_masts hH (fun v1 m l hO hS => ?_) (fun hO v1 hS => ?_)
  · rw [hN] at hO
    try rw [hN]
    refine ⟨_, rfl, rfl, ?_⟩
    obtain ⟨⟨ok, y9, eN, sz, tz⟩, c20, c22, c28, c31, c33, c26, c27⟩ := lMC H.1 (lAm_up (lAm_of h66 (lAs_sc hS)))
    refine ct_X2_masts ok y9 (fun v2 m' l' hO' hS' => ?_) (fun hO' v2 hS' => absurd hO.2 (hO' _ _ (by rw [eN]; exact hO.1)))
    rw [eN] at hO'
    obtain ⟨rfl, rfl⟩ := oHas_u (yOK_N hok) hO hO'
    try rw [eN]
    exact ⟨rfl, K, rfl, lRA_ask H hT lKr (lAs_sc hS) (lMs_sc hS')⟩
  · rw [hN] at hO
    refine ⟨_, rfl, rfl, ?_⟩
    obtain ⟨⟨ok, y9, eN, sz, tz⟩, c20, c22, c28, c31, c33, c26, c27⟩ := lMC H.1 (lAm_of h66 (lAs_sc hS))
    refine ct_X2_masts ok y9 (fun v2 m' l' hO' hS' => absurd hO'.2 (hO m' l' (by rw [← eN]; exact hO'.1))) (fun hO' v2 hS' => ?_)
    exact ⟨rfl, K, rfl, lRA_sc H hT lKr (lAs_sc hS) (lMs_sc hS')⟩
set_option maxHeartbeats 1000000 in
theorem op_together  (H : RA v (gHd K)) (hT : gTop (gHd K) t) : lOp Γ mX0_together mX2_together [] 0 v (gHd K) t := by
  have hN := lB_N H.1
  have hok := lB_ok H.1
  have h66 := gHd_66 hT
  have hH := lB_hy H.1
  unfold lOp
  refine ct_X0_together hH (fun v1 m l hO hS => ?_) (fun hO v1 hS => ?_)
  · rw [hN] at hO ⊢
    refine ⟨fun hz => ⟨_, rfl, rfl, ?_⟩, fun hz => ⟨_, rfl, rfl, ?_⟩⟩
    · obtain ⟨⟨ok, y9, eN, sz, tz⟩, c20, c22, c28, c31, c33, c26, c27⟩ := lMC H.1 (lAm_met (lAm_of h66 (lAs_sc hS)))
      refine ct_X2_together ok y9 (fun v2 m' l' hO' hS' => ?_) (fun hO' v2 hS' => absurd hO.2 (hO' _ _ (by rw [eN]; exact hO.1)))
      rw [eN] at hO' ⊢
      obtain ⟨rfl, rfl⟩ := oHas_u (yOK_N hok) hO hO'
      exact ⟨fun _ => ⟨rfl, K, rfl, lRA_met (by decide) H hT lKr (lAs_sc hS) (lMs_sc hS')⟩, fun hz' => absurd hz hz'⟩
    · obtain ⟨⟨ok, y9, eN, sz, tz⟩, c20, c22, c28, c31, c33, c26, c27⟩ := lMC H.1 (lAm_frac (lAm_of h66 (lAs_sc hS)))
      refine ct_X2_together ok y9 (fun v2 m' l' hO' hS' => ?_) (fun hO' v2 hS' => absurd hO.2 (hO' _ _ (by rw [eN]; exact hO.1)))
      rw [eN] at hO' ⊢
      obtain ⟨rfl, rfl⟩ := oHas_u (yOK_N hok) hO hO'
      exact ⟨fun hz' => absurd hz' hz, fun _ => ⟨rfl, K, rfl, lRA_frac H hT lKr (lAs_sc hS) (lMs_sc hS')⟩⟩
  · rw [hN] at hO
    refine ⟨_, rfl, rfl, ?_⟩
    obtain ⟨⟨ok, y9, eN, sz, tz⟩, c20, c22, c28, c31, c33, c26, c27⟩ := lMC H.1 (lAm_of h66 (lAs_sc hS))
    refine ct_X2_together ok y9 (fun v2 m' l' hO' hS' => absurd hO'.2 (hO m' l' (by rw [← eN]; exact hO'.1))) (fun hO' v2 hS' => ?_)
    exact ⟨rfl, K, rfl, lRA_sc H hT lKr (lAs_sc hS) (lMs_sc hS')⟩
set_option maxHeartbeats 1000000 in
theorem op_share {x : Int} (H : RA v (gHd K)) (hT : gTop (gHd K) t) : lOp Γ mX0_share mX2_share [(0, x)] 0 v (gHd K) t := by
  have hN := lB_N H.1
  have hok := lB_ok H.1
  have h66 := gHd_66 hT
  have hH := lB_hy H.1
  unfold lOp
  refine ct_X0_share hH (fun hx => ?_) (fun hx v1 m l hO hS => ?_) (fun hx hO v1 hS => ?_)
  · refine ⟨_, rfl, rfl, ?_⟩
    obtain ⟨⟨ok, y9, eN, sz, tz⟩, c20, c22, c28, c31, c33, c26, c27⟩ := lMC H.1 lAm_rfl
    refine ct_X2_share ok y9 (fun _ => ⟨rfl, K, rfl, H⟩) (fun hx' => absurd hx' (by omega)) (fun hx' => absurd hx' (by omega))
  · rw [hN] at hO ⊢
    refine ⟨fun hz => ⟨_, rfl, rfl, ?_⟩, fun hz => ⟨_, rfl, rfl, ?_⟩⟩
    · obtain ⟨⟨ok, y9, eN, sz, tz⟩, c20, c22, c28, c31, c33, c26, c27⟩ := lMC H.1 (lAm_met (lAm_of h66 (lAs_sc hS)))
      refine ct_X2_share ok y9 (fun hx' => absurd hx (by omega)) (fun _ v2 m' l' hO' hS' => ?_) (fun _ hO' v2 hS' => absurd hO.2 (hO' _ _ (by rw [eN]; exact hO.1)))
      rw [eN] at hO' ⊢
      obtain ⟨rfl, rfl⟩ := oHas_u (yOK_N hok) hO hO'
      exact ⟨fun _ => ⟨rfl, K, rfl, lRA_met (by decide) H hT lKr (lAs_sc hS) (lMs_sc hS')⟩, fun hz' => absurd hz hz'⟩
    · obtain ⟨⟨ok, y9, eN, sz, tz⟩, c20, c22, c28, c31, c33, c26, c27⟩ := lMC H.1 (lAm_frac (lAm_of h66 (lAs_sc hS)))
      refine ct_X2_share ok y9 (fun hx' => absurd hx (by omega)) (fun _ v2 m' l' hO' hS' => ?_) (fun _ hO' v2 hS' => absurd hO.2 (hO' _ _ (by rw [eN]; exact hO.1)))
      rw [eN] at hO' ⊢
      obtain ⟨rfl, rfl⟩ := oHas_u (yOK_N hok) hO hO'
      exact ⟨fun hz' => absurd hz' hz, fun _ => ⟨rfl, K, rfl, lRA_frac H hT lKr (lAs_sc hS) (lMs_sc hS')⟩⟩
  · rw [hN] at hO
    refine ⟨_, rfl, rfl, ?_⟩
    obtain ⟨⟨ok, y9, eN, sz, tz⟩, c20, c22, c28, c31, c33, c26, c27⟩ := lMC H.1 (lAm_of h66 (lAs_sc hS))
    refine ct_X2_share ok y9 (fun hx' => absurd hx (by omega)) (fun _ v2 m' l' hO' hS' => absurd hO'.2 (hO m' l' (by rw [← eN]; exact hO'.1))) (fun _ hO' v2 hS' => ?_)
    exact ⟨rfl, K, rfl, lRA_sc H hT lKr (lAs_sc hS) (lMs_sc hS')⟩
set_option maxHeartbeats 1000000 in
theorem op_seedlings  (H : RA v (gHd K)) (hT : gTop (gHd K) t) : lOp Γ mX0_seedlings mX2_seedlings [] 0 v (gHd K) t := by
  have hN := lB_N H.1
  have hok := lB_ok H.1
  have h66 := gHd_66 hT
  have hH := lB_hy H.1
  unfold lOp
  refine ct_X0_seedlings hH (fun v1 m l hO hS => ?_) (fun hO v1 hS => ?_)
  · rw [hN] at hO
    try rw [hN]
    refine ⟨_, rfl, rfl, ?_⟩
    obtain ⟨⟨ok, y9, eN, sz, tz⟩, c20, c22, c28, c31, c33, c26, c27⟩ := lMC H.1 (lAm_frac (lAm_of h66 (lAs_sc hS)))
    refine ct_X2_seedlings ok y9 (fun v2 m' l' hO' hS' => ?_) (fun hO' v2 hS' => absurd hO.2 (hO' _ _ (by rw [eN]; exact hO.1)))
    rw [eN] at hO'
    obtain ⟨rfl, rfl⟩ := oHas_u (yOK_N hok) hO hO'
    try rw [eN]
    exact ⟨rfl, K, rfl, lRA_frac H hT lKr (lAs_sc hS) (lMs_sc hS')⟩
  · rw [hN] at hO
    refine ⟨_, rfl, rfl, ?_⟩
    obtain ⟨⟨ok, y9, eN, sz, tz⟩, c20, c22, c28, c31, c33, c26, c27⟩ := lMC H.1 (lAm_of h66 (lAs_sc hS))
    refine ct_X2_seedlings ok y9 (fun v2 m' l' hO' hS' => absurd hO'.2 (hO m' l' (by rw [← eN]; exact hO'.1))) (fun hO' v2 hS' => ?_)
    exact ⟨rfl, K, rfl, lRA_sc H hT lKr (lAs_sc hS) (lMs_sc hS')⟩
set_option maxHeartbeats 1000000 in
theorem op_gain {x : Int} (H : RA v (gHd K)) (hT : gTop (gHd K) t) : lOp Γ mX0_gain mX2_gain [(0, x)] 0 v (gHd K) t := by
  have hN := lB_N H.1
  have hok := lB_ok H.1
  have h66 := gHd_66 hT
  have hH := lB_hy H.1
  unfold lOp
  refine ct_X0_gain hH (fun hx => ?_) (fun hx v1 m l hO hS => ?_) (fun hx hO v1 hS => ?_)
  · refine ⟨_, rfl, rfl, ?_⟩
    obtain ⟨⟨ok, y9, eN, sz, tz⟩, c20, c22, c28, c31, c33, c26, c27⟩ := lMC H.1 lAm_rfl
    refine ct_X2_gain ok y9 (fun _ => ⟨rfl, K, rfl, H⟩) (fun hx' => absurd hx' (by omega)) (fun hx' => absurd hx' (by omega))
  · rw [hN] at hO
    try rw [hN]
    refine ⟨_, rfl, rfl, ?_⟩
    obtain ⟨⟨ok, y9, eN, sz, tz⟩, c20, c22, c28, c31, c33, c26, c27⟩ := lMC H.1 (lAm_frac (lAm_of h66 (lAs_sc hS)))
    refine ct_X2_gain ok y9 (fun hx' => absurd hx (by omega)) (fun _ v2 m' l' hO' hS' => ?_) (fun _ hO' v2 hS' => absurd hO.2 (hO' _ _ (by rw [eN]; exact hO.1)))
    rw [eN] at hO'
    obtain ⟨rfl, rfl⟩ := oHas_u (yOK_N hok) hO hO'
    try rw [eN]
    exact ⟨rfl, K, rfl, lRA_frac H hT lKr (lAs_sc hS) (lMs_sc hS')⟩
  · rw [hN] at hO
    refine ⟨_, rfl, rfl, ?_⟩
    obtain ⟨⟨ok, y9, eN, sz, tz⟩, c20, c22, c28, c31, c33, c26, c27⟩ := lMC H.1 (lAm_of h66 (lAs_sc hS))
    refine ct_X2_gain ok y9 (fun hx' => absurd hx (by omega)) (fun _ v2 m' l' hO' hS' => absurd hO'.2 (hO m' l' (by rw [← eN]; exact hO'.1))) (fun _ hO' v2 hS' => ?_)
    exact ⟨rfl, K, rfl, lRA_sc H hT lKr (lAs_sc hS) (lMs_sc hS')⟩
set_option maxHeartbeats 1000000 in
theorem op_starve {x : Int} (H : RA v (gHd K)) (hT : gTop (gHd K) t) : lOp Γ mX0_starve mX2_starve [(0, x)] 0 v (gHd K) t := by
  have hN := lB_N H.1
  have hok := lB_ok H.1
  have h66 := gHd_66 hT
  have hH := lB_hy H.1
  unfold lOp
  refine ct_X0_starve hH (fun hx => ?_) (fun hx v1 m l hO hS => ?_) (fun hx hO v1 hS => ?_)
  · refine ⟨_, rfl, rfl, ?_⟩
    obtain ⟨⟨ok, y9, eN, sz, tz⟩, c20, c22, c28, c31, c33, c26, c27⟩ := lMC H.1 lAm_rfl
    refine ct_X2_starve ok y9 (fun _ => ⟨rfl, K, rfl, H⟩) (fun hx' => absurd hx' (by omega)) (fun hx' => absurd hx' (by omega))
  · rw [hN] at hO
    try rw [hN]
    refine ⟨_, rfl, rfl, ?_⟩
    obtain ⟨⟨ok, y9, eN, sz, tz⟩, c20, c22, c28, c31, c33, c26, c27⟩ := lMC H.1 (lAm_of h66 (lAs_sc hS))
    refine ct_X2_starve ok y9 (fun hx' => absurd hx (by omega)) (fun _ v2 m' l' hO' hS' => ?_) (fun _ hO' v2 hS' => absurd hO.2 (hO' _ _ (by rw [eN]; exact hO.1)))
    rw [eN] at hO'
    obtain ⟨rfl, rfl⟩ := oHas_u (yOK_N hok) hO hO'
    try rw [eN]
    exact ⟨rfl, K, rfl, lRA_sc H hT lKr (lAs_sc hS) (lMs_sc hS')⟩
  · rw [hN] at hO
    refine ⟨_, rfl, rfl, ?_⟩
    obtain ⟨⟨ok, y9, eN, sz, tz⟩, c20, c22, c28, c31, c33, c26, c27⟩ := lMC H.1 (lAm_of h66 (lAs_sc hS))
    refine ct_X2_starve ok y9 (fun hx' => absurd hx (by omega)) (fun _ v2 m' l' hO' hS' => absurd hO'.2 (hO m' l' (by rw [← eN]; exact hO'.1))) (fun _ hO' v2 hS' => ?_)
    exact ⟨rfl, K, rfl, lRA_sc H hT lKr (lAs_sc hS) (lMs_sc hS')⟩
set_option maxHeartbeats 1000000 in
theorem op_better {x s : Int} (H : RA v (gHd K)) (hT : gTop (gHd K) t) : lOp Γ mX0_better mX2_better [(0, x), (0, s)] 0 v (gHd K) t := by
  have hN := lB_N H.1
  have hok := lB_ok H.1
  have h66 := gHd_66 hT
  have hH := lB_hy H.1
  unfold lOp
  refine ct_X0_better hH (fun hx => ?_) (fun hx hs v1 m l m' l' hO hO2 hS => ?_) (fun hx hs hO v1 hS => ?_)
  · refine ⟨_, rfl, rfl, ?_⟩
    obtain ⟨⟨ok, y9, eN, sz, tz⟩, c20, c22, c28, c31, c33, c26, c27⟩ := lMC H.1 lAm_rfl
    exact ct_X2_better ok y9 (fun _ => ⟨rfl, K, rfl, H⟩) (fun hx' hs' => absurd hx' (by omega)) (fun hx' hs' => absurd hx' (by omega))
  · rw [hN] at hO hO2 ⊢
    refine ⟨_, rfl, rfl, ?_⟩
    obtain ⟨⟨ok, y9, eN, sz, tz⟩, c20, c22, c28, c31, c33, c26, c27⟩ := lMC H.1 (lAm_frac (lAm_of h66 (lAs_sc hS)))
    have d20 : v 38 20 = (gHd K (v 0 7)).2 := (lCs H.1 lAm_rfl).1
    refine ct_X2_better ok y9 (fun hx' => absurd hx' (by omega)) (fun _ _ v2 n k n' k' g1 g2 hS' => ?_) (fun _ _ hO' v2 hS' => ?_)
    · rw [eN] at g1 g2 ⊢
      obtain ⟨rfl, rfl⟩ := oHas_u (yOK_N hok) hO g1
      obtain ⟨rfl, rfl⟩ := oHas_u (yOK_57 (yOK_N hok) (by rw [mN_c (by omega)]; omega)) hO2 g2
      exact ⟨rfl, K, rfl, lRA_frac H hT lKr (lAs_sc hS) (lMs_sc hS')⟩
    · rw [eN] at hO'
      rcases hO' with z | z
      · exact absurd hO.2 (z _ _ hO.1)
      · exact absurd hO2.2 (z _ _ hO2.1)
  · rw [hN] at hO
    refine ⟨_, rfl, rfl, ?_⟩
    obtain ⟨⟨ok, y9, eN, sz, tz⟩, c20, c22, c28, c31, c33, c26, c27⟩ := lMC H.1 (lAm_of h66 (lAs_sc hS))
    refine ct_X2_better ok y9 (fun hx' => absurd hx' (by omega)) (fun _ _ v2 n k n' k' g1 g2 hS' => ?_) (fun _ _ hO' v2 hS' => ?_)
    · rw [eN] at g1 g2
      rcases hO with z | z
      · exact absurd g1.2 (z _ _ g1.1)
      · exact absurd g2.2 (z _ _ g2.1)
    · exact ⟨rfl, K, rfl, lRA_sc H hT lKr (lAs_sc hS) (lMs_sc hS')⟩
theorem lAs_lt (hs : ∀ a k, a < (t : Int) → ¬ aSq a k → v1 a k = v a k) : lAs v v1 t := fun a k ha hk => hs a k ha (by unfold aSq; omega)
set_option maxHeartbeats 1000000 in
theorem op_hold  (H : RA v (gHd K)) (hT : gTop (gHd K) t) : lOp Γ mX0_hold mX2_hold [] 0 v (gHd K) t := by
  have hN := lB_N H.1
  have hok := lB_ok H.1
  have h66 := gHd_66 hT
  have hH := lB_hy H.1
  unfold lOp
  refine ct_X0_hold hH (fun hO v1 r hS hr => ?_) (fun hO v1 hS => ?_)
  · rw [hN] at hO hr
    refine ⟨_, rfl, rfl, ?_⟩
    obtain ⟨⟨ok, y9, eN, sz, tz⟩, c20, c22, c28, c31, c33, c26, c27⟩ := lMC H.1 (lAm_of h66 (lAs_lt hS))
    refine ct_X2_hold ok y9 (fun hO' v2 r' hS' hr' => ?_) (fun hO' v2 hS' => ?_)
    · rw [eN, c33, c20] at hr'
      cases oFst_u hr hr'
      exact ⟨rfl, _, rfl, lRA_sc H hT lKu (lAs_lt hS) (lMs_sc hS')⟩
    · rw [eN] at hO'
      obtain ⟨m, l, z⟩ := hO
      exact absurd z.2 (hO' _ _ z.1)
  · rw [hN] at hO
    refine ⟨_, rfl, rfl, ?_⟩
    obtain ⟨⟨ok, y9, eN, sz, tz⟩, c20, c22, c28, c31, c33, c26, c27⟩ := lMC H.1 (lAm_of h66 (lAs_sc hS))
    refine ct_X2_hold ok y9 (fun hO' v2 r' hS' hr' => ?_) (fun hO' v2 hS' => ?_)
    · rw [eN] at hO'
      obtain ⟨m, l, z⟩ := hO'
      exact absurd z.2 (hO _ _ z.1)
    · exact ⟨rfl, K, rfl, lRA_sc H hT lKr (lAs_sc hS) (lMs_sc hS')⟩
set_option maxHeartbeats 1000000 in
theorem op_need  (H : RA v (gHd K)) (hT : gTop (gHd K) t) : lOp Γ mX0_need mX2_need [] 0 v (gHd K) t := by
  have hN := lB_N H.1
  have hok := lB_ok H.1
  have h66 := gHd_66 hT
  have hH := lB_hy H.1
  unfold lOp
  have d20 : v 38 20 = (gHd K (v 0 7)).2 := (lCs H.1 lAm_rfl).1
  have hs4 : ∀ s, 0 ≤ s → s < (gHd K (v 0 7)).2 → (aN v (gHd K) 17) 50 (7 * s) = v 50 (7 * s) := fun s s0 s1 => by rw [hN]; exact mN_S0 s0 (by omega)
  refine ct_X0_need hH H.1.1.2.2.1.1 (fun hz => ?_) (fun hz v1 r hS hr => ?_)
  · refine ⟨_, rfl, rfl, ?_⟩
    obtain ⟨⟨ok, y9, eN, sz, tz⟩, c20, c22, c28, c31, c33, c26, c27⟩ := lMC H.1 lAm_rfl
    refine ct_X2_need ok y9 (fun _ v2 hS' => ⟨rfl, K, rfl, lRA_sc H hT lKr lAs_rfl (lMs_scW hS')⟩) (fun hz' => ?_)
    obtain ⟨s, s0, s1, s2⟩ := hz'
    exact absurd ((hs4 s s0 (by omega)).trans s2) (hz s s0 (by omega))
  · rw [hN] at hr
    refine ⟨_, rfl, rfl, ?_⟩
    obtain ⟨⟨ok, y9, eN, sz, tz⟩, c20, c22, c28, c31, c33, c26, c27⟩ := lMC H.1 (lAm_of h66 (lAs_sc (t := t) hS))
    refine ct_X2_need ok y9 (fun hz' => ?_) (fun hz' v2 r' hS' hr' => ?_)
    · obtain ⟨s, s0, s1, s2⟩ := hz
      exact absurd ((lAm_of h66 (lAs_sc (t := t) hS) 50 (7 * s) (by omega) (by omega)).trans ((hs4 s s0 s1).symm.trans s2)) (hz' s s0 (by omega))
    · rw [eN] at hr'
      cases oLst_u hr hr'
      exact ⟨rfl, K, rfl, lRA_sc H hT lKr (lAs_sc hS) (lMs_scW hS')⟩
set_option maxHeartbeats 1000000 in
theorem op_lost  (H : RA v (gHd K)) (hT : gTop (gHd K) t) : lOp Γ mX0_lost mX2_lost [] 0 v (gHd K) t := by
  have hN := lB_N H.1
  have hok := lB_ok H.1
  have h66 := gHd_66 hT
  have hH := lB_hy H.1
  unfold lOp
  refine ct_X0_lost hH H.1.1.2.1 (fun m l hO hz v1 r hS hr => ?_) (fun m l hO hz v1 hS => ?_) (fun hO v1 hS => ?_)
  · rw [hN] at hO hz hr
    refine ⟨_, rfl, rfl, ?_⟩
    obtain ⟨⟨ok, y9, eN, sz, tz⟩, c20, c22, c28, c31, c33, c26, c27⟩ := lMC H.1 (lAm_of h66 (lAs_sc hS))
    refine ct_X2_lost ok y9 (fun m' l' hO' hz' v2 r' hS' hr' => ?_) (fun m' l' hO' hz' v2 hS' => ?_) (fun hO' v2 hS' => absurd hO.2 (hO' _ _ (by rw [eN]; exact hO.1)))
    · rw [eN, c28] at hr'
      cases oFst_u hr hr'
      exact ⟨rfl, K, rfl, lRA_sc H hT lKr (lAs_sc hS) (lMs_sc hS')⟩
    · rw [eN] at hO' hz'
      obtain ⟨rfl, rfl⟩ := oHas_u (yOK_N hok) hO hO'
      exact absurd hz' hz
  · rw [hN] at hO hz
    refine ⟨_, rfl, rfl, ?_⟩
    obtain ⟨⟨ok, y9, eN, sz, tz⟩, c20, c22, c28, c31, c33, c26, c27⟩ := lMC H.1 (lAm_met (lAm_of h66 (lAs_sc hS)))
    refine ct_X2_lost ok y9 (fun m' l' hO' hz' v2 r' hS' hr' => ?_) (fun m' l' hO' hz' v2 hS' => ?_) (fun hO' v2 hS' => absurd hO.2 (hO' _ _ (by rw [eN]; exact hO.1)))
    · rw [eN] at hO' hz'
      obtain ⟨rfl, rfl⟩ := oHas_u (yOK_N hok) hO hO'
      exact absurd hz hz'
    · exact ⟨rfl, K, rfl, lRA_met (by decide) H hT lKr (lAs_sc hS) (lMs_sc hS')⟩
  · rw [hN] at hO
    refine ⟨_, rfl, rfl, ?_⟩
    obtain ⟨⟨ok, y9, eN, sz, tz⟩, c20, c22, c28, c31, c33, c26, c27⟩ := lMC H.1 (lAm_of h66 (lAs_sc hS))
    refine ct_X2_lost ok y9 (fun m' l' hO' hz' v2 r' hS' hr' => absurd hO'.2 (hO m' l' (by rw [← eN]; exact hO'.1))) (fun m' l' hO' hz' v2 hS' => absurd hO'.2 (hO m' l' (by rw [← eN]; exact hO'.1))) (fun hO' v2 hS' => ?_)
    exact ⟨rfl, K, rfl, lRA_sc H hT lKr (lAs_sc hS) (lMs_sc hS')⟩
set_option maxHeartbeats 1000000 in
theorem op_step {hf n : Int} (H : RA v (gHd K)) (hT : gTop (gHd K) t) : lOp Γ mX0_step mX2_step [(0, hf), (0, n)] 0 v (gHd K) t := by
  have hN := lB_N H.1
  have hok := lB_ok H.1
  have h66 := gHd_66 hT
  have hH := lB_hy H.1
  unfold lOp
  refine ct_X0_step hH H.1.1.2.2.1.2 (fun hx => ?_) (fun hx hn v1 r hS hr => ?_)
  · refine ⟨_, rfl, rfl, ?_⟩
    obtain ⟨⟨ok, y9, eN, sz, tz⟩, c20, c22, c28, c31, c33, c26, c27⟩ := lMC H.1 lAm_rfl
    exact ct_X2_step ok y9 (fun _ => ⟨rfl, K, rfl, H⟩) (fun hx' hn' => absurd (And.intro hx' hn') (by rw [c33]; exact hx))
  · rw [hN] at hr
    refine ⟨_, rfl, rfl, ?_⟩
    obtain ⟨⟨ok, y9, eN, sz, tz⟩, c20, c22, c28, c31, c33, c26, c27⟩ := lMC H.1 (lAm_of h66 (lAs_sc (t := t) hS))
    refine ct_X2_step ok y9 (fun hx' => absurd (And.intro hx hn) (by rw [c33] at hx'; exact hx')) (fun _ _ v2 r' hS' hr' => ?_)
    rw [eN] at hr'
    cases oStp_u hr hr'
    exact ⟨rfl, K, rfl, lRA_sc H hT lKr (lAs_sc hS) (lMs_sc hS')⟩
set_option maxHeartbeats 1000000 in
theorem op_hope {n : Int} (H : RA v (gHd K)) (hT : gTop (gHd K) t) : lOp Γ mX0_hope mX2_hope [(0, n)] 0 v (gHd K) t := by
  have hN := lB_N H.1
  have hok := lB_ok H.1
  have h66 := gHd_66 hT
  have hH := lB_hy H.1
  unfold lOp
  have hch : yCh (mN v) := fun j j0 j1 => by rw [mN_at (by unfold yR; omega)]; exact H.1.1.2.2.2.2.2.1 j j0 j1
  refine ct_X0_hope hH (by rw [hN]; exact hch) (fun hx => ?_) (fun hx v1 hS => ?_)
  · refine ⟨_, rfl, rfl, ?_⟩
    obtain ⟨⟨ok, y9, eN, sz, tz⟩, c20, c22, c28, c31, c33, c26, c27⟩ := lMC H.1 lAm_rfl
    exact ct_X2_hope ok (by rw [eN]; exact hch) y9 (fun _ => ⟨rfl, K, rfl, H⟩) (fun hx' => absurd hx' hx)
  · rw [hN]
    refine ⟨_, rfl, rfl, ?_⟩
    obtain ⟨⟨ok, y9, eN, sz, tz⟩, c20, c22, c28, c31, c33, c26, c27⟩ := lMC H.1 (lAm_frac (lAm_of h66 (lAs_sc hS)))
    refine ct_X2_hope ok (by rw [eN]; exact hch) y9 (fun hx' => absurd hx hx') (fun _ v2 hS' => ?_)
    rw [eN]
    exact ⟨rfl, K, rfl, lRA_frac H hT lKr (lAs_sc hS) (lMs_sc hS')⟩
set_option maxHeartbeats 1000000 in
theorem op_plan {n q : Int} (H : RA v (gHd K)) (hT : gTop (gHd K) t) : lOp Γ mX0_plan mX2_plan [(0, n), (0, q)] 0 v (gHd K) t := by
  have hN := lB_N H.1
  have hok := lB_ok H.1
  have h66 := gHd_66 hT
  have hH := lB_hy H.1
  unfold lOp
  refine ct_X0_plan hH (fun hx => ?_) (fun hx hq hz v1 hS => ?_) (fun hx hq hz v1 hS => ?_)
  · refine ⟨_, rfl, rfl, ?_⟩
    obtain ⟨⟨ok, y9, eN, sz, tz⟩, c20, c22, c28, c31, c33, c26, c27⟩ := lMC H.1 lAm_rfl
    exact ct_X2_plan ok y9 (fun _ => ⟨rfl, K, rfl, H⟩) (fun hx' hq' => absurd (And.intro hx' hq') hx) (fun hx' hq' => absurd (And.intro hx' hq') hx)
  · rw [hN] at hz
    refine ⟨_, rfl, rfl, ?_⟩
    obtain ⟨⟨ok, y9, eN, sz, tz⟩, c20, c22, c28, c31, c33, c26, c27⟩ := lMC H.1 (lAm_of h66 (lAs_sc hS))
    refine ct_X2_plan ok y9 (fun hx' => absurd (And.intro hx hq) hx') (fun _ _ _ v2 hS' => ?_) (fun _ _ hz' => ?_)
    · exact ⟨rfl, K, rfl, lRA_sc H hT lKr (lAs_sc hS) (lMs_sc hS')⟩
    · rw [eN] at hz'
      exact absurd hz hz'
  · rw [hN] at hz ⊢
    refine ⟨_, rfl, rfl, ?_⟩
    obtain ⟨⟨ok, y9, eN, sz, tz⟩, c20, c22, c28, c31, c33, c26, c27⟩ := lMC H.1 (lAm_up (lAm_of h66 (lAs_sc hS)))
    refine ct_X2_plan ok y9 (fun hx' => absurd (And.intro hx hq) hx') (fun _ _ hz' => ?_) (fun _ _ _ v2 hS' => ?_)
    · rw [eN] at hz'
      exact absurd hz' hz
    · rw [eN]
      exact ⟨rfl, K, rfl, lRA_ask H hT lKr (lAs_sc hS) (lMs_sc hS')⟩
end LC
