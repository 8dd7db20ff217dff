/-! The law, 5: the operations that only tell -/
section LE
variable {Γ : gC} {v v1 v2 : gM} {K K1 : gH} {h h1 : gH} {t : Nat}
theorem lRo (H : lB v h) {r : Int} : 0 ≤ r ∧ r ≤ 5 → v 2 r = -1 ∨ aRo v h r (v 40 r) := fun hr => by
  rcases H.2.1.1 r hr.1 hr.2 with z | z
  · exact Or.inl z.1
  · exact Or.inr z.1
theorem lRn (H : lB v h) {r : Int} (hr : 0 ≤ r ∧ r ≤ 5) (hz : v 2 r = -1) : v 40 r = -1 := by
  rcases H.2.1.1 r hr.1 hr.2 with z | z
  · exact z.2
  · have := z.1.1
    omega
theorem lRc (H : lB v h) {r n : Int} (hr : 0 ≤ r ∧ r ≤ 5) (ho : aRo v h r n) : ∀ i, 0 ≤ i → i < v 40 r → v (v 2 r) i = v 41 (80 * r + i) := by
  rcases H.2.1.1 r hr.1 hr.2 with z | z
  · have := ho.1
    omega
  · exact z.2
theorem lXo (H : lB v h) {r : Int} : 0 ≤ r ∧ r ≤ 3 → v 3 r = -1 ∨ aTo v h (v 3 r) (v 43 r) (mB v r) := fun hr => by
  rcases H.2.2.1.1 r hr.1 hr.2 with z | ⟨⟨z1, z2, z3⟩, z4, -⟩
  · exact Or.inl z.1
  · refine Or.inr ⟨z2, z1, z3, fun i i0 => ?_⟩
    unfold mB sByte
    by_cases c : i < v 43 r
    · rw [if_pos c, if_pos c, z4 i i0 c]
    · rw [if_neg c, if_neg c]
theorem lXe (H : lB v h) {r : Int} : 0 ≤ r ∧ r ≤ 3 → v 3 r = -1 ∨ aTe v h r (v 43 r) := fun hr => by
  rcases H.2.2.1.1 r hr.1 hr.2 with z | ⟨⟨z1, z2, z3⟩, z4, -⟩
  · exact Or.inl z.1
  · exact Or.inr ⟨z1, z2, z3⟩
theorem lXn (H : lB v h) {r : Int} (hr : 0 ≤ r ∧ r ≤ 3) (hz : v 3 r = -1) : v 43 r = -1 := by
  rcases H.2.2.1.1 r hr.1 hr.2 with z | z
  · exact z.2
  · have := z.1.1
    omega
theorem lXc (H : lB v h) {r : Int} (hr : 0 ≤ r ∧ r ≤ 3) (ho : 66 ≤ v 3 r) : (0 ≤ v 43 r ∧ v 43 r ≤ 80) ∧ (∀ i, 0 ≤ i → i < v 43 r → v (v 3 r) i = v 44 (80 * r + i)) ∧ v 3 r ≠ v 0 8 ∧ ∀ s, 0 ≤ s → s < (h (v 0 7)).2 → v (v (v 0 7) s) 0 ≠ v 3 r := by
  rcases H.2.2.1.1 r hr.1 hr.2 with z | ⟨⟨z1, z2, z3⟩, z4⟩
  · omega
  · exact ⟨z3, z4⟩
theorem lSi (H : lB v h) : ∀ i, 0 ≤ i → i < v 0 32 → 0 ≤ v (v 16 i) 0 ∧ v (v 16 i) 0 < (h (v 0 7)).2 := fun i i0 i1 => by
  obtain ⟨⟨h20, h22, h26, h27, h28, h31, h33⟩, h50, hE, h54, h55, hTr⟩ := H.1.2.2.2.1
  have := ((lB_ok H).2.2.2.1 i i0 (by omega)).1
  rw [(hTr i i0 i1).1] at this
  omega
set_option maxHeartbeats 1000000 in
theorem op_asked  (H : RA v (gHd K)) (hT : gTop (gHd K) t) : lOp Γ mX0_asked mX2_asked [] 0 v (gHd K) t := by
  have hN := lB_N H.1
  have hok := lB_ok H.1
  have h66 := gHd_66 hT
  have hH := lB_hy H.1
  obtain ⟨d20, d22, d28, d31, d33, d26, d27⟩ := lCs H.1 (lAm_rfl (v := v))
  obtain ⟨o1, o2, o3, o4, o5, o6, o7, o8, o9, o10⟩ := id hok
  have o5 := o5.1
  obtain ⟨-, -, -, sz, tz⟩ := lMok H.1 (lAm_rfl (v := v))
  unfold lOp
  exact ct_X0_asked ⟨_, rfl, rfl, ct_X2_asked ⟨by rw [H.2.2.2.1], K, rfl, H⟩⟩
set_option maxHeartbeats 1000000 in
theorem op_upper  (H : RA v (gHd K)) (hT : gTop (gHd K) t) : lOp Γ mX0_upper mX2_upper [] 1 v (gHd K) t := by
  have hN := lB_N H.1
  have hok := lB_ok H.1
  have h66 := gHd_66 hT
  have hH := lB_hy H.1
  obtain ⟨d20, d22, d28, d31, d33, d26, d27⟩ := lCs H.1 (lAm_rfl (v := v))
  obtain ⟨o1, o2, o3, o4, o5, o6, o7, o8, o9, o10⟩ := id hok
  have o5 := o5.1
  obtain ⟨-, -, -, sz, tz⟩ := lMok H.1 (lAm_rfl (v := v))
  unfold lOp
  exact ct_X0_upper ⟨_, rfl, rfl, ct_X2_upper ⟨by rw [H.2.2.2.2.1], K, rfl, H⟩⟩
set_option maxHeartbeats 1000000 in
theorem op_lower  (H : RA v (gHd K)) (hT : gTop (gHd K) t) : lOp Γ mX0_lower mX2_lower [] 1 v (gHd K) t := by
  have hN := lB_N H.1
  have hok := lB_ok H.1
  have h66 := gHd_66 hT
  have hH := lB_hy H.1
  obtain ⟨d20, d22, d28, d31, d33, d26, d27⟩ := lCs H.1 (lAm_rfl (v := v))
  obtain ⟨o1, o2, o3, o4, o5, o6, o7, o8, o9, o10⟩ := id hok
  have o5 := o5.1
  obtain ⟨-, -, -, sz, tz⟩ := lMok H.1 (lAm_rfl (v := v))
  unfold lOp
  exact ct_X0_lower ⟨_, rfl, rfl, ct_X2_lower ⟨by rw [H.2.2.2.2.2], K, rfl, H⟩⟩
set_option maxHeartbeats 1000000 in
theorem op_finding  (H : RA v (gHd K)) (hT : gTop (gHd K) t) : lOp Γ mX0_finding mX2_finding [] 0 v (gHd K) t := by
  have hN := lB_N H.1
  have hok := lB_ok H.1
  have h66 := gHd_66 hT
  have hH := lB_hy H.1
  obtain ⟨d20, d22, d28, d31, d33, d26, d27⟩ := lCs H.1 (lAm_rfl (v := v))
  obtain ⟨o1, o2, o3, o4, o5, o6, o7, o8, o9, o10⟩ := id hok
  have o5 := o5.1
  obtain ⟨-, -, -, sz, tz⟩ := lMok H.1 (lAm_rfl (v := v))
  unfold lOp
  exact ct_X0_finding ⟨_, rfl, rfl, ct_X2_finding ⟨by rw [H.2.1], K, rfl, H⟩⟩
set_option maxHeartbeats 1000000 in
theorem op_findings {f : Int} (H : RA v (gHd K)) (hT : gTop (gHd K) t) : lOp Γ mX0_findings mX2_findings [(0, f)] 0 v (gHd K) t := by
  have hN := lB_N H.1
  have hok := lB_ok H.1
  have h66 := gHd_66 hT
  have hH := lB_hy H.1
  obtain ⟨d20, d22, d28, d31, d33, d26, d27⟩ := lCs H.1 (lAm_rfl (v := v))
  obtain ⟨o1, o2, o3, o4, o5, o6, o7, o8, o9, o10⟩ := id hok
  have o5 := o5.1
  obtain ⟨-, -, -, sz, tz⟩ := lMok H.1 (lAm_rfl (v := v))
  unfold lOp
  exact ct_X0_findings (fun hf => ⟨_, rfl, rfl, ct_X2_findings ⟨by rw [if_pos hf, H.2.2.1 f hf.1 hf.2], K, rfl, H⟩⟩) (fun hf => ⟨_, rfl, rfl, ct_X2_findings ⟨by rw [if_neg hf], K, rfl, H⟩⟩)
set_option maxHeartbeats 1000000 in
theorem op_count {q : Int} (H : RA v (gHd K)) (hT : gTop (gHd K) t) : lOp Γ mX0_count mX2_count [(0, q)] 0 v (gHd K) t := by
  have hN := lB_N H.1
  have hok := lB_ok H.1
  have h66 := gHd_66 hT
  have hH := lB_hy H.1
  obtain ⟨d20, d22, d28, d31, d33, d26, d27⟩ := lCs H.1 (lAm_rfl (v := v))
  obtain ⟨o1, o2, o3, o4, o5, o6, o7, o8, o9, o10⟩ := id hok
  have o5 := o5.1
  obtain ⟨-, -, -, sz, tz⟩ := lMok H.1 (lAm_rfl (v := v))
  unfold lOp
  refine ct_X0_count (fun r r0 r1 => by rcases lRo H.1 (r := r) (by omega) with z | z <;> omega) (fun r r0 r1 => by rcases lXe H.1 (r := r) (by omega) with z | z <;> omega) hH.1 (by omega) (lSi H.1) (fun hq => ⟨_, rfl, rfl, ct_X2_count (by omega) (fun i i0 i1 => by have := (o4 i i0 i1).1; omega) ⟨?_, K, rfl, H⟩⟩) (fun hq => ⟨_, rfl, rfl, ct_X2_count (by omega) (fun i i0 i1 => by have := (o4 i i0 i1).1; omega) ⟨?_, K, rfl, H⟩⟩)
  · unfold sCount
    rw [if_pos hq, lCnt H.1 lAm_rfl hq]
  · unfold sCount
    rw [if_neg hq]
set_option maxHeartbeats 1000000 in
theorem op_digest  (H : RA v (gHd K)) (hT : gTop (gHd K) t) : lOp Γ mX0_digest mX2_digest [] 1 v (gHd K) t := by
  have hN := lB_N H.1
  have hok := lB_ok H.1
  have h66 := gHd_66 hT
  have hH := lB_hy H.1
  obtain ⟨d20, d22, d28, d31, d33, d26, d27⟩ := lCs H.1 (lAm_rfl (v := v))
  obtain ⟨o1, o2, o3, o4, o5, o6, o7, o8, o9, o10⟩ := id hok
  have o5 := o5.1
  obtain ⟨-, -, -, sz, tz⟩ := lMok H.1 (lAm_rfl (v := v))
  unfold lOp
  have hTb := aTb_of (x := 17) hH.2.1
  refine ct_X0_digest hH.1 hTb (by omega) (by omega) (by omega) (lSi H.1) (fun r r0 r1 => ?_) (fun r r0 r1 => ?_) ⟨_, rfl, rfl, ?_⟩
  · rcases lRo H.1 (r := r) (by omega) with z | ⟨z1, z2, z3⟩
    · exact Or.inl z
    · exact Or.inr ⟨z1, by rw [z2], by rw [z2]; exact z3⟩
  · rcases lXe H.1 (r := r) (by omega) with z | ⟨z1, z2, z3⟩
    · exact Or.inl z
    · exact Or.inr ⟨z1, by rw [z2], by rw [z2]; exact z3⟩
  · have eM : lAm v (gUp v 0 53 (aDig v (gHd K))) := lAm_up lAm_rfl
    obtain ⟨ok, y9, eN, sz, tz⟩ := lMok H.1 eM
    obtain ⟨p1, p2, p3, p4, p5, p6, p7, p8, p9, p10⟩ := id ok
    refine ct_X2_digest p1 p5.1 (by omega) p3 sz tz (fun i i0 i1 => by have := (p4 i i0 i1).1; omega) ⟨?_, K, rfl, lRA_sc H hT lKr (v1 := gUp v 0 53 (aDig v (gHd K))) (fun a k ha hk => gUp_ne2 (by omega)) (fun a k hk => gUp_ne2 (by omega))⟩
    rw [lDig H.1 eM]
set_option maxHeartbeats 1000000 in
theorem op_about {s q : Int} (H : RA v (gHd K)) (hT : gTop (gHd K) t) : lOp Γ mX0_about mX2_about [(0, s), (0, q)] 0 v (gHd K) t := by
  have hN := lB_N H.1
  have hok := lB_ok H.1
  have h66 := gHd_66 hT
  have hH := lB_hy H.1
  obtain ⟨d20, d22, d28, d31, d33, d26, d27⟩ := lCs H.1 (lAm_rfl (v := v))
  obtain ⟨o1, o2, o3, o4, o5, o6, o7, o8, o9, o10⟩ := id hok
  have o5 := o5.1
  obtain ⟨-, -, -, sz, tz⟩ := lMok H.1 (lAm_rfl (v := v))
  unfold lOp
  refine ct_X0_about hH.1 (fun hb => ⟨_, rfl, rfl, ct_X2_about o1 ?_⟩) (fun hs hq => ⟨_, rfl, rfl, ?_⟩)
  · have e : sAbout v s q = (-1, v) := by
      unfold sAbout
      rw [if_neg (by omega)]
    rw [e]
    exact ⟨rfl, K, rfl, H⟩
  · generalize hx : (if q < 3 then v (v (v (v 0 7) s) 0) q else aKd (gHd K (v (v 0 7) s)).1) = x
    have eM : lAm v (gUp v 0 2 x) := lAm_up lAm_rfl
    obtain ⟨c20, -⟩ := lCs H.1 eM
    have e : sAbout (gUp v 0 2 x) s q = (1, gUp (gUp v 0 2 x) 38 2 x) := by
      unfold sAbout
      rw [if_pos (by omega)]
      by_cases q3 : q = 3
      · rw [if_pos q3, lS0 H.1 eM hs]
        rw [if_neg (by omega)] at hx
        rw [hx]
      · rw [if_neg q3, lSw H.1 eM hs (by omega)]
        rw [if_pos (by omega)] at hx
        rw [hx]
    refine ct_X2_about (by omega) ?_
    rw [e]
    exact ⟨rfl, K, rfl, lRA_ask H hT lKr lAs_rfl lMs_rfl⟩
set_option maxHeartbeats 1000000 in
theorem op_mark {s a : Int} (hfl : Γ.1.stackTraces = false) (hmo : modulesRight_1 Γ.2.1 = true) (H : RA v (gHd K)) (hT : gTop (gHd K) t) : lOpW Γ mX0_mark mX2_mark [(0, s), (0, a)] 0 v (gHd K) t := by
  have hN := lB_N H.1
  have hok := lB_ok H.1
  have h66 := gHd_66 hT
  have hH := lB_hy H.1
  obtain ⟨d20, d22, d28, d31, d33, d26, d27⟩ := lCs H.1 (lAm_rfl (v := v))
  obtain ⟨o1, o2, o3, o4, o5, o6, o7, o8, o9, o10⟩ := id hok
  have o5 := o5.1
  obtain ⟨-, -, -, sz, tz⟩ := lMok H.1 (lAm_rfl (v := v))
  unfold lOpW
  have hTb := aTb_of (x := 17) hH.2.1
  refine ct_X0_mark hfl hmo hH.1 hTb (fun hb => ⟨_, rfl, rfl, ct_X2_mark o1 ?_⟩) (fun hs ha hk => ⟨_, rfl, rfl, ct_X2_mark o1 ?_⟩) (fun hs ha hk => ⟨_, rfl, rfl, ?_⟩)
  · have e : sMark v s a = (-1, v) := by
      unfold sMark
      rw [if_pos (by omega)]
    rw [e]
    exact ⟨rfl, K, rfl, H⟩
  · have e : sMark v s a = (aMk v (v (v 0 7) s) a, v) := by
      unfold sMark
      have hk2 := (aHas_kd (by have := (hH.1.2.1 s hs.1 hs.2).2.1; omega) ha).mp hk
      rw [if_neg (by omega), lS0 H.1 lAm_rfl hs, if_pos hk2, lMk H.1 lAm_rfl hs ha hk]
    rw [e]
    exact ⟨rfl, K, rfl, H⟩
  · have eM : lAm v (aMet v 3) := lAm_met lAm_rfl
    obtain ⟨c20, -⟩ := lCs H.1 eM
    have e : sMark (aMet v 3) s a = (-3, sMeet (aMet v 3) 3) := by
      unfold sMark
      have hk2 := fun z => hk ((aHas_kd (by have := (hH.1.2.1 s hs.1 hs.2).2.1; omega) ha).mpr z)
      rw [if_neg (by omega), lS0 H.1 eM hs, if_neg hk2]
    refine ct_X2_mark (by omega) ?_
    rw [e]
    exact ⟨rfl, K, rfl, lRA_met (by decide) H hT lKr lAs_rfl lMs_rfl⟩
set_option maxHeartbeats 1000000 in
theorem op_told {i q : Int} (H : RA v (gHd K)) (hT : gTop (gHd K) t) : lOp Γ mX0_told mX2_told [(0, i), (0, q)] 0 v (gHd K) t := by
  have hN := lB_N H.1
  have hok := lB_ok H.1
  have h66 := gHd_66 hT
  have hH := lB_hy H.1
  obtain ⟨d20, d22, d28, d31, d33, d26, d27⟩ := lCs H.1 (lAm_rfl (v := v))
  obtain ⟨o1, o2, o3, o4, o5, o6, o7, o8, o9, o10⟩ := id hok
  have o5 := o5.1
  obtain ⟨-, -, -, sz, tz⟩ := lMok H.1 (lAm_rfl (v := v))
  unfold lOp
  refine ct_X0_told (by omega) hH.1 (fun hi hq => ⟨_, rfl, rfl, ?_⟩) (fun hb => ⟨_, rfl, rfl, ct_X2_told (by omega) ?_⟩)
  · have eM : lAm v (gUp v 0 2 (aTold v i q)) := lAm_up lAm_rfl
    obtain ⟨c20, c22, c28, c31, c33, c26, c27⟩ := lCs H.1 eM
    have e : sTold (gUp v 0 2 (aTold v i q)) i q = (1, gUp (gUp v 0 2 (aTold v i q)) 38 2 (aTold v i q)) := by
      unfold sTold
      rw [if_pos (by omega), lTold H.1 eM hi]
    refine ct_X2_told (by omega) ?_
    rw [e]
    exact ⟨rfl, K, rfl, lRA_ask H hT lKr lAs_rfl lMs_rfl⟩
  · have e : sTold v i q = (-1, v) := by
      unfold sTold
      rw [if_neg (by omega)]
    rw [e]
    exact ⟨rfl, K, rfl, H⟩
set_option maxHeartbeats 1000000 in
theorem op_now {q : Int} (H : RA v (gHd K)) (hT : gTop (gHd K) t) : lOp Γ mX0_now mX2_now [(0, q)] 0 v (gHd K) t := by
  have hN := lB_N H.1
  have hok := lB_ok H.1
  have h66 := gHd_66 hT
  have hH := lB_hy H.1
  obtain ⟨d20, d22, d28, d31, d33, d26, d27⟩ := lCs H.1 (lAm_rfl (v := v))
  obtain ⟨o1, o2, o3, o4, o5, o6, o7, o8, o9, o10⟩ := id hok
  have o5 := o5.1
  obtain ⟨-, -, -, sz, tz⟩ := lMok H.1 (lAm_rfl (v := v))
  unfold lOp
  refine ct_X0_now (cl := (gHd K (v 0 8)).2) (by omega) (pairEq hH.1.2.2.1.2) (fun hq => ⟨_, rfl, rfl, ?_⟩) (fun hb => ⟨_, rfl, rfl, ct_X2_now ?_⟩)
  · have eM : lAm v (gUp v 0 2 (aNow v (gHd K (v 0 8)).2 q)) := lAm_up lAm_rfl
    have e : sNowA (gUp v 0 2 (aNow v (gHd K (v 0 8)).2 q)) q = (1, gUp (gUp v 0 2 (aNow v (gHd K (v 0 8)).2 q)) 38 2 (aNow v (gHd K (v 0 8)).2 q)) := by
      unfold sNowA
      rw [if_pos hq, lNow H.1 eM hq]
    refine ct_X2_now ?_
    rw [e]
    exact ⟨rfl, K, rfl, lRA_ask H hT lKr lAs_rfl lMs_rfl⟩
  · have e : sNowA v q = (-1, v) := by
      unfold sNowA
      rw [if_neg hb]
    rw [e]
    exact ⟨rfl, K, rfl, H⟩
set_option maxHeartbeats 1000000 in
theorem op_at {r i : Int} (hfl : Γ.1.stackTraces = false) (H : RA v (gHd K)) (hT : gTop (gHd K) t) : lOpW Γ mX0_at mX2_at [(0, r), (0, i)] 0 v (gHd K) t := by
  have hN := lB_N H.1
  have hok := lB_ok H.1
  have h66 := gHd_66 hT
  have hH := lB_hy H.1
  obtain ⟨d20, d22, d28, d31, d33, d26, d27⟩ := lCs H.1 (lAm_rfl (v := v))
  obtain ⟨o1, o2, o3, o4, o5, o6, o7, o8, o9, o10⟩ := id hok
  have o5 := o5.1
  obtain ⟨-, -, -, sz, tz⟩ := lMok H.1 (lAm_rfl (v := v))
  unfold lOpW
  refine ct_X0_at (n := v 40 r) hfl (lRo H.1) (fun hb => ⟨_, rfl, rfl, ?_⟩) (fun hr hz => ⟨_, rfl, rfl, ?_⟩) (fun hr ho hi => ⟨_, rfl, rfl, ?_⟩) (fun hr ho hi => ⟨_, rfl, rfl, ?_⟩)
  · have e : sAt v r i = (-1, v) := by
      unfold sAt
      rw [if_pos hb]
    refine ct_X2_at sz ?_
    rw [e]
    exact ⟨rfl, K, rfl, H⟩
  · have z40 := lRn H.1 hr hz
    have eM : lAm v (aMet v 1) := lAm_met lAm_rfl
    obtain ⟨ok, y9, eN, sz, tz⟩ := lMok H.1 eM
    obtain ⟨c20, c22, c28, c31, c33, c26, c27⟩ := lCs H.1 eM
    have e : sAt (aMet v 1) r i = (-3, sMeet (aMet v 1) 1) := by
      unfold sAt
      rw [if_neg (by omega), eM 40 r (by omega) (by omega), if_pos (by omega)]
    refine ct_X2_at sz ?_
    rw [e]
    exact ⟨rfl, K, rfl, lRA_met (by decide) H hT lKr lAs_rfl lMs_rfl⟩
  · have z40 := ho.2.2
    have eM : lAm v (aMet v 2) := lAm_met lAm_rfl
    obtain ⟨ok, y9, eN, sz, tz⟩ := lMok H.1 eM
    obtain ⟨c20, c22, c28, c31, c33, c26, c27⟩ := lCs H.1 eM
    have e : sAt (aMet v 2) r i = (-3, sMeet (aMet v 2) 2) := by
      unfold sAt
      rw [if_neg (by omega), eM 40 r (by omega) (by omega), if_neg (by omega), if_neg hi]
    refine ct_X2_at sz ?_
    rw [e]
    exact ⟨rfl, K, rfl, lRA_met (by decide) H hT lKr lAs_rfl lMs_rfl⟩
  · generalize hx : v (v 2 r) i = x
    have eM : lAm v (gUp v 0 2 x) := lAm_up lAm_rfl
    obtain ⟨ok, y9, eN, sz, tz⟩ := lMok H.1 eM
    have e : sAt (gUp v 0 2 x) r i = (1, gUp (gUp v 0 2 x) 38 2 x) := by
      unfold sAt
      rw [if_neg (by omega), eM 40 r (by omega) (by omega), if_neg (by omega), if_pos hi, eM 41 _ (by omega) (by omega), ← lRc H.1 hr ho i hi.1 hi.2, hx]
    refine ct_X2_at sz ?_
    rw [e]
    exact ⟨rfl, K, rfl, lRA_ask H hT lKr lAs_rfl lMs_rfl⟩
set_option maxHeartbeats 1000000 in
theorem op_mean {r : Int} (hfl : Γ.1.stackTraces = false) (H : RA v (gHd K)) (hT : gTop (gHd K) t) : lOpW Γ mX0_mean mX2_mean [(0, r)] 0 v (gHd K) t := by
  have hN := lB_N H.1
  have hok := lB_ok H.1
  have h66 := gHd_66 hT
  have hH := lB_hy H.1
  obtain ⟨d20, d22, d28, d31, d33, d26, d27⟩ := lCs H.1 (lAm_rfl (v := v))
  obtain ⟨o1, o2, o3, o4, o5, o6, o7, o8, o9, o10⟩ := id hok
  have o5 := o5.1
  obtain ⟨-, -, -, sz, tz⟩ := lMok H.1 (lAm_rfl (v := v))
  unfold lOpW
  refine ct_X0_mean (n := v 40 r) hfl (lRo H.1) (fun hb => ⟨_, rfl, rfl, ?_⟩) (fun hr hz => ⟨_, rfl, rfl, ?_⟩) (fun hr ho hn => ⟨_, rfl, rfl, ?_⟩) (fun hr ho hn => ⟨_, rfl, rfl, ?_⟩)
  · have e : sMean v r = (-1, v) := by
      unfold sMean
      rw [if_pos hb]
    refine ct_X2_mean sz ?_
    rw [e]
    exact ⟨rfl, K, rfl, H⟩
  · have z40 := lRn H.1 hr hz
    have eM : lAm v (aMet v 1) := lAm_met lAm_rfl
    obtain ⟨ok, y9, eN, sz, tz⟩ := lMok H.1 eM
    obtain ⟨c20, c22, c28, c31, c33, c26, c27⟩ := lCs H.1 eM
    have e : sMean (aMet v 1) r = (-3, sMeet (aMet v 1) 1) := by
      unfold sMean
      rw [if_neg (by omega), eM 40 r (by omega) (by omega), if_pos (by omega)]
    refine ct_X2_mean sz ?_
    rw [e]
    exact ⟨rfl, K, rfl, lRA_met (by decide) H hT lKr lAs_rfl lMs_rfl⟩
  · have z40 := ho.2.2
    have eM : lAm v (aMet v 4) := lAm_met lAm_rfl
    obtain ⟨ok, y9, eN, sz, tz⟩ := lMok H.1 eM
    obtain ⟨c20, c22, c28, c31, c33, c26, c27⟩ := lCs H.1 eM
    have e : sMean (aMet v 4) r = (-3, sMeet (aMet v 4) 4) := by
      unfold sMean
      rw [if_neg (by omega), eM 40 r (by omega) (by omega), if_neg (by omega), if_pos hn]
    refine ct_X2_mean sz ?_
    rw [e]
    exact ⟨rfl, K, rfl, lRA_met (by decide) H hT lKr lAs_rfl lMs_rfl⟩
  · generalize hx : w32 (w64 ((gSum (v (v 2 r)) (v 40 r).toNat).tdiv (v 40 r))) = x
    have z40 := ho.2.2
    have eM : lAm v (gUp v 0 2 x) := lAm_up lAm_rfl
    obtain ⟨ok, y9, eN, sz, tz⟩ := lMok H.1 eM
    have e : sMean (gUp v 0 2 x) r = (1, gUp (gUp v 0 2 x) 38 2 x) := by
      unfold sMean
      rw [if_neg (by omega), eM 40 r (by omega) (by omega), if_neg (by omega), if_neg hn, gSum_cg (f := fun k => gUp v 0 2 x 41 (80 * r + k)) (g := v (v 2 r)) (v 40 r).toNat (fun i i0 i1 => by
        show gUp v 0 2 x 41 (80 * r + i) = _
        rw [eM 41 _ (by omega) (by omega), lRc H.1 hr ho i i0 (by omega)]), hx]
    refine ct_X2_mean sz ?_
    rw [e]
    exact ⟨rfl, K, rfl, lRA_ask H hT lKr lAs_rfl lMs_rfl⟩
theorem lNL (H : lB v h) (e : lAm v v1) {r : Int} (hr : 0 ≤ r ∧ r ≤ 5) (ho : aRo v h r (v 40 r)) : pLay (fun k => v1 41 (80 * r + k)) (v 40 r).toNat = pLay (v (v 2 r)) (v 40 r).toNat :=
  pLay_cg _ (fun i i0 i1 => by
    show v1 41 (80 * r + i) = _
    rw [e 41 _ (by omega) (by omega), lRc H hr ho i i0 (by omega)])
set_option maxHeartbeats 1000000 in
theorem op_period {r : Int} (H : RA v (gHd K)) (hT : gTop (gHd K) t) : lOp Γ mX0_period mX2_period [(0, r)] 0 v (gHd K) t := by
  have hN := lB_N H.1
  have hok := lB_ok H.1
  have h66 := gHd_66 hT
  have hH := lB_hy H.1
  obtain ⟨d20, d22, d28, d31, d33, d26, d27⟩ := lCs H.1 (lAm_rfl (v := v))
  obtain ⟨o1, o2, o3, o4, o5, o6, o7, o8, o9, o10⟩ := id hok
  have o5 := o5.1
  obtain ⟨-, -, -, sz, tz⟩ := lMok H.1 (lAm_rfl (v := v))
  unfold lOp
  refine ct_X0_period (n := v 40 r) (lRo H.1) (fun hb => ⟨_, rfl, rfl, ?_⟩) (fun hr hz => ⟨_, rfl, rfl, ?_⟩) (fun hr ho hn => ⟨_, rfl, rfl, ?_⟩) (fun hr ho hn hl => ⟨_, rfl, rfl, ?_⟩) (fun hr ho hn hl => ⟨_, rfl, rfl, ?_⟩)
  · have e : sPeriod v r = (-1, v) := by
      unfold sPeriod
      have e0 : sNL v r 80 = (-1, v) := by
        unfold sNL
        rw [if_pos hb]
      rw [e0, if_pos (show (-1 : Int) < 0 by decide)]
    refine ct_X2_period sz ?_
    rw [e]
    exact ⟨rfl, K, rfl, H⟩
  · have z40 := lRn H.1 hr hz
    have eM : lAm v (aMet v 1) := lAm_met lAm_rfl
    obtain ⟨ok, y9, eN, sz, tz⟩ := lMok H.1 eM
    obtain ⟨c20, c22, c28, c31, c33, c26, c27⟩ := lCs H.1 eM
    have e : sPeriod (aMet v 1) r = (-3, sMeet (aMet v 1) 1) := by
      unfold sPeriod
      have e0 : sNL (aMet v 1) r 80 = (-3, sMeet (aMet v 1) 1) := by
        unfold sNL
        rw [if_neg (by omega), eM 40 r (by omega) (by omega), if_pos (by omega)]
      rw [e0, if_pos (show (-3 : Int) < 0 by decide)]
    refine ct_X2_period sz ?_
    rw [e]
    exact ⟨rfl, K, rfl, lRA_met (by decide) H hT lKr lAs_rfl lMs_rfl⟩
  · have z40 := ho.2.2
    have eM : lAm v (aMet v 5) := lAm_met lAm_rfl
    obtain ⟨ok, y9, eN, sz, tz⟩ := lMok H.1 eM
    obtain ⟨c20, c22, c28, c31, c33, c26, c27⟩ := lCs H.1 eM
    have e : sPeriod (aMet v 5) r = (-3, sMeet (aMet v 5) 5) := by
      unfold sPeriod
      have e0 : sNL (aMet v 5) r 80 = (-3, sMeet (aMet v 5) 5) := by
        unfold sNL
        rw [if_neg (by omega), eM 40 r (by omega) (by omega), if_neg (by omega), if_pos hn]
      rw [e0, if_pos (show (-3 : Int) < 0 by decide)]
    refine ct_X2_period sz ?_
    rw [e]
    exact ⟨rfl, K, rfl, lRA_met (by decide) H hT lKr lAs_rfl lMs_rfl⟩
  · have z40 := ho.2.2
    have eM : lAm v (aMet v 3) := lAm_met lAm_rfl
    obtain ⟨ok, y9, eN, sz, tz⟩ := lMok H.1 eM
    obtain ⟨c20, c22, c28, c31, c33, c26, c27⟩ := lCs H.1 eM
    have e : sPeriod (aMet v 3) r = (-3, sMeet (aMet v 3) 3) := by
      unfold sPeriod
      have e0 : sNL (aMet v 3) r 80 = (-3, sMeet (aMet v 3) 3) := by
        unfold sNL
        rw [if_neg (by omega), eM 40 r (by omega) (by omega), if_neg (by omega), if_neg (by omega), if_neg (by rw [lNL H.1 eM hr ho, hl]; decide)]
      rw [e0, if_pos (show (-3 : Int) < 0 by decide)]
    refine ct_X2_period sz ?_
    rw [e]
    exact ⟨rfl, K, rfl, lRA_met (by decide) H hT lKr lAs_rfl lMs_rfl⟩
  · have z40 := ho.2.2
    have e : sPeriod v r = (pPer (v (v 2 r)) (v 40 r) (v 40 r).toNat 1, v) := by
      unfold sPeriod
      have e0 : sNL v r 80 = (0, v) := by
        unfold sNL
        rw [if_neg (by omega), if_neg (by omega), if_neg (by omega), if_pos (by rw [lNL H.1 lAm_rfl hr ho]; exact hl)]
      rw [e0, if_neg (show ¬ (0 : Int) < 0 by decide), pPer_cg (f := fun k => v 41 (80 * r + k)) (g := v (v 2 r)) (n := v 40 r) (fun i i0 i1 => (lRc H.1 hr ho i i0 i1).symm) _ _ (by omega) (by omega) (by omega)]
    refine ct_X2_period sz ?_
    rw [e]
    exact ⟨rfl, K, rfl, H⟩
set_option maxHeartbeats 1000000 in
theorem op_guess {r : Int} (H : RA v (gHd K)) (hT : gTop (gHd K) t) : lOp Γ mX0_guess mX2_guess [(0, r)] 0 v (gHd K) t := by
  have hN := lB_N H.1
  have hok := lB_ok H.1
  have h66 := gHd_66 hT
  have hH := lB_hy H.1
  obtain ⟨d20, d22, d28, d31, d33, d26, d27⟩ := lCs H.1 (lAm_rfl (v := v))
  obtain ⟨o1, o2, o3, o4, o5, o6, o7, o8, o9, o10⟩ := id hok
  have o5 := o5.1
  obtain ⟨-, -, -, sz, tz⟩ := lMok H.1 (lAm_rfl (v := v))
  unfold lOp
  refine ct_X0_guess (n := v 40 r) (lRo H.1) (fun hb => ⟨_, rfl, rfl, ?_⟩) (fun hr hz => ⟨_, rfl, rfl, ?_⟩) (fun hr ho hn => ⟨_, rfl, rfl, ?_⟩) (fun hr ho hn hl => ⟨_, rfl, rfl, ?_⟩) (fun hr ho hn hl => ⟨_, rfl, rfl, ?_⟩)
  · have e : sGuess v r = (-1, v) := by
      unfold sGuess
      have e0 : sNL v r 40 = (-1, v) := by
        unfold sNL
        rw [if_pos hb]
      rw [e0, if_pos (show (-1 : Int) < 0 by decide)]
    refine ct_X2_guess sz ?_
    rw [e]
    exact ⟨rfl, K, rfl, H⟩
  · have z40 := lRn H.1 hr hz
    have eM : lAm v (aMet v 1) := lAm_met lAm_rfl
    obtain ⟨ok, y9, eN, sz, tz⟩ := lMok H.1 eM
    obtain ⟨c20, c22, c28, c31, c33, c26, c27⟩ := lCs H.1 eM
    have e : sGuess (aMet v 1) r = (-3, sMeet (aMet v 1) 1) := by
      unfold sGuess
      have e0 : sNL (aMet v 1) r 40 = (-3, sMeet (aMet v 1) 1) := by
        unfold sNL
        rw [if_neg (by omega), eM 40 r (by omega) (by omega), if_pos (by omega)]
      rw [e0, if_pos (show (-3 : Int) < 0 by decide)]
    refine ct_X2_guess sz ?_
    rw [e]
    exact ⟨rfl, K, rfl, lRA_met (by decide) H hT lKr lAs_rfl lMs_rfl⟩
  · have z40 := ho.2.2
    have eM : lAm v (aMet v 5) := lAm_met lAm_rfl
    obtain ⟨ok, y9, eN, sz, tz⟩ := lMok H.1 eM
    obtain ⟨c20, c22, c28, c31, c33, c26, c27⟩ := lCs H.1 eM
    have e : sGuess (aMet v 5) r = (-3, sMeet (aMet v 5) 5) := by
      unfold sGuess
      have e0 : sNL (aMet v 5) r 40 = (-3, sMeet (aMet v 5) 5) := by
        unfold sNL
        rw [if_neg (by omega), eM 40 r (by omega) (by omega), if_neg (by omega), if_pos hn]
      rw [e0, if_pos (show (-3 : Int) < 0 by decide)]
    refine ct_X2_guess sz ?_
    rw [e]
    exact ⟨rfl, K, rfl, lRA_met (by decide) H hT lKr lAs_rfl lMs_rfl⟩
  · have z40 := ho.2.2
    have eM : lAm v (aMet v 3) := lAm_met lAm_rfl
    obtain ⟨ok, y9, eN, sz, tz⟩ := lMok H.1 eM
    obtain ⟨c20, c22, c28, c31, c33, c26, c27⟩ := lCs H.1 eM
    have e : sGuess (aMet v 3) r = (-3, sMeet (aMet v 3) 3) := by
      unfold sGuess
      have e0 : sNL (aMet v 3) r 40 = (-3, sMeet (aMet v 3) 3) := by
        unfold sNL
        rw [if_neg (by omega), eM 40 r (by omega) (by omega), if_neg (by omega), if_neg (by omega), if_neg (by rw [lNL H.1 eM hr ho, hl]; decide)]
      rw [e0, if_pos (show (-3 : Int) < 0 by decide)]
    refine ct_X2_guess sz ?_
    rw [e]
    exact ⟨rfl, K, rfl, lRA_met (by decide) H hT lKr lAs_rfl lMs_rfl⟩
  · have z40 := ho.2.2
    generalize hx : gGL (aFits v r (v 40 r)) 9 = x
    have eM : lAm v (gUp v 0 2 x.2) := lAm_up lAm_rfl
    obtain ⟨ok, y9, eN, sz, tz⟩ := lMok H.1 eM
    have e : sGuess (gUp v 0 2 x.2) r = (x.1, gUp (gUp v 0 2 x.2) 38 2 x.2) := by
      unfold sGuess
      have e0 : sNL (gUp v 0 2 x.2) r 40 = (0, gUp v 0 2 x.2) := by
        unfold sNL
        rw [if_neg (by omega), eM 40 r (by omega) (by omega), if_neg (by omega), if_neg (by omega), if_pos (by rw [lNL H.1 eM hr ho]; exact hl)]
      have e1 : mFits (gUp v 0 2 x.2) r = aFits v r (v 40 r) := by
        funext g b c
        unfold mFits aFits mFt
        rw [eM 40 r (by omega) (by omega), gFt_cg (f := fun k => gUp v 0 2 x.2 41 (80 * r + k)) (g := v (v 2 r)) (v 40 r).toNat (fun i i0 i1 => by
          show gUp v 0 2 x.2 41 (80 * r + i) = _
          rw [eM 41 _ (by omega) (by omega), lRc H.1 hr ho i i0 (by omega)])]
      rw [e0, if_neg (show ¬ (0 : Int) < 0 by decide), e1, hx]
    refine ct_X2_guess sz ?_
    rw [e]
    exact ⟨rfl, K, rfl, lRA_ask H hT lKr lAs_rfl lMs_rfl⟩
theorem lmB (e : lAm v v1) {r : Int} : mB v1 r = mB v r := by
  funext i
  unfold mB sByte
  rw [e 43 r (by omega) (by omega), e 44 _ (by omega) (by omega)]
theorem lAs_rd (hs : ∀ a k, a < (t : Int) → ¬ (aRq a k ∨ (a = 0 ∧ k = 17)) → v1 a k = v a k) : lAs v v1 t := fun a k ha hk => hs a k ha (by unfold aRq; omega)
set_option maxHeartbeats 1000000 in
theorem op_fault {r : Int} (H : RA v (gHd K)) (hT : gTop (gHd K) t) : lOp Γ mX0_fault mX2_fault [(0, r)] 0 v (gHd K) t := by
  have hN := lB_N H.1
  have hok := lB_ok H.1
  have h66 := gHd_66 hT
  have hH := lB_hy H.1
  obtain ⟨d20, d22, d28, d31, d33, d26, d27⟩ := lCs H.1 (lAm_rfl (v := v))
  obtain ⟨o1, o2, o3, o4, o5, o6, o7, o8, o9, o10⟩ := id hok
  have o5 := o5.1
  obtain ⟨-, -, -, sz, tz⟩ := lMok H.1 (lAm_rfl (v := v))
  unfold lOp
  refine ct_X0_fault (n := v 43 r) (b := mB v r) (lXo H.1) (by have := H.1.1.2.2.1.1; omega) (fun hb => ⟨_, rfl, rfl, ?_⟩) (fun hr hz => ⟨_, rfl, rfl, ?_⟩) (fun hr ho v1 K1 t1 hF hK1 ht => ⟨_, rfl, rfl, ?_⟩)
  · exact ct_X2_fault tz (fun _ => ⟨rfl, K, rfl, H⟩) (fun hr => absurd hr hb) (fun hr => absurd hr hb)
  · have eM : lAm v (aMet v 1) := lAm_met lAm_rfl
    obtain ⟨ok, y9, eN, sz, tz⟩ := lMok H.1 eM
    have m43 := eM 43 r (by omega) (by omega)
    have z43 := lXn H.1 hr hz
    exact ct_X2_fault tz (fun hb => absurd hr hb) (fun _ _ => ⟨rfl, K, rfl, lRA_met (by decide) H hT lKr lAs_rfl lMs_rfl⟩) (fun _ hz' => absurd hz' (by omega))
  · have eM : lAm v v1 := lAm_of h66 (lAs_rd hF)
    obtain ⟨ok, y9, eN, sz, tz⟩ := lMok H.1 eM
    have m43 := eM 43 r (by omega) (by omega)
    have z43 := ho.2.2.1
    refine ct_X2_fault tz (fun hb => absurd hr hb) (fun _ hz => absurd hz (by omega)) (fun _ _ v2 hS' => ⟨?_, K1, rfl, lRA_sc H hT hK1 (lAs_rd hF) (lMs_rd hS')⟩)
    rw [lmB eM, m43]
end LE
