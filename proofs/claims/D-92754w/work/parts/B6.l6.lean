/-! The law, 6: the operations on rows and texts -/
section LG2
variable {Γ : gC} {v v1 v2 : gM} {K K1 : gH} {h h1 : gH} {t : Nat}
set_option maxHeartbeats 1000000 in
theorem op_row {r n : Int} (hfl : Γ.1.stackTraces = false) (H : RA v (gHd K)) (hT : gTop (gHd K) t) : lOpW Γ mX0_row mX2_row [(0, r), (0, n)] 0 v (gHd K) t := by
  have hN := lB_N H.1
  have hok := lB_ok H.1
  have h66 := gHd_66 hT
  have hH := lB_hy H.1
  obtain ⟨d20, d22, d28, d31, d33, d26, d27⟩ := lCs H.1 (lAm_rfl (v := v))
  obtain ⟨o1, o2, o3, o4, o5, o6, o7, o8, o9, o10⟩ := id hok
  have o5 := o5.1
  obtain ⟨-, -, -, sz, tz⟩ := lMok H.1 (lAm_rfl (v := v))
  unfold lOpW
  refine ct_X0_row hfl (fun hb => ⟨_, rfl, rfl, ?_⟩) (fun hr hn => ⟨_, rfl, rfl, ?_⟩) (fun hr h0 h80 _ => ⟨_, rfl, rfl, ?_⟩)
  · have e : sRow v r n = (-1, v) := by
      unfold sRow
      rw [if_pos hb]
    refine ct_X2_row  ?_
    rw [e]
    exact ⟨rfl, K, rfl, H⟩
  · have eM : lAm v (aMet v 5) := lAm_met lAm_rfl
    obtain ⟨ok, y9, eN, sz, tz⟩ := lMok H.1 eM
    obtain ⟨c20, c22, c28, c31, c33, c26, c27⟩ := lCs H.1 eM
    have e : sRow (aMet v 5) r n = (-3, sMeet (aMet v 5) 5) := by
      unfold sRow
      rw [if_neg (by omega), if_pos hn]
    refine ct_X2_row  ?_
    rw [e]
    exact ⟨rfl, K, rfl, lRA_met (by decide) H hT lKr lAs_rfl lMs_rfl⟩
  · refine ct_X2_row ?_
    rw [show sRow (gUp (gNf v t (fun _ => 0)) 2 r t) r n = (n, gFill (gUp (gUp (gNf v t (fun _ => 0)) 2 r t) 40 r n) 41 (80 * r) (80 * r + 80) 0) from by unfold sRow; rw [if_neg (by omega), if_neg (by omega)]]
    dsimp only
    refine ⟨rfl, _, rfl, lB_row H.1 hT lKu h66 (fun a k ha hk => ?_) (lR_put (r := r) (c := t) (m := n) H.1.2.1 hT lKu hr (fun q q0 q1 hq => ⟨?_, ?_⟩) (fun k hk => ?_) (fun q i q0 q1 hq z1 z2 => ?_) ?_ ?_ (Or.inr ⟨⟨by omega, gHd_at (by omega), h0, h80⟩, fun i i0 i1 => ?_⟩) (fun _ q q0 q1 hq => ?_)), lF_sc H.2 (fun a k hk => ?_)⟩
    · rw [gFill_no (by omega), gUp_ne2 (by omega), gUp_ne2 (by omega), gNf_ne (by omega)]
    · rw [gFill_no (by omega), gUp_ne2 (by omega), gUp_ne2 (by omega), gNf_ne (by omega)]
    · rw [gFill_no (by omega), gUp_ne2 (by omega), gUp_ne2 (by omega), gNf_ne (by omega)]
    · rw [gFill_no (by omega), gUp_ne2 (by omega), gUp_ne2 (by omega), gNf_ne (by omega)]
    · rw [gFill_no (by omega), gUp_ne2 (by omega), gUp_ne2 (by omega), gNf_ne (by omega)]
    · rw [gFill_no (by omega), gUp_ne2 (by omega), gUp_eq2 rfl rfl]
    · rw [gFill_no (by omega), gUp_eq2 rfl rfl]
    · rw [gFill_no (by omega), gUp_ne2 (by omega), gUp_ne2 (by omega), gNf_at, gFill_in (by omega)]
    · rcases lRo H.1 (r := q) (by omega) with z | z
      · omega
      · have := lLk hT (a := v 2 q) z.2.1 (by decide)
        omega
    · rw [gFill_no (by omega), gUp_ne2 (by omega), gUp_ne2 (by omega), gNf_ne (by omega)]
set_option maxHeartbeats 1000000 in
theorem op_lay {r i x : Int} (hfl : Γ.1.stackTraces = false) (H : RA v (gHd K)) (hT : gTop (gHd K) t) : lOp Γ mX0_lay mX2_lay [(0, r), (0, i), (0, x)] 0 v (gHd K) t := by
  have hN := lB_N H.1
  have hok := lB_ok H.1
  have h66 := gHd_66 hT
  have hH := lB_hy H.1
  obtain ⟨d20, d22, d28, d31, d33, d26, d27⟩ := lCs H.1 (lAm_rfl (v := v))
  obtain ⟨o1, o2, o3, o4, o5, o6, o7, o8, o9, o10⟩ := id hok
  have o5 := o5.1
  obtain ⟨-, -, -, sz, tz⟩ := lMok H.1 (lAm_rfl (v := v))
  unfold lOp
  refine ct_X0_lay (n := v 40 r) hfl (lRo H.1) (fun hb => ⟨_, rfl, rfl, ?_⟩) (fun hr hz => ⟨_, rfl, rfl, ?_⟩) (fun hr ho hi => ⟨_, rfl, rfl, ?_⟩) (fun hr ho hi => ⟨_, rfl, rfl, ?_⟩)
  · have e : sLay v r i x = (-1, v) := by
      unfold sLay
      rw [if_pos hb]
    refine ct_X2_lay sz ?_
    rw [e]
    exact ⟨rfl, K, rfl, H⟩
  · have z40 := lRn H.1 hr hz
    have eM : lAm v (aMet v 1) := lAm_met lAm_rfl
    obtain ⟨ok, y9, eN, sz, tz⟩ := lMok H.1 eM
    obtain ⟨c20, c22, c28, c31, c33, c26, c27⟩ := lCs H.1 eM
    have e : sLay (aMet v 1) r i x = (-3, sMeet (aMet v 1) 1) := by
      unfold sLay
      rw [if_neg (by omega), eM 40 r (by omega) (by omega), if_pos (by omega)]
    refine ct_X2_lay sz ?_
    rw [e]
    exact ⟨rfl, K, rfl, lRA_met (by decide) H hT lKr lAs_rfl lMs_rfl⟩
  · have z40 := ho.2.2
    have eM : lAm v (aMet v 2) := lAm_met lAm_rfl
    obtain ⟨ok, y9, eN, sz, tz⟩ := lMok H.1 eM
    obtain ⟨c20, c22, c28, c31, c33, c26, c27⟩ := lCs H.1 eM
    have e : sLay (aMet v 2) r i x = (-3, sMeet (aMet v 2) 2) := by
      unfold sLay
      rw [if_neg (by omega), eM 40 r (by omega) (by omega), if_neg (by omega), if_neg hi]
    refine ct_X2_lay sz ?_
    rw [e]
    exact ⟨rfl, K, rfl, lRA_met (by decide) H hT lKr lAs_rfl lMs_rfl⟩
  · have hx := lRc H.1 hr ho i hi.1 hi.2
    generalize hy : v (v 2 r) i = y
    rw [hy] at hx
    obtain ⟨z1, z2, z3⟩ := id ho
    have hk : (gHd K (v 2 r)).1 = 10 := by rw [z2]
    have hlt := lLt hT (a := v 2 r) (by rw [hk]; decide)
    have eM : lAm v (gUp (gUp v 0 2 y) (v 2 r) i x) := fun a k a0 a1 => by rw [gUp_ne2 (by omega), gUp_ne2 (by omega)]
    obtain ⟨ok, y9, eN, sz, tz⟩ := lMok H.1 eM
    refine ct_X2_lay sz ?_
    rw [show sLay (gUp (gUp v 0 2 y) (v 2 r) i x) r i x = (1, gUp (gUp (gUp (gUp v 0 2 y) (v 2 r) i x) 41 (80 * r + i) x) 38 2 y) from by unfold sLay; rw [if_neg (by omega), eM 40 r (by omega) (by omega), if_neg (by omega), if_pos hi, eM 41 _ (by omega) (by omega), ← hx]]
    dsimp only
    refine ⟨rfl, K, rfl, lB_row H.1 hT lKr h66 (fun a k ha hk' => ?_) (lR_put (r := r) (c := v 2 r) (m := v 40 r) H.1.2.1 hT lKr hr (fun q q0 q1 hq => ⟨?_, ?_⟩) (fun k hk' => ?_) (fun q j q0 q1 hq y1 y2 => ?_) ?_ ?_ (Or.inr ⟨⟨z1, z2, z3⟩, fun j j0 j1 => ?_⟩) (fun hn q q0 q1 hq => H.1.2.1.2 r q hr.1 hr.2 q0 q1 (by omega) hn)), lF_ask H.2 (fun a k hk' => ?_) ?_⟩
    · have : a ≠ v 2 r := fun z => by rw [z] at hk'; omega
      rw [gUp_ne2 (by omega), gUp_ne2 (by omega), gUp_ne2 (by omega), gUp_ne2 (by omega)]
    · rw [gUp_ne2 (by omega), gUp_ne2 (by omega), gUp_ne2 (by omega), gUp_ne2 (by omega)]
    · rw [gUp_ne2 (by omega), gUp_ne2 (by omega), gUp_ne2 (by omega), gUp_ne2 (by omega)]
    · rw [gUp_ne2 (by omega), gUp_ne2 (by omega), gUp_ne2 (by omega), gUp_ne2 (by omega)]
    · have := H.1.2.1.2 r q hr.1 hr.2 q0 q1 (by omega) (by omega)
      rw [gUp_ne2 (by omega), gUp_ne2 (by omega), gUp_ne2 (by omega), gUp_ne2 (by omega)]
    · rw [gUp_ne2 (by omega), gUp_ne2 (by omega), gUp_ne2 (by omega), gUp_ne2 (by omega)]
    · rw [gUp_ne2 (by omega), gUp_ne2 (by omega), gUp_ne2 (by omega), gUp_ne2 (by omega)]
    · rw [gUp_ne2 (by omega), gUp_ne2 (by omega)]
      by_cases hj : j = i
      · subst hj
        rw [gUp_eq2 rfl rfl, gUp_ne2 (by omega), gUp_eq2 rfl rfl]
      · rw [gUp_ne2 (by omega), gUp_ne2 (by omega), gUp_ne2 (by omega), gUp_ne2 (by omega), gUp_ne2 (by omega), gUp_ne2 (by omega)]
        exact lRc H.1 hr ho j j0 j1
    · rw [gUp_ne2 (by omega), gUp_ne2 (by omega), gUp_ne2 (by omega), gUp_ne2 (by omega)]
    · rw [gUp_ne2 (by omega), gUp_ne2 (by omega), gUp_ne2 (by omega), gUp_eq2 rfl rfl, gUp_eq2 rfl rfl]
set_option maxHeartbeats 1000000 in
theorem op_tear {r : Int} (H : RA v (gHd K)) (hT : gTop (gHd K) t) : lOp Γ mX0_tear mX2_tear [(0, r)] 0 v (gHd K) t := by
  have hN := lB_N H.1
  have hok := lB_ok H.1
  have h66 := gHd_66 hT
  have hH := lB_hy H.1
  obtain ⟨d20, d22, d28, d31, d33, d26, d27⟩ := lCs H.1 (lAm_rfl (v := v))
  obtain ⟨o1, o2, o3, o4, o5, o6, o7, o8, o9, o10⟩ := id hok
  have o5 := o5.1
  obtain ⟨-, -, -, sz, tz⟩ := lMok H.1 (lAm_rfl (v := v))
  unfold lOp
  refine ct_X0_tear (n := v 40 r) (lRo H.1) (fun hb => ⟨_, rfl, rfl, ?_⟩) (fun hr hz => ⟨_, rfl, rfl, ?_⟩) (fun hr ho => ⟨_, rfl, rfl, ?_⟩)
  · have e : sTear v r = (-1, v) := by
      unfold sTear
      rw [if_pos hb]
    refine ct_X2_tear  ?_
    rw [e]
    exact ⟨rfl, K, rfl, H⟩
  · have z40 := lRn H.1 hr hz
    have eM : lAm v (aMet v 1) := lAm_met lAm_rfl
    obtain ⟨ok, y9, eN, sz, tz⟩ := lMok H.1 eM
    obtain ⟨c20, c22, c28, c31, c33, c26, c27⟩ := lCs H.1 eM
    have e : sTear (aMet v 1) r = (-3, sMeet (aMet v 1) 1) := by
      unfold sTear
      rw [if_neg (by omega), eM 40 r (by omega) (by omega), if_pos (by omega)]
    refine ct_X2_tear  ?_
    rw [e]
    exact ⟨rfl, K, rfl, lRA_met (by decide) H hT lKr lAs_rfl lMs_rfl⟩
  · have z40 := ho.2.2
    refine ct_X2_tear ?_
    rw [show sTear (gUp v 2 r (-1)) r = (1, gUp (gUp v 2 r (-1)) 40 r (-1)) from by unfold sTear; rw [if_neg (by omega), gUp_ne2 (by omega), if_neg (by omega)]]
    dsimp only
    refine ⟨rfl, K, rfl, lB_row H.1 hT lKr h66 (fun a k ha hk' => ?_) (lR_put (r := r) (c := -1) (m := -1) H.1.2.1 hT lKr hr (fun q q0 q1 hq => ⟨?_, ?_⟩) (fun k hk' => ?_) (fun q j q0 q1 hq y1 y2 => ?_) ?_ ?_ (Or.inl ⟨rfl, rfl⟩) (fun hn => absurd rfl hn)), lF_sc H.2 (fun a k hk' => ?_)⟩
    · rw [gUp_ne2 (by omega), gUp_ne2 (by omega)]
    · rw [gUp_ne2 (by omega), gUp_ne2 (by omega)]
    · rw [gUp_ne2 (by omega), gUp_ne2 (by omega)]
    · rw [gUp_ne2 (by omega), gUp_ne2 (by omega)]
    · rw [gUp_ne2 (by omega), gUp_ne2 (by omega)]
    · rw [gUp_ne2 (by omega), gUp_eq2 rfl rfl]
    · rw [gUp_eq2 rfl rfl]
    · rw [gUp_ne2 (by omega), gUp_ne2 (by omega)]
set_option maxHeartbeats 1000000 in
theorem op_copy {r i q j n : Int} (hfl : Γ.1.stackTraces = false) (H : RA v (gHd K)) (hT : gTop (gHd K) t) : lOpW Γ mX0_copy mX2_copy [(0, r), (0, i), (0, q), (0, j), (0, n)] 0 v (gHd K) t := by
  have hN := lB_N H.1
  have hok := lB_ok H.1
  have h66 := gHd_66 hT
  have hH := lB_hy H.1
  obtain ⟨d20, d22, d28, d31, d33, d26, d27⟩ := lCs H.1 (lAm_rfl (v := v))
  obtain ⟨o1, o2, o3, o4, o5, o6, o7, o8, o9, o10⟩ := id hok
  have o5 := o5.1
  obtain ⟨-, -, -, sz, tz⟩ := lMok H.1 (lAm_rfl (v := v))
  unfold lOpW
  refine ct_X0_copy (nr := v 40 r) (nq := v 40 q) hfl (lRo H.1) (lRo H.1) (fun hb => ⟨_, rfl, rfl, ?_⟩) (fun hr hq hn => ⟨_, rfl, rfl, ?_⟩) (fun hr hq hn hz => ⟨_, rfl, rfl, ?_⟩) (fun hr hq hn ho hp hi => ⟨_, rfl, rfl, ?_⟩) (fun hr hq ho hp hi => ⟨_, rfl, rfl, ?_⟩)
  · have e : sCopy v r i q j n = (-1, v) := by
      unfold sCopy
      rw [if_pos (by omega)]
    refine ct_X2_copy sz ?_
    rw [e]
    exact ⟨rfl, K, rfl, H⟩
  · have eM : lAm v (aMet v 5) := lAm_met lAm_rfl
    obtain ⟨ok, y9, eN, sz, tz⟩ := lMok H.1 eM
    obtain ⟨c20, c22, c28, c31, c33, c26, c27⟩ := lCs H.1 eM
    have e : sCopy (aMet v 5) r i q j n = (-3, sMeet (aMet v 5) 5) := by
      unfold sCopy
      rw [if_neg (by omega), if_pos hn]
    refine ct_X2_copy sz ?_
    rw [e]
    exact ⟨rfl, K, rfl, lRA_met (by decide) H hT lKr lAs_rfl lMs_rfl⟩
  · have z40 : v 40 r < 0 ∨ v 40 q < 0 := by
      rcases hz with z | z
      · have := lRn H.1 hr z
        omega
      · have := lRn H.1 hq z
        omega
    have eM : lAm v (aMet v 1) := lAm_met lAm_rfl
    obtain ⟨ok, y9, eN, sz, tz⟩ := lMok H.1 eM
    obtain ⟨c20, c22, c28, c31, c33, c26, c27⟩ := lCs H.1 eM
    have e : sCopy (aMet v 1) r i q j n = (-3, sMeet (aMet v 1) 1) := by
      unfold sCopy
      rw [if_neg (by omega), if_neg (by omega), eM 40 r (by omega) (by omega), eM 40 q (by omega) (by omega), if_pos (by omega)]
    refine ct_X2_copy sz ?_
    rw [e]
    exact ⟨rfl, K, rfl, lRA_met (by decide) H hT lKr lAs_rfl lMs_rfl⟩
  · have z40 := ho.2.2
    have z41 := hp.2.2
    have eM : lAm v (aMet v 2) := lAm_met lAm_rfl
    obtain ⟨ok, y9, eN, sz, tz⟩ := lMok H.1 eM
    obtain ⟨c20, c22, c28, c31, c33, c26, c27⟩ := lCs H.1 eM
    have e : sCopy (aMet v 2) r i q j n = (-3, sMeet (aMet v 2) 2) := by
      unfold sCopy
      rw [if_neg (by omega), if_neg (by omega), eM 40 r (by omega) (by omega), eM 40 q (by omega) (by omega), if_neg (by omega), if_pos (by omega)]
    refine ct_X2_copy sz ?_
    rw [e]
    exact ⟨rfl, K, rfl, lRA_met (by decide) H hT lKr lAs_rfl lMs_rfl⟩
  · obtain ⟨z1, z2, z3⟩ := id hp
    have o3 := ho.2.2
    have hk : (gHd K (v 2 q)).1 = 10 := by rw [z2]
    have hlt := lLt hT (a := v 2 q) (by rw [hk]; decide)
    generalize hva : gCpy v (v 2 r) (v 2 q) i j n = va
    have eV : ∀ a k, a ≠ v 2 q → va a k = v a k := fun a k ha => by rw [← hva]; exact gCpy_ne (by omega)
    have eM : lAm v va := fun a k a0 a1 => eV a k (by omega)
    obtain ⟨ok, y9, eN, sz, tz⟩ := lMok H.1 eM
    refine ct_X2_copy sz ?_
    rw [show sCopy va r i q j n = (1, gCopy (gCopy va 42 0 n (fun k => va 41 (80 * r + (i + k)))) 41 (80 * q + j) n (fun k => va 41 (80 * r + (i + k)))) from by unfold sCopy; rw [if_neg (by omega), if_neg (by omega), eM 40 r (by omega) (by omega), eM 40 q (by omega) (by omega), if_neg (by omega), if_neg (by omega)]]
    dsimp only
    refine ⟨rfl, K, rfl, lB_row H.1 hT lKr h66 (fun a k ha hk' => ?_) (lR_put (r := q) (c := v 2 q) (m := v 40 q) H.1.2.1 hT lKr hq (fun s q0 q1 hs => ⟨?_, ?_⟩) (fun k hk' => ?_) (fun s l q0 q1 hs y1 y2 => ?_) ?_ ?_ (Or.inr ⟨⟨z1, z2, z3⟩, fun l j0 j1 => ?_⟩) (fun hn s q0 q1 hs => H.1.2.1.2 q s hq.1 hq.2 q0 q1 (by omega) hn)), lF_sc H.2 (fun a k hk' => ?_)⟩
    · have : a ≠ v 2 q := fun z => by rw [z] at hk'; omega
      rw [gCopy_no (by omega), gCopy_no (by omega), eV a k this]
    · rw [gCopy_no (by omega), gCopy_no (by omega), eV _ _ (by omega)]
    · rw [gCopy_no (by omega), gCopy_no (by omega), eV _ _ (by omega)]
    · rw [gCopy_no (by omega), gCopy_no (by omega), eV _ _ (by omega)]
    · have := H.1.2.1.2 q s hq.1 hq.2 q0 q1 (by omega) (by omega)
      rw [gCopy_no (by omega), gCopy_no (by omega), eV _ _ (by omega)]
    · rw [gCopy_no (by omega), gCopy_no (by omega), eV _ _ (by omega)]
    · rw [gCopy_no (by omega), gCopy_no (by omega), eV _ _ (by omega)]
    · rw [gCopy_no (by omega), gCopy_no (by omega)]
      by_cases hl : j ≤ l ∧ l < j + n
      · rw [gCopy_in (by omega), ← hva, gCpy_at ⟨rfl, hl⟩, gCpy_ne (by omega), show 80 * q + l - (80 * q + j) = l - j by omega]
        exact lRc H.1 hr ho (i + (l - j)) (by omega) (by omega)
      · rw [gCopy_no (by omega), gCopy_no (by omega), eV 41 _ (by omega), ← hva, gCpy_ne (by omega)]
        exact lRc H.1 hq hp l j0 j1
    · rw [gCopy_no (by omega), gCopy_no (by omega), eV _ _ (by omega)]
set_option maxHeartbeats 1000000 in
theorem op_text {r n : Int} (hfl : Γ.1.stackTraces = false) (H : RA v (gHd K)) (hT : gTop (gHd K) t) : lOpW Γ mX0_text mX2_text [(0, r), (0, n)] 0 v (gHd K) t := by
  have hN := lB_N H.1
  have hok := lB_ok H.1
  have h66 := gHd_66 hT
  have hH := lB_hy H.1
  obtain ⟨d20, d22, d28, d31, d33, d26, d27⟩ := lCs H.1 (lAm_rfl (v := v))
  obtain ⟨o1, o2, o3, o4, o5, o6, o7, o8, o9, o10⟩ := id hok
  have o5 := o5.1
  obtain ⟨-, -, -, sz, tz⟩ := lMok H.1 (lAm_rfl (v := v))
  unfold lOpW
  refine ct_X0_text hfl (fun hb => ⟨_, rfl, rfl, ?_⟩) (fun hr hn => ⟨_, rfl, rfl, ?_⟩) (fun hr h0 h80 _ => ⟨_, rfl, rfl, ?_⟩)
  · have e : sText v r n = (-1, v) := by
      unfold sText
      rw [if_pos hb]
    refine ct_X2_text  ?_
    rw [e]
    exact ⟨rfl, K, rfl, H⟩
  · have eM : lAm v (aMet v 5) := lAm_met lAm_rfl
    obtain ⟨ok, y9, eN, sz, tz⟩ := lMok H.1 eM
    obtain ⟨c20, c22, c28, c31, c33, c26, c27⟩ := lCs H.1 eM
    have e : sText (aMet v 5) r n = (-3, sMeet (aMet v 5) 5) := by
      unfold sText
      rw [if_neg (by omega), if_pos hn]
    refine ct_X2_text  ?_
    rw [e]
    exact ⟨rfl, K, rfl, lRA_met (by decide) H hT lKr lAs_rfl lMs_rfl⟩
  · refine ct_X2_text ?_
    obtain ⟨⟨w1, w2, w3, w4⟩, wS, ⟨w5, w6⟩, wT, wD⟩ := id H.1.1.1
    have b7 := lLt hT (a := v 0 7) (by rw [w2]; decide)
    have b8 := lLt hT (a := v 0 8) (by rw [w6]; decide)
    have bS : ∀ s, 0 ≤ s → s < (gHd K (v 0 7)).2 → v (v 0 7) s < (t : Int) := fun s s0 s1 => (lLt hT (by have := (wS s s0 s1).2.1; omega)).2
    have bT : ∀ s, 0 ≤ s → s < (gHd K (v 0 7)).2 → v (v (v 0 7) s) 0 < (t : Int) := fun s s0 s1 => (lLt hT (by rw [(wS s s0 s1).2.2.2]; decide)).2
    generalize hva : gUp (gFill (gNf v t (fun _ => 0)) t 0 n 32) 3 r t = va
    have eV : ∀ a k, a ≠ (t : Int) → ¬ (a = 3 ∧ k = r) → va a k = v a k := fun a k ha hk => by rw [← hva, gUp_ne2 (by omega), gFill_no (by omega), gNf_ne (by omega)]
    rw [show sText va r n = (n, gFill (gUp va 43 r n) 44 (80 * r) (80 * r + 80) 32) from by unfold sText; rw [if_neg (by omega), if_neg (by omega)]]
    dsimp only
    refine ⟨rfl, _, rfl, lB_txt (c := t) H.1 hT lKu h66 (Or.inl (Int.le_refl _)) (fun a k ha hk => ?_) (lX_put (r := r) (c := t) (m := n) H.1.2.2.1 hT lKu hr (fun q q0 q1 hq => ⟨?_, ?_⟩) (fun k hk => ?_) (fun q i q0 q1 hq z1 z2 => ?_) ?_ ?_ (lKu _ b7.2) (fun s s0 s1 => ⟨?_, ?_⟩) ?_ ?_ ⟨⟨by omega, gHd_at (by omega), h0, h80⟩, fun i i0 i1 => ?_, by omega, fun s s0 s1 => by have := bT s s0 s1; omega⟩ (fun q q0 q1 hq => ?_)), lF_sc H.2 (fun a k hk => ?_)⟩
    · rw [gFill_no (by omega), gUp_ne2 (by omega), eV _ _ (by omega) (by omega)]
    · rw [gFill_no (by omega), gUp_ne2 (by omega), eV _ _ (by omega) (by omega)]
    · rw [gFill_no (by omega), gUp_ne2 (by omega), eV _ _ (by omega) (by omega)]
    · rw [gFill_no (by omega), gUp_ne2 (by omega), eV _ _ (by omega) (by omega)]
    · rw [gFill_no (by omega), gUp_ne2 (by omega), eV _ _ (by omega) (by omega)]
    · rw [gFill_no (by omega), gUp_ne2 (by omega), eV _ _ (by omega) (by omega)]
    · rw [gFill_no (by omega), gUp_ne2 (by omega), eV _ _ (by omega) (by omega)]
    · rw [gFill_no (by omega), gUp_ne2 (by omega), eV _ _ (by omega) (by omega)]
    · have := bS s s0 s1
      have := (wS s s0 s1).1
      rw [gFill_no (by omega), gUp_ne2 (by omega), eV _ _ (by omega) (by omega)]
    · rw [gFill_no (by omega), gUp_ne2 (by omega), ← hva, gUp_eq2 rfl rfl]
    · rw [gFill_no (by omega), gUp_eq2 rfl rfl]
    · rw [gFill_no (by omega), gUp_ne2 (by omega), ← hva, gUp_ne2 (by omega), gFill_in ⟨rfl, i0, i1⟩, gFill_in (by omega)]
    · rcases lXe H.1 (r := q) (by omega) with z | z
      · omega
      · have := lLk hT (a := v 3 q) z.2.1 (by decide)
        omega
    · rw [gFill_no (by omega), gUp_ne2 (by omega), eV _ _ (by omega) (by omega)]
set_option maxHeartbeats 1000000 in
theorem op_put {r i x : Int} (hfl : Γ.1.stackTraces = false) (H : RA v (gHd K)) (hT : gTop (gHd K) t) : lOpW Γ mX0_put mX2_put [(0, r), (0, i), (0, x)] 0 v (gHd K) t := by
  have hN := lB_N H.1
  have hok := lB_ok H.1
  have h66 := gHd_66 hT
  have hH := lB_hy H.1
  obtain ⟨d20, d22, d28, d31, d33, d26, d27⟩ := lCs H.1 (lAm_rfl (v := v))
  obtain ⟨o1, o2, o3, o4, o5, o6, o7, o8, o9, o10⟩ := id hok
  have o5 := o5.1
  obtain ⟨-, -, -, sz, tz⟩ := lMok H.1 (lAm_rfl (v := v))
  unfold lOpW
  refine ct_X0_put (n := v 43 r) hfl (lXe H.1) (fun hb => ⟨_, rfl, rfl, ?_⟩) (fun hr hz => ⟨_, rfl, rfl, ?_⟩) (fun hr ho hi => ⟨_, rfl, rfl, ?_⟩) (fun hr ho hi => ⟨_, rfl, rfl, ?_⟩)
  · have e : sPut v r i x = (-1, v) := by
      unfold sPut
      rw [if_pos hb]
    refine ct_X2_put tz ?_
    rw [e]
    exact ⟨rfl, K, rfl, H⟩
  · have z43 := lXn H.1 hr hz
    have eM : lAm v (aMet v 1) := lAm_met lAm_rfl
    obtain ⟨ok, y9, eN, sz, tz⟩ := lMok H.1 eM
    obtain ⟨c20, c22, c28, c31, c33, c26, c27⟩ := lCs H.1 eM
    have e : sPut (aMet v 1) r i x = (-3, sMeet (aMet v 1) 1) := by
      unfold sPut
      rw [if_neg (by omega), eM 43 r (by omega) (by omega), if_pos (by omega)]
    refine ct_X2_put tz ?_
    rw [e]
    exact ⟨rfl, K, rfl, lRA_met (by decide) H hT lKr lAs_rfl lMs_rfl⟩
  · have z43 := ho.2.2
    have eM : lAm v (aMet v 2) := lAm_met lAm_rfl
    obtain ⟨ok, y9, eN, sz, tz⟩ := lMok H.1 eM
    obtain ⟨c20, c22, c28, c31, c33, c26, c27⟩ := lCs H.1 eM
    have e : sPut (aMet v 2) r i x = (-3, sMeet (aMet v 2) 2) := by
      unfold sPut
      rw [if_neg (by omega), eM 43 r (by omega) (by omega), if_neg (by omega), if_neg hi]
    refine ct_X2_put tz ?_
    rw [e]
    exact ⟨rfl, K, rfl, lRA_met (by decide) H hT lKr lAs_rfl lMs_rfl⟩
  · obtain ⟨z1, z2, z3⟩ := id ho
    obtain ⟨y1, y2, y3, y4⟩ := lXc H.1 hr z1
    have hk : (gHd K (v 3 r)).1 = 11 := by rw [z2]
    have hlt := lLt hT (a := v 3 r) (by rw [hk]; decide)
    obtain ⟨⟨w1, w2, w3, w4⟩, wS, ⟨w5, w6⟩, wT, wD⟩ := id H.1.1.1
    have b7 := lLt hT (a := v 0 7) (by rw [w2]; decide)
    have n7 : v 0 7 ≠ v 3 r := fun z => by rw [z] at w2; omega
    have nS : ∀ s, 0 ≤ s → s < (gHd K (v 0 7)).2 → v (v 0 7) s ≠ v 3 r := fun s s0 s1 z => by have := (wS s s0 s1).2.1; rw [z] at this; omega
    have eM : lAm v (gUp v (v 3 r) i (w8 x)) := fun a k a0 a1 => gUp_ne2 (by omega)
    obtain ⟨ok, y9, eN, sz, tz⟩ := lMok H.1 eM
    refine ct_X2_put tz ?_
    rw [show sPut (gUp v (v 3 r) i (w8 x)) r i x = (w32 (v (v 3 r) i + 1000), gUp (gUp v (v 3 r) i (w8 x)) 44 (80 * r + i) (w8 x)) from by unfold sPut; rw [if_neg (by omega), eM 43 r (by omega) (by omega), if_neg (by omega), if_pos hi, eM 44 _ (by omega) (by omega), ← y2 i hi.1 hi.2, Int.add_comm]]
    dsimp only
    refine ⟨rfl, K, rfl, lB_txt (c := v 3 r) H.1 hT lKr h66 (Or.inr ⟨hk, y3, y4⟩) (fun a k ha hk' => ?_) (lX_put (r := r) (c := v 3 r) (m := v 43 r) H.1.2.2.1 hT lKr hr (fun q q0 q1 hq => ⟨?_, ?_⟩) (fun k hk' => ?_) (fun q j q0 q1 hq z1 z2 => ?_) ?_ ?_ (lKr _ b7.2) (fun s s0 s1 => ⟨?_, ?_⟩) ?_ ?_ ⟨⟨z1, z2, z3⟩, fun j j0 j1 => ?_, y3, y4⟩ (fun q q0 q1 hq => H.1.2.2.1.2 r q hr.1 hr.2 q0 q1 (by omega) (by omega))), lF_sc H.2 (fun a k hk' => ?_)⟩
    · rw [gUp_ne2 (by omega), gUp_ne2 (by omega)]
    · rw [gUp_ne2 (by omega), gUp_ne2 (by omega)]
    · rw [gUp_ne2 (by omega), gUp_ne2 (by omega)]
    · rw [gUp_ne2 (by omega), gUp_ne2 (by omega)]
    · have := H.1.2.2.1.2 r q hr.1 hr.2 q0 q1 (by omega) (by omega)
      rw [gUp_ne2 (by omega), gUp_ne2 (by omega)]
    · rw [gUp_ne2 (by omega), gUp_ne2 (by omega)]
    · rw [gUp_ne2 (by omega), gUp_ne2 (by omega)]
    · rw [gUp_ne2 (by omega), gUp_ne2 (by omega)]
    · have := nS s s0 s1
      have := (wS s s0 s1).1
      rw [gUp_ne2 (by omega), gUp_ne2 (by omega)]
    · rw [gUp_ne2 (by omega), gUp_ne2 (by omega)]
    · rw [gUp_ne2 (by omega), gUp_ne2 (by omega)]
    · rw [gUp_ne2 (by omega)]
      by_cases hj : j = i
      · subst hj
        rw [gUp_eq2 rfl rfl, gUp_eq2 rfl rfl]
      · rw [gUp_ne2 (by omega), gUp_ne2 (by omega), gUp_ne2 (by omega)]
        exact y2 j j0 j1
    · rw [gUp_ne2 (by omega), gUp_ne2 (by omega)]
end LG2
