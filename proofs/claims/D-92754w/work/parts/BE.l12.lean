/-! The law, 12: a wood is laid -/
section LM
variable {Γ : gC} {v v1 v2 : gM} {K K1 : gH} {h h1 : gH} {t : Nat}
variable {Q : gQ}
theorem ct_X2_woodB {r : Int} (hb : ¬ (0 ≤ r ∧ r ≤ 3)) (kB : Q (0, -1) v (gHd K) t) : Ctr Γ mX2_wood [(2, 38), (0, r)] v (gHd K) t Q := by
  refine Ctr.ofG (ls := [(2, 38), (0, r), (9, 0)]) rfl rfl rfl rfl rfl ?_
  refine Gx_iload_n (i := 1) dX2_wood_0 rfl rfl ?_
  refine cl_X2_129 dX2_wood_1 rfl ⟨(Nat.le_of_ble_eq_true rfl), (Nat.le_of_ble_eq_true rfl)⟩ rfl ?_
  refine ct_X2_isText (fun c1 => ?_) (fun c1 => ?_)
  · refine Gx_if_ne (tgt := 9) dX2_wood_4 (by decide) (fun _ => ?_) (fun hz => absurd hz (by decide))
    exact absurd c1 hb
  · refine Gx_if_ne (tgt := 9) dX2_wood_4 (by decide) (fun hz => absurd hz (by decide)) (fun _ => ?_)
    refine Gx_iconst ⟨by decide, by decide⟩ dX2_wood_7 ?_
    refine Gx_ireturn dX2_wood_8 trivial ?_
    exact kB
theorem ct_X2_woodN {r : Int} (hr : 0 ≤ r ∧ r ≤ 3) (hz : v 43 r < 0) (kN : Q (0, -3) (sMeet v 1) (gHd K) t) : Ctr Γ mX2_wood [(2, 38), (0, r)] v (gHd K) t Q := by
  refine Ctr.ofG (ls := [(2, 38), (0, r), (9, 0)]) rfl rfl rfl rfl rfl ?_
  refine Gx_iload_n (i := 1) dX2_wood_0 rfl rfl ?_
  refine cl_X2_129 dX2_wood_1 rfl ⟨(Nat.le_of_ble_eq_true rfl), (Nat.le_of_ble_eq_true rfl)⟩ rfl ?_
  refine ct_X2_isText (fun c1 => ?_) (fun c1 => ?_)
  · refine Gx_if_ne (tgt := 9) dX2_wood_4 (by decide) (fun _ => ?_) (fun hz => absurd hz (by decide))
    refine Gx_aload_n (i := 0) dX2_wood_9 rfl rfl ?_
    refine gf_X2_22_22 dX2_wood_10 rfl rfl ?_
    refine Gx_iload_n (i := 1) dX2_wood_13 rfl rfl ?_
    refine Gx_iaload dX2_wood_14 rfl (by first | omega | (simp (disch := omega) only [w32_id]; omega)) ?_
    refine Gx_if_ge (tgt := 24) dX2_wood_15 (by decide) (fun c15 => ?_) (fun c15 => ?_)
    · exfalso
      omega
    · refine Gx_aload_n (i := 0) dX2_wood_18 rfl rfl ?_
      refine Gx_iconst ⟨by decide, by decide⟩ dX2_wood_19 ?_
      refine cl_X2_118 dX2_wood_20 rfl rfl ⟨(Nat.le_of_ble_eq_true rfl), (Nat.le_of_ble_eq_true rfl)⟩ rfl ?_
      refine ct_X2_meets (by decide) ?_
      refine Gx_ireturn dX2_wood_23 trivial ?_
      exact kN
  · exact absurd hr c1
theorem lB_wd {w s : gM} (H : RA v (gHd K)) (hT : gTop (gHd K) t) (hs : BQ s) (hA : oWa v v1 K K1 t s) (hM : oWood v1 w s) : RA w (gHd K1) := by
  have h66 := gHd_66 hT
  obtain ⟨a1, a2, ⟨a3, a4⟩, a5, ⟨a6, a7, a8⟩, a9, a10, a11, a12, a13, a14, a15⟩ := hA
  obtain ⟨m1, m2, m3, m4, m5, m6, m7, m8, m9, m10, m11, m12⟩ := hM
  obtain ⟨⟨b1, b2, b3⟩, c2, c3, c4, c5, c6, c7⟩ := hs
  have eW : ∀ a k, ¬ (a = 38 ∨ (45 ≤ a ∧ a ≤ 56)) → w a k = v1 a k := fun a k hk => m1 a k (by omega)
  have eA : ∀ a k, a < (t : Int) → (a = 2 ∨ a = 3 ∨ a = 1 ∨ a = 39 ∨ a = 40 ∨ a = 41 ∨ a = 43 ∨ a = 44 ∨ (a = 0 ∧ (k = 0 ∨ k = 2 ∨ k = 3 ∨ k = 4 ∨ k = 35 ∨ k = 36)) ∨ 66 ≤ a) → w a k = v a k := fun a k ha hk => by rw [eW a k (by omega), a1 a k ha (by unfold aRq; omega)]
  have e7 : w 0 7 = v1 0 7 := eW 0 7 (by omega)
  have e8 : w 0 8 = v1 0 8 := eW 0 8 (by omega)
  have e32 : w 0 32 = 0 := (eW 0 32 (by omega)).trans a14
  have e12 : w 0 12 = s 38 14 := (eW 0 12 (by omega)).trans a12
  have k7 : (gHd K1 (v1 0 7)).1 = 17 := by rw [a4]
  have n7 : (gHd K1 (v1 0 7)).2 = s 38 12 := by rw [a4]
  have k8 : (gHd K1 (v1 0 8)).1 = 11 := by rw [a7]
  have n8 : (gHd K1 (v1 0 8)).2 = s 38 17 := by rw [a7]
  have w7 : ∀ i, w (v1 0 7) i = v1 (v1 0 7) i := fun i => eW _ i (by omega)
  have hS : ∀ i, 0 ≤ i → i < s 38 12 → 66 ≤ v1 (v1 0 7) i ∧ (3 ≤ (gHd K1 (v1 (v1 0 7) i)).1 ∧ (gHd K1 (v1 (v1 0 7) i)).1 ≤ 7) ∧ 66 ≤ v1 (v1 (v1 0 7) i) 0 ∧ gHd K1 (v1 (v1 (v1 0 7) i) 0) = (11, 3) ∧ (∀ q, 0 ≤ q → q ≤ 6 → aS w (gHd K1) (v1 (v1 0 7) i) q = s 45 (7 * i + q)) ∧ (t : Int) ≤ v1 (v1 (v1 0 7) i) 0 ∧ v1 (v1 (v1 0 7) i) 0 ≠ v1 0 8 ∧ w (v1 (v1 0 7) i) 0 = v1 (v1 (v1 0 7) i) 0 := fun i i0 i1 => by
    obtain ⟨⟨x1, x2, x3, x4, x5⟩, x6, x7⟩ := a5 i i0 i1
    refine ⟨x1, x2, x3, x4, fun q q0 q1 => ?_, x6, x7, eW _ 0 (by omega)⟩
    refine Eq.trans ?_ (x5 q q0 q1)
    unfold aS
    rw [eW _ 0 (by omega), eW _ 1 (by omega), eW _ 2 (by omega), eW _ 3 (by omega), eW 0 35 (by omega), eW _ (q - 1) (by omega)]
  refine ⟨⟨⟨?_, ?_, ⟨(eA 0 35 (by omega) (by omega)).trans H.1.1.2.2.1.1, (eA 0 36 (by omega) (by omega)).trans H.1.1.2.2.1.2⟩, ?_, ?_, fun j j0 j1 => by rw [m12 j j0 j1]; exact c7 j j0 j1, by rw [m7]; decide⟩, ?_, ?_, fun i i0 i1 => by omega⟩, lF_sc H.2 (fun a k hk => ?_)⟩
  · unfold aWf
    rw [e7, e8, n7]
    refine ⟨⟨Or.inr a3, k7, b1.1, b1.2⟩, fun i i0 i1 => ?_, ⟨Or.inr a6.1, k8⟩, fun i i0 i1 => by omega, fun i j i0 i1 => by omega⟩
    obtain ⟨x1, x2, x3, x4, x5, x6, x7, x8⟩ := hS i i0 i1
    rw [w7, x8]
    exact ⟨x1, x2, x3, x4⟩
  · intro i i0 i1
    rw [e7, n7] at i1
    obtain ⟨x1, x2, x3, x4, x5, x6, x7, x8⟩ := hS i i0 i1
    rw [e7, e8, w7, x8]
    exact x7
  · unfold lWn
    rw [e7, e8, n7, n8, e32, e12]
    refine ⟨⟨m2, m3, m4.trans ((eW 0 10 (by omega)).trans a10).symm, m5.trans ((eW 0 11 (by omega)).trans a11).symm, m6, m7.trans ((eW 17 2 (by omega)).trans a15).symm, m8⟩, fun k k0 k1 => ?_, fun k k0 k1 => ?_, fun k k0 k1 => ?_, fun k k0 k1 => ?_, fun k k0 k1 => by omega⟩
    · obtain ⟨x1, x2, x3, x4, x5, x6, x7, x8⟩ := hS (k / 7) (by omega) (by omega)
      rw [m9 k k0 k1, w7, x5 (k % 7) (by omega) (by omega), show 7 * (k / 7) + k % 7 = k by omega]
    · obtain ⟨y1, y2, y3, y4⟩ := m10 k k0 k1
      obtain ⟨z1, z2, z3, z4⟩ := a13 k k0 k1
      rw [y1, y2, y3, y4, eW 7 k (by omega), eW 8 k (by omega), eW 9 k (by omega), eW 19 k (by omega), z1, z2, z3, z4]
      exact ⟨rfl, rfl, rfl, rfl⟩
    · rw [m11 k k0 k1, eW _ k (by omega), a8 k k0 k1]
    · rw [m12 k k0 k1, eW 5 k (by omega), a9 k k0 k1]
  · refine ⟨by rw [m2]; exact b1, fun i i0 i1 => ?_, by rw [m8]; decide, fun i i0 i1 => by omega, ⟨by rw [m3]; exact b2, fun e e0 e1 => ?_⟩, by rw [m4]; exact c4, by rw [m5]; exact c5, by rw [m6]; exact b3, fun k k0 k1 => ?_, by rw [m7]; decide⟩
    · rw [m2] at i1
      have g := c2 i i0 i1
      have g0 := g.1
      obtain ⟨g0, g1, g2, g3, g4, g5, g6⟩ := g
      dsimp only at g0 g1 g2 g3 g4 g5 g6
      rw [show 7 * i + 0 = 7 * i by omega] at g0 g4 g5
      rw [m9 (7 * i) (by omega) (by omega), m9 (7 * i + 5) (by omega) (by omega), m9 (7 * i + 6) (by omega) (by omega), m9 (7 * i + 4) (by omega) (by omega)]
      refine ⟨g0, fun j j0 j1 => ?_, g2, g3, g4, g5, g6⟩
      rw [m9 (7 * i + 1 + j) (by omega) (by omega), show 7 * i + 1 + j = 7 * i + (1 + j) by omega]
      exact g1 j j0 j1
    · rw [m3] at e1
      obtain ⟨y1, y2, y3, y4⟩ := m10 e e0 e1
      rw [y1, y2, y3, y4]
      have := c3 e e0 e1
      omega
    · rw [m6] at k1
      rw [m11 k k0 k1]
      exact c6 k k0 k1
  · refine lR_fr H.1.2.1 hT a2 (fun r r0 r1 => ⟨eA 2 r (by omega) (by omega), eA 40 r (by omega) (by omega)⟩) (fun k => eA 41 k (by omega) (by omega)) (fun r i r0 r1 h6 => ?_)
    rcases H.1.2.1.1 r r0 r1 with z | z
    · omega
    · exact eA _ i (lLk hT z.1.2.1 (by decide)).2 (by omega)
  · refine ⟨fun r r0 r1 => ?_, fun r q r0 r1 q0 q1 hrq hn => ?_⟩
    · rw [eA 3 r (by omega) (by omega), eA 43 r (by omega) (by omega), e7, e8, n7]
      rcases H.1.2.2.1.1 r r0 r1 with z | ⟨⟨z1, z2, z3⟩, z4, z5, z6⟩
      · exact Or.inl z
      · have hlt := (lLk hT z2 (by decide)).2
        refine Or.inr ⟨⟨z1, by rw [a2 _ hlt]; exact z2, z3⟩, fun i i0 i1 => ?_, by omega, fun i i0 i1 => ?_⟩
        · rw [eA 44 _ (by omega) (by omega), eA _ i hlt (by omega)]
          exact z4 i i0 i1
        · obtain ⟨x1, x2, x3, x4, x5, x6, x7, x8⟩ := hS i i0 i1
          rw [w7, x8]
          omega
    · rw [eA 3 r (by omega) (by omega)] at hn ⊢
      rw [eA 3 q (by omega) (by omega)]
      exact H.1.2.2.1.2 r q r0 r1 q0 q1 hrq hn
  · by_cases c : a = 38
    · subst c
      rw [m1 38 k (by omega), a1 38 k (by omega) (by unfold aRq; omega)]
    · exact eA a k (by omega) (by omega)
set_option maxHeartbeats 1000000 in
theorem op_wood {r : Int} (H : RA v (gHd K)) (hT : gTop (gHd K) t) : lOp Γ mX0_wood mX2_wood [(0, r)] 0 v (gHd K) t := by
  have hN := lB_N H.1
  have hok := lB_ok H.1
  have h66 := gHd_66 hT
  have hH := lB_hy H.1
  obtain ⟨d20, d22, d28, d31, d33, d26, d27⟩ := lCs H.1 (lAm_rfl (v := v))
  obtain ⟨o1, o2, o3, o4, o5, o6, o7, o8, o9, o10⟩ := id hok
  have o5 := o5.1
  obtain ⟨-, -, -, sz, tz⟩ := lMok H.1 (lAm_rfl (v := v))
  unfold lOp
  refine ct_X0_wood (n := v 43 r) (b := mB v r) (lXo H.1) (by have := H.1.1.2.2.1.1; omega) (fun hb => ⟨_, rfl, rfl, ?_⟩) (fun hr hz => ⟨_, rfl, rfl, ?_⟩) (fun hr ho hf v1 K1 t1 hF hK1 ht => ⟨_, rfl, rfl, ?_⟩) (fun hr ho s v1 K1 t1 hp hn hB hO => ⟨_, rfl, rfl, ?_⟩)
  · exact ct_X2_woodB hb ⟨rfl, K, rfl, H⟩
  · have eM : lAm v (aMet v 1) := lAm_met lAm_rfl
    have z43 := lXn H.1 hr hz
    exact ct_X2_woodN hr (by rw [eM 43 r (by omega) (by omega)]; omega) ⟨rfl, K, rfl, lRA_met (by decide) H hT lKr lAs_rfl lMs_rfl⟩
  · have eM : lAm v v1 := lAm_of h66 (lAs_rd hF)
    obtain ⟨ok, y9, eN, sz, tz⟩ := lMok H.1 eM
    have m43 := eM 43 r (by omega) (by omega)
    have z43 := ho.2.2.1
    refine ct_X2_wood tz (fun hb => absurd hr hb) (fun _ hz => absurd hz (by omega)) (fun _ _ _ v2 hS' => ⟨rfl, K1, rfl, lRA_sc H hT hK1 (lAs_rd hF) (lMs_rd hS')⟩) (fun hf' => ?_)
    rw [lmB eM, m43] at hf'
    exact absurd hf' hf
  · have eM : lAm v v1 := fun a k a0 a1 => hO.1 a k (by omega) (by unfold aRq; omega)
    obtain ⟨ok, y9, eN, sz, tz⟩ := lMok H.1 eM
    have m43 := eM 43 r (by omega) (by omega)
    have z43 := ho.2.2.1
    have hf : pFault (mB v r) (v 43 r) = -9 := by
      unfold pFault
      rw [hp]
      show (if s 38 12 = 0 then _ else _) = _
      rw [if_neg hn]
    refine ct_X2_wood tz (fun hb => absurd hr hb) (fun _ hz => absurd hz (by omega)) (fun _ _ hf' => ?_) (fun _ s' v2 hp' hw => ?_)
    · rw [lmB eM, m43] at hf'
      exact absurd hf hf'
    · rw [lmB eM, m43, hp] at hp'
      cases hp'
      exact ⟨rfl, K1, rfl, lB_wd H hT (pText_BQ hp) hO hw⟩
end LM
