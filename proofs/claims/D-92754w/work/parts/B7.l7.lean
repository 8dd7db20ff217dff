/-! The law, 7: the operations that change a wood -/
section LH
variable {Γ : gC} {v v1 v2 : gM} {K K1 : gH} {h h1 : gH} {t : Nat}
theorem yOK_upd {u w : gM} (h : yOK u) (e20 : w 38 20 = u 38 20) (e50 : ∀ k, 0 ≤ k → k < 7 * u 38 20 → w 50 k = u 50 k) (h33 : 0 ≤ w 38 33 ∧ w 38 33 ≤ 24) (hT : ∀ i, 0 ≤ i → i < w 38 33 → (0 ≤ w 57 i ∧ w 57 i < u 38 20) ∧ 0 ≤ w 58 i ∧ w 58 i ≤ 60) (e22 : w 38 22 = u 38 22) (hE : ∀ e, 0 ≤ e → e < u 38 22 → w 51 e = u 51 e ∧ w 52 e = u 52 e ∧ w 53 e = u 53 e ∧ 0 ≤ w 56 e ∧ w 56 e ≤ 200) (h26 : 0 ≤ w 38 26 ∧ w 38 26 ≤ 99) (h27 : 0 ≤ w 38 27 ∧ w 38 27 ≤ 12) (e28 : w 38 28 = u 38 28) (h54 : ∀ k, 0 ≤ k → k < u 38 28 → 0 ≤ w 54 k ∧ w 54 k ≤ 2) (h31 : 0 ≤ w 38 31) : yOK w := by
  obtain ⟨h1, h2, h3, h4, ⟨h5, h5'⟩, h6, h7, h8, h9, h10⟩ := h
  refine ⟨by rw [e20]; exact h1, fun s s0 s1 => ?_, h33, by rw [e20]; exact hT, ⟨by rw [e22]; exact h5, fun e e0 e1 => ?_⟩, h26, h27, by rw [e28]; exact h8, by rw [e28]; exact h54, h31⟩
  · rw [e20] at s1
    have q := h2 s s0 s1
    rw [e50 (7 * s) (by omega) (by omega), e50 (7 * s + 5) (by omega) (by omega), e50 (7 * s + 6) (by omega) (by omega), e50 (7 * s + 4) (by omega) (by omega)]
    refine ⟨q.1, fun w w0 w1 => ?_, q.2.2⟩
    rw [e50 (7 * s + 1 + w) (by omega) (by omega)]
    exact q.2.1 w w0 w1
  · rw [e22] at e1
    obtain ⟨q1, q2, q3, q4⟩ := hE e e0 e1
    rw [q1, q2, q3]
    have q := h5' e e0 e1
    exact ⟨q.1, q4, q.2.2⟩
theorem lW_gen (H : lW v h) (hT : gTop h t) (hh : ∀ a, a < (t : Int) → h1 a = h a)
    (e7 : v1 0 7 = v 0 7) (e8 : v1 0 8 = v 0 8) (e35 : v1 0 35 = -9 ∧ v1 0 36 = -9) (e20 : v1 38 20 = v 38 20) (e50 : ∀ k, v1 50 k = v 50 k)
    (e3 : ∀ s, 0 ≤ s → s < (h (v 0 7)).2 → v1 (v 0 7) s = v (v 0 7) s)
    (e4 : ∀ s k, 0 ≤ s → s < (h (v 0 7)).2 → v1 (v (v 0 7) s) k = v (v (v 0 7) s) k)
    (e5 : ∀ s k, 0 ≤ s → s < (h (v 0 7)).2 → v1 (v (v (v 0 7) s) 0) k = v (v (v (v 0 7) s) 0) k)
    (s22 : v1 38 22 = v1 0 12) (s26 : v1 38 26 = v1 0 10) (s27 : v1 38 27 = v1 0 11) (e28 : v1 38 28 = v 38 28) (s31 : v1 38 31 = v1 17 2) (s33 : v1 38 33 = v1 0 32)
    (sE : ∀ k, 0 ≤ k → k < v1 0 12 → v1 51 k = v1 7 k ∧ v1 52 k = v1 8 k ∧ v1 53 k = v1 9 k ∧ v1 56 k = v1 19 k)
    (s54 : ∀ k, 0 ≤ k → k < (h (v 0 8)).2 → v1 54 k = v1 (v 0 8) k) (s55 : ∀ k, 0 ≤ k → k ≤ 2 → v1 55 k = v1 5 k)
    (sT : ∀ k, 0 ≤ k → k < v1 0 32 → (66 ≤ v1 16 k ∧ (h1 (v1 16 k)).1 = 8) ∧ v1 57 k = v1 (v1 16 k) 0 ∧ v1 58 k = v1 18 k)
    (sD : ∀ i j, 0 ≤ i → i < v1 0 32 → 0 ≤ j → j < v1 0 32 → i ≠ j → v1 16 i ≠ v1 16 j)
    (hOK1 : yOK v1) (hCh1 : yCh v1) (h31 : v1 38 31 ≤ 9999) : lW v1 h1 := by
  obtain ⟨hWf, hCa, ⟨h35, h36⟩, hN, hOK, hCh, hY⟩ := H
  obtain ⟨⟨w1, w2, w3, w4⟩, wS, ⟨w5, w6⟩, wT, wD⟩ := hWf
  have b7 := lLt hT (a := v 0 7) (by rw [w2]; decide)
  have b8 := lLt hT (a := v 0 8) (by rw [w6]; decide)
  have H7 : h1 (v 0 7) = h (v 0 7) := hh _ b7.2
  have H8 : h1 (v 0 8) = h (v 0 8) := hh _ b8.2
  have HS : ∀ s, 0 ≤ s → s < (h (v 0 7)).2 → h1 (v (v 0 7) s) = h (v (v 0 7) s) := fun s s0 s1 => hh _ (lLt hT (by have := (wS s s0 s1).2.1; omega)).2
  have HT : ∀ s, 0 ≤ s → s < (h (v 0 7)).2 → h1 (v (v (v 0 7) s) 0) = h (v (v (v 0 7) s) 0) := fun s s0 s1 => hh _ (lLt hT (by rw [(wS s s0 s1).2.2.2]; decide)).2
  have hS : ∀ s q, 0 ≤ s → s < (h (v 0 7)).2 → aS v1 h1 (v (v 0 7) s) q = aS v h (v (v 0 7) s) q := by
    intro s q s0 s1
    unfold aS
    rw [HS s s0 s1, e4 s 0 s0 s1, e4 s 1 s0 s1, e4 s 2 s0 s1, e4 s 3 s0 s1, e5 s _ s0 s1, e35.1, h35]
  have hN1 : lWn v1 h1 := by
    obtain ⟨⟨h20, h22, h26, h27, h28, h31', h33⟩, h50, hE, h54, h55, hTr⟩ := hN
    unfold lWn
    rw [e7, e8, H7, H8]
    refine ⟨⟨e20.trans h20, s22, s26, s27, e28.trans h28, s31, s33⟩, fun k k0 k1 => ?_, sE, s54, s55, fun k k0 k1 => (sT k k0 k1).2⟩
    rw [e50, e3 _ (by omega) (by omega), hS _ _ (by omega) (by omega)]
    exact h50 k k0 k1
  refine ⟨?_, ?_, e35, hN1, hOK1, hCh1, h31⟩
  · unfold aWf
    rw [e7, e8, H7, H8]
    refine ⟨⟨w1, w2, w3, w4⟩, fun s s0 s1 => ?_, ⟨w5, w6⟩, fun i i0 i1 => (sT i i0 i1).1, sD⟩
    rw [e3 s s0 s1, HS s s0 s1, e4 s 0 s0 s1, HT s s0 s1]
    exact wS s s0 s1
  · intro s s0 s1
    rw [e7, H7] at s1
    rw [e7, e8, e3 s s0 s1, e4 s 0 s0 s1]
    exact hCa s s0 s1
/-- rows and texts are as they were -/
theorem lRX (H : lB v h) (hT : gTop h t) (hh : ∀ a, a < (t : Int) → h1 a = h a) (h66 : 66 ≤ t) (e : ∀ a k, a < (t : Int) → ((2 ≤ a ∧ a ≤ 4) ∨ a = 40 ∨ a = 41 ∨ a = 43 ∨ a = 44 ∨ (a = 0 ∧ (k = 7 ∨ k = 8)) ∨ (66 ≤ a ∧ a ≠ v 0 8 ∧ (h a).1 ≠ 8)) → v1 a k = v a k) : lR v1 h1 ∧ lX v1 h1 := by
  obtain ⟨hW, hR0, hX, hTr⟩ := H
  obtain ⟨⟨w1, w2, w3, w4⟩, wS, ⟨w5, w6⟩, wT, wD⟩ := id hW.1
  have b7 := lLt hT (a := v 0 7) (by rw [w2]; decide)
  have b8 := lLt hT (a := v 0 8) (by rw [w6]; decide)
  have n7 : v 0 7 ≠ v 0 8 := fun z => by rw [z] at w2; omega
  have bS : ∀ s, 0 ≤ s → s < (h (v 0 7)).2 → v (v 0 7) s < (t : Int) := fun s s0 s1 => (lLt hT (by have := (wS s s0 s1).2.1; omega)).2
  have nS : ∀ s, 0 ≤ s → s < (h (v 0 7)).2 → v (v 0 7) s ≠ v 0 8 := fun s s0 s1 z => by have := (wS s s0 s1).2.1; rw [z] at this; omega
  refine ⟨lR_fr hR0 hT hh (fun r r0 r1 => ⟨e 2 r (by omega) (by omega), e 40 r (by omega) (by omega)⟩) (fun k => e 41 k (by omega) (by omega)) (fun r i r0 r1 h6 => ?_),
    lX_fr hX hT hh (fun r r0 r1 => ⟨e 3 r (by omega) (by omega), e 43 r (by omega) (by omega)⟩) (fun k => e 44 k (by omega) (by omega)) (fun r i r0 r1 h6 => ?_) (e 0 7 (by omega) (by omega)) (e 0 8 (by omega) (by omega)) (hh _ b7.2) (fun s s0 s1 => ⟨e _ s b7.2 (by omega), e _ 0 (bS s s0 s1) (by have := wS s s0 s1; have := nS s s0 s1; omega)⟩)⟩
  · rcases hR0.1 r r0 r1 with z | z
    · omega
    · have q : (h (v 2 r)).1 = 10 := by rw [z.1.2.1]
      have n8 : v 2 r ≠ v 0 8 := fun z => by rw [z] at q; omega
      exact e _ i (lLt hT (by rw [q]; decide)).2 (by omega)
  · rcases hX.1 r r0 r1 with z | z
    · omega
    · have q : (h (v 3 r)).1 = 11 := by rw [z.1.2.1]
      have n8 := z.2.2.1
      exact e _ i (lLt hT (by rw [q]; decide)).2 (by omega)
/-- the facts of two woods, at hand -/
theorem lKd (H : lB v h) (hT : gTop h t) : (v 0 7 < (t : Int) ∧ v 0 8 < (t : Int) ∧ v 0 7 ≠ v 0 8) ∧ (∀ s, 0 ≤ s → s < (h (v 0 7)).2 → (66 ≤ v (v 0 7) s ∧ v (v 0 7) s < (t : Int) ∧ v (v 0 7) s ≠ v 0 8 ∧ (h (v (v 0 7) s)).1 ≠ 8) ∧ (66 ≤ v (v (v 0 7) s) 0 ∧ v (v (v 0 7) s) 0 < (t : Int) ∧ v (v (v 0 7) s) 0 ≠ v 0 8 ∧ (h (v (v (v 0 7) s) 0)).1 = 11)) ∧ (∀ i, 0 ≤ i → i < v 0 32 → (66 ≤ v 16 i ∧ v 16 i < (t : Int) ∧ v 16 i ≠ v 0 8 ∧ (h (v 16 i)).1 = 8)) ∧ (h (v 0 7)).1 = 17 ∧ (h (v 0 8)).1 = 11 ∧ (v 0 7 = 4 ∨ 66 ≤ v 0 7) ∧ (v 0 8 = 37 ∨ 66 ≤ v 0 8) := by
  obtain ⟨hW, hR0, hX, hTr⟩ := H
  obtain ⟨⟨w1, w2, w3, w4⟩, wS, ⟨w5, w6⟩, wT, wD⟩ := id hW.1
  have b7 := lLt hT (a := v 0 7) (by rw [w2]; decide)
  have b8 := lLt hT (a := v 0 8) (by rw [w6]; decide)
  refine ⟨⟨b7.2, b8.2, fun z => by rw [z] at w2; omega⟩, fun s s0 s1 => ?_, fun i i0 i1 => ?_, w2, w6, w1, w5⟩
  · obtain ⟨q1, q2, q3, q4⟩ := wS s s0 s1
    have q5 : (h (v (v (v 0 7) s) 0)).1 = 11 := by rw [q4]
    exact ⟨⟨q1, (lLt hT (by omega)).2, fun z => by rw [z] at q2; omega, by omega⟩, q3, (lLt hT (by rw [q5]; decide)).2, hW.2.1 s s0 s1, q5⟩
  · obtain ⟨q1, q2⟩ := wT i i0 i1
    exact ⟨q1, (lLt hT (by rw [q2]; decide)).2, fun z => by rw [z] at q2; omega, q2⟩
set_option maxHeartbeats 1000000 in
theorem op_jay {a b : Int} (H : RA v (gHd K)) (hT : gTop (gHd K) t) : lOp Γ mX0_jay mX2_jay [(0, a), (0, b)] 0 v (gHd K) t := by
  have hN := lB_N H.1
  have hok := lB_ok H.1
  have h66 := gHd_66 hT
  have hH := lB_hy H.1
  obtain ⟨d20, d22, d28, d31, d33, d26, d27⟩ := lCs H.1 (lAm_rfl (v := v))
  obtain ⟨o1, o2, o3, o4, o5, o6, o7, o8, o9, o10⟩ := id hok
  have o5 := o5.1
  obtain ⟨-, -, -, sz, tz⟩ := lMok H.1 (lAm_rfl (v := v))
  unfold lOp
  refine ct_X0_jay (fun ha hb => ⟨_, rfl, rfl, ?_⟩) (fun hb => ⟨_, rfl, rfl, ?_⟩)
  · refine ct_X2_jay ?_
    rw [show sJay (gUp (gUp v 0 10 a) 0 11 b) a b = (1, gUp (gUp (gUp (gUp v 0 10 a) 0 11 b) 38 26 a) 38 27 b) from by unfold sJay; rw [if_neg (by omega)]]
    dsimp only
    obtain ⟨⟨k7, k8, k78⟩, kS, kT, kd7, kd8, kw7, kw8⟩ := lKd H.1 hT
    obtain ⟨⟨h20, h22, h26, h27, h28, h31, h33⟩, h50, hE, h54, h55, hTr⟩ := id H.1.1.2.2.2.1
    have wD := H.1.1.1.2.2.2.2
    generalize hw : gUp (gUp (gUp (gUp v 0 10 a) 0 11 b) 38 26 a) 38 27 b = w
    have eV : ∀ c k, ¬ ((c = 0 ∧ (k = 10 ∨ k = 11)) ∨ (c = 38 ∧ (k = 26 ∨ k = 27))) → w c k = v c k := fun c k hk => by rw [← hw, gUp_ne2 (by omega), gUp_ne2 (by omega), gUp_ne2 (by omega), gUp_ne2 (by omega)]
    have a10 : w 0 10 = a := by rw [← hw, gUp_ne2 (by omega), gUp_ne2 (by omega), gUp_ne2 (by omega), gUp_eq2 rfl rfl]
    have a11 : w 0 11 = b := by rw [← hw, gUp_ne2 (by omega), gUp_ne2 (by omega), gUp_eq2 rfl rfl]
    have m26 : w 38 26 = a := by rw [← hw, gUp_ne2 (by omega), gUp_eq2 rfl rfl]
    have m27 : w 38 27 = b := by rw [← hw, gUp_eq2 rfl rfl]
    have hX := lRX H.1 hT (lKr (K := K)) h66 (v1 := w) (fun c k hc hk => eV c k (by omega))
    refine ⟨rfl, K, rfl, ⟨lW_gen H.1.1 hT lKr (eV _ _ (by omega)) (eV _ _ (by omega)) ⟨(eV _ _ (by omega)).trans H.1.1.2.2.1.1, (eV _ _ (by omega)).trans H.1.1.2.2.1.2⟩ (eV _ _ (by omega)) (fun k => eV _ _ (by omega)) (fun s s0 s1 => eV _ _ (by omega)) (fun s k s0 s1 => eV _ _ (by have := (kS s s0 s1).1; omega)) (fun s k s0 s1 => eV _ _ (by have := (kS s s0 s1).2; omega)) ?_ (m26.trans a10.symm) (m27.trans a11.symm) (eV _ _ (by omega)) ?_ ?_ (fun k k0 k1 => ?_) (fun k k0 k1 => ?_) (fun k k0 k1 => ?_) (fun k k0 k1 => ?_) (fun i j i0 i1 j0 j1 => ?_) (yOK_upd hok (eV _ _ (by omega)) (fun k _ _ => eV _ _ (by omega)) ?_ (fun i i0 i1 => ?_) (eV _ _ (by omega)) (fun e e0 e1 => ?_) (by omega) (by omega) (eV _ _ (by omega)) (fun k k0 k1 => ?_) ?_) (fun j j0 j1 => ?_) ?_, hX.1, hX.2, lT_fr H.1.2.2.2 (eV _ _ (by omega)) (fun i i0 i1 => ?_)⟩, lF_sc H.2 (fun c k hk => eV c k (by omega))⟩
    · rw [eV 38 22 (by omega), eV 0 12 (by omega)]; exact h22
    · rw [eV 38 31 (by omega), eV 17 2 (by omega)]; exact h31
    · rw [eV 38 33 (by omega), eV 0 32 (by omega)]; exact h33
    · rw [eV 0 12 (by omega)] at k1
      rw [eV 51 k (by omega), eV 52 k (by omega), eV 53 k (by omega), eV 56 k (by omega), eV 7 k (by omega), eV 8 k (by omega), eV 9 k (by omega), eV 19 k (by omega)]
      exact hE k k0 k1
    · rw [eV 54 k (by omega), eV _ k (by omega)]
      exact h54 k k0 k1
    · rw [eV 55 k (by omega), eV 5 k (by omega)]
      exact h55 k k0 k1
    · rw [eV 0 32 (by omega)] at k1
      have q := kT k k0 k1
      rw [eV 16 k (by omega), eV 57 k (by omega), eV 58 k (by omega), eV 18 k (by omega), eV _ 0 (by omega)]
      exact ⟨⟨q.1, q.2.2.2⟩, hTr k k0 k1⟩
    · rw [eV 0 32 (by omega)] at i1 j1
      rw [eV 16 i (by omega), eV 16 j (by omega)]
      exact wD i j i0 i1 j0 j1
    · rw [eV 38 33 (by omega)]; exact o3
    · rw [eV 38 33 (by omega)] at i1
      rw [eV 57 i (by omega), eV 58 i (by omega)]
      exact o4 i i0 i1
    · rw [eV 51 e (by omega), eV 52 e (by omega), eV 53 e (by omega), eV 56 e (by omega)]
      exact ⟨rfl, rfl, rfl, (hok.2.2.2.2.1.2 e e0 e1).2.1⟩
    · rw [eV 54 k (by omega)]
      exact o9 k k0 k1
    · rw [eV 38 31 (by omega)]; exact o10
    · rw [eV 55 j (by omega)]
      exact H.1.1.2.2.2.2.2.1 j j0 j1
    · rw [eV 38 31 (by omega)]
      exact H.1.1.2.2.2.2.2.2
    · have q := kT i i0 i1
      exact ⟨eV _ _ (by omega), eV _ _ (by omega), eV _ _ (by omega), eV _ _ (by omega), eV _ _ (by omega)⟩
  · have e : sJay v a b = (-1, v) := by
      unfold sJay
      rw [if_pos (by omega)]
    refine ct_X2_jay  ?_
    rw [e]
    exact ⟨rfl, K, rfl, H⟩
set_option maxHeartbeats 1000000 in
theorem op_mice {e m : Int} (H : RA v (gHd K)) (hT : gTop (gHd K) t) : lOp Γ mX0_mice mX2_mice [(0, e), (0, m)] 0 v (gHd K) t := by
  have hN := lB_N H.1
  have hok := lB_ok H.1
  have h66 := gHd_66 hT
  have hH := lB_hy H.1
  obtain ⟨d20, d22, d28, d31, d33, d26, d27⟩ := lCs H.1 (lAm_rfl (v := v))
  obtain ⟨o1, o2, o3, o4, o5, o6, o7, o8, o9, o10⟩ := id hok
  have o5 := o5.1
  obtain ⟨-, -, -, sz, tz⟩ := lMok H.1 (lAm_rfl (v := v))
  unfold lOp
  refine ct_X0_mice (by omega) (fun he hm => ⟨_, rfl, rfl, ?_⟩) (fun hb => ⟨_, rfl, rfl, ?_⟩)
  · obtain ⟨⟨k7, k8, k78⟩, kS, kT, kd7, kd8, kw7, kw8⟩ := lKd H.1 hT
    obtain ⟨⟨h20, h22, h26, h27, h28, h31, h33⟩, h50, hE, h54, h55, hTr⟩ := id H.1.1.2.2.2.1
    have wD := H.1.1.1.2.2.2.2
    have q56 := (hE e he.1 he.2).2.2.2
    refine ct_X2_mice (by rw [gUp_ne2 (by omega)]; omega) ?_
    rw [show sMice (gUp v 19 e m) e m = (v 19 e, gUp (gUp v 19 e m) 56 e m) from by unfold sMice; rw [gUp_ne2 (v := v) (by omega), if_neg (by omega), gUp_ne2 (v := v) (by omega), q56]]
    dsimp only
    generalize hw : gUp (gUp v 19 e m) 56 e m = w
    have eV : ∀ c k, ¬ ((c = 19 ∧ k = e) ∨ (c = 56 ∧ k = e)) → w c k = v c k := fun c k hk => by rw [← hw, gUp_ne2 (by omega), gUp_ne2 (by omega)]
    have a19 : w 19 e = m := by rw [← hw, gUp_ne2 (by omega), gUp_eq2 rfl rfl]
    have m56 : w 56 e = m := by rw [← hw, gUp_eq2 rfl rfl]
    have hX := lRX H.1 hT (lKr (K := K)) h66 (v1 := w) (fun c k hc hk => eV c k (by omega))
    refine ⟨rfl, K, rfl, ⟨lW_gen H.1.1 hT lKr (eV _ _ (by omega)) (eV _ _ (by omega)) ⟨(eV _ _ (by omega)).trans H.1.1.2.2.1.1, (eV _ _ (by omega)).trans H.1.1.2.2.1.2⟩ (eV _ _ (by omega)) (fun k => eV _ _ (by omega)) (fun s s0 s1 => eV _ _ (by omega)) (fun s k s0 s1 => eV _ _ (by have := (kS s s0 s1).1; omega)) (fun s k s0 s1 => eV _ _ (by have := (kS s s0 s1).2; omega)) ?_ ?_ ?_ (eV _ _ (by omega)) ?_ ?_ (fun k k0 k1 => ?_) (fun k k0 k1 => ?_) (fun k k0 k1 => ?_) (fun k k0 k1 => ?_) (fun i j i0 i1 j0 j1 => ?_) (yOK_upd hok (eV _ _ (by omega)) (fun k _ _ => eV _ _ (by omega)) ?_ (fun i i0 i1 => ?_) (eV _ _ (by omega)) (fun f e0 e1 => ?_) ?_ ?_ (eV _ _ (by omega)) (fun k k0 k1 => ?_) ?_) (fun j j0 j1 => ?_) ?_, hX.1, hX.2, lT_fr H.1.2.2.2 (eV _ _ (by omega)) (fun i i0 i1 => ?_)⟩, lF_sc H.2 (fun c k hk => eV c k (by omega))⟩
    · rw [eV 38 22 (by omega), eV 0 12 (by omega)]; exact h22
    · rw [eV 38 26 (by omega), eV 0 10 (by omega)]; exact h26
    · rw [eV 38 27 (by omega), eV 0 11 (by omega)]; exact h27
    · rw [eV 38 31 (by omega), eV 17 2 (by omega)]; exact h31
    · rw [eV 38 33 (by omega), eV 0 32 (by omega)]; exact h33
    · rw [eV 0 12 (by omega)] at k1
      rw [eV 51 k (by omega), eV 52 k (by omega), eV 53 k (by omega), eV 7 k (by omega), eV 8 k (by omega), eV 9 k (by omega)]
      have q := hE k k0 k1
      refine ⟨q.1, q.2.1, q.2.2.1, ?_⟩
      by_cases c : k = e
      · subst c
        rw [a19, m56]
      · rw [eV 56 k (by omega), eV 19 k (by omega)]
        exact q.2.2.2
    · rw [eV 54 k (by omega), eV _ k (by omega)]
      exact h54 k k0 k1
    · rw [eV 55 k (by omega), eV 5 k (by omega)]
      exact h55 k k0 k1
    · rw [eV 0 32 (by omega)] at k1
      have q := kT k k0 k1
      rw [eV 16 k (by omega), eV 57 k (by omega), eV 58 k (by omega), eV 18 k (by omega), eV _ 0 (by omega)]
      exact ⟨⟨q.1, q.2.2.2⟩, hTr k k0 k1⟩
    · rw [eV 0 32 (by omega)] at i1 j1
      rw [eV 16 i (by omega), eV 16 j (by omega)]
      exact wD i j i0 i1 j0 j1
    · rw [eV 38 33 (by omega)]; exact o3
    · rw [eV 38 33 (by omega)] at i1
      rw [eV 57 i (by omega), eV 58 i (by omega)]
      exact o4 i i0 i1
    · rw [eV 51 f (by omega), eV 52 f (by omega), eV 53 f (by omega)]
      refine ⟨rfl, rfl, rfl, ?_⟩
      by_cases c : f = e
      · subst c
        rw [m56]
        exact hm
      · rw [eV 56 f (by omega)]
        exact (hok.2.2.2.2.1.2 f e0 e1).2.1
    · rw [eV 38 26 (by omega)]; exact o6
    · rw [eV 38 27 (by omega)]; exact o7
    · rw [eV 54 k (by omega)]
      exact o9 k k0 k1
    · rw [eV 38 31 (by omega)]; exact o10
    · rw [eV 55 j (by omega)]
      exact H.1.1.2.2.2.2.2.1 j j0 j1
    · rw [eV 38 31 (by omega)]
      exact H.1.1.2.2.2.2.2.2
    · have q := kT i i0 i1
      exact ⟨eV _ _ (by omega), eV _ _ (by omega), eV _ _ (by omega), eV _ _ (by omega), eV _ _ (by omega)⟩
  · have e : sMice v e m = (-1, v) := by
      unfold sMice
      rw [if_pos (by omega)]
    refine ct_X2_mice (by omega) ?_
    rw [e]
    exact ⟨rfl, K, rfl, H⟩
set_option maxHeartbeats 1000000 in
theorem op_spring {i w : Int} (hfl : Γ.1.stackTraces = false) (H : RA v (gHd K)) (hT : gTop (gHd K) t) : lOpW Γ mX0_spring mX2_spring [(0, i), (0, w)] 0 v (gHd K) t := by
  have hN := lB_N H.1
  have hok := lB_ok H.1
  have h66 := gHd_66 hT
  have hH := lB_hy H.1
  obtain ⟨d20, d22, d28, d31, d33, d26, d27⟩ := lCs H.1 (lAm_rfl (v := v))
  obtain ⟨o1, o2, o3, o4, o5, o6, o7, o8, o9, o10⟩ := id hok
  have o5 := o5.1
  obtain ⟨-, -, -, sz, tz⟩ := lMok H.1 (lAm_rfl (v := v))
  unfold lOpW
  refine ct_X0_spring (n := (gHd K (v 0 8)).2) hfl (pairEq hH.1.2.2.1.2) (by omega) (fun hb => ⟨_, rfl, rfl, ?_⟩) (fun hw hi => ⟨_, rfl, rfl, ?_⟩) (fun hw hi => ⟨_, rfl, rfl, ?_⟩)
  · have e : sSpring v i w = (-1, v) := by
      unfold sSpring
      rw [if_pos hb]
    refine ct_X2_spring (by omega) ?_
    rw [e]
    exact ⟨rfl, K, rfl, H⟩
  · have eM : lAm v (aMet v 2) := lAm_met lAm_rfl
    obtain ⟨ok, y9, eN, sz, tz⟩ := lMok H.1 eM
    obtain ⟨c20, c22, c28, c31, c33, c26, c27⟩ := lCs H.1 eM
    have e : sSpring (aMet v 2) i w = (-3, sMeet (aMet v 2) 2) := by
      unfold sSpring
      rw [if_neg (by omega), if_pos (by omega)]
    refine ct_X2_spring (by omega) ?_
    rw [e]
    exact ⟨rfl, K, rfl, lRA_met (by decide) H hT lKr lAs_rfl lMs_rfl⟩
  · obtain ⟨⟨k7, k8, k78⟩, kS, kT, kd7, kd8, kw7, kw8⟩ := lKd H.1 hT
    obtain ⟨⟨h20, h22, h26, h27, h28, h31, h33⟩, h50, hE, h54, h55, hTr⟩ := id H.1.1.2.2.2.1
    have wD := H.1.1.1.2.2.2.2
    have q54 := h54 i hi.1 hi.2
    refine ct_X2_spring (by rw [gUp_ne2 (by omega)]; omega) ?_
    rw [show sSpring (gUp v (v 0 8) i w) i w = (v (v 0 8) i, gUp (gUp v (v 0 8) i w) 54 i w) from by unfold sSpring; rw [if_neg (by omega), gUp_ne2 (v := v) (by omega), if_neg (by omega), gUp_ne2 (v := v) (by omega), q54]]
    dsimp only
    generalize hw' : gUp (gUp v (v 0 8) i w) 54 i w = z
    have eV : ∀ c k, ¬ ((c = v 0 8 ∧ k = i) ∨ (c = 54 ∧ k = i)) → z c k = v c k := fun c k hk => by rw [← hw', gUp_ne2 (by omega), gUp_ne2 (by omega)]
    have a8 : z (v 0 8) i = w := by rw [← hw', gUp_ne2 (by omega), gUp_eq2 rfl rfl]
    have m54 : z 54 i = w := by rw [← hw', gUp_eq2 rfl rfl]
    have hX := lRX H.1 hT (lKr (K := K)) h66 (v1 := z) (fun c k hc hk => eV c k (by omega))
    refine ⟨rfl, K, rfl, ⟨lW_gen H.1.1 hT lKr (eV _ _ (by omega)) (eV _ _ (by omega)) ⟨(eV _ _ (by omega)).trans H.1.1.2.2.1.1, (eV _ _ (by omega)).trans H.1.1.2.2.1.2⟩ (eV _ _ (by omega)) (fun k => eV _ _ (by omega)) (fun s s0 s1 => eV _ _ (by omega)) (fun s k s0 s1 => eV _ _ (by have := (kS s s0 s1).1; omega)) (fun s k s0 s1 => eV _ _ (by have := (kS s s0 s1).2; omega)) ?_ ?_ ?_ (eV _ _ (by omega)) ?_ ?_ (fun k k0 k1 => ?_) (fun k k0 k1 => ?_) (fun k k0 k1 => ?_) (fun k k0 k1 => ?_) (fun i j i0 i1 j0 j1 => ?_) (yOK_upd hok (eV _ _ (by omega)) (fun k _ _ => eV _ _ (by omega)) ?_ (fun i i0 i1 => ?_) (eV _ _ (by omega)) (fun f e0 e1 => ?_) ?_ ?_ (eV _ _ (by omega)) (fun k k0 k1 => ?_) ?_) (fun j j0 j1 => ?_) ?_, hX.1, hX.2, lT_fr H.1.2.2.2 (eV _ _ (by omega)) (fun i i0 i1 => ?_)⟩, lF_sc H.2 (fun c k hk => eV c k (by omega))⟩
    · rw [eV 38 22 (by omega), eV 0 12 (by omega)]; exact h22
    · rw [eV 38 26 (by omega), eV 0 10 (by omega)]; exact h26
    · rw [eV 38 27 (by omega), eV 0 11 (by omega)]; exact h27
    · rw [eV 38 31 (by omega), eV 17 2 (by omega)]; exact h31
    · rw [eV 38 33 (by omega), eV 0 32 (by omega)]; exact h33
    · rw [eV 0 12 (by omega)] at k1
      rw [eV 51 k (by omega), eV 52 k (by omega), eV 53 k (by omega), eV 56 k (by omega), eV 7 k (by omega), eV 8 k (by omega), eV 9 k (by omega), eV 19 k (by omega)]
      exact hE k k0 k1
    · by_cases c : k = i
      · subst c
        rw [a8, m54]
      · rw [eV 54 k (by omega), eV _ k (by omega)]
        exact h54 k k0 k1
    · rw [eV 55 k (by omega), eV 5 k (by omega)]
      exact h55 k k0 k1
    · rw [eV 0 32 (by omega)] at k1
      have q := kT k k0 k1
      rw [eV 16 k (by omega), eV 57 k (by omega), eV 58 k (by omega), eV 18 k (by omega), eV _ 0 (by omega)]
      exact ⟨⟨q.1, q.2.2.2⟩, hTr k k0 k1⟩
    · rw [eV 0 32 (by omega)] at i1 j1
      rw [eV 16 i (by omega), eV 16 j (by omega)]
      exact wD i j i0 i1 j0 j1
    · rw [eV 38 33 (by omega)]; exact o3
    · rw [eV 38 33 (by omega)] at i1
      rw [eV 57 i (by omega), eV 58 i (by omega)]
      exact o4 i i0 i1
    · rw [eV 51 f (by omega), eV 52 f (by omega), eV 53 f (by omega), eV 56 f (by omega)]
      exact ⟨rfl, rfl, rfl, (hok.2.2.2.2.1.2 f e0 e1).2.1⟩
    · rw [eV 38 26 (by omega)]; exact o6
    · rw [eV 38 27 (by omega)]; exact o7
    · by_cases c : k = i
      · subst c
        rw [m54]
        exact hw
      · rw [eV 54 k (by omega)]
        exact o9 k k0 k1
    · rw [eV 38 31 (by omega)]; exact o10
    · rw [eV 55 j (by omega)]
      exact H.1.1.2.2.2.2.2.1 j j0 j1
    · rw [eV 38 31 (by omega)]
      exact H.1.1.2.2.2.2.2.2
    · have q := kT i i0 i1
      exact ⟨eV _ _ (by omega), eV _ _ (by omega), eV _ _ (by omega), eV _ _ (by omega), eV _ _ (by omega)⟩
end LH
