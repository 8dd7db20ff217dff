/-! The law, 9: images and trees -/
section LJ
variable {Γ : gC} {v v1 v2 : gM} {K K1 : gH} {h h1 : gH} {t : Nat}
theorem lImg (H : lB v h) (e : lAm v v1) {i : Int} (hi : 0 ≤ i) (h3 : i < 3 + 3 * v 0 32) (h32 : 0 ≤ v 0 32) : mImg v1 i = aImg v i := by
  have c33 := (lCs H e).2.2.2.2.1
  unfold mImg aImg
  rw [c33, if_neg (by omega)]
  by_cases c : i < 3
  · rw [if_pos c, if_pos c, lNow H e (by omega)]
    unfold aNow
    by_cases c0 : i = 0
    · rw [if_pos c0, if_pos c0]
    · rw [if_neg c0, if_neg c0, if_pos (show i ≤ 2 by omega), if_pos (show i ≤ 2 by omega)]
  · rw [if_neg c, if_neg c, lTold H e (by omega)]
set_option maxHeartbeats 1000000 in
theorem op_image {r : Int} (H : RA v (gHd K)) (hT : gTop (gHd K) t) : lOp Γ mX0_image mX2_image [(0, r)] 0 v (gHd K) t := by
  have hN := lB_N H.1
  have hok := lB_ok H.1
  have h66 := gHd_66 hT
  have hH := lB_hy H.1
  obtain ⟨d20, d22, d28, d31, d33, d26, d27⟩ := lCs H.1 (lAm_rfl (v := v))
  obtain ⟨o1, o2, o3, o4, o5, o6, o7, o8, o9, o10⟩ := id hok
  have o5 := o5.1
  obtain ⟨-, -, -, sz, tz⟩ := lMok H.1 (lAm_rfl (v := v))
  unfold lOp
  refine ct_X0_image hH.1 (by omega) (by omega) (fun hb => ⟨_, rfl, rfl, ?_⟩) (fun hr v1 hI => ⟨_, rfl, rfl, ?_⟩)
  · have e : sImage v r = (-1, v) := by
      unfold sImage
      rw [if_pos hb]
    refine ct_X2_image (by omega) ?_
    rw [e]
    exact ⟨rfl, K, rfl, H⟩
  · obtain ⟨j1, i2⟩ := hI
    generalize hva : gUp v1 2 r t = va
    have eV : ∀ a k, a ≠ (t : Int) → ¬ (a = 2 ∧ k = r) → va a k = v a k := fun a k ha hk => by rw [← hva, gUp_ne2 (by omega)]; exact i2 a k ha
    have eM : lAm v va := fun a k a0 a1 => eV a k (by omega) (by omega)
    have c33 := (lCs H.1 eM).2.2.2.2.1
    refine ct_X2_image (by omega) ?_
    rw [show sImage va r = (3 + 3 * v 0 32, gCopy (gUp va 40 r (3 + 3 * v 0 32)) 41 (80 * r) 80 (mImg va)) from by unfold sImage; rw [if_neg (by omega), c33]]
    dsimp only
    refine ⟨rfl, _, rfl, lB_row H.1 hT lKu h66 (fun a k ha hk => ?_) (lR_put (r := r) (c := t) (m := 3 + 3 * v 0 32) H.1.2.1 hT lKu hr (fun q q0 q1 hq => ⟨?_, ?_⟩) (fun k hk => ?_) (fun q i q0 q1 hq z1 z2 => ?_) ?_ ?_ (Or.inr ⟨⟨by omega, gHd_at (by omega), by omega, by omega⟩, fun i i0 i1 => ?_⟩) (fun _ q q0 q1 hq => ?_)), lF_sc H.2 (fun a k hk => ?_)⟩
    · rw [gCopy_no (by omega), gUp_ne2 (by omega), eV _ _ (by omega) (by omega)]
    · rw [gCopy_no (by omega), gUp_ne2 (by omega), eV _ _ (by omega) (by omega)]
    · rw [gCopy_no (by omega), gUp_ne2 (by omega), eV _ _ (by omega) (by omega)]
    · rw [gCopy_no (by omega), gUp_ne2 (by omega), eV _ _ (by omega) (by omega)]
    · rw [gCopy_no (by omega), gUp_ne2 (by omega), eV _ _ (by omega) (by omega)]
    · rw [gCopy_no (by omega), gUp_ne2 (by omega), ← hva, gUp_eq2 rfl rfl]
    · rw [gCopy_no (by omega), gUp_eq2 rfl rfl]
    · rw [gCopy_no (by omega), gUp_ne2 (by omega), gCopy_in (by omega), show 80 * r + i - 80 * r = i by omega, lImg H.1 eM i0 i1 (by omega), ← hva, gUp_ne2 (by omega)]
      exact j1 i i0 i1
    · rcases lRo H.1 (r := q) (by omega) with z | z
      · omega
      · have := lLk hT (a := v 2 q) z.2.1 (by decide)
        omega
    · rw [gCopy_no (by omega), gUp_ne2 (by omega), eV _ _ (by omega) (by omega)]
theorem pAll_cg {q q' : Int → Bool} : ∀ n : Nat, (∀ i, 0 ≤ i → i < (n : Int) → q i = q' i) → pAll q n = pAll q' n
  | 0, _ => rfl
  | n + 1, hc => by
    show (pAll q n && q n) = (pAll q' n && q' n)
    rw [pAll_cg n (fun i i0 i1 => hc i i0 (by omega)), hc n (by omega) (by omega)]
theorem pAll_at {q : Int → Bool} : ∀ n : Nat, pAll q n = true → ∀ i, 0 ≤ i → i < (n : Int) → q i = true
  | 0, _, i, i0, i1 => absurd i1 (by omega)
  | n + 1, hp, i, i0, i1 => by
    obtain ⟨h1, h2⟩ := Bool.and_eq_true_iff.mp (show (pAll q n && q n) = true from hp)
    by_cases c : i = n
    · rw [c]; exact h2
    · exact pAll_at n h1 i i0 (by omega)
theorem pImage_cg {nE n : Int} {f g : Int → Int} (hn : 0 ≤ n) (hc : ∀ i, 0 ≤ i → i < 3 + 3 * n → f i = g i) : pImage nE n f ↔ pImage nE n g := by
  unfold pImage pI0
  rw [hc 0 (by omega) (by omega), hc 1 (by omega) (by omega), hc 2 (by omega) (by omega), pAll_cg (q := pIt f) (q' := pIt g) n.toNat (fun i i0 i1 => by
    unfold pIt
    rw [hc 0 (by omega) (by omega), hc (3 + 3 * i) (by omega) (by omega), hc (4 + 3 * i) (by omega) (by omega), hc (5 + 3 * i) (by omega) (by omega)])]
set_option maxHeartbeats 1000000 in
theorem op_on {r : Int} (H : RA v (gHd K)) (hT : gTop (gHd K) t) : lOp Γ mX0_on mX2_on [(0, r)] 0 v (gHd K) t := by
  have hN := lB_N H.1
  have hok := lB_ok H.1
  have h66 := gHd_66 hT
  have hH := lB_hy H.1
  obtain ⟨d20, d22, d28, d31, d33, d26, d27⟩ := lCs H.1 (lAm_rfl (v := v))
  obtain ⟨o1, o2, o3, o4, o5, o6, o7, o8, o9, o10⟩ := id hok
  have o5 := o5.1
  obtain ⟨-, -, -, sz, tz⟩ := lMok H.1 (lAm_rfl (v := v))
  unfold lOp
  refine ct_X0_on (n := v 40 r) (lRo H.1) hH.1 (by omega) (by omega) (fun hb => ⟨_, rfl, rfl, ?_⟩) (fun hr hz => ⟨_, rfl, rfl, ?_⟩) (fun hr ho hn => ⟨_, rfl, rfl, ?_⟩) (fun hr ho hn hp => ⟨_, rfl, rfl, ?_⟩) (fun hr ho hn hp v1 hO => ⟨_, rfl, rfl, ?_⟩)
  · exact ct_X2_on sz (by omega) (by omega) (fun _ => ⟨rfl, K, rfl, H⟩) (fun hr => absurd hr hb) (fun hr => absurd hr hb) (fun hr => absurd hr hb) (fun hr => absurd hr.1 hb)
  · have z40 := lRn H.1 hr hz
    have eM : lAm v (aMet v 1) := lAm_met lAm_rfl
    obtain ⟨⟨ok, y9, eN, sz, tz⟩, c20, c22, c28, c31, c33, c26, c27⟩ := lMC H.1 eM
    have m40 := eM 40 r (by omega) (by omega)
    exact ct_X2_on sz (by omega) (by omega) (fun hb => absurd hr hb) (fun _ _ => ⟨rfl, K, rfl, lRA_met (by decide) H hT lKr lAs_rfl lMs_rfl⟩) (fun _ hz => absurd hz (by omega)) (fun _ hz => absurd hz (by omega)) (fun hz => absurd hz.2 (by omega))
  · have z40 := ho.2.2
    have eM : lAm v (aMet v 5) := lAm_met lAm_rfl
    obtain ⟨⟨ok, y9, eN, sz, tz⟩, c20, c22, c28, c31, c33, c26, c27⟩ := lMC H.1 eM
    have m40 := eM 40 r (by omega) (by omega)
    exact ct_X2_on sz (by omega) (by omega) (fun hb => absurd hr hb) (fun _ hz => absurd hz (by omega)) (fun _ _ _ => ⟨rfl, K, rfl, lRA_met (by decide) H hT lKr lAs_rfl lMs_rfl⟩) (fun _ hz => absurd hz (by omega)) (fun hz => absurd hz.2 (by omega))
  · have z40 := ho.2.2
    have eM : lAm v (aMet v 3) := lAm_met lAm_rfl
    obtain ⟨⟨ok, y9, eN, sz, tz⟩, c20, c22, c28, c31, c33, c26, c27⟩ := lMC H.1 eM
    have m40 := eM 40 r (by omega) (by omega)
    have hcg : pImage (aMet v 3 38 22) (aMet v 3 38 33) (mRw (aMet v 3) r) ↔ pImage (v 0 12) (v 0 32) (v (v 2 r)) := by
      rw [c22, c33]
      exact pImage_cg (by omega) (fun i i0 i1 => by
        show aMet v 3 41 (80 * r + i) = _
        rw [eM 41 _ (by omega) (by omega), lRc H.1 hr ho i i0 (by omega)])
    exact ct_X2_on sz (by omega) (by omega) (fun hb => absurd hr hb) (fun _ hz => absurd hz (by omega)) (fun _ _ hz => absurd hz (by omega)) (fun _ _ _ => ⟨rfl, K, rfl, lRA_met (by decide) H hT lKr lAs_rfl lMs_rfl⟩) (fun _ hp' => absurd (hcg.mp hp') hp)
  · have z40 := ho.2.2
    obtain ⟨q1, q2, q3, q4⟩ := hO
    obtain ⟨⟨k7, k8, k78⟩, kS, kT, kd7, kd8, kw7, kw8⟩ := lKd H.1 hT
    obtain ⟨⟨h20, h22, h26, h27, h28, h31, h33⟩, h50, hE, h54, h55, hTr⟩ := id H.1.1.2.2.2.1
    have wD := H.1.1.1.2.2.2.2
    have eA : ∀ a k, a < 66 → ¬ ((a = 17 ∧ k = 2) ∨ a = 19 ∨ a = 18) → v1 a k = v a k := fun a k ha hk => q1 a k (by
      rintro (z | z | z | ⟨-, j, j0, j1, z⟩)
      · omega
      · omega
      · omega
      · have := kT j j0 j1
        omega)
    have eB : ∀ a k, (gHd K a).1 ≠ 8 ∨ k = 0 → 66 ≤ a → v1 a k = v a k := fun a k hk ha => q1 a k (by
      rintro (z | z | z | ⟨z0, j, j0, j1, z⟩)
      · omega
      · omega
      · omega
      · have := (kT j j0 j1).2.2.2
        rw [← z] at this
        omega)
    have eM : lAm v v1 := fun a k a0 a1 => eA a k (by omega) (by omega)
    obtain ⟨⟨ok, y9, eN, sz, tz⟩, c20, c22, c28, c31, c33, c26, c27⟩ := lMC H.1 eM
    have m40 := eM 40 r (by omega) (by omega)
    have hfg : ∀ i, 0 ≤ i → i < 3 + 3 * v 0 32 → mRw v1 r i = v (v 2 r) i := fun i i0 i1 => by
      show v1 41 (80 * r + i) = _
      rw [eM 41 _ (by omega) (by omega), lRc H.1 hr ho i i0 (by omega)]
    have hcg : pImage (v1 38 22) (v1 38 33) (mRw v1 r) ↔ pImage (v 0 12) (v 0 32) (v (v 2 r)) := by
      rw [c22, c33]
      exact pImage_cg (by omega) hfg
    refine ct_X2_on sz (by omega) (by omega) (fun hb => absurd hr hb) (fun _ hz => absurd hz (by omega)) (fun _ _ hz => absurd hz (by omega)) (fun _ _ hp' => absurd (hcg.mpr hp) hp') (fun _ hp' v2 hO2 => ?_)
    obtain ⟨s1, s2, s3, s4⟩ := hO2
    obtain ⟨⟨i1, i2, i3⟩, i4⟩ := hp
    have hit := fun k k0 k1 => of_decide_eq_true (pAll_at _ i4 k k0 k1)
    have e0 := hfg 0 (by omega) (by omega)
    have f31 : v2 38 31 = v (v 2 r) 0 := s2.trans e0
    have f17 : v2 17 2 = v (v 2 r) 0 := (s1 17 2 (by omega)).trans q2
    have f19 : ∀ k, 0 ≤ k → k < v 0 12 → v2 19 k = v (v 2 r) (1 + k) := fun k k0 k1 => (s1 19 k (by omega)).trans (q3 k k0 k1)
    have f56 : ∀ k, 0 ≤ k → k < v 0 12 → v2 56 k = v (v 2 r) (1 + k) := fun k k0 k1 => (s3 k k0 (by omega)).trans (hfg (1 + k) (by omega) (by omega))
    have f18 : ∀ k, 0 ≤ k → k < v 0 32 → v2 18 k = v (v 2 r) (3 + 3 * k) := fun k k0 k1 => (s1 18 k (by omega)).trans (q4 k k0 k1).1
    have f58 : ∀ k, 0 ≤ k → k < v 0 32 → v2 58 k = v (v 2 r) (3 + 3 * k) := fun k k0 k1 => (s4 k k0 (by omega)).1.trans (hfg _ (by omega) (by omega))
    have eV : ∀ a k, a < 66 → ¬ ((a = 17 ∧ k = 2) ∨ a = 19 ∨ a = 18 ∨ (a = 38 ∧ k = 31) ∨ a = 56 ∨ a = 58 ∨ a = 59 ∨ a = 60) → v2 a k = v a k := fun a k ha hk => by rw [s1 a k (by omega), eA a k ha (by omega)]
    have eW : ∀ a k, (gHd K a).1 ≠ 8 ∨ k = 0 → 66 ≤ a → v2 a k = v a k := fun a k hk ha => by rw [s1 a k (by omega), eB a k hk ha]
    have eX : ∀ a k, (gHd K a).1 ≠ 8 → (a = 4 ∨ a = 37 ∨ 66 ≤ a) → v2 a k = v a k := fun a k hk ha => by
      by_cases c : a < 66
      · exact eV a k c (by omega)
      · exact eW a k (Or.inl hk) (by omega)
    have hX := lRX H.1 hT (lKr (K := K)) h66 (v1 := v2) (fun a k ha hk => by
      by_cases c : a < 66
      · exact eV a k c (by omega)
      · exact eW a k (Or.inl (by omega)) (by omega))
    refine ⟨rfl, K, rfl, ⟨lW_gen H.1.1 hT lKr (eV _ _ (by omega) (by omega)) (eV _ _ (by omega) (by omega)) ⟨(eV _ _ (by omega) (by omega)).trans H.1.1.2.2.1.1, (eV _ _ (by omega) (by omega)).trans H.1.1.2.2.1.2⟩ (eV _ _ (by omega) (by omega)) (fun k => eV _ _ (by omega) (by omega)) (fun s s0 s1 => eX _ _ (by omega) (by omega)) (fun s k s0 s1 => eX _ _ (kS s s0 s1).1.2.2.2 (Or.inr (Or.inr (kS s s0 s1).1.1))) (fun s k s0 s1 => eX _ _ (by have := (kS s s0 s1).2; omega) (Or.inr (Or.inr (kS s s0 s1).2.1))) ?_ ?_ ?_ (eV _ _ (by omega) (by omega)) (f31.trans f17.symm) ?_ (fun k k0 k1 => ?_) (fun k k0 k1 => ?_) (fun k k0 k1 => ?_) (fun k k0 k1 => ?_) (fun i j i0 i1 j0 j1 => ?_) (yOK_upd hok (eV _ _ (by omega) (by omega)) (fun k _ _ => eV _ _ (by omega) (by omega)) ?_ (fun i i0 i1 => ?_) (eV _ _ (by omega) (by omega)) (fun f e0 e1 => ?_) ?_ ?_ (eV _ _ (by omega) (by omega)) (fun k k0 k1 => ?_) ?_) (fun j j0 j1 => ?_) ?_, hX.1, hX.2, fun i i0 i1 => ?_⟩, lF_sc H.2 (fun c k hk => eV c k (by omega) (by omega))⟩
    · rw [eV 38 22 (by omega) (by omega), eV 0 12 (by omega) (by omega)]; exact h22
    · rw [eV 38 26 (by omega) (by omega), eV 0 10 (by omega) (by omega)]; exact h26
    · rw [eV 38 27 (by omega) (by omega), eV 0 11 (by omega) (by omega)]; exact h27
    · rw [eV 38 33 (by omega) (by omega), eV 0 32 (by omega) (by omega)]; exact h33
    · rw [eV 0 12 (by omega) (by omega)] at k1
      rw [eV 51 k (by omega) (by omega), eV 52 k (by omega) (by omega), eV 53 k (by omega) (by omega), eV 7 k (by omega) (by omega), eV 8 k (by omega) (by omega), eV 9 k (by omega) (by omega), f56 k k0 k1, f19 k k0 k1]
      have q := hE k k0 k1
      exact ⟨q.1, q.2.1, q.2.2.1, rfl⟩
    · rw [eV 54 k (by omega) (by omega), eX _ k (by omega) (by omega)]
      exact h54 k k0 k1
    · rw [eV 55 k (by omega) (by omega), eV 5 k (by omega) (by omega)]
      exact h55 k k0 k1
    · rw [eV 0 32 (by omega) (by omega)] at k1
      have q := kT k k0 k1
      rw [eV 16 k (by omega) (by omega), eV 57 k (by omega) (by omega), f58 k k0 k1, f18 k k0 k1, eW _ 0 (Or.inr rfl) q.1]
      exact ⟨⟨q.1, q.2.2.2⟩, (hTr k k0 k1).1, rfl⟩
    · rw [eV 0 32 (by omega) (by omega)] at i1 j1
      rw [eV 16 i (by omega) (by omega), eV 16 j (by omega) (by omega)]
      exact wD i j i0 i1 j0 j1
    · rw [eV 38 33 (by omega) (by omega)]; exact o3
    · rw [eV 38 33 (by omega) (by omega), h33] at i1
      rw [eV 57 i (by omega) (by omega), f58 i i0 i1]
      exact ⟨(o4 i i0 (by omega)).1, (hit i i0 (by omega)).1⟩
    · rw [eV 51 f (by omega) (by omega), eV 52 f (by omega) (by omega), eV 53 f (by omega) (by omega), f56 f e0 (by omega)]
      refine ⟨rfl, rfl, rfl, ?_⟩
      rcases (by omega : f = 0 ∨ f = 1) with z | z
      · subst z
        have := i2
        rcases i2 with z | z
        · exact z.2
        · omega
      · subst z
        rcases i3 with z | z
        · exact z.2
        · omega
    · rw [eV 38 26 (by omega) (by omega)]; exact o6
    · rw [eV 38 27 (by omega) (by omega)]; exact o7
    · rw [eV 54 k (by omega) (by omega)]
      exact o9 k k0 k1
    · rw [f31]; exact i1.1
    · rw [eV 55 j (by omega) (by omega)]
      exact H.1.1.2.2.2.2.2.1 j j0 j1
    · rw [f31]; exact i1.2
    · rw [eV 0 32 (by omega) (by omega)] at i1
      have q := kT i i0 i1
      rw [eV 16 i (by omega) (by omega), s1 _ 1 (by omega), s1 _ 2 (by omega), (q4 i i0 i1).2.1, (q4 i i0 i1).2.2, (s4 i i0 (by omega)).2.1, (s4 i i0 (by omega)).2.2, hfg _ (by omega) (by omega), hfg _ (by omega) (by omega)]
      exact ⟨rfl, rfl⟩
end LJ
