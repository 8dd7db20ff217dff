/-! The law, 10: trees planted -/
section LK
variable {Γ : gC} {v v1 v2 : gM} {K K1 : gH} {h h1 : gH} {t : Nat}
theorem lB_pl {w : gM} {f : Int → Int} {i : Int} (H : RA v h) (hT : gTop h t) (hh : ∀ a, a < (t : Int) → h1 a = h a) (h66 : 66 ≤ t) (hi : 0 ≤ i) (h24 : v 0 32 + i ≤ 24)
    (hf : ∀ j, 0 ≤ j → j < i → (0 ≤ f (2 * j) ∧ f (2 * j) < v 38 20) ∧ 0 ≤ f (2 * j + 1) ∧ f (2 * j + 1) ≤ 60) (hk : ∀ j, 0 ≤ j → j < i → (h1 (t + j)).1 = 8) (a32 : w 0 32 = v 0 32 + i) (m33 : w 38 33 = v 0 32 + i)
    (hA : ∀ j, 0 ≤ j → j < i → w 16 (v 0 32 + j) = t + j ∧ w 18 (v 0 32 + j) = f (2 * j + 1) ∧ w (t + j) 0 = f (2 * j) ∧ w (t + j) 1 = 0 ∧ w (t + j) 2 = -9)
    (hM : ∀ j, 0 ≤ j → j < i → w 57 (v 0 32 + j) = f (2 * j) ∧ w 58 (v 0 32 + j) = f (2 * j + 1) ∧ w 59 (v 0 32 + j) = 0 ∧ w 60 (v 0 32 + j) = -9)
    (eV : ∀ a k, a < (t : Int) → ¬ (((a = 16 ∨ a = 18 ∨ (57 ≤ a ∧ a ≤ 60)) ∧ v 0 32 ≤ k ∧ k < v 0 32 + i) ∨ (a = 0 ∧ k = 32) ∨ (a = 38 ∧ k = 33)) → w a k = v a k) : RA w h1 := by
  obtain ⟨⟨k7, k8, k78⟩, kS, kT, kd7, kd8, kw7, kw8⟩ := lKd H.1 hT
  obtain ⟨⟨h20, h22, h26, h27, h28, h31, h33⟩, h50, hE, h54, h55, hTr⟩ := id H.1.1.2.2.2.1
  have wD := H.1.1.1.2.2.2.2
  have hok := lB_ok H.1
  obtain ⟨o1, o2, o3, o4, o5, o6, o7, o8, o9, o10⟩ := id hok
  have hX := lRX H.1 hT hh h66 (v1 := w) (fun c k hc hk => eV c k hc (by omega))
  have new : ∀ k, v 0 32 ≤ k → k < v 0 32 + i → ∃ j, 0 ≤ j ∧ j < i ∧ k = v 0 32 + j := fun k z0 z1 => ⟨k - v 0 32, by omega, by omega, by omega⟩
  refine ⟨⟨lW_gen H.1.1 hT hh (eV _ _ (by omega) (by omega)) (eV _ _ (by omega) (by omega)) ⟨(eV _ _ (by omega) (by omega)).trans H.1.1.2.2.1.1, (eV _ _ (by omega) (by omega)).trans H.1.1.2.2.1.2⟩ (eV _ _ (by omega) (by omega)) (fun k => eV _ _ (by omega) (by omega)) (fun s s0 s1 => eV _ _ k7 (by omega)) (fun s k s0 s1 => eV _ _ (kS s s0 s1).1.2.1 (by have := (kS s s0 s1).1; omega)) (fun s k s0 s1 => eV _ _ (kS s s0 s1).2.2.1 (by have := (kS s s0 s1).2; omega)) ?_ ?_ ?_ (eV _ _ (by omega) (by omega)) ?_ (m33.trans a32.symm) (fun k k0 k1 => ?_) (fun k k0 k1 => ?_) (fun k k0 k1 => ?_) (fun k k0 k1 => ?_) (fun a b a0 a1 b0 b1 hab => ?_) (yOK_upd hok (eV _ _ (by omega) (by omega)) (fun k _ _ => eV _ _ (by omega) (by omega)) (by omega) (fun k k0 k1 => ?_) (eV _ _ (by omega) (by omega)) (fun e e0 e1 => ?_) ?_ ?_ (eV _ _ (by omega) (by omega)) (fun k k0 k1 => ?_) ?_) (fun j j0 j1 => ?_) ?_, hX.1, hX.2, fun k k0 k1 => ?_⟩, lF_sc H.2 (fun c k hk => eV c k (by omega) (by omega))⟩
  · rw [eV 38 22 (by omega) (by omega), eV 0 12 (by omega) (by omega)]; exact h22
  · rw [eV 38 26 (by omega) (by omega), eV 0 10 (by omega) (by omega)]; exact h26
  · rw [eV 38 27 (by omega) (by omega), eV 0 11 (by omega) (by omega)]; exact h27
  · rw [eV 38 31 (by omega) (by omega), eV 17 2 (by omega) (by omega)]; exact h31
  · rw [eV 0 12 (by omega) (by omega)] at k1
    rw [eV 51 k (by omega) (by omega), eV 52 k (by omega) (by omega), eV 53 k (by omega) (by omega), eV 56 k (by omega) (by omega), eV 7 k (by omega) (by omega), eV 8 k (by omega) (by omega), eV 9 k (by omega) (by omega), eV 19 k (by omega) (by omega)]
    exact hE k k0 k1
  · rw [eV 54 k (by omega) (by omega), eV _ k k8 (by omega)]
    exact h54 k k0 k1
  · rw [eV 55 k (by omega) (by omega), eV 5 k (by omega) (by omega)]
    exact h55 k k0 k1
  · rw [a32] at k1
    by_cases c : k < v 0 32
    · have q := kT k k0 c
      rw [eV 16 k (by omega) (by omega), eV 57 k (by omega) (by omega), eV 58 k (by omega) (by omega), eV 18 k (by omega) (by omega), eV _ 0 q.2.1 (by omega), hh _ q.2.1]
      exact ⟨⟨q.1, q.2.2.2⟩, hTr k k0 c⟩
    · obtain ⟨j, j0, j1, rfl⟩ := new k (by omega) k1
      obtain ⟨z1, z2, z3, z4, z5⟩ := hA j j0 j1
      obtain ⟨y1, y2, y3, y4⟩ := hM j j0 j1
      rw [z1, z3, y1, y2, z2]
      exact ⟨⟨by omega, hk j j0 j1⟩, rfl, rfl⟩
  · rw [a32] at a1 b1
    by_cases c : a < v 0 32
    · have q := kT a a0 c
      rw [eV 16 a (by omega) (by omega)]
      by_cases d : b < v 0 32
      · rw [eV 16 b (by omega) (by omega)]
        exact wD a b a0 c b0 d hab
      · obtain ⟨j, j0, j1, rfl⟩ := new b (by omega) b1
        rw [(hA j j0 j1).1]
        omega
    · obtain ⟨l, l0, l1, rfl⟩ := new a (by omega) a1
      rw [(hA l l0 l1).1]
      by_cases d : b < v 0 32
      · have q := kT b b0 d
        rw [eV 16 b (by omega) (by omega)]
        omega
      · obtain ⟨j, j0, j1, rfl⟩ := new b (by omega) b1
        rw [(hA j j0 j1).1]
        omega
  · rw [m33] at k1
    by_cases c : k < v 0 32
    · rw [eV 57 k (by omega) (by omega), eV 58 k (by omega) (by omega)]
      exact o4 k k0 (by omega)
    · obtain ⟨j, j0, j1, rfl⟩ := new k (by omega) k1
      rw [(hM j j0 j1).1, (hM j j0 j1).2.1]
      exact hf j j0 j1
  · rw [eV 51 e (by omega) (by omega), eV 52 e (by omega) (by omega), eV 53 e (by omega) (by omega), eV 56 e (by omega) (by omega)]
    exact ⟨rfl, rfl, rfl, (o5.2 e e0 e1).2.1⟩
  · rw [eV 38 26 (by omega) (by omega)]; exact o6
  · rw [eV 38 27 (by omega) (by omega)]; exact o7
  · rw [eV 54 k (by omega) (by omega)]
    exact o9 k k0 k1
  · rw [eV 38 31 (by omega) (by omega)]; exact o10
  · rw [eV 55 j (by omega) (by omega)]
    exact H.1.1.2.2.2.2.2.1 j j0 j1
  · rw [eV 38 31 (by omega) (by omega)]
    exact H.1.1.2.2.2.2.2.2
  · rw [a32] at k1
    by_cases c : k < v 0 32
    · have q := kT k k0 c
      rw [eV 16 k (by omega) (by omega), eV 59 k (by omega) (by omega), eV 60 k (by omega) (by omega), eV _ 1 q.2.1 (by omega), eV _ 2 q.2.1 (by omega)]
      exact H.1.2.2.2 k k0 c
    · obtain ⟨j, j0, j1, rfl⟩ := new k (by omega) k1
      obtain ⟨z1, z2, z3, z4, z5⟩ := hA j j0 j1
      obtain ⟨y1, y2, y3, y4⟩ := hM j j0 j1
      rw [z1, z4, z5, y3, y4]
      exact ⟨rfl, rfl⟩
theorem gPl_rd {f : Int → Int} {u : gM} : ∀ n : Nat, (∀ j : Int, 0 ≤ j → j < n → gPl f n u 57 (u 38 33 + j) = f (2 * j) ∧ gPl f n u 58 (u 38 33 + j) = f (2 * j + 1) ∧ gPl f n u 59 (u 38 33 + j) = 0 ∧ gPl f n u 60 (u 38 33 + j) = -9) ∧ ∀ a k, 57 ≤ a → a ≤ 60 → ¬ (u 38 33 ≤ k ∧ k < u 38 33 + n) → gPl f n u a k = u a k
  | 0 => ⟨fun j j0 j1 => absurd j1 (by omega), fun _ _ _ _ _ => rfl⟩
  | n + 1 => by
    obtain ⟨i1, i2⟩ := gPl_rd (f := f) (u := u) n
    have e33 := gPl_n (f := f) (v := u) n
    have eq : gPl f (n + 1) u = sGrow (gPl f n u) (f (2 * (n : Int))) (f (2 * (n : Int) + 1)) := rfl
    rw [eq]
    unfold sGrow
    rw [e33]
    refine ⟨fun j j0 j1 => ?_, fun a k a0 a1 hk => ?_⟩
    · by_cases c : j = n
      · subst c
        refine ⟨?_, ?_, ?_, ?_⟩
        · rw [gUp_ne2 (by omega), gUp_ne2 (by omega), gUp_ne2 (by omega), gUp_ne2 (by omega), gUp_eq2 rfl rfl]
        · rw [gUp_ne2 (by omega), gUp_ne2 (by omega), gUp_ne2 (by omega), gUp_eq2 rfl rfl]
        · rw [gUp_ne2 (by omega), gUp_ne2 (by omega), gUp_eq2 rfl rfl]
        · rw [gUp_ne2 (by omega), gUp_eq2 rfl rfl]
      · rw [gUp_ne2 (by omega), gUp_ne2 (by omega), gUp_ne2 (by omega), gUp_ne2 (by omega), gUp_ne2 (by omega), gUp_ne2 (by omega), gUp_ne2 (by omega), gUp_ne2 (by omega), gUp_ne2 (by omega), gUp_ne2 (by omega), gUp_ne2 (by omega), gUp_ne2 (by omega), gUp_ne2 (by omega), gUp_ne2 (by omega), gUp_ne2 (by omega), gUp_ne2 (by omega), gUp_ne2 (by omega), gUp_ne2 (by omega), gUp_ne2 (by omega), gUp_ne2 (by omega)]
        exact i1 j j0 (by omega)
    · rw [gUp_ne2 (by omega), gUp_ne2 (by omega), gUp_ne2 (by omega), gUp_ne2 (by omega), gUp_ne2 (by omega)]
      exact i2 a k a0 a1 (by omega)
theorem pPl_at {m : Int} {f : Int → Int} : ∀ n : Nat, pPl m f n = true → ∀ j : Int, 0 ≤ j → j < n → (0 ≤ f (2 * j) ∧ f (2 * j) < m) ∧ 0 ≤ f (2 * j + 1) ∧ f (2 * j + 1) ≤ 60
  | 0, _, j, j0, j1 => absurd j1 (by omega)
  | n + 1, hp, j, j0, j1 => by
    obtain ⟨h1, h2⟩ := Bool.and_eq_true_iff.mp (show (pPl m f n && decide ((0 ≤ f (2 * (n : Int)) ∧ f (2 * (n : Int)) < m) ∧ 0 ≤ f (2 * (n : Int) + 1) ∧ f (2 * (n : Int) + 1) ≤ 60)) = true from hp)
    by_cases c : j = n
    · rw [c]; exact of_decide_eq_true h2
    · exact pPl_at n h1 j j0 (by omega)
set_option maxHeartbeats 1000000 in
theorem op_plant {s x : Int} (H : RA v (gHd K)) (hT : gTop (gHd K) t) : lOp Γ mX0_plant mX2_plant [(0, s), (0, x)] 0 v (gHd K) t := by
  have hN := lB_N H.1
  have hok := lB_ok H.1
  have h66 := gHd_66 hT
  have hH := lB_hy H.1
  obtain ⟨d20, d22, d28, d31, d33, d26, d27⟩ := lCs H.1 (lAm_rfl (v := v))
  obtain ⟨o1, o2, o3, o4, o5, o6, o7, o8, o9, o10⟩ := id hok
  have o5 := o5.1
  obtain ⟨-, -, -, sz, tz⟩ := lMok H.1 (lAm_rfl (v := v))
  unfold lOp
  refine ct_X0_plant (m := (gHd K (v 0 7)).2) (pairEq hH.1.1.2.1) (by omega) h66 (by omega) (fun hb => ⟨_, rfl, rfl, ?_⟩) (fun hs hn => ⟨_, rfl, rfl, ?_⟩) (fun hs hn v1 hO => ⟨_, rfl, rfl, ?_⟩)
  · have e : sPlant v s x = (-1, v) := by
      unfold sPlant
      rw [if_pos (by omega)]
    refine ct_X2_plant (by omega) (by omega) ?_
    rw [e]
    exact ⟨rfl, K, rfl, H⟩
  · have e : sPlant v s x = (-2, v) := by
      unfold sPlant
      rw [if_neg (by omega), if_pos (by omega)]
    refine ct_X2_plant (by omega) (by omega) ?_
    rw [e]
    exact ⟨rfl, K, rfl, H⟩
  · obtain ⟨n1, n2, n3, n4, n5, n6, n7⟩ := hO
    have eM : lAm v v1 := fun a k a0 a1 => n7 a k (by omega)
    obtain ⟨⟨ok, y9, eN, sz, tz⟩, c20, c22, c28, c31, c33, c26, c27⟩ := lMC H.1 eM
    refine ct_X2_plant (by omega) (by omega) ?_
    rw [show sPlant v1 s x = (v 0 32, gUp (gUp (gUp (gUp (gUp v1 57 (v 0 32) s) 58 (v 0 32) x) 59 (v 0 32) 0) 60 (v 0 32) (-9)) 38 33 (v 0 32 + 1)) from by unfold sPlant sGrow; rw [if_neg (by omega), if_neg (by omega), c33]]
    dsimp only
    refine ⟨rfl, _, rfl, lB_pl (f := fun z => if z = 0 then s else x) (i := 1) H hT lKu h66 (by omega) (by omega) (fun j j0 j1 => ?_) (fun j j0 j1 => ?_) ?_ ?_ (fun j j0 j1 => ?_) (fun j j0 j1 => ?_) (fun a k ha hk => ?_)⟩
    · rw [if_pos (by omega), if_neg (by omega)]
      omega
    · have : j = 0 := by omega
      subst this
      rw [Int.add_zero, gHd_at (by omega)]
    · rw [gUp_ne2 (by omega), gUp_ne2 (by omega), gUp_ne2 (by omega), gUp_ne2 (by omega), gUp_ne2 (by omega)]
      exact n6
    · rw [gUp_eq2 rfl rfl]
    · have : j = 0 := by omega
      subst this
      rw [Int.add_zero, Int.add_zero, if_neg (show ¬ (2 * (0 : Int) + 1 = 0) by omega), if_pos (show 2 * (0 : Int) = 0 by omega)]
      rw [gUp_ne2 (by omega), gUp_ne2 (by omega), gUp_ne2 (by omega), gUp_ne2 (by omega), gUp_ne2 (by omega), gUp_ne2 (by omega), gUp_ne2 (by omega), gUp_ne2 (by omega), gUp_ne2 (by omega), gUp_ne2 (by omega), gUp_ne2 (by omega), gUp_ne2 (by omega), gUp_ne2 (by omega), gUp_ne2 (by omega), gUp_ne2 (by omega), gUp_ne2 (by omega), gUp_ne2 (by omega), gUp_ne2 (by omega), gUp_ne2 (by omega), gUp_ne2 (by omega), gUp_ne2 (by omega), gUp_ne2 (by omega), gUp_ne2 (by omega), gUp_ne2 (by omega), gUp_ne2 (by omega)]
      exact ⟨n4, n5, n1, n2, n3⟩
    · have : j = 0 := by omega
      subst this
      rw [Int.add_zero, if_pos (by omega), if_neg (by omega)]
      refine ⟨?_, ?_, ?_, ?_⟩
      · rw [gUp_ne2 (by omega), gUp_ne2 (by omega), gUp_ne2 (by omega), gUp_ne2 (by omega), gUp_eq2 rfl rfl]
      · rw [gUp_ne2 (by omega), gUp_ne2 (by omega), gUp_ne2 (by omega), gUp_eq2 rfl rfl]
      · rw [gUp_ne2 (by omega), gUp_ne2 (by omega), gUp_eq2 rfl rfl]
      · rw [gUp_ne2 (by omega), gUp_eq2 rfl rfl]
    · rw [gUp_ne2 (by omega), gUp_ne2 (by omega), gUp_ne2 (by omega), gUp_ne2 (by omega), gUp_ne2 (by omega)]
      exact n7 a k (by omega)
set_option maxHeartbeats 1000000 in
theorem op_plants {r : Int} (H : RA v (gHd K)) (hT : gTop (gHd K) t) : lOp Γ mX0_plants mX2_plants [(0, r)] 0 v (gHd K) t := by
  have hN := lB_N H.1
  have hok := lB_ok H.1
  have h66 := gHd_66 hT
  have hH := lB_hy H.1
  obtain ⟨d20, d22, d28, d31, d33, d26, d27⟩ := lCs H.1 (lAm_rfl (v := v))
  obtain ⟨o1, o2, o3, o4, o5, o6, o7, o8, o9, o10⟩ := id hok
  have o5 := o5.1
  obtain ⟨-, -, -, sz, tz⟩ := lMok H.1 (lAm_rfl (v := v))
  unfold lOp
  refine ct_X0_plants (n := v 40 r) (m := (gHd K (v 0 7)).2) (lRo H.1) (pairEq hH.1.1.2.1) (by omega) (by omega) (fun hb => ⟨_, rfl, rfl, ?_⟩) (fun hr hz => ⟨_, rfl, rfl, ?_⟩) (fun hr ho hn => ⟨_, rfl, rfl, ?_⟩) (fun hr ho hn h24 => ⟨_, rfl, rfl, ?_⟩) (fun hr ho hn h24 hp => ⟨_, rfl, rfl, ?_⟩) (fun hr ho hn h24 hp v1 K1 hO hK => ⟨_, rfl, rfl, ?_⟩)
  · have e : sPlants v r = (-1, v) := by
      unfold sPlants
      rw [if_pos hb]
    refine ct_X2_plants sz (by omega) (by omega) ?_
    rw [e]
    exact ⟨rfl, K, rfl, H⟩
  · have z40 := lRn H.1 hr hz
    have eM : lAm v (aMet v 1) := lAm_met lAm_rfl
    obtain ⟨ok, y9, eN, sz, tz⟩ := lMok H.1 eM
    obtain ⟨c20, c22, c28, c31, c33, c26, c27⟩ := lCs H.1 eM
    have e : sPlants (aMet v 1) r = (-3, sMeet (aMet v 1) 1) := by
      unfold sPlants
      rw [if_neg (by omega), eM 40 r (by omega) (by omega), if_pos (by omega)]
    refine ct_X2_plants sz (by omega) (by omega) ?_
    rw [e]
    exact ⟨rfl, K, rfl, lRA_met (by decide) H hT lKr lAs_rfl lMs_rfl⟩
  · have z40 := ho.2.2
    have eM : lAm v (aMet v 5) := lAm_met lAm_rfl
    obtain ⟨ok, y9, eN, sz, tz⟩ := lMok H.1 eM
    obtain ⟨c20, c22, c28, c31, c33, c26, c27⟩ := lCs H.1 eM
    have e : sPlants (aMet v 5) r = (-3, sMeet (aMet v 5) 5) := by
      unfold sPlants
      rw [if_neg (by omega), eM 40 r (by omega) (by omega), if_neg (by omega), if_pos (by omega)]
    refine ct_X2_plants sz (by omega) (by omega) ?_
    rw [e]
    exact ⟨rfl, K, rfl, lRA_met (by decide) H hT lKr lAs_rfl lMs_rfl⟩
  · have z40 := ho.2.2
    have e : sPlants v r = (-2, v) := by
      unfold sPlants
      rw [if_neg (by omega), if_neg (by omega), if_neg (by omega), if_pos (by omega)]
    refine ct_X2_plants sz (by omega) (by omega) ?_
    rw [e]
    exact ⟨rfl, K, rfl, H⟩
  · have z40 := ho.2.2
    have eM : lAm v (aMet v 3) := lAm_met lAm_rfl
    obtain ⟨ok, y9, eN, sz, tz⟩ := lMok H.1 eM
    obtain ⟨c20, c22, c28, c31, c33, c26, c27⟩ := lCs H.1 eM
    have e : sPlants (aMet v 3) r = (-3, sMeet (aMet v 3) 3) := by
      unfold sPlants
      rw [if_neg (by omega), eM 40 r (by omega) (by omega), if_neg (by omega), if_neg (by omega), if_neg (by omega), if_neg]
      rw [c20, pPl_cg (f := fun k => aMet v 3 41 (80 * r + k)) (g := v (v 2 r)) _ (fun i i0 i1 => by
        show aMet v 3 41 (80 * r + i) = _
        rw [eM 41 _ (by omega) (by omega), lRc H.1 hr ho i i0 (by omega)]), hp]
      decide
    refine ct_X2_plants sz (by omega) (by omega) ?_
    rw [e]
    exact ⟨rfl, K, rfl, lRA_met (by decide) H hT lKr lAs_rfl lMs_rfl⟩
  · have z40 := ho.2.2
    obtain ⟨n1, n2, n3⟩ := hO
    obtain ⟨g1, g2⟩ := hK
    have eM : lAm v v1 := fun a k a0 a1 => n3 a k (by omega)
    obtain ⟨⟨ok, y9, eN, sz, tz⟩, c20, c22, c28, c31, c33, c26, c27⟩ := lMC H.1 eM
    have m40 := eM 40 r (by omega) (by omega)
    have hfg : ∀ i, 0 ≤ i → i < v 40 r → v1 41 (80 * r + i) = v (v 2 r) i := fun i i0 i1 => by rw [eM 41 _ (by omega) (by omega), lRc H.1 hr ho i i0 i1]
    have hp2 : pPl (v1 38 20) (fun k => v1 41 (80 * r + k)) (v 40 r / 2).toNat = true := by
      rw [c20, pPl_cg (f := fun k => v1 41 (80 * r + k)) (g := v (v 2 r)) _ (fun i i0 i1 => hfg i i0 (by omega))]
      exact hp
    refine ct_X2_plants sz (by omega) (by omega) ?_
    rw [show sPlants v1 r = (v 40 r / 2, gPl (fun k => v1 41 (80 * r + k)) (v 40 r / 2).toNat v1) from by unfold sPlants; rw [if_neg (by omega), m40, if_neg (by omega), if_neg (by omega), if_neg (by omega), if_pos hp2]]
    dsimp only
    obtain ⟨x1, x2⟩ := gPl_rd (f := fun k => v1 41 (80 * r + k)) (u := v1) (v 40 r / 2).toNat
    have x3 := gPl_n (f := fun k => v1 41 (80 * r + k)) (v := v1) (v 40 r / 2).toNat
    rw [c33] at x1 x2 x3
    refine ⟨rfl, _, rfl, lB_pl (f := v (v 2 r)) (i := v 40 r / 2) H hT (fun a ha => ?_) h66 (by omega) h24 (fun j j0 j1 => ?_) (fun j j0 j1 => ?_) ?_ (by rw [x3]; omega) (fun j j0 j1 => ?_) (fun j j0 j1 => ?_) (fun a k ha hk => ?_)⟩
    · unfold gHd
      rw [g2 a (by omega)]
    · have := pPl_at _ hp j j0 (by omega)
      rw [d20]
      exact this
    · unfold gHd
      rw [if_neg (by omega), g1 j j0 j1]
    · rw [gPl_fr (by omega)]
      exact n1
    · rw [gPl_fr (by omega), gPl_fr (by omega), gPl_fr (by omega), gPl_fr (by omega), gPl_fr (by omega)]
      exact n2 j j0 j1
    · obtain ⟨q1, q2, q3, q4⟩ := x1 j j0 (by omega)
      rw [q1, q2, q3, q4]
      exact ⟨hfg _ (by omega) (by omega), hfg _ (by omega) (by omega), rfl, rfl⟩
    · by_cases c : 57 ≤ a ∧ a ≤ 60
      · rw [x2 a k c.1 c.2 (by omega)]
        exact n3 a k (by omega)
      · rw [gPl_fr (by omega)]
        exact n3 a k (by omega)
end LK
