/-! The law, 8: years -/
section LI
variable {Γ : gC} {v v1 v2 : gM} {K K1 : gH} {h h1 : gH} {t : Nat}
/-- a year or more have passed in both -/
theorem lB_yr {y : Int} (H : RA v (gHd K)) (hT : gTop (gHd K) t)
    (hA : ∀ a k, ¬ ((a = 17 ∧ (k = 2 ∨ k = 6 ∨ k = 7)) ∨ (18 ≤ a ∧ a ≤ 22) ∨ a = 29 ∨ a = 30 ∨ ((k = 1 ∨ k = 2) ∧ ∃ j, 0 ≤ j ∧ j < v 0 32 ∧ a = v 16 j)) → v1 a k = v a k)
    (hW1 : aWf v1 (gHd K))
    (hM : ∀ a k, ¬ ((a = 38 ∧ (k = 31 ∨ k = 38 ∨ k = 39 ∨ k = 40 ∨ k = 41)) ∨ a = 56 ∨ a = 58 ∨ a = 59 ∨ a = 60 ∨ a = 61 ∨ a = 62) → v2 a k = gUp v1 0 2 y a k)
    (hn : aN v1 (gHd K) 17 = mN v2) (hok : yOK v2) (h31 : v2 38 31 ≤ 9999)
    (hTr : ∀ i, 0 ≤ i → i < v 0 32 → v1 (v 16 i) 1 = v2 59 i ∧ v1 (v 16 i) 2 = v2 60 i) : RA (gUp v2 38 2 y) (gHd K) := by
  have h66 := gHd_66 hT
  obtain ⟨⟨k7, k8, k78⟩, kS, kT, kd7, kd8, kw7, kw8⟩ := lKd H.1 hT
  have eW : ∀ a k, ¬ ((a = 38 ∧ (k = 2 ∨ k = 31 ∨ k = 38 ∨ k = 39 ∨ k = 40 ∨ k = 41)) ∨ (a = 0 ∧ k = 2) ∨ a = 56 ∨ a = 58 ∨ a = 59 ∨ a = 60 ∨ a = 61 ∨ a = 62) → gUp v2 38 2 y a k = v1 a k := fun a k hk => by rw [gUp_ne2 (by omega), hM a k (by omega), gUp_ne2 (by omega)]
  have eA : ∀ a k, a < 66 → ¬ ((a = 17 ∧ (k = 2 ∨ k = 6 ∨ k = 7)) ∨ (18 ≤ a ∧ a ≤ 22) ∨ a = 29 ∨ a = 30) → v1 a k = v a k := fun a k ha hk => hA a k (by
    rintro (z | z | z | z | ⟨-, j, j0, j1, z⟩)
    · omega
    · omega
    · omega
    · omega
    · have := kT j j0 j1
      omega)
  have eB : ∀ a k, (gHd K a).1 ≠ 8 ∨ k = 0 → 66 ≤ a → v1 a k = v a k := fun a k hk ha => hA a k (by
    rintro (z | z | z | z | ⟨z0, j, j0, j1, z⟩)
    · omega
    · omega
    · omega
    · omega
    · have := (kT j j0 j1).2.2.2
      rw [← z] at this
      omega)
  have hW2 : aWf (gUp v2 38 2 y) (gHd K) := aWf_congr hW1 (fun a k hk => eW a k (by omega))
  have e0 : ∀ k, k ≠ 2 → gUp v2 38 2 y 0 k = v 0 k := fun k hk => (eW 0 k (by omega)).trans (eA 0 k (by omega) (by omega))
  have hN2 : aN (gUp v2 38 2 y) (gHd K) 17 = mN (gUp v2 38 2 y) := by
    rw [aN_17f hW1 (fun a k hk => eW a k (by omega)) (eW 17 2 (by omega)) (fun k => eW 18 k (by omega)) (fun k => eW 19 k (by omega)), hn]
    exact (mN_up (fun z hz => by unfold yR at hz; omega)).symm
  have hok2 : yOK (gUp v2 38 2 y) := yOK_congr (fun a k hk => gUp_ne2 (by unfold yR at hk; omega)) hok
  have hX := lRX H.1 hT (lKr (K := K)) h66 (v1 := gUp v2 38 2 y) (fun a k ha hk => by
    by_cases c : a < 66
    · rw [eW a k (by omega), eA a k c (by omega)]
    · rw [eW a k (by omega), eB a k (Or.inl (by omega)) (by omega)])
  have eS : ∀ s k, 0 ≤ s → s < (gHd K (v 0 7)).2 → gUp v2 38 2 y (v (v 0 7) s) k = v (v (v 0 7) s) k := fun s k s0 s1 => by
    have := (kS s s0 s1).1
    rw [eW _ k (by omega), eB _ k (Or.inl this.2.2.2) this.1]
  have e7s : ∀ s, gUp v2 38 2 y (v 0 7) s = v (v 0 7) s := fun s => by
    rcases kw7 with z | z
    · rw [eW _ s (by omega), eA _ s (by omega) (by omega)]
    · rw [eW _ s (by omega), eB _ s (Or.inl (by omega)) z]
  refine ⟨⟨⟨hW2, fun s s0 s1 => ?_, ⟨(e0 35 (by decide)).trans H.1.1.2.2.1.1, (e0 36 (by decide)).trans H.1.1.2.2.1.2⟩, lWn_of hN2, hok2, fun j j0 j1 => ?_, ?_⟩, hX.1, hX.2, fun i i0 i1 => ?_⟩, ?_⟩
  · rw [e0 7 (by decide)] at s1
    rw [e0 7 (by decide), e0 8 (by decide), e7s s, eS s 0 s0 s1]
    exact H.1.1.2.1 s s0 s1
  · rw [eW 55 j (by omega), eA 55 j (by omega) (by omega)]
    exact H.1.1.2.2.2.2.2.1 j j0 j1
  · rw [gUp_ne2 (by omega)]
    exact h31
  · rw [e0 32 (by decide)] at i1
    have q := kT i i0 i1
    rw [eW 16 i (by omega), eA 16 i (by omega) (by omega), eW _ 1 (by omega), eW _ 2 (by omega), gUp_ne2 (by omega), gUp_ne2 (by omega)]
    exact hTr i i0 i1
  · refine lF_ask H.2 (fun a k hk => ?_) ?_
    · rw [eW a k (by omega), eA a k (by omega) (by omega)]
    · rw [gUp_ne2 (by omega), hM 0 2 (by omega), gUp_eq2 rfl rfl, gUp_eq2 rfl rfl]
set_option maxHeartbeats 1000000 in
theorem op_next {w : Int} (H : RA v (gHd K)) (hT : gTop (gHd K) t) : lOp Γ mX0_next mX2_next [(0, w)] 0 v (gHd K) t := by
  have hN := lB_N H.1
  have hok := lB_ok H.1
  have h66 := gHd_66 hT
  have hH := lB_hy H.1
  obtain ⟨d20, d22, d28, d31, d33, d26, d27⟩ := lCs H.1 (lAm_rfl (v := v))
  obtain ⟨o1, o2, o3, o4, o5, o6, o7, o8, o9, o10⟩ := id hok
  have o5 := o5.1
  obtain ⟨-, -, -, sz, tz⟩ := lMok H.1 (lAm_rfl (v := v))
  unfold lOp
  have h36 := H.1.1.2.2.1.2
  have hf0 : aHf v = 0 := by
    show (if 0 ≤ v 0 36 then v 0 36 else 0) = 0
    rw [if_neg (by omega)]
  refine ct_X0_next hH.1 hH.2.1 hH.2.2.2.2.2 hH.2.2.2.1 hH.2.2.2.2.1 (fun hw => ⟨_, rfl, rfl, ?_⟩) (fun hw hy => ⟨_, rfl, rfl, ?_⟩) (fun hw hy vP v1 hP hR => ⟨_, rfl, rfl, ?_⟩)
  · exact ct_X2_next ⟨o10, H.1.1.2.2.2.2.2.2⟩ (yOK_tr hok) hok.2.2.2.2.1 o6 o7 (fun _ => ⟨rfl, K, rfl, H⟩) (fun hw' => absurd hw' hw) (fun hw' => absurd hw' hw)
  · exact ct_X2_next ⟨o10, H.1.1.2.2.2.2.2.2⟩ (yOK_tr hok) hok.2.2.2.2.1 o6 o7 (fun hw' => absurd hw hw') (fun _ _ => ⟨rfl, K, rfl, H⟩) (fun _ hy' => absurd hy (by omega))
  · obtain ⟨p1, p2, p3, p4, p5, p6⟩ := hP
    obtain ⟨q1, q2⟩ := hR
    rw [hf0, hN] at p1 p2 p3 p4
    obtain ⟨⟨k7, k8, k78⟩, kS, kT, kd7, kd8, kw7, kw8⟩ := lKd H.1 hT
    have e16 : ∀ j, vP 16 j = v 16 j := fun j => p6 16 j (by omega)
    have hWP : aWf vP (gHd K) := aWf_congr hH.1 (fun a k hk => p6 a k (by omega))
    obtain ⟨a1, a2⟩ := aN_tr (x := 17) (v1 := v1) (Or.inl rfl) hWP (fun a k hk => q1 a k (by
      rintro ⟨z0, j, j0, j1, z⟩
      have := kT j j0 j1
      rw [e16] at z
      rw [z] at hk
      exact hk ⟨z0, this.1, this.2.2.2⟩))
    have e67 : v1 17 6 = vP 17 6 ∧ v1 17 7 = vP 17 7 := ⟨q1 17 6 (by omega), q1 17 7 (by omega)⟩
    rw [e67.1, e67.2, p2, p3]
    have hA : ∀ a k, ¬ ((a = 17 ∧ (k = 2 ∨ k = 6 ∨ k = 7)) ∨ (18 ≤ a ∧ a ≤ 22) ∨ a = 29 ∨ a = 30 ∨ ((k = 1 ∨ k = 2) ∧ ∃ j, 0 ≤ j ∧ j < v 0 32 ∧ a = v 16 j)) → v1 a k = v a k := fun a k hk => by
      rw [q1 a k (fun ⟨z0, j, j0, j1, z⟩ => hk (Or.inr (Or.inr (Or.inr (Or.inr ⟨z0, j, j0, j1, by rw [z, e16]⟩)))))]
      exact p6 a k (fun z => hk (by omega))
    have eM : lAm v (gUp v1 0 2 (ySd (mN v) w 0 0)) := lAm_up (fun a k a0 a1 => hA a k (by
      rintro (z | z | z | z | ⟨-, j, j0, j1, z⟩)
      · omega
      · omega
      · omega
      · omega
      · have := kT j j0 j1
        omega))
    obtain ⟨⟨ok, y9, eN, sz, tz⟩, c20, c22, c28, c31, c33, c26, c27⟩ := lMC H.1 eM
    obtain ⟨u1, u2, u3, u4, u5, u6, u7, u8, u9, u10⟩ := id ok
    refine ct_X2_next ⟨u10, y9⟩ (yOK_tr ok) u5 u6 u7 (fun hw' => absurd hw hw') (fun _ hy' => absurd hy' (by omega)) (fun _ _ v3 hY => ?_)
    obtain ⟨y1, y2, y3, y4, y5, y6, y7, y8, y10⟩ := oYear_fn hw (yOK_tr ok) u5 (yOK_so ok) hY
    rw [eN] at y1 y2 y3 y8
    rw [y2, y3]
    refine ⟨rfl, K, rfl, lB_yr H hT hA a2 (fun a k hk => y10 a k (by omega)) (by rw [a1, p1, y1]) (yOK_of (by rw [y1]; exact yOK_nx hw (yOK_N hok))) ?_ (fun i i0 i1 => ?_)⟩
    · have e1 := congrFun (congrFun y1 38) 31
      rw [mN_c (by omega), yNx_y, mN_c (by omega)] at e1
      rw [e1]
      have := H.1.1.2.2.2.2.2.2
      omega
    · obtain ⟨r1, r2⟩ := q2 i i0 i1
      obtain ⟨s1, s2⟩ := y8 i i0 (by omega)
      have q := kT i i0 i1
      have t1 := H.1.2.2.2 i i0 i1
      have e20 : vP 20 i = (if yB (mN v) w i = true then 1 else 0) := (p4 i i0 i1).1
      rw [e16, p6 (v 16 i) 1 (by omega)] at r1
      rw [e16, p6 (v 16 i) 2 (by omega)] at r2
      have e2 : vP 17 2 = v 17 2 + 1 := by
        have e1 := congrFun (congrFun p1 38) 31
        rw [yNx_y, mN_c (by omega), d31] at e1
        exact e1
      rw [eM 59 i (by omega) (by omega)] at s1
      rw [eM 60 i (by omega) (by omega), c31] at s2
      by_cases hb : yB (mN v) w i = true
      · have e3 : vP 20 i ≠ 0 := by rw [e20, if_pos hb]; decide
        rw [if_pos e3] at r1 r2
        rw [if_pos hb] at s1 s2
        rw [r1, r2, s1, s2, t1.1, e2]
        exact ⟨rfl, rfl⟩
      · have e3 : ¬ vP 20 i ≠ 0 := by rw [e20, if_neg hb]; decide
        rw [if_neg e3] at r1 r2
        rw [if_neg hb] at s1 s2
        rw [r1, r2, s1, s2, t1.1, t1.2]
        exact ⟨rfl, rfl⟩
theorem yTm_cg {u : gM} {f g : Int → Int} {k : Int} (h : f k = g k) : ∀ n : Nat, yTm u f n k = yTm u g n k
  | 0 => h
  | n + 1 => by
    show (if yB (yIt u n) (yMay (yIt u n)) k = true then w32 (yTm u f n k + 1) else yTm u f n k) = (if yB (yIt u n) (yMay (yIt u n)) k = true then w32 (yTm u g n k + 1) else yTm u g n k)
    rw [yTm_cg h n]
theorem yLb_cg {u : gM} {f g : Int → Int} {k : Int} (h : f k = g k) : ∀ n : Nat, yLb u f n k = yLb u g n k
  | 0 => h
  | n + 1 => by
    show (if yB (yIt u n) (yMay (yIt u n)) k = true then yIt u n 38 31 + 1 else yLb u f n k) = (if yB (yIt u n) (yMay (yIt u n)) k = true then yIt u n 38 31 + 1 else yLb u g n k)
    rw [yLb_cg h n]
set_option maxHeartbeats 1000000 in
theorem op_run {n : Int} (H : RA v (gHd K)) (hT : gTop (gHd K) t) : lOp Γ mX0_run mX2_run [(0, n)] 0 v (gHd K) t := by
  have hN := lB_N H.1
  have hok := lB_ok H.1
  have h66 := gHd_66 hT
  have hH := lB_hy H.1
  obtain ⟨d20, d22, d28, d31, d33, d26, d27⟩ := lCs H.1 (lAm_rfl (v := v))
  obtain ⟨o1, o2, o3, o4, o5, o6, o7, o8, o9, o10⟩ := id hok
  have o5 := o5.1
  obtain ⟨-, -, -, sz, tz⟩ := lMok H.1 (lAm_rfl (v := v))
  unfold lOp
  refine ct_X0_run hH.1 hH.2.1 hH.2.2.1 hH.2.2.2.2.2 hH.2.2.2.1 hH.2.2.2.2.1 (fun hn => ⟨_, rfl, rfl, ?_⟩) (fun hn hy => ⟨_, rfl, rfl, ?_⟩) (fun hn hy v1 hR hW1 => ?_)
  · exact ct_X2_run hok H.1.1.2.2.2.2.2.2 (fun _ => ⟨rfl, K, rfl, H⟩) (fun hn' => absurd hn' hn) (fun hn' => absurd hn' hn)
  · exact ct_X2_run hok H.1.1.2.2.2.2.2.2 (fun hn' => absurd hn hn') (fun _ _ => ⟨rfl, K, rfl, H⟩) (fun _ hy' => absurd hy' (by omega))
  · obtain ⟨r1, r2, r3⟩ := hR
    rw [hN] at r1 r2 ⊢
    refine ⟨_, rfl, rfl, ?_⟩
    obtain ⟨⟨k7, k8, k78⟩, kS, kT, kd7, kd8, kw7, kw8⟩ := lKd H.1 hT
    have eM : lAm v (gUp v1 0 2 (yTot yA1 (mN v) n.toNat)) := lAm_up (fun a k a0 a1 => r3 a k (by
      rintro (z | z | z | z | ⟨-, j, j0, j1, z⟩)
      · omega
      · omega
      · omega
      · omega
      · have := kT j j0 j1
        omega))
    obtain ⟨⟨ok, y9, eN, sz, tz⟩, c20, c22, c28, c31, c33, c26, c27⟩ := lMC H.1 eM
    refine ct_X2_run ok y9 (fun hn' => absurd hn hn') (fun _ hy' => absurd hy' (by omega)) (fun _ _ v2 hR2 => ?_)
    obtain ⟨s1, s2, s3⟩ := hR2
    rw [eN] at s1 s2 ⊢
    refine ⟨rfl, K, rfl, lB_yr H hT r3 hW1 (fun a k hk => s3 a k (by omega)) (by rw [r1, s1]) (yOK_of (by rw [s1]; exact yOK_it (yOK_N hok) _)) ?_ (fun i i0 i1 => ?_)⟩
    · have e1 := congrFun (congrFun s1 38) 31
      rw [mN_c (by omega), yIt_y, mN_c (by omega)] at e1
      rw [e1]
      omega
    · obtain ⟨x1, x2⟩ := r2 i i0 i1
      obtain ⟨z1, z2⟩ := s2 i i0 (by omega)
      have t1 := H.1.2.2.2 i i0 i1
      rw [x1, x2, z1, z2]
      exact ⟨yTm_cg (by rw [eM 59 i (by omega) (by omega)]; exact t1.1) _, yLb_cg (by rw [eM 60 i (by omega) (by omega)]; exact t1.2) _⟩
end LI
