/-! The law, 2: what an operation may change; an operation of both -/
section LB
variable {Γ : gC} {v v1 v2 : gM} {K K1 : gH} {h h1 : gH} {t : Nat}
theorem lB_N (H : lB v h) : aN v h 17 = mN v := lWn_eq H.1.2.2.2.1
theorem lB_ok (H : lB v h) : yOK v := H.1.2.2.2.2.1
theorem lB_a63 (H : lB v h) : a63 v h := by
  intro s s0 s1 hk
  obtain ⟨hWf, hCa, ⟨h35, h36⟩, hN, hOK, hCh, hY⟩ := H.1
  obtain ⟨⟨h20, h22, h26, h27, h28, h31, h33⟩, h50, hE, h54, h55, hTr⟩ := hN
  have e1 := h50 (7 * s + 6) (by omega) (by omega)
  rw [show (7 * s + 6) / 7 = s by omega, show (7 * s + 6) % 7 = 6 by omega] at e1
  have e2 : aS v h (v (v 0 7) s) 6 = v (v (v 0 7) s) 3 := by
    unfold aS
    rw [if_neg (by decide), if_neg (by decide), if_neg (by decide), if_neg (by decide), if_pos hk, if_neg (by omega)]
  have := (hOK.2.1 s s0 (by omega)).2.2.2.1
  rw [e1, e2] at this
  exact this
theorem lB_hy (H : lB v h) : aHy v h := by
  have hN := lB_N H
  obtain ⟨hWf, hCa, ⟨h35, h36⟩, hn, hOK, hCh, hY⟩ := id H.1
  exact ⟨hWf, by rw [hN]; exact yOK_N hOK, by omega, by omega, lB_a63 H, by have := hn.1.2.2.2.2.2.1; omega⟩
/-- A has changed nothing that counts but what was found and asked -/
def lAs (v v1 : gM) (t : Nat) : Prop := ∀ a k, a < (t : Int) → ¬ ((a = 0 ∧ k ≠ 0 ∧ k ≠ 2 ∧ k ≠ 3 ∧ k ≠ 4 ∧ k ≠ 7 ∧ k ≠ 8 ∧ k ≠ 10 ∧ k ≠ 11 ∧ k ≠ 12 ∧ k ≠ 32 ∧ k ≠ 35 ∧ k ≠ 36) ∨ a = 6 ∨ (10 ≤ a ∧ a ≤ 15) ∨ (a = 17 ∧ k ≠ 2) ∨ (20 ≤ a ∧ a ≤ 36)) → v1 a k = v a k
/-- M has changed nothing that counts but what was found and asked -/
def lMs (v v1 : gM) : Prop := ∀ a k, ¬ ((a = 38 ∧ k ≠ 0 ∧ k ≠ 2 ∧ k ≠ 3 ∧ k ≠ 4 ∧ k ≠ 20 ∧ k ≠ 22 ∧ k ≠ 26 ∧ k ≠ 27 ∧ k ≠ 28 ∧ k ≠ 31 ∧ k ≠ 33) ∨ a = 42 ∨ (45 ≤ a ∧ a ≤ 49) ∨ (61 ≤ a ∧ a ≤ 65)) → v1 a k = v a k
/-- M's cells are as they were -/
def lAm (v v1 : gM) : Prop := ∀ a k, 38 ≤ a → a ≤ 65 → v1 a k = v a k
theorem lAs_rfl : lAs v v t := fun _ _ _ _ => rfl
theorem lMs_rfl : lMs v v := fun _ _ _ => rfl
theorem lAs_sc (hs : aScr v v1) : lAs v v1 t := fun a k _ hk => hs a k (by unfold aSq; omega)
theorem lMs_sc (hs : oScr v v1) : lMs v v1 := fun a k hk => hs a k (by unfold oSq; omega)
theorem lMs_scW (hs : oScW v v1) : lMs v v1 := fun a k hk => hs a k (by unfold oSq; omega)
theorem lMs_rd (hs : FRD v v1) : lMs v v1 := fun a k hk => hs a k (by omega)
theorem lAm_of (h66 : 66 ≤ t) (e : lAs v v1 t) : lAm v v1 := fun a k h0 h1 => e a k (by omega) (by omega)
theorem lAm_met {f : Int} (e : lAm v v1) : lAm v (aMet v1 f) := fun a k h0 h1 => by
  show gUp (gUp v1 0 0 f) 1 f _ a k = _
  rw [gUp_ne2 (by omega), gUp_ne2 (by omega)]
  exact e a k h0 h1
theorem lAm_up {j x : Int} (e : lAm v v1) : lAm v (gUp v1 0 j x) := fun a k h0 h1 => by
  rw [gUp_ne2 (by omega)]
  exact e a k h0 h1
theorem lAm_frac {x y : Int} (e : lAm v v1) : lAm v (tFrac v1 x y) := lAm_up (lAm_up e)
theorem lMok (H : lB v h) (e : lAm v v1) : yOK v1 ∧ v1 38 31 ≤ 9999 ∧ mN v1 = mN v ∧ oSz v1 ∧ oTz v1 := by
  obtain ⟨hWf, hCa, ⟨h35, h36⟩, hn, hOK, hCh, hY⟩ := id H.1
  have hc : ∀ a k, yR v a k → v1 a k = v a k := fun a k hk => by
    unfold yR at hk
    exact e a k (by omega) (by omega)
  refine ⟨yOK_congr hc hOK, by rw [e 38 31 (by omega) (by omega)]; exact hY, mN_congr hc, fun r r0 r1 => ?_, fun r r0 r1 => ?_⟩
  · rw [e 40 r (by omega) (by omega)]
    rcases H.2.1.1 r r0 r1 with z | z
    · omega
    · have := z.1.2.2
      omega
  · rw [e 43 r (by omega) (by omega)]
    rcases H.2.2.1.1 r r0 r1 with z | z
    · omega
    · have := z.1.2.2
      omega
theorem lF_sc (H : lF v) (e : ∀ a k, ((a = 0 ∧ (k = 0 ∨ k = 2 ∨ k = 3 ∨ k = 4)) ∨ a = 1 ∨ (a = 38 ∧ (k = 0 ∨ k = 2 ∨ k = 3 ∨ k = 4)) ∨ a = 39) → v1 a k = v a k) : lF v1 := by
  obtain ⟨f0, f1, f2, f3, f4⟩ := H
  refine ⟨?_, fun f h0 h1 => ?_, ?_, ?_, ?_⟩
  · rw [e 0 0 (by omega), e 38 0 (by omega)]; exact f0
  · rw [e 1 f (by omega), e 39 f (by omega)]; exact f1 f h0 h1
  · rw [e 0 2 (by omega), e 38 2 (by omega)]; exact f2
  · rw [e 0 3 (by omega), e 38 3 (by omega)]; exact f3
  · rw [e 0 4 (by omega), e 38 4 (by omega)]; exact f4
theorem lB_two (H : lB v (gHd K)) (hT : gTop (gHd K) t) (hK : ∀ a, a < (t : Int) → gHd K1 a = gHd K a) {va vb w : gM} (e1 : lAs v v1 t) (ea : ∀ a k, ¬ ((a = 0 ∧ (k = 0 ∨ k = 2 ∨ k = 3 ∨ k = 4)) ∨ a = 1) → va a k = v1 a k) (e2 : lMs va vb) (eb : ∀ a k, ¬ ((a = 38 ∧ (k = 0 ∨ k = 2 ∨ k = 3 ∨ k = 4)) ∨ a = 39) → w a k = vb a k) : lB w (gHd K1) :=
  lB_fr H hT hK (fun a k ha hk => by rw [eb a k (by omega), e2 a k (by omega), ea a k (by omega), e1 a k ha (by omega)]) (gHd_66 hT)
theorem lRA_sc (H : RA v (gHd K)) (hT : gTop (gHd K) t) (hK : ∀ a, a < (t : Int) → gHd K1 a = gHd K a) (e1 : lAs v v1 t) (e2 : lMs v1 v2) : RA v2 (gHd K1) :=
  ⟨lB_two H.1 hT hK e1 (fun _ _ _ => rfl) e2 (fun _ _ _ => rfl), lF_sc H.2 (fun a k hk => by
    have := gHd_66 hT
    rw [e2 a k (by omega), e1 a k (by omega) (by omega)])⟩
theorem lRA_met {f : Int} (hf : 1 ≤ f ∧ f ≤ 5) (H : RA v (gHd K)) (hT : gTop (gHd K) t) (hK : ∀ a, a < (t : Int) → gHd K1 a = gHd K a) (e1 : lAs v v1 t) (e2 : lMs (aMet v1 f) v2) : RA (sMeet v2 f) (gHd K1) := by
  have h66 := gHd_66 hT
  refine ⟨lB_two H.1 hT hK e1 (va := aMet v1 f) (vb := v2) (fun a k hk => ?_) e2 (fun a k hk => ?_), ?_⟩
  · show gUp (gUp v1 0 0 f) 1 f _ a k = _
    rw [gUp_ne2 (by omega), gUp_ne2 (by omega)]
  · unfold sMeet
    rw [gUp_ne2 (by omega), gUp_ne2 (by omega)]
  · obtain ⟨f0, f1, f2, f3, f4⟩ := H.2
    have g : ∀ a k, ((a = 0 ∧ (k = 2 ∨ k = 3 ∨ k = 4)) ∨ (a = 38 ∧ (k = 0 ∨ k = 2 ∨ k = 3 ∨ k = 4)) ∨ a = 39) → v2 a k = v a k := fun a k hk => by
      rw [e2 a k (by omega)]
      show gUp (gUp v1 0 0 f) 1 f _ a k = _
      rw [gUp_ne2 (by omega), gUp_ne2 (by omega), e1 a k (by omega) (by omega)]
    have g0 : v2 0 0 = f := by
      rw [e2 0 0 (by omega)]
      show gUp (gUp v1 0 0 f) 1 f _ 0 0 = _
      rw [gUp_ne2 (by omega), gUp_eq2 rfl rfl]
    have g1 : ∀ j, v2 1 j = if j = f then w32 (v 1 f + 1) else v 1 j := fun j => by
      rw [e2 1 j (by omega)]
      show gUp (gUp v1 0 0 f) 1 f _ 1 j = _
      by_cases hj : j = f
      · rw [if_pos hj, gUp_eq2 rfl hj, e1 1 f (by omega) (by omega)]
      · rw [if_neg hj, gUp_ne2 (by omega), gUp_ne2 (by omega), e1 1 j (by omega) (by omega)]
    unfold sMeet
    refine ⟨?_, fun j j0 j1 => ?_, ?_, ?_, ?_⟩
    · rw [gUp_ne2 (by omega), gUp_ne2 (by omega), g0, gUp_ne2 (by omega), gUp_eq2 rfl rfl]
    · rw [gUp_ne2 (by omega), gUp_ne2 (by omega), g1 j]
      by_cases hj : j = f
      · subst hj
        rw [if_pos rfl, gUp_eq2 rfl rfl, g 39 j (by omega), f1 j j0 j1]
      · rw [if_neg hj, gUp_ne2 (by omega), gUp_ne2 (by omega), g 39 j (by omega), f1 j j0 j1]
    · rw [gUp_ne2 (by omega), gUp_ne2 (by omega), g 0 2 (by omega), gUp_ne2 (by omega), gUp_ne2 (by omega), g 38 2 (by omega)]; exact f2
    · rw [gUp_ne2 (by omega), gUp_ne2 (by omega), g 0 3 (by omega), gUp_ne2 (by omega), gUp_ne2 (by omega), g 38 3 (by omega)]; exact f3
    · rw [gUp_ne2 (by omega), gUp_ne2 (by omega), g 0 4 (by omega), gUp_ne2 (by omega), gUp_ne2 (by omega), g 38 4 (by omega)]; exact f4
theorem lRA_ask {x : Int} (H : RA v (gHd K)) (hT : gTop (gHd K) t) (hK : ∀ a, a < (t : Int) → gHd K1 a = gHd K a) (e1 : lAs v v1 t) (e2 : lMs (gUp v1 0 2 x) v2) : RA (gUp v2 38 2 x) (gHd K1) := by
  have h66 := gHd_66 hT
  refine ⟨lB_two H.1 hT hK e1 (va := gUp v1 0 2 x) (vb := v2) (fun a k hk => gUp_ne2 (by omega)) e2 (fun a k hk => gUp_ne2 (by omega)), ?_⟩
  obtain ⟨f0, f1, f2, f3, f4⟩ := H.2
  have g : ∀ a k, ((a = 0 ∧ (k = 0 ∨ k = 3 ∨ k = 4)) ∨ a = 1 ∨ (a = 38 ∧ (k = 0 ∨ k = 2 ∨ k = 3 ∨ k = 4)) ∨ a = 39) → v2 a k = v a k := fun a k hk => by
    rw [e2 a k (by omega), gUp_ne2 (by omega), e1 a k (by omega) (by omega)]
  refine ⟨?_, fun j j0 j1 => ?_, ?_, ?_, ?_⟩
  · rw [gUp_ne2 (by omega), gUp_ne2 (by omega), g 0 0 (by omega), g 38 0 (by omega)]; exact f0
  · rw [gUp_ne2 (by omega), gUp_ne2 (by omega), g 1 j (by omega), g 39 j (by omega)]; exact f1 j j0 j1
  · rw [gUp_ne2 (by omega), gUp_eq2 rfl rfl, e2 0 2 (by omega), gUp_eq2 rfl rfl]
  · rw [gUp_ne2 (by omega), gUp_ne2 (by omega), g 0 3 (by omega), g 38 3 (by omega)]; exact f3
  · rw [gUp_ne2 (by omega), gUp_ne2 (by omega), g 0 4 (by omega), g 38 4 (by omega)]; exact f4
theorem lRA_frac {x y : Int} (H : RA v (gHd K)) (hT : gTop (gHd K) t) (hK : ∀ a, a < (t : Int) → gHd K1 a = gHd K a) (e1 : lAs v v1 t) (e2 : lMs (tFrac v1 x y) v2) : RA (sFrac v2 x y) (gHd K1) := by
  have h66 := gHd_66 hT
  unfold tFrac at e2
  unfold sFrac
  refine ⟨lB_two H.1 hT hK e1 (vb := v2) (fun a k hk => ?_) e2 (fun a k hk => ?_), ?_⟩
  · rw [gUp_ne2 (by omega), gUp_ne2 (by omega)]
  · rw [gUp_ne2 (by omega), gUp_ne2 (by omega)]
  obtain ⟨f0, f1, f2, f3, f4⟩ := H.2
  have g : ∀ a k, ((a = 0 ∧ (k = 0 ∨ k = 2)) ∨ a = 1 ∨ (a = 38 ∧ (k = 0 ∨ k = 2 ∨ k = 3 ∨ k = 4)) ∨ a = 39) → v2 a k = v a k := fun a k hk => by
    rw [e2 a k (by omega), gUp_ne2 (by omega), gUp_ne2 (by omega), e1 a k (by omega) (by omega)]
  refine ⟨?_, fun j j0 j1 => ?_, ?_, ?_, ?_⟩
  · rw [gUp_ne2 (by omega), gUp_ne2 (by omega), gUp_ne2 (by omega), gUp_ne2 (by omega), g 0 0 (by omega), g 38 0 (by omega)]; exact f0
  · rw [gUp_ne2 (by omega), gUp_ne2 (by omega), gUp_ne2 (by omega), gUp_ne2 (by omega), g 1 j (by omega), g 39 j (by omega)]; exact f1 j j0 j1
  · rw [gUp_ne2 (by omega), gUp_ne2 (by omega), gUp_ne2 (by omega), gUp_ne2 (by omega), g 0 2 (by omega), g 38 2 (by omega)]; exact f2
  · rw [gUp_ne2 (by omega), gUp_ne2 (by omega), gUp_ne2 (by omega), gUp_eq2 rfl rfl, e2 0 3 (by omega), gUp_ne2 (by omega), gUp_eq2 rfl rfl]
  · rw [gUp_ne2 (by omega), gUp_ne2 (by omega), gUp_eq2 rfl rfl, e2 0 4 (by omega), gUp_eq2 rfl rfl]
/-- an operation that both answer alike -/
def lOp (Γ : gC) (MA MM : gI) (as : List gV) (g : Nat) (v : gM) (h : gH) (t : Nat) : Prop := Ctr Γ MA ((2, 0) :: as) v h t (fun r v1 h1 t1 => ∃ x, r = (g, x) ∧ h1 38 = (22, 0) ∧ Ctr Γ MM ((2, 38) :: as) v1 h1 t1 (fun r' v2 h2 _ => r' = (g, x) ∧ ∃ K', h2 = gHd K' ∧ RA v2 h2))
def lOpW (Γ : gC) (MA MM : gI) (as : List gV) (g : Nat) (v : gM) (h : gH) (t : Nat) : Prop := CtrW Γ MA ((2, 0) :: as) v h t (fun r v1 h1 t1 => ∃ x, r = (g, x) ∧ h1 38 = (22, 0) ∧ Ctr Γ MM ((2, 38) :: as) v1 h1 t1 (fun r' v2 h2 _ => r' = (g, x) ∧ ∃ K', h2 = gHd K' ∧ RA v2 h2))
theorem lKr : ∀ a, a < (t : Int) → gHd K a = gHd K a := fun _ _ => rfl
end LB
