/-! The law, 1: what holds between the two systems -/
section LA
variable {v v1 : gM} {h h1 : gH} {t : Nat}
theorem lLt {a : Int} (hT : gTop h t) (ha : (h a).1 ≠ 99) : 0 ≤ a ∧ a < (t : Int) := by
  by_cases h1 : a < 0 ∨ (t : Int) ≤ a
  · rw [hT a h1] at ha
    exact absurd rfl ha
  · omega
theorem lLk {a n : Int} {k : Nat} (hT : gTop h t) (ha : h a = (k, n)) (hk : k ≠ 99) : 0 ≤ a ∧ a < (t : Int) := lLt hT (by rw [ha]; exact hk)
/-- A's wood is M's -/
def lWn (v : gM) (h : gH) : Prop := (v 38 20 = (h (v 0 7)).2 ∧ v 38 22 = v 0 12 ∧ v 38 26 = v 0 10 ∧ v 38 27 = v 0 11 ∧ v 38 28 = (h (v 0 8)).2 ∧ v 38 31 = v 17 2 ∧ v 38 33 = v 0 32) ∧ (∀ k, 0 ≤ k → k < 7 * (h (v 0 7)).2 → v 50 k = aS v h (v (v 0 7) (k / 7)) (k % 7)) ∧ (∀ k, 0 ≤ k → k < v 0 12 → v 51 k = v 7 k ∧ v 52 k = v 8 k ∧ v 53 k = v 9 k ∧ v 56 k = v 19 k) ∧ (∀ k, 0 ≤ k → k < (h (v 0 8)).2 → v 54 k = v (v 0 8) k) ∧ (∀ k, 0 ≤ k → k ≤ 2 → v 55 k = v 5 k) ∧ ∀ k, 0 ≤ k → k < v 0 32 → v 57 k = v (v 16 k) 0 ∧ v 58 k = v 18 k
theorem lWn_eq (H : lWn v h) : aN v h 17 = mN v := by
  obtain ⟨⟨h20, h22, h26, h27, h28, h31, h33⟩, h50, hE, h54, h55, hTr⟩ := H
  funext a k
  unfold aN mN
  by_cases a38 : a = 38
  · subst a38
    rw [if_pos rfl]
    by_cases k20 : k = 20
    · subst k20; rw [if_pos rfl, if_pos (by unfold yR; omega)]; exact h20.symm
    by_cases k22 : k = 22
    · subst k22; rw [if_neg (by omega), if_pos rfl, if_pos (by unfold yR; omega)]; exact h22.symm
    by_cases k26 : k = 26
    · subst k26; rw [if_neg (by omega), if_neg (by omega), if_pos rfl, if_pos (by unfold yR; omega)]; exact h26.symm
    by_cases k27 : k = 27
    · subst k27; rw [if_neg (by omega), if_neg (by omega), if_neg (by omega), if_pos rfl, if_pos (by unfold yR; omega)]; exact h27.symm
    by_cases k28 : k = 28
    · subst k28; rw [if_neg (by omega), if_neg (by omega), if_neg (by omega), if_neg (by omega), if_pos rfl, if_pos (by unfold yR; omega)]; exact h28.symm
    by_cases k31 : k = 31
    · subst k31; rw [if_neg (by omega), if_neg (by omega), if_neg (by omega), if_neg (by omega), if_neg (by omega), if_pos rfl, if_pos (by unfold yR; omega)]; exact h31.symm
    by_cases k33 : k = 33
    · subst k33; rw [if_neg (by omega), if_neg (by omega), if_neg (by omega), if_neg (by omega), if_neg (by omega), if_neg (by omega), if_pos rfl, if_pos (by unfold yR; omega)]; exact h33.symm
    rw [if_neg k20, if_neg k22, if_neg k26, if_neg k27, if_neg k28, if_neg k31, if_neg k33, if_neg (by unfold yR; omega)]
  rw [if_neg a38]
  by_cases a50 : a = 50
  · subst a50
    rw [if_pos rfl]
    by_cases hk : 0 ≤ k ∧ k < 7 * (h (v 0 7)).2
    · rw [if_pos hk, if_pos (by unfold yR; omega)]; exact (h50 k hk.1 hk.2).symm
    · rw [if_neg hk, if_neg (by unfold yR; omega)]
  rw [if_neg a50]
  by_cases a51 : a = 51
  · subst a51
    rw [if_pos rfl]
    by_cases hk : 0 ≤ k ∧ k < v 0 12
    · rw [if_pos hk, if_pos (by unfold yR; omega)]; exact (hE k hk.1 hk.2).1.symm
    · rw [if_neg hk, if_neg (by unfold yR; omega)]
  rw [if_neg a51]
  by_cases a52 : a = 52
  · subst a52
    rw [if_pos rfl]
    by_cases hk : 0 ≤ k ∧ k < v 0 12
    · rw [if_pos hk, if_pos (by unfold yR; omega)]; exact (hE k hk.1 hk.2).2.1.symm
    · rw [if_neg hk, if_neg (by unfold yR; omega)]
  rw [if_neg a52]
  by_cases a53 : a = 53
  · subst a53
    rw [if_pos rfl]
    by_cases hk : 0 ≤ k ∧ k < v 0 12
    · rw [if_pos hk, if_pos (by unfold yR; omega)]; exact (hE k hk.1 hk.2).2.2.1.symm
    · rw [if_neg hk, if_neg (by unfold yR; omega)]
  rw [if_neg a53]
  by_cases a54 : a = 54
  · subst a54
    rw [if_pos rfl]
    by_cases hk : 0 ≤ k ∧ k < (h (v 0 8)).2
    · rw [if_pos hk, if_pos (by unfold yR; omega)]; exact (h54 k hk.1 hk.2).symm
    · rw [if_neg hk, if_neg (by unfold yR; omega)]
  rw [if_neg a54]
  by_cases a55 : a = 55
  · subst a55
    rw [if_pos rfl]
    by_cases hk : 0 ≤ k ∧ k ≤ 2
    · rw [if_pos hk, if_pos (by unfold yR; omega)]; exact (h55 k hk.1 hk.2).symm
    · rw [if_neg hk, if_neg (by unfold yR; omega)]
  rw [if_neg a55]
  by_cases a56 : a = 56
  · subst a56
    rw [if_pos rfl]
    by_cases hk : 0 ≤ k ∧ k < v 0 12
    · rw [if_pos hk, if_pos (by unfold yR; omega)]; exact (hE k hk.1 hk.2).2.2.2.symm
    · rw [if_neg hk, if_neg (by unfold yR; omega)]
  rw [if_neg a56]
  by_cases a57 : a = 57
  · subst a57
    rw [if_pos rfl]
    by_cases hk : 0 ≤ k ∧ k < v 0 32
    · rw [if_pos hk, if_pos (by unfold yR; omega)]; exact (hTr k hk.1 hk.2).1.symm
    · rw [if_neg hk, if_neg (by unfold yR; omega)]
  rw [if_neg a57]
  by_cases a58 : a = 58
  · subst a58
    rw [if_pos rfl]
    by_cases hk : 0 ≤ k ∧ k < v 0 32
    · rw [if_pos hk, if_pos (by unfold yR; omega)]; exact (hTr k hk.1 hk.2).2.symm
    · rw [if_neg hk, if_neg (by unfold yR; omega)]
  rw [if_neg a58, if_neg (by unfold yR; omega)]
theorem lWn_of (e : aN v h 17 = mN v) : lWn v h := by
  have r := fun a k => congrFun (congrFun e a) k
  have h20 : v 38 20 = (h (v 0 7)).2 := ((r 38 20).trans (mN_c (by omega))).symm
  have h22 : v 38 22 = v 0 12 := ((r 38 22).trans (mN_c (by omega))).symm
  have h26 : v 38 26 = v 0 10 := ((r 38 26).trans (mN_c (by omega))).symm
  have h27 : v 38 27 = v 0 11 := ((r 38 27).trans (mN_c (by omega))).symm
  have h28 : v 38 28 = (h (v 0 8)).2 := ((r 38 28).trans (mN_c (by omega))).symm
  have h31 : v 38 31 = v 17 2 := ((r 38 31).trans (mN_c (by omega))).symm
  have h33 : v 38 33 = v 0 32 := ((r 38 33).trans (mN_c (by omega))).symm
  refine ⟨⟨h20, h22, h26, h27, h28, h31, h33⟩, fun k k0 k1 => ?_, fun k k0 k1 => ⟨?_, ?_, ?_, ?_⟩, fun k k0 k1 => ?_, fun k k0 k1 => ?_, fun k k0 k1 => ⟨?_, ?_⟩⟩
  · have e1 := (r 50 k).trans (mN_at (by unfold yR; omega))
    rw [← e1]
    unfold aN
    rw [if_neg (by decide), if_pos rfl, if_pos ⟨k0, k1⟩]
  · exact ((aN_51 k0 k1).symm.trans ((r 51 k).trans (mN_e (by omega) k0 (by omega)))).symm
  · exact ((aN_52 k0 k1).symm.trans ((r 52 k).trans (mN_e (by omega) k0 (by omega)))).symm
  · exact ((aN_53 k0 k1).symm.trans ((r 53 k).trans (mN_e (by omega) k0 (by omega)))).symm
  · exact ((aN_56 k0 k1).symm.trans ((r 56 k).trans (mN_e (by omega) k0 (by omega)))).symm
  · exact ((aN_54 k0 k1).symm.trans ((r 54 k).trans (mN_at (by unfold yR; omega)))).symm
  · have e1 := (r 55 k).trans (mN_at (by unfold yR; omega))
    rw [← e1]
    unfold aN
    rw [if_neg (by decide), if_neg (by decide), if_neg (by decide), if_neg (by decide), if_neg (by decide), if_neg (by decide), if_pos rfl, if_pos ⟨k0, k1⟩]
  · exact ((aN_57 k0 k1).symm.trans ((r 57 k).trans (mN_so k0 (by omega)))).symm
  · exact ((aN_58 k0 k1).symm.trans ((r 58 k).trans (mN_st k0 (by omega)))).symm
/-- the two woods -/
def lW (v : gM) (h : gH) : Prop := aWf v h ∧ aCa v h ∧ (v 0 35 = -9 ∧ v 0 36 = -9) ∧ lWn v h ∧ yOK v ∧ yCh v ∧ v 38 31 ≤ 9999
/-- the rows -/
def lR (v : gM) (h : gH) : Prop := (∀ r, 0 ≤ r → r ≤ 5 → (v 2 r = -1 ∧ v 40 r = -1) ∨ (aRo v h r (v 40 r) ∧ ∀ i, 0 ≤ i → i < v 40 r → v (v 2 r) i = v 41 (80 * r + i))) ∧ ∀ r q, 0 ≤ r → r ≤ 5 → 0 ≤ q → q ≤ 5 → r ≠ q → v 2 r ≠ -1 → v 2 r ≠ v 2 q
/-- the texts -/
def lX (v : gM) (h : gH) : Prop := (∀ r, 0 ≤ r → r ≤ 3 → (v 3 r = -1 ∧ v 43 r = -1) ∨ ((66 ≤ v 3 r ∧ h (v 3 r) = (11, v 43 r) ∧ 0 ≤ v 43 r ∧ v 43 r ≤ 80) ∧ (∀ i, 0 ≤ i → i < v 43 r → v (v 3 r) i = v 44 (80 * r + i)) ∧ v 3 r ≠ v 0 8 ∧ ∀ s, 0 ≤ s → s < (h (v 0 7)).2 → v (v (v 0 7) s) 0 ≠ v 3 r)) ∧ ∀ r q, 0 ≤ r → r ≤ 3 → 0 ≤ q → q ≤ 3 → r ≠ q → v 3 r ≠ -1 → v 3 r ≠ v 3 q
/-- what the trees are told -/
def lT (v : gM) : Prop := ∀ i, 0 ≤ i → i < v 0 32 → v (v 16 i) 1 = v 59 i ∧ v (v 16 i) 2 = v 60 i
def lB (v : gM) (h : gH) : Prop := lW v h ∧ lR v h ∧ lX v h ∧ lT v
/-- what was found and asked -/
def lF (v : gM) : Prop := v 0 0 = v 38 0 ∧ (∀ f, 1 ≤ f → f ≤ 5 → v 1 f = v 39 f) ∧ v 0 2 = v 38 2 ∧ v 0 3 = v 38 3 ∧ v 0 4 = v 38 4
def RA (v : gM) (h : gH) : Prop := lB v h ∧ lF v
theorem lW_fr (H : lW v h) (hT : gTop h t) (hh : ∀ a, a < (t : Int) → h1 a = h a)
    (e0 : ∀ k, (k = 7 ∨ k = 8 ∨ k = 10 ∨ k = 11 ∨ k = 12 ∨ k = 32 ∨ k = 35 ∨ k = 36) → v1 0 k = v 0 k)
    (e1 : ∀ a k, (a = 5 ∨ a = 7 ∨ a = 8 ∨ a = 9 ∨ a = 16 ∨ a = 18 ∨ a = 19 ∨ (a = 17 ∧ k = 2) ∨ (50 ≤ a ∧ a ≤ 58)) → v1 a k = v a k)
    (e2 : ∀ k, (k = 20 ∨ k = 22 ∨ k = 26 ∨ k = 27 ∨ k = 28 ∨ k = 31 ∨ k = 33) → v1 38 k = v 38 k)
    (e3 : ∀ s, 0 ≤ s → s < (h (v 0 7)).2 → v1 (v 0 7) s = v (v 0 7) s)
    (e4 : ∀ s k, 0 ≤ s → s < (h (v 0 7)).2 → v1 (v (v 0 7) s) k = v (v (v 0 7) s) k)
    (e5 : ∀ s k, 0 ≤ s → s < (h (v 0 7)).2 → v1 (v (v (v 0 7) s) 0) k = v (v (v (v 0 7) s) 0) k)
    (e6 : ∀ k, v1 (v 0 8) k = v (v 0 8) k)
    (e7 : ∀ i, 0 ≤ i → i < v 0 32 → v1 (v 16 i) 0 = v (v 16 i) 0) : lW v1 h1 := by
  obtain ⟨hWf, hCa, ⟨h35, h36⟩, hN, hOK, hCh, hY⟩ := H
  obtain ⟨⟨w1, w2, w3, w4⟩, wS, ⟨w5, w6⟩, wT, wD⟩ := hWf
  have b7 := lLt hT (a := v 0 7) (by rw [w2]; decide)
  have b8 := lLt hT (a := v 0 8) (by rw [w6]; decide)
  have E7 := e0 7 (by omega)
  have E8 := e0 8 (by omega)
  have E32 := e0 32 (by omega)
  have H7 : h1 (v 0 7) = h (v 0 7) := hh _ b7.2
  have H8 : h1 (v 0 8) = h (v 0 8) := hh _ b8.2
  have HS : ∀ s, 0 ≤ s → s < (h (v 0 7)).2 → h1 (v (v 0 7) s) = h (v (v 0 7) s) := fun s s0 s1 => hh _ (lLt hT (by have := (wS s s0 s1).2.1; omega)).2
  have HT : ∀ s, 0 ≤ s → s < (h (v 0 7)).2 → h1 (v (v (v 0 7) s) 0) = h (v (v (v 0 7) s) 0) := fun s s0 s1 => hh _ (lLt hT (by rw [(wS s s0 s1).2.2.2]; decide)).2
  have H16 : ∀ i, 0 ≤ i → i < v 0 32 → h1 (v 16 i) = h (v 16 i) := fun i i0 i1 => hh _ (lLt hT (by rw [(wT i i0 i1).2]; decide)).2
  have hS : ∀ s q, 0 ≤ s → s < (h (v 0 7)).2 → aS v1 h1 (v (v 0 7) s) q = aS v h (v (v 0 7) s) q := by
    intro s q s0 s1
    unfold aS
    rw [HS s s0 s1, e4 s 0 s0 s1, e4 s 1 s0 s1, e4 s 2 s0 s1, e4 s 3 s0 s1, e5 s _ s0 s1, e0 35 (by omega)]
  have hN1 : lWn v1 h1 := by
    obtain ⟨⟨h20, h22, h26, h27, h28, h31, h33⟩, h50, hE, h54, h55, hTr⟩ := hN
    unfold lWn
    rw [E7, E8, H7, H8, E32, e0 12 (by omega), e0 10 (by omega), e0 11 (by omega), e1 17 2 (by omega)]
    refine ⟨⟨(e2 20 (by omega)).trans h20, (e2 22 (by omega)).trans h22, (e2 26 (by omega)).trans h26, (e2 27 (by omega)).trans h27, (e2 28 (by omega)).trans h28, (e2 31 (by omega)).trans h31, (e2 33 (by omega)).trans h33⟩, fun k k0 k1 => ?_, fun k k0 k1 => ?_, fun k k0 k1 => ?_, fun k k0 k1 => ?_, fun k k0 k1 => ?_⟩
    · rw [e1 50 k (by omega), e3 _ (by omega) (by omega), hS _ _ (by omega) (by omega)]
      exact h50 k k0 k1
    · rw [e1 51 k (by omega), e1 52 k (by omega), e1 53 k (by omega), e1 56 k (by omega), e1 7 k (by omega), e1 8 k (by omega), e1 9 k (by omega), e1 19 k (by omega)]
      exact hE k k0 k1
    · rw [e1 54 k (by omega), e6]
      exact h54 k k0 k1
    · rw [e1 55 k (by omega), e1 5 k (by omega)]
      exact h55 k k0 k1
    · rw [e1 57 k (by omega), e1 58 k (by omega), e1 16 k (by omega), e7 k k0 k1, e1 18 k (by omega)]
      exact hTr k k0 k1
  have hOK1 : yOK v1 := yOK_congr (fun a k hk => by
    unfold yR at hk
    by_cases ha : a = 38
    · subst ha
      exact e2 k (by omega)
    · exact e1 a k (by omega)) hOK
  refine ⟨?_, ?_, ⟨(e0 35 (by omega)).trans h35, (e0 36 (by omega)).trans h36⟩, hN1, hOK1, ?_, ?_⟩
  · unfold aWf
    rw [E7, E8, H7, H8, E32]
    refine ⟨⟨w1, w2, w3, w4⟩, fun s s0 s1 => ?_, ⟨w5, w6⟩, fun i i0 i1 => ?_, fun i j i0 i1 j0 j1 hij => ?_⟩
    · rw [e3 s s0 s1, HS s s0 s1, e4 s 0 s0 s1, HT s s0 s1]
      exact wS s s0 s1
    · rw [e1 16 i (by omega), H16 i i0 i1]
      exact wT i i0 i1
    · rw [e1 16 i (by omega), e1 16 j (by omega)]
      exact wD i j i0 i1 j0 j1 hij
  · intro s s0 s1
    rw [E7, H7] at s1
    rw [E7, E8, e3 s s0 s1, e4 s 0 s0 s1]
    exact hCa s s0 s1
  · intro j j0 j1
    rw [e1 55 j (by omega)]
    exact hCh j j0 j1
  · rw [e2 31 (by omega)]
    exact hY
theorem lR_fr (H : lR v h) (hT : gTop h t) (hh : ∀ a, a < (t : Int) → h1 a = h a) (e0 : ∀ r, 0 ≤ r → r ≤ 5 → v1 2 r = v 2 r ∧ v1 40 r = v 40 r) (e1 : ∀ k, v1 41 k = v 41 k) (e2 : ∀ r i, 0 ≤ r → r ≤ 5 → 66 ≤ v 2 r → v1 (v 2 r) i = v (v 2 r) i) : lR v1 h1 := by
  refine ⟨fun r r0 r1 => ?_, fun r q r0 r1 q0 q1 hrq hn => ?_⟩
  · rw [(e0 r r0 r1).1, (e0 r r0 r1).2]
    rcases H.1 r r0 r1 with z | ⟨⟨z1, z2, z3⟩, z4⟩
    · exact Or.inl z
    · refine Or.inr ⟨⟨by rw [(e0 r r0 r1).1]; exact z1, ?_, z3⟩, fun i i0 i1 => ?_⟩
      · rw [(e0 r r0 r1).1, hh _ (lLk hT z2 (by decide)).2]
        exact z2
      · rw [e1, e2 r i r0 r1 z1]
        exact z4 i i0 i1
  · rw [(e0 r r0 r1).1] at hn ⊢
    rw [(e0 q q0 q1).1]
    exact H.2 r q r0 r1 q0 q1 hrq hn
theorem lX_fr (H : lX v h) (hT : gTop h t) (hh : ∀ a, a < (t : Int) → h1 a = h a) (e0 : ∀ r, 0 ≤ r → r ≤ 3 → v1 3 r = v 3 r ∧ v1 43 r = v 43 r) (e1 : ∀ k, v1 44 k = v 44 k) (e2 : ∀ r i, 0 ≤ r → r ≤ 3 → 66 ≤ v 3 r → v1 (v 3 r) i = v (v 3 r) i)
    (e3 : v1 0 7 = v 0 7) (e4 : v1 0 8 = v 0 8) (e5 : h1 (v 0 7) = h (v 0 7)) (e6 : ∀ s, 0 ≤ s → s < (h (v 0 7)).2 → v1 (v 0 7) s = v (v 0 7) s ∧ v1 (v (v 0 7) s) 0 = v (v (v 0 7) s) 0) : lX v1 h1 := by
  refine ⟨fun r r0 r1 => ?_, fun r q r0 r1 q0 q1 hrq hn => ?_⟩
  · rw [(e0 r r0 r1).1, (e0 r r0 r1).2, e3, e4, e5]
    rcases H.1 r r0 r1 with z | ⟨⟨z1, z2, z3⟩, z4, z5, z6⟩
    · exact Or.inl z
    · refine Or.inr ⟨⟨z1, ?_, z3⟩, fun i i0 i1 => ?_, z5, fun s s0 s1 => ?_⟩
      · rw [hh _ (lLk hT z2 (by decide)).2]
        exact z2
      · rw [e1, e2 r i r0 r1 z1]
        exact z4 i i0 i1
      · rw [(e6 s s0 s1).1, (e6 s s0 s1).2]
        exact z6 s s0 s1
  · rw [(e0 r r0 r1).1] at hn ⊢
    rw [(e0 q q0 q1).1]
    exact H.2 r q r0 r1 q0 q1 hrq hn
theorem lT_fr (H : lT v) (e0 : v1 0 32 = v 0 32) (e1 : ∀ i, 0 ≤ i → i < v 0 32 → v1 16 i = v 16 i ∧ v1 59 i = v 59 i ∧ v1 60 i = v 60 i ∧ v1 (v 16 i) 1 = v (v 16 i) 1 ∧ v1 (v 16 i) 2 = v (v 16 i) 2) : lT v1 := by
  intro i i0 i1
  rw [e0] at i1
  obtain ⟨z1, z2, z3, z4, z5⟩ := e1 i i0 i1
  rw [z1, z2, z3, z4, z5]
  exact H i i0 i1
theorem lB_fr (H : lB v h) (hT : gTop h t) (hh : ∀ a, a < (t : Int) → h1 a = h a) (e : ∀ a k, a < (t : Int) → ((a = 0 ∧ (k = 7 ∨ k = 8 ∨ k = 10 ∨ k = 11 ∨ k = 12 ∨ k = 32 ∨ k = 35 ∨ k = 36)) ∨ (2 ≤ a ∧ a ≤ 5) ∨ (7 ≤ a ∧ a ≤ 9) ∨ a = 16 ∨ (a = 17 ∧ k = 2) ∨ a = 18 ∨ a = 19 ∨ a = 37 ∨ (a = 38 ∧ (k = 20 ∨ k = 22 ∨ k = 26 ∨ k = 27 ∨ k = 28 ∨ k = 31 ∨ k = 33)) ∨ a = 40 ∨ a = 41 ∨ a = 43 ∨ a = 44 ∨ (50 ≤ a ∧ a ≤ 60) ∨ 66 ≤ a) → v1 a k = v a k) (h66 : 66 ≤ t) : lB v1 h1 := by
  obtain ⟨hW, hR, hX, hTr⟩ := H
  obtain ⟨⟨w1, w2, w3, w4⟩, wS, ⟨w5, w6⟩, wT, wD⟩ := id hW.1
  have b7 := lLt hT (a := v 0 7) (by rw [w2]; decide)
  have b8 := lLt hT (a := v 0 8) (by rw [w6]; decide)
  have bS : ∀ s, 0 ≤ s → s < (h (v 0 7)).2 → v (v 0 7) s < (t : Int) := fun s s0 s1 => (lLt hT (by have := (wS s s0 s1).2.1; omega)).2
  have bT : ∀ s, 0 ≤ s → s < (h (v 0 7)).2 → v (v (v 0 7) s) 0 < (t : Int) := fun s s0 s1 => (lLt hT (by rw [(wS s s0 s1).2.2.2]; decide)).2
  have b16 : ∀ i, 0 ≤ i → i < v 0 32 → v 16 i < (t : Int) := fun i i0 i1 => (lLt hT (by rw [(wT i i0 i1).2]; decide)).2
  refine ⟨lW_fr hW hT hh (fun k hk => e 0 k (by omega) (by omega)) (fun a k hk => e a k (by omega) (by omega)) (fun k hk => e 38 k (by omega) (by omega)) (fun s s0 s1 => e _ s b7.2 (by omega)) (fun s k s0 s1 => e _ k (bS s s0 s1) (by have := (wS s s0 s1).1; omega)) (fun s k s0 s1 => e _ k (bT s s0 s1) (by have := (wS s s0 s1).2.2.1; omega)) (fun k => e _ k b8.2 (by omega)) (fun i i0 i1 => e _ 0 (b16 i i0 i1) (by have := (wT i i0 i1).1; omega)),
    lR_fr hR hT hh (fun r r0 r1 => ⟨e 2 r (by omega) (by omega), e 40 r (by omega) (by omega)⟩) (fun k => e 41 k (by omega) (by omega)) (fun r i r0 r1 h6 => e _ i ?_ (by omega)),
    lX_fr hX hT hh (fun r r0 r1 => ⟨e 3 r (by omega) (by omega), e 43 r (by omega) (by omega)⟩) (fun k => e 44 k (by omega) (by omega)) (fun r i r0 r1 h6 => e _ i ?_ (by omega)) (e 0 7 (by omega) (by omega)) (e 0 8 (by omega) (by omega)) (hh _ b7.2) (fun s s0 s1 => ⟨e _ s b7.2 (by omega), e _ 0 (bS s s0 s1) (by have := (wS s s0 s1).1; omega)⟩),
    lT_fr hTr (e 0 32 (by omega) (by omega)) (fun i i0 i1 => ⟨e 16 i (by omega) (by omega), e 59 i (by omega) (by omega), e 60 i (by omega) (by omega), e _ 1 (b16 i i0 i1) (by have := (wT i i0 i1).1; omega), e _ 2 (b16 i i0 i1) (by have := (wT i i0 i1).1; omega)⟩)⟩
  · rcases hR.1 r r0 r1 with z | z
    · omega
    · exact (lLk hT z.1.2.1 (by decide)).2
  · rcases hX.1 r r0 r1 with z | z
    · omega
    · exact (lLk hT z.1.2.1 (by decide)).2
end LA
