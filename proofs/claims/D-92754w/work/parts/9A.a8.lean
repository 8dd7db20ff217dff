/-! AcornYears: pass, first its memory lemmas -/
section
variable {Γ : gC} {v : gM} {K : gH} {t : Nat} {Q : gQ}
abbrev aFr (v v1 : gM) : Prop := ∀ a k, ¬ ((17 ≤ a ∧ a ≤ 36) ∨ (38 ≤ a ∧ a ≤ 65) ∨ (1 ≤ a ∧ a ≤ 3) ∨ a = 0 ∧ k ≠ 7 ∧ k ≠ 8 ∧ k ≠ 10 ∧ k ≠ 11 ∧ k ≠ 12 ∧ k ≠ 32 ∧ k ≠ 35) → v1 a k = v a k
theorem aWf_congr {v v1 : gM} {h : gH} (hW : aWf v h) (hF : aFr v v1) : aWf v1 h := by
  obtain ⟨⟨w7, a1, a2, a3⟩, wS, ⟨w8, b1⟩, wT, wD⟩ := hW
  have e7 : v1 0 7 = v 0 7 := hF 0 7 (by omega)
  have e8 : v1 0 8 = v 0 8 := hF 0 8 (by omega)
  have e32 : v1 0 32 = v 0 32 := hF 0 32 (by omega)
  unfold aWf
  rw [e7, e8, e32]
  refine ⟨⟨w7, a1, a2, a3⟩, fun s s0 s1 => ?_, ⟨w8, b1⟩, fun i i0 i1 => ?_, fun i j i0 i1 j0 j1 hij => ?_⟩
  · have g := wS s s0 s1
    rw [hF (v 0 7) s (by omega), hF (v (v 0 7) s) 0 (by omega)]
    exact g
  · rw [hF 16 i (by omega)]
    exact wT i i0 i1
  · rw [hF 16 i (by omega), hF 16 j (by omega)]
    exact wD i j i0 i1 j0 j1 hij
theorem yOK_31 {u : gM} {y : Int} (h : yOK u) (hy : 0 ≤ y) : yOK (gUp u 38 31 y) := by
  obtain ⟨h1, h2, h3, h4, h5, h6, h7, h8, h9, h10⟩ := h
  have q (a k : Int) (hk : ¬ (a = 38 ∧ k = 31)) : gUp u 38 31 y a k = u a k := gUp_ne2 hk
  unfold yOK oSrt oEat
  simp (disch := omega) only [q]
  exact ⟨h1, h2, h3, h4, h5, h6, h7, h8, h9, by rw [gUp_eq2 rfl rfl]; exact hy⟩
theorem aN_31 {v : gM} {h : gH} {x y : Int} (hx : x = 17 ∨ x = 23) (hW : aWf v h) : aN (gUp v x 2 y) h x = gUp (aN v h x) 38 31 y := by
  funext a k
  by_cases c : a = 38 ∧ k = 31
  · rw [gUp_eq2 c.1 c.2, c.1, c.2, aN_c31, gUp_eq2 rfl rfl]
  · rw [gUp_ne2 c]
    have e12 : gUp v x 2 y 0 12 = v 0 12 := gUp_ne2 (by omega)
    have e32 : gUp v x 2 y 0 32 = v 0 32 := gUp_ne2 (by omega)
    by_cases c6 : a = 56
    · subst c6
      show (if 0 ≤ k ∧ k < gUp v x 2 y 0 12 then gUp v x 2 y (x + 2) k else 0) = (if 0 ≤ k ∧ k < v 0 12 then v (x + 2) k else 0)
      rw [e12, gUp_ne2 (by omega)]
    · by_cases c8 : a = 58
      · subst c8
        show (if 0 ≤ k ∧ k < gUp v x 2 y 0 32 then gUp v x 2 y (x + 1) k else 0) = (if 0 ≤ k ∧ k < v 0 32 then v (x + 1) k else 0)
        rw [e32, gUp_ne2 (by omega)]
      · exact aN_congr hW (fun b j hb => gUp_ne2 (by omega)) a k (by omega)
/-- a year of the wood x is the function's year -/
def oPs (v v1 : gM) (h : gH) (x w pg : Int) : Prop := aN v1 h x = yNx (aN v h x) w (aHf v) pg ∧ v1 x 6 = yAc (aN v h x) w (aHf v) ∧ v1 x 7 = ySd (aN v h x) w (aHf v) pg ∧ (∀ i, 0 ≤ i → i < v 0 32 → v1 (x + 3) i = (if yB (aN v h x) w i = true then 1 else 0) ∧ v1 (x + 4) i = yGv (aN v h x) w (aHf v) i) ∧ (∀ e, 0 ≤ e → e < v 0 12 → v1 (x + 5) e = (if ySv (aN v h x) w (aHf v) pg e = true then 1 else 0)) ∧ ∀ a k, ¬ ((a = x ∧ (k = 2 ∨ k = 6 ∨ k = 7)) ∨ (x + 1 ≤ a ∧ a ≤ x + 5) ∨ a = 29 ∨ a = 30) → v1 a k = v a k

end
