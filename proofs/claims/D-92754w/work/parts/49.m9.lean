/-! AcornYearsModel: an item, a text, a wood laid -/
section
variable {Γ : gC} {v : gM} {K : gH} {t : Nat} {Q : gQ}
/-- the model's memory holds what is read -/
def RP (s v : gM) : Prop := v 38 12 = s 38 12 ∧ v 38 14 = s 38 14 ∧ v 38 17 = s 38 17 ∧ (∀ j, 0 ≤ j → j < 7 * s 38 12 → v 45 j = s 45 j) ∧ (∀ j, 0 ≤ j → j < 4 * s 38 14 → v 46 j = s 46 j) ∧ v 47 0 = s 47 0 ∧ v 47 1 = s 47 1 ∧ (∀ j, 0 ≤ j → j < s 38 17 → v 48 j = s 48 j) ∧ ∀ j, 0 ≤ j → j ≤ 2 → v 49 j = s 49 j
def BP (s : gM) : Prop := (0 ≤ s 38 12 ∧ s 38 12 ≤ 6) ∧ (0 ≤ s 38 14 ∧ s 38 14 ≤ 2) ∧ 1 ≤ s 38 17 ∧ s 38 17 ≤ 8
/-- a reading step leaves all else alone -/
abbrev FRD (v v1 : gM) : Prop := ∀ a j, ¬ ((a = 38 ∧ (j = 10 ∨ j = 11 ∨ j = 12 ∨ j = 14 ∨ j = 17)) ∨ (45 ≤ a ∧ a ≤ 49)) → v1 a j = v a j
theorem RP_S {s v v1 : gM} {f : Int → Int} (h : RP s v) (hB : BP s) (hF : ∀ a j, ¬ ((a = 38 ∧ (j = 10 ∨ j = 11 ∨ j = 12)) ∨ (a = 45 ∧ 7 * s 38 12 ≤ j ∧ j ≤ 7 * s 38 12 + 6)) → v1 a j = v a j) (hn : v1 38 12 = s 38 12 + 1) (hf : ∀ k, 0 ≤ k → k ≤ 6 → v1 45 (7 * s 38 12 + k) = f k) : RP (pPutS s f) v1 := by
  obtain ⟨h1, h2, h3, h4, h5, h6, h7, h8, h9⟩ := h
  obtain ⟨g1, g2, g3⟩ := hB
  have e12 : pPutS s f 38 12 = s 38 12 + 1 := by simp [pPutS]
  have e14 : pPutS s f 38 14 = s 38 14 := by simp [pPutS]
  have e17 : pPutS s f 38 17 = s 38 17 := by simp [pPutS]
  refine ⟨by rw [e12]; exact hn, by rw [e14, hF 38 14 (by omega)]; exact h2, by rw [e17, hF 38 17 (by omega)]; exact h3, ?_, ?_, ?_, ?_, ?_, ?_⟩
  · intro j j0 j1
    rw [e12] at j1
    by_cases hj : j < 7 * s 38 12
    · rw [hF 45 j (by omega), h4 j j0 hj]
      unfold pPutS
      rw [if_neg (by omega), if_neg (by omega)]
    · have h10 := hf (j - 7 * s 38 12) (by omega) (by omega)
      rw [show 7 * s 38 12 + (j - 7 * s 38 12) = j by omega] at h10
      rw [h10]
      unfold pPutS
      rw [if_pos (by omega)]
  · intro j j0 j1
    rw [e14] at j1
    rw [hF 46 j (by omega), h5 j j0 j1]
    simp [pPutS]
  · rw [hF 47 0 (by omega), h6]; simp [pPutS]
  · rw [hF 47 1 (by omega), h7]; simp [pPutS]
  · intro j j0 j1
    rw [e17] at j1
    rw [hF 48 j (by omega), h8 j j0 j1]
    simp [pPutS]
  · intro j j0 j1
    rw [hF 49 j (by omega), h9 j j0 j1]
    simp [pPutS]
theorem RP_E {s v v1 : gM} {x0 x1 x2 x3 : Int} (h : RP s v) (hB : BP s) (hF : ∀ a j, ¬ ((a = 38 ∧ (j = 10 ∨ j = 11 ∨ j = 14)) ∨ (a = 46 ∧ 4 * s 38 14 ≤ j ∧ j ≤ 4 * s 38 14 + 3)) → v1 a j = v a j) (hn : v1 38 14 = s 38 14 + 1) (f0 : v1 46 (4 * s 38 14) = x0) (f1 : v1 46 (4 * s 38 14 + 1) = x1) (f2 : v1 46 (4 * s 38 14 + 2) = x2) (f3 : v1 46 (4 * s 38 14 + 3) = x3) : RP (pPutE s x0 x1 x2 x3) v1 := by
  obtain ⟨h1, h2, h3, h4, h5, h6, h7, h8, h9⟩ := h
  obtain ⟨g1, g2, g3⟩ := hB
  have e12 : pPutE s x0 x1 x2 x3 38 12 = s 38 12 := by simp [pPutE]
  have e14 : pPutE s x0 x1 x2 x3 38 14 = s 38 14 + 1 := by simp [pPutE]
  have e17 : pPutE s x0 x1 x2 x3 38 17 = s 38 17 := by simp [pPutE]
  refine ⟨by rw [e12, hF 38 12 (by omega)]; exact h1, by rw [e14]; exact hn, by rw [e17, hF 38 17 (by omega)]; exact h3, ?_, ?_, ?_, ?_, ?_, ?_⟩
  · intro j j0 j1
    rw [e12] at j1
    rw [hF 45 j (by omega), h4 j j0 j1]
    simp [pPutE]
  · intro j j0 j1
    rw [e14] at j1
    by_cases hj : j < 4 * s 38 14
    · rw [hF 46 j (by omega), h5 j j0 hj]
      unfold pPutE
      rw [if_neg (by omega), if_neg (by omega)]
    · unfold pPutE
      rw [if_pos (by omega)]
      by_cases c0 : j = 4 * s 38 14
      · rw [if_pos c0, c0]; exact f0
      · by_cases c1 : j = 4 * s 38 14 + 1
        · rw [if_neg c0, if_pos c1, c1]; exact f1
        · by_cases c2 : j = 4 * s 38 14 + 2
          · rw [if_neg c0, if_neg c1, if_pos c2, c2]; exact f2
          · rw [if_neg c0, if_neg c1, if_neg c2, show j = 4 * s 38 14 + 3 by omega]; exact f3
  · rw [hF 47 0 (by omega), h6]; simp [pPutE]
  · rw [hF 47 1 (by omega), h7]; simp [pPutE]
  · intro j j0 j1
    rw [e17] at j1
    rw [hF 48 j (by omega), h8 j j0 j1]
    simp [pPutE]
  · intro j j0 j1
    rw [hF 49 j (by omega), h9 j j0 j1]
    simp [pPutE]
theorem RP_J {s v v1 : gM} {x0 x1 : Int} (h : RP s v) (hB : BP s) (hF : ∀ a j, ¬ ((a = 38 ∧ (j = 10 ∨ j = 11)) ∨ (a = 47 ∧ (j = 0 ∨ j = 1))) → v1 a j = v a j) (f0 : v1 47 0 = x0) (f1 : v1 47 1 = x1) : RP (pPutJ s x0 x1) v1 := by
  obtain ⟨h1, h2, h3, h4, h5, h6, h7, h8, h9⟩ := h
  refine ⟨by rw [hF 38 12 (by omega)]; exact h1, by rw [hF 38 14 (by omega)]; exact h2, by rw [hF 38 17 (by omega)]; exact h3, ?_, ?_, f0, f1, ?_, ?_⟩
  · intro j j0 j1
    rw [hF 45 j (by omega)]; exact h4 j j0 j1
  · intro j j0 j1
    rw [hF 46 j (by omega)]; exact h5 j j0 j1
  · intro j j0 j1
    rw [hF 48 j (by omega)]; exact h8 j j0 j1
  · intro j j0 j1
    rw [hF 49 j (by omega)]; exact h9 j j0 j1
theorem RP_M {s v v1 : gM} {x0 x1 x2 : Int} (h : RP s v) (hB : BP s) (hF : ∀ a j, ¬ ((a = 38 ∧ (j = 10 ∨ j = 11)) ∨ (a = 49 ∧ 0 ≤ j ∧ j ≤ 2)) → v1 a j = v a j) (f0 : v1 49 0 = x0) (f1 : v1 49 1 = x1) (f2 : v1 49 2 = x2) : RP (pPutM s x0 x1 x2) v1 := by
  obtain ⟨h1, h2, h3, h4, h5, h6, h7, h8, h9⟩ := h
  refine ⟨by rw [hF 38 12 (by omega)]; exact h1, by rw [hF 38 14 (by omega)]; exact h2, by rw [hF 38 17 (by omega)]; exact h3, ?_, ?_, by rw [hF 47 0 (by omega)]; exact h6, by rw [hF 47 1 (by omega)]; exact h7, ?_, ?_⟩
  · intro j j0 j1
    rw [hF 45 j (by omega)]; exact h4 j j0 j1
  · intro j j0 j1
    rw [hF 46 j (by omega)]; exact h5 j j0 j1
  · intro j j0 j1
    rw [hF 48 j (by omega)]; exact h8 j j0 j1
  · intro j j0 j1
    rcases (by omega : j = 0 ∨ j = 1 ∨ j = 2) with rfl | rfl | rfl
    · rw [f0]; rfl
    · rw [f1]; rfl
    · rw [f2]; rfl
theorem RP_C {s v v1 : gM} {b : pB} {p m : Int} (h : RP s v) (hB : BP s) (hm : 0 ≤ m ∧ m ≤ 8) (hF : ∀ a j, ¬ ((a = 38 ∧ (j = 10 ∨ j = 17)) ∨ (a = 48 ∧ 0 ≤ j ∧ j ≤ 7)) → v1 a j = v a j) (hn : v1 38 17 = m) (f0 : ∀ l, 0 ≤ l → l < m → v1 48 l = b (p + l) - 48) : RP (pPutC s b p m) v1 := by
  obtain ⟨h1, h2, h3, h4, h5, h6, h7, h8, h9⟩ := h
  have e12 : pPutC s b p m 38 12 = s 38 12 := by simp [pPutC]
  have e14 : pPutC s b p m 38 14 = s 38 14 := by simp [pPutC]
  have e17 : pPutC s b p m 38 17 = m := by simp [pPutC]
  refine ⟨by rw [e12, hF 38 12 (by omega)]; exact h1, by rw [e14, hF 38 14 (by omega)]; exact h2, by rw [e17]; exact hn, ?_, ?_, ?_, ?_, ?_, ?_⟩
  · intro j j0 j1
    rw [e12] at j1
    rw [hF 45 j (by omega), h4 j j0 j1]
    simp [pPutC]
  · intro j j0 j1
    rw [e14] at j1
    rw [hF 46 j (by omega), h5 j j0 j1]
    simp [pPutC]
  · rw [hF 47 0 (by omega), h6]; simp [pPutC]
  · rw [hF 47 1 (by omega), h7]; simp [pPutC]
  · intro j j0 j1
    rw [e17] at j1
    rw [f0 j j0 j1]
    unfold pPutC
    rw [if_pos ⟨rfl, j0, j1⟩]
  · intro j j0 j1
    rw [hF 49 j (by omega), h9 j j0 j1]
    simp [pPutC]
theorem pKind_le (c : Int) : 0 ≤ pKind c ∧ pKind c ≤ 5 := by
  unfold pKind
  repeat' split
  all_goals omega
theorem BP_item {b : pB} {p q : Int} {s s' : gM} (hB : BP s) (h : pItem b p s = .ok (q, s')) : BP s' := by
  obtain ⟨g1, g2, g3⟩ := hB
  unfold pItem at h
  split at h
  · split at h
    · cases h
    · cases hx : pSort b (pKind (b p)) (p + 1) with
      | error e => rw [hx] at h; cases h
      | ok a =>
        rw [hx] at h
        cases h
        unfold BP
        simp [pPutS]
        omega
  · split at h
    · split at h
      · cases h
      · cases hx : pEater b (p + 1) with
        | error e => rw [hx] at h; cases h
        | ok a =>
          rw [hx] at h
          cases h
          unfold BP
          simp [pPutE]
          omega
    · split at h
      · cases hx : pJay b (p + 1) with
        | error e => rw [hx] at h; cases h
        | ok a =>
          rw [hx] at h
          cases h
          exact ⟨g1, g2, g3⟩
      · split at h
        · split at h
          · cases h
            have := pCnt_le b 8 (p + 1)
            unfold BP
            simp [pPutC]
            omega
          · cases h
        · split at h
          · cases hx : pChan b (p + 1) with
            | error e => rw [hx] at h; cases h
            | ok a =>
              rw [hx] at h
              cases h
              exact ⟨g1, g2, g3⟩
          · cases h

end
