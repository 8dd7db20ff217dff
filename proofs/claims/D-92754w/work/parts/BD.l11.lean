/-! The law, 11: what is read keeps its bounds -/
section LL
theorem bind_ok {α β : Type} {x : Except Int α} {f : α → Except Int β} {r : β} (h : (x >>= f) = .ok r) : ∃ a, x = .ok a ∧ f a = .ok r := by
  cases x with
  | error e => cases h
  | ok a => exact ⟨a, rfl, h⟩
/-- a sort's seven numbers -/
def sB (f : Int → Int) : Prop := (1 ≤ f 0 ∧ f 0 ≤ 5) ∧ (∀ w, 0 ≤ w → w ≤ 2 → 0 ≤ f (1 + w) ∧ f (1 + w) ≤ 9) ∧ (0 ≤ f 5 ∧ f 5 ≤ 60) ∧ (0 ≤ f 6 ∧ f 6 ≤ 99) ∧ (f 0 = 5 → 2 ≤ f 6 ∧ f 6 ≤ 9) ∧ (f 0 ≠ 1 → f 0 ≠ 3 → f 5 ≤ f 4 + 1) ∧ 0 ≤ f 4 ∧ f 4 ≤ 60
theorem sB_cg {f g : Int → Int} (h : ∀ k, 0 ≤ k → k ≤ 6 → g k = f k) (hf : sB f) : sB g := by
  unfold sB
  rw [h 0 (by omega) (by omega), h 4 (by omega) (by omega), h 5 (by omega) (by omega), h 6 (by omega) (by omega)]
  refine ⟨hf.1, fun w w0 w1 => ?_, hf.2.2⟩
  rw [h (1 + w) (by omega) (by omega)]
  exact hf.2.1 w w0 w1
theorem pMore_ok {b : pB} {kind p q x4 x5 x6 : Int} (h : pMore b kind p = .ok (q, x4, x5, x6)) : (0 ≤ x4 ∧ x4 ≤ 60) ∧ (0 ≤ x5 ∧ x5 ≤ 60) ∧ (0 ≤ x6 ∧ x6 ≤ 99) ∧ (kind = 5 → 2 ≤ x6 ∧ x6 ≤ 9) ∧ (kind ≠ 3 → x5 ≤ x4 + 1) := by
  unfold pMore at h
  obtain ⟨p1, h1, h⟩ := bind_ok h
  obtain ⟨⟨p2, y4⟩, h2, h⟩ := bind_ok h
  dsimp only at h
  obtain ⟨p3, h3, h⟩ := bind_ok h
  obtain ⟨⟨p4, y5⟩, h4, h⟩ := bind_ok h
  dsimp only at h
  have r2 := (pRd_ok h2).2.2
  have r4 := (pRd_ok h4).2.2
  by_cases k4 : kind = 4
  · rw [if_pos k4] at h
    obtain ⟨p5, h5, h⟩ := bind_ok h
    obtain ⟨⟨p6, y6⟩, h6, h⟩ := bind_ok h
    cases h
    have r6 := (pRd_ok h6).2.2
    rw [if_neg (by omega)] at r2 r4
    omega
  · rw [if_neg k4] at h
    by_cases k5 : kind = 5
    · rw [if_pos k5] at h
      obtain ⟨p5, h5, h⟩ := bind_ok h
      obtain ⟨⟨p6, y6⟩, h6, h⟩ := bind_ok h
      cases h
      have r6 := (pRd_ok h6).2.2
      rw [if_neg (by omega)] at r2 r4
      omega
    · rw [if_neg k5] at h
      cases h
      by_cases k3 : kind = 3
      · rw [if_pos k3] at r2 r4
        omega
      · rw [if_neg k3] at r2 r4
        omega
theorem pSort_ok {b : pB} {kind p q : Int} {f : Int → Int} (hk : 1 ≤ kind ∧ kind ≤ 5) (h : pSort b kind p = .ok (q, f)) : sB f := by
  unfold pSort at h
  obtain ⟨⟨p1, a0⟩, h1, h⟩ := bind_ok h
  dsimp only at h
  obtain ⟨⟨p2, a1⟩, h2, h⟩ := bind_ok h
  dsimp only at h
  obtain ⟨⟨p3, a2⟩, h3, h⟩ := bind_ok h
  dsimp only at h
  have r1 := (pRd_ok h1).2.2
  have r2 := (pRd_ok h2).2.2
  have r3 := (pRd_ok h3).2.2
  have fin : ∀ x4 x5 x6 : Int, ((0 ≤ x4 ∧ x4 ≤ 60) ∧ (0 ≤ x5 ∧ x5 ≤ 60) ∧ (0 ≤ x6 ∧ x6 ≤ 99) ∧ (kind = 5 → 2 ≤ x6 ∧ x6 ≤ 9) ∧ (kind ≠ 1 → kind ≠ 3 → x5 ≤ x4 + 1)) → sB (fun k => if k = 0 then kind else if k = 1 then a0 else if k = 2 then a1 else if k = 3 then a2 else if k = 4 then x4 else if k = 5 then x5 else x6) := by
    intro x4 x5 x6 hx
    refine ⟨hk, fun w w0 w1 => ?_, hx.2.1, hx.2.2.1, hx.2.2.2.1, hx.2.2.2.2, hx.1⟩
    rcases (by omega : w = 0 ∨ w = 1 ∨ w = 2) with rfl | rfl | rfl
    · exact r1
    · exact r2
    · exact r3
  by_cases k1 : kind = 1
  · rw [if_pos k1] at h
    cases h
    exact fin 0 0 0 (by omega)
  · rw [if_neg k1] at h
    obtain ⟨⟨p4, x4, x5, x6⟩, h4, h⟩ := bind_ok h
    cases h
    have := pMore_ok h4
    exact fin x4 x5 x6 ⟨this.1, this.2.1, this.2.2.1, this.2.2.2.1, fun _ => this.2.2.2.2⟩
theorem pEater_ok {b : pB} {p q x0 x1 x2 x3 : Int} (h : pEater b p = .ok (q, x0, x1, x2, x3)) : (0 ≤ x0 ∧ x0 ≤ 99) ∧ (1 ≤ x1 ∧ x1 ≤ 9) ∧ (0 ≤ x2 ∧ x2 ≤ 9) ∧ 0 ≤ x3 ∧ x3 ≤ 9 := by
  unfold pEater at h
  obtain ⟨⟨p1, y0⟩, h1, h⟩ := bind_ok h
  dsimp only at h
  obtain ⟨p2, h2, h⟩ := bind_ok h
  obtain ⟨⟨p3, y1⟩, h3, h⟩ := bind_ok h
  dsimp only at h
  obtain ⟨p4, h4, h⟩ := bind_ok h
  obtain ⟨⟨p5, y2⟩, h5, h⟩ := bind_ok h
  dsimp only at h
  obtain ⟨p6, h6, h⟩ := bind_ok h
  obtain ⟨⟨p7, y3⟩, h7, h⟩ := bind_ok h
  cases h
  exact ⟨(pRd_ok h1).2.2, (pRd_ok h3).2.2, (pRd_ok h5).2.2, (pRd_ok h7).2.2⟩
theorem pJay_ok {b : pB} {p q x0 x1 : Int} (h : pJay b p = .ok (q, x0, x1)) : (0 ≤ x0 ∧ x0 ≤ 99) ∧ 0 ≤ x1 ∧ x1 ≤ 12 := by
  unfold pJay at h
  obtain ⟨⟨p1, y0⟩, h1, h⟩ := bind_ok h
  dsimp only at h
  obtain ⟨p2, h2, h⟩ := bind_ok h
  obtain ⟨⟨p3, y1⟩, h3, h⟩ := bind_ok h
  cases h
  exact ⟨(pRd_ok h1).2.2, (pRd_ok h3).2.2⟩
theorem pChan_ok {b : pB} {p q x0 x1 x2 : Int} (h : pChan b p = .ok (q, x0, x1, x2)) : (0 ≤ x0 ∧ x0 ≤ 12) ∧ (0 ≤ x1 ∧ x1 ≤ 12) ∧ 0 ≤ x2 ∧ x2 ≤ 12 := by
  unfold pChan at h
  obtain ⟨⟨p1, y0⟩, h1, h⟩ := bind_ok h
  dsimp only at h
  obtain ⟨p2, h2, h⟩ := bind_ok h
  obtain ⟨⟨p3, y1⟩, h3, h⟩ := bind_ok h
  dsimp only at h
  obtain ⟨p4, h4, h⟩ := bind_ok h
  obtain ⟨⟨p5, y2⟩, h5, h⟩ := bind_ok h
  dsimp only at h
  split at h
  · cases h
    exact ⟨(pRd_ok h1).2.2, (pRd_ok h3).2.2, (pRd_ok h5).2.2⟩
  · cases h
theorem pCnt_b {b : pB} : ∀ (f : Nat) (p : Int), 0 ≤ pCnt b f p ∧ pCnt b f p ≤ f ∧ ∀ j, 0 ≤ j → j < pCnt b f p → 48 ≤ b (p + j) ∧ b (p + j) ≤ 50
  | 0, p => ⟨by unfold pCnt; omega, by unfold pCnt; omega, fun j j0 j1 => by unfold pCnt at j1; omega⟩
  | f + 1, p => by
    obtain ⟨i1, i2, i3⟩ := pCnt_b (b := b) f (p + 1)
    unfold pCnt
    by_cases c : 48 ≤ b p ∧ b p ≤ 50
    · rw [if_pos c]
      refine ⟨by omega, by omega, fun j j0 j1 => ?_⟩
      by_cases cj : j = 0
      · subst cj
        rw [Int.add_zero]
        exact c
      · have := i3 (j - 1) (by omega) (by omega)
        rw [show p + 1 + (j - 1) = p + j by omega] at this
        exact this
    · rw [if_neg c]
      exact ⟨by omega, by omega, fun j j0 j1 => by omega⟩
/-- the bounds of all that is read -/
def BQ (s : gM) : Prop := BP s ∧ (∀ i, 0 ≤ i → i < s 38 12 → sB (fun k => s 45 (7 * i + k))) ∧ (∀ e, 0 ≤ e → e < s 38 14 → (0 ≤ s 46 (4 * e) ∧ s 46 (4 * e) ≤ 99) ∧ (1 ≤ s 46 (4 * e + 1) ∧ s 46 (4 * e + 1) ≤ 9) ∧ (0 ≤ s 46 (4 * e + 2) ∧ s 46 (4 * e + 2) ≤ 9) ∧ 0 ≤ s 46 (4 * e + 3) ∧ s 46 (4 * e + 3) ≤ 9) ∧ (0 ≤ s 47 0 ∧ s 47 0 ≤ 99) ∧ (0 ≤ s 47 1 ∧ s 47 1 ≤ 12) ∧ (∀ j, 0 ≤ j → j < s 38 17 → 0 ≤ s 48 j ∧ s 48 j ≤ 2) ∧ ∀ j, 0 ≤ j → j ≤ 2 → 0 ≤ s 49 j ∧ s 49 j ≤ 12
theorem pKind_b {c : Int} (h : 0 < pKind c) : 1 ≤ pKind c ∧ pKind c ≤ 5 := by
  refine ⟨by omega, ?_⟩
  unfold pKind
  split
  · decide
  · split
    · decide
    · split
      · decide
      · split
        · decide
        · split <;> decide
theorem BQ_S {s : gM} {f : Int → Int} (hB : BQ s) (hP : BP (pPutS s f)) (hf : sB f) : BQ (pPutS s f) := by
  obtain ⟨⟨b1, b2, b3⟩, c2, c3, c4, c5, c6, c7⟩ := hB
  have e45 : ∀ j, 7 * s 38 12 ≤ j → j ≤ 7 * s 38 12 + 6 → pPutS s f 45 j = f (j - 7 * s 38 12) := fun j j0 j1 => if_pos ⟨rfl, j0, j1⟩
  have en : ∀ a j, ¬ (a = 45 ∧ 7 * s 38 12 ≤ j ∧ j ≤ 7 * s 38 12 + 6) → ¬ (a = 38 ∧ j = 12) → pPutS s f a j = s a j := fun a j h1 h2 => by unfold pPutS; rw [if_neg h1, if_neg h2]
  have e12 : pPutS s f 38 12 = s 38 12 + 1 := by unfold pPutS; rw [if_neg (by omega), if_pos ⟨rfl, rfl⟩]
  refine ⟨hP, fun i i0 i1 => ?_, fun e e0 e1 => ?_, ?_, ?_, fun j j0 j1 => ?_, fun j j0 j1 => ?_⟩
  · rw [e12] at i1
    by_cases c : i = s 38 12
    · refine sB_cg (fun k k0 k1 => ?_) hf
      show pPutS s f 45 (7 * i + k) = f k
      rw [e45 _ (by omega) (by omega), show 7 * i + k - 7 * s 38 12 = k by omega]
    · refine sB_cg (fun k k0 k1 => ?_) (c2 i i0 (by omega))
      exact en 45 _ (by omega) (by omega)
  · rw [en 38 14 (by omega) (by omega)] at e1
    rw [en 46 _ (by omega) (by omega), en 46 _ (by omega) (by omega), en 46 _ (by omega) (by omega), en 46 _ (by omega) (by omega)]
    exact c3 e e0 e1
  · rw [en 47 0 (by omega) (by omega)]; exact c4
  · rw [en 47 1 (by omega) (by omega)]; exact c5
  · rw [en 38 17 (by omega) (by omega)] at j1
    rw [en 48 j (by omega) (by omega)]
    exact c6 j j0 j1
  · rw [en 49 j (by omega) (by omega)]
    exact c7 j j0 j1
theorem BQ_E {s : gM} {x0 x1 x2 x3 : Int} (hB : BQ s) (hP : BP (pPutE s x0 x1 x2 x3)) (hx : (0 ≤ x0 ∧ x0 ≤ 99) ∧ (1 ≤ x1 ∧ x1 ≤ 9) ∧ (0 ≤ x2 ∧ x2 ≤ 9) ∧ 0 ≤ x3 ∧ x3 ≤ 9) : BQ (pPutE s x0 x1 x2 x3) := by
  obtain ⟨⟨b1, b2, b3⟩, c2, c3, c4, c5, c6, c7⟩ := hB
  have en : ∀ a j, ¬ (a = 46 ∧ 4 * s 38 14 ≤ j ∧ j ≤ 4 * s 38 14 + 3) → ¬ (a = 38 ∧ j = 14) → pPutE s x0 x1 x2 x3 a j = s a j := fun a j h1 h2 => by unfold pPutE; rw [if_neg h1, if_neg h2]
  have e14 : pPutE s x0 x1 x2 x3 38 14 = s 38 14 + 1 := by unfold pPutE; rw [if_neg (by omega), if_pos ⟨rfl, rfl⟩]
  have f0 : pPutE s x0 x1 x2 x3 46 (4 * s 38 14) = x0 := by unfold pPutE; rw [if_pos (by omega), if_pos rfl]
  have f1 : pPutE s x0 x1 x2 x3 46 (4 * s 38 14 + 1) = x1 := by unfold pPutE; rw [if_pos (by omega), if_neg (by omega), if_pos rfl]
  have f2 : pPutE s x0 x1 x2 x3 46 (4 * s 38 14 + 2) = x2 := by unfold pPutE; rw [if_pos (by omega), if_neg (by omega), if_neg (by omega), if_pos rfl]
  have f3 : pPutE s x0 x1 x2 x3 46 (4 * s 38 14 + 3) = x3 := by unfold pPutE; rw [if_pos (by omega), if_neg (by omega), if_neg (by omega), if_neg (by omega)]
  refine ⟨hP, fun i i0 i1 => ?_, fun e e0 e1 => ?_, ?_, ?_, fun j j0 j1 => ?_, fun j j0 j1 => ?_⟩
  · rw [en 38 12 (by omega) (by omega)] at i1
    exact sB_cg (fun k k0 k1 => en 45 _ (by omega) (by omega)) (c2 i i0 i1)
  · rw [e14] at e1
    by_cases c : e = s 38 14
    · rw [c, f0, f1, f2, f3]
      exact hx
    · rw [en 46 _ (by omega) (by omega), en 46 _ (by omega) (by omega), en 46 _ (by omega) (by omega), en 46 _ (by omega) (by omega)]
      exact c3 e e0 (by omega)
  · rw [en 47 0 (by omega) (by omega)]; exact c4
  · rw [en 47 1 (by omega) (by omega)]; exact c5
  · rw [en 38 17 (by omega) (by omega)] at j1
    rw [en 48 j (by omega) (by omega)]
    exact c6 j j0 j1
  · rw [en 49 j (by omega) (by omega)]
    exact c7 j j0 j1
theorem BQ_J {s : gM} {x0 x1 : Int} (hB : BQ s) (hP : BP (pPutJ s x0 x1)) (hx : (0 ≤ x0 ∧ x0 ≤ 99) ∧ 0 ≤ x1 ∧ x1 ≤ 12) : BQ (pPutJ s x0 x1) := by
  obtain ⟨⟨b1, b2, b3⟩, c2, c3, c4, c5, c6, c7⟩ := hB
  have en : ∀ a j, a ≠ 47 → pPutJ s x0 x1 a j = s a j := fun a j h1 => by unfold pPutJ; rw [gUp_ne2 (by omega), gUp_ne2 (by omega)]
  refine ⟨hP, fun i i0 i1 => ?_, fun e e0 e1 => ?_, ?_, ?_, fun j j0 j1 => ?_, fun j j0 j1 => ?_⟩
  · rw [en 38 12 (by omega)] at i1
    exact sB_cg (fun k k0 k1 => en 45 _ (by omega)) (c2 i i0 i1)
  · rw [en 38 14 (by omega)] at e1
    rw [en 46 _ (by omega), en 46 _ (by omega), en 46 _ (by omega), en 46 _ (by omega)]
    exact c3 e e0 e1
  · unfold pPutJ
    rw [gUp_ne2 (by omega), gUp_eq2 rfl rfl]
    exact hx.1
  · unfold pPutJ
    rw [gUp_eq2 rfl rfl]
    exact hx.2
  · rw [en 38 17 (by omega)] at j1
    rw [en 48 j (by omega)]
    exact c6 j j0 j1
  · rw [en 49 j (by omega)]
    exact c7 j j0 j1
theorem BQ_C {s : gM} {b : pB} {p m : Int} (hB : BQ s) (hP : BP (pPutC s b p m)) (hx : ∀ j, 0 ≤ j → j < m → 48 ≤ b (p + j) ∧ b (p + j) ≤ 50) : BQ (pPutC s b p m) := by
  obtain ⟨⟨b1, b2, b3⟩, c2, c3, c4, c5, c6, c7⟩ := hB
  have en : ∀ a j, ¬ (a = 48 ∧ 0 ≤ j ∧ j < m) → ¬ (a = 38 ∧ j = 17) → pPutC s b p m a j = s a j := fun a j h1 h2 => by unfold pPutC; rw [if_neg h1, if_neg h2]
  have e17 : pPutC s b p m 38 17 = m := by unfold pPutC; rw [if_neg (by omega), if_pos ⟨rfl, rfl⟩]
  refine ⟨hP, fun i i0 i1 => ?_, fun e e0 e1 => ?_, ?_, ?_, fun j j0 j1 => ?_, fun j j0 j1 => ?_⟩
  · rw [en 38 12 (by omega) (by omega)] at i1
    exact sB_cg (fun k k0 k1 => en 45 _ (by omega) (by omega)) (c2 i i0 i1)
  · rw [en 38 14 (by omega) (by omega)] at e1
    rw [en 46 _ (by omega) (by omega), en 46 _ (by omega) (by omega), en 46 _ (by omega) (by omega), en 46 _ (by omega) (by omega)]
    exact c3 e e0 e1
  · rw [en 47 0 (by omega) (by omega)]; exact c4
  · rw [en 47 1 (by omega) (by omega)]; exact c5
  · rw [e17] at j1
    have e48 : pPutC s b p m 48 j = b (p + j) - 48 := if_pos ⟨rfl, j0, j1⟩
    rw [e48]
    have := hx j j0 j1
    omega
  · rw [en 49 j (by omega) (by omega)]
    exact c7 j j0 j1
theorem BQ_M {s : gM} {x0 x1 x2 : Int} (hB : BQ s) (hP : BP (pPutM s x0 x1 x2)) (hx : (0 ≤ x0 ∧ x0 ≤ 12) ∧ (0 ≤ x1 ∧ x1 ≤ 12) ∧ 0 ≤ x2 ∧ x2 ≤ 12) : BQ (pPutM s x0 x1 x2) := by
  obtain ⟨⟨b1, b2, b3⟩, c2, c3, c4, c5, c6, c7⟩ := hB
  have en : ∀ a j, a ≠ 49 → pPutM s x0 x1 x2 a j = s a j := fun a j h1 => by unfold pPutM; rw [gUp_ne2 (by omega), gUp_ne2 (by omega), gUp_ne2 (by omega)]
  refine ⟨hP, fun i i0 i1 => ?_, fun e e0 e1 => ?_, ?_, ?_, fun j j0 j1 => ?_, fun j j0 j1 => ?_⟩
  · rw [en 38 12 (by omega)] at i1
    exact sB_cg (fun k k0 k1 => en 45 _ (by omega)) (c2 i i0 i1)
  · rw [en 38 14 (by omega)] at e1
    rw [en 46 _ (by omega), en 46 _ (by omega), en 46 _ (by omega), en 46 _ (by omega)]
    exact c3 e e0 e1
  · rw [en 47 0 (by omega)]; exact c4
  · rw [en 47 1 (by omega)]; exact c5
  · rw [en 38 17 (by omega)] at j1
    rw [en 48 j (by omega)]
    exact c6 j j0 j1
  · unfold pPutM
    rcases (by omega : j = 0 ∨ j = 1 ∨ j = 2) with rfl | rfl | rfl
    · rw [gUp_ne2 (by omega), gUp_ne2 (by omega), gUp_eq2 rfl rfl]; exact hx.1
    · rw [gUp_ne2 (by omega), gUp_eq2 rfl rfl]; exact hx.2.1
    · rw [gUp_eq2 rfl rfl]; exact hx.2.2
theorem BQ_item {b : pB} {p q : Int} {s s' : gM} (hB : BQ s) (h : pItem b p s = .ok (q, s')) : BQ s' := by
  have hP := BP_item hB.1 h
  unfold pItem at h
  split at h
  · rename_i hk
    split at h
    · cases h
    · obtain ⟨⟨q1, f⟩, h1, h⟩ := bind_ok h
      cases h
      exact BQ_S hB hP (pSort_ok (pKind_b hk) h1)
  · split at h
    · split at h
      · cases h
      · obtain ⟨⟨q1, x0, x1, x2, x3⟩, h1, h⟩ := bind_ok h
        cases h
        exact BQ_E hB hP (pEater_ok h1)
    · split at h
      · obtain ⟨⟨q1, x0, x1⟩, h1, h⟩ := bind_ok h
        cases h
        exact BQ_J hB hP (pJay_ok h1)
      · split at h
        · split at h
          · cases h
            exact BQ_C hB hP (pCnt_b 8 (p + 1)).2.2
          · cases h
        · split at h
          · obtain ⟨⟨q1, x0, x1, x2⟩, h1, h⟩ := bind_ok h
            cases h
            exact BQ_M hB hP (pChan_ok h1)
          · cases h
theorem pLoop_BQ {b : pB} {n : Int} : ∀ (f : Nat) (p : Int) (s s1 : gM), BQ s → pLoop b n f p s = .ok s1 → BQ s1
  | 0, _, _, _, _, h => by cases h
  | f + 1, p, s, s1, hB, h => by
    unfold pLoop at h
    split at h
    · split at h
      · exact pLoop_BQ f (p + 1) s s1 hB h
      · split at h
        · cases h
        · rename_i h1
          exact pLoop_BQ f _ _ s1 (BQ_item hB h1) h
    · cases h
      exact hB
theorem BQ_S0 : BQ pS0 := by
  refine ⟨BP_S0, fun i i0 i1 => ?_, fun e e0 e1 => ?_, by decide, by decide, fun j j0 j1 => ?_, fun j j0 j1 => ?_⟩
  · have : pS0 38 12 = 0 := by decide
    omega
  · have : pS0 38 14 = 0 := by decide
    omega
  · have : pS0 48 j = 1 := by
      unfold pS0
      rw [if_neg (by omega), if_pos rfl]
    omega
  · have : pS0 49 j = 4 := by
      unfold pS0
      rw [if_neg (by omega), if_neg (by omega), if_pos rfl]
    omega
theorem pText_BQ {b : pB} {n : Int} {s : gM} (h : pText b n = .ok s) : BQ s := pLoop_BQ _ _ _ _ BQ_S0 h
end LL
