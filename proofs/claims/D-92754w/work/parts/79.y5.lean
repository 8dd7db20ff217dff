/-! what rings have -/
section
variable {Γ : gC} {v : gM} {K : gH} {t : Nat} {Q : gQ}
/-- what a year by the calendar has: acorns, seedlings, blooms, pairs; a tree's acorns, gain; whether eaters starve -/
def yA1 (u : gM) : Int := yAc u (yMay u) 0
def yD1 (u : gM) : Int := ySd u (yMay u) 0 0
def yN1 (u : gM) : Int := yCnt (yB u (yMay u)) (u 38 33).toNat
def yO1 (u : gM) : Int := yN1 u * (u 38 33 - 1)
def yP1 (u : gM) : Int := yN1 u * (yN1 u - 1)
def yT1 (i : Int) (u : gM) : Int := if i < 0 then 0 else yGv u (yMay u) 0 i
def yG1 (i : Int) (u : gM) : Int := if i < 0 then 0 else if yA1 u = 0 then 0 else (yD1 u * yT1 i u).tdiv (yA1 u)
def yS1 (e : Int) (u : gM) : Int := if e < 0 then 0 else if ySv u (yMay u) 0 0 e = true then 1 else 0
def yTot (F : gM → Int) (u : gM) : Nat → Int
  | 0 => 0
  | n + 1 => yTot F u n + F (yIt u n)
def yMax (u : gM) : Nat → Int
  | 0 => 0
  | n + 1 => max (yMax u n) (yA1 (yIt u n))
def yTm (u : gM) (f : Int → Int) : Nat → Int → Int
  | 0 => f
  | n + 1 => fun k => if yB (yIt u n) (yMay (yIt u n)) k = true then w32 (yTm u f n k + 1) else yTm u f n k
def yLb (u : gM) (f : Int → Int) : Nat → Int → Int
  | 0 => f
  | n + 1 => fun k => if yB (yIt u n) (yMay (yIt u n)) k = true then yIt u n 38 31 + 1 else yLb u f n k
theorem yTot_le {F : gM → Int} {u : gM} {B : Int} (h : ∀ k, 0 ≤ F (yIt u k) ∧ F (yIt u k) ≤ B) : ∀ n : Nat, 0 ≤ yTot F u n ∧ yTot F u n ≤ B * n
  | 0 => by unfold yTot; omega
  | n + 1 => by
    have h1 := yTot_le h n
    have h2 := h n
    unfold yTot
    rw [show B * ((n + 1 : Nat) : Int) = B * n + B by rw [show ((n + 1 : Nat) : Int) = (n : Int) + 1 by omega, Int.mul_add, Int.mul_one]]
    omega
theorem yA1_le {u : gM} (h : yOK u) : 0 ≤ yA1 u ∧ yA1 u ≤ 1440 := yAc_le (yMay_le h) (yOK_tr h)
theorem yD1_le {u : gM} (h : yOK u) : 0 ≤ yD1 u ∧ yD1 u ≤ 1440 := ySd_le (yMay_le h) (yOK_tr h) h.2.2.2.2.1 h.2.2.2.2.2.1 h.2.2.2.2.2.2.1
theorem yN1_le {u : gM} (h : yOK u) : 0 ≤ yN1 u ∧ yN1 u ≤ u 38 33 := by
  have := yCnt_le (yB u (yMay u)) (u 38 33).toNat
  have := h.2.2.1
  unfold yN1
  omega
theorem mul_le_of {a b A B : Int} (h0 : 0 ≤ a) (h1 : a ≤ A) (g0 : 0 ≤ b) (g1 : b ≤ B) : 0 ≤ a * b ∧ a * b ≤ A * B := ⟨Int.mul_nonneg h0 g0, Int.mul_le_mul h1 g1 g0 (by omega)⟩
theorem yO1_le {u : gM} (h : yOK u) : 0 ≤ yO1 u ∧ yO1 u ≤ 552 := by
  have h1 := yN1_le h
  have h2 := h.2.2.1
  unfold yO1
  by_cases hz : u 38 33 = 0
  · rw [show yN1 u = 0 by omega]; omega
  · have := mul_le_of h1.1 (show yN1 u ≤ 24 by omega) (show 0 ≤ u 38 33 - 1 by omega) (show u 38 33 - 1 ≤ 23 by omega)
    omega
theorem yP1_le {u : gM} (h : yOK u) : 0 ≤ yP1 u ∧ yP1 u ≤ 552 := by
  have h1 := yN1_le h
  have h2 := h.2.2.1
  unfold yP1
  by_cases hz : yN1 u = 0
  · rw [hz]; omega
  · have := mul_le_of h1.1 (show yN1 u ≤ 24 by omega) (show 0 ≤ yN1 u - 1 by omega) (show yN1 u - 1 ≤ 23 by omega)
    omega
theorem yT1_le {u : gM} {i : Int} (h : yOK u) (hi : i < u 38 33) : 0 ≤ yT1 i u ∧ yT1 i u ≤ 60 := by
  unfold yT1
  split
  · omega
  · exact yGv_le (yMay_le h) (yOK_tr h) (by omega) hi
theorem yG1_le {u : gM} {i : Int} (h : yOK u) (hi : i < u 38 33) : 0 ≤ yG1 i u ∧ yG1 i u ≤ 86400 := by
  have h1 := yD1_le h
  have h2 := yT1_le h hi
  have h3 := yA1_le h
  have h4 := mul_le_of h1.1 h1.2 h2.1 h2.2
  unfold yG1
  split
  · omega
  · split
    · omega
    · rw [Int.tdiv_eq_ediv_of_nonneg h4.1]
      exact ⟨Int.ediv_nonneg h4.1 h3.1, by have := Int.ediv_le_self (yA1 u) h4.1; omega⟩
theorem yS1_le {u : gM} {e : Int} : 0 ≤ yS1 e u ∧ yS1 e u ≤ 1 := by
  unfold yS1
  repeat' split
  all_goals omega
theorem yMax_le {u : gM} (h : yOK u) : ∀ n, 0 ≤ yMax u n ∧ yMax u n ≤ 1440
  | 0 => by unfold yMax; omega
  | n + 1 => by
    have h1 := yMax_le h n
    have h2 := yA1_le (yOK_it h n)
    unfold yMax
    omega
theorem yTot_congr {F : gM → Int} {G : gM → Int} {u : gM} (h : ∀ k, F (yIt u k) = G (yIt u k)) : ∀ n : Nat, yTot F u n = yTot G u n
  | 0 => rfl
  | n + 1 => by unfold yTot; rw [yTot_congr h n, h n]
theorem yTot_O {u : gM} : ∀ n : Nat, yTot yO1 u n = yTot yN1 u n * (u 38 33 - 1)
  | 0 => by unfold yTot; omega
  | n + 1 => by
    unfold yTot
    rw [yTot_O n, Int.add_mul]
    congr 1
    unfold yO1
    rw [(yIt_o (u := u) (a := 38) (j := 33) (by omega) n).1]

end
