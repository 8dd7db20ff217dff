/-! halves, hope, plans, purely -/
section
variable {Γ : gC} {v : gM} {K : gH} {t : Nat} {Q : gQ}
/-- years with halves -/
def yItH (u : gM) (h : Int) : Nat → gM
  | 0 => u
  | k + 1 => yNx (yItH u h k) (yMay (yItH u h k)) h 0
theorem yOK_itH {u : gM} {h : Int} (hu : yOK u) : ∀ k, yOK (yItH u h k)
  | 0 => hu
  | k + 1 => yOK_nx (yMay_le (yOK_itH hu k)) (yOK_itH hu k)
theorem yItH_c {u : gM} {h : Int} : ∀ k, yItH u h k 38 31 = u 38 31 + k ∧ yItH u h k 38 33 = u 38 33 ∧ yItH u h k 38 22 = u 38 22
  | 0 => ⟨by simp [yItH], rfl, rfl⟩
  | k + 1 => by
    have g := yItH_c (u := u) (h := h) k
    unfold yItH
    rw [yNx_y, yNx_c (by omega), yNx_c (by omega)]
    exact ⟨by omega, g.2.1, g.2.2⟩
/-- one half blooms and the other doesn't -/
def yCr (u : gM) (h : Int) : Prop := ¬ ((∃ i, (0 ≤ i ∧ i < u 38 33) ∧ yB u (yMay u) i = true ∧ gHas h i = true) ↔ (∃ i, (0 ≤ i ∧ i < u 38 33) ∧ yB u (yMay u) i = true ∧ gHas h i = false))
def oStp (u : gM) (h n r : Int) : Prop := (r = -9 ∧ ∀ i, 1 ≤ i → i ≤ n → ¬ yCr (yItH u h (i - 1).toNat) h) ∨ ((1 ≤ r ∧ r ≤ n) ∧ yCr (yItH u h (r - 1).toNat) h ∧ ∀ i, 1 ≤ i → i < r → ¬ yCr (yItH u h (i - 1).toNat) h)
theorem oStp_u {u : gM} {h n r r' : Int} (g : oStp u h n r) (g' : oStp u h n r') : r = r' := by
  rcases g with ⟨e, g⟩ | ⟨hb, hp, hq⟩
  · rcases g' with ⟨e', g'⟩ | ⟨hb', hp', hq'⟩
    · omega
    · exact absurd hp' (g _ hb'.1 hb'.2)
  · rcases g' with ⟨e', g'⟩ | ⟨hb', hp', hq'⟩
    · exact absurd hp (g' _ hb.1 hb.2)
    · rcases Int.lt_trichotomy r r' with c | c | c
      · exact absurd hp (hq' _ hb.1 c)
      · exact c
      · exact absurd hp' (hq _ hb'.1 c)
/-- what one way of Mays has: the rest of its code, its weight, its seedlings, the wood -/
def hSt (u : gM) (c : Int) : Nat → Int × Int × Int × gM
  | 0 => (c, 1, 0, u)
  | n + 1 => ((hSt u c n).1 / 3, (hSt u c n).2.1 * (hSt u c n).2.2.2 55 ((hSt u c n).1 % 3), (hSt u c n).2.2.1 + ySd (hSt u c n).2.2.2 ((hSt u c n).1 % 3) 0 0, yNx (hSt u c n).2.2.2 ((hSt u c n).1 % 3) 0 0)
def hSum (u : gM) (n : Nat) : Nat → Int
  | 0 => 0
  | c + 1 => hSum u n c + (hSt u c n).2.1 * (hSt u c n).2.2.1
abbrev yCh (u : gM) : Prop := ∀ j, 0 ≤ j → j ≤ 2 → 0 ≤ u 55 j ∧ u 55 j ≤ 12
theorem hSt_le {u : gM} {c : Int} (hu : yOK u) (hc : yCh u) (h0 : 0 ≤ c) : ∀ n : Nat, 0 ≤ (hSt u c n).1 ∧ (hSt u c n).1 ≤ c ∧ (0 ≤ (hSt u c n).2.1 ∧ (hSt u c n).2.1 ≤ 12 ^ n) ∧ (0 ≤ (hSt u c n).2.2.1 ∧ (hSt u c n).2.2.1 ≤ 1440 * n) ∧ yOK (hSt u c n).2.2.2 ∧ (∀ j, (hSt u c n).2.2.2 55 j = u 55 j) ∧ (hSt u c n).2.2.2 38 31 = u 38 31 + n
  | 0 => by
    unfold hSt
    dsimp only
    refine ⟨h0, Int.le_refl _, ⟨by decide, by decide⟩, ⟨by decide, by omega⟩, hu, fun j => rfl, by omega⟩
  | n + 1 => by
    obtain ⟨g1, g2, g3, g4, g5, g6, g7⟩ := hSt_le hu hc h0 n
    have d0 : 0 ≤ (hSt u c n).1 % 3 ∧ (hSt u c n).1 % 3 ≤ 2 := by omega
    have cc := hc _ d0.1 d0.2
    rw [← g6] at cc
    have hd := ySd_le (h := 0) (pg := 0) d0 (yOK_tr g5) g5.2.2.2.2.1 g5.2.2.2.2.2.1 g5.2.2.2.2.2.2.1
    unfold hSt
    dsimp only
    refine ⟨by omega, by omega, ?_, ⟨by omega, by omega⟩, yOK_nx d0 g5, fun j => ?_, ?_⟩
    · have := mul_le_of g3.1 g3.2 cc.1 cc.2
      refine ⟨this.1, ?_⟩
      rw [Int.pow_succ]
      exact this.2
    · rw [yNx_o (by omega), g6]
    · rw [yNx_y, g7]
      omega
/-- pigs in the years of a set: acorns taken, seedlings, the wood -/
def pSt (u : gM) (c : Int) : Nat → Int × Int × gM
  | 0 => (0, 0, u)
  | n + 1 => ((pSt u c n).1 + (if gHas c n = true then yAc (pSt u c n).2.2 (yMay (pSt u c n).2.2) 0 else 0), (pSt u c n).2.1 + ySd (pSt u c n).2.2 (yMay (pSt u c n).2.2) 0 (if gHas c n = true then 1 else 0), yNx (pSt u c n).2.2 (yMay (pSt u c n).2.2) 0 (if gHas c n = true then 1 else 0))
theorem pSt_le {u : gM} {c : Int} (hu : yOK u) : ∀ n : Nat, (0 ≤ (pSt u c n).1 ∧ (pSt u c n).1 ≤ 1440 * n) ∧ (0 ≤ (pSt u c n).2.1 ∧ (pSt u c n).2.1 ≤ 1440 * n) ∧ yOK (pSt u c n).2.2 ∧ (pSt u c n).2.2 38 31 = u 38 31 + n
  | 0 => by
    unfold pSt
    dsimp only
    refine ⟨⟨by decide, by omega⟩, ⟨by decide, by omega⟩, hu, by omega⟩
  | n + 1 => by
    obtain ⟨g1, g2, g3, g4⟩ := pSt_le (c := c) hu n
    have hm := yMay_le g3
    have ha := yAc_le (h := 0) hm (yOK_tr g3)
    have hd := ySd_le (h := 0) (pg := if gHas c n = true then 1 else 0) hm (yOK_tr g3) g3.2.2.2.2.1 g3.2.2.2.2.2.1 g3.2.2.2.2.2.2.1
    unfold pSt
    dsimp only
    refine ⟨?_, ⟨by omega, by omega⟩, yOK_nx hm g3, ?_⟩
    · split <;> omega
    · rw [yNx_y, g4]
      omega
/-- the best set of pigs' years -/
def pBest (u : gM) (n : Nat) (q : Int) : Nat → Int × Int
  | 0 => (-9, 0)
  | c + 1 => if q ≤ (pSt u c n).2.1 ∧ ((pBest u n q c).1 = -9 ∨ (pBest u n q c).2 < (pSt u c n).1) then ((c : Int), (pSt u c n).1) else pBest u n q c
theorem pBest_le {u : gM} {n : Nat} {q : Int} : ∀ c : Nat, (pBest u n q c).1 = -9 ∨ (0 ≤ (pBest u n q c).1 ∧ (pBest u n q c).1 < c)
  | 0 => Or.inl rfl
  | c + 1 => by
    have g := pBest_le (u := u) (n := n) (q := q) c
    unfold pBest
    split
    · right
      show (0 : Int) ≤ c ∧ (c : Int) < _
      omega
    · omega

end
