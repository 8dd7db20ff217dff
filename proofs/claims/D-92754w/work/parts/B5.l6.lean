/-! The law, 6: the operations on rows and texts -/
section LG
variable {Γ : gC} {v v1 v2 : gM} {K K1 : gH} {h h1 : gH} {t : Nat}
theorem gFill_no {a lo hi x b k : Int} (h : ¬ (b = a ∧ lo ≤ k ∧ k < hi)) : gFill v a lo hi x b k = v b k := if_neg h
theorem gFill_in {a lo hi x b k : Int} (h : b = a ∧ lo ≤ k ∧ k < hi) : gFill v a lo hi x b k = x := if_pos h
theorem gCopy_no {a lo n b k : Int} {f : Int → Int} (h : ¬ (b = a ∧ lo ≤ k ∧ k < lo + n)) : gCopy v a lo n f b k = v b k := if_neg h
theorem gCopy_in {a lo n b k : Int} {f : Int → Int} (h : b = a ∧ lo ≤ k ∧ k < lo + n) : gCopy v a lo n f b k = f (k - lo) := if_pos h
theorem lB_row (H : lB v h) (hT : gTop h t) (hh : ∀ a, a < (t : Int) → h1 a = h a) (h66 : 66 ≤ t) (e : ∀ a k, a < (t : Int) → ((a = 0 ∧ (k = 7 ∨ k = 8 ∨ k = 10 ∨ k = 11 ∨ k = 12 ∨ k = 32 ∨ k = 35 ∨ k = 36)) ∨ a = 3 ∨ (4 ≤ a ∧ a ≤ 5) ∨ (7 ≤ a ∧ a ≤ 9) ∨ a = 16 ∨ (a = 17 ∧ k = 2) ∨ a = 18 ∨ a = 19 ∨ a = 37 ∨ (a = 38 ∧ (k = 20 ∨ k = 22 ∨ k = 26 ∨ k = 27 ∨ k = 28 ∨ k = 31 ∨ k = 33)) ∨ a = 43 ∨ a = 44 ∨ (50 ≤ a ∧ a ≤ 60) ∨ (66 ≤ a ∧ (h a).1 ≠ 10)) → v1 a k = v a k) (hR : lR v1 h1) : lB v1 h1 := by
  obtain ⟨hW, hR0, hX, hTr⟩ := H
  obtain ⟨⟨w1, w2, w3, w4⟩, wS, ⟨w5, w6⟩, wT, wD⟩ := id hW.1
  have b7 := lLt hT (a := v 0 7) (by rw [w2]; decide)
  have b8 := lLt hT (a := v 0 8) (by rw [w6]; decide)
  have bS : ∀ s, 0 ≤ s → s < (h (v 0 7)).2 → v (v 0 7) s < (t : Int) := fun s s0 s1 => (lLt hT (by have := (wS s s0 s1).2.1; omega)).2
  have kT : ∀ s, 0 ≤ s → s < (h (v 0 7)).2 → (h (v (v (v 0 7) s) 0)).1 = 11 := fun s s0 s1 => by rw [(wS s s0 s1).2.2.2]
  have bT : ∀ s, 0 ≤ s → s < (h (v 0 7)).2 → v (v (v 0 7) s) 0 < (t : Int) := fun s s0 s1 => (lLt hT (by rw [kT s s0 s1]; decide)).2
  have b16 : ∀ i, 0 ≤ i → i < v 0 32 → v 16 i < (t : Int) := fun i i0 i1 => (lLt hT (by rw [(wT i i0 i1).2]; decide)).2
  refine ⟨lW_fr hW hT hh (fun k hk => e 0 k (by omega) (by omega)) (fun a k hk => e a k (by omega) (by omega)) (fun k hk => e 38 k (by omega) (by omega)) (fun s s0 s1 => e _ s b7.2 (by omega)) (fun s k s0 s1 => e _ k (bS s s0 s1) (by have := wS s s0 s1; omega)) (fun s k s0 s1 => e _ k (bT s s0 s1) (by have := wS s s0 s1; have := kT s s0 s1; omega)) (fun k => e _ k b8.2 (by omega)) (fun i i0 i1 => e _ 0 (b16 i i0 i1) (by have := wT i i0 i1; omega)), hR,
    lX_fr hX hT hh (fun r r0 r1 => ⟨e 3 r (by omega) (by omega), e 43 r (by omega) (by omega)⟩) (fun k => e 44 k (by omega) (by omega)) (fun r i r0 r1 h6 => ?_) (e 0 7 (by omega) (by omega)) (e 0 8 (by omega) (by omega)) (hh _ b7.2) (fun s s0 s1 => ⟨e _ s b7.2 (by omega), e _ 0 (bS s s0 s1) (by have := wS s s0 s1; omega)⟩),
    lT_fr hTr (e 0 32 (by omega) (by omega)) (fun i i0 i1 => ⟨e 16 i (by omega) (by omega), e 59 i (by omega) (by omega), e 60 i (by omega) (by omega), e _ 1 (b16 i i0 i1) (by have := wT i i0 i1; omega), e _ 2 (b16 i i0 i1) (by have := wT i i0 i1; omega)⟩)⟩
  rcases hX.1 r r0 r1 with z | z
  · omega
  · have q : (h (v 3 r)).1 = 11 := by rw [z.1.2.1]
    exact e _ i (lLt hT (by rw [q]; decide)).2 (by omega)
theorem lB_txt {c : Int} (H : lB v h) (hT : gTop h t) (hh : ∀ a, a < (t : Int) → h1 a = h a) (h66 : 66 ≤ t) (hc : (t : Int) ≤ c ∨ ((h c).1 = 11 ∧ c ≠ v 0 8 ∧ ∀ s, 0 ≤ s → s < (h (v 0 7)).2 → v (v (v 0 7) s) 0 ≠ c)) (e : ∀ a k, a < (t : Int) → ((a = 0 ∧ (k = 7 ∨ k = 8 ∨ k = 10 ∨ k = 11 ∨ k = 12 ∨ k = 32 ∨ k = 35 ∨ k = 36)) ∨ a = 2 ∨ (4 ≤ a ∧ a ≤ 5) ∨ (7 ≤ a ∧ a ≤ 9) ∨ a = 16 ∨ (a = 17 ∧ k = 2) ∨ a = 18 ∨ a = 19 ∨ a = 37 ∨ (a = 38 ∧ (k = 20 ∨ k = 22 ∨ k = 26 ∨ k = 27 ∨ k = 28 ∨ k = 31 ∨ k = 33)) ∨ a = 40 ∨ a = 41 ∨ (50 ≤ a ∧ a ≤ 60) ∨ (66 ≤ a ∧ a ≠ c)) → v1 a k = v a k) (hX1 : lX v1 h1) : lB v1 h1 := by
  obtain ⟨hW, hR0, hX, hTr⟩ := H
  obtain ⟨⟨w1, w2, w3, w4⟩, wS, ⟨w5, w6⟩, wT, wD⟩ := id hW.1
  have b7 := lLt hT (a := v 0 7) (by rw [w2]; decide)
  have b8 := lLt hT (a := v 0 8) (by rw [w6]; decide)
  have bS : ∀ s, 0 ≤ s → s < (h (v 0 7)).2 → v (v 0 7) s < (t : Int) := fun s s0 s1 => (lLt hT (by have := (wS s s0 s1).2.1; omega)).2
  have kT : ∀ s, 0 ≤ s → s < (h (v 0 7)).2 → (h (v (v (v 0 7) s) 0)).1 = 11 := fun s s0 s1 => by rw [(wS s s0 s1).2.2.2]
  have bT : ∀ s, 0 ≤ s → s < (h (v 0 7)).2 → v (v (v 0 7) s) 0 < (t : Int) := fun s s0 s1 => (lLt hT (by rw [kT s s0 s1]; decide)).2
  have b16 : ∀ i, 0 ≤ i → i < v 0 32 → v 16 i < (t : Int) := fun i i0 i1 => (lLt hT (by rw [(wT i i0 i1).2]; decide)).2
  have nc : ∀ a, a < (t : Int) → (h a).1 ≠ 11 → a ≠ c := fun a ha hk hac => by
    subst hac
    rcases hc with z | z
    · omega
    · exact hk z.1
  have nT : ∀ s, 0 ≤ s → s < (h (v 0 7)).2 → v (v (v 0 7) s) 0 ≠ c := fun s s0 s1 hac => by
    rcases hc with z | z
    · have := bT s s0 s1
      omega
    · exact z.2.2 s s0 s1 hac
  have n8 : v 0 8 ≠ c := fun hac => by
    rcases hc with z | z
    · omega
    · exact z.2.1 hac.symm
  have n7 := nc _ b7.2 (by omega)
  have nS : ∀ s, 0 ≤ s → s < (h (v 0 7)).2 → v (v 0 7) s ≠ c := fun s s0 s1 => nc _ (bS s s0 s1) (by have := (wS s s0 s1).2.1; omega)
  have n16 : ∀ i, 0 ≤ i → i < v 0 32 → v 16 i ≠ c := fun i i0 i1 => nc _ (b16 i i0 i1) (by have := (wT i i0 i1).2; omega)
  refine ⟨lW_fr hW hT hh (fun k hk => e 0 k (by omega) (by omega)) (fun a k hk => e a k (by omega) (by omega)) (fun k hk => e 38 k (by omega) (by omega)) (fun s s0 s1 => e _ s b7.2 (by omega)) (fun s k s0 s1 => e _ k (bS s s0 s1) (by have := wS s s0 s1; have := nS s s0 s1; omega)) (fun s k s0 s1 => e _ k (bT s s0 s1) (by have := wS s s0 s1; have := nT s s0 s1; omega)) (fun k => e _ k b8.2 (by omega)) (fun i i0 i1 => e _ 0 (b16 i i0 i1) (by have := wT i i0 i1; have := n16 i i0 i1; omega)),
    lR_fr hR0 hT hh (fun r r0 r1 => ⟨e 2 r (by omega) (by omega), e 40 r (by omega) (by omega)⟩) (fun k => e 41 k (by omega) (by omega)) (fun r i r0 r1 h6 => ?_), hX1,
    lT_fr hTr (e 0 32 (by omega) (by omega)) (fun i i0 i1 => ⟨e 16 i (by omega) (by omega), e 59 i (by omega) (by omega), e 60 i (by omega) (by omega), e _ 1 (b16 i i0 i1) (by have := wT i i0 i1; have := n16 i i0 i1; omega), e _ 2 (b16 i i0 i1) (by have := wT i i0 i1; have := n16 i i0 i1; omega)⟩)⟩
  rcases hR0.1 r r0 r1 with z | z
  · omega
  · have q : (h (v 2 r)).1 = 10 := by rw [z.1.2.1]
    have q2 := (lLt hT (by rw [q]; decide)).2
    have q3 := nc _ q2 (by omega)
    exact e _ i q2 (by omega)
theorem lR_put {r c m : Int} (H : lR v h) (hT : gTop h t) (hh : ∀ a, a < (t : Int) → h1 a = h a) (hr : 0 ≤ r ∧ r ≤ 5) (e0 : ∀ q, 0 ≤ q → q ≤ 5 → q ≠ r → v1 2 q = v 2 q ∧ v1 40 q = v 40 q) (e1 : ∀ k, ¬ (80 * r ≤ k ∧ k < 80 * r + 80) → v1 41 k = v 41 k) (e2 : ∀ q i, 0 ≤ q → q ≤ 5 → q ≠ r → 66 ≤ v 2 q → v 2 q < (t : Int) → v1 (v 2 q) i = v (v 2 q) i)
    (hw : v1 2 r = c) (hm : v1 40 r = m) (hc : (c = -1 ∧ m = -1) ∨ ((66 ≤ c ∧ h1 c = (10, m) ∧ 0 ≤ m ∧ m ≤ 80) ∧ ∀ i, 0 ≤ i → i < m → v1 c i = v1 41 (80 * r + i))) (hd : c ≠ -1 → ∀ q, 0 ≤ q → q ≤ 5 → q ≠ r → c ≠ v 2 q) : lR v1 h1 := by
  subst hw hm
  refine ⟨fun q q0 q1 => ?_, fun q s q0 q1 s0 s1 hqs hn => ?_⟩
  · by_cases hq : q = r
    · subst hq
      exact hc
    · rw [(e0 q q0 q1 hq).1, (e0 q q0 q1 hq).2]
      rcases H.1 q q0 q1 with z | ⟨⟨z1, z2, z3⟩, z4⟩
      · exact Or.inl z
      · have ht := (lLk hT z2 (by decide)).2
        refine Or.inr ⟨⟨by rw [(e0 q q0 q1 hq).1]; exact z1, ?_, z3⟩, fun i i0 i1 => ?_⟩
        · rw [(e0 q q0 q1 hq).1, hh _ ht]
          exact z2
        · rw [e1 _ (by omega), e2 q i q0 q1 hq z1 ht]
          exact z4 i i0 i1
  · by_cases hq : q = r
    · subst hq
      rw [(e0 s s0 s1 (by omega)).1]
      exact hd hn s s0 s1 (by omega)
    · rw [(e0 q q0 q1 hq).1] at hn ⊢
      by_cases hs : s = r
      · subst hs
        intro hz
        exact hd (by rw [← hz]; exact hn) q q0 q1 hq hz.symm
      · rw [(e0 s s0 s1 hs).1]
        exact H.2 q s q0 q1 s0 s1 hqs hn
theorem lX_put {r c m : Int} (H : lX v h) (hT : gTop h t) (hh : ∀ a, a < (t : Int) → h1 a = h a) (hr : 0 ≤ r ∧ r ≤ 3) (e0 : ∀ q, 0 ≤ q → q ≤ 3 → q ≠ r → v1 3 q = v 3 q ∧ v1 43 q = v 43 q) (e1 : ∀ k, ¬ (80 * r ≤ k ∧ k < 80 * r + 80) → v1 44 k = v 44 k) (e2 : ∀ q i, 0 ≤ q → q ≤ 3 → q ≠ r → 66 ≤ v 3 q → v 3 q < (t : Int) → v1 (v 3 q) i = v (v 3 q) i)
    (e3 : v1 0 7 = v 0 7) (e4 : v1 0 8 = v 0 8) (e5 : h1 (v 0 7) = h (v 0 7)) (e6 : ∀ s, 0 ≤ s → s < (h (v 0 7)).2 → v1 (v 0 7) s = v (v 0 7) s ∧ v1 (v (v 0 7) s) 0 = v (v (v 0 7) s) 0)
    (hw : v1 3 r = c) (hm : v1 43 r = m) (hc : (66 ≤ c ∧ h1 c = (11, m) ∧ 0 ≤ m ∧ m ≤ 80) ∧ (∀ i, 0 ≤ i → i < m → v1 c i = v1 44 (80 * r + i)) ∧ c ≠ v 0 8 ∧ ∀ s, 0 ≤ s → s < (h (v 0 7)).2 → v (v (v 0 7) s) 0 ≠ c) (hd : ∀ q, 0 ≤ q → q ≤ 3 → q ≠ r → c ≠ v 3 q) : lX v1 h1 := by
  subst hw hm
  refine ⟨fun q q0 q1 => ?_, fun q s q0 q1 s0 s1 hqs hn => ?_⟩
  · rw [e3, e4, e5]
    by_cases hq : q = r
    · subst hq
      refine Or.inr ⟨hc.1, hc.2.1, hc.2.2.1, fun s s0 s1 => ?_⟩
      rw [(e6 s s0 s1).1, (e6 s s0 s1).2]
      exact hc.2.2.2 s s0 s1
    · rw [(e0 q q0 q1 hq).1, (e0 q q0 q1 hq).2]
      rcases H.1 q q0 q1 with z | ⟨⟨z1, z2, z3⟩, z4, z5, z6⟩
      · exact Or.inl z
      · have ht := (lLk hT z2 (by decide)).2
        refine Or.inr ⟨⟨z1, ?_, z3⟩, fun i i0 i1 => ?_, z5, fun s s0 s1 => ?_⟩
        · rw [hh _ ht]
          exact z2
        · rw [e1 _ (by omega), e2 q i q0 q1 hq z1 ht]
          exact z4 i i0 i1
        · rw [(e6 s s0 s1).1, (e6 s s0 s1).2]
          exact z6 s s0 s1
  · by_cases hq : q = r
    · subst hq
      rw [(e0 s s0 s1 (by omega)).1]
      exact hd s s0 s1 (by omega)
    · rw [(e0 q q0 q1 hq).1] at hn ⊢
      by_cases hs : s = r
      · subst hs
        intro hz
        exact hd q q0 q1 hq hz.symm
      · rw [(e0 s s0 s1 hs).1]
        exact H.2 q s q0 q1 s0 s1 hqs hn
theorem lF_ask (H : lF v) (e : ∀ a k, ((a = 0 ∧ (k = 0 ∨ k = 3 ∨ k = 4)) ∨ a = 1 ∨ (a = 38 ∧ (k = 0 ∨ k = 3 ∨ k = 4)) ∨ a = 39) → v1 a k = v a k) (h2 : v1 0 2 = v1 38 2) : lF v1 := by
  obtain ⟨f0, f1, f2, f3, f4⟩ := H
  refine ⟨?_, fun f h0 h1 => ?_, h2, ?_, ?_⟩
  · rw [e 0 0 (by omega), e 38 0 (by omega)]; exact f0
  · rw [e 1 f (by omega), e 39 f (by omega)]; exact f1 f h0 h1
  · rw [e 0 3 (by omega), e 38 3 (by omega)]; exact f3
  · rw [e 0 4 (by omega), e 38 4 (by omega)]; exact f4
end LG
