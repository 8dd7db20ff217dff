/-! The law, 4: what both tell of a wood is the same -/
section LD
variable {v v1 : gM} {h : gH}
theorem yCnt_cg {p q : Int → Bool} : ∀ n : Nat, (∀ i, 0 ≤ i → i < (n : Int) → p i = q i) → yCnt p n = yCnt q n
  | 0, _ => rfl
  | n + 1, hc => by
    show yCnt p n + (if p n = true then 1 else 0) = yCnt q n + (if q n = true then 1 else 0)
    rw [yCnt_cg n (fun i i0 i1 => hc i i0 (by omega)), hc n (by omega) (by omega)]
theorem gSum_cg {f g : Int → Int} : ∀ n : Nat, (∀ i, 0 ≤ i → i < (n : Int) → f i = g i) → gSum f n = gSum g n
  | 0, _ => rfl
  | n + 1, hc => by
    show w64 (gSum f n + f n) = w64 (gSum g n + g n)
    rw [gSum_cg n (fun i i0 i1 => hc i i0 (by omega)), hc n (by omega) (by omega)]
theorem pLay_cg {f g : Int → Int} : ∀ n : Nat, (∀ i, 0 ≤ i → i < (n : Int) → f i = g i) → pLay f n = pLay g n
  | 0, _ => rfl
  | n + 1, hc => by
    show (pLay f n && decide (0 ≤ f n ∧ f n ≤ 1)) = (pLay g n && decide (0 ≤ g n ∧ g n ≤ 1))
    rw [pLay_cg n (fun i i0 i1 => hc i i0 (by omega)), hc n (by omega) (by omega)]
theorem pAgr_cg {f g : Int → Int} {k : Int} (hk : 0 ≤ k) : ∀ n : Nat, (∀ i, 0 ≤ i → i < k + (n : Int) → f i = g i) → pAgr f k n = pAgr g k n
  | 0, _ => rfl
  | n + 1, hc => by
    show (pAgr f k n && decide (f (k + (n : Int)) = f (n : Int))) = (pAgr g k n && decide (g (k + (n : Int)) = g (n : Int)))
    rw [pAgr_cg hk n (fun i i0 i1 => hc i i0 (by omega)), hc (k + n) (by omega) (by omega), hc n (by omega) (by omega)]
theorem pPer_cg {f g : Int → Int} {n : Int} (hc : ∀ i, 0 ≤ i → i < n → f i = g i) : ∀ (m : Nat) (k : Int), 0 ≤ k → k ≤ n → k + (m : Int) ≤ n + 1 → pPer f n m k = pPer g n m k
  | 0, _, _, _, _ => rfl
  | m + 1, k, h0, h1, h2 => by
    show (if pAgr f k (n - k).toNat = true then k else pPer f n m (k + 1)) = (if pAgr g k (n - k).toNat = true then k else pPer g n m (k + 1))
    rw [pAgr_cg h0 (n - k).toNat (fun i i0 i1 => hc i i0 (by omega))]
    by_cases hm : m = 0
    · subst hm
      rfl
    · rw [pPer_cg hc m (k + 1) (by omega) (by omega) (by omega)]
theorem gFt_cg {f g : Int → Int} {a b c : Int} : ∀ n : Nat, (∀ i, 0 ≤ i → i < (n : Int) → f i = g i) → gFt f a b c n = gFt g a b c n
  | 0, _ => rfl
  | n + 1, hc => by
    unfold gFt
    rw [gFt_cg n (fun i i0 i1 => hc i i0 (by omega)), hc n (by omega) (by omega)]
theorem pPl_cg {f g : Int → Int} {m : Int} : ∀ n : Nat, (∀ i, 0 ≤ i → i < 2 * (n : Int) → f i = g i) → pPl m f n = pPl m g n
  | 0, _ => rfl
  | n + 1, hc => by
    unfold pPl
    rw [pPl_cg n (fun i i0 i1 => hc i i0 (by omega)), hc (2 * (n : Int)) (by omega) (by omega), hc (2 * (n : Int) + 1) (by omega) (by omega)]
theorem lNow (H : lB v h) (e : lAm v v1) {q : Int} (hq : 0 ≤ q ∧ q ≤ 8) : sNow v1 q = aNow v (h (v 0 8)).2 q := by
  obtain ⟨⟨h20, h22, h26, h27, h28, h31, h33⟩, h50, hE, h54, h55, hTr⟩ := H.1.2.2.2.1
  have hb := (lB_ok H).2.2.2.2.1.1
  unfold sNow aNow sMouse
  rw [e 38 31 (by omega) (by omega), e 38 22 (by omega) (by omega), e 38 26 (by omega) (by omega), e 38 27 (by omega) (by omega), e 38 28 (by omega) (by omega), e 56 0 (by omega) (by omega), e 56 1 (by omega) (by omega), e 55 _ (by omega) (by omega), h31, h22, h26, h27, h28]
  by_cases q0 : q = 0
  · rw [if_pos q0, if_pos q0]
  rw [if_neg q0, if_neg q0]
  by_cases q1 : q = 1
  · rw [if_pos q1, if_pos (show q ≤ 2 by omega)]
    subst q1
    by_cases c : 0 < v 0 12
    · rw [if_pos c, if_pos (show (1 : Int) - 1 < v 0 12 by omega)]
      exact (hE 0 (by omega) c).2.2.2
    · rw [if_neg c, if_neg (show ¬ (1 : Int) - 1 < v 0 12 by omega)]
  rw [if_neg q1]
  by_cases q2 : q = 2
  · rw [if_pos q2, if_pos (show q ≤ 2 by omega)]
    subst q2
    by_cases c : 1 < v 0 12
    · rw [if_pos c, if_pos (show (2 : Int) - 1 < v 0 12 by omega)]
      exact (hE 1 (by omega) c).2.2.2
    · rw [if_neg c, if_neg (show ¬ (2 : Int) - 1 < v 0 12 by omega)]
  rw [if_neg q2, if_neg (show ¬ q ≤ 2 by omega)]
  by_cases q3 : q = 3
  · rw [if_pos q3, if_pos q3]
  rw [if_neg q3, if_neg q3]
  by_cases q4 : q = 4
  · rw [if_pos q4, if_pos q4]
  rw [if_neg q4, if_neg q4]
  by_cases q5 : q = 5
  · rw [if_pos q5, if_pos q5]
  rw [if_neg q5, if_neg q5]
  exact h55 _ (by omega) (by omega)
theorem lTold (H : lB v h) (e : lAm v v1) {i q : Int} (hi : 0 ≤ i ∧ i < v 0 32) : sTree v1 i q = aTold v i q := by
  obtain ⟨⟨h20, h22, h26, h27, h28, h31, h33⟩, h50, hE, h54, h55, hTr⟩ := H.1.2.2.2.1
  obtain ⟨t1, t2⟩ := hTr i hi.1 hi.2
  obtain ⟨t3, t4⟩ := H.2.2.2 i hi.1 hi.2
  unfold sTree aTold
  rw [e 57 i (by omega) (by omega), e 58 i (by omega) (by omega), e 59 i (by omega) (by omega), e 60 i (by omega) (by omega), t1, t2, ← t3, ← t4]
theorem lSq (H : lB v h) (e : lAm v v1) {s q : Int} (hs : 0 ≤ s ∧ s < (h (v 0 7)).2) (hq : 0 ≤ q ∧ q ≤ 6) : v1 50 (7 * s + q) = aS v h (v (v 0 7) s) q := by
  obtain ⟨⟨h20, h22, h26, h27, h28, h31, h33⟩, h50, hE, h54, h55, hTr⟩ := H.1.2.2.2.1
  rw [e 50 _ (by omega) (by omega), h50 _ (by omega) (by omega), show (7 * s + q) / 7 = s by omega, show (7 * s + q) % 7 = q by omega]
theorem lS0 (H : lB v h) (e : lAm v v1) {s : Int} (hs : 0 ≤ s ∧ s < (h (v 0 7)).2) : v1 50 (7 * s) = aKd (h (v (v 0 7) s)).1 := by
  have := lSq H e (q := 0) hs (by omega)
  rw [show 7 * s + 0 = 7 * s by omega] at this
  rw [this]
  rfl
theorem lSw (H : lB v h) (e : lAm v v1) {s w : Int} (hs : 0 ≤ s ∧ s < (h (v 0 7)).2) (hw : 0 ≤ w ∧ w ≤ 2) : v1 50 (7 * s + 1 + w) = v (v (v (v 0 7) s) 0) w := by
  have := lSq H e (q := 1 + w) hs (by omega)
  rw [show 7 * s + (1 + w) = 7 * s + 1 + w by omega] at this
  rw [this]
  unfold aS
  rw [if_neg (by omega), if_pos (by omega), show 1 + w - 1 = w by omega]
theorem lSo (H : lB v h) {s : Int} (hs : 0 ≤ s ∧ s < (h (v 0 7)).2) : ((1 ≤ v 50 (7 * s) ∧ v 50 (7 * s) ≤ 5) ∧ (∀ w, 0 ≤ w → w ≤ 2 → 0 ≤ v 50 (7 * s + 1 + w) ∧ v 50 (7 * s + 1 + w) ≤ 9) ∧ (0 ≤ v 50 (7 * s + 5) ∧ v 50 (7 * s + 5) ≤ 60) ∧ (0 ≤ v 50 (7 * s + 6) ∧ v 50 (7 * s + 6) ≤ 99) ∧ (v 50 (7 * s) = 5 → 2 ≤ v 50 (7 * s + 6) ∧ v 50 (7 * s + 6) ≤ 9) ∧ (v 50 (7 * s) ≠ 1 → v 50 (7 * s) ≠ 3 → v 50 (7 * s + 5) ≤ v 50 (7 * s + 4) + 1) ∧ 0 ≤ v 50 (7 * s + 4) ∧ v 50 (7 * s + 4) ≤ 60) :=
  (lB_ok H).2.1 s hs.1 (by have := H.1.2.2.2.1.1.1; omega)
/-- a mark, told by the sort's kind -/
theorem lMk (H : lB v h) (e : lAm v v1) {s a : Int} (hs : 0 ≤ s ∧ s < (h (v 0 7)).2) (ha : 1 ≤ a ∧ a ≤ 5) (hk : aHas (h (v (v 0 7) s)).1 a) : sMarkOf v1 s a = aMk v (v (v 0 7) s) a := by
  have e1 := lSw H e hs (w := 0) (by omega)
  have e2 := lSw H e hs (w := 1) (by omega)
  have e3 := lSw H e hs (w := 2) (by omega)
  have e4 := lSq H e hs (q := 4) (by omega)
  have e5 := lSq H e hs (q := 5) (by omega)
  have e6 := lSq H e hs (q := 6) (by omega)
  obtain ⟨b0, bw, b5, b6, b7, b8, b9⟩ := lSo H hs
  have n1 := e 50 (7 * s + 1 + 0) (by omega) (by omega)
  have n2 := e 50 (7 * s + 1 + 1) (by omega) (by omega)
  have n3 := e 50 (7 * s + 1 + 2) (by omega) (by omega)
  have n4 := e 50 (7 * s + 4) (by omega) (by omega)
  have n5 := e 50 (7 * s + 5) (by omega) (by omega)
  have w0 := bw 0 (by omega) (by omega)
  have w1 := bw 1 (by omega) (by omega)
  have w2 := bw 2 (by omega) (by omega)
  unfold aS at e4 e5 e6
  rw [if_neg (by decide), if_neg (by decide), if_pos rfl] at e4
  rw [if_neg (by decide), if_neg (by decide), if_neg (by decide), if_pos rfl] at e5
  rw [if_neg (by decide), if_neg (by decide), if_neg (by decide), if_neg (by decide), if_neg (show ¬ 0 ≤ v 0 35 by rw [H.1.2.2.1.1]; decide)] at e6
  rw [show 7 * s + 1 + 0 = 7 * s + 1 by omega] at e1 n1 w0
  rw [show 7 * s + 1 + 1 = 7 * s + 2 by omega] at e2 n2 w1
  rw [show 7 * s + 1 + 2 = 7 * s + 3 by omega] at e3 n3 w2
  unfold sMarkOf aMk
  unfold aHas at hk
  by_cases a1 : a = 1
  · rw [if_pos a1, if_pos a1, ← e1, ← e2, ← e3]
    simp (disch := omega) only [w32_id]
  rw [if_neg a1, if_neg a1]
  by_cases a3 : 3 < a
  · rw [if_pos a3, if_pos a3, e6]
    by_cases k6 : (h (v (v 0 7) s)).1 = 6
    · rw [if_pos k6]
    · rw [if_neg k6, if_pos (by omega)]
  rw [if_neg a3, if_neg a3]
  rw [if_neg (by omega)] at e4 e5
  rw [← e4, ← e5]
  simp (disch := omega) only [w32_id]
theorem lTl (H : lB v h) (e : lAm v v1) {s : Int} (hs : 0 ≤ s ∧ s < (h (v 0 7)).2) : sMarkOf v1 s (v1 50 (7 * s)) = aTl v h s := by
  rw [lS0 H e hs]
  obtain ⟨w1, w2, w3, w4⟩ := H.1.1.2.1 s hs.1 hs.2
  have hk : (h (v (v 0 7) s)).1 = 3 ∨ (h (v (v 0 7) s)).1 = 4 ∨ (h (v (v 0 7) s)).1 = 5 ∨ (h (v (v 0 7) s)).1 = 6 ∨ (h (v (v 0 7) s)).1 = 7 := by omega
  have := lMk H e hs (a := aKd (h (v (v 0 7) s)).1) (by rcases hk with z | z | z | z | z <;> (rw [z]; decide)) (by rcases hk with z | z | z | z | z <;> (rw [z]; unfold aHas; decide))
  rw [this]
  unfold aMk aTl
  rcases hk with z | z | z | z | z <;> (rw [z]; rfl)
theorem lCnt (H : lB v h) (e : lAm v v1) {q : Int} (hq : 0 ≤ q ∧ q ≤ 5) : sCounted v1 q = aCnt v h q := by
  obtain ⟨⟨h20, h22, h26, h27, h28, h31, h33⟩, h50, hE, h54, h55, hTr⟩ := H.1.2.2.2.1
  unfold sCounted aCnt
  rw [e 38 20 (by omega) (by omega), e 38 22 (by omega) (by omega), e 38 33 (by omega) (by omega), h20, h22, h33]
  by_cases q0 : q = 0
  · subst q0
    rw [if_neg (by decide), if_neg (by decide), if_neg (by decide), if_pos rfl, if_pos rfl]
    refine yCnt_cg 6 (fun r r0 r1 => ?_)
    rw [e 40 r (by omega) (by omega)]
    refine decide_eq_decide.mpr ?_
    rcases H.2.1.1 r r0 (by omega) with z | z
    · omega
    · have := z.1.1
      have := z.1.2.2
      omega
  by_cases q1 : q = 1
  · subst q1
    rw [if_neg (by decide), if_neg (by decide), if_neg (by decide), if_neg (by decide), if_pos rfl, if_neg (by decide), if_pos rfl]
    refine yCnt_cg 4 (fun r r0 r1 => ?_)
    rw [e 43 r (by omega) (by omega)]
    refine decide_eq_decide.mpr ?_
    rcases H.2.2.1.1 r r0 (by omega) with z | z
    · omega
    · have := z.1.1
      have := z.1.2.2
      omega
  by_cases q2 : q = 2
  · subst q2
    rw [if_pos rfl, if_neg (by decide), if_neg (by decide), if_pos rfl]
  by_cases q3 : q = 3
  · subst q3
    rw [if_neg (by decide), if_pos rfl, if_neg (by decide), if_neg (by decide), if_neg (by decide), if_pos rfl]
  by_cases q5 : q = 5
  · subst q5
    rw [if_neg (by decide), if_neg (by decide), if_pos rfl, if_neg (by decide), if_neg (by decide), if_neg (by decide), if_neg (by decide), if_neg (by decide)]
  have q4 : q = 4 := by omega
  subst q4
  rw [if_neg (by decide), if_neg (by decide), if_neg (by decide), if_neg (by decide), if_neg (by decide), if_pos rfl, if_neg (by decide), if_neg (by decide), if_neg (by decide), if_neg (by decide), if_pos rfl]
  have hb := (lB_ok H).2.2.1
  refine yCnt_cg _ (fun i i0 i1 => ?_)
  have i1' : i < v 0 32 := by omega
  have hsi := (lB_ok H).2.2.2.1 i i0 (by omega)
  rw [(hTr i i0 i1').1] at hsi
  rw [e 57 i (by omega) (by omega), (hTr i i0 i1').1]
  unfold mSav
  rw [lS0 H e (s := v (v 16 i) 0) (by omega)]
  refine decide_eq_decide.mpr ?_
  have hk := (H.1.1.2.1 (v (v 16 i) 0) hsi.1.1 (by omega)).2.1
  unfold aKd aIs aKd
  rcases (by omega : (h (v (v 0 7) (v (v 16 i) 0))).1 = 3 ∨ (h (v (v 0 7) (v (v 16 i) 0))).1 = 4 ∨ (h (v (v 0 7) (v (v 16 i) 0))).1 = 5 ∨ (h (v (v 0 7) (v (v 16 i) 0))).1 = 6 ∨ (h (v (v 0 7) (v (v 16 i) 0))).1 = 7) with z | z | z | z | z <;> (rw [z]; decide)
theorem lWood (H : lB v h) (e : lAm v v1) (g : Int) : mWood v1 g = aWood v h g := by
  obtain ⟨⟨h20, h22, h26, h27, h28, h31, h33⟩, h50, hE, h54, h55, hTr⟩ := H.1.2.2.2.1
  obtain ⟨o1, o2, o3, o4, o5, o6, o7, o8, o9⟩ := lB_ok H
  unfold mWood aWood hWood
  rw [e 38 20 (by omega) (by omega), e 38 22 (by omega) (by omega), e 38 28 (by omega) (by omega), e 38 33 (by omega) (by omega), h20, h22, h28, h33]
  rw [hIt_cg (f := hSort (fun s w => v1 50 (7 * s + 1 + w)) (fun s => v1 50 (7 * s)) (fun s => sMarkOf v1 s (v1 50 (7 * s)))) (g := hSort (aAb v h) (fun s => aAb v h s 3) (aTl v h)) (h (v 0 7)).2.toNat (fun s x s0 s1 => by
    have hs : 0 ≤ s ∧ s < (h (v 0 7)).2 := ⟨s0, by omega⟩
    unfold hSort
    dsimp only
    rw [lSw H e hs (w := 0) (by omega), lSw H e hs (w := 1) (by omega), lSw H e hs (w := 2) (by omega), lTl H e hs, lS0 H e hs]
    rfl)]
  rw [hIt_cg (f := hThree (v1 51) (v1 52) (v1 53)) (g := hThree (v 7) (v 8) (v 9)) (v 0 12).toNat (fun k x k0 k1 => by
    obtain ⟨z1, z2, z3, z4⟩ := hE k k0 (by omega)
    unfold hThree
    rw [e 51 k (by omega) (by omega), e 52 k (by omega) (by omega), e 53 k (by omega) (by omega), z1, z2, z3])]
  rw [hIt_cg (f := hOne (sNow v1)) (g := hOne (aNow v (h (v 0 8)).2)) 9 (fun k x k0 k1 => by
    unfold hOne
    rw [lNow H e (by omega)])]
  rw [hIt_cg (f := hOne (v1 54)) (g := hOne (v (v 0 8))) (h (v 0 8)).2.toNat (fun k x k0 k1 => by
    unfold hOne
    rw [e 54 k (by omega) (by omega), h54 k k0 (by omega)])]
  rw [hIt_cg (f := hFour (sTree v1)) (g := hFour (aTold v)) (v 0 32).toNat (fun k x k0 k1 => by
    unfold hFour
    rw [lTold H e (by omega), lTold H e (by omega), lTold H e (by omega), lTold H e (by omega)])]
theorem lDig (H : lB v h) (e : lAm v v1) : mDig v1 = aDig v h := by
  unfold mDig aDig
  rw [hIt_cg (f := hOne (sCounted v1)) (g := hOne (aCnt v h)) 6 (fun k x k0 k1 => by
    unfold hOne
    rw [lCnt H e (by omega)])]
  rw [lWood H e]
  rw [hIt_cg (f := mRowS v1) (g := aLnS v h 2) 6 (fun r x r0 r1 => by
    unfold mRowS aLnS aLn
    rw [e 40 r (by omega) (by omega)]
    rcases H.2.1.1 r r0 (by omega) with ⟨z1, z2⟩ | ⟨⟨z1, z2, z3⟩, z4⟩
    · rw [if_pos z1, z2]
      rfl
    · rw [if_neg (by omega), z2]
      refine hIt_cg _ (fun i y i0 i1 => ?_)
      unfold hOne
      dsimp only
      rw [e 41 _ (by omega) (by omega), z4 i i0 (by omega)])]
  rw [hIt_cg (f := mTxtS v1) (g := aLnS v h 3) 4 (fun r x r0 r1 => by
    unfold mTxtS aLnS aLn
    rw [e 43 r (by omega) (by omega)]
    rcases H.2.2.1.1 r r0 (by omega) with ⟨z1, z2⟩ | ⟨⟨z1, z2, z3⟩, z4, z5⟩
    · rw [if_pos z1, z2]
      rfl
    · rw [if_neg (by omega), z2]
      refine hIt_cg _ (fun i y i0 i1 => ?_)
      unfold hOne sByte
      dsimp only
      rw [e 43 r (by omega) (by omega), if_pos (by omega), e 44 _ (by omega) (by omega), z4 i i0 (by omega)])]
end LD
