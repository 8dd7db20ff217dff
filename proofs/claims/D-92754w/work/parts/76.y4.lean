/-! walkers as woods; trips -/
section
variable {Γ : gC} {v : gM} {K : gH} {t : Nat} {Q : gQ}
/-- a walker as a wood -/
def wkN (v : gM) (c : Int) : gM := fun a k => if a = 38 ∧ k = 31 then v 63 (27 * c) else if a = 56 ∧ 0 ≤ k ∧ k < v 38 22 then v 63 (27 * c + 1 + k) else if a = 58 ∧ 0 ≤ k ∧ k < v 38 33 then v 63 (27 * c + 3 + k) else mN v a k
theorem yR_congr {v v1 : gM} (h20 : v1 38 20 = v 38 20) (h22 : v1 38 22 = v 38 22) (h28 : v1 38 28 = v 38 28) (h33 : v1 38 33 = v 38 33) {a k : Int} : yR v1 a k ↔ yR v a k := by
  unfold yR
  rw [h20, h22, h28, h33]
theorem oGoTo_N {v v1 : gM} {c : Int} (h : oGoTo v v1 c) (h22 : v 38 22 ≤ 2) : mN v1 = wkN v c := by
  obtain ⟨f, g1, g2, g3, g4⟩ := h
  have e := fun a k => yR_congr (a := a) (k := k) (f 38 20 (by omega)) (f 38 22 (by omega)) (f 38 28 (by omega)) (f 38 33 (by omega))
  funext a k
  unfold wkN
  by_cases hR : yR v a k
  · rw [mN_at ((e a k).2 hR)]
    by_cases c1 : a = 38 ∧ k = 31
    · rw [if_pos c1, c1.1, c1.2, g1]
    · rw [if_neg c1]
      by_cases c2 : a = 56 ∧ 0 ≤ k ∧ k < v 38 22
      · rw [if_pos c2, c2.1]
        rcases (by omega : k = 0 ∨ k = 1) with z | z
        · rw [z, g2, Int.add_zero]
        · rw [z, g3]
          congr 1
          omega
      · rw [if_neg c2]
        by_cases c3 : a = 58 ∧ 0 ≤ k ∧ k < v 38 33
        · rw [if_pos c3, c3.1, g4 k c3.2.1 c3.2.2]
        · rw [if_neg c3, mN_at hR]
          unfold yR at hR
          exact f a k (by omega)
  · rw [mN_no (fun z => hR ((e a k).1 z))]
    unfold yR at hR
    rw [if_neg (by omega), if_neg (by omega), if_neg (by omega), mN_no hR]
theorem wkN_congr {v v1 : gM} {c : Int} (h63 : ∀ k, 27 * c ≤ k → k < 27 * c + 27 → v1 63 k = v 63 k) (hF : ∀ a k, yR v a k → ¬ (a = 38 ∧ k = 31) → a ≠ 56 → a ≠ 58 → v1 a k = v a k) (h22 : v 38 22 ≤ 2) (h33 : v 38 33 ≤ 24) : wkN v1 c = wkN v c := by
  have q (k : Int) (hk : k = 20 ∨ k = 22 ∨ k = 28 ∨ k = 33) : v1 38 k = v 38 k := hF 38 k (by unfold yR; omega) (by omega) (by omega) (by omega)
  have q22 := q 22 (by omega)
  have q33 := q 33 (by omega)
  have e := fun a k => yR_congr (a := a) (k := k) (q 20 (by omega)) q22 (q 28 (by omega)) q33
  funext a k
  unfold wkN
  rw [q22, q33]
  by_cases c1 : a = 38 ∧ k = 31
  · rw [if_pos c1, if_pos c1, h63 _ (by omega) (by omega)]
  · rw [if_neg c1, if_neg c1]
    by_cases c2 : a = 56 ∧ 0 ≤ k ∧ k < v 38 22
    · rw [if_pos c2, if_pos c2, h63 _ (by omega) (by omega)]
    · rw [if_neg c2, if_neg c2]
      by_cases c3 : a = 58 ∧ 0 ≤ k ∧ k < v 38 33
      · rw [if_pos c3, if_pos c3, h63 _ (by omega) (by omega)]
      · rw [if_neg c3, if_neg c3]
        by_cases hR : yR v a k
        · rw [mN_at hR, mN_at ((e a k).2 hR)]
          refine hF a k hR c1 ?_ ?_
          · intro z; unfold yR at hR; omega
          · intro z; unfold yR at hR; omega
        · rw [mN_no hR, mN_no (fun z => hR ((e a k).1 z))]
theorem oStand_m {v v1 : gM} {c : Int} (h : oStand v v1 c) : mN v1 = mN v := mN_congr (fun a k hR => h.1 a k (by unfold yR at hR; omega))
theorem oStand_o {v v1 : gM} {c d : Int} (h : oStand v v1 c) (hcd : d ≠ c) (h22 : v 38 22 ≤ 2) (h33 : v 38 33 ≤ 24) : wkN v1 d = wkN v d :=
  wkN_congr (fun k k0 k1 => h.1 63 k (by omega)) (fun a k hR _ _ _ => h.1 a k (by unfold yR at hR; omega)) h22 h33
theorem oStand_N {v v1 : gM} {c : Int} (h : oStand v v1 c) (h22 : v 38 22 ≤ 2) : wkN v1 c = mN v := by
  have hm := oStand_m h
  obtain ⟨f, g1, g2, g3, g4⟩ := h
  have q22 := f 38 22 (by omega)
  have q33 := f 38 33 (by omega)
  funext a k
  unfold wkN
  rw [q22, q33, hm]
  by_cases c1 : a = 38 ∧ k = 31
  · rw [if_pos c1, g1, c1.1, c1.2, mN_c (by omega)]
  · rw [if_neg c1]
    by_cases c2 : a = 56 ∧ 0 ≤ k ∧ k < v 38 22
    · rw [if_pos c2, c2.1, mN_e (by omega) c2.2.1 c2.2.2]
      rcases (by omega : k = 0 ∨ k = 1) with z | z
      · rw [z, Int.add_zero, g2]
      · rw [z, show 27 * c + 1 + 1 = 27 * c + 2 by omega, g3]
    · rw [if_neg c2]
      by_cases c3 : a = 58 ∧ 0 ≤ k ∧ k < v 38 33
      · rw [if_pos c3, c3.1, mN_st c3.2.1 c3.2.2, g4 k c3.2.1 c3.2.2]
      · rw [if_neg c3]
/-- scratch of the model -/
abbrev oSq (a k : Int) : Prop := (a = 38 ∧ 38 ≤ k ∧ k ≤ 60) ∨ (61 ≤ a ∧ a ≤ 64)
def oScr (v v1 : gM) : Prop := ∀ a k, ¬ oSq a k → v1 a k = v a k
/-- v1 is under way from v: what was is kept -/
def oTrip (v v1 : gM) : Prop := (∀ a k, ¬ (oSq a k ∨ (a = 38 ∧ k = 31) ∨ (a = 56 ∧ 0 ≤ k ∧ k < 2) ∨ ((a = 58 ∨ a = 59 ∨ a = 60) ∧ 0 ≤ k ∧ k < v 38 33)) → v1 a k = v a k) ∧ v1 64 0 = v 38 31 ∧ v1 64 1 = v 56 0 ∧ v1 64 2 = v 56 1 ∧ ∀ k, 0 ≤ k → k < v 38 33 → v1 64 (3 + 3 * k) = v 58 k ∧ v1 64 (4 + 3 * k) = v 59 k ∧ v1 64 (5 + 3 * k) = v 60 k
theorem oTrip_keep {v v1 : gM} (h : oKeep v v1) : oTrip v v1 := ⟨fun a k hk => h.1 a k (by omega), h.2⟩
/-- a step that leaves what is kept, and all but what a trip may touch -/
theorem oTrip_of {v v1 v2 : gM} (h : oTrip v v1) (h64 : ∀ k, v2 64 k = v1 64 k) (hF : ∀ a k, ¬ (oSq a k ∨ (a = 38 ∧ k = 31) ∨ (a = 56 ∧ 0 ≤ k ∧ k < 2) ∨ ((a = 58 ∨ a = 59 ∨ a = 60) ∧ 0 ≤ k ∧ k < v 38 33)) → v2 a k = v1 a k) : oTrip v v2 := by
  refine ⟨fun a k hk => (hF a k hk).trans (h.1 a k hk), ?_, ?_, ?_, fun k k0 k1 => ?_⟩
  · rw [h64]; exact h.2.1
  · rw [h64]; exact h.2.2.1
  · rw [h64]; exact h.2.2.2.1
  · rw [h64, h64, h64]; exact h.2.2.2.2 k k0 k1
theorem oTrip_33 {v v1 : gM} (h : oTrip v v1) : v1 38 33 = v 38 33 := h.1 38 33 (by omega)
theorem oTrip_22 {v v1 : gM} (h : oTrip v v1) : v1 38 22 = v 38 22 := h.1 38 22 (by omega)
theorem oTrip_stand {v v1 v2 : gM} {c : Int} (h : oTrip v v1) (g : oStand v1 v2 c) : oTrip v v2 := oTrip_of h (fun k => g.1 64 k (by omega)) (fun a k hk => g.1 a k (by omega))
theorem oTrip_goTo {v v1 v2 : gM} {c : Int} (h : oTrip v v1) (g : oGoTo v1 v2 c) : oTrip v v2 := oTrip_of h (fun k => g.1 64 k (by omega)) (fun a k hk => g.1 a k (by rw [oTrip_33 h]; omega))
theorem oTrip_yr {v v1 v2 : gM} {w hf pg : Int} (h : oTrip v v1) (h22 : v 38 22 ≤ 2) (g : oYr v1 v2 w hf pg) : oTrip v v2 := oTrip_of h (fun k => g.2.2.2.2.2.2.2.2 64 k (by omega)) (fun a k hk => g.2.2.2.2.2.2.2.2 a k (by rw [oTrip_33 h, oTrip_22 h]; omega))
theorem oTrip_up {v v1 : gM} {a k x : Int} (h : oTrip v v1) (ha : oSq a k) (h64 : a ≠ 64) : oTrip v (gUp v1 a k x) := oTrip_of h (fun j => gUp_ne2 (by omega)) (fun b j hj => gUp_ne2 (by rintro ⟨rfl, rfl⟩; exact hj (Or.inl ha)))
theorem oTrip_back {v v1 v2 : gM} (h : oTrip v v1) (g : oBack v1 v2) : oScr v v2 ∧ oTrip v v2 := by
  have e33 := oTrip_33 h
  obtain ⟨f, g1, g2, g3, g4⟩ := g
  rw [e33] at f g4
  have hS : oScr v v2 := by
    intro a k hk
    by_cases c1 : a = 38 ∧ k = 31
    · rw [c1.1, c1.2, g1]; exact h.2.1
    · by_cases c2 : a = 56 ∧ 0 ≤ k ∧ k < 2
      · rcases (by omega : k = 0 ∨ k = 1) with z | z
        · rw [c2.1, z, g2]; exact h.2.2.1
        · rw [c2.1, z, g3]; exact h.2.2.2.1
      · by_cases c3 : (a = 58 ∨ a = 59 ∨ a = 60) ∧ 0 ≤ k ∧ k < v 38 33
        · have g5 := g4 k c3.2.1 c3.2.2
          have h5 := h.2.2.2.2 k c3.2.1 c3.2.2
          rcases c3.1 with z | z | z
          · rw [z, g5.1]; exact h5.1
          · rw [z, g5.2.1]; exact h5.2.1
          · rw [z, g5.2.2]; exact h5.2.2
        · rw [f a k (by omega)]; exact h.1 a k (by omega)
  exact ⟨hS, oTrip_of h (fun k => f 64 k (by omega)) (fun a k hk => f a k (by omega))⟩
theorem oScr_m {v v1 : gM} (h : oScr v v1) : mN v1 = mN v := mN_congr (fun a k hR => h a k (by unfold yR at hR; omega))
theorem oScr_t {v v1 v2 : gM} (h : oScr v v1) (g : oScr v1 v2) : oScr v v2 := fun a k hk => (g a k hk).trans (h a k hk)
theorem oScr_up {v v1 : gM} {a k x : Int} (h : oScr v v1) (ha : oSq a k) : oScr v (gUp v1 a k x) := fun b j hj => (gUp_ne2 (by rintro ⟨rfl, rfl⟩; exact hj ha)).trans (h b j hj)
theorem oScr_r (v : gM) : oScr v v := fun _ _ _ => rfl
theorem mN_up {v : gM} {a k x : Int} (h : ∀ (z : gM), ¬ yR z a k) : mN (gUp v a k x) = mN v := mN_congr (fun b j hR => gUp_ne2 (by rintro ⟨rfl, rfl⟩; exact h v hR))
theorem wkN_up {v : gM} {a k x c : Int} (h : ∀ (z : gM), ¬ yR z a k) (h63 : a ≠ 63) (h22 : v 38 22 ≤ 2) (h33 : v 38 33 ≤ 24) : wkN (gUp v a k x) c = wkN v c := wkN_congr (fun j _ _ => gUp_ne2 (by omega)) (fun b j hR _ _ _ => gUp_ne2 (by rintro ⟨rfl, rfl⟩; exact h v hR)) h22 h33
/-- what walking does -/
def oWalk (v v1 : gM) (c : Int) (n : Nat) : Prop := wkN v1 c = yIt (wkN v c) n ∧ (∀ d, 0 ≤ d → d ≤ 2 → d ≠ c → wkN v1 d = wkN v d) ∧ ∀ a k, ¬ (a = 63 ∨ (a = 38 ∧ (k = 31 ∨ k = 38 ∨ k = 39 ∨ k = 40 ∨ k = 41)) ∨ ((a = 56 ∨ a = 62) ∧ 0 ≤ k ∧ k < 2) ∨ ((a = 58 ∨ a = 59 ∨ a = 60 ∨ a = 61) ∧ 0 ≤ k ∧ k < v 38 33)) → v1 a k = v a k
theorem oTrip_walk {v v1 v2 : gM} {c : Int} {n : Nat} (h : oTrip v v1) (g : oWalk v1 v2 c n) : oTrip v v2 := oTrip_of h (fun k => g.2.2 64 k (by omega)) (fun a k hk => g.2.2 a k (by rw [oTrip_33 h]; omega))
/-- what the walkers share with now -/
theorem wkN_al {v : gM} {c d : Int} (hy : v 63 (27 * c) % v 38 28 = v 63 (27 * d) % v 38 28) (hs : ∀ s, 0 ≤ s → s < v 38 20 → v 50 (7 * s) = 5 → v 63 (27 * c) % v 50 (7 * s + 6) = v 63 (27 * d) % v 50 (7 * s + 6)) (hm : ∀ k, 0 ≤ k → k < v 38 22 → v 63 (27 * c + (1 + k)) = v 63 (27 * d + (1 + k))) (ht : ∀ k, 0 ≤ k → k < v 38 33 → v 63 (27 * c + (3 + k)) = v 63 (27 * d + (3 + k))) : yAl (wkN v c) (wkN v d) := by
  have q (x : Int) : wkN v x 38 31 = v 63 (27 * x) := by unfold wkN; rw [if_pos ⟨rfl, rfl⟩]
  have q28 : wkN v c 38 28 = v 38 28 := by unfold wkN; rw [if_neg (by omega), if_neg (by omega), if_neg (by omega), mN_c (by omega)]
  have q20 : wkN v c 38 20 = v 38 20 := by unfold wkN; rw [if_neg (by omega), if_neg (by omega), if_neg (by omega), mN_c (by omega)]
  refine ⟨fun a k hk => ?_, ?_, fun s s0 s1 s2 => ?_⟩
  · unfold wkN
    rw [if_neg hk, if_neg hk]
    by_cases c2 : a = 56 ∧ 0 ≤ k ∧ k < v 38 22
    · rw [if_pos c2, if_pos c2, show 27 * c + 1 + k = 27 * c + (1 + k) by omega, show 27 * d + 1 + k = 27 * d + (1 + k) by omega]
      exact hm k c2.2.1 c2.2.2
    · rw [if_neg c2, if_neg c2]
      by_cases c3 : a = 58 ∧ 0 ≤ k ∧ k < v 38 33
      · rw [if_pos c3, if_pos c3, show 27 * c + 3 + k = 27 * c + (3 + k) by omega, show 27 * d + 3 + k = 27 * d + (3 + k) by omega]
        exact ht k c3.2.1 c3.2.2
      · rw [if_neg c3, if_neg c3]
  · rw [q, q, q28]; exact hy
  · rw [q20] at s1
    have q50 (j : Int) (j0 : 0 ≤ j) (j1 : j ≤ 6) : wkN v c 50 (7 * s + j) = v 50 (7 * s + j) := by
      unfold wkN
      rw [if_neg (by omega), if_neg (by omega), if_neg (by omega), mN_S s0 s1 ⟨j0, j1⟩]
    have q0 := q50 0 (by omega) (by omega)
    rw [Int.add_zero] at q0
    rw [q0] at s2
    rw [q, q, q50 6 (by omega) (by omega)]
    exact hs s s0 s1 s2
theorem wkN_la {v : gM} {c d : Int} (h : yAl (wkN v c) (wkN v d)) : v 63 (27 * c) % v 38 28 = v 63 (27 * d) % v 38 28 ∧ (∀ s, 0 ≤ s → s < v 38 20 → v 50 (7 * s) = 5 → v 63 (27 * c) % v 50 (7 * s + 6) = v 63 (27 * d) % v 50 (7 * s + 6)) ∧ (∀ k, 0 ≤ k → k < v 38 22 → v 63 (27 * c + (1 + k)) = v 63 (27 * d + (1 + k))) ∧ ∀ k, 0 ≤ k → k < v 38 33 → v 63 (27 * c + (3 + k)) = v 63 (27 * d + (3 + k)) := by
  have q (x : Int) : wkN v x 38 31 = v 63 (27 * x) := by unfold wkN; rw [if_pos ⟨rfl, rfl⟩]
  have q28 : wkN v c 38 28 = v 38 28 := by unfold wkN; rw [if_neg (by omega), if_neg (by omega), if_neg (by omega), mN_c (by omega)]
  have q20 : wkN v c 38 20 = v 38 20 := by unfold wkN; rw [if_neg (by omega), if_neg (by omega), if_neg (by omega), mN_c (by omega)]
  obtain ⟨h1, h2, h3⟩ := h
  rw [q, q, q28] at h2
  refine ⟨h2, fun s s0 s1 s2 => ?_, fun k k0 k1 => ?_, fun k k0 k1 => ?_⟩
  · have q50 (j : Int) (j0 : 0 ≤ j) (j1 : j ≤ 6) : wkN v c 50 (7 * s + j) = v 50 (7 * s + j) := by
      unfold wkN
      rw [if_neg (by omega), if_neg (by omega), if_neg (by omega), mN_S s0 s1 ⟨j0, j1⟩]
    have q0 := q50 0 (by omega) (by omega)
    rw [Int.add_zero] at q0
    have z := h3 s s0 (by rw [q20]; exact s1) (by rw [q0]; exact s2)
    rw [q, q, q50 6 (by omega) (by omega)] at z
    exact z
  · have z := h1 56 k (by omega)
    unfold wkN at z
    rw [if_neg (by omega), if_pos ⟨rfl, k0, k1⟩, if_neg (by omega), if_pos ⟨rfl, k0, k1⟩] at z
    rw [show 27 * c + (1 + k) = 27 * c + 1 + k by omega, show 27 * d + (1 + k) = 27 * d + 1 + k by omega]
    exact z
  · have z := h1 58 k (by omega)
    unfold wkN at z
    rw [if_neg (by omega), if_neg (by omega), if_pos ⟨rfl, k0, k1⟩, if_neg (by omega), if_neg (by omega), if_pos ⟨rfl, k0, k1⟩] at z
    rw [show 27 * c + (3 + k) = 27 * c + 3 + k by omega, show 27 * d + (3 + k) = 27 * d + 3 + k by omega]
    exact z

end
