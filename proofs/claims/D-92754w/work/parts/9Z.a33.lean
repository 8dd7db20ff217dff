/-! AcornYears: a tree of another sort -/
section
variable {Γ : gC} {v : gM} {K : gH} {t : Nat} {Q : gQ}
/-- cells behind all that is known change nothing of a wood -/
theorem aN_new {v v1 : gM} {K K1 : gH} {t : Nat} (hT : gTop (gHd K) t) (hW : aWf v (gHd K)) (hF : ∀ a k, a < (t : Int) → v1 a k = v a k) (hH : FHa K K1 t) : (∀ x, x = 17 ∨ x = 23 → aN v1 (gHd K1) x = aN v (gHd K) x) ∧ aWf v1 (gHd K1) ∧ (a63 v (gHd K) → a63 v1 (gHd K1)) := by
  have h66 := gHd_66 hT
  obtain ⟨⟨w7, a1, a2, a3⟩, wS, ⟨w8, b1⟩, wT, wD⟩ := hW
  have lt7 := (gHd_lt hT (a := v 0 7) (by omega)).2
  have lt8 := (gHd_lt hT (a := v 0 8) (by omega)).2
  have low : ∀ a k, a < 66 → v1 a k = v a k := fun a k ha => hF a k (by omega)
  have e7 := low 0 7 (by omega)
  have e8 := low 0 8 (by omega)
  have h7 := hH _ lt7
  have h8 := hH _ lt8
  have ltS : ∀ s, 0 ≤ s → s < (gHd K (v 0 7)).2 → v (v 0 7) s < t ∧ v (v (v 0 7) s) 0 < t := fun s s0 s1 => by
    obtain ⟨g1, g2, g3, g4⟩ := wS s s0 s1
    exact ⟨(gHd_lt hT (by omega)).2, (gHd_lh hT g4 (by decide)).2⟩
  have ltT : ∀ i, 0 ≤ i → i < v 0 32 → v 16 i < t := fun i i0 i1 => (gHd_lt hT (by have := (wT i i0 i1).2; omega)).2
  refine ⟨fun x hx => ?_, ?_, fun h63 s s0 s1 s6 => ?_⟩
  · funext a k
    unfold aN
    rw [e7, e8, h7, h8, low 0 10 (by omega), low 0 11 (by omega), low 0 12 (by omega), low 0 32 (by omega), low x 2 (by omega), low 7 k (by omega), low 8 k (by omega), low 9 k (by omega), hF (v 0 8) k lt8, low 5 k (by omega), low 16 k (by omega), low (x + 1) k (by omega), low (x + 2) k (by omega)]
    by_cases c50 : a = 50
    · subst c50
      show (if 0 ≤ k ∧ k < 7 * (gHd K (v 0 7)).2 then aS v1 (gHd K1) (v1 (v 0 7) (k / 7)) (k % 7) else 0) = (if 0 ≤ k ∧ k < 7 * (gHd K (v 0 7)).2 then aS v (gHd K) (v (v 0 7) (k / 7)) (k % 7) else 0)
      by_cases cr : 0 ≤ k ∧ k < 7 * (gHd K (v 0 7)).2
      · rw [if_pos cr, if_pos cr, hF (v 0 7) (k / 7) lt7]
        obtain ⟨l1, l2⟩ := ltS (k / 7) (by omega) (by omega)
        unfold aS
        rw [hH _ l1, low 0 35 (by omega), hF _ 0 l1, hF _ (k % 7 - 1) l2, hF _ 1 l1, hF _ 2 l1, hF _ 3 l1]
      · rw [if_neg cr, if_neg cr]
    · rw [if_neg c50, if_neg c50]
      by_cases c57 : a = 57
      · subst c57
        show (if 0 ≤ k ∧ k < v 0 32 then v1 (v 16 k) 0 else 0) = (if 0 ≤ k ∧ k < v 0 32 then v (v 16 k) 0 else 0)
        by_cases cr : 0 ≤ k ∧ k < v 0 32
        · rw [if_pos cr, if_pos cr, hF _ _ (ltT k cr.1 cr.2)]
        · rw [if_neg cr, if_neg cr]
      · rw [if_neg c57, if_neg c57]
  · unfold aWf
    rw [e7, e8, h7, h8, low 0 32 (by omega)]
    refine ⟨⟨w7, a1, a2, a3⟩, fun s s0 s1 => ?_, ⟨w8, b1⟩, fun i i0 i1 => ?_, fun i j i0 i1 j0 j1 hij => ?_⟩
    · obtain ⟨l1, l2⟩ := ltS s s0 s1
      rw [hF (v 0 7) s lt7, hF _ 0 l1, hH _ l1, hH _ l2]
      exact wS s s0 s1
    · rw [low 16 i (by omega), hH _ (ltT i i0 i1)]
      exact wT i i0 i1
    · rw [low 16 i (by omega), low 16 j (by omega)]
      exact wD i j i0 i1 j0 j1 hij
  · rw [e7, h7] at s1
    obtain ⟨l1, l2⟩ := ltS s s0 s1
    rw [e7, hF (v 0 7) s lt7] at s6 ⊢
    rw [hH _ l1] at s6
    rw [hF _ 3 l1]
    exact h63 s s0 s1 s6
/-- a tree is of another sort -/
theorem aN_57u {v : gM} {h : gH} {x s : Int} (hW : aWf v h) (h0 : 0 ≤ x) (h1 : x < v 0 32) : aN (gUp v (v 16 x) 0 s) h 17 = gUp (aN v h 17) 57 x s ∧ aWf (gUp v (v 16 x) 0 s) h ∧ (a63 v h → a63 (gUp v (v 16 x) 0 s) h) := by
  obtain ⟨⟨w7, a1, a2, a3⟩, wS, ⟨w8, b1⟩, wT, wD⟩ := hW
  obtain ⟨t66, tk⟩ := wT x h0 h1
  have ne : ∀ a k, (h a).1 ≠ 8 → gUp v (v 16 x) 0 s a k = v a k := fun a k ha => gUp_ne2 (fun z => ha (by rw [z.1]; exact tk))
  have low : ∀ a k, a < 66 → gUp v (v 16 x) 0 s a k = v a k := fun a k ha => gUp_ne2 (by omega)
  have kS : ∀ z, 0 ≤ z → z < (h (v 0 7)).2 → (h (v (v 0 7) z)).1 ≠ 8 ∧ (h (v (v (v 0 7) z) 0)).1 ≠ 8 := fun z z0 z1 => by
    obtain ⟨g1, g2, g3, g4⟩ := wS z z0 z1
    exact ⟨by omega, by rw [g4]; decide⟩
  refine ⟨?_, ?_, fun h63 z z0 z1 z6 => ?_⟩
  · funext a k
    by_cases c57 : a = 57 ∧ k = x
    · rw [c57.1, c57.2, gUp_eq2 rfl rfl]
      show (if 0 ≤ x ∧ x < gUp v (v 16 x) 0 s 0 32 then gUp v (v 16 x) 0 s (gUp v (v 16 x) 0 s 16 x) 0 else 0) = s
      rw [low 0 32 (by omega), low 16 x (by omega), if_pos ⟨h0, h1⟩, gUp_eq2 rfl rfl]
    · rw [gUp_ne2 c57]
      unfold aN
      rw [low 0 7 (by omega), low 0 8 (by omega), low 0 10 (by omega), low 0 11 (by omega), low 0 12 (by omega), low 0 32 (by omega), low 17 2 (by omega), low 7 k (by omega), low 8 k (by omega), low 9 k (by omega), ne (v 0 8) k (by omega), low 5 k (by omega), low 16 k (by omega), low (17 + 1) k (by omega), low (17 + 2) k (by omega)]
      by_cases c50 : a = 50
      · subst c50
        show (if 0 ≤ k ∧ k < 7 * (h (v 0 7)).2 then aS (gUp v (v 16 x) 0 s) h (gUp v (v 16 x) 0 s (v 0 7) (k / 7)) (k % 7) else 0) = (if 0 ≤ k ∧ k < 7 * (h (v 0 7)).2 then aS v h (v (v 0 7) (k / 7)) (k % 7) else 0)
        by_cases cr : 0 ≤ k ∧ k < 7 * (h (v 0 7)).2
        · rw [if_pos cr, if_pos cr, ne (v 0 7) (k / 7) (by omega)]
          obtain ⟨l1, l2⟩ := kS (k / 7) (by omega) (by omega)
          unfold aS
          rw [low 0 35 (by omega), ne _ 0 l1, ne _ (k % 7 - 1) l2, ne _ 1 l1, ne _ 2 l1, ne _ 3 l1]
        · rw [if_neg cr, if_neg cr]
      · rw [if_neg c50, if_neg c50]
        by_cases c5 : a = 57
        · subst c5
          show (if 0 ≤ k ∧ k < v 0 32 then gUp v (v 16 x) 0 s (v 16 k) 0 else 0) = (if 0 ≤ k ∧ k < v 0 32 then v (v 16 k) 0 else 0)
          by_cases cr : 0 ≤ k ∧ k < v 0 32
          · have := wD k x cr.1 cr.2 h0 h1 (by omega)
            rw [if_pos cr, if_pos cr, gUp_ne2 (by omega)]
          · rw [if_neg cr, if_neg cr]
        · rw [if_neg c5, if_neg c5]
  · unfold aWf
    rw [low 0 7 (by omega), low 0 8 (by omega), low 0 32 (by omega)]
    refine ⟨⟨w7, a1, a2, a3⟩, fun z z0 z1 => ?_, ⟨w8, b1⟩, fun i i0 i1 => ?_, fun i j i0 i1 j0 j1 hij => ?_⟩
    · obtain ⟨l1, l2⟩ := kS z z0 z1
      rw [ne (v 0 7) z (by omega), ne _ 0 l1]
      exact wS z z0 z1
    · rw [low 16 i (by omega)]
      exact wT i i0 i1
    · rw [low 16 i (by omega), low 16 j (by omega)]
      exact wD i j i0 i1 j0 j1 hij
  · rw [low 0 7 (by omega)] at z1 z6 ⊢
    obtain ⟨l1, l2⟩ := kS z z0 z1
    rw [ne (v 0 7) z (by omega)] at z6 ⊢
    rw [ne _ 3 l1]
    exact h63 z z0 z1 z6
theorem aHy_57 {v : gM} {h : gH} {x s : Int} (hH : aHy v h) (h0 : 0 ≤ x) (h1 : x < v 0 32) (hs : 0 ≤ s ∧ s < (h (v 0 7)).2) : aHy (gUp v (v 16 x) 0 s) h := by
  obtain ⟨g1, g2, g3, g4, g5, g6⟩ := hH
  obtain ⟨n1, n2, n3⟩ := aN_57u (s := s) g1 h0 h1
  have t66 := (g1.2.2.2.1 x h0 h1).1
  exact ⟨n2, by rw [n1]; exact yOK_57 g2 hs, by rw [gUp_ne2 (by omega)]; exact g3, by rw [gUp_ne2 (by omega)]; exact g4, n3 g5, by rw [gUp_ne2 (by omega)]; exact g6⟩

set_option maxHeartbeats 2000000 in
theorem ct_X0_goRoundAs {x s : Int} (hH : aHy v (gHd K)) (hx : 0 ≤ x ∧ x < v 0 32) (hs : 0 ≤ s ∧ s < (gHd K (v 0 7)).2) (k1 : ∀ (v1 : gM) (m l : Nat), oHas (gUp (aN v (gHd K) 17) 57 x s) m l → aScr v v1 → v1 0 42 = l → 1 ≤ l → l ≤ 2000 → v1 34 x = yGn (gUp (aN v (gHd K) 17) 57 x s) x m l → (0 ≤ yGn (gUp (aN v (gHd K) 17) 57 x s) x m l ∧ yGn (gUp (aN v (gHd K) 17) 57 x s) x m l ≤ 200000000) → Q (0, 1) v1 (gHd K) t) (k0 : oNo (gUp (aN v (gHd K) 17) 57 x s) → ∀ v1, aScr v v1 → Q (0, 0) v1 (gHd K) t) : Ctr Γ mX0_goRoundAs [(2, 0), (0, x), (0, s)] v (gHd K) t Q := by
  refine Ctr.ofG (ls := [(2, 0), (0, x), (0, s), (9, 0), (9, 0)]) rfl rfl rfl rfl rfl ?_
  obtain ⟨t66, tk⟩ := hH.1.2.2.2.1 x hx.1 hx.2
  have h32 := hH.2.1.2.2.1
  rw [aN_c33] at h32
  refine Gx_aload_n (i := 0) dX0_goRoundAs_0 rfl rfl ?_
  refine gf_X0_79_20 dX0_goRoundAs_1 rfl rfl ?_
  refine Gx_iload_n (i := 1) dX0_goRoundAs_4 rfl rfl ?_
  refine Gx_aaload18 dX0_goRoundAs_5 rfl (by first | omega | (simp (disch := omega) only [w32_id]; omega)) ?_
  refine gf_X0_321_8 dX0_goRoundAs_6 rfl (pairEq tk) ?_
  refine Gx_istore_n_3 dX0_goRoundAs_9 (Nat.le_of_ble_eq_true rfl) (Nat.ne_of_beq_eq_false rfl) ?_
  refine Gx_aload_n (i := 0) dX0_goRoundAs_10 rfl rfl ?_
  refine gf_X0_79_20 dX0_goRoundAs_11 rfl rfl ?_
  refine Gx_iload_n (i := 1) dX0_goRoundAs_14 rfl rfl ?_
  refine Gx_aaload18 dX0_goRoundAs_15 rfl (by first | omega | (simp (disch := omega) only [w32_id]; omega)) ?_
  refine Gx_iload_n (i := 2) dX0_goRoundAs_16 rfl rfl ?_
  refine pf_X0_321_8 dX0_goRoundAs_17 rfl (pairEq tk) ?_
  refine Gx_aload_n (i := 0) dX0_goRoundAs_20 rfl rfl ?_
  refine cl_X0_477 dX0_goRoundAs_21 rfl rfl ⟨(Nat.le_of_ble_eq_true rfl), (Nat.le_of_ble_eq_true rfl)⟩ rfl ?_
  refine Ctr_name (fun vA eA => ?_)
  have hHA : aHy vA (gHd K) := by rw [eA]; exact aHy_57 hH hx.1 hx.2 hs
  have nA : aN vA (gHd K) 17 = (gUp (aN v (gHd K) 17) 57 x s) := by rw [eA]; exact (aN_57u hH.1 hx.1 hx.2).1
  have lA : ∀ a k, a < 66 → vA a k = v a k := fun a k ha => by rw [eA, gUp_ne2 (by omega)]
  refine ct_X0_goR hHA (fun v1 m l hml hS e41 e42 l1 l2 hA e44 hu q33 q22 b46 bO bP => ?_) (fun hno v1 hS => ?_)
  all_goals rw [nA] at *
  · refine Gx_istore_4 dX0_goRoundAs_24 (Nat.le_of_ble_eq_true rfl) (Nat.ne_of_beq_eq_false rfl) ?_
    refine Gx_aload_n (i := 0) dX0_goRoundAs_26 rfl rfl ?_
    refine gf_X0_79_20 dX0_goRoundAs_27 rfl rfl ?_
    refine Gx_iload_n (i := 1) dX0_goRoundAs_30 rfl rfl ?_
    refine Gx_aaload18 dX0_goRoundAs_31 rfl (by first | omega | (simp (disch := omega) only [w32_id]; omega)) ?_
    rw [show v1 16 x = v 16 x by rw [hS 16 x (by omega)]; exact lA 16 x (by omega)]
    refine Gx_iload_n (i := 3) dX0_goRoundAs_32 rfl rfl ?_
    refine pf_X0_321_8 dX0_goRoundAs_33 rfl (pairEq tk) ?_
    refine Gx_iload dX0_goRoundAs_36 rfl ?_
    refine Gx_ireturn dX0_goRoundAs_38 (Or.inr rfl) ?_
    have f1 : aScr v (gUp v1 (v 16 x) 0 (v (v 16 x) 0)) := fun a k hk => by
      by_cases g : a = v 16 x ∧ k = 0
      · rw [gUp_eq2 g.1 g.2, g.1, g.2]
      · rw [gUp_ne2 g, hS a k hk, eA, gUp_ne2 g]
    first
    | (have q32 : vA 0 32 = v 0 32 := lA 0 32 (by omega)
       refine k1 _ m l hml f1 (by rw [gUp_ne2 (by omega)]; exact e42) l1 l2 (by rw [gUp_ne2 (by omega)]; exact (hA.2.2.2.2.2.1 x hx.1 (by omega)).2) ?_
       have t2 := yTot_le (F := yG1 x) (u := yIt (gUp (aN v (gHd K) 17) 57 x s) m) (B := 86400) (fun q => yG1_le (yOK_it hu q) (by rw [(yIt_o (by omega) q).1]; omega)) l
       unfold yGn
       omega)
    | exact k0 hno _ f1
  · refine Gx_istore_4 dX0_goRoundAs_24 (Nat.le_of_ble_eq_true rfl) (Nat.ne_of_beq_eq_false rfl) ?_
    refine Gx_aload_n (i := 0) dX0_goRoundAs_26 rfl rfl ?_
    refine gf_X0_79_20 dX0_goRoundAs_27 rfl rfl ?_
    refine Gx_iload_n (i := 1) dX0_goRoundAs_30 rfl rfl ?_
    refine Gx_aaload18 dX0_goRoundAs_31 rfl (by first | omega | (simp (disch := omega) only [w32_id]; omega)) ?_
    rw [show v1 16 x = v 16 x by rw [hS 16 x (by omega)]; exact lA 16 x (by omega)]
    refine Gx_iload_n (i := 3) dX0_goRoundAs_32 rfl rfl ?_
    refine pf_X0_321_8 dX0_goRoundAs_33 rfl (pairEq tk) ?_
    refine Gx_iload dX0_goRoundAs_36 rfl ?_
    refine Gx_ireturn dX0_goRoundAs_38 (Or.inl rfl) ?_
    have f1 : aScr v (gUp v1 (v 16 x) 0 (v (v 16 x) 0)) := fun a k hk => by
      by_cases g : a = v 16 x ∧ k = 0
      · rw [gUp_eq2 g.1 g.2, g.1, g.2]
      · rw [gUp_ne2 g, hS a k hk, eA, gUp_ne2 g]
    first
    | (have q32 : vA 0 32 = v 0 32 := lA 0 32 (by omega)
       refine k1 _ m l hml f1 (by rw [gUp_ne2 (by omega)]; exact e42) l1 l2 (by rw [gUp_ne2 (by omega)]; exact (hA.2.2.2.2.2.1 x hx.1 (by omega)).2) ?_
       have t2 := yTot_le (F := yG1 x) (u := yIt (gUp (aN v (gHd K) 17) 57 x s) m) (B := 86400) (fun q => yG1_le (yOK_it hu q) (by rw [(yIt_o (by omega) q).1]; omega)) l
       unfold yGn
       omega)
    | exact k0 hno _ f1
set_option maxHeartbeats 2000000 in
theorem ct_X0_better {x s : Int} (hH : aHy v (gHd K)) (kB : ¬ ((0 ≤ x ∧ x < v 0 32) ∧ 0 ≤ s ∧ s < (gHd K (v 0 7)).2) → Q (0, -1) v (gHd K) t) (k1 : (0 ≤ x ∧ x < v 0 32) → (0 ≤ s ∧ s < (gHd K (v 0 7)).2) → ∀ (v1 : gM) (m l m' l' : Nat), oHas (aN v (gHd K) 17) m l → oHas (gUp (aN v (gHd K) 17) 57 x s) m' l' → aScr v v1 → Q (0, yHow (yGn (aN v (gHd K) 17) x m l) l (yGn (gUp (aN v (gHd K) 17) 57 x s) x m' l') l') (tFrac v1 (yGn (gUp (aN v (gHd K) 17) 57 x s) x m' l') l') (gHd K) t) (k0 : (0 ≤ x ∧ x < v 0 32) → (0 ≤ s ∧ s < (gHd K (v 0 7)).2) → (oNo (aN v (gHd K) 17) ∨ oNo (gUp (aN v (gHd K) 17) 57 x s)) → ∀ v1, aScr v v1 → Q (0, -6) v1 (gHd K) t) : Ctr Γ mX0_better [(2, 0), (0, x), (0, s)] v (gHd K) t Q := by
  refine Ctr.ofG (ls := [(2, 0), (0, x), (0, s), (9, 0), (9, 0), (9, 0), (9, 0), (9, 0), (9, 0)]) rfl rfl rfl rfl rfl ?_
  have h32 := hH.2.1.2.2.1
  rw [aN_c33] at h32
  refine Gx_aload_n (i := 0) dX0_better_0 rfl rfl ?_
  refine Gx_iload_n (i := 1) dX0_better_1 rfl rfl ?_
  refine cl_X0_330 dX0_better_2 rfl rfl ⟨(Nat.le_of_ble_eq_true rfl), (Nat.le_of_ble_eq_true rfl)⟩ rfl ?_
  refine ct_X0_isTree hH.2.1.2.2.1 (fun hx => ?_) (fun hx => ?_)
  · refine Gx_if_eq (tgt := 16) dX0_better_5 (by decide) (fun hz => absurd hz (by decide)) (fun _ => ?_)
    refine Gx_aload_n (i := 0) dX0_better_8 rfl rfl ?_
    refine Gx_iload_n (i := 2) dX0_better_9 rfl rfl ?_
    refine cl_X0_291 dX0_better_10 rfl rfl ⟨(Nat.le_of_ble_eq_true rfl), (Nat.le_of_ble_eq_true rfl)⟩ rfl ?_
    refine ct_X0_isSort (pairEq hH.1.1.2.1) hH.1.1.2.2 (fun hs => ?_) (fun hs => ?_)
    · refine Gx_if_ne (tgt := 18) dX0_better_13 (by decide) (fun _ => ?_) (fun hz => absurd hz (by decide))
      refine Gx_aload_n (i := 0) dX0_better_18 rfl rfl ?_
      refine cl_X0_477 dX0_better_19 rfl rfl ⟨(Nat.le_of_ble_eq_true rfl), (Nat.le_of_ble_eq_true rfl)⟩ rfl ?_
      refine ct_X0_goR hH (fun v1 m l hml hS e41 e42 l1 l2 hA e44 hu q33 q22 b46 bO bP => ?_) (fun hno v1 hS => ?_)
      · have s34 := (hA.2.2.2.2.2.1 x hx.1 (by omega)).2
        have t2 := yTot_le (F := yG1 x) (u := (yIt (aN v (gHd K) 17) m)) (B := 86400) (fun q => yG1_le (yOK_it hu q) (by rw [(yIt_o (by omega) q).1]; omega)) l
        refine Gx_if_ne (tgt := 28) dX0_better_22 (by decide) (fun _ => ?_) (fun hz => absurd hz (by decide))
        refine Gx_aload_n (i := 0) dX0_better_28 rfl rfl ?_
        refine gf_X0_117_20 dX0_better_29 rfl rfl ?_
        refine Gx_iload_n (i := 1) dX0_better_32 rfl rfl ?_
        refine Gx_laload dX0_better_33 rfl (by first | omega | (simp (disch := omega) only [w32_id]; omega)) ?_
        rw [s34]
        refine Gx_lstore_n_3 dX0_better_34 (Nat.le_of_ble_eq_true rfl) (Nat.ne_of_beq_eq_false rfl) ?_
        refine Gx_aload_n (i := 0) dX0_better_35 rfl rfl ?_
        refine gf_X0_442_20 dX0_better_36 rfl rfl ?_
        rw [e42]
        refine Gx_i2l dX0_better_39 ?_
        refine Gx_lstore_5 dX0_better_40 (Nat.le_of_ble_eq_true rfl) (Nat.ne_of_beq_eq_false rfl) ?_
        refine Gx_aload_n (i := 0) dX0_better_42 rfl rfl ?_
        refine Gx_iload_n (i := 1) dX0_better_43 rfl rfl ?_
        refine Gx_iload_n (i := 2) dX0_better_44 rfl rfl ?_
        refine cl_X0_488 dX0_better_45 rfl rfl ⟨(Nat.le_of_ble_eq_true rfl), (Nat.le_of_ble_eq_true rfl)⟩ rfl ?_
        have hH1 := aHy_scr hH hS
        have n1 := aScr_N hH.1 hS
        have q32 : v1 0 32 = v 0 32 := hS 0 32 (by omega)
        have q7 : v1 0 7 = v 0 7 := hS 0 7 (by omega)
        refine ct_X0_goRoundAs hH1 (by omega) (by rw [q7]; exact hs) (fun v2 m' l' hml' hS2 f42 l1' l2' f34 bG => ?_) (fun hno v2 hS2 => ?_)
        all_goals rw [n1] at *
        · refine Gx_if_ne (tgt := 54) dX0_better_48 (by decide) (fun _ => ?_) (fun hz => absurd hz (by decide))
          refine Gx_aload_n (i := 0) dX0_better_54 rfl rfl ?_
          refine gf_X0_117_20 dX0_better_55 rfl rfl ?_
          refine Gx_iload_n (i := 1) dX0_better_58 rfl rfl ?_
          refine Gx_laload dX0_better_59 rfl (by first | omega | (simp (disch := omega) only [w32_id]; omega)) ?_
          rw [f34]
          have bA : 0 ≤ (yGn (aN v (gHd K) 17) x m l) ∧ (yGn (aN v (gHd K) 17) x m l) ≤ 200000000 := by unfold yGn; omega
          have p1 := mul_le_of bG.1 bG.2 (show 0 ≤ (l : Int) by omega) (show (l : Int) ≤ 2000 by omega)
          have p2 := mul_le_of bA.1 bA.2 (show 0 ≤ (l' : Int) by omega) (show (l' : Int) ≤ 2000 by omega)
          refine Gx_lload dX0_better_60 rfl ?_
          refine Gx_lmul dX0_better_62 ?_
          rw [w64_id (by omega) (by omega)]
          refine Gx_lload_n (i := 3) dX0_better_63 rfl rfl ?_
          refine Gx_aload_n (i := 0) dX0_better_64 rfl rfl ?_
          refine gf_X0_442_20 dX0_better_65 rfl rfl ?_
          rw [f42]
          refine Gx_i2l dX0_better_68 ?_
          refine Gx_lmul dX0_better_69 ?_
          rw [w64_id (x := (yGn (aN v (gHd K) 17) x m l) * (l' : Int)) (by omega) (by omega)]
          refine Gx_lsub dX0_better_70 ?_
          rw [w64_id (by omega) (by omega)]
          refine Gx_lstore_7 dX0_better_71 (Nat.le_of_ble_eq_true rfl) (Nat.ne_of_beq_eq_false rfl) ?_
          refine Gx_aload_n (i := 0) dX0_better_73 rfl rfl ?_
          refine Gx_aload_n (i := 0) dX0_better_74 rfl rfl ?_
          refine gf_X0_117_20 dX0_better_75 rfl rfl ?_
          refine Gx_iload_n (i := 1) dX0_better_78 rfl rfl ?_
          refine Gx_laload dX0_better_79 rfl (by first | omega | (simp (disch := omega) only [w32_id]; omega)) ?_
          rw [f34]
          refine Gx_aload_n (i := 0) dX0_better_80 rfl rfl ?_
          refine gf_X0_442_20 dX0_better_81 rfl rfl ?_
          rw [f42]
          refine Gx_i2l dX0_better_84 ?_
          refine Gx_lload dX0_better_85 rfl ?_
          refine Gx_lconst0 dX0_better_87 ?_
          refine Gx_lcmpif_le (tgt := 96) dX0_better_88 dX0_better_89 (by decide) (fun c88 => ?_) (fun c88 => ?_)
          · refine Gx_lload dX0_better_96 rfl ?_
            refine Gx_lconst0 dX0_better_98 ?_
            refine Gx_lcmpif_ne (tgt := 107) dX0_better_99 dX0_better_100 (by decide) (fun c99 => ?_) (fun c99 => ?_)
            · refine Gx_iconst ⟨by decide, by decide⟩ dX0_better_107 ?_
              refine cl_X0_484 dX0_better_108 rfl rfl ⟨(Nat.le_of_ble_eq_true rfl), (Nat.le_of_ble_eq_true rfl)⟩ rfl ?_
              refine ct_X0_tell (by omega) ?_
              refine Gx_ireturn dX0_better_111 trivial ?_
              have kk := k1 hx hs v2 m l m' l' hml hml' (aScr_t hS hS2)
              unfold yHow at kk
              first
              | (rw [if_pos (by omega)] at kk; exact kk)
              | (rw [if_neg (by omega), if_pos (by omega)] at kk; exact kk)
              | (rw [if_neg (by omega), if_neg (by omega)] at kk; exact kk)
            · refine Gx_iconst ⟨by decide, by decide⟩ dX0_better_103 ?_
              refine Gx_goto (tgt := 108) dX0_better_104 (by decide) ?_
              refine cl_X0_484 dX0_better_108 rfl rfl ⟨(Nat.le_of_ble_eq_true rfl), (Nat.le_of_ble_eq_true rfl)⟩ rfl ?_
              refine ct_X0_tell (by omega) ?_
              refine Gx_ireturn dX0_better_111 trivial ?_
              have kk := k1 hx hs v2 m l m' l' hml hml' (aScr_t hS hS2)
              unfold yHow at kk
              first
              | (rw [if_pos (by omega)] at kk; exact kk)
              | (rw [if_neg (by omega), if_pos (by omega)] at kk; exact kk)
              | (rw [if_neg (by omega), if_neg (by omega)] at kk; exact kk)
          · refine Gx_iconst ⟨by decide, by decide⟩ dX0_better_92 ?_
            refine Gx_goto (tgt := 108) dX0_better_93 (by decide) ?_
            refine cl_X0_484 dX0_better_108 rfl rfl ⟨(Nat.le_of_ble_eq_true rfl), (Nat.le_of_ble_eq_true rfl)⟩ rfl ?_
            refine ct_X0_tell (by omega) ?_
            refine Gx_ireturn dX0_better_111 trivial ?_
            have kk := k1 hx hs v2 m l m' l' hml hml' (aScr_t hS hS2)
            unfold yHow at kk
            first
            | (rw [if_pos (by omega)] at kk; exact kk)
            | (rw [if_neg (by omega), if_pos (by omega)] at kk; exact kk)
            | (rw [if_neg (by omega), if_neg (by omega)] at kk; exact kk)
        · refine Gx_if_ne (tgt := 54) dX0_better_48 (by decide) (fun hz => absurd hz (by decide)) (fun _ => ?_)
          refine Gx_bipush dX0_better_51 ⟨by decide, by decide⟩ ?_
          refine Gx_ireturn dX0_better_53 trivial ?_
          exact k0 hx hs (Or.inr hno) v2 (aScr_t hS hS2)
      · refine Gx_if_ne (tgt := 28) dX0_better_22 (by decide) (fun hz => absurd hz (by decide)) (fun _ => ?_)
        refine Gx_bipush dX0_better_25 ⟨by decide, by decide⟩ ?_
        refine Gx_ireturn dX0_better_27 trivial ?_
        exact k0 hx hs (Or.inl hno) v1 hS
    · refine Gx_if_ne (tgt := 18) dX0_better_13 (by decide) (fun hz => absurd hz (by decide)) (fun _ => ?_)
      refine Gx_iconst ⟨by decide, by decide⟩ dX0_better_16 ?_
      refine Gx_ireturn dX0_better_17 trivial ?_
      exact kB (by omega)
  · refine Gx_if_eq (tgt := 16) dX0_better_5 (by decide) (fun _ => ?_) (fun hz => absurd hz (by decide))
    refine Gx_iconst ⟨by decide, by decide⟩ dX0_better_16 ?_
    refine Gx_ireturn dX0_better_17 trivial ?_
    exact kB (by omega)
end
