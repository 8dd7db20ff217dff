/-! AcornYears: need -/
section
variable {Γ : gC} {v : gM} {K : gH} {t : Nat} {Q : gQ}
theorem wOr_b1 {b : Int} (hb : b = 0 ∨ b = 1) : wOr b 1 = 1 := by
  rcases hb with z | z <;> subst z <;> decide +kernel
theorem wOr_b0 {b : Int} (hb : b = 0 ∨ b = 1) : wOr b 0 = b := by
  rcases hb with z | z <;> subst z <;> decide +kernel
theorem aN_35 {v : gM} {h : gH} {q : Int} (hW : aWf v h) (h35 : v 0 35 < 0) (hq : 0 ≤ q) : aN (gUp v 0 35 q) h 17 = yNd (aN v h 17) q ∧ aWf (gUp v 0 35 q) h ∧ (a63 v h → a63 (gUp v 0 35 q) h) := by
  obtain ⟨⟨w7, a1, a2, a3⟩, wS, ⟨w8, b1⟩, wT, wD⟩ := hW
  have ne : ∀ a k, ¬ (a = 0 ∧ k = 35) → gUp v 0 35 q a k = v a k := fun a k hk => gUp_ne2 hk
  refine ⟨?_, ?_, fun h63 z z0 z1 z6 => ?_⟩
  · funext a k
    by_cases c50 : a = 50
    · subst c50
      have e1 : aN (gUp v 0 35 q) h 17 50 k = (if 0 ≤ k ∧ k < 7 * (h (v 0 7)).2 then aS (gUp v 0 35 q) h (v (v 0 7) (k / 7)) (k % 7) else 0) := by
        show (if 0 ≤ k ∧ k < 7 * (h (gUp v 0 35 q 0 7)).2 then aS (gUp v 0 35 q) h (gUp v 0 35 q (gUp v 0 35 q 0 7) (k / 7)) (k % 7) else 0) = _
        rw [ne 0 7 (by omega), ne (v 0 7) (k / 7) (by omega)]
      have e2 : aN v h 17 38 20 = (h (v 0 7)).2 := rfl
      rw [e1]
      unfold yNd
      rw [e2]
      by_cases cr : 0 ≤ k ∧ k < 7 * (h (v 0 7)).2
      · rw [if_pos cr]
        have eo : aN v h 17 50 k = aS v h (v (v 0 7) (k / 7)) (k % 7) := if_pos cr
        have g66 := (wS (k / 7) (by omega) (by omega)).1
        have ga := (wS (k / 7) (by omega) (by omega)).2.2.1
        by_cases c6 : k % 7 = 6
        · have e0 : aN v h 17 50 (k - 6) = aKd (h (v (v 0 7) (k / 7))).1 := by
            have := aN_S0 (v := v) (h := h) (x := 17) (s := k / 7) (by omega) (by omega)
            rw [show 7 * (k / 7) = k - 6 by omega] at this
            exact this
          rw [e0, eo, c6]
          unfold aS
          rw [gUp_eq2 rfl rfl, ne (v (v 0 7) (k / 7)) 3 (by omega), if_neg (show ¬ (6 : Int) = 0 by omega), if_neg (show ¬ (6 : Int) ≤ 3 by omega), if_neg (show ¬ (6 : Int) = 4 by omega), if_neg (show ¬ (6 : Int) = 5 by omega), if_neg (show ¬ (6 : Int) = 0 by omega), if_neg (show ¬ (6 : Int) ≤ 3 by omega), if_neg (show ¬ (6 : Int) = 4 by omega), if_neg (show ¬ (6 : Int) = 5 by omega), if_pos hq, if_neg (show ¬ 0 ≤ v 0 35 by omega)]
          have hk := (wS (k / 7) (by omega) (by omega)).2.1
          generalize (h (v (v 0 7) (k / 7))).1 = kk at hk
          rcases (by omega : kk = 3 ∨ kk = 4 ∨ kk = 5 ∨ kk = 6 ∨ kk = 7) with z | z | z | z | z <;> subst z
          · rw [if_neg (show ¬ ((50 : Int) = 50 ∧ 0 ≤ k ∧ k < 7 * (h (v 0 7)).2 ∧ (6 : Int) = 6 ∧ aKd 3 = 4) from fun z => absurd z.2.2.2.2 (by decide))]
            rfl
          · rw [if_neg (show ¬ ((50 : Int) = 50 ∧ 0 ≤ k ∧ k < 7 * (h (v 0 7)).2 ∧ (6 : Int) = 6 ∧ aKd 4 = 4) from fun z => absurd z.2.2.2.2 (by decide))]
            rfl
          · rw [if_neg (show ¬ ((50 : Int) = 50 ∧ 0 ≤ k ∧ k < 7 * (h (v 0 7)).2 ∧ (6 : Int) = 6 ∧ aKd 5 = 4) from fun z => absurd z.2.2.2.2 (by decide))]
            rfl
          · rw [if_pos (show (50 : Int) = 50 ∧ 0 ≤ k ∧ k < 7 * (h (v 0 7)).2 ∧ (6 : Int) = 6 ∧ aKd 6 = 4 from ⟨rfl, cr.1, cr.2, rfl, by decide⟩)]
            rfl
          · rw [if_neg (show ¬ ((50 : Int) = 50 ∧ 0 ≤ k ∧ k < 7 * (h (v 0 7)).2 ∧ (6 : Int) = 6 ∧ aKd 7 = 4) from fun z => absurd z.2.2.2.2 (by decide))]
            rfl
        · rw [if_neg (fun z => c6 z.2.2.2.1), eo]
          have m0 : 0 ≤ k % 7 ∧ k % 7 < 6 := by omega
          unfold aS
          rw [ne (v (v 0 7) (k / 7)) 0 (by omega), ne (v (v (v 0 7) (k / 7)) 0) (k % 7 - 1) (by omega), ne (v (v 0 7) (k / 7)) 1 (by omega), ne (v (v 0 7) (k / 7)) 2 (by omega)]
          by_cases q0 : k % 7 = 0
          · rw [if_pos q0, if_pos q0]
          · rw [if_neg q0, if_neg q0]
            by_cases q3 : k % 7 ≤ 3
            · rw [if_pos q3, if_pos q3]
            · rw [if_neg q3, if_neg q3]
              by_cases q4 : k % 7 = 4
              · rw [if_pos q4, if_pos q4]
              · rw [if_neg q4, if_neg q4, if_pos (show k % 7 = 5 by omega), if_pos (show k % 7 = 5 by omega)]
      · rw [if_neg cr, if_neg (fun z => cr ⟨z.2.1, z.2.2.1⟩)]
        exact (if_neg cr).symm
    · unfold yNd
      rw [if_neg (fun z => c50 z.1)]
      unfold aN
      rw [if_neg c50, if_neg c50, ne 0 7 (by omega), ne 0 8 (by omega), ne 0 10 (by omega), ne 0 11 (by omega), ne 0 12 (by omega), ne 0 32 (by omega), ne 17 2 (by omega), ne 7 k (by omega), ne 8 k (by omega), ne 9 k (by omega), ne (v 0 8) k (by omega), ne 5 k (by omega), ne 16 k (by omega), ne (17 + 1) k (by omega), ne (17 + 2) k (by omega)]
      by_cases c57 : a = 57
      · subst c57
        show (if 0 ≤ k ∧ k < v 0 32 then gUp v 0 35 q (v 16 k) 0 else 0) = (if 0 ≤ k ∧ k < v 0 32 then v (v 16 k) 0 else 0)
        rw [ne (v 16 k) 0 (by omega)]
      · rw [if_neg c57, if_neg c57]
  · unfold aWf
    rw [ne 0 7 (by omega), ne 0 8 (by omega), ne 0 32 (by omega)]
    refine ⟨⟨w7, a1, a2, a3⟩, fun z z0 z1 => ?_, ⟨w8, b1⟩, fun i i0 i1 => ?_, fun i j i0 i1 j0 j1 hij => ?_⟩
    · have g66 := (wS z z0 z1).1
      rw [ne (v 0 7) z (by omega), ne (v (v 0 7) z) 0 (by omega)]
      exact wS z z0 z1
    · rw [ne 16 i (by omega)]
      exact wT i i0 i1
    · rw [ne 16 i (by omega), ne 16 j (by omega)]
      exact wD i j i0 i1 j0 j1 hij
  · rw [ne 0 7 (by omega)] at z1 z6 ⊢
    have g66 := (wS z z0 z1).1
    rw [ne (v 0 7) z (by omega)] at z6 ⊢
    rw [ne _ 3 (by omega)]
    exact h63 z z0 z1 z6
theorem aHy_35 {v : gM} {h : gH} {q : Int} (hH : aHy v h) (h35 : v 0 35 < 0) (hq : 0 ≤ q ∧ q ≤ 99) : aHy (gUp v 0 35 q) h ∧ aN (gUp v 0 35 q) h 17 = yNd (aN v h 17) q := by
  obtain ⟨g1, g2, g3, g4, g5, g6⟩ := hH
  obtain ⟨n1, n2, n3⟩ := aN_35 g1 h35 hq.1
  exact ⟨⟨n2, by rw [n1]; exact yOK_nd g2 hq, by rw [gUp_ne2 (by omega)]; exact g3, by rw [gUp_eq2 rfl rfl]; exact hq.2, n3 g5, by rw [gUp_ne2 (by omega)]; exact g6⟩, n1⟩

set_option maxHeartbeats 1000000 in
theorem lp_X0_need1 {m : Int} {bc bs : Nat} (hW : aWf v (gHd K)) (hm : (gHd K (v 0 7)).2 = m) (cont : ∀ b z5, ((b = 1 ∧ ∃ s, 0 ≤ s ∧ s < m ∧ (aN v (gHd K) 17) 50 (7 * s) = 4) ∨ (b = 0 ∧ ∀ s, 0 ≤ s → s < m → (aN v (gHd K) 17) 50 (7 * s) ≠ 4)) → Gx Γ mX0_need 40 [(2, 0), (0, b), (2, v 0 7), (0, m), (0, m), z5] [] v (gHd K) t bc bs Q) : ∀ (j : Nat) (i b : Int) (z5 : gV), 0 ≤ i → i + j = m → ((b = 1 ∧ ∃ s, 0 ≤ s ∧ s < i ∧ (aN v (gHd K) 17) 50 (7 * s) = 4) ∨ (b = 0 ∧ ∀ s, 0 ≤ s → s < i → (aN v (gHd K) 17) 50 (7 * s) ≠ 4)) → Gx Γ mX0_need 13 [(2, 0), (0, b), (2, v 0 7), (0, m), (0, i), z5] [] v (gHd K) t bc bs Q := by
  intro j
  induction j with
  | zero =>
    intro i b z5 h0 h1 hb
    refine Gx_iload dX0_need_13 rfl ?_
    refine Gx_iload_n (i := 3) dX0_need_15 rfl rfl ?_
    refine Gx_icmp_ge (tgt := 40) dX0_need_16 (by decide) (fun c16 => ?_) (fun c16 => ?_)
    · have e0 : i = m := by omega
      subst e0
      exact cont b z5 hb
    · exfalso
      omega
  | succ j ih =>
    intro i b z5 h0 h1 hb
    have hm6 := hW.1.2.2
    have hb01 : b = 0 ∨ b = 1 := by rcases hb with z | z <;> omega
    obtain ⟨oi, hk3, ai, hA⟩ := hW.2.1 i h0 (by omega)
    have hh7 : gHd K (v 0 7) = (17, m) := by rw [← hm]; exact pairEq hW.1.2.1
    have hho : gHd K (v (v 0 7) i) = ((gHd K (v (v 0 7) i)).1, (gHd K (v (v 0 7) i)).2) := rfl
    have e0 : (aN v (gHd K) 17) 50 (7 * i) = aKd (gHd K (v (v 0 7) i)).1 := aN_S0 h0 (by omega)
    refine Gx_iload dX0_need_13 rfl ?_
    refine Gx_iload_n (i := 3) dX0_need_15 rfl rfl ?_
    refine Gx_icmp_ge (tgt := 40) dX0_need_16 (by decide) (fun c16 => ?_) (fun c16 => ?_)
    · exfalso
      omega
    · refine Gx_aload_n (i := 2) dX0_need_19 rfl rfl ?_
      refine Gx_iload dX0_need_20 rfl ?_
      refine Gx_aaload17 dX0_need_22 hh7 (by first | omega | (simp (disch := omega) only [w32_id]; omega)) ?_
      refine Gx_astore_5 dX0_need_23 (Nat.le_of_ble_eq_true rfl) (Nat.ne_of_beq_eq_false rfl) ?_
      refine Gx_iload_n (i := 1) dX0_need_25 rfl rfl ?_
      refine Gx_aload dX0_need_26 rfl ?_
      refine Gx_iconst ⟨by decide, by decide⟩ dX0_need_28 ?_
      refine gv_X0_416 dX0_need_29 rfl hho hk3 ⟨(Nat.le_of_ble_eq_true rfl), (Nat.le_of_ble_eq_true rfl)⟩ rfl (fun his => ?_) (fun his => ?_)
      · refine Gx_ior dX0_need_32 ?_
        refine Gx_istore_n_1 dX0_need_33 (Nat.le_of_ble_eq_true rfl) (Nat.ne_of_beq_eq_false rfl) ?_
        refine Gx_iinc_4 dX0_need_34 (Nat.le_of_ble_eq_true rfl) (Nat.ne_of_beq_eq_false rfl) ?_
        try simp (disch := omega) only [w32_id]
        refine Gx_goto (tgt := 13) dX0_need_37 (by decide) ?_
        first
        | (have e4 : (aN v (gHd K) 17) 50 (7 * i) = 4 := by
             rw [e0]
             rcases his with z | z | z
             · omega
             · exact z.symm
             · omega
           rw [wOr_b1 hb01]
           exact ih (i + 1) 1 _ (by omega) (by omega) (Or.inl ⟨rfl, i, h0, by omega, e4⟩))
        | (have e4 : (aN v (gHd K) 17) 50 (7 * i) ≠ 4 := by
             rw [e0]
             exact fun z => his (Or.inr (Or.inl z.symm))
           rw [wOr_b0 hb01]
           refine ih (i + 1) b _ (by omega) (by omega) ?_
           rcases hb with ⟨z, s, s0, s1, s4⟩ | ⟨z, hn⟩
           · exact Or.inl ⟨z, s, s0, by omega, s4⟩
           · refine Or.inr ⟨z, fun s s0 s1 => ?_⟩
             by_cases g : s = i
             · rw [g]; exact e4
             · exact hn s s0 (by omega))
      · refine Gx_ior dX0_need_32 ?_
        refine Gx_istore_n_1 dX0_need_33 (Nat.le_of_ble_eq_true rfl) (Nat.ne_of_beq_eq_false rfl) ?_
        refine Gx_iinc_4 dX0_need_34 (Nat.le_of_ble_eq_true rfl) (Nat.ne_of_beq_eq_false rfl) ?_
        try simp (disch := omega) only [w32_id]
        refine Gx_goto (tgt := 13) dX0_need_37 (by decide) ?_
        first
        | (have e4 : (aN v (gHd K) 17) 50 (7 * i) = 4 := by
             rw [e0]
             rcases his with z | z | z
             · omega
             · exact z.symm
             · omega
           rw [wOr_b1 hb01]
           exact ih (i + 1) 1 _ (by omega) (by omega) (Or.inl ⟨rfl, i, h0, by omega, e4⟩))
        | (have e4 : (aN v (gHd K) 17) 50 (7 * i) ≠ 4 := by
             rw [e0]
             exact fun z => his (Or.inr (Or.inl z.symm))
           rw [wOr_b0 hb01]
           refine ih (i + 1) b _ (by omega) (by omega) ?_
           rcases hb with ⟨z, s, s0, s1, s4⟩ | ⟨z, hn⟩
           · exact Or.inl ⟨z, s, s0, by omega, s4⟩
           · refine Or.inr ⟨z, fun s s0 s1 => ?_⟩
             by_cases g : s = i
             · rw [g]; exact e4
             · exact hn s s0 (by omega))
theorem bef_1 {P : Int → Prop} {q : Int} (h : ∀ z, 0 ≤ z → z < q → ¬ P z) (hp : ¬ P q) : ∀ z, 0 ≤ z → z < q + 1 → ¬ P z := by
  intro z z0 z1
  by_cases g : z = q
  · rw [g]; exact hp
  · exact h z z0 (by omega)
theorem yNe_no {u : gM} {q : Int} (h : oNo (yNd u q)) : ¬ yNe u q := fun z => by
  obtain ⟨m, l, h1, -, -⟩ := z
  exact h m l h1.1 h1.2
theorem yNe_le {u : gM} {q : Int} {m l : Nat} (hu : yOK u) (hq : 0 ≤ q ∧ q ≤ 99) (h : oHas (yNd u q) m l) (hn : ¬ (0 < yTot yO1 (yIt (yNd u q) m) l ∧ yTot yP1 (yIt (yNd u q) m) l = yTot yO1 (yIt (yNd u q) m) l)) : ¬ yNe u q := fun z => by
  obtain ⟨m', l', h1, h2, h3⟩ := z
  obtain ⟨e1, e2⟩ := oHas_u (yOK_nd hu hq) h h1
  rw [← e1, ← e2] at h2 h3
  exact hn ⟨h2, h3⟩

set_option maxHeartbeats 4000000 in
theorem lp_X0_need2 {b1 : Int} {bc bs : Nat} {z4 z5 : gV} {v0 : gM} (hH : aHy v0 (gHd K)) (h35 : v0 0 35 = -9) (k1 : ∀ (v1 : gM) (r : Int), aScr v0 v1 → oLst (yNe (aN v0 (gHd K) 17)) 100 r → Q (0, r) v1 (gHd K) t) : ∀ (j : Nat) (q : Int) (v : gM), 0 ≤ q → q + j = 100 → (∀ a k, ¬ (aSq a k ∨ (a = 0 ∧ k = 35)) → v a k = v0 a k) → (∀ z, 0 ≤ z → z < q → ¬ yNe (aN v0 (gHd K) 17) z) → Gx Γ mX0_need 52 [(2, 0), (0, b1), (0, -9), (0, q), z4, z5] [] v (gHd K) t bc bs Q := by
  intro j
  induction j with
  | zero =>
    intro q v h0 h1 hF hB
    refine Gx_iload_n (i := 3) dX0_need_52 rfl rfl ?_
    refine Gx_bipush dX0_need_53 ⟨by decide, by decide⟩ ?_
    refine Gx_icmp_gt (tgt := 108) dX0_need_55 (by decide) (fun c55 => ?_) (fun c55 => ?_)
    · refine Gx_aload_n (i := 0) dX0_need_108 rfl rfl ?_
      refine Gx_bipush dX0_need_109 ⟨by decide, by decide⟩ ?_
      refine pf_X0_93_20 dX0_need_111 rfl rfl ?_
      refine Gx_iload_n (i := 2) dX0_need_114 rfl rfl ?_
      refine Gx_ireturn dX0_need_115 trivial ?_
      refine k1 _ _ (fun a k hk => by
        by_cases g : a = 0 ∧ k = 35
        · rw [gUp_eq2 g.1 g.2, g.1, g.2, h35]
        · rw [gUp_ne2 g]; exact hF a k (by omega)) (Or.inl ⟨rfl, fun z z0 z1 => hB z z0 (by omega)⟩)
    · exfalso
      omega
  | succ j ih =>
    intro q v h0 h1 hF hB
    have hu0 := hH.2.1
    have h32 := hu0.2.2.1
    rw [aN_c33] at h32
    refine Gx_iload_n (i := 3) dX0_need_52 rfl rfl ?_
    refine Gx_bipush dX0_need_53 ⟨by decide, by decide⟩ ?_
    refine Gx_icmp_gt (tgt := 108) dX0_need_55 (by decide) (fun c55 => ?_) (fun c55 => ?_)
    · refine Gx_aload_n (i := 0) dX0_need_108 rfl rfl ?_
      refine Gx_bipush dX0_need_109 ⟨by decide, by decide⟩ ?_
      refine pf_X0_93_20 dX0_need_111 rfl rfl ?_
      refine Gx_iload_n (i := 2) dX0_need_114 rfl rfl ?_
      refine Gx_ireturn dX0_need_115 trivial ?_
      exfalso
      omega
    · refine Gx_iload_n (i := 2) dX0_need_58 rfl rfl ?_
      refine Gx_if_ge (tgt := 108) dX0_need_59 (by decide) (fun c59 => ?_) (fun c59 => ?_)
      · refine Gx_aload_n (i := 0) dX0_need_108 rfl rfl ?_
        refine Gx_bipush dX0_need_109 ⟨by decide, by decide⟩ ?_
        refine pf_X0_93_20 dX0_need_111 rfl rfl ?_
        refine Gx_iload_n (i := 2) dX0_need_114 rfl rfl ?_
        refine Gx_ireturn dX0_need_115 trivial ?_
        exfalso
        omega
      · refine Gx_aload_n (i := 0) dX0_need_62 rfl rfl ?_
        refine Gx_iload_n (i := 3) dX0_need_63 rfl rfl ?_
        refine pf_X0_93_20 dX0_need_64 rfl rfl ?_
        refine Gx_aload_n (i := 0) dX0_need_67 rfl rfl ?_
        refine cl_X0_477 dX0_need_68 rfl rfl ⟨(Nat.le_of_ble_eq_true rfl), (Nat.le_of_ble_eq_true rfl)⟩ rfl ?_
        refine Ctr_name (fun vA eA => ?_)
        obtain ⟨hH2, n2⟩ := aHy_35 hH (by omega) (show 0 ≤ q ∧ q ≤ 99 by omega)
        have sA : aScr (gUp v0 0 35 q) vA := fun a k hk => by
          rw [eA]
          by_cases g : a = 0 ∧ k = 35
          · rw [gUp_eq2 g.1 g.2, gUp_eq2 g.1 g.2]
          · rw [gUp_ne2 g, gUp_ne2 g]
            exact hF a k (by omega)
        have hHA := aHy_scr hH2 sA
        have nA : aN vA (gHd K) 17 = yNd (aN v0 (gHd K) 17) q := by rw [aScr_N hH2.1 sA]; exact n2
        have f1A : ∀ (v1 : gM), aScr vA v1 → ∀ a k, ¬ (aSq a k ∨ (a = 0 ∧ k = 35)) → v1 a k = v0 a k := fun v1 hS a k hk => by
          rw [hS a k (by omega), eA, gUp_ne2 (by omega)]
          exact hF a k hk
        have q32 : vA 0 32 = v0 0 32 := by rw [eA, gUp_ne2 (by omega)]; exact hF 0 32 (by omega)
        refine ct_X0_goR hHA (fun v1 m l hml hS e41 e42 l1 l2 hA e44 hu q33 q22 b46 bO bP => ?_) (fun hno v1 hS => ?_)
        all_goals rw [nA] at *
        · refine Gx_if_eq (tgt := 99) dX0_need_71 (by decide) (fun hz => absurd hz (by decide)) (fun _ => ?_)
          refine Gx_aload_n (i := 0) dX0_need_74 rfl rfl ?_
          refine cl_X0_480 dX0_need_75 rfl rfl ⟨(Nat.le_of_ble_eq_true rfl), (Nat.le_of_ble_eq_true rfl)⟩ rfl ?_
          refine ct_X0_allPairs b46 (by rw [hS 0 32 (by omega), q32]; exact h32) ?_
          rw [bO.1]
          refine Gx_lconst0 dX0_need_78 ?_
          try simp (disch := omega) only [w64_id]
          refine Gx_lcmpif_le (tgt := 99) dX0_need_79 dX0_need_80 (by decide) (fun c79 => ?_) (fun c79 => ?_)
          · refine Gx_bipush dX0_need_99 ⟨by decide, by decide⟩ ?_
            refine Gx_istore_n_2 dX0_need_101 (Nat.le_of_ble_eq_true rfl) (Nat.ne_of_beq_eq_false rfl) ?_
            refine Gx_iinc_3 dX0_need_102 (Nat.le_of_ble_eq_true rfl) (Nat.ne_of_beq_eq_false rfl) ?_
            try simp (disch := omega) only [w32_id]
            refine Gx_goto (tgt := 52) dX0_need_105 (by decide) ?_
            first
            | exact ih (q + 1) v1 (by omega) (by omega) (f1A v1 hS) (bef_1 hB (yNe_no hno))
            | exact ih (q + 1) v1 (by omega) (by omega) (f1A v1 hS) (bef_1 hB (yNe_le hu0 (by omega) hml (by omega)))
            | (refine Gx_iload_n (i := 3) dX0_need_52 rfl rfl ?_
               refine Gx_bipush dX0_need_53 ⟨by decide, by decide⟩ ?_
               refine Gx_icmp_gt (tgt := 108) dX0_need_55 (by decide) (fun c55 => ?_) (fun c55 => ?_)
               · refine Gx_aload_n (i := 0) dX0_need_108 rfl rfl ?_
                 refine Gx_bipush dX0_need_109 ⟨by decide, by decide⟩ ?_
                 refine pf_X0_93_20 dX0_need_111 rfl rfl ?_
                 refine Gx_iload_n (i := 2) dX0_need_114 rfl rfl ?_
                 refine Gx_ireturn dX0_need_115 trivial ?_
                 refine k1 _ q (fun a k hk => by
                   by_cases g : a = 0 ∧ k = 35
                   · rw [gUp_eq2 g.1 g.2, g.1, g.2, h35]
                   · rw [gUp_ne2 g]; exact (f1A v1 hS) a k (by omega)) (Or.inr ⟨by omega, ⟨m, l, hml, by omega, by omega⟩, hB⟩)
               · refine Gx_iload_n (i := 2) dX0_need_58 rfl rfl ?_
                 refine Gx_if_ge (tgt := 108) dX0_need_59 (by decide) (fun c59 => ?_) (fun c59 => ?_)
                 · refine Gx_aload_n (i := 0) dX0_need_108 rfl rfl ?_
                   refine Gx_bipush dX0_need_109 ⟨by decide, by decide⟩ ?_
                   refine pf_X0_93_20 dX0_need_111 rfl rfl ?_
                   refine Gx_iload_n (i := 2) dX0_need_114 rfl rfl ?_
                   refine Gx_ireturn dX0_need_115 trivial ?_
                   refine k1 _ q (fun a k hk => by
                     by_cases g : a = 0 ∧ k = 35
                     · rw [gUp_eq2 g.1 g.2, g.1, g.2, h35]
                     · rw [gUp_ne2 g]; exact (f1A v1 hS) a k (by omega)) (Or.inr ⟨by omega, ⟨m, l, hml, by omega, by omega⟩, hB⟩)
                 · exfalso
                   omega)
          · refine Gx_aload_n (i := 0) dX0_need_83 rfl rfl ?_
            refine gf_X0_454_20 dX0_need_84 rfl rfl ?_
            rw [hA.1]
            refine Gx_aload_n (i := 0) dX0_need_87 rfl rfl ?_
            refine cl_X0_480 dX0_need_88 rfl rfl ⟨(Nat.le_of_ble_eq_true rfl), (Nat.le_of_ble_eq_true rfl)⟩ rfl ?_
            refine ct_X0_allPairs b46 (by rw [hS 0 32 (by omega), q32]; exact h32) ?_
            rw [bO.1]
            try simp (disch := omega) only [w64_id]
            refine Gx_lcmpif_ne (tgt := 99) dX0_need_91 dX0_need_92 (by decide) (fun c91 => ?_) (fun c91 => ?_)
            · refine Gx_bipush dX0_need_99 ⟨by decide, by decide⟩ ?_
              refine Gx_istore_n_2 dX0_need_101 (Nat.le_of_ble_eq_true rfl) (Nat.ne_of_beq_eq_false rfl) ?_
              refine Gx_iinc_3 dX0_need_102 (Nat.le_of_ble_eq_true rfl) (Nat.ne_of_beq_eq_false rfl) ?_
              try simp (disch := omega) only [w32_id]
              refine Gx_goto (tgt := 52) dX0_need_105 (by decide) ?_
              first
              | exact ih (q + 1) v1 (by omega) (by omega) (f1A v1 hS) (bef_1 hB (yNe_no hno))
              | exact ih (q + 1) v1 (by omega) (by omega) (f1A v1 hS) (bef_1 hB (yNe_le hu0 (by omega) hml (by omega)))
              | (refine Gx_iload_n (i := 3) dX0_need_52 rfl rfl ?_
                 refine Gx_bipush dX0_need_53 ⟨by decide, by decide⟩ ?_
                 refine Gx_icmp_gt (tgt := 108) dX0_need_55 (by decide) (fun c55 => ?_) (fun c55 => ?_)
                 · refine Gx_aload_n (i := 0) dX0_need_108 rfl rfl ?_
                   refine Gx_bipush dX0_need_109 ⟨by decide, by decide⟩ ?_
                   refine pf_X0_93_20 dX0_need_111 rfl rfl ?_
                   refine Gx_iload_n (i := 2) dX0_need_114 rfl rfl ?_
                   refine Gx_ireturn dX0_need_115 trivial ?_
                   refine k1 _ q (fun a k hk => by
                     by_cases g : a = 0 ∧ k = 35
                     · rw [gUp_eq2 g.1 g.2, g.1, g.2, h35]
                     · rw [gUp_ne2 g]; exact (f1A v1 hS) a k (by omega)) (Or.inr ⟨by omega, ⟨m, l, hml, by omega, by omega⟩, hB⟩)
                 · refine Gx_iload_n (i := 2) dX0_need_58 rfl rfl ?_
                   refine Gx_if_ge (tgt := 108) dX0_need_59 (by decide) (fun c59 => ?_) (fun c59 => ?_)
                   · refine Gx_aload_n (i := 0) dX0_need_108 rfl rfl ?_
                     refine Gx_bipush dX0_need_109 ⟨by decide, by decide⟩ ?_
                     refine pf_X0_93_20 dX0_need_111 rfl rfl ?_
                     refine Gx_iload_n (i := 2) dX0_need_114 rfl rfl ?_
                     refine Gx_ireturn dX0_need_115 trivial ?_
                     refine k1 _ q (fun a k hk => by
                       by_cases g : a = 0 ∧ k = 35
                       · rw [gUp_eq2 g.1 g.2, g.1, g.2, h35]
                       · rw [gUp_ne2 g]; exact (f1A v1 hS) a k (by omega)) (Or.inr ⟨by omega, ⟨m, l, hml, by omega, by omega⟩, hB⟩)
                   · exfalso
                     omega)
            · refine Gx_iload_n (i := 3) dX0_need_95 rfl rfl ?_
              refine Gx_goto (tgt := 101) dX0_need_96 (by decide) ?_
              refine Gx_istore_n_2 dX0_need_101 (Nat.le_of_ble_eq_true rfl) (Nat.ne_of_beq_eq_false rfl) ?_
              refine Gx_iinc_3 dX0_need_102 (Nat.le_of_ble_eq_true rfl) (Nat.ne_of_beq_eq_false rfl) ?_
              try simp (disch := omega) only [w32_id]
              refine Gx_goto (tgt := 52) dX0_need_105 (by decide) ?_
              first
              | exact ih (q + 1) v1 (by omega) (by omega) (f1A v1 hS) (bef_1 hB (yNe_no hno))
              | exact ih (q + 1) v1 (by omega) (by omega) (f1A v1 hS) (bef_1 hB (yNe_le hu0 (by omega) hml (by omega)))
              | (refine Gx_iload_n (i := 3) dX0_need_52 rfl rfl ?_
                 refine Gx_bipush dX0_need_53 ⟨by decide, by decide⟩ ?_
                 refine Gx_icmp_gt (tgt := 108) dX0_need_55 (by decide) (fun c55 => ?_) (fun c55 => ?_)
                 · refine Gx_aload_n (i := 0) dX0_need_108 rfl rfl ?_
                   refine Gx_bipush dX0_need_109 ⟨by decide, by decide⟩ ?_
                   refine pf_X0_93_20 dX0_need_111 rfl rfl ?_
                   refine Gx_iload_n (i := 2) dX0_need_114 rfl rfl ?_
                   refine Gx_ireturn dX0_need_115 trivial ?_
                   refine k1 _ q (fun a k hk => by
                     by_cases g : a = 0 ∧ k = 35
                     · rw [gUp_eq2 g.1 g.2, g.1, g.2, h35]
                     · rw [gUp_ne2 g]; exact (f1A v1 hS) a k (by omega)) (Or.inr ⟨by omega, ⟨m, l, hml, by omega, by omega⟩, hB⟩)
                 · refine Gx_iload_n (i := 2) dX0_need_58 rfl rfl ?_
                   refine Gx_if_ge (tgt := 108) dX0_need_59 (by decide) (fun c59 => ?_) (fun c59 => ?_)
                   · refine Gx_aload_n (i := 0) dX0_need_108 rfl rfl ?_
                     refine Gx_bipush dX0_need_109 ⟨by decide, by decide⟩ ?_
                     refine pf_X0_93_20 dX0_need_111 rfl rfl ?_
                     refine Gx_iload_n (i := 2) dX0_need_114 rfl rfl ?_
                     refine Gx_ireturn dX0_need_115 trivial ?_
                     refine k1 _ q (fun a k hk => by
                       by_cases g : a = 0 ∧ k = 35
                       · rw [gUp_eq2 g.1 g.2, g.1, g.2, h35]
                       · rw [gUp_ne2 g]; exact (f1A v1 hS) a k (by omega)) (Or.inr ⟨by omega, ⟨m, l, hml, by omega, by omega⟩, hB⟩)
                   · exfalso
                     omega)
        · refine Gx_if_eq (tgt := 99) dX0_need_71 (by decide) (fun _ => ?_) (fun hz => absurd hz (by decide))
          refine Gx_bipush dX0_need_99 ⟨by decide, by decide⟩ ?_
          refine Gx_istore_n_2 dX0_need_101 (Nat.le_of_ble_eq_true rfl) (Nat.ne_of_beq_eq_false rfl) ?_
          refine Gx_iinc_3 dX0_need_102 (Nat.le_of_ble_eq_true rfl) (Nat.ne_of_beq_eq_false rfl) ?_
          try simp (disch := omega) only [w32_id]
          refine Gx_goto (tgt := 52) dX0_need_105 (by decide) ?_
          first
          | exact ih (q + 1) v1 (by omega) (by omega) (f1A v1 hS) (bef_1 hB (yNe_no hno))
          | exact ih (q + 1) v1 (by omega) (by omega) (f1A v1 hS) (bef_1 hB (yNe_le hu0 (by omega) hml (by omega)))
          | (refine Gx_iload_n (i := 3) dX0_need_52 rfl rfl ?_
             refine Gx_bipush dX0_need_53 ⟨by decide, by decide⟩ ?_
             refine Gx_icmp_gt (tgt := 108) dX0_need_55 (by decide) (fun c55 => ?_) (fun c55 => ?_)
             · refine Gx_aload_n (i := 0) dX0_need_108 rfl rfl ?_
               refine Gx_bipush dX0_need_109 ⟨by decide, by decide⟩ ?_
               refine pf_X0_93_20 dX0_need_111 rfl rfl ?_
               refine Gx_iload_n (i := 2) dX0_need_114 rfl rfl ?_
               refine Gx_ireturn dX0_need_115 trivial ?_
               refine k1 _ q (fun a k hk => by
                 by_cases g : a = 0 ∧ k = 35
                 · rw [gUp_eq2 g.1 g.2, g.1, g.2, h35]
                 · rw [gUp_ne2 g]; exact (f1A v1 hS) a k (by omega)) (Or.inr ⟨by omega, ⟨m, l, hml, by omega, by omega⟩, hB⟩)
             · refine Gx_iload_n (i := 2) dX0_need_58 rfl rfl ?_
               refine Gx_if_ge (tgt := 108) dX0_need_59 (by decide) (fun c59 => ?_) (fun c59 => ?_)
               · refine Gx_aload_n (i := 0) dX0_need_108 rfl rfl ?_
                 refine Gx_bipush dX0_need_109 ⟨by decide, by decide⟩ ?_
                 refine pf_X0_93_20 dX0_need_111 rfl rfl ?_
                 refine Gx_iload_n (i := 2) dX0_need_114 rfl rfl ?_
                 refine Gx_ireturn dX0_need_115 trivial ?_
                 refine k1 _ q (fun a k hk => by
                   by_cases g : a = 0 ∧ k = 35
                   · rw [gUp_eq2 g.1 g.2, g.1, g.2, h35]
                   · rw [gUp_ne2 g]; exact (f1A v1 hS) a k (by omega)) (Or.inr ⟨by omega, ⟨m, l, hml, by omega, by omega⟩, hB⟩)
               · exfalso
                 omega)
set_option maxHeartbeats 1000000 in
theorem ct_X0_need  (hH : aHy v (gHd K)) (h35 : v 0 35 = -9) (kS : (∀ s, 0 ≤ s → s < (gHd K (v 0 7)).2 → (aN v (gHd K) 17) 50 (7 * s) ≠ 4) → Q (0, -4) v (gHd K) t) (k1 : (∃ s, 0 ≤ s ∧ s < (gHd K (v 0 7)).2 ∧ (aN v (gHd K) 17) 50 (7 * s) = 4) → ∀ (v1 : gM) (r : Int), aScr v v1 → oLst (yNe (aN v (gHd K) 17)) 100 r → Q (0, r) v1 (gHd K) t) : Ctr Γ mX0_need [(2, 0)] v (gHd K) t Q := by
  refine Ctr.ofG (ls := [(2, 0), (9, 0), (9, 0), (9, 0), (9, 0), (9, 0)]) rfl rfl rfl rfl rfl ?_
  refine Gx_iconst ⟨by decide, by decide⟩ dX0_need_0 ?_
  refine Gx_istore_n_1 dX0_need_1 (Nat.le_of_ble_eq_true rfl) (Nat.ne_of_beq_eq_false rfl) ?_
  refine Gx_aload_n (i := 0) dX0_need_2 rfl rfl ?_
  refine gf_X0_40_20 dX0_need_3 rfl rfl ?_
  refine Gx_astore_n_2 dX0_need_6 (Nat.le_of_ble_eq_true rfl) (Nat.ne_of_beq_eq_false rfl) ?_
  refine Gx_aload_n (i := 2) dX0_need_7 rfl rfl ?_
  refine Gx_alen dX0_need_8 (pairEq hH.1.1.2.1) (by decide) (by decide) ?_
  refine Gx_istore_n_3 dX0_need_9 (Nat.le_of_ble_eq_true rfl) (Nat.ne_of_beq_eq_false rfl) ?_
  refine Gx_iconst ⟨by decide, by decide⟩ dX0_need_10 ?_
  refine Gx_istore_4 dX0_need_11 (Nat.le_of_ble_eq_true rfl) (Nat.ne_of_beq_eq_false rfl) ?_
  refine lp_X0_need1 hH.1 rfl (fun b z5 hb => ?_) (gHd K (v 0 7)).2.toNat 0 0 _ (by omega) (by have := hH.1.1.2.2; omega) (Or.inr ⟨rfl, fun s s0 s1 => absurd s1 (by omega)⟩)
  refine Gx_iload_n (i := 1) dX0_need_40 rfl rfl ?_
  refine Gx_if_ne (tgt := 47) dX0_need_41 (by decide) (fun c41 => ?_) (fun c41 => ?_)
  · refine Gx_bipush dX0_need_47 ⟨by decide, by decide⟩ ?_
    refine Gx_istore_n_2 dX0_need_49 (Nat.le_of_ble_eq_true rfl) (Nat.ne_of_beq_eq_false rfl) ?_
    refine Gx_iconst ⟨by decide, by decide⟩ dX0_need_50 ?_
    refine Gx_istore_n_3 dX0_need_51 (Nat.le_of_ble_eq_true rfl) (Nat.ne_of_beq_eq_false rfl) ?_
    exact lp_X0_need2 (v0 := v) hH h35 (k1 (by
      rcases hb with ⟨z, hs⟩ | ⟨z, hs⟩
      · exact hs
      · exact absurd z (by omega))) 100 0 v (by omega) (by omega) (fun _ _ _ => rfl) (fun z z0 z1 => absurd z1 (by omega))
  · refine Gx_bipush dX0_need_44 ⟨by decide, by decide⟩ ?_
    refine Gx_ireturn dX0_need_46 trivial ?_
    refine kS ?_
    rcases hb with ⟨z, hs⟩ | ⟨z, hs⟩
    · exact absurd z (by omega)
    · exact hs
end
