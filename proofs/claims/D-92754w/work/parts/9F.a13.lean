/-! AcornYears: run -/
section
variable {Γ : gC} {v : gM} {K : gH} {t : Nat} {Q : gQ}
/-- years by the calendar, as they are: v1 behind n of them -/
def oRa (v v1 : gM) (h : gH) (n : Nat) : Prop := aN v1 h 17 = yIt (aN v h 17) n ∧ (∀ i, 0 ≤ i → i < v 0 32 → v1 (v 16 i) 1 = yTm (aN v h 17) (fun i => v (v 16 i) 1) n i ∧ v1 (v 16 i) 2 = yLb (aN v h 17) (fun i => v (v 16 i) 2) n i) ∧ ∀ a k, ¬ ((a = 17 ∧ (k = 2 ∨ k = 6 ∨ k = 7)) ∨ (18 ≤ a ∧ a ≤ 22) ∨ a = 29 ∨ a = 30 ∨ ((k = 1 ∨ k = 2) ∧ ∃ j, 0 ≤ j ∧ j < v 0 32 ∧ a = v 16 j)) → v1 a k = v a k
theorem oHr_low {vP v1 : gM} {h : gH} {n : Int} (hW : aWf vP h) (hn : n ≤ vP 0 32) (hh : oHr vP v1 n) {a k : Int} (ha : a < 66) : v1 a k = vP a k := hh.1 a k (fun z => by
  obtain ⟨-, j, j0, j1, e⟩ := z
  have := (hW.2.2.2.1 j j0 (by omega)).1
  omega)

/-- what trees are told leaves the wood alone -/
theorem aN_tr {v v1 : gM} {h : gH} {x : Int} (hx : x = 17 ∨ x = 23) (hW : aWf v h) (hF : ∀ a k, ¬ ((k = 1 ∨ k = 2) ∧ 66 ≤ a ∧ (h a).1 = 8) → v1 a k = v a k) : aN v1 h x = aN v h x ∧ aWf v1 h := by
  obtain ⟨⟨w7, a1, a2, a3⟩, wS, ⟨w8, b1⟩, wT, wD⟩ := hW
  have e7 : v1 0 7 = v 0 7 := hF 0 7 (by omega)
  have e8 : v1 0 8 = v 0 8 := hF 0 8 (by omega)
  have e10 : v1 0 10 = v 0 10 := hF 0 10 (by omega)
  have e11 : v1 0 11 = v 0 11 := hF 0 11 (by omega)
  have e12 : v1 0 12 = v 0 12 := hF 0 12 (by omega)
  have e32 : v1 0 32 = v 0 32 := hF 0 32 (by omega)
  have e35 : v1 0 35 = v 0 35 := hF 0 35 (by omega)
  refine ⟨?_, ?_⟩
  · funext a k
    unfold aN
    rw [e7, e8, e10, e11, e12, e32, hF x 2 (by omega), hF 7 k (by omega), hF 8 k (by omega), hF 9 k (by omega), hF (v 0 8) k (by omega), hF 5 k (by omega), hF 16 k (by omega), hF (x + 1) k (by omega), hF (x + 2) k (by omega), hF (v 16 k) 0 (by omega)]
    by_cases c50 : a = 50
    · subst c50
      show (if 0 ≤ k ∧ k < 7 * (h (v 0 7)).2 then aS v1 h (v1 (v 0 7) (k / 7)) (k % 7) else 0) = (if 0 ≤ k ∧ k < 7 * (h (v 0 7)).2 then aS v h (v (v 0 7) (k / 7)) (k % 7) else 0)
      by_cases cr : 0 ≤ k ∧ k < 7 * (h (v 0 7)).2
      · rw [if_pos cr, if_pos cr, hF (v 0 7) (k / 7) (by omega)]
        obtain ⟨g1, g2, g3, g4⟩ := wS (k / 7) (by omega) (by omega)
        have g5 : (h (v (v (v 0 7) (k / 7)) 0)).1 = 11 := by rw [g4]
        unfold aS
        rw [e35, hF (v (v 0 7) (k / 7)) 0 (by omega), hF (v (v (v 0 7) (k / 7)) 0) (k % 7 - 1) (by omega), hF (v (v 0 7) (k / 7)) 1 (by omega), hF (v (v 0 7) (k / 7)) 2 (by omega), hF (v (v 0 7) (k / 7)) 3 (by omega)]
      · rw [if_neg cr, if_neg cr]
    · rw [if_neg c50, if_neg c50]
  · unfold aWf
    rw [e7, e8, e32]
    refine ⟨⟨w7, a1, a2, a3⟩, fun s s0 s1 => ?_, ⟨w8, b1⟩, fun i i0 i1 => ?_, fun i j i0 i1 j0 j1 hij => ?_⟩
    · have g := wS s s0 s1
      rw [hF (v 0 7) s (by omega), hF (v (v 0 7) s) 0 (by omega)]
      exact g
    · rw [hF 16 i (by omega)]
      exact wT i i0 i1
    · rw [hF 16 i (by omega), hF 16 j (by omega)]
      exact wD i j i0 i1 j0 j1 hij

theorem oRa_s {v v1 vP v2 : gM} {h : gH} {n : Nat} (h36 : v 0 36 < 0) (hW : aWf v h) (hr : oRa v v1 h n) (hW1 : aWf v1 h) (hps : oPs v1 vP h 17 (yMay (aN v1 h 17)) 0) (hhr : oHr vP v2 (v 0 32)) : oRa v v2 h (n + 1) ∧ aWf v2 h := by
  obtain ⟨hm, hT, hF⟩ := hr
  obtain ⟨p1, p2, p3, p4, p5, p6⟩ := hps
  have wT := hW.2.2.2.1
  have e0 : ∀ k, k ≠ 1 → k ≠ 2 → v1 0 k = v 0 k := fun k k1 k2 => hF 0 k (fun z => by rcases z with z | z | z | z | ⟨z, -⟩ <;> omega)
  have e16 : ∀ k, k ≠ 1 → k ≠ 2 → v1 16 k = v 16 k := fun k k1 k2 => hF 16 k (fun z => by rcases z with z | z | z | z | ⟨z, -⟩ <;> omega)
  have e16' : ∀ k, v1 16 k = v 16 k := fun k => hF 16 k (fun z => by
    rcases z with z | z | z | z | ⟨-, j, j0, j1, e⟩
    · omega
    · omega
    · omega
    · omega
    · have := (wT j j0 j1).1
      omega)
  have q16 : ∀ k, vP 16 k = v 16 k := fun k => by rw [p6 16 k (by omega), e16' k]
  have e32 : v1 0 32 = v 0 32 := e0 32 (by omega) (by omega)
  have hhf : aHf v1 = 0 := by unfold aHf; rw [e0 36 (by omega) (by omega), if_neg (by omega)]
  rw [hhf] at p1 p2 p3 p4 p5
  have hWP : aWf vP h := aWf_congr hW1 (fun a k hk => p6 a k (by omega))
  have hFr : ∀ a k, ¬ ((k = 1 ∨ k = 2) ∧ 66 ≤ a ∧ (h a).1 = 8) → v2 a k = vP a k := fun a k hk => hhr.1 a k (fun z => by
    obtain ⟨z1, j, j0, j1, e⟩ := z
    rw [q16] at e
    have := wT j j0 j1
    exact hk ⟨z1, by rw [e]; exact this.1, by rw [e]; exact this.2⟩)
  have htr := aN_tr (x := 17) (Or.inl rfl) hWP hFr
  refine ⟨⟨?_, fun i i0 i1 => ?_, fun a k hk => ?_⟩, htr.2⟩
  · rw [htr.1, p1, hm]
    rfl
  · have g := hhr.2 i i0 i1
    rw [q16] at g
    have t66 := (wT i i0 i1).1
    have b := (p4 i i0 (by omega)).1
    have b' : vP 20 i = (if yB (aN v1 h 17) (yMay (aN v1 h 17)) i = true then 1 else 0) := b
    have y2 : vP 17 2 = yIt (aN v h 17) n 38 31 + 1 := by
      have z := congrFun (congrFun p1 38) 31
      rw [yNx_y, hm] at z
      exact z
    have c1 : vP (v 16 i) 1 = v1 (v 16 i) 1 := p6 _ _ (by omega)
    have c2 : vP (v 16 i) 2 = v1 (v 16 i) 2 := p6 _ _ (by omega)
    have hTi := hT i i0 i1
    rw [c1, c2, hTi.1, hTi.2, y2, b', hm] at g
    by_cases cb : yB (yIt (aN v h 17) n) (yMay (yIt (aN v h 17) n)) i = true
    · rw [if_pos cb] at g
      rw [if_pos (by decide), if_pos (by decide)] at g
      unfold yTm yLb
      rw [if_pos cb, if_pos cb]
      exact g
    · rw [if_neg cb] at g
      rw [if_neg (by decide), if_neg (by decide)] at g
      unfold yTm yLb
      rw [if_neg cb, if_neg cb]
      exact g
  · have hk1 : ¬ ((k = 1 ∨ k = 2) ∧ ∃ j, 0 ≤ j ∧ j < v 0 32 ∧ a = vP 16 j) := fun z => hk (Or.inr (Or.inr (Or.inr (Or.inr ⟨z.1, by
      obtain ⟨-, j, j0, j1, e⟩ := z
      rw [q16] at e
      exact ⟨j, j0, j1, e⟩⟩))))
    rw [hhr.1 a k hk1, p6 a k (fun z => hk (by
      rcases z with z | z | z | z
      · exact Or.inl z
      · exact Or.inr (Or.inl (by omega))
      · exact Or.inr (Or.inr (Or.inl z))
      · exact Or.inr (Or.inr (Or.inr (Or.inl z)))))]
    exact hF a k hk

set_option maxHeartbeats 2000000 in
theorem lp_X0_run {n : Int} {bc bs : Nat} {v0 : gM} (hW0 : aWf v0 (gHd K)) (hu : yOK (aN v0 (gHd K) 17)) (h36 : v0 0 36 < 0) (h35 : v0 0 35 ≤ 99) (h63 : (∀ s, 0 ≤ s → s < (gHd K (v0 0 7)).2 → (gHd K (v0 (v0 0 7) s)).1 = 6 → 0 ≤ v0 (v0 (v0 0 7) s) 3 ∧ v0 (v0 (v0 0 7) s) 3 ≤ 99)) (hn : 0 ≤ n ∧ n ≤ 200) (hy : v0 17 2 + n ≤ 9999) (cont : ∀ v1, oRa v0 v1 (gHd K) n.toNat → aWf v1 (gHd K) → Gx Γ mX0_run 87 [(2, 0), (0, n), (0, yTot yA1 (aN v0 (gHd K) 17) n.toNat), (0, yTot yD1 (aN v0 (gHd K) 17) n.toNat), (0, n)] [] v1 (gHd K) t bc bs Q) : ∀ (j : Nat) (i : Int) (v : gM), 0 ≤ i → i + j = n → oRa v0 v (gHd K) i.toNat → aWf v (gHd K) → Gx Γ mX0_run 38 [(2, 0), (0, n), (0, yTot yA1 (aN v0 (gHd K) 17) i.toNat), (0, yTot yD1 (aN v0 (gHd K) 17) i.toNat), (0, i)] [] v (gHd K) t bc bs Q := by
  intro j
  induction j with
  | zero =>
    intro i v h0 h1 hR hW
    have hm := hR.1
    have hF := hR.2.2
    have wT := hW0.2.2.2.1
    have hoN := yOK_it hu i.toNat
    have hov : yOK (aN v (gHd K) 17) := by rw [hm]; exact hoN
    have hyy : v 17 2 = v0 17 2 + i := by
      have z := congrFun (congrFun hm 38) 31
      rw [yIt_y] at z
      have z2 : v 17 2 = v0 17 2 + (i.toNat : Int) := z
      omega
    have hy0 := hu.2.2.2.2.2.2.2.2.2
    rw [aN_c31] at hy0
    have bD := yTot_le (F := yD1) (u := aN v0 (gHd K) 17) (B := 1440) (fun k => yD1_le (yOK_it hu k)) i.toNat
    have bA := yTot_le (F := yA1) (u := aN v0 (gHd K) 17) (B := 1440) (fun k => yA1_le (yOK_it hu k)) i.toNat
    have bd := yD1_le hoN
    have ba := yA1_le hoN
    have hc := hov.2.2.2.2.2.2.2.1
    rw [aN_c28] at hc
    have e0 : ∀ k, k ≠ 1 → k ≠ 2 → v 0 k = v0 0 k := fun k k1 k2 => hF 0 k (fun z => by rcases z with z | z | z | z | ⟨z, -⟩ <;> omega)
    have e7 := e0 7 (by omega) (by omega)
    have h63v : (∀ s, 0 ≤ s → s < (gHd K (v 0 7)).2 → (gHd K (v (v 0 7) s)).1 = 6 → 0 ≤ v (v (v 0 7) s) 3 ∧ v (v (v 0 7) s) 3 ≤ 99) := by
      intro s s0 s1 s6
      rw [e7] at s1 s6 ⊢
      have w7 := hW0.1.1
      have a17 := hW0.1.2.1
      have hnt : ∀ j, 0 ≤ j → j < v0 0 32 → v0 0 7 ≠ v0 16 j := fun j j0 j1 z => by
        have := (wT j j0 j1).2
        rw [← z] at this
        omega
      have eo : v (v0 0 7) s = v0 (v0 0 7) s := hF _ _ (fun z => by
        rcases z with z | z | z | z | ⟨-, j, j0, j1, e⟩
        · omega
        · omega
        · omega
        · omega
        · exact hnt j j0 j1 e)
      have g66 := (hW0.2.1 s s0 s1).1
      rw [eo] at s6 ⊢
      have e3 : v (v0 (v0 0 7) s) 3 = v0 (v0 (v0 0 7) s) 3 := hF _ _ (fun z => by rcases z with z | z | z | z | ⟨z, -⟩ <;> omega)
      rw [e3]
      exact h63 s s0 s1 s6
    refine Gx_iload dX0_run_38 rfl ?_
    refine Gx_iload_n (i := 1) dX0_run_40 rfl rfl ?_
    refine Gx_icmp_ge (tgt := 87) dX0_run_41 (by decide) (fun c41 => ?_) (fun c41 => ?_)
    · have e9 : i = n := by omega
      rw [e9] at hR ⊢
      exact cont v hR hW
    · exfalso
      omega
  | succ j ih =>
    intro i v h0 h1 hR hW
    have hm := hR.1
    have hF := hR.2.2
    have wT := hW0.2.2.2.1
    have hoN := yOK_it hu i.toNat
    have hov : yOK (aN v (gHd K) 17) := by rw [hm]; exact hoN
    have hyy : v 17 2 = v0 17 2 + i := by
      have z := congrFun (congrFun hm 38) 31
      rw [yIt_y] at z
      have z2 : v 17 2 = v0 17 2 + (i.toNat : Int) := z
      omega
    have hy0 := hu.2.2.2.2.2.2.2.2.2
    rw [aN_c31] at hy0
    have bD := yTot_le (F := yD1) (u := aN v0 (gHd K) 17) (B := 1440) (fun k => yD1_le (yOK_it hu k)) i.toNat
    have bA := yTot_le (F := yA1) (u := aN v0 (gHd K) 17) (B := 1440) (fun k => yA1_le (yOK_it hu k)) i.toNat
    have bd := yD1_le hoN
    have ba := yA1_le hoN
    have hc := hov.2.2.2.2.2.2.2.1
    rw [aN_c28] at hc
    have e0 : ∀ k, k ≠ 1 → k ≠ 2 → v 0 k = v0 0 k := fun k k1 k2 => hF 0 k (fun z => by rcases z with z | z | z | z | ⟨z, -⟩ <;> omega)
    have e7 := e0 7 (by omega) (by omega)
    have h63v : (∀ s, 0 ≤ s → s < (gHd K (v 0 7)).2 → (gHd K (v (v 0 7) s)).1 = 6 → 0 ≤ v (v (v 0 7) s) 3 ∧ v (v (v 0 7) s) 3 ≤ 99) := by
      intro s s0 s1 s6
      rw [e7] at s1 s6 ⊢
      have w7 := hW0.1.1
      have a17 := hW0.1.2.1
      have hnt : ∀ j, 0 ≤ j → j < v0 0 32 → v0 0 7 ≠ v0 16 j := fun j j0 j1 z => by
        have := (wT j j0 j1).2
        rw [← z] at this
        omega
      have eo : v (v0 0 7) s = v0 (v0 0 7) s := hF _ _ (fun z => by
        rcases z with z | z | z | z | ⟨-, j, j0, j1, e⟩
        · omega
        · omega
        · omega
        · omega
        · exact hnt j j0 j1 e)
      have g66 := (hW0.2.1 s s0 s1).1
      rw [eo] at s6 ⊢
      have e3 : v (v0 (v0 0 7) s) 3 = v0 (v0 (v0 0 7) s) 3 := hF _ _ (fun z => by rcases z with z | z | z | z | ⟨z, -⟩ <;> omega)
      rw [e3]
      exact h63 s s0 s1 s6
    refine Gx_iload dX0_run_38 rfl ?_
    refine Gx_iload_n (i := 1) dX0_run_40 rfl rfl ?_
    refine Gx_icmp_ge (tgt := 87) dX0_run_41 (by decide) (fun c41 => ?_) (fun c41 => ?_)
    · exfalso
      omega
    · refine Gx_aload_n (i := 0) dX0_run_44 rfl rfl ?_
      refine Gx_aload_n (i := 0) dX0_run_45 rfl rfl ?_
      refine Gx_aload_n (i := 0) dX0_run_46 rfl rfl ?_
      refine gf_X0_86_20 dX0_run_47 rfl rfl ?_
      refine gf_X0_279_21 dX0_run_50 rfl rfl ?_
      refine Gx_iconst ⟨by decide, by decide⟩ dX0_run_53 ?_
      refine Gx_iadd dX0_run_54 ?_
      try simp (disch := omega) only [w32_id]
      refine cl_X0_409 dX0_run_55 rfl rfl ⟨(Nat.le_of_ble_eq_true rfl), (Nat.le_of_ble_eq_true rfl)⟩ rfl ?_
      refine ct_X0_mayOf (n := (gHd K (v 0 8)).2) (pairEq hW.2.2.1.2) (by omega) (by omega) ?_
      rw [show v 17 2 + 1 - 1 = v 17 2 by omega, ← aN_may hov]
      refine cl_X0_406 dX0_run_58 rfl rfl ⟨(Nat.le_of_ble_eq_true rfl), (Nat.le_of_ble_eq_true rfl)⟩ rfl ?_
      refine ct_X0_passHere (yMay_le hov) hW hov (by omega) (by rw [e0 35 (by omega) (by omega)]; exact h35) h63v (fun vP v1 hps hhr => ?_)
      rw [e0 32 (by omega) (by omega)] at hhr
      have hst := oRa_s h36 hW0 hR hW hps hhr
      have hhf : aHf v = 0 := by unfold aHf; rw [e0 36 (by omega) (by omega), if_neg (by omega)]
      have hWP : aWf vP (gHd K) := aWf_congr hW (fun a k hk => hps.2.2.2.2.2 a k (by omega))
      have q32 : vP 0 32 = v0 0 32 := by rw [hps.2.2.2.2.2 0 32 (by omega)]; exact e0 32 (by omega) (by omega)
      have d6 : v1 17 6 = yA1 (yIt (aN v0 (gHd K) 17) i.toNat) := by
        rw [oHr_low hWP (by omega) hhr (by omega), hps.2.1, hhf, hm]
        rfl
      have d7 : v1 17 7 = yD1 (yIt (aN v0 (gHd K) 17) i.toNat) := by
        rw [oHr_low hWP (by omega) hhr (by omega), hps.2.2.1, hhf, hm]
        rfl
      refine Gx_iload_n (i := 2) dX0_run_61 rfl rfl ?_
      refine Gx_aload_n (i := 0) dX0_run_62 rfl rfl ?_
      refine gf_X0_86_20 dX0_run_63 rfl rfl ?_
      refine gf_X0_374_21 dX0_run_66 rfl rfl ?_
      rw [d6]
      refine Gx_iadd dX0_run_69 ?_
      try simp (disch := omega) only [w32_id]
      refine Gx_istore_n_2 dX0_run_70 (Nat.le_of_ble_eq_true rfl) (Nat.ne_of_beq_eq_false rfl) ?_
      refine Gx_iload_n (i := 3) dX0_run_71 rfl rfl ?_
      refine Gx_aload_n (i := 0) dX0_run_72 rfl rfl ?_
      refine gf_X0_86_20 dX0_run_73 rfl rfl ?_
      refine gf_X0_399_21 dX0_run_76 rfl rfl ?_
      rw [d7]
      refine Gx_iadd dX0_run_79 ?_
      try simp (disch := omega) only [w32_id]
      refine Gx_istore_n_3 dX0_run_80 (Nat.le_of_ble_eq_true rfl) (Nat.ne_of_beq_eq_false rfl) ?_
      refine Gx_iinc_4 dX0_run_81 (Nat.le_of_ble_eq_true rfl) (Nat.ne_of_beq_eq_false rfl) ?_
      try simp (disch := omega) only [w32_id]
      refine Gx_goto (tgt := 38) dX0_run_84 (by decide) ?_
      have ex : (i + 1).toNat = i.toNat + 1 := by omega
      have hi := ih (i + 1) v1 (by omega) (by omega) (by rw [ex]; exact hst.1) hst.2
      rw [ex] at hi
      exact hi
set_option maxHeartbeats 1000000 in
theorem ct_X0_run {n : Int} (hW : aWf v (gHd K)) (hu : yOK (aN v (gHd K) 17)) (h36 : v 0 36 < 0) (hy : v 17 2 ≤ 9999) (h35 : v 0 35 ≤ 99) (h63 : (∀ s, 0 ≤ s → s < (gHd K (v 0 7)).2 → (gHd K (v (v 0 7) s)).1 = 6 → 0 ≤ v (v (v 0 7) s) 3 ∧ v (v (v 0 7) s) 3 ≤ 99)) (kB : ¬ (0 ≤ n ∧ n ≤ 200) → Q (0, -1) v (gHd K) t) (kS : 0 ≤ n ∧ n ≤ 200 → 9999 < v 17 2 + n → Q (0, -4) v (gHd K) t) (kY : 0 ≤ n ∧ n ≤ 200 → v 17 2 + n ≤ 9999 → ∀ v1, oRa v v1 (gHd K) n.toNat → aWf v1 (gHd K) → Q (0, yTot yD1 (aN v (gHd K) 17) n.toNat) (gUp v1 0 2 (yTot yA1 (aN v (gHd K) 17) n.toNat)) (gHd K) t) : Ctr Γ mX0_run [(2, 0), (0, n)] v (gHd K) t Q := by
  refine Ctr.ofG (ls := [(2, 0), (0, n), (9, 0), (9, 0), (9, 0)]) rfl rfl rfl rfl rfl ?_
  have hy0 := hu.2.2.2.2.2.2.2.2.2
  rw [aN_c31] at hy0
  refine Gx_iload_n (i := 1) dX0_run_0 rfl rfl ?_
  refine Gx_iconst ⟨by decide, by decide⟩ dX0_run_1 ?_
  refine Gx_sipush dX0_run_2 ⟨by decide, by decide⟩ ?_
  refine cl_X0_129 dX0_run_5 rfl ⟨(Nat.le_of_ble_eq_true rfl), (Nat.le_of_ble_eq_true rfl)⟩ rfl ?_
  refine ct_X0_isIn (fun hn => ?_) (fun hn => ?_)
  · refine Gx_if_ne (tgt := 13) dX0_run_8 (by decide) (fun _ => ?_) (fun hz => absurd hz (by decide))
    refine Gx_iload_n (i := 1) dX0_run_13 rfl rfl ?_
    refine Gx_sipush dX0_run_14 ⟨by decide, by decide⟩ ?_
    refine Gx_aload_n (i := 0) dX0_run_17 rfl rfl ?_
    refine gf_X0_86_20 dX0_run_18 rfl rfl ?_
    refine gf_X0_279_21 dX0_run_21 rfl rfl ?_
    refine Gx_isub dX0_run_24 ?_
    try simp (disch := omega) only [w32_id]
    refine Gx_icmp_le (tgt := 31) dX0_run_25 (by decide) (fun c25 => ?_) (fun c25 => ?_)
    · refine Gx_iconst ⟨by decide, by decide⟩ dX0_run_31 ?_
      refine Gx_istore_n_2 dX0_run_32 (Nat.le_of_ble_eq_true rfl) (Nat.ne_of_beq_eq_false rfl) ?_
      refine Gx_iconst ⟨by decide, by decide⟩ dX0_run_33 ?_
      refine Gx_istore_n_3 dX0_run_34 (Nat.le_of_ble_eq_true rfl) (Nat.ne_of_beq_eq_false rfl) ?_
      refine Gx_iconst ⟨by decide, by decide⟩ dX0_run_35 ?_
      refine Gx_istore_4 dX0_run_36 (Nat.le_of_ble_eq_true rfl) (Nat.ne_of_beq_eq_false rfl) ?_
      refine lp_X0_run hW hu h36 h35 h63 hn (by omega) (fun v1 hR hW1 => ?_) n.toNat 0 v (by omega) (by omega) ⟨rfl, fun i _ _ => ⟨rfl, rfl⟩, fun a k _ => rfl⟩ hW
      refine Gx_aload_n (i := 0) dX0_run_87 rfl rfl ?_
      refine Gx_iload_n (i := 2) dX0_run_88 rfl rfl ?_
      refine Gx_iload_n (i := 3) dX0_run_89 rfl rfl ?_
      refine cl_X0_147 dX0_run_90 rfl rfl ⟨(Nat.le_of_ble_eq_true rfl), (Nat.le_of_ble_eq_true rfl)⟩ rfl ?_
      refine ct_X0_ask ?_
      refine Gx_ireturn dX0_run_93 trivial ?_
      exact kY hn (by omega) v1 hR hW1
    · refine Gx_bipush dX0_run_28 ⟨by decide, by decide⟩ ?_
      refine Gx_ireturn dX0_run_30 trivial ?_
      exact kS hn (by omega)
  · refine Gx_if_ne (tgt := 13) dX0_run_8 (by decide) (fun hz => absurd hz (by decide)) (fun _ => ?_)
    refine Gx_iconst ⟨by decide, by decide⟩ dX0_run_11 ?_
    refine Gx_ireturn dX0_run_12 trivial ?_
    exact kB hn
end
