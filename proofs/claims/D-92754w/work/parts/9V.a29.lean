/-! AcornYears: rings: the board, setRing -/
section
variable {Γ : gC} {v : gM} {K : gH} {t : Nat} {Q : gQ}
theorem yCnt_all {q : Int → Bool} : ∀ n : Nat, (∀ i, 0 ≤ i → i < (n : Int) → q i = true) → yCnt q n = n
  | 0, _ => rfl
  | n + 1, h => by
    unfold yCnt
    rw [yCnt_all n (fun i i0 i1 => h i i0 (by omega)), if_pos (h n (by omega) (by omega))]
    omega
theorem yCnt_no {q : Int → Bool} : ∀ n : Nat, (∀ i, 0 ≤ i → i < (n : Int) → q i = false) → yCnt q n = 0
  | 0, _ => rfl
  | n + 1, h => by
    unfold yCnt
    rw [yCnt_no n (fun i i0 i1 => h i i0 (by omega)), if_neg (by rw [h n (by omega) (by omega)]; decide)]
    omega
theorem yCnt_up {q q1 : Int → Bool} {x : Int} (h0 : 0 ≤ x) (hx : q x = false) (hx1 : q1 x = true) (he : ∀ i, i ≠ x → q1 i = q i) : ∀ n : Nat, yCnt q1 n = yCnt q n + if x < (n : Int) then 1 else 0
  | 0 => by
    rw [if_neg (by omega)]
    rfl
  | n + 1 => by
    unfold yCnt
    rw [yCnt_up h0 hx hx1 he n]
    by_cases g : (n : Int) = x
    · rw [g, hx, hx1, if_neg (by omega), if_pos rfl, if_neg (by decide), if_pos (by omega)]
    · rw [he _ g]
      by_cases g1 : x < (n : Int)
      · rw [if_pos g1, if_pos (show x < ((n + 1 : Nat) : Int) by omega)]
        omega
      · rw [if_neg g1, if_neg (show ¬ x < ((n + 1 : Nat) : Int) by omega)]
        omega
/-- the first k states are on the board -/
def aBd (v : gM) (k : Int) : Prop := (∀ x, 0 ≤ x → x < 8192 → 0 ≤ v 32 x ∧ v 32 x ≤ k) ∧ yCnt (fun x => decide (v 32 x ≠ 0)) 8192 = k ∧ ∀ j, 0 ≤ j → j < k → ∃ d, 0 ≤ d ∧ v 32 ((aPl (fun i => v 31 (27 * j + i)) + d) % 8192) = j + 1 ∧ ∀ e, 0 ≤ e → e < d → v 32 ((aPl (fun i => v 31 (27 * j + i)) + e) % 8192) ≠ 0
theorem aBd_full {v : gM} {k H : Int} (hk : k ≤ 2000) (h : aBd v k) (hH : 0 ≤ H) (hz : ∀ e, 0 ≤ e → e < 8192 → v 32 ((H + e) % 8192) ≠ 0) : False := by
  have := yCnt_all (q := fun x => decide (v 32 x ≠ 0)) 8192 (fun x x0 x1 => by
    have z := hz ((x - H) % 8192) (Int.emod_nonneg _ (by omega)) (Int.emod_lt_of_pos _ (by omega))
    rw [show (H + (x - H) % 8192) % 8192 = x by omega] at z
    exact decide_eq_true z)
  rw [h.2.1] at this
  omega
theorem aPl_eq {v : gM} {j k : Int} (h : aEq v j k) : aPl (fun i => v 31 (27 * j + i)) = aPl (fun i => v 31 (27 * k + i)) := by
  unfold aPl
  rw [aSm_congr 27 (fun i i0 i1 => h i i0 i1)]
theorem aBd_none {v : gM} {k d : Int} (h : aBd v k) (hd : 0 ≤ d) (hz : v 32 ((aPl (fun i => v 31 (27 * k + i)) + d) % 8192) = 0) (hp : ∀ e, 0 ≤ e → e < d → v 32 ((aPl (fun i => v 31 (27 * k + i)) + e) % 8192) ≠ 0 ∧ ¬ aEq v (v 32 ((aPl (fun i => v 31 (27 * k + i)) + e) % 8192) - 1) k) : ∀ j, 0 ≤ j → j < k → ¬ aEq v j k := by
  intro j j0 j1 hj
  obtain ⟨dj, d0, d1, d2⟩ := h.2.2 j j0 j1
  rw [aPl_eq hj] at d1 d2
  rcases (by omega : dj < d ∨ dj = d ∨ d < dj) with z | z | z
  · have := (hp dj d0 z).2
    rw [d1, show j + 1 - 1 = j by omega] at this
    exact this hj
  · rw [z, hz] at d1
    omega
  · exact d2 d hd z hz
theorem aBd_s {v : gM} {k d : Int} (hk : 0 ≤ k) (h : aBd v k) (hd : 0 ≤ d) (hz : v 32 ((aPl (fun i => v 31 (27 * k + i)) + d) % 8192) = 0) (hp : ∀ e, 0 ≤ e → e < d → v 32 ((aPl (fun i => v 31 (27 * k + i)) + e) % 8192) ≠ 0) : aBd (gUp v 32 ((aPl (fun i => v 31 (27 * k + i)) + d) % 8192) (k + 1)) (k + 1) := by
  obtain ⟨b1, b2, b3⟩ := h
  generalize hP : (aPl (fun i => v 31 (27 * k + i)) + d) % 8192 = P at hz
  have hH := aPl_8 (fun i => v 31 (27 * k + i))
  have P0 : 0 ≤ P := by rw [← hP]; exact Int.emod_nonneg _ (by omega)
  have P1 : P < 8192 := by rw [← hP]; exact Int.emod_lt_of_pos _ (by omega)
  have e31 : ∀ z, gUp v 32 P (k + 1) 31 z = v 31 z := fun z => gUp_ne2 (by omega)
  have nz : ∀ z, v 32 z ≠ 0 → gUp v 32 P (k + 1) 32 z ≠ 0 := fun z hz1 => by
    by_cases g : z = P
    · rw [gUp_eq2 rfl g]; omega
    · rw [gUp_ne2 (by omega)]; exact hz1
  refine ⟨fun x x0 x1 => ?_, ?_, fun j j0 j1 => ?_⟩
  · by_cases g : x = P
    · rw [gUp_eq2 rfl g]; omega
    · rw [gUp_ne2 (by omega)]
      have := b1 x x0 x1
      omega
  · rw [yCnt_up (q := fun x => decide (v 32 x ≠ 0)) (x := P) P0 (by rw [hz]; rfl) (by rw [gUp_eq2 rfl rfl]; exact decide_eq_true (by omega)) (fun i hi => by rw [gUp_ne2 (by omega)]), b2, if_pos (by omega)]
  · simp only [e31]
    by_cases g : j = k
    · subst g
      refine ⟨d, hd, ?_, fun e e0 e1 => nz _ (hp e e0 e1)⟩
      rw [gUp_eq2 rfl hP]
    · obtain ⟨dj, d0, d1, d2⟩ := b3 j j0 (by omega)
      refine ⟨dj, d0, ?_, fun e e0 e1 => nz _ (d2 e e0 e1)⟩
      rw [gUp_ne2 (fun z => by rw [z.2, hz] at d1; omega)]
      exact d1

set_option maxHeartbeats 1000000 in
theorem lp_X0_earlier {k : Int} {bc bs : Nat} (hk : 0 ≤ k ∧ k ≤ 2000) (hB : aBd v k) (kA : ∀ j, 0 ≤ j → j < k → aEq v j k → Q (0, j) v (gHd K) t) (kN : (∀ j, 0 ≤ j → j < k → ¬ aEq v j k) → ∀ v1, (∀ a j, a ≠ 32 → v1 a j = v a j) → aBd v1 (k + 1) → Q (0, -9) v1 (gHd K) t) : ∀ (j : Nat) (d : Int), 0 ≤ d → d + j = 8192 → (∀ e, 0 ≤ e → e < d → v 32 ((aPl (fun i => v 31 (27 * k + i)) + e) % 8192) ≠ 0 ∧ ¬ aEq v (v 32 ((aPl (fun i => v 31 (27 * k + i)) + e) % 8192) - 1) k) → Gx Γ mX0_earlier 6 [(2, 0), (0, k), (0, ((aPl (fun i => v 31 (27 * k + i)) + d) % 8192))] [] v (gHd K) t bc bs Q := by
  intro j
  induction j with
  | zero =>
    intro d h0 h1 hp
    have hH := aPl_8 (fun i => v 31 (27 * k + i))
    exact (aBd_full hk.2 hB hH.1 (fun e e0 e1 => (hp e e0 (by omega)).1)).elim
  | succ j ih =>
    intro d h0 h1 hp
    have hH := aPl_8 (fun i => v 31 (27 * k + i))
    have P0 := Int.emod_nonneg (aPl (fun i => v 31 (27 * k + i)) + d) (show (8192 : Int) ≠ 0 by omega)
    have P1 := Int.emod_lt_of_pos (aPl (fun i => v 31 (27 * k + i)) + d) (show (0 : Int) < 8192 by omega)
    have hb := hB.1 _ P0 P1
    refine Gx_aload_n (i := 0) dX0_earlier_6 rfl rfl ?_
    refine gf_X0_110_20 dX0_earlier_7 rfl rfl ?_
    refine Gx_iload_n (i := 2) dX0_earlier_10 rfl rfl ?_
    refine Gx_saload dX0_earlier_11 rfl (by first | omega | (simp (disch := omega) only [w32_id]; omega)) ?_
    refine Gx_if_eq (tgt := 51) dX0_earlier_12 (by decide) (fun c12 => ?_) (fun c12 => ?_)
    · refine Gx_aload_n (i := 0) dX0_earlier_51 rfl rfl ?_
      refine gf_X0_110_20 dX0_earlier_52 rfl rfl ?_
      refine Gx_iload_n (i := 2) dX0_earlier_55 rfl rfl ?_
      refine Gx_iload_n (i := 1) dX0_earlier_56 rfl rfl ?_
      refine Gx_iconst ⟨by decide, by decide⟩ dX0_earlier_57 ?_
      refine Gx_iadd dX0_earlier_58 ?_
      try simp (disch := omega) only [w32_id]
      refine Gx_i2s dX0_earlier_59 ?_
      rw [w16_id (by omega) (by omega)]
      refine Gx_sastore dX0_earlier_60 rfl (by first | omega | (simp (disch := omega) only [w32_id]; omega)) (by first | omega | (simp (disch := omega) only [w32_id]; omega)) ?_
      refine Gx_bipush dX0_earlier_61 ⟨by decide, by decide⟩ ?_
      refine Gx_ireturn dX0_earlier_63 trivial ?_
      have hz : v 32 ((aPl (fun i => v 31 (27 * k + i)) + d) % 8192) = 0 := by omega
      exact kN (aBd_none hB h0 hz hp) _ (fun a j ha => gUp_ne2 (by omega)) (aBd_s hk.1 hB h0 hz (fun e e0 e1 => (hp e e0 e1).1))
    · refine Gx_aload_n (i := 0) dX0_earlier_15 rfl rfl ?_
      refine Gx_aload_n (i := 0) dX0_earlier_16 rfl rfl ?_
      refine gf_X0_110_20 dX0_earlier_17 rfl rfl ?_
      refine Gx_iload_n (i := 2) dX0_earlier_20 rfl rfl ?_
      refine Gx_saload dX0_earlier_21 rfl (by first | omega | (simp (disch := omega) only [w32_id]; omega)) ?_
      refine Gx_iconst ⟨by decide, by decide⟩ dX0_earlier_22 ?_
      refine Gx_isub dX0_earlier_23 ?_
      try simp (disch := omega) only [w32_id]
      refine Gx_iload_n (i := 1) dX0_earlier_24 rfl rfl ?_
      refine cl_X0_423 dX0_earlier_25 rfl rfl ⟨(Nat.le_of_ble_eq_true rfl), (Nat.le_of_ble_eq_true rfl)⟩ rfl ?_
      refine ct_X0_areAlike (by omega) hk (fun hA => ?_) (fun hA => ?_)
      · refine Gx_if_eq (tgt := 40) dX0_earlier_28 (by decide) (fun hz => absurd hz (by decide)) (fun _ => ?_)
        refine Gx_aload_n (i := 0) dX0_earlier_31 rfl rfl ?_
        refine gf_X0_110_20 dX0_earlier_32 rfl rfl ?_
        refine Gx_iload_n (i := 2) dX0_earlier_35 rfl rfl ?_
        refine Gx_saload dX0_earlier_36 rfl (by first | omega | (simp (disch := omega) only [w32_id]; omega)) ?_
        refine Gx_iconst ⟨by decide, by decide⟩ dX0_earlier_37 ?_
        refine Gx_isub dX0_earlier_38 ?_
        try simp (disch := omega) only [w32_id]
        refine Gx_ireturn dX0_earlier_39 trivial ?_
        exact kA _ (by omega) (by omega) hA
      · refine Gx_if_eq (tgt := 40) dX0_earlier_28 (by decide) (fun _ => ?_) (fun hz => absurd hz (by decide))
        refine Gx_iload_n (i := 2) dX0_earlier_40 rfl rfl ?_
        refine Gx_iconst ⟨by decide, by decide⟩ dX0_earlier_41 ?_
        refine Gx_iadd dX0_earlier_42 ?_
        try simp (disch := omega) only [w32_id]
        refine Gx_sipush dX0_earlier_43 ⟨by decide, by decide⟩ ?_
        refine Gx_iand dX0_earlier_46 ?_
        rw [wAnd_p (by omega) (by omega)]
        refine Gx_istore_n_2 dX0_earlier_47 (Nat.le_of_ble_eq_true rfl) (Nat.ne_of_beq_eq_false rfl) ?_
        refine Gx_goto (tgt := 6) dX0_earlier_48 (by decide) ?_
        rw [show (((aPl (fun i => v 31 (27 * k + i)) + d) % 8192) + 1) % 8192 = (aPl (fun i => v 31 (27 * k + i)) + (d + 1)) % 8192 by omega]
        refine ih (d + 1) (by omega) (by omega) (fun e e0 e1 => ?_)
        by_cases g : e = d
        · rw [g]; exact ⟨by omega, hA⟩
        · exact hp e e0 (by omega)
theorem ct_X0_earlier {k : Int} (hk : 0 ≤ k ∧ k ≤ 2000) (hB : aBd v k) (kA : ∀ j, 0 ≤ j → j < k → aEq v j k → Q (0, j) v (gHd K) t) (kN : (∀ j, 0 ≤ j → j < k → ¬ aEq v j k) → ∀ v1, (∀ a j, a ≠ 32 → v1 a j = v a j) → aBd v1 (k + 1) → Q (0, -9) v1 (gHd K) t) : Ctr Γ mX0_earlier [(2, 0), (0, k)] v (gHd K) t Q := by
  refine Ctr.ofG (ls := [(2, 0), (0, k), (9, 0)]) rfl rfl rfl rfl rfl ?_
  refine Gx_aload_n (i := 0) dX0_earlier_0 rfl rfl ?_
  refine Gx_iload_n (i := 1) dX0_earlier_1 rfl rfl ?_
  refine cl_X0_420 dX0_earlier_2 rfl rfl ⟨(Nat.le_of_ble_eq_true rfl), (Nat.le_of_ble_eq_true rfl)⟩ rfl ?_
  refine ct_X0_placeOf hk ?_
  refine Gx_istore_n_2 dX0_earlier_5 (Nat.le_of_ble_eq_true rfl) (Nat.ne_of_beq_eq_false rfl) ?_
  have hH := aPl_8 (fun i => v 31 (27 * k + i))
  have goal := lp_X0_earlier (bc := 0) (bs := 0) (Γ := Γ) hk hB kA kN 8192 0 (by omega) (by omega) (fun e e0 e1 => absurd e1 (by omega))
  rw [show (aPl (fun i => v 31 (27 * k + i)) + 0) % 8192 = aPl (fun i => v 31 (27 * k + i)) by omega] at goal
  exact goal
theorem emod_dvd {x y N : Int} : x % N = y % N ↔ N ∣ x - y := by
  rw [Int.emod_eq_emod_iff_emod_sub_eq_zero, Int.dvd_iff_emod_eq_zero]
theorem aSt_al {u : gM} (hu : yOK u) {j k : Nat} : (∀ i, 0 ≤ i → i < 27 → aSt (yIt u j) (pPh u (u 38 20).toNat) i = aSt (yIt u k) (pPh u (u 38 20).toNat) i) ↔ yRr u j k := by
  have h20 := hu.1
  have h33 := hu.2.2.1
  have h22 := hu.2.2.2.2.1.1
  obtain ⟨-, -, hd⟩ := pPh_ok hu (u 38 20).toNat (by omega)
  have c28 : ∀ n, yIt u n 38 28 = u 38 28 := fun n => (yIt_o (by omega) n).1
  have c20 : ∀ n, yIt u n 38 20 = u 38 20 := fun n => (yIt_o (by omega) n).1
  have c50 : ∀ n q, yIt u n 50 q = u 50 q := fun n q => (yIt_o (by omega) n).1
  constructor
  · intro h
    have h26 := h 26 (by omega) (by omega)
    have e26 : ∀ n, aSt (yIt u n) (pPh u (u 38 20).toNat) 26 = yIt u n 38 31 % pPh u (u 38 20).toNat := fun n => by
      unfold aSt
      rw [if_neg (by omega), if_neg (by omega)]
    rw [e26, e26] at h26
    have hdv := (hd _).mp (emod_dvd.mp h26)
    refine ⟨fun a q hq => ?_, ?_, fun s s0 s1 s5 => ?_⟩
    · by_cases g8 : a = 58 ∧ 0 ≤ q ∧ q < u 38 33
      · have := h q g8.2.1 (by omega)
        unfold aSt at this
        rw [if_pos (by omega), if_pos (by omega)] at this
        rw [g8.1]
        exact this
      · by_cases g6 : a = 56 ∧ 0 ≤ q ∧ q < u 38 22
        · have := h (24 + q) (by omega) (by omega)
          unfold aSt at this
          rw [if_neg (by omega), if_pos (by omega), if_neg (by omega), if_pos (by omega), show 24 + q - 24 = q by omega] at this
          rw [g6.1]
          exact this
        · rw [(yIt_o (by omega) j).1, (yIt_o (by omega) k).1]
    · rw [c28]
      exact emod_dvd.mpr hdv.1
    · rw [c20] at s1
      rw [c50] at s5
      rw [c50]
      exact emod_dvd.mpr (hdv.2 s s0 (by omega) s5)
  · intro h i i0 i1
    obtain ⟨h1, h2, h3⟩ := h
    unfold aSt
    by_cases g : i < 24
    · rw [if_pos g, if_pos g]
      exact h1 58 i (by omega)
    · rw [if_neg g, if_neg g]
      by_cases g2 : i < 26
      · rw [if_pos g2, if_pos g2]
        exact h1 56 (i - 24) (by omega)
      · rw [if_neg g2, if_neg g2]
        rw [c28] at h2
        refine emod_dvd.mpr ((hd _).mpr ⟨emod_dvd.mp h2, fun s s0 s1 s5 => emod_dvd.mp ?_⟩)
        have := h3 s s0 (by rw [c20]; omega) (by rw [c50]; exact s5)
        rw [c50] at this
        exact this
/-- what A writes while it looks for rings -/
abbrev aSq (a k : Int) : Prop := (23 ≤ a ∧ a ≤ 36) ∨ (a = 0 ∧ 41 ≤ k ∧ k ≤ 48)
def aScr (v v1 : gM) : Prop := ∀ a k, ¬ aSq a k → v1 a k = v a k
theorem aScr_r (v : gM) : aScr v v := fun _ _ _ => rfl
theorem aScr_t {v v1 v2 : gM} (h : aScr v v1) (g : aScr v1 v2) : aScr v v2 := fun a k hk => (g a k hk).trans (h a k hk)
theorem aScr_f {v v1 : gM} (h : aScr v v1) : aFr v v1 := fun a k hk => h a k (by omega)
theorem aScr_W {v v1 : gM} {h : gH} (hW : aWf v h) (hS : aScr v v1) : aWf v1 h := aWf_congr hW (aScr_f hS)
theorem aScr_N {v v1 : gM} {h : gH} (hW : aWf v h) (hS : aScr v v1) : aN v1 h 17 = aN v h 17 := by
  funext a k
  by_cases c1 : a = 38 ∧ k = 31
  · rw [c1.1, c1.2]
    exact hS 17 2 (by omega)
  · by_cases c6 : a = 56
    · subst c6
      show (if 0 ≤ k ∧ k < v1 0 12 then v1 19 k else 0) = (if 0 ≤ k ∧ k < v 0 12 then v 19 k else 0)
      rw [hS 0 12 (by omega), hS 19 k (by omega)]
    · by_cases c8 : a = 58
      · subst c8
        show (if 0 ≤ k ∧ k < v1 0 32 then v1 18 k else 0) = (if 0 ≤ k ∧ k < v 0 32 then v 18 k else 0)
        rw [hS 0 32 (by omega), hS 18 k (by omega)]
      · exact aN_congr hW (aScr_f hS) a k (by omega)
abbrev a63 (v : gM) (h : gH) : Prop := ∀ s, 0 ≤ s → s < (h (v 0 7)).2 → (h (v (v 0 7) s)).1 = 6 → 0 ≤ v (v (v 0 7) s) 3 ∧ v (v (v 0 7) s) 3 ≤ 99
theorem aScr_63 {v v1 : gM} {h : gH} (hW : aWf v h) (hS : aScr v v1) (h6 : a63 v h) : a63 v1 h := by
  intro s s0 s1 s6
  have e7 : v1 0 7 = v 0 7 := hS 0 7 (by omega)
  rw [e7] at s1 s6 ⊢
  have w7 := hW.1.1
  have eo : v1 (v 0 7) s = v (v 0 7) s := hS _ _ (by omega)
  rw [eo] at s6 ⊢
  have g66 := (hW.2.1 s s0 s1).1
  rw [hS (v (v 0 7) s) 3 (by omega)]
  exact h6 s s0 s1 s6
theorem oCt_scr {v v1 : gM} (h : oCt v v1) : aScr v v1 := fun a k hk => h.1 a k (by omega)
theorem oPs_scr {v v1 : gM} {h : gH} {w pg : Int} (hp : oPs v v1 h 23 w pg) : aScr v v1 := fun a k hk => hp.2.2.2.2.2 a k (by omega)

theorem lp_X0_setRing1 {N : Int} {z3 : gV} {bc bs : Nat} {v0 : gM} (cont : ∀ v1, (∀ a j, a ≠ 32 → v1 a j = v0 a j) → (∀ x, 0 ≤ x → x < 8192 → v1 32 x = 0) → Gx Γ mX0_setRing 27 [(2, 0), (0, N), (0, 8192), z3] [] v1 (gHd K) t bc bs Q) : ∀ (j : Nat) (i : Int) (v : gM), 0 ≤ i → i + j = 8192 → (∀ a j, a ≠ 32 → v a j = v0 a j) → (∀ x, 0 ≤ x → x < i → v 32 x = 0) → Gx Γ mX0_setRing 7 [(2, 0), (0, N), (0, i), z3] [] v (gHd K) t bc bs Q := by
  intro j
  induction j with
  | zero =>
    intro i v h0 h1 hF hZ
    refine Gx_iload_n (i := 2) dX0_setRing_7 rfl rfl ?_
    refine Gx_sipush dX0_setRing_8 ⟨by decide, by decide⟩ ?_
    refine Gx_icmp_ge (tgt := 27) dX0_setRing_11 (by decide) (fun c11 => ?_) (fun c11 => ?_)
    · have e0 : i = 8192 := by omega
      subst e0
      exact cont v hF hZ
    · exfalso
      omega
  | succ j ih =>
    intro i v h0 h1 hF hZ
    refine Gx_iload_n (i := 2) dX0_setRing_7 rfl rfl ?_
    refine Gx_sipush dX0_setRing_8 ⟨by decide, by decide⟩ ?_
    refine Gx_icmp_ge (tgt := 27) dX0_setRing_11 (by decide) (fun c11 => ?_) (fun c11 => ?_)
    · exfalso
      omega
    · refine Gx_aload_n (i := 0) dX0_setRing_14 rfl rfl ?_
      refine gf_X0_110_20 dX0_setRing_15 rfl rfl ?_
      refine Gx_iload_n (i := 2) dX0_setRing_18 rfl rfl ?_
      refine Gx_iconst ⟨by decide, by decide⟩ dX0_setRing_19 ?_
      refine Gx_sastore dX0_setRing_20 rfl (by first | omega | (simp (disch := omega) only [w32_id]; omega)) (by first | omega | (simp (disch := omega) only [w32_id]; omega)) ?_
      refine Gx_iinc_2 dX0_setRing_21 (Nat.le_of_ble_eq_true rfl) (Nat.ne_of_beq_eq_false rfl) ?_
      try simp (disch := omega) only [w32_id]
      refine Gx_goto (tgt := 7) dX0_setRing_24 (by decide) ?_
      refine ih (i + 1) _ (by omega) (by omega) (fun a j ha => ?_) (fun x x0 x1 => ?_)
      · rw [gUp_ne2 (by omega)]
        exact hF a j ha
      · by_cases g : x = i
        · rw [gUp_eq2 rfl g]
        · rw [gUp_ne2 (by omega)]
          exact hZ x x0 (by omega)
set_option maxHeartbeats 4000000 in
theorem lp_X0_setRing2 {bc bs : Nat} {v0 : gM} (hW0 : aWf v0 (gHd K)) (hu : yOK (aN v0 (gHd K) 17)) (h36 : v0 0 36 < 0) (h35 : v0 0 35 ≤ 99) (h63 : a63 v0 (gHd K)) (hy : v0 17 2 ≤ 9999) (k1 : ∀ (v1 : gM) (m l : Nat), oHas (aN v0 (gHd K) 17) m l → aScr v0 v1 → v1 0 41 = m → v1 0 42 = l → Q (0, 1) v1 (gHd K) t) (k0 : oNo (aN v0 (gHd K) 17) → ∀ v1, aScr v0 v1 → Q (0, 0) v1 (gHd K) t) : ∀ (j : Nat) (k : Int) (v : gM) (z3 : gV), 0 ≤ k → k + j = 2001 → aScr v0 v → aN v (gHd K) 23 = yIt (aN v0 (gHd K) 17) k.toNat → (∀ j, 0 ≤ j → j < k → ∀ i, 0 ≤ i → i < 27 → v 31 (27 * j + i) = aSt (yIt (aN v0 (gHd K) 17) j.toNat) (pPh (aN v0 (gHd K) 17) ((aN v0 (gHd K) 17) 38 20).toNat) i) → aBd v k → (∀ i j : Nat, i < j → (j : Int) < k → ¬ yRr (aN v0 (gHd K) 17) i j) → Gx Γ mX0_setRing 40 [(2, 0), (0, (pPh (aN v0 (gHd K) 17) ((aN v0 (gHd K) 17) 38 20).toNat)), (0, k), z3] [] v (gHd K) t bc bs Q := by
  intro j
  induction j with
  | zero =>
    intro k v z3 h0 h1 hS hN hR hB hP
    refine Gx_iload_n (i := 2) dX0_setRing_40 rfl rfl ?_
    refine Gx_sipush dX0_setRing_41 ⟨by decide, by decide⟩ ?_
    refine Gx_icmp_gt (tgt := 89) dX0_setRing_44 (by decide) (fun c44 => ?_) (fun c44 => ?_)
    · refine Gx_iconst ⟨by decide, by decide⟩ dX0_setRing_89 ?_
      refine Gx_ireturn dX0_setRing_90 (Or.inl rfl) ?_
      refine k0 (fun m l hg hml => ?_) v hS
      exact hP m (m + l) (by omega) (by omega) hg.2.1
    · exfalso
      omega
  | succ j ih =>
    intro k v z3 h0 h1 hS hN hR hB hP
    have hy0 := hu.2.2.2.2.2.2.2.2.2
    rw [aN_c31] at hy0
    have hNl := pPh_le hu (aN v0 (gHd K) 17 38 20).toNat (by have := hu.1; omega)
    have hW := aScr_W hW0 hS
    have hov : yOK (aN v (gHd K) 23) := by rw [hN]; exact yOK_it hu _
    have hyy : v 23 2 = v0 17 2 + k := by
      have z := congrFun (congrFun hN 38) 31
      rw [yIt_y] at z
      have z2 : v 23 2 = v0 17 2 + (k.toNat : Int) := z
      omega
    refine Gx_iload_n (i := 2) dX0_setRing_40 rfl rfl ?_
    refine Gx_sipush dX0_setRing_41 ⟨by decide, by decide⟩ ?_
    refine Gx_icmp_gt (tgt := 89) dX0_setRing_44 (by decide) (fun c44 => ?_) (fun c44 => ?_)
    · refine Gx_iconst ⟨by decide, by decide⟩ dX0_setRing_89 ?_
      refine Gx_ireturn dX0_setRing_90 (Or.inl rfl) ?_
      exfalso
      omega
    · refine Gx_aload_n (i := 0) dX0_setRing_47 rfl rfl ?_
      refine Gx_iload_n (i := 2) dX0_setRing_48 rfl rfl ?_
      refine Gx_iload_n (i := 1) dX0_setRing_49 rfl rfl ?_
      refine cl_X0_432 dX0_setRing_50 rfl rfl ⟨(Nat.le_of_ble_eq_true rfl), (Nat.le_of_ble_eq_true rfl)⟩ rfl ?_
      refine ct_X0_note (by omega) hNl hov (by omega) (fun v1 f1 g1 => ?_)
      rw [hN] at g1
      have hRk := g1
      have hRo : ∀ j, 0 ≤ j → j < k → ∀ i, 0 ≤ i → i < 27 → v1 31 (27 * j + i) = aSt (yIt (aN v0 (gHd K) 17) j.toNat) (pPh (aN v0 (gHd K) 17) ((aN v0 (gHd K) 17) 38 20).toNat) i := fun j j0 j1 i i0 i1 => by
        rw [f1 31 _ (by omega)]
        exact hR j j0 j1 i i0 i1
      have hB1 : aBd v1 k := by
        obtain ⟨b1, b2, b3⟩ := hB
        have e32 : ∀ x, v1 32 x = v 32 x := fun x => f1 32 x (by omega)
        refine ⟨fun x x0 x1 => by rw [e32]; exact b1 x x0 x1, ?_, fun j j0 j1 => ?_⟩
        · simp only [e32]
          exact b2
        · have er : (aPl fun i => v1 31 (27 * j + i)) = aPl fun i => v 31 (27 * j + i) := by
            unfold aPl
            rw [aSm_congr 27 (fun i i0 i1 => f1 31 (27 * j + i) (by omega))]
          rw [er]
          simp only [e32]
          exact b3 j j0 j1
      refine Gx_aload_n (i := 0) dX0_setRing_53 rfl rfl ?_
      refine Gx_iload_n (i := 2) dX0_setRing_54 rfl rfl ?_
      refine cl_X0_436 dX0_setRing_55 rfl rfl ⟨(Nat.le_of_ble_eq_true rfl), (Nat.le_of_ble_eq_true rfl)⟩ rfl ?_
      refine ct_X0_earlier (by omega) hB1 (fun jj j0 j1 hA => ?_) (fun hno v2 f2 hB2 => ?_)
      · refine Gx_istore_n_3 dX0_setRing_58 (Nat.le_of_ble_eq_true rfl) (Nat.ne_of_beq_eq_false rfl) ?_
        refine Gx_iload_n (i := 3) dX0_setRing_59 rfl rfl ?_
        refine Gx_bipush dX0_setRing_60 ⟨by decide, by decide⟩ ?_
        refine Gx_icmp_eq (tgt := 79) dX0_setRing_62 (by decide) (fun c62 => ?_) (fun c62 => ?_)
        · exfalso
          omega
        · refine Gx_aload_n (i := 0) dX0_setRing_65 rfl rfl ?_
          refine Gx_iload_n (i := 3) dX0_setRing_66 rfl rfl ?_
          refine pf_X0_439_20 dX0_setRing_67 rfl rfl ?_
          refine Gx_aload_n (i := 0) dX0_setRing_70 rfl rfl ?_
          refine Gx_iload_n (i := 2) dX0_setRing_71 rfl rfl ?_
          refine Gx_iload_n (i := 3) dX0_setRing_72 rfl rfl ?_
          refine Gx_isub dX0_setRing_73 ?_
          try simp (disch := omega) only [w32_id]
          refine pf_X0_442_20 dX0_setRing_74 rfl rfl ?_
          refine Gx_iconst ⟨by decide, by decide⟩ dX0_setRing_77 ?_
          refine Gx_ireturn dX0_setRing_78 (Or.inr rfl) ?_
          refine k1 _ jj.toNat (k - jj).toNat ⟨⟨by omega, ?_, fun a c ac cm => hP a c ac (by omega)⟩, by omega⟩ (fun a q hq => ?_) ?_ ?_
          · rw [show jj.toNat + (k - jj).toNat = k.toNat by omega]
            refine (aSt_al hu).mp (fun i i0 i1 => ?_)
            have := hA i i0 i1
            rw [hRo jj j0 j1 i i0 i1, hRk i i0 i1] at this
            exact this
          · rw [gUp_ne2 (by omega), gUp_ne2 (by omega), f1 a q (by omega)]
            exact hS a q hq
          · rw [gUp_ne2 (by omega), gUp_eq2 rfl rfl]
            omega
          · rw [gUp_eq2 rfl rfl]
            omega
      · have hS2 : aScr v0 v2 := fun a q hq => by rw [f2 a q (by omega), f1 a q (by omega)]; exact hS a q hq
        have hF2 : ∀ a q, a ≠ 31 → a ≠ 32 → v2 a q = v a q := fun a q ha hb => by rw [f2 a q hb, f1 a q (by omega)]
        have hN2 : aN v2 (gHd K) 23 = yIt (aN v0 (gHd K) 17) k.toNat := by
          rw [← hN]
          funext a q
          by_cases c1 : a = 38 ∧ q = 31
          · rw [c1.1, c1.2]
            exact hF2 23 2 (by omega) (by omega)
          · by_cases c6 : a = 56
            · subst c6
              show (if 0 ≤ q ∧ q < v2 0 12 then v2 25 q else 0) = (if 0 ≤ q ∧ q < v 0 12 then v 25 q else 0)
              rw [hF2 0 12 (by omega) (by omega), hF2 25 q (by omega) (by omega)]
            · by_cases c8 : a = 58
              · subst c8
                show (if 0 ≤ q ∧ q < v2 0 32 then v2 24 q else 0) = (if 0 ≤ q ∧ q < v 0 32 then v 24 q else 0)
                rw [hF2 0 32 (by omega) (by omega), hF2 24 q (by omega) (by omega)]
              · exact aN_congr hW (fun b z hb => hF2 b z (by omega) (by omega)) a q (by omega)
        have hP2 : ∀ i j : Nat, i < j → (j : Int) < k + 1 → ¬ yRr (aN v0 (gHd K) 17) i j := by
          intro i j ij jk hr
          by_cases g : (j : Int) = k
          · refine hno (i : Int) (by omega) (by omega) (fun z z0 z1 => ?_)
            rw [hRo i (by omega) (by omega) z z0 z1, hRk z z0 z1]
            have := (aSt_al hu).mpr hr z z0 z1
            rw [show ((i : Int)).toNat = i by omega, show k.toNat = j by omega]
            exact this
          · exact hP i j ij (by omega) hr
        refine Gx_istore_n_3 dX0_setRing_58 (Nat.le_of_ble_eq_true rfl) (Nat.ne_of_beq_eq_false rfl) ?_
        refine Gx_iload_n (i := 3) dX0_setRing_59 rfl rfl ?_
        refine Gx_bipush dX0_setRing_60 ⟨by decide, by decide⟩ ?_
        refine Gx_icmp_eq (tgt := 79) dX0_setRing_62 (by decide) (fun _ => ?_) (fun hz => absurd hz (by decide))
        refine Gx_aload_n (i := 0) dX0_setRing_79 rfl rfl ?_
        refine cl_X0_445 dX0_setRing_80 rfl rfl ⟨(Nat.le_of_ble_eq_true rfl), (Nat.le_of_ble_eq_true rfl)⟩ rfl ?_
        refine ct_X0_passTrial (aScr_W hW0 hS2) (by rw [hN2]; exact yOK_it hu _) (by rw [hF2 23 2 (by omega) (by omega)]; omega) (by rw [hS2 0 35 (by omega)]; exact h35) (aScr_63 hW0 hS2 h63) (fun v3 hps => ?_)
        refine Gx_iinc_2 dX0_setRing_83 (Nat.le_of_ble_eq_true rfl) (Nat.ne_of_beq_eq_false rfl) ?_
        try simp (disch := omega) only [w32_id]
        refine Gx_goto (tgt := 40) dX0_setRing_86 (by decide) ?_
        have hS3 := aScr_t hS2 (oPs_scr hps)
        have hF3 := hps.2.2.2.2.2
        refine ih (k + 1) v3 _ (by omega) (by omega) hS3 ?_ (fun j j0 j1 i i0 i1 => ?_) ?_ (fun i j ij jk => hP2 i j ij (by omega))
        · rw [hps.1, hN2]
          have : aHf v2 = 0 := by
            unfold aHf
            rw [hS2 0 36 (by omega), if_neg (by omega)]
          rw [this, show (k + 1).toNat = k.toNat + 1 by omega]
          rfl
        · rw [hF3 31 _ (by omega), f2 31 _ (by omega)]
          by_cases g : j = k
          · rw [g]; exact hRk i i0 i1
          · exact hRo j j0 (by omega) i i0 i1
        · obtain ⟨b1, b2, b3⟩ := hB2
          have e32 : ∀ x, v3 32 x = v2 32 x := fun x => hF3 32 x (by omega)
          have e31 : ∀ x, v3 31 x = v2 31 x := fun x => hF3 31 x (by omega)
          unfold aBd
          simp only [e32, e31]
          exact ⟨b1, b2, b3⟩
set_option maxHeartbeats 1000000 in
theorem ct_X0_setRing  (hW : aWf v (gHd K)) (hu : yOK (aN v (gHd K) 17)) (h36 : v 0 36 < 0) (h35 : v 0 35 ≤ 99) (h63 : a63 v (gHd K)) (hy : v 17 2 ≤ 9999) (k1 : ∀ (v1 : gM) (m l : Nat), oHas (aN v (gHd K) 17) m l → aScr v v1 → v1 0 41 = m → v1 0 42 = l → Q (0, 1) v1 (gHd K) t) (k0 : oNo (aN v (gHd K) 17) → ∀ v1, aScr v v1 → Q (0, 0) v1 (gHd K) t) : Ctr Γ mX0_setRing [(2, 0)] v (gHd K) t Q := by
  refine Ctr.ofG (ls := [(2, 0), (9, 0), (9, 0), (9, 0)]) rfl rfl rfl rfl rfl ?_
  refine Gx_aload_n (i := 0) dX0_setRing_0 rfl rfl ?_
  refine cl_X0_426 dX0_setRing_1 rfl rfl ⟨(Nat.le_of_ble_eq_true rfl), (Nat.le_of_ble_eq_true rfl)⟩ rfl ?_
  refine ct_X0_phases hW hu ?_
  refine Gx_istore_n_1 dX0_setRing_4 (Nat.le_of_ble_eq_true rfl) (Nat.ne_of_beq_eq_false rfl) ?_
  refine Gx_iconst ⟨by decide, by decide⟩ dX0_setRing_5 ?_
  refine Gx_istore_n_2 dX0_setRing_6 (Nat.le_of_ble_eq_true rfl) (Nat.ne_of_beq_eq_false rfl) ?_
  refine lp_X0_setRing1 (v0 := v) (fun v1 f1 z1 => ?_) 8192 0 v (by omega) (by omega) (fun _ _ _ => rfl) (fun x x0 x1 => absurd x1 (by omega))
  refine Gx_aload_n (i := 0) dX0_setRing_27 rfl rfl ?_
  refine gf_X0_90_20 dX0_setRing_28 rfl rfl ?_
  refine Gx_aload_n (i := 0) dX0_setRing_31 rfl rfl ?_
  refine gf_X0_86_20 dX0_setRing_32 rfl rfl ?_
  refine cl_X0_429 dX0_setRing_35 rfl rfl ⟨(Nat.le_of_ble_eq_true rfl), (Nat.le_of_ble_eq_true rfl)⟩ rfl ?_
  refine ct_X1_comesTo (fun v2 hct => ?_)
  have s1 : aScr v v1 := fun a q hq => f1 a q (by omega)
  have s2 : aScr v v2 := aScr_t s1 (oCt_scr hct)
  have hW1 := aScr_W hW s1
  have n1 : aN v1 (gHd K) 17 = aN v (gHd K) 17 := aScr_N hW s1
  have n2 : aN v2 (gHd K) 23 = aN v (gHd K) 17 := by rw [(oCt_N hW1 (by rw [n1]; exact hu) hct).1, n1]
  have z2 : ∀ x, 0 ≤ x → x < 8192 → v2 32 x = 0 := fun x x0 x1 => by rw [hct.1 32 x (by omega)]; exact z1 x x0 x1
  refine Gx_iconst ⟨by decide, by decide⟩ dX0_setRing_38 ?_
  refine Gx_istore_n_2 dX0_setRing_39 (Nat.le_of_ble_eq_true rfl) (Nat.ne_of_beq_eq_false rfl) ?_
  exact lp_X0_setRing2 (v0 := v) hW hu h36 h35 h63 hy k1 k0 2001 0 v2 _ (by omega) (by omega) s2 n2 (fun j j0 j1 => absurd j1 (by omega)) ⟨fun x x0 x1 => by rw [z2 x x0 x1]; omega, yCnt_no 8192 (fun x x0 x1 => by rw [z2 x x0 x1]; rfl), fun j j0 j1 => absurd j1 (by omega)⟩ (fun i j ij jk => absurd jk (by omega))
end
