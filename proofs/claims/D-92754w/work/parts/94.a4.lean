/-! AcornYears: countHalves, feed -/
section
variable {Γ : gC} {v : gM} {K : gH} {t : Nat} {Q : gQ}
/-- halves counted: which blooms is told by b -/
abbrev aH0 (hf : Int) (o : Int) : Bool := !gHas hf o
abbrev aH1 (hf : Int) (o : Int) : Bool := gHas hf o
abbrev aB0 (hf : Int) (b : Int → Bool) (o : Int) : Bool := !gHas hf o && b o
abbrev aB1 (hf : Int) (b : Int → Bool) (o : Int) : Bool := gHas hf o && b o
def oHv (v0 v : gM) (x i : Int) : Prop := (∀ a k, ¬ ((a = 29 ∨ a = 30) ∧ 0 ≤ k ∧ k < 2) → v a k = v0 a k) ∧ v 29 0 = yCnt (aH0 (aHf v0)) i.toNat ∧ v 29 1 = yCnt (aH1 (aHf v0)) i.toNat ∧ v 30 0 = yCnt (aB0 (aHf v0) (fun o => decide (v0 (x + 3) o ≠ 0))) i.toNat ∧ v 30 1 = yCnt (aB1 (aHf v0) (fun o => decide (v0 (x + 3) o ≠ 0))) i.toNat

set_option maxHeartbeats 2000000 in
theorem lp_X0_countHalves {x n : Int} {bc bs : Nat} {v0 : gM} (hx : x = 17 ∨ x = 23) (hn : v0 0 32 = n) (hn24 : n ≤ 24) (cont : ∀ v1, oHv v0 v1 x n → Q (9, 0) v1 (gHd K) t) : ∀ (j : Nat) (i : Int) (v : gM), 0 ≤ i → i + j = n → oHv v0 v x i → Gx Γ mX0_countHalves 29 [(2, 0), (2, x), (0, i)] [] v (gHd K) t bc bs Q := by
  intro j
  induction j with
  | zero =>
    intro i v h0 h1 hP
    obtain ⟨hF, p1, p2, p3, p4⟩ := hP
    obtain ⟨hx0, hx1, hx2, hx3, hx4, hx5⟩ := hdx (K := K) hx
    have e32 : v 0 32 = n := by rw [hF 0 32 (by omega)]; exact hn
    refine Gx_iload_n (i := 2) dX0_countHalves_29 rfl rfl ?_
    refine Gx_aload_n (i := 0) dX0_countHalves_30 rfl rfl ?_
    refine gf_X0_276_20 dX0_countHalves_31 rfl rfl ?_
    rw [e32]
    refine Gx_icmp_ge (tgt := 84) dX0_countHalves_34 (by decide) (fun c34 => ?_) (fun c34 => ?_)
    · refine Gx_return dX0_countHalves_84 rfl ?_
      have e0 : i = n := by omega
      rw [e0] at p1 p2 p3 p4
      exact cont v ⟨hF, p1, p2, p3, p4⟩
    · exfalso
      omega
  | succ j ih =>
    intro i v h0 h1 hP
    obtain ⟨hF, p1, p2, p3, p4⟩ := hP
    obtain ⟨hx0, hx1, hx2, hx3, hx4, hx5⟩ := hdx (K := K) hx
    have e32 : v 0 32 = n := by rw [hF 0 32 (by omega)]; exact hn
    obtain ⟨sd, hsd⟩ : ∃ sd, sd = (if gHas (aHf v0) i = true then (1 : Int) else 0) := ⟨_, rfl⟩
    have hsb : 0 ≤ sd ∧ sd ≤ 1 := by rw [hsd]; split <;> omega
    have e36 : v 0 36 = v0 0 36 := hF 0 36 (by omega)
    have ehf : aHf v = aHf v0 := by unfold aHf; rw [e36]
    have e3 : v (x + 3) i = v0 (x + 3) i := hF _ _ (by omega)
    have b1 := yCnt_le (aH0 (aHf v0)) i.toNat
    have b2 := yCnt_le (aH1 (aHf v0)) i.toNat
    have b3 := yCnt_le (aB0 (aHf v0) (fun o => decide (v0 (x + 3) o ≠ 0))) i.toNat
    have b4 := yCnt_le (aB1 (aHf v0) (fun o => decide (v0 (x + 3) o ≠ 0))) i.toNat
    have bd : 0 ≤ v 29 sd ∧ v 29 sd ≤ 24 := by
      rcases (by omega : sd = 0 ∨ sd = 1) with z | z
      · rw [z, p1]; omega
      · rw [z, p2]; omega
    have be : 0 ≤ v 30 sd ∧ v 30 sd ≤ 24 := by
      rcases (by omega : sd = 0 ∨ sd = 1) with z | z
      · rw [z, p3]; omega
      · rw [z, p4]; omega
    refine Gx_iload_n (i := 2) dX0_countHalves_29 rfl rfl ?_
    refine Gx_aload_n (i := 0) dX0_countHalves_30 rfl rfl ?_
    refine gf_X0_276_20 dX0_countHalves_31 rfl rfl ?_
    rw [e32]
    refine Gx_icmp_ge (tgt := 84) dX0_countHalves_34 (by decide) (fun c34 => ?_) (fun c34 => ?_)
    · refine Gx_return dX0_countHalves_84 rfl ?_
      exfalso
      omega
    · refine Gx_aload_n (i := 0) dX0_countHalves_37 rfl rfl ?_
      refine gf_X0_99_20 dX0_countHalves_38 rfl rfl ?_
      refine Gx_aload_n (i := 0) dX0_countHalves_41 rfl rfl ?_
      refine Gx_iload_n (i := 2) dX0_countHalves_42 rfl rfl ?_
      refine cl_X0_349 dX0_countHalves_43 rfl rfl ⟨(Nat.le_of_ble_eq_true rfl), (Nat.le_of_ble_eq_true rfl)⟩ rfl ?_
      refine ct_X0_halfOf ⟨h0, by omega⟩ ?_
      rw [ehf, ← hsd]
      refine Gx_dup2 (Nat.ne_of_beq_eq_false rfl) (Nat.ne_of_beq_eq_false rfl) dX0_countHalves_46 ?_
      refine Gx_iaload dX0_countHalves_47 rfl (by first | omega | (simp (disch := omega) only [w32_id]; omega)) ?_
      refine Gx_iconst ⟨by decide, by decide⟩ dX0_countHalves_48 ?_
      refine Gx_iadd dX0_countHalves_49 ?_
      try simp (disch := omega) only [w32_id]
      refine Gx_iastore dX0_countHalves_50 rfl (by first | omega | (simp (disch := omega) only [w32_id]; omega)) ?_
      refine Gx_aload_n (i := 0) dX0_countHalves_51 rfl rfl ?_
      refine gf_X0_102_20 dX0_countHalves_52 rfl rfl ?_
      refine Gx_aload_n (i := 0) dX0_countHalves_55 rfl rfl ?_
      refine Gx_iload_n (i := 2) dX0_countHalves_56 rfl rfl ?_
      refine cl_X0_349 dX0_countHalves_57 rfl rfl ⟨(Nat.le_of_ble_eq_true rfl), (Nat.le_of_ble_eq_true rfl)⟩ rfl ?_
      refine ct_X0_halfOf ⟨h0, by omega⟩ ?_
      rw [show aHf (gUp v 29 sd (v 29 sd + 1)) = aHf v0 by unfold aHf; rw [gUp_ne2 (by omega), e36], ← hsd]
      refine Gx_dup2 (Nat.ne_of_beq_eq_false rfl) (Nat.ne_of_beq_eq_false rfl) dX0_countHalves_60 ?_
      refine Gx_iaload dX0_countHalves_61 rfl (by first | omega | (simp (disch := omega) only [w32_id]; omega)) ?_
      rw [gUp_ne2 (by omega)]
      refine Gx_aload_n (i := 1) dX0_countHalves_62 rfl rfl ?_
      refine gf_X0_352_21 dX0_countHalves_63 rfl hx0 ?_
      refine Gx_iload_n (i := 2) dX0_countHalves_66 rfl rfl ?_
      refine Gx_zaload dX0_countHalves_67 hx3 (by first | omega | (simp (disch := omega) only [w32_id]; omega)) ?_
      rw [gUp_ne2 (by omega), e3]
      refine Gx_if_eq (tgt := 75) dX0_countHalves_68 (by decide) (fun c68 => ?_) (fun c68 => ?_)
      · refine Gx_iconst ⟨by decide, by decide⟩ dX0_countHalves_75 ?_
        refine Gx_iadd dX0_countHalves_76 ?_
        try simp (disch := omega) only [w32_id]
        refine Gx_iastore dX0_countHalves_77 rfl (by first | omega | (simp (disch := omega) only [w32_id]; omega)) ?_
        refine Gx_iinc_2 dX0_countHalves_78 (Nat.le_of_ble_eq_true rfl) (Nat.ne_of_beq_eq_false rfl) ?_
        try simp (disch := omega) only [w32_id]
        refine Gx_goto (tgt := 29) dX0_countHalves_81 (by decide) ?_
        refine Gx_name (fun vN eN => ?_)
        refine ih (i + 1) vN (by omega) (by omega) ?_
        have qF : ∀ a k, ¬ ((a = 29 ∨ a = 30) ∧ 0 ≤ k ∧ k < 2) → vN a k = v0 a k := by
          intro a k hk
          rw [eN, gUp_ne2 (by omega), gUp_ne2 (by omega)]
          exact hF a k hk
        cases hz : gHas (aHf v0) i
        · rw [hz] at hsd
          have z : sd = 0 := hsd
          rw [z] at eN
          refine ⟨qF, ?_, ?_, ?_, ?_⟩
          all_goals rw [yCnt_s h0, eN]
          all_goals simp (disch := omega) only [gUp_ne2, gUp_eq2, aH0, aH1, aB0, aB1, hz, p1, p2, p3, p4]
          all_goals simp [c68]
        · rw [hz] at hsd
          have z : sd = 1 := hsd
          rw [z] at eN
          refine ⟨qF, ?_, ?_, ?_, ?_⟩
          all_goals rw [yCnt_s h0, eN]
          all_goals simp (disch := omega) only [gUp_ne2, gUp_eq2, aH0, aH1, aB0, aB1, hz, p1, p2, p3, p4]
          all_goals simp [c68]
      · refine Gx_iconst ⟨by decide, by decide⟩ dX0_countHalves_71 ?_
        refine Gx_goto (tgt := 76) dX0_countHalves_72 (by decide) ?_
        refine Gx_iadd dX0_countHalves_76 ?_
        try simp (disch := omega) only [w32_id]
        refine Gx_iastore dX0_countHalves_77 rfl (by first | omega | (simp (disch := omega) only [w32_id]; omega)) ?_
        refine Gx_iinc_2 dX0_countHalves_78 (Nat.le_of_ble_eq_true rfl) (Nat.ne_of_beq_eq_false rfl) ?_
        try simp (disch := omega) only [w32_id]
        refine Gx_goto (tgt := 29) dX0_countHalves_81 (by decide) ?_
        refine Gx_name (fun vN eN => ?_)
        refine ih (i + 1) vN (by omega) (by omega) ?_
        have qF : ∀ a k, ¬ ((a = 29 ∨ a = 30) ∧ 0 ≤ k ∧ k < 2) → vN a k = v0 a k := by
          intro a k hk
          rw [eN, gUp_ne2 (by omega), gUp_ne2 (by omega)]
          exact hF a k hk
        cases hz : gHas (aHf v0) i
        · rw [hz] at hsd
          have z : sd = 0 := hsd
          rw [z] at eN
          refine ⟨qF, ?_, ?_, ?_, ?_⟩
          all_goals rw [yCnt_s h0, eN]
          all_goals simp (disch := omega) only [gUp_ne2, gUp_eq2, aH0, aH1, aB0, aB1, hz, p1, p2, p3, p4]
          all_goals simp [c68]
        · rw [hz] at hsd
          have z : sd = 1 := hsd
          rw [z] at eN
          refine ⟨qF, ?_, ?_, ?_, ?_⟩
          all_goals rw [yCnt_s h0, eN]
          all_goals simp (disch := omega) only [gUp_ne2, gUp_eq2, aH0, aH1, aB0, aB1, hz, p1, p2, p3, p4]
          all_goals simp [c68]
set_option maxHeartbeats 1000000 in
theorem ct_X0_countHalves {x : Int} (hx : x = 17 ∨ x = 23) (hn : 0 ≤ v 0 32 ∧ v 0 32 ≤ 24) (k : ∀ v1, oHv v v1 x (v 0 32) → Q (9, 0) v1 (gHd K) t) : Ctr Γ mX0_countHalves [(2, 0), (2, x)] v (gHd K) t Q := by
  refine Ctr.ofG (ls := [(2, 0), (2, x), (9, 0)]) rfl rfl rfl rfl rfl ?_
  refine Gx_iconst ⟨by decide, by decide⟩ dX0_countHalves_0 ?_
  refine Gx_istore_n_2 dX0_countHalves_1 (Nat.le_of_ble_eq_true rfl) (Nat.ne_of_beq_eq_false rfl) ?_
  refine Gx_iload_n (i := 2) dX0_countHalves_2 rfl rfl ?_
  refine Gx_iconst ⟨by decide, by decide⟩ dX0_countHalves_3 ?_
  refine Gx_icmp_ge (tgt := 27) dX0_countHalves_4 (by decide) (fun hz => absurd hz (by decide)) (fun _ => ?_)
  refine Gx_aload_n (i := 0) dX0_countHalves_7 rfl rfl ?_
  refine gf_X0_99_20 dX0_countHalves_8 rfl rfl ?_
  refine Gx_iload_n (i := 2) dX0_countHalves_11 rfl rfl ?_
  refine Gx_iconst ⟨by decide, by decide⟩ dX0_countHalves_12 ?_
  refine Gx_iastore dX0_countHalves_13 rfl (by first | omega | (simp (disch := omega) only [w32_id]; omega)) ?_
  refine Gx_aload_n (i := 0) dX0_countHalves_14 rfl rfl ?_
  refine gf_X0_102_20 dX0_countHalves_15 rfl rfl ?_
  refine Gx_iload_n (i := 2) dX0_countHalves_18 rfl rfl ?_
  refine Gx_iconst ⟨by decide, by decide⟩ dX0_countHalves_19 ?_
  refine Gx_iastore dX0_countHalves_20 rfl (by first | omega | (simp (disch := omega) only [w32_id]; omega)) ?_
  refine Gx_iinc_2 dX0_countHalves_21 (Nat.le_of_ble_eq_true rfl) (Nat.ne_of_beq_eq_false rfl) ?_
  rw [show w32 (0 + 1) = (1 : Int) from by decide]
  refine Gx_goto (tgt := 2) dX0_countHalves_24 (by decide) ?_
  refine Gx_iload_n (i := 2) dX0_countHalves_2 rfl rfl ?_
  refine Gx_iconst ⟨by decide, by decide⟩ dX0_countHalves_3 ?_
  refine Gx_icmp_ge (tgt := 27) dX0_countHalves_4 (by decide) (fun hz => absurd hz (by decide)) (fun _ => ?_)
  refine Gx_aload_n (i := 0) dX0_countHalves_7 rfl rfl ?_
  refine gf_X0_99_20 dX0_countHalves_8 rfl rfl ?_
  refine Gx_iload_n (i := 2) dX0_countHalves_11 rfl rfl ?_
  refine Gx_iconst ⟨by decide, by decide⟩ dX0_countHalves_12 ?_
  refine Gx_iastore dX0_countHalves_13 rfl (by first | omega | (simp (disch := omega) only [w32_id]; omega)) ?_
  refine Gx_aload_n (i := 0) dX0_countHalves_14 rfl rfl ?_
  refine gf_X0_102_20 dX0_countHalves_15 rfl rfl ?_
  refine Gx_iload_n (i := 2) dX0_countHalves_18 rfl rfl ?_
  refine Gx_iconst ⟨by decide, by decide⟩ dX0_countHalves_19 ?_
  refine Gx_iastore dX0_countHalves_20 rfl (by first | omega | (simp (disch := omega) only [w32_id]; omega)) ?_
  refine Gx_iinc_2 dX0_countHalves_21 (Nat.le_of_ble_eq_true rfl) (Nat.ne_of_beq_eq_false rfl) ?_
  rw [show w32 (1 + 1) = (2 : Int) from by decide]
  refine Gx_goto (tgt := 2) dX0_countHalves_24 (by decide) ?_
  refine Gx_iload_n (i := 2) dX0_countHalves_2 rfl rfl ?_
  refine Gx_iconst ⟨by decide, by decide⟩ dX0_countHalves_3 ?_
  refine Gx_icmp_ge (tgt := 27) dX0_countHalves_4 (by decide) (fun _ => ?_) (fun hz => absurd hz (by decide))
  refine Gx_iconst ⟨by decide, by decide⟩ dX0_countHalves_27 ?_
  refine Gx_istore_n_2 dX0_countHalves_28 (Nat.le_of_ble_eq_true rfl) (Nat.ne_of_beq_eq_false rfl) ?_
  refine Gx_name (fun vN eN => ?_)
  have hFN : ∀ a k, ¬ ((a = 29 ∨ a = 30) ∧ 0 ≤ k ∧ k < 2) → vN a k = v a k := by
    intro a k hk
    rw [eN]
    simp (disch := omega) only [gUp_ne2]
  refine lp_X0_countHalves (v0 := v) hx rfl hn.2 k (v 0 32).toNat 0 vN (by omega) (by omega) ⟨hFN, ?_, ?_, ?_, ?_⟩
  all_goals rw [eN]
  all_goals simp (disch := omega) only [gUp_ne2, gUp_eq2]
  all_goals rfl
/-- the eaters of A's memory: what bounds them -/
def aEat (v : gM) (x : Int) : Prop := (0 ≤ v 0 12 ∧ v 0 12 ≤ 2) ∧ ∀ e, 0 ≤ e → e < v 0 12 → (1 ≤ v 7 e ∧ v 7 e ≤ 9) ∧ (0 ≤ v (x + 2) e ∧ v (x + 2) e ≤ 200) ∧ (0 ≤ v 8 e ∧ v 8 e ≤ 9) ∧ 0 ≤ v 9 e ∧ v 9 e ≤ 9
def oFd (v0 v : gM) (x l0 n : Int) : Prop := (∀ a k, ¬ ((a = x + 2 ∨ a = x + 5) ∧ 0 ≤ k ∧ k < n) → v a k = v0 a k) ∧ ∀ k, 0 ≤ k → k < n → v (x + 2) k = yMo (v0 7 k) (v0 (x + 2) k) (v0 8 k) (v0 9 k) (yLeft (v0 7) (v0 (x + 2)) l0 k.toNat) ∧ v (x + 5) k = (if yStv (v0 7 k) (v0 (x + 2) k) (yLeft (v0 7) (v0 (x + 2)) l0 k.toNat) = true then 1 else 0)

set_option maxHeartbeats 4000000 in
theorem lp_X0_feed {x l0 n : Int} {bc bs : Nat} {fd : Int} {v0 : gM} (hx : x = 17 ∨ x = 23) (hE : aEat v0 x) (hn : v0 0 12 = n) (hl : 0 ≤ l0 ∧ l0 ≤ 5000) (cont : ∀ v1, oFd v0 v1 x l0 n → Q (0, yLeft (v0 7) (v0 (x + 2)) l0 n.toNat) v1 (gHd K) t) : ∀ (j : Nat) (e : Int) (v : gM) (z5 z6 z7 : gV), 0 ≤ e → e + j = n → oFd v0 v x l0 e → Gx Γ mX0_feed 5 [(2, 0), (2, x), (0, fd), (0, yLeft (v0 7) (v0 (x + 2)) l0 e.toNat), (0, e), z5, z6, z7] [] v (gHd K) t bc bs Q := by
  intro j
  induction j with
  | zero =>
    intro e v z5 z6 z7 h0 h1 hP
    obtain ⟨hF, hV⟩ := hP
    obtain ⟨hx0, hx1, hx2, hx3, hx4, hx5⟩ := hdx (K := K) hx
    have e12 : v 0 12 = n := by rw [hF 0 12 (by omega)]; exact hn
    refine Gx_iload dX0_feed_5 rfl ?_
    refine Gx_aload_n (i := 0) dX0_feed_7 rfl rfl ?_
    refine gf_X0_273_20 dX0_feed_8 rfl rfl ?_
    rw [e12]
    refine Gx_icmp_ge (tgt := 143) dX0_feed_11 (by decide) (fun c11 => ?_) (fun c11 => ?_)
    · refine Gx_iload_n (i := 3) dX0_feed_143 rfl rfl ?_
      refine Gx_ireturn dX0_feed_144 trivial ?_
      have e0 : e = n := by omega
      rw [e0] at hF hV ⊢
      exact cont v ⟨hF, hV⟩
    · exfalso
      omega
  | succ j ih =>
    intro e v z5 z6 z7 h0 h1 hP
    obtain ⟨hF, hV⟩ := hP
    obtain ⟨hx0, hx1, hx2, hx3, hx4, hx5⟩ := hdx (K := K) hx
    have e12 : v 0 12 = n := by rw [hF 0 12 (by omega)]; exact hn
    have hE1 := hE.1
    obtain ⟨g51, g56, g52, g53⟩ := hE.2 e h0 (by omega)
    have hlb := yLeft_le (ea := v0 7) (mo := v0 (x + 2)) hl.1 e.toNat (fun k k0 k1 => Int.mul_nonneg (by have := (hE.2 k k0 (by omega)).1; omega) (by have := (hE.2 k k0 (by omega)).2.1; omega))
    have hm1 : 0 ≤ v0 7 e * v0 (x + 2) e ∧ v0 7 e * v0 (x + 2) e ≤ 9 * 200 := ⟨Int.mul_nonneg (by omega) g56.1, Int.mul_le_mul g51.2 g56.2 g56.1 (by omega)⟩
    have hm2 : 0 ≤ v0 (x + 2) e * v0 8 e ∧ v0 (x + 2) e * v0 8 e ≤ 200 * 9 := ⟨Int.mul_nonneg g56.1 g52.1, Int.mul_le_mul g56.2 g52.2 g52.1 (by omega)⟩
    have hd1 := tdiv_bd (a := v0 (x + 2) e * v0 8 e) (b := 10) hm2.1 (by omega)
    have hd2 := tdiv_bd (a := min (yLeft (v0 7) (v0 (x + 2)) l0 e.toNat) (v0 7 e * v0 (x + 2) e)) (b := v0 7 e) (by omega) (by omega)
    have hz0 : v0 (x + 2) e = 0 → v0 7 e * v0 (x + 2) e = 0 := fun z => by rw [z, Int.mul_zero]
    refine Gx_iload dX0_feed_5 rfl ?_
    refine Gx_aload_n (i := 0) dX0_feed_7 rfl rfl ?_
    refine gf_X0_273_20 dX0_feed_8 rfl rfl ?_
    try simp (disch := omega) only [gUp_ne2, gUp_eq2, hF]
    rw [hn]
    refine Gx_icmp_ge (tgt := 143) dX0_feed_11 (by decide) (fun c11 => ?_) (fun c11 => ?_)
    · refine Gx_iload_n (i := 3) dX0_feed_143 rfl rfl ?_
      refine Gx_ireturn dX0_feed_144 trivial ?_
      exfalso
      omega
    · refine Gx_aload_n (i := 0) dX0_feed_14 rfl rfl ?_
      refine gf_X0_50_20 dX0_feed_15 rfl rfl ?_
      refine Gx_iload dX0_feed_18 rfl ?_
      refine Gx_iaload dX0_feed_20 rfl (by first | omega | (simp (disch := omega) only [w32_id]; omega)) ?_
      try simp (disch := omega) only [gUp_ne2, gUp_eq2, hF]
      refine Gx_aload_n (i := 1) dX0_feed_21 rfl rfl ?_
      refine gf_X0_282_21 dX0_feed_22 rfl hx0 ?_
      refine Gx_iload dX0_feed_25 rfl ?_
      refine Gx_iaload dX0_feed_27 hx2 (by first | omega | (simp (disch := omega) only [w32_id]; omega)) ?_
      try simp (disch := omega) only [gUp_ne2, gUp_eq2, hF]
      refine Gx_imul dX0_feed_28 ?_
      try simp (disch := omega) only [w32_id]
      refine Gx_istore_5 dX0_feed_29 (Nat.le_of_ble_eq_true rfl) (Nat.ne_of_beq_eq_false rfl) ?_
      refine Gx_iload_n (i := 3) dX0_feed_31 rfl rfl ?_
      refine Gx_iload dX0_feed_32 rfl ?_
      refine cl_X0_207 dX0_feed_34 rfl ⟨(Nat.le_of_ble_eq_true rfl), (Nat.le_of_ble_eq_true rfl)⟩ rfl ?_
      refine Gx_istore_6 dX0_feed_37 (Nat.le_of_ble_eq_true rfl) (Nat.ne_of_beq_eq_false rfl) ?_
      refine Gx_iload_n (i := 3) dX0_feed_39 rfl rfl ?_
      refine Gx_iload dX0_feed_40 rfl ?_
      refine Gx_isub dX0_feed_42 ?_
      try simp (disch := omega) only [w32_id]
      refine Gx_istore_n_3 dX0_feed_43 (Nat.le_of_ble_eq_true rfl) (Nat.ne_of_beq_eq_false rfl) ?_
      refine Gx_aload_n (i := 1) dX0_feed_44 rfl rfl ?_
      refine gf_X0_385_21 dX0_feed_45 rfl hx0 ?_
      refine Gx_iload dX0_feed_48 rfl ?_
      refine Gx_iload dX0_feed_50 rfl ?_
      refine Gx_iload dX0_feed_52 rfl ?_
      refine Gx_icmp_ge (tgt := 61) dX0_feed_54 (by decide) (fun c54 => ?_) (fun c54 => ?_)
      · refine Gx_iconst ⟨by decide, by decide⟩ dX0_feed_61 ?_
        refine Gx_zastore dX0_feed_62 hx5 (by first | omega | (simp (disch := omega) only [w32_id]; omega)) (by first | omega | (simp (disch := omega) only [w32_id]; omega)) ?_
        refine Gx_aload_n (i := 1) dX0_feed_63 rfl rfl ?_
        refine gf_X0_385_21 dX0_feed_64 rfl hx0 ?_
        refine Gx_iload dX0_feed_67 rfl ?_
        refine Gx_zaload dX0_feed_69 hx5 (by first | omega | (simp (disch := omega) only [w32_id]; omega)) ?_
        try simp (disch := omega) only [gUp_ne2, gUp_eq2, hF]
        refine Gx_if_eq (tgt := 86) dX0_feed_70 (by decide) (fun c70 => ?_) (fun c70 => (by exfalso; omega))
        refine Gx_aload_n (i := 1) dX0_feed_86 rfl rfl ?_
        refine gf_X0_282_21 dX0_feed_87 rfl hx0 ?_
        refine Gx_iload dX0_feed_90 rfl ?_
        refine Gx_iaload dX0_feed_92 hx2 (by first | omega | (simp (disch := omega) only [w32_id]; omega)) ?_
        try simp (disch := omega) only [gUp_ne2, gUp_eq2, hF]
        refine Gx_aload_n (i := 1) dX0_feed_93 rfl rfl ?_
        refine gf_X0_282_21 dX0_feed_94 rfl hx0 ?_
        refine Gx_iload dX0_feed_97 rfl ?_
        refine Gx_iaload dX0_feed_99 hx2 (by first | omega | (simp (disch := omega) only [w32_id]; omega)) ?_
        try simp (disch := omega) only [gUp_ne2, gUp_eq2, hF]
        refine Gx_aload_n (i := 0) dX0_feed_100 rfl rfl ?_
        refine gf_X0_53_20 dX0_feed_101 rfl rfl ?_
        refine Gx_iload dX0_feed_104 rfl ?_
        refine Gx_iaload dX0_feed_106 rfl (by first | omega | (simp (disch := omega) only [w32_id]; omega)) ?_
        try simp (disch := omega) only [gUp_ne2, gUp_eq2, hF]
        refine Gx_imul dX0_feed_107 ?_
        try simp (disch := omega) only [w32_id]
        refine Gx_bipush dX0_feed_108 ⟨by decide, by decide⟩ ?_
        refine Gx_idiv dX0_feed_110 (by first | omega | (simp (disch := omega) only [w32_id]; omega)) ?_
        refine Gx_iadd dX0_feed_111 ?_
        try simp (disch := omega) only [w32_id]
        refine Gx_istore_7 dX0_feed_112 (Nat.le_of_ble_eq_true rfl) (Nat.ne_of_beq_eq_false rfl) ?_
        refine Gx_aload_n (i := 1) dX0_feed_114 rfl rfl ?_
        refine gf_X0_282_21 dX0_feed_115 rfl hx0 ?_
        refine Gx_iload dX0_feed_118 rfl ?_
        refine Gx_sipush dX0_feed_120 ⟨by decide, by decide⟩ ?_
        refine Gx_iload dX0_feed_123 rfl ?_
        refine Gx_aload_n (i := 0) dX0_feed_125 rfl rfl ?_
        refine gf_X0_56_20 dX0_feed_126 rfl rfl ?_
        refine Gx_iload dX0_feed_129 rfl ?_
        refine Gx_iaload dX0_feed_131 rfl (by first | omega | (simp (disch := omega) only [w32_id]; omega)) ?_
        try simp (disch := omega) only [gUp_ne2, gUp_eq2, hF]
        refine Gx_iadd dX0_feed_132 ?_
        try simp (disch := omega) only [w32_id]
        refine cl_X0_207 dX0_feed_133 rfl ⟨(Nat.le_of_ble_eq_true rfl), (Nat.le_of_ble_eq_true rfl)⟩ rfl ?_
        refine Gx_iastore dX0_feed_136 hx2 (by first | omega | (simp (disch := omega) only [w32_id]; omega)) ?_
        refine Gx_iinc_4 dX0_feed_137 (Nat.le_of_ble_eq_true rfl) (Nat.ne_of_beq_eq_false rfl) ?_
        try simp (disch := omega) only [w32_id]
        refine Gx_goto (tgt := 5) dX0_feed_140 (by decide) ?_
        have hy := yLeft_s (ea := v0 7) (mo := v0 (x + 2)) (l := l0) h0
        rw [← hy]
        refine Gx_name (fun vN eN => ?_)
        refine ih (e + 1) vN _ _ _ (by omega) (by omega) ⟨fun a k hn9 => ?_, fun k k0 k1 => ?_⟩
        · rw [eN, gUp_ne2 (by omega), gUp_ne2 (by omega)]
          exact hF a k (by omega)
        · by_cases hk : k = e
          · subst hk
            refine ⟨?_, ?_⟩
            · rw [eN, gUp_eq2 rfl rfl]
              unfold yMo
              first | (rw [if_pos (by omega)]; done) | (rw [if_neg (by omega)]; done) | (rw [if_pos (by omega)]) | (rw [if_neg (by omega)])
            · rw [eN, gUp_ne2 (by omega), gUp_eq2 rfl rfl]
              unfold yStv
              first | (rw [if_pos (by simp only [decide_eq_true_eq]; omega)]; done) | (rw [if_neg (by simp only [decide_eq_true_eq]; omega)]; done)
          · rw [eN, gUp_ne2 (by omega), gUp_ne2 (by omega), gUp_ne2 (by omega), gUp_ne2 (by omega)]
            exact hV k k0 (by omega)
      · refine Gx_iconst ⟨by decide, by decide⟩ dX0_feed_57 ?_
        refine Gx_goto (tgt := 62) dX0_feed_58 (by decide) ?_
        refine Gx_zastore dX0_feed_62 hx5 (by first | omega | (simp (disch := omega) only [w32_id]; omega)) (by first | omega | (simp (disch := omega) only [w32_id]; omega)) ?_
        refine Gx_aload_n (i := 1) dX0_feed_63 rfl rfl ?_
        refine gf_X0_385_21 dX0_feed_64 rfl hx0 ?_
        refine Gx_iload dX0_feed_67 rfl ?_
        refine Gx_zaload dX0_feed_69 hx5 (by first | omega | (simp (disch := omega) only [w32_id]; omega)) ?_
        try simp (disch := omega) only [gUp_ne2, gUp_eq2, hF]
        refine Gx_if_eq (tgt := 86) dX0_feed_70 (by decide) (fun c70 => (by exfalso; omega)) (fun c70 => ?_)
        refine Gx_iload dX0_feed_73 rfl ?_
        refine Gx_aload_n (i := 0) dX0_feed_75 rfl rfl ?_
        refine gf_X0_50_20 dX0_feed_76 rfl rfl ?_
        refine Gx_iload dX0_feed_79 rfl ?_
        refine Gx_iaload dX0_feed_81 rfl (by first | omega | (simp (disch := omega) only [w32_id]; omega)) ?_
        try simp (disch := omega) only [gUp_ne2, gUp_eq2, hF]
        refine Gx_idiv dX0_feed_82 (by first | omega | (simp (disch := omega) only [w32_id]; omega)) ?_
        refine Gx_goto (tgt := 112) dX0_feed_83 (by decide) ?_
        refine Gx_istore_7 dX0_feed_112 (Nat.le_of_ble_eq_true rfl) (Nat.ne_of_beq_eq_false rfl) ?_
        refine Gx_aload_n (i := 1) dX0_feed_114 rfl rfl ?_
        refine gf_X0_282_21 dX0_feed_115 rfl hx0 ?_
        refine Gx_iload dX0_feed_118 rfl ?_
        refine Gx_sipush dX0_feed_120 ⟨by decide, by decide⟩ ?_
        refine Gx_iload dX0_feed_123 rfl ?_
        refine Gx_aload_n (i := 0) dX0_feed_125 rfl rfl ?_
        refine gf_X0_56_20 dX0_feed_126 rfl rfl ?_
        refine Gx_iload dX0_feed_129 rfl ?_
        refine Gx_iaload dX0_feed_131 rfl (by first | omega | (simp (disch := omega) only [w32_id]; omega)) ?_
        try simp (disch := omega) only [gUp_ne2, gUp_eq2, hF]
        refine Gx_iadd dX0_feed_132 ?_
        try simp (disch := omega) only [w32_id]
        refine cl_X0_207 dX0_feed_133 rfl ⟨(Nat.le_of_ble_eq_true rfl), (Nat.le_of_ble_eq_true rfl)⟩ rfl ?_
        refine Gx_iastore dX0_feed_136 hx2 (by first | omega | (simp (disch := omega) only [w32_id]; omega)) ?_
        refine Gx_iinc_4 dX0_feed_137 (Nat.le_of_ble_eq_true rfl) (Nat.ne_of_beq_eq_false rfl) ?_
        try simp (disch := omega) only [w32_id]
        refine Gx_goto (tgt := 5) dX0_feed_140 (by decide) ?_
        have hy := yLeft_s (ea := v0 7) (mo := v0 (x + 2)) (l := l0) h0
        rw [← hy]
        refine Gx_name (fun vN eN => ?_)
        refine ih (e + 1) vN _ _ _ (by omega) (by omega) ⟨fun a k hn9 => ?_, fun k k0 k1 => ?_⟩
        · rw [eN, gUp_ne2 (by omega), gUp_ne2 (by omega)]
          exact hF a k (by omega)
        · by_cases hk : k = e
          · subst hk
            refine ⟨?_, ?_⟩
            · rw [eN, gUp_eq2 rfl rfl]
              unfold yMo
              first | (rw [if_pos (by omega)]; done) | (rw [if_neg (by omega)]; done) | (rw [if_pos (by omega)]) | (rw [if_neg (by omega)])
            · rw [eN, gUp_ne2 (by omega), gUp_eq2 rfl rfl]
              unfold yStv
              first | (rw [if_pos (by simp only [decide_eq_true_eq]; omega)]; done) | (rw [if_neg (by simp only [decide_eq_true_eq]; omega)]; done)
          · rw [eN, gUp_ne2 (by omega), gUp_ne2 (by omega), gUp_ne2 (by omega), gUp_ne2 (by omega)]
            exact hV k k0 (by omega)
set_option maxHeartbeats 1000000 in
theorem ct_X0_feed {x l0 : Int} (hx : x = 17 ∨ x = 23) (hE : aEat v x) (hl : 0 ≤ l0 ∧ l0 ≤ 5000) (k : ∀ v1, oFd v v1 x l0 (v 0 12) → Q (0, yLeft (v 7) (v (x + 2)) l0 (v 0 12).toNat) v1 (gHd K) t) : Ctr Γ mX0_feed [(2, 0), (2, x), (0, l0)] v (gHd K) t Q := by
  refine Ctr.ofG (ls := [(2, 0), (2, x), (0, l0), (9, 0), (9, 0), (9, 0), (9, 0), (9, 0)]) rfl rfl rfl rfl rfl ?_
  refine Gx_iload_n (i := 2) dX0_feed_0 rfl rfl ?_
  refine Gx_istore_n_3 dX0_feed_1 (Nat.le_of_ble_eq_true rfl) (Nat.ne_of_beq_eq_false rfl) ?_
  refine Gx_iconst ⟨by decide, by decide⟩ dX0_feed_2 ?_
  refine Gx_istore_4 dX0_feed_3 (Nat.le_of_ble_eq_true rfl) (Nat.ne_of_beq_eq_false rfl) ?_
  refine lp_X0_feed hx hE rfl hl k (v 0 12).toNat 0 v _ _ _ (by omega) (by have := hE.1; omega) ⟨fun a k _ => rfl, fun k k0 k1 => by omega⟩
end
