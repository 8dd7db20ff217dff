/-! AcornYears: tell, grow, countHalves, feed -/
section
variable {Γ : gC} {v : gM} {K : gH} {t : Nat} {Q : gQ}
def tFrac (v : gM) (u l : Int) : gM := gUp (gUp v 0 3 (w64 (u.tdiv (gGcd u l)))) 0 4 (w64 (l.tdiv (gGcd u l)))

theorem lp_X0_tell {u l a : Int} {bc bs : Nat} : ∀ (j : Nat) (x y z : Int) (kz : Nat), y.natAbs ≤ j → Gx Γ mX0_tell 31 [(2, 0), (1, u), (9, 0), (1, l), (9, 0), (0, a), (1, gG (j + 1) x y), (9, 0), (9, 0), (9, 0), (9, 0), (9, 0)] [] v (gHd K) t bc bs Q → Gx Γ mX0_tell 6 [(2, 0), (1, u), (9, 0), (1, l), (9, 0), (0, a), (1, x), (9, 0), (1, y), (9, 0), (kz, z), (9, 0)] [] v (gHd K) t bc bs Q := by
  intro j
  induction j with
  | zero =>
    intro x y z kz h0 k
    refine Gx_lload dX0_tell_6 rfl ?_
    refine Gx_lconst0 dX0_tell_8 ?_
    try simp (disch := omega) only [w64_id]
    refine Gx_lcmpif_eq (tgt := 31) dX0_tell_9 dX0_tell_10 (by decide) (fun c9 => ?_) (fun c9 => ?_)
    · refine Gx_dead_8 ?_
      refine Gx_dead_10 ?_
      have e : gG 1 x y = x := by unfold gG; rw [if_pos (by omega)]
      rw [e] at k
      exact k
    · refine Gx_lload dX0_tell_13 rfl ?_
      refine Gx_lload dX0_tell_15 rfl ?_
      refine Gx_lrem dX0_tell_17 (by first | omega | (simp (disch := omega) only [w32_id]; omega)) ?_
      refine Gx_lstore_10 dX0_tell_18 (Nat.le_of_ble_eq_true rfl) (Nat.ne_of_beq_eq_false rfl) ?_
      refine Gx_lload dX0_tell_20 rfl ?_
      refine Gx_lstore_6 dX0_tell_22 (Nat.le_of_ble_eq_true rfl) (Nat.ne_of_beq_eq_false rfl) ?_
      refine Gx_lload dX0_tell_24 rfl ?_
      refine Gx_lstore_8 dX0_tell_26 (Nat.le_of_ble_eq_true rfl) (Nat.ne_of_beq_eq_false rfl) ?_
      refine Gx_goto (tgt := 6) dX0_tell_28 (by decide) ?_
      exfalso
      omega
  | succ j ih =>
    intro x y z kz h0 k
    refine Gx_lload dX0_tell_6 rfl ?_
    refine Gx_lconst0 dX0_tell_8 ?_
    try simp (disch := omega) only [w64_id]
    refine Gx_lcmpif_eq (tgt := 31) dX0_tell_9 dX0_tell_10 (by decide) (fun c9 => ?_) (fun c9 => ?_)
    · refine Gx_dead_8 ?_
      refine Gx_dead_10 ?_
      have e : gG (j + 1 + 1) x y = x := by unfold gG; rw [if_pos (by omega)]
      rw [e] at k
      exact k
    · refine Gx_lload dX0_tell_13 rfl ?_
      refine Gx_lload dX0_tell_15 rfl ?_
      refine Gx_lrem dX0_tell_17 (by first | omega | (simp (disch := omega) only [w32_id]; omega)) ?_
      refine Gx_lstore_10 dX0_tell_18 (Nat.le_of_ble_eq_true rfl) (Nat.ne_of_beq_eq_false rfl) ?_
      refine Gx_lload dX0_tell_20 rfl ?_
      refine Gx_lstore_6 dX0_tell_22 (Nat.le_of_ble_eq_true rfl) (Nat.ne_of_beq_eq_false rfl) ?_
      refine Gx_lload dX0_tell_24 rfl ?_
      refine Gx_lstore_8 dX0_tell_26 (Nat.le_of_ble_eq_true rfl) (Nat.ne_of_beq_eq_false rfl) ?_
      refine Gx_goto (tgt := 6) dX0_tell_28 (by decide) ?_
      have e : gG (j + 1 + 1) x y = gG (j + 1) y (x.tmod y) := by
        show (if y = 0 then x else gG (j + 1) y (x.tmod y)) = _
        rw [if_neg (by omega)]
      rw [e] at k
      have h5 : (x.tmod y).natAbs < y.natAbs := by rw [Int.natAbs_tmod]; exact Nat.mod_lt _ (by omega)
      exact ih y (x.tmod y) (x.tmod y) 1 (by omega) k
theorem ct_X0_tell {u l a : Int} (hl : l ≠ 0) (k : Q (0, a) (tFrac v u l) (gHd K) t) : Ctr Γ mX0_tell [(2, 0), (1, u), (1, l), (0, a)] v (gHd K) t Q := by
  refine Ctr.ofG (ls := [(2, 0), (1, u), (9, 0), (1, l), (9, 0), (0, a), (9, 0), (9, 0), (9, 0), (9, 0), (9, 0), (9, 0)]) rfl rfl rfl rfl rfl ?_
  refine Gx_lload_n (i := 1) dX0_tell_0 rfl rfl ?_
  refine Gx_lstore_6 dX0_tell_1 (Nat.le_of_ble_eq_true rfl) (Nat.ne_of_beq_eq_false rfl) ?_
  refine Gx_lload_n (i := 3) dX0_tell_3 rfl rfl ?_
  refine Gx_lstore_8 dX0_tell_4 (Nat.le_of_ble_eq_true rfl) (Nat.ne_of_beq_eq_false rfl) ?_
  refine lp_X0_tell l.natAbs u l 0 9 (Nat.le_refl _) ?_
  have hg := gGcd_ne (u := u) hl
  show Gx Γ mX0_tell 31 [(2, 0), (1, u), (9, 0), (1, l), (9, 0), (0, a), (1, gGcd u l), (9, 0), (9, 0), (9, 0), (9, 0), (9, 0)] [] v (gHd K) t 0 0 Q
  refine Gx_aload_n (i := 0) dX0_tell_31 rfl rfl ?_
  refine Gx_lload_n (i := 1) dX0_tell_32 rfl rfl ?_
  refine Gx_lload dX0_tell_33 rfl ?_
  refine Gx_ldiv dX0_tell_35 (by exact hg) ?_
  refine pf_X0_14_20 dX0_tell_36 rfl rfl ?_
  refine Gx_aload_n (i := 0) dX0_tell_39 rfl rfl ?_
  refine Gx_lload_n (i := 3) dX0_tell_40 rfl rfl ?_
  refine Gx_lload dX0_tell_41 rfl ?_
  refine Gx_ldiv dX0_tell_43 (by exact hg) ?_
  refine pf_X0_18_20 dX0_tell_44 rfl rfl ?_
  refine Gx_iload dX0_tell_47 rfl ?_
  refine Gx_ireturn dX0_tell_49 trivial ?_
  exact k
theorem aN_c20 {v : gM} {h : gH} {x : Int} : aN v h x 38 20 = (h (v 0 7)).2 := rfl
theorem aN_c22 {v : gM} {h : gH} {x : Int} : aN v h x 38 22 = v 0 12 := rfl
theorem aN_c26 {v : gM} {h : gH} {x : Int} : aN v h x 38 26 = v 0 10 := rfl
theorem aN_c27 {v : gM} {h : gH} {x : Int} : aN v h x 38 27 = v 0 11 := rfl
theorem aN_c28 {v : gM} {h : gH} {x : Int} : aN v h x 38 28 = (h (v 0 8)).2 := rfl
theorem aN_c31 {v : gM} {h : gH} {x : Int} : aN v h x 38 31 = v x 2 := rfl
theorem aN_c33 {v : gM} {h : gH} {x : Int} : aN v h x 38 33 = v 0 32 := rfl
theorem aN_57 {v : gM} {h : gH} {x k : Int} (h0 : 0 ≤ k) (h1 : k < v 0 32) : aN v h x 57 k = v (v 16 k) 0 := by
  show (if 0 ≤ k ∧ k < v 0 32 then v (v 16 k) 0 else 0) = _
  rw [if_pos ⟨h0, h1⟩]
theorem aN_58 {v : gM} {h : gH} {x k : Int} (h0 : 0 ≤ k) (h1 : k < v 0 32) : aN v h x 58 k = v (x + 1) k := by
  show (if 0 ≤ k ∧ k < v 0 32 then v (x + 1) k else 0) = _
  rw [if_pos ⟨h0, h1⟩]
theorem aN_56 {v : gM} {h : gH} {x k : Int} (h0 : 0 ≤ k) (h1 : k < v 0 12) : aN v h x 56 k = v (x + 2) k := by
  show (if 0 ≤ k ∧ k < v 0 12 then v (x + 2) k else 0) = _
  rw [if_pos ⟨h0, h1⟩]
theorem aN_51 {v : gM} {h : gH} {x k : Int} (h0 : 0 ≤ k) (h1 : k < v 0 12) : aN v h x 51 k = v 7 k := by
  show (if 0 ≤ k ∧ k < v 0 12 then v 7 k else 0) = _
  rw [if_pos ⟨h0, h1⟩]
theorem aN_52 {v : gM} {h : gH} {x k : Int} (h0 : 0 ≤ k) (h1 : k < v 0 12) : aN v h x 52 k = v 8 k := by
  show (if 0 ≤ k ∧ k < v 0 12 then v 8 k else 0) = _
  rw [if_pos ⟨h0, h1⟩]
theorem aN_53 {v : gM} {h : gH} {x k : Int} (h0 : 0 ≤ k) (h1 : k < v 0 12) : aN v h x 53 k = v 9 k := by
  show (if 0 ≤ k ∧ k < v 0 12 then v 9 k else 0) = _
  rw [if_pos ⟨h0, h1⟩]
theorem aN_54 {v : gM} {h : gH} {x k : Int} (h0 : 0 ≤ k) (h1 : k < (h (v 0 8)).2) : aN v h x 54 k = v (v 0 8) k := by
  show (if 0 ≤ k ∧ k < (h (v 0 8)).2 then v (v 0 8) k else 0) = _
  rw [if_pos ⟨h0, h1⟩]
theorem aN_S {v : gM} {h : gH} {x s q : Int} (h0 : 0 ≤ s) (h1 : s < (h (v 0 7)).2) (hq : 0 ≤ q ∧ q ≤ 6) : aN v h x 50 (7 * s + q) = aS v h (v (v 0 7) s) q := by
  show (if 0 ≤ 7 * s + q ∧ 7 * s + q < 7 * (h (v 0 7)).2 then aS v h (v (v 0 7) ((7 * s + q) / 7)) ((7 * s + q) % 7) else 0) = _
  rw [if_pos (by omega), show (7 * s + q) / 7 = s by omega, show (7 * s + q) % 7 = q by omega]
theorem aN_S0 {v : gM} {h : gH} {x s : Int} (h0 : 0 ≤ s) (h1 : s < (h (v 0 7)).2) : aN v h x 50 (7 * s) = aKd (h (v (v 0 7) s)).1 := by
  have := aN_S (v := v) (h := h) (x := x) (q := 0) h0 h1 (by omega)
  rw [Int.add_zero] at this
  rw [this]
  rfl
theorem aN_Sw {v : gM} {h : gH} {x s w : Int} (h0 : 0 ≤ s) (h1 : s < (h (v 0 7)).2) (hw : 0 ≤ w ∧ w ≤ 2) : aN v h x 50 (7 * s + 1 + w) = v (v (v (v 0 7) s) 0) w := by
  rw [show 7 * s + 1 + w = 7 * s + (1 + w) by omega, aN_S h0 h1 (by omega)]
  unfold aS
  rw [if_neg (by omega), if_pos (by omega), show 1 + w - 1 = w by omega]
theorem aS_4 {v : gM} {h : gH} {o : Int} (hk : (h o).1 ≠ 3) : aS v h o 4 = v o 1 := by
  unfold aS
  rw [if_neg (by omega), if_neg (by omega), if_pos (by omega), if_neg hk]
theorem aS_5 {v : gM} {h : gH} {o : Int} (hk : (h o).1 ≠ 3) : aS v h o 5 = v o 2 := by
  unfold aS
  rw [if_neg (by omega), if_neg (by omega), if_neg (by omega), if_pos (by omega), if_neg hk]
theorem aS_7 {v : gM} {h : gH} {o : Int} (hk : (h o).1 = 7) : aS v h o 6 = v o 3 := by
  unfold aS
  rw [if_neg (by omega), if_neg (by omega), if_neg (by omega), if_neg (by omega), if_neg (by omega), if_pos hk]
theorem aS_6 {v : gM} {h : gH} {o : Int} (hk : (h o).1 = 6) : aS v h o 6 = if 0 ≤ v 0 35 then v 0 35 else v o 3 := by
  unfold aS
  rw [if_neg (by omega), if_neg (by omega), if_neg (by omega), if_neg (by omega), if_pos hk]
theorem aKd_1 {k : Nat} (hk : 3 ≤ k ∧ k ≤ 7) : aKd k = 1 ↔ k = 3 := by
  rcases (by omega : k = 3 ∨ k = 4 ∨ k = 5 ∨ k = 6 ∨ k = 7) with z | z | z | z | z <;> rw [z] <;> decide
theorem aN_s {v : gM} {h : gH} {x i o : Int} (hu : yOK (aN v h x)) (h0 : 0 ≤ i) (h1 : i < v 0 32) (ho : v (v 0 7) (v (v 16 i) 0) = o) : (0 ≤ v (v 16 i) 0 ∧ v (v 16 i) 0 < (h (v 0 7)).2) := by
  have hs := (hu.2.2.2.1 i h0 h1).1
  rw [aN_57 h0 h1] at hs
  exact hs
theorem aN_G {v : gM} {h : gH} {x w i o : Int} (hW : aWf v h) (hu : yOK (aN v h x)) (hw : 0 ≤ w ∧ w ≤ 2) (h0 : 0 ≤ i) (h1 : i < v 0 32) (ho : v (v 0 7) (v (v 16 i) 0) = o) : mG (aN v h x) w i = if (h o).1 = 3 then v (x + 1) i else min 60 (v (x + 1) i + v (v o 0) w) := by
  have hs := aN_s hu h0 h1 ho
  have hk := (hW.2.1 _ hs.1 hs.2).2.1
  rw [ho] at hk
  unfold mG
  rw [aN_57 h0 h1, aN_58 h0 h1, aN_S0 hs.1 hs.2, aN_Sw hs.1 hs.2 hw, ho]
  by_cases c : (h o).1 = 3
  · rw [if_pos ((aKd_1 hk).2 c), if_pos c]
  · rw [if_neg (fun z => c ((aKd_1 hk).1 z)), if_neg c]
def aBc (v : gM) (k : Nat) (o w g y : Int) : Prop := (k = 3 ∧ 0 < v (v o 0) w) ∨ (k = 4 ∧ v o 1 ≤ w ∧ v o 2 ≤ g) ∨ (k = 7 ∧ v o 1 < g ∧ y.tmod (v o 3) = 0) ∨ ((k = 5 ∨ k = 6) ∧ v o 1 < g)
theorem aN_B {v : gM} {h : gH} {x w i o : Int} (hW : aWf v h) (hu : yOK (aN v h x)) (hw : 0 ≤ w ∧ w ≤ 2) (h0 : 0 ≤ i) (h1 : i < v 0 32) (ho : v (v 0 7) (v (v 16 i) 0) = o) : mBq (aN v h x) w i = true ↔ aBc v (h o).1 o w (mG (aN v h x) w i) (v x 2) := by
  have hs := aN_s hu h0 h1 ho
  have hk := (hW.2.1 _ hs.1 hs.2).2.1
  rw [ho] at hk
  unfold mBq aBc
  rw [yBl_iff, aN_57 h0 h1, aN_S0 hs.1 hs.2, aN_Sw hs.1 hs.2 hw, aN_S hs.1 hs.2 (q := 4) (by omega), aN_S hs.1 hs.2 (q := 5) (by omega), aN_S hs.1 hs.2 (q := 6) (by omega), aN_c31, ho]
  generalize mG (aN v h x) w i = g
  clear hs hu hW ho
  rcases (by omega : (h o).1 = 3 ∨ (h o).1 = 4 ∨ (h o).1 = 5 ∨ (h o).1 = 6 ∨ (h o).1 = 7) with z | z | z | z | z
  · rw [z, show aKd 3 = 1 from rfl]
    clear hk z
    omega
  · rw [aS_4 (by rw [z]; decide), aS_5 (by rw [z]; decide), z, show aKd 4 = 3 from rfl]
    clear hk z
    omega
  · rw [aS_4 (by rw [z]; decide), aS_5 (by rw [z]; decide), z, show aKd 5 = 2 from rfl]
    clear hk z
    omega
  · rw [aS_4 (by rw [z]; decide), aS_5 (by rw [z]; decide), z, show aKd 6 = 4 from rfl]
    clear hk z
    omega
  · rw [aS_4 (by rw [z]; decide), aS_5 (by rw [z]; decide), aS_7 z, z, show aKd 7 = 5 from rfl]
    clear hk z
    omega
/-- the wood x has grown by its first i trees -/
def oGr (v0 v : gM) (h : gH) (x w i : Int) : Prop := (∀ a k, ¬ ((a = x + 1 ∨ a = x + 3) ∧ 0 ≤ k ∧ k < i) → v a k = v0 a k) ∧ ∀ k, 0 ≤ k → k < i → v (x + 1) k = mG (aN v0 h x) w k ∧ v (x + 3) k = (if mBq (aN v0 h x) w k = true then 1 else 0)

set_option maxHeartbeats 4000000 in
theorem lp_X0_grow {x w n : Int} {bc bs : Nat} {v0 : gM} (hx : x = 17 ∨ x = 23) (hw : 0 ≤ w ∧ w ≤ 2) (hn : v0 0 32 = n) (hW : aWf v0 (gHd K)) (hu : yOK (aN v0 (gHd K) x)) (cont : ∀ v1, oGr v0 v1 (gHd K) x w n → Q (9, 0) v1 (gHd K) t) : ∀ (j : Nat) (i : Int) (v : gM) (z4 : gV), 0 ≤ i → i + j = n → oGr v0 v (gHd K) x w i → Gx Γ mX0_grow 2 [(2, 0), (2, x), (0, w), (0, i), z4] [] v (gHd K) t bc bs Q := by
  intro j
  induction j with
  | zero =>
    intro i v z4 h0 h1 hP
    obtain ⟨hF, hV⟩ := hP
    obtain ⟨hx0, hx1, hx2, hx3, hx4, hx5⟩ := hdx (K := K) hx
    have hn24 : v0 0 32 ≤ 24 := hu.2.2.1.2
    have e32 : v 0 32 = n := by rw [hF 0 32 (by omega)]; exact hn
    refine Gx_iload_n (i := 3) dX0_grow_2 rfl rfl ?_
    refine Gx_aload_n (i := 0) dX0_grow_3 rfl rfl ?_
    refine gf_X0_276_20 dX0_grow_4 rfl rfl ?_
    rw [e32]
    refine Gx_icmp_ge (tgt := 86) dX0_grow_7 (by decide) (fun c7 => ?_) (fun c7 => ?_)
    · refine Gx_return dX0_grow_86 rfl ?_
      have e0 : i = n := by omega
      rw [e0] at hF hV
      exact cont v ⟨hF, hV⟩
    · exfalso
      omega
  | succ j ih =>
    intro i v z4 h0 h1 hP
    obtain ⟨hF, hV⟩ := hP
    obtain ⟨hx0, hx1, hx2, hx3, hx4, hx5⟩ := hdx (K := K) hx
    have hn24 : v0 0 32 ≤ 24 := hu.2.2.1.2
    have e32 : v 0 32 = n := by rw [hF 0 32 (by omega)]; exact hn
    obtain ⟨o, ho⟩ : ∃ o, v0 (v0 0 7) (v0 (v0 16 i) 0) = o := ⟨_, rfl⟩
    have hs := aN_s hu h0 (by omega) ho
    obtain ⟨ho66, hk3, hA66, hA⟩ := hW.2.1 _ hs.1 hs.2
    rw [ho] at ho66 hk3 hA66 hA
    have hTr := hW.2.2.2.1 i h0 (by omega)
    have hst : 0 ≤ v0 (x + 1) i ∧ v0 (x + 1) i ≤ 60 := by
      have := (hu.2.2.2.1 i h0 (by rw [aN_c33]; omega)).2
      rw [aN_58 h0 (by omega)] at this
      exact this
    have had : 0 ≤ v0 (v0 o 0) w ∧ v0 (v0 o 0) w ≤ 9 := by
      have := (hu.2.1 _ hs.1 hs.2).2.1 w hw.1 hw.2
      rw [aN_Sw hs.1 hs.2 hw, ho] at this
      exact this
    have h7 : (gHd K o).1 = 7 → v0 o 3 ≠ 0 := by
      intro z
      have g := (hu.2.1 _ hs.1 hs.2).2.2.2.2.1
      rw [aN_S0 hs.1 hs.2, aN_S hs.1 hs.2 (q := 6) (by omega), ho, aS_7 z] at g
      have g2 := (g (by rw [z]; rfl)).1
      omega
    have hG := aN_G hW hu hw h0 (by omega : i < v0 0 32) ho
    have hB := aN_B hW hu hw h0 (by omega : i < v0 0 32) ho
    have w7 := hW.1.1
    have hh7 := pairEq hW.1.2.1
    clear hW hu
    have e7 : v 0 7 = v0 0 7 := hF 0 7 (by omega)
    have e16 : v 16 i = v0 16 i := hF 16 i (by omega)
    have eT : v (v0 16 i) 0 = v0 (v0 16 i) 0 := hF _ _ (by omega)
    have eO : v (v 0 7) (v0 (v0 16 i) 0) = o := by rw [e7, ← ho]; exact hF _ _ (by omega)
    have eA : v o 0 = v0 o 0 := hF _ _ (by omega)
    have eAw : v (v0 o 0) w = v0 (v0 o 0) w := hF _ _ (by omega)
    have hh1 : gHd K (v 0 7) = (17, (gHd K (v0 0 7)).2) := by rw [e7]; exact hh7
    have hh2 : gHd K (v 16 i) = (8, (gHd K (v0 16 i)).2) := by rw [e16]; exact pairEq hTr.2
    have hho : gHd K o = ((gHd K o).1, (gHd K o).2) := rfl
    have eX1 : v (x + 1) i = v0 (x + 1) i := hF _ _ (by omega)
    refine Gx_iload_n (i := 3) dX0_grow_2 rfl rfl ?_
    refine Gx_aload_n (i := 0) dX0_grow_3 rfl rfl ?_
    refine gf_X0_276_20 dX0_grow_4 rfl rfl ?_
    rw [e32]
    refine Gx_icmp_ge (tgt := 86) dX0_grow_7 (by decide) (fun c7 => ?_) (fun c7 => ?_)
    · refine Gx_return dX0_grow_86 rfl ?_
      exfalso
      omega
    · refine Gx_aload_n (i := 0) dX0_grow_10 rfl rfl ?_
      refine Gx_iload_n (i := 3) dX0_grow_11 rfl rfl ?_
      refine cl_X0_356 dX0_grow_12 rfl rfl ⟨(Nat.le_of_ble_eq_true rfl), (Nat.le_of_ble_eq_true rfl)⟩ rfl ?_
      refine ct_X0_sortOf (s := v0 (v0 16 i) 0) hh1 ⟨h0, by omega⟩ hh2 (by rw [e16]; exact eT) hs ?_
      rw [eO]
      refine Gx_astore_4 dX0_grow_15 (Nat.le_of_ble_eq_true rfl) (Nat.ne_of_beq_eq_false rfl) ?_
      refine Gx_aload_n (i := 1) dX0_grow_17 rfl rfl ?_
      refine gf_X0_288_21 dX0_grow_18 rfl hx0 ?_
      refine Gx_iload_n (i := 3) dX0_grow_21 rfl rfl ?_
      refine Gx_aload dX0_grow_22 rfl ?_
      refine gv_X0_360 dX0_grow_24 rfl hho hk3 ⟨(Nat.le_of_ble_eq_true rfl), (Nat.le_of_ble_eq_true rfl)⟩ rfl ?_
      refine Gx_if_eq (tgt := 51) dX0_grow_27 (by decide) (fun c27 => ?_) (fun c27 => ?_)
      · refine Gx_aload_n (i := 1) dX0_grow_51 rfl rfl ?_
        refine gf_X0_288_21 dX0_grow_52 rfl hx0 ?_
        refine Gx_iload_n (i := 3) dX0_grow_55 rfl rfl ?_
        refine Gx_iaload dX0_grow_56 hx1 (by first | omega | (simp (disch := omega) only [w32_id]; omega)) ?_
        try rw [eX1]
        refine Gx_iastore dX0_grow_57 hx1 (by first | omega | (simp (disch := omega) only [w32_id]; omega)) ?_
        refine Gx_name (fun v2 e2 => ?_)
        have hG2 : v2 (x + 1) i = mG (aN v0 (gHd K) x) w i := by
          rw [e2, gUp_eq2 rfl rfl, hG]
          first
          | (rw [if_neg (by intro z; rw [if_pos z] at c27; exact absurd rfl c27)]; done)
          | (rw [if_pos (by by_cases z : (gHd K (o)).1 = 3; exact z; rw [if_neg z] at c27; exact absurd c27 (by decide))]; done)
        have hF2 : ∀ a k, ¬ (((a = x + 1 ∨ a = x + 3) ∧ 0 ≤ k ∧ k < i) ∨ (a = x + 1 ∧ k = i)) → v2 a k = v0 a k := by
          intro a k hk
          rw [e2, gUp_ne2 (by omega)]
          exact hF a k (by omega)
        have eA2 : v2 (o) 0 = v0 (o) 0 := hF2 _ _ (by omega)
        have eB2 : v2 (v0 (o) 0) w = v0 (v0 (o) 0) w := hF2 _ _ (by omega)
        have eC2 : v2 (o) 1 = v0 (o) 1 := hF2 _ _ (by omega)
        have eD2 : v2 (o) 2 = v0 (o) 2 := hF2 _ _ (by omega)
        have eE2 : v2 (o) 3 = v0 (o) 3 := hF2 _ _ (by omega)
        have eY2 : v2 x 2 = v0 x 2 := hF2 _ _ (by omega)
        refine Gx_aload_n (i := 1) dX0_grow_58 rfl rfl ?_
        refine gf_X0_352_21 dX0_grow_59 rfl hx0 ?_
        refine Gx_iload_n (i := 3) dX0_grow_62 rfl rfl ?_
        refine Gx_aload dX0_grow_63 rfl ?_
        refine Gx_aload_n (i := 1) dX0_grow_65 rfl rfl ?_
        refine gf_X0_288_21 dX0_grow_66 rfl hx0 ?_
        refine Gx_iload_n (i := 3) dX0_grow_69 rfl rfl ?_
        refine Gx_iaload dX0_grow_70 hx1 (by first | omega | (simp (disch := omega) only [w32_id]; omega)) ?_
        rw [hG2]
        refine Gx_iload_n (i := 2) dX0_grow_71 rfl rfl ?_
        refine Gx_aload_n (i := 1) dX0_grow_72 rfl rfl ?_
        refine gf_X0_279_21 dX0_grow_73 rfl hx0 ?_
        refine gv_X0_362 dX0_grow_76 rfl hho hk3 (by rw [eA2]; exact hA) hw (fun z => by rw [eE2]; exact h7 z) ⟨(Nat.le_of_ble_eq_true rfl), (Nat.le_of_ble_eq_true rfl)⟩ rfl (fun c76 => ?_) (fun c76 => ?_)
        · rw [eA2, eB2, eC2, eD2, eE2, eY2] at c76
          have hb1 := hB.2 c76
          clear c76 hB
          refine Gx_zastore dX0_grow_79 hx3 (by first | omega | (simp (disch := omega) only [w32_id]; omega)) (by first | omega | (simp (disch := omega) only [w32_id]; omega)) ?_
          refine Gx_iinc_3 dX0_grow_80 (Nat.le_of_ble_eq_true rfl) (Nat.ne_of_beq_eq_false rfl) ?_
          try simp (disch := omega) only [w32_id]
          refine Gx_goto (tgt := 2) dX0_grow_83 (by decide) ?_
          refine ih (i + 1) _ _ (by omega) (by omega) ⟨fun a k hk => ?_, fun k k0 k1 => ?_⟩
          · rw [gUp_ne2 (by omega)]
            exact hF2 a k (by omega)
          · by_cases hk : k = i
            · rw [hk]
              refine ⟨by rw [gUp_ne2 (by omega)]; exact hG2, ?_⟩
              rw [gUp_eq2 rfl rfl]
              first
              | (rw [if_pos hb1]; done)
              | (rw [if_neg hb1]; done)
            · have hv := hV k k0 (by omega)
              rw [gUp_ne2 (by omega), gUp_ne2 (by omega), e2, gUp_ne2 (by omega), gUp_ne2 (by omega)]
              exact hv
        · rw [eA2, eB2, eC2, eD2, eE2, eY2] at c76
          have hb1 := fun z => c76 (hB.1 z)
          clear c76 hB
          refine Gx_zastore dX0_grow_79 hx3 (by first | omega | (simp (disch := omega) only [w32_id]; omega)) (by first | omega | (simp (disch := omega) only [w32_id]; omega)) ?_
          refine Gx_iinc_3 dX0_grow_80 (Nat.le_of_ble_eq_true rfl) (Nat.ne_of_beq_eq_false rfl) ?_
          try simp (disch := omega) only [w32_id]
          refine Gx_goto (tgt := 2) dX0_grow_83 (by decide) ?_
          refine ih (i + 1) _ _ (by omega) (by omega) ⟨fun a k hk => ?_, fun k k0 k1 => ?_⟩
          · rw [gUp_ne2 (by omega)]
            exact hF2 a k (by omega)
          · by_cases hk : k = i
            · rw [hk]
              refine ⟨by rw [gUp_ne2 (by omega)]; exact hG2, ?_⟩
              rw [gUp_eq2 rfl rfl]
              first
              | (rw [if_pos hb1]; done)
              | (rw [if_neg hb1]; done)
            · have hv := hV k k0 (by omega)
              rw [gUp_ne2 (by omega), gUp_ne2 (by omega), e2, gUp_ne2 (by omega), gUp_ne2 (by omega)]
              exact hv
      · refine Gx_bipush dX0_grow_30 ⟨by decide, by decide⟩ ?_
        refine Gx_aload_n (i := 1) dX0_grow_32 rfl rfl ?_
        refine gf_X0_288_21 dX0_grow_33 rfl hx0 ?_
        refine Gx_iload_n (i := 3) dX0_grow_36 rfl rfl ?_
        refine Gx_iaload dX0_grow_37 hx1 (by first | omega | (simp (disch := omega) only [w32_id]; omega)) ?_
        rw [eX1]
        refine Gx_aload dX0_grow_38 rfl ?_
        refine Gx_iload_n (i := 2) dX0_grow_40 rfl rfl ?_
        refine gv_X0_297 dX0_grow_41 rfl hho hk3 (by rw [eA]; exact hA) hw ⟨(Nat.le_of_ble_eq_true rfl), (Nat.le_of_ble_eq_true rfl)⟩ rfl ?_
        rw [eA, eAw]
        refine Gx_iadd dX0_grow_44 ?_
        try simp (disch := omega) only [w32_id]
        refine cl_X0_207 dX0_grow_45 rfl ⟨(Nat.le_of_ble_eq_true rfl), (Nat.le_of_ble_eq_true rfl)⟩ rfl ?_
        refine Gx_goto (tgt := 57) dX0_grow_48 (by decide) ?_
        try rw [eX1]
        refine Gx_iastore dX0_grow_57 hx1 (by first | omega | (simp (disch := omega) only [w32_id]; omega)) ?_
        refine Gx_name (fun v2 e2 => ?_)
        have hG2 : v2 (x + 1) i = mG (aN v0 (gHd K) x) w i := by
          rw [e2, gUp_eq2 rfl rfl, hG]
          first
          | (rw [if_neg (by intro z; rw [if_pos z] at c27; exact absurd rfl c27)]; done)
          | (rw [if_pos (by by_cases z : (gHd K (o)).1 = 3; exact z; rw [if_neg z] at c27; exact absurd c27 (by decide))]; done)
        have hF2 : ∀ a k, ¬ (((a = x + 1 ∨ a = x + 3) ∧ 0 ≤ k ∧ k < i) ∨ (a = x + 1 ∧ k = i)) → v2 a k = v0 a k := by
          intro a k hk
          rw [e2, gUp_ne2 (by omega)]
          exact hF a k (by omega)
        have eA2 : v2 (o) 0 = v0 (o) 0 := hF2 _ _ (by omega)
        have eB2 : v2 (v0 (o) 0) w = v0 (v0 (o) 0) w := hF2 _ _ (by omega)
        have eC2 : v2 (o) 1 = v0 (o) 1 := hF2 _ _ (by omega)
        have eD2 : v2 (o) 2 = v0 (o) 2 := hF2 _ _ (by omega)
        have eE2 : v2 (o) 3 = v0 (o) 3 := hF2 _ _ (by omega)
        have eY2 : v2 x 2 = v0 x 2 := hF2 _ _ (by omega)
        refine Gx_aload_n (i := 1) dX0_grow_58 rfl rfl ?_
        refine gf_X0_352_21 dX0_grow_59 rfl hx0 ?_
        refine Gx_iload_n (i := 3) dX0_grow_62 rfl rfl ?_
        refine Gx_aload dX0_grow_63 rfl ?_
        refine Gx_aload_n (i := 1) dX0_grow_65 rfl rfl ?_
        refine gf_X0_288_21 dX0_grow_66 rfl hx0 ?_
        refine Gx_iload_n (i := 3) dX0_grow_69 rfl rfl ?_
        refine Gx_iaload dX0_grow_70 hx1 (by first | omega | (simp (disch := omega) only [w32_id]; omega)) ?_
        rw [hG2]
        refine Gx_iload_n (i := 2) dX0_grow_71 rfl rfl ?_
        refine Gx_aload_n (i := 1) dX0_grow_72 rfl rfl ?_
        refine gf_X0_279_21 dX0_grow_73 rfl hx0 ?_
        refine gv_X0_362 dX0_grow_76 rfl hho hk3 (by rw [eA2]; exact hA) hw (fun z => by rw [eE2]; exact h7 z) ⟨(Nat.le_of_ble_eq_true rfl), (Nat.le_of_ble_eq_true rfl)⟩ rfl (fun c76 => ?_) (fun c76 => ?_)
        · rw [eA2, eB2, eC2, eD2, eE2, eY2] at c76
          have hb1 := hB.2 c76
          clear c76 hB
          refine Gx_zastore dX0_grow_79 hx3 (by first | omega | (simp (disch := omega) only [w32_id]; omega)) (by first | omega | (simp (disch := omega) only [w32_id]; omega)) ?_
          refine Gx_iinc_3 dX0_grow_80 (Nat.le_of_ble_eq_true rfl) (Nat.ne_of_beq_eq_false rfl) ?_
          try simp (disch := omega) only [w32_id]
          refine Gx_goto (tgt := 2) dX0_grow_83 (by decide) ?_
          refine ih (i + 1) _ _ (by omega) (by omega) ⟨fun a k hk => ?_, fun k k0 k1 => ?_⟩
          · rw [gUp_ne2 (by omega)]
            exact hF2 a k (by omega)
          · by_cases hk : k = i
            · rw [hk]
              refine ⟨by rw [gUp_ne2 (by omega)]; exact hG2, ?_⟩
              rw [gUp_eq2 rfl rfl]
              first
              | (rw [if_pos hb1]; done)
              | (rw [if_neg hb1]; done)
            · have hv := hV k k0 (by omega)
              rw [gUp_ne2 (by omega), gUp_ne2 (by omega), e2, gUp_ne2 (by omega), gUp_ne2 (by omega)]
              exact hv
        · rw [eA2, eB2, eC2, eD2, eE2, eY2] at c76
          have hb1 := fun z => c76 (hB.1 z)
          clear c76 hB
          refine Gx_zastore dX0_grow_79 hx3 (by first | omega | (simp (disch := omega) only [w32_id]; omega)) (by first | omega | (simp (disch := omega) only [w32_id]; omega)) ?_
          refine Gx_iinc_3 dX0_grow_80 (Nat.le_of_ble_eq_true rfl) (Nat.ne_of_beq_eq_false rfl) ?_
          try simp (disch := omega) only [w32_id]
          refine Gx_goto (tgt := 2) dX0_grow_83 (by decide) ?_
          refine ih (i + 1) _ _ (by omega) (by omega) ⟨fun a k hk => ?_, fun k k0 k1 => ?_⟩
          · rw [gUp_ne2 (by omega)]
            exact hF2 a k (by omega)
          · by_cases hk : k = i
            · rw [hk]
              refine ⟨by rw [gUp_ne2 (by omega)]; exact hG2, ?_⟩
              rw [gUp_eq2 rfl rfl]
              first
              | (rw [if_pos hb1]; done)
              | (rw [if_neg hb1]; done)
            · have hv := hV k k0 (by omega)
              rw [gUp_ne2 (by omega), gUp_ne2 (by omega), e2, gUp_ne2 (by omega), gUp_ne2 (by omega)]
              exact hv
set_option maxHeartbeats 1000000 in
theorem ct_X0_grow {x w : Int} (hx : x = 17 ∨ x = 23) (hw : 0 ≤ w ∧ w ≤ 2) (hW : aWf v (gHd K)) (hu : yOK (aN v (gHd K) x)) (k : ∀ v1, oGr v v1 (gHd K) x w (v 0 32) → Q (9, 0) v1 (gHd K) t) : Ctr Γ mX0_grow [(2, 0), (2, x), (0, w)] v (gHd K) t Q := by
  refine Ctr.ofG (ls := [(2, 0), (2, x), (0, w), (9, 0), (9, 0)]) rfl rfl rfl rfl rfl ?_
  refine Gx_iconst ⟨by decide, by decide⟩ dX0_grow_0 ?_
  refine Gx_istore_n_3 dX0_grow_1 (Nat.le_of_ble_eq_true rfl) (Nat.ne_of_beq_eq_false rfl) ?_
  refine lp_X0_grow hx hw rfl hW hu k (v 0 32).toNat 0 v _ (by omega) (by have := hu.2.2.1.1; rw [aN_c33] at this; omega) ⟨fun a k _ => rfl, fun k k0 k1 => by omega⟩
end
