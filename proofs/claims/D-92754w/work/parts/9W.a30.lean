/-! AcornYears: rings: sums -/
section
variable {Γ : gC} {v : gM} {K : gH} {t : Nat} {Q : gQ}
theorem lp_X0_wipeRing {bc bs : Nat} {v0 : gM} (cont : ∀ v1, (∀ a j, ¬ ((a = 33 ∨ a = 34) ∧ 0 ≤ j ∧ j < 24) → v1 a j = v0 a j) → (∀ x, 0 ≤ x → x < 24 → v1 33 x = 0 ∧ v1 34 x = 0) → Gx Γ mX0_wipeRing 58 [(2, 0), (0, 24)] [] v1 (gHd K) t bc bs Q) : ∀ (j : Nat) (i : Int) (v : gM), 0 ≤ i → i + j = 24 → (∀ a j, ¬ ((a = 33 ∨ a = 34) ∧ 0 ≤ j ∧ j < 24) → v a j = v0 a j) → (∀ x, 0 ≤ x → x < i → v 33 x = 0 ∧ v 34 x = 0) → Gx Γ mX0_wipeRing 32 [(2, 0), (0, i)] [] v (gHd K) t bc bs Q := by
  intro j
  induction j with
  | zero =>
    intro i v h0 h1 hF hZ
    refine Gx_iload_n (i := 1) dX0_wipeRing_32 rfl rfl ?_
    refine Gx_bipush dX0_wipeRing_33 ⟨by decide, by decide⟩ ?_
    refine Gx_icmp_ge (tgt := 58) dX0_wipeRing_35 (by decide) (fun c35 => ?_) (fun c35 => ?_)
    · have e0 : i = 24 := by omega
      subst e0
      exact cont v hF hZ
    · exfalso
      omega
  | succ j ih =>
    intro i v h0 h1 hF hZ
    refine Gx_iload_n (i := 1) dX0_wipeRing_32 rfl rfl ?_
    refine Gx_bipush dX0_wipeRing_33 ⟨by decide, by decide⟩ ?_
    refine Gx_icmp_ge (tgt := 58) dX0_wipeRing_35 (by decide) (fun c35 => ?_) (fun c35 => ?_)
    · exfalso
      omega
    · refine Gx_aload_n (i := 0) dX0_wipeRing_38 rfl rfl ?_
      refine gf_X0_113_20 dX0_wipeRing_39 rfl rfl ?_
      refine Gx_iload_n (i := 1) dX0_wipeRing_42 rfl rfl ?_
      refine Gx_lconst0 dX0_wipeRing_43 ?_
      refine Gx_lastore dX0_wipeRing_44 rfl (by first | omega | (simp (disch := omega) only [w32_id]; omega)) ?_
      refine Gx_aload_n (i := 0) dX0_wipeRing_45 rfl rfl ?_
      refine gf_X0_117_20 dX0_wipeRing_46 rfl rfl ?_
      refine Gx_iload_n (i := 1) dX0_wipeRing_49 rfl rfl ?_
      refine Gx_lconst0 dX0_wipeRing_50 ?_
      refine Gx_lastore dX0_wipeRing_51 rfl (by first | omega | (simp (disch := omega) only [w32_id]; omega)) ?_
      refine Gx_iinc_1 dX0_wipeRing_52 (Nat.le_of_ble_eq_true rfl) (Nat.ne_of_beq_eq_false rfl) ?_
      try simp (disch := omega) only [w32_id]
      refine Gx_goto (tgt := 32) dX0_wipeRing_55 (by decide) ?_
      refine ih (i + 1) _ (by omega) (by omega) (fun a j ha => ?_) (fun x x0 x1 => ?_)
      · rw [gUp_ne2 (by omega), gUp_ne2 (by omega)]
        exact hF a j ha
      · by_cases g : x = i
        · rw [g]
          exact ⟨by rw [gUp_ne2 (by omega), gUp_eq2 rfl rfl], by rw [gUp_eq2 rfl rfl]⟩
        · rw [gUp_ne2 (by omega), gUp_ne2 (by omega), gUp_ne2 (by omega), gUp_ne2 (by omega)]
          exact hZ x x0 (by omega)
/-- the sums of n years from u on -/
def aSu (v u : gM) (n : Nat) : Prop := v 0 45 = yTot yP1 u n ∧ v 0 46 = yTot yN1 u n ∧ v 0 47 = yTot yA1 u n ∧ v 0 48 = yTot yD1 u n ∧ v 0 43 = yMax u n ∧ (∀ i, 0 ≤ i → i < u 38 33 → v 33 i = yTot (yT1 i) u n ∧ v 34 i = yTot (yG1 i) u n) ∧ (∀ e, 0 ≤ e → e < u 38 22 → v 35 e = yTot (yS1 e) u n) ∧ ∀ k, 0 ≤ k → k < (n : Int) → v 36 k = yA1 (yIt u k.toNat)

set_option maxHeartbeats 1000000 in
theorem ct_X0_wipeRing  (k : ∀ v1, aScr v v1 → v1 0 41 = v 0 41 → v1 0 42 = v 0 42 → v1 0 44 = 0 → (∀ u, yOK u → aSu v1 u 0) → Q (9, 0) v1 (gHd K) t) : Ctr Γ mX0_wipeRing [(2, 0)] v (gHd K) t Q := by
  refine Ctr.ofG (ls := [(2, 0), (9, 0)]) rfl rfl rfl rfl rfl ?_
  refine Gx_aload_n (i := 0) dX0_wipeRing_0 rfl rfl ?_
  refine Gx_iconst ⟨by decide, by decide⟩ dX0_wipeRing_1 ?_
  refine pf_X0_448_20 dX0_wipeRing_2 rfl rfl ?_
  refine Gx_aload_n (i := 0) dX0_wipeRing_5 rfl rfl ?_
  refine Gx_iconst ⟨by decide, by decide⟩ dX0_wipeRing_6 ?_
  refine pf_X0_451_20 dX0_wipeRing_7 rfl rfl ?_
  refine Gx_aload_n (i := 0) dX0_wipeRing_10 rfl rfl ?_
  refine Gx_lconst0 dX0_wipeRing_11 ?_
  refine pf_X0_454_20 dX0_wipeRing_12 rfl rfl ?_
  refine Gx_aload_n (i := 0) dX0_wipeRing_15 rfl rfl ?_
  refine Gx_lconst0 dX0_wipeRing_16 ?_
  refine pf_X0_457_20 dX0_wipeRing_17 rfl rfl ?_
  refine Gx_aload_n (i := 0) dX0_wipeRing_20 rfl rfl ?_
  refine Gx_lconst0 dX0_wipeRing_21 ?_
  refine pf_X0_459_20 dX0_wipeRing_22 rfl rfl ?_
  refine Gx_aload_n (i := 0) dX0_wipeRing_25 rfl rfl ?_
  refine Gx_lconst0 dX0_wipeRing_26 ?_
  refine pf_X0_462_20 dX0_wipeRing_27 rfl rfl ?_
  refine Gx_iconst ⟨by decide, by decide⟩ dX0_wipeRing_30 ?_
  refine Gx_istore_n_1 dX0_wipeRing_31 (Nat.le_of_ble_eq_true rfl) (Nat.ne_of_beq_eq_false rfl) ?_
  refine Gx_name (fun vA eA => ?_)
  have fA : ∀ a j, ¬ (a = 0 ∧ 43 ≤ j ∧ j ≤ 48) → vA a j = v a j := fun a j hn => by
    rw [eA]
    simp (disch := omega) only [gUp_ne2]
  have zA : vA 0 43 = 0 ∧ vA 0 44 = 0 ∧ vA 0 45 = 0 ∧ vA 0 46 = 0 ∧ vA 0 47 = 0 ∧ vA 0 48 = 0 := by
    rw [eA]
    simp (disch := omega) only [gUp_ne2, gUp_eq2, and_self]
  clear eA
  refine lp_X0_wipeRing (v0 := vA) (fun v1 f1 z1 => ?_) 24 0 vA (by omega) (by omega) (fun _ _ _ => rfl) (fun x x0 x1 => absurd x1 (by omega))
  refine Gx_iconst ⟨by decide, by decide⟩ dX0_wipeRing_58 ?_
  refine Gx_istore_n_1 dX0_wipeRing_59 (Nat.le_of_ble_eq_true rfl) (Nat.ne_of_beq_eq_false rfl) ?_
  refine Gx_iload_n (i := 1) dX0_wipeRing_60 rfl rfl ?_
  refine Gx_iconst ⟨by decide, by decide⟩ dX0_wipeRing_61 ?_
  refine Gx_icmp_ge (tgt := 78) dX0_wipeRing_62 (by decide) (fun hz => absurd hz (by decide)) (fun _ => ?_)
  refine Gx_aload_n (i := 0) dX0_wipeRing_65 rfl rfl ?_
  refine gf_X0_120_20 dX0_wipeRing_66 rfl rfl ?_
  refine Gx_iload_n (i := 1) dX0_wipeRing_69 rfl rfl ?_
  refine Gx_iconst ⟨by decide, by decide⟩ dX0_wipeRing_70 ?_
  refine Gx_iastore dX0_wipeRing_71 rfl (by first | omega | (simp (disch := omega) only [w32_id]; omega)) ?_
  refine Gx_iinc_1 dX0_wipeRing_72 (Nat.le_of_ble_eq_true rfl) (Nat.ne_of_beq_eq_false rfl) ?_
  rw [show w32 (0 + 1) = (1 : Int) from by decide]
  refine Gx_goto (tgt := 60) dX0_wipeRing_75 (by decide) ?_
  refine Gx_iload_n (i := 1) dX0_wipeRing_60 rfl rfl ?_
  refine Gx_iconst ⟨by decide, by decide⟩ dX0_wipeRing_61 ?_
  refine Gx_icmp_ge (tgt := 78) dX0_wipeRing_62 (by decide) (fun hz => absurd hz (by decide)) (fun _ => ?_)
  refine Gx_aload_n (i := 0) dX0_wipeRing_65 rfl rfl ?_
  refine gf_X0_120_20 dX0_wipeRing_66 rfl rfl ?_
  refine Gx_iload_n (i := 1) dX0_wipeRing_69 rfl rfl ?_
  refine Gx_iconst ⟨by decide, by decide⟩ dX0_wipeRing_70 ?_
  refine Gx_iastore dX0_wipeRing_71 rfl (by first | omega | (simp (disch := omega) only [w32_id]; omega)) ?_
  refine Gx_iinc_1 dX0_wipeRing_72 (Nat.le_of_ble_eq_true rfl) (Nat.ne_of_beq_eq_false rfl) ?_
  rw [show w32 (1 + 1) = (2 : Int) from by decide]
  refine Gx_goto (tgt := 60) dX0_wipeRing_75 (by decide) ?_
  refine Gx_iload_n (i := 1) dX0_wipeRing_60 rfl rfl ?_
  refine Gx_iconst ⟨by decide, by decide⟩ dX0_wipeRing_61 ?_
  refine Gx_icmp_ge (tgt := 78) dX0_wipeRing_62 (by decide) (fun _ => ?_) (fun hz => absurd hz (by decide))
  refine Gx_return dX0_wipeRing_78 rfl ?_
  have low : ∀ j, v1 0 j = vA 0 j := fun j => f1 0 j (by omega)
  refine k _ (fun a j hn => ?_) ?_ ?_ ?_ (fun u hu => ⟨?_, ?_, ?_, ?_, ?_, fun i i0 i1 => ?_, fun e e0 e1 => ?_, fun q q0 q1 => absurd q1 (by omega)⟩)
  · rw [gUp_ne2 (by omega), gUp_ne2 (by omega), f1 a j (by omega), fA a j (by omega)]
  · rw [gUp_ne2 (by omega), gUp_ne2 (by omega), low, fA 0 41 (by omega)]
  · rw [gUp_ne2 (by omega), gUp_ne2 (by omega), low, fA 0 42 (by omega)]
  · rw [gUp_ne2 (by omega), gUp_ne2 (by omega), low]
    exact zA.2.1
  · rw [gUp_ne2 (by omega), gUp_ne2 (by omega), low]
    exact zA.2.2.1
  · rw [gUp_ne2 (by omega), gUp_ne2 (by omega), low]
    exact zA.2.2.2.1
  · rw [gUp_ne2 (by omega), gUp_ne2 (by omega), low]
    exact zA.2.2.2.2.1
  · rw [gUp_ne2 (by omega), gUp_ne2 (by omega), low]
    exact zA.2.2.2.2.2
  · rw [gUp_ne2 (by omega), gUp_ne2 (by omega), low]
    exact zA.1
  · have h24 := hu.2.2.1.2
    rw [gUp_ne2 (by omega), gUp_ne2 (by omega), gUp_ne2 (by omega), gUp_ne2 (by omega)]
    exact z1 i i0 (by omega)
  · have h2 := hu.2.2.2.2.1.1.2
    rcases (by omega : e = 0 ∨ e = 1) with z | z <;> subst z
    · rw [gUp_ne2 (by omega), gUp_eq2 rfl rfl]
      rfl
    · rw [gUp_eq2 rfl rfl]
      rfl
theorem ct_X0_allPairs  (h46 : 0 ≤ v 0 46 ∧ v 0 46 ≤ 100000) (h32 : 0 ≤ v 0 32 ∧ v 0 32 ≤ 24) (k : Q (1, v 0 46 * (v 0 32 - 1)) v (gHd K) t) : Ctr Γ mX0_allPairs [(2, 0)] v (gHd K) t Q := by
  refine Ctr.ofG (ls := [(2, 0)]) rfl rfl rfl rfl rfl ?_
  refine Gx_aload_n (i := 0) dX0_allPairs_0 rfl rfl ?_
  refine gf_X0_457_20 dX0_allPairs_1 rfl rfl ?_
  refine Gx_aload_n (i := 0) dX0_allPairs_4 rfl rfl ?_
  refine gf_X0_276_20 dX0_allPairs_5 rfl rfl ?_
  refine Gx_iconst ⟨by decide, by decide⟩ dX0_allPairs_8 ?_
  refine Gx_isub dX0_allPairs_9 ?_
  try simp (disch := omega) only [w32_id]
  refine Gx_i2l dX0_allPairs_10 ?_
  refine Gx_lmul dX0_allPairs_11 ?_
  rw [w64_id (by
    have := mul_le_of h46.1 h46.2 h32.1 h32.2
    rw [Int.mul_sub]
    omega) (by
    have := mul_le_of h46.1 h46.2 h32.1 h32.2
    rw [Int.mul_sub]
    omega)]
  refine Gx_lreturn dX0_allPairs_12 rfl ?_
  exact k
set_option maxHeartbeats 2000000 in
theorem lp_X0_countYear1 {k Ac D : Int} {B : Int → Bool} {G : Int → Int} {bc bs : Nat} {v0 : gM} (h24 : v0 0 32 ≤ 24) (r6 : v0 23 6 = Ac ∧ 0 ≤ Ac ∧ Ac ≤ 1440) (r7 : v0 23 7 = D ∧ 0 ≤ D ∧ D ≤ 1440) (r26 : ∀ i, 0 ≤ i → i < v0 0 32 → v0 26 i = if B i = true then 1 else 0) (r27 : ∀ i, 0 ≤ i → i < v0 0 32 → v0 27 i = G i ∧ 0 ≤ G i ∧ G i ≤ 60) (b33 : ∀ i, 0 ≤ i → i < v0 0 32 → (0 ≤ v0 33 i ∧ v0 33 i ≤ 1000000000) ∧ 0 ≤ v0 34 i ∧ v0 34 i ≤ 1000000000) (cont : ∀ v1, (∀ a j, ¬ ((a = 33 ∨ a = 34) ∧ 0 ≤ j ∧ j < v0 0 32) → v1 a j = v0 a j) → (∀ x, 0 ≤ x → x < v0 0 32 → v1 33 x = v0 33 x + G x ∧ v1 34 x = v0 34 x + (if Ac = 0 then 0 else (D * G x).tdiv Ac)) → Gx Γ mX0_countYear 106 [(2, 0), (0, k), (0, yCnt B (v0 0 32).toNat), (0, v0 0 32)] [] v1 (gHd K) t bc bs Q) : ∀ (j : Nat) (i : Int) (v : gM), 0 ≤ i → i + j = v0 0 32 → (∀ a j, ¬ ((a = 33 ∨ a = 34) ∧ 0 ≤ j ∧ j < i) → v a j = v0 a j) → (∀ x, 0 ≤ x → x < i → v 33 x = v0 33 x + G x ∧ v 34 x = v0 34 x + (if Ac = 0 then 0 else (D * G x).tdiv Ac)) → Gx Γ mX0_countYear 4 [(2, 0), (0, k), (0, yCnt B i.toNat), (0, i)] [] v (gHd K) t bc bs Q := by
  intro j
  induction j with
  | zero =>
    intro i v h0 h1 hF hV
    have e32 : v 0 32 = v0 0 32 := hF 0 32 (by omega)
    refine Gx_iload_n (i := 3) dX0_countYear_4 rfl rfl ?_
    refine Gx_aload_n (i := 0) dX0_countYear_5 rfl rfl ?_
    refine gf_X0_276_20 dX0_countYear_6 rfl rfl ?_
    refine Gx_icmp_ge (tgt := 106) dX0_countYear_9 (by decide) (fun c9 => ?_) (fun c9 => ?_)
    · have e0 : i = v0 0 32 := by omega
      subst e0
      exact cont v hF hV
    · exfalso
      omega
  | succ j ih =>
    intro i v h0 h1 hF hV
    have e32 : v 0 32 = v0 0 32 := hF 0 32 (by omega)
    have bl := yCnt_le B i.toNat
    have q26 : v 26 i = if B i = true then 1 else 0 := by rw [hF 26 i (by omega)]; exact r26 i h0 (by omega)
    have hBt : v 26 i ≠ 0 → B i = true := fun w => by
      by_cases z : B i = true
      · exact z
      · rw [if_neg z] at q26
        omega
    have q27 : v 27 i = G i := by rw [hF 27 i (by omega)]; exact (r27 i h0 (by omega)).1
    have g27 := (r27 i h0 (by omega)).2
    have q6 : v 23 6 = Ac := by rw [hF 23 6 (by omega)]; exact r6.1
    have q7 : v 23 7 = D := by rw [hF 23 7 (by omega)]; exact r7.1
    have q33 : v 33 i = v0 33 i := hF 33 i (by omega)
    have q34 : v 34 i = v0 34 i := hF 34 i (by omega)
    have bb := b33 i h0 (by omega)
    have hge := gain_eq (A := Ac) (D := D) (G := G i) r7.2 g27 r6.2.1
    have dl := mul_le_of r7.2.1 r7.2.2 g27.1 g27.2
    have hgb : 0 ≤ (if Ac = 0 then 0 else (D * G i).tdiv Ac) ∧ (if Ac = 0 then 0 else (D * G i).tdiv Ac) ≤ 86400 := by
      by_cases z : Ac = 0
      · rw [if_pos z]; omega
      · rw [if_neg z, Int.tdiv_eq_ediv_of_nonneg dl.1]
        exact ⟨Int.ediv_nonneg dl.1 r6.2.1, Int.le_trans (Int.ediv_le_self _ dl.1) (by omega)⟩
    refine Gx_iload_n (i := 3) dX0_countYear_4 rfl rfl ?_
    refine Gx_aload_n (i := 0) dX0_countYear_5 rfl rfl ?_
    refine gf_X0_276_20 dX0_countYear_6 rfl rfl ?_
    refine Gx_icmp_ge (tgt := 106) dX0_countYear_9 (by decide) (fun c9 => ?_) (fun c9 => ?_)
    · exfalso
      omega
    · refine Gx_iload_n (i := 2) dX0_countYear_12 rfl rfl ?_
      refine Gx_aload_n (i := 0) dX0_countYear_13 rfl rfl ?_
      refine gf_X0_90_20 dX0_countYear_14 rfl rfl ?_
      refine gf_X0_352_21 dX0_countYear_17 rfl rfl ?_
      refine Gx_iload_n (i := 3) dX0_countYear_20 rfl rfl ?_
      rw [show (23 : Int) + 3 = 26 from rfl]
      refine Gx_zaload dX0_countYear_21 rfl (by first | omega | (simp (disch := omega) only [w32_id]; omega)) ?_
      refine Gx_if_eq (tgt := 29) dX0_countYear_22 (by decide) (fun c22 => ?_) (fun c22 => ?_)
      · refine Gx_iconst ⟨by decide, by decide⟩ dX0_countYear_29 ?_
        refine Gx_iadd dX0_countYear_30 ?_
        try simp (disch := omega) only [w32_id]
        refine Gx_istore_n_2 dX0_countYear_31 (Nat.le_of_ble_eq_true rfl) (Nat.ne_of_beq_eq_false rfl) ?_
        refine Gx_aload_n (i := 0) dX0_countYear_32 rfl rfl ?_
        refine gf_X0_113_20 dX0_countYear_33 rfl rfl ?_
        refine Gx_iload_n (i := 3) dX0_countYear_36 rfl rfl ?_
        refine Gx_dup2 (Nat.ne_of_beq_eq_false rfl) (Nat.ne_of_beq_eq_false rfl) dX0_countYear_37 ?_
        refine Gx_laload dX0_countYear_38 rfl (by first | omega | (simp (disch := omega) only [w32_id]; omega)) ?_
        rw [q33]
        refine Gx_aload_n (i := 0) dX0_countYear_39 rfl rfl ?_
        refine gf_X0_90_20 dX0_countYear_40 rfl rfl ?_
        refine gf_X0_377_21 dX0_countYear_43 rfl rfl ?_
        refine Gx_iload_n (i := 3) dX0_countYear_46 rfl rfl ?_
        rw [show (23 : Int) + 4 = 27 from rfl]
        refine Gx_iaload dX0_countYear_47 rfl (by first | omega | (simp (disch := omega) only [w32_id]; omega)) ?_
        rw [q27]
        refine Gx_i2l dX0_countYear_48 ?_
        refine Gx_ladd dX0_countYear_49 ?_
        rw [w64_id (by omega) (by omega)]
        refine Gx_lastore dX0_countYear_50 rfl (by first | omega | (simp (disch := omega) only [w32_id]; omega)) ?_
        refine Gx_aload_n (i := 0) dX0_countYear_51 rfl rfl ?_
        refine gf_X0_117_20 dX0_countYear_52 rfl rfl ?_
        refine Gx_iload_n (i := 3) dX0_countYear_55 rfl rfl ?_
        refine Gx_dup2 (Nat.ne_of_beq_eq_false rfl) (Nat.ne_of_beq_eq_false rfl) dX0_countYear_56 ?_
        refine Gx_laload dX0_countYear_57 rfl (by first | omega | (simp (disch := omega) only [w32_id]; omega)) ?_
        rw [gUp_ne2 (by omega), q34]
        refine Gx_aload_n (i := 0) dX0_countYear_58 rfl rfl ?_
        refine gf_X0_90_20 dX0_countYear_59 rfl rfl ?_
        refine gf_X0_374_21 dX0_countYear_62 rfl rfl ?_
        rw [gUp_ne2 (by omega), q6]
        refine Gx_if_ne (tgt := 72) dX0_countYear_65 (by decide) (fun c65 => ?_) (fun c65 => ?_)
        · refine Gx_aload_n (i := 0) dX0_countYear_72 rfl rfl ?_
          refine gf_X0_90_20 dX0_countYear_73 rfl rfl ?_
          refine gf_X0_399_21 dX0_countYear_76 rfl rfl ?_
          rw [gUp_ne2 (by omega), q7]
          refine Gx_aload_n (i := 0) dX0_countYear_79 rfl rfl ?_
          refine gf_X0_90_20 dX0_countYear_80 rfl rfl ?_
          refine gf_X0_377_21 dX0_countYear_83 rfl rfl ?_
          refine Gx_iload_n (i := 3) dX0_countYear_86 rfl rfl ?_
          rw [show (23 : Int) + 4 = 27 from rfl]
          refine Gx_iaload dX0_countYear_87 rfl (by first | omega | (simp (disch := omega) only [w32_id]; omega)) ?_
          rw [gUp_ne2 (by omega), q27]
          refine Gx_imul dX0_countYear_88 ?_
          try simp (disch := omega) only [w32_id]
          refine Gx_aload_n (i := 0) dX0_countYear_89 rfl rfl ?_
          refine gf_X0_90_20 dX0_countYear_90 rfl rfl ?_
          refine gf_X0_374_21 dX0_countYear_93 rfl rfl ?_
          rw [gUp_ne2 (by omega), q6]
          refine Gx_idiv dX0_countYear_96 (by first | omega | (simp (disch := omega) only [w32_id]; omega)) ?_
          rw [if_neg (show ¬ Ac = 0 by omega), if_neg (show ¬ Ac = 0 by omega)] at hge
          rw [w32_id (x := D * G i) (by omega) (by omega)] at hge
          try rw [w32_id (x := D * G i) (by omega) (by omega)]
          rw [hge]
          rw [if_neg (show ¬ Ac = 0 by omega)] at hgb
          refine Gx_i2l dX0_countYear_97 ?_
          refine Gx_ladd dX0_countYear_98 ?_
          first
          | (rw [show v0 34 i + 0 = v0 34 i + (if Ac = 0 then 0 else (D * G i).tdiv Ac) by rw [if_pos (by omega)], w64_id (by omega) (by omega)])
          | (rw [show v0 34 i + (D * G i).tdiv Ac = v0 34 i + (if Ac = 0 then 0 else (D * G i).tdiv Ac) by rw [if_neg (by omega)], w64_id (by rw [if_neg (by omega)]; omega) (by rw [if_neg (by omega)]; omega)])
          refine Gx_lastore dX0_countYear_99 rfl (by first | omega | (simp (disch := omega) only [w32_id]; omega)) ?_
          refine Gx_iinc_3 dX0_countYear_100 (Nat.le_of_ble_eq_true rfl) (Nat.ne_of_beq_eq_false rfl) ?_
          try simp (disch := omega) only [w32_id]
          refine Gx_goto (tgt := 4) dX0_countYear_103 (by decide) ?_
          have hi := ih (i + 1) (gUp (gUp v 33 i (v0 33 i + G i)) 34 i (v0 34 i + (if Ac = 0 then 0 else (D * G i).tdiv Ac))) (by omega) (by omega) (fun a j hn => by
            rw [gUp_ne2 (by omega), gUp_ne2 (by omega)]
            exact hF a j (by omega)) (fun x x0 x1 => by
            by_cases g : x = i
            · rw [g]
              exact ⟨by rw [gUp_ne2 (by omega), gUp_eq2 rfl rfl], by rw [gUp_eq2 rfl rfl]⟩
            · rw [gUp_ne2 (by omega), gUp_ne2 (by omega), gUp_ne2 (by omega), gUp_ne2 (by omega)]
              exact hV x x0 (by omega))
          rw [yCnt_s h0] at hi
          first
          | (rw [if_pos (hBt (by omega))] at hi; exact hi)
          | (rw [if_neg (show ¬ B i = true from fun z => by rw [if_pos z] at q26; omega)] at hi; exact hi)
        · refine Gx_lconst0 dX0_countYear_68 ?_
          refine Gx_goto (tgt := 98) dX0_countYear_69 (by decide) ?_
          refine Gx_ladd dX0_countYear_98 ?_
          first
          | (rw [show v0 34 i + 0 = v0 34 i + (if Ac = 0 then 0 else (D * G i).tdiv Ac) by rw [if_pos (by omega)], w64_id (by omega) (by omega)])
          | (rw [show v0 34 i + (D * G i).tdiv Ac = v0 34 i + (if Ac = 0 then 0 else (D * G i).tdiv Ac) by rw [if_neg (by omega)], w64_id (by rw [if_neg (by omega)]; omega) (by rw [if_neg (by omega)]; omega)])
          refine Gx_lastore dX0_countYear_99 rfl (by first | omega | (simp (disch := omega) only [w32_id]; omega)) ?_
          refine Gx_iinc_3 dX0_countYear_100 (Nat.le_of_ble_eq_true rfl) (Nat.ne_of_beq_eq_false rfl) ?_
          try simp (disch := omega) only [w32_id]
          refine Gx_goto (tgt := 4) dX0_countYear_103 (by decide) ?_
          have hi := ih (i + 1) (gUp (gUp v 33 i (v0 33 i + G i)) 34 i (v0 34 i + (if Ac = 0 then 0 else (D * G i).tdiv Ac))) (by omega) (by omega) (fun a j hn => by
            rw [gUp_ne2 (by omega), gUp_ne2 (by omega)]
            exact hF a j (by omega)) (fun x x0 x1 => by
            by_cases g : x = i
            · rw [g]
              exact ⟨by rw [gUp_ne2 (by omega), gUp_eq2 rfl rfl], by rw [gUp_eq2 rfl rfl]⟩
            · rw [gUp_ne2 (by omega), gUp_ne2 (by omega), gUp_ne2 (by omega), gUp_ne2 (by omega)]
              exact hV x x0 (by omega))
          rw [yCnt_s h0] at hi
          first
          | (rw [if_pos (hBt (by omega))] at hi; exact hi)
          | (rw [if_neg (show ¬ B i = true from fun z => by rw [if_pos z] at q26; omega)] at hi; exact hi)
      · refine Gx_iconst ⟨by decide, by decide⟩ dX0_countYear_25 ?_
        refine Gx_goto (tgt := 30) dX0_countYear_26 (by decide) ?_
        refine Gx_iadd dX0_countYear_30 ?_
        try simp (disch := omega) only [w32_id]
        refine Gx_istore_n_2 dX0_countYear_31 (Nat.le_of_ble_eq_true rfl) (Nat.ne_of_beq_eq_false rfl) ?_
        refine Gx_aload_n (i := 0) dX0_countYear_32 rfl rfl ?_
        refine gf_X0_113_20 dX0_countYear_33 rfl rfl ?_
        refine Gx_iload_n (i := 3) dX0_countYear_36 rfl rfl ?_
        refine Gx_dup2 (Nat.ne_of_beq_eq_false rfl) (Nat.ne_of_beq_eq_false rfl) dX0_countYear_37 ?_
        refine Gx_laload dX0_countYear_38 rfl (by first | omega | (simp (disch := omega) only [w32_id]; omega)) ?_
        rw [q33]
        refine Gx_aload_n (i := 0) dX0_countYear_39 rfl rfl ?_
        refine gf_X0_90_20 dX0_countYear_40 rfl rfl ?_
        refine gf_X0_377_21 dX0_countYear_43 rfl rfl ?_
        refine Gx_iload_n (i := 3) dX0_countYear_46 rfl rfl ?_
        rw [show (23 : Int) + 4 = 27 from rfl]
        refine Gx_iaload dX0_countYear_47 rfl (by first | omega | (simp (disch := omega) only [w32_id]; omega)) ?_
        rw [q27]
        refine Gx_i2l dX0_countYear_48 ?_
        refine Gx_ladd dX0_countYear_49 ?_
        rw [w64_id (by omega) (by omega)]
        refine Gx_lastore dX0_countYear_50 rfl (by first | omega | (simp (disch := omega) only [w32_id]; omega)) ?_
        refine Gx_aload_n (i := 0) dX0_countYear_51 rfl rfl ?_
        refine gf_X0_117_20 dX0_countYear_52 rfl rfl ?_
        refine Gx_iload_n (i := 3) dX0_countYear_55 rfl rfl ?_
        refine Gx_dup2 (Nat.ne_of_beq_eq_false rfl) (Nat.ne_of_beq_eq_false rfl) dX0_countYear_56 ?_
        refine Gx_laload dX0_countYear_57 rfl (by first | omega | (simp (disch := omega) only [w32_id]; omega)) ?_
        rw [gUp_ne2 (by omega), q34]
        refine Gx_aload_n (i := 0) dX0_countYear_58 rfl rfl ?_
        refine gf_X0_90_20 dX0_countYear_59 rfl rfl ?_
        refine gf_X0_374_21 dX0_countYear_62 rfl rfl ?_
        rw [gUp_ne2 (by omega), q6]
        refine Gx_if_ne (tgt := 72) dX0_countYear_65 (by decide) (fun c65 => ?_) (fun c65 => ?_)
        · refine Gx_aload_n (i := 0) dX0_countYear_72 rfl rfl ?_
          refine gf_X0_90_20 dX0_countYear_73 rfl rfl ?_
          refine gf_X0_399_21 dX0_countYear_76 rfl rfl ?_
          rw [gUp_ne2 (by omega), q7]
          refine Gx_aload_n (i := 0) dX0_countYear_79 rfl rfl ?_
          refine gf_X0_90_20 dX0_countYear_80 rfl rfl ?_
          refine gf_X0_377_21 dX0_countYear_83 rfl rfl ?_
          refine Gx_iload_n (i := 3) dX0_countYear_86 rfl rfl ?_
          rw [show (23 : Int) + 4 = 27 from rfl]
          refine Gx_iaload dX0_countYear_87 rfl (by first | omega | (simp (disch := omega) only [w32_id]; omega)) ?_
          rw [gUp_ne2 (by omega), q27]
          refine Gx_imul dX0_countYear_88 ?_
          try simp (disch := omega) only [w32_id]
          refine Gx_aload_n (i := 0) dX0_countYear_89 rfl rfl ?_
          refine gf_X0_90_20 dX0_countYear_90 rfl rfl ?_
          refine gf_X0_374_21 dX0_countYear_93 rfl rfl ?_
          rw [gUp_ne2 (by omega), q6]
          refine Gx_idiv dX0_countYear_96 (by first | omega | (simp (disch := omega) only [w32_id]; omega)) ?_
          rw [if_neg (show ¬ Ac = 0 by omega), if_neg (show ¬ Ac = 0 by omega)] at hge
          rw [w32_id (x := D * G i) (by omega) (by omega)] at hge
          try rw [w32_id (x := D * G i) (by omega) (by omega)]
          rw [hge]
          rw [if_neg (show ¬ Ac = 0 by omega)] at hgb
          refine Gx_i2l dX0_countYear_97 ?_
          refine Gx_ladd dX0_countYear_98 ?_
          first
          | (rw [show v0 34 i + 0 = v0 34 i + (if Ac = 0 then 0 else (D * G i).tdiv Ac) by rw [if_pos (by omega)], w64_id (by omega) (by omega)])
          | (rw [show v0 34 i + (D * G i).tdiv Ac = v0 34 i + (if Ac = 0 then 0 else (D * G i).tdiv Ac) by rw [if_neg (by omega)], w64_id (by rw [if_neg (by omega)]; omega) (by rw [if_neg (by omega)]; omega)])
          refine Gx_lastore dX0_countYear_99 rfl (by first | omega | (simp (disch := omega) only [w32_id]; omega)) ?_
          refine Gx_iinc_3 dX0_countYear_100 (Nat.le_of_ble_eq_true rfl) (Nat.ne_of_beq_eq_false rfl) ?_
          try simp (disch := omega) only [w32_id]
          refine Gx_goto (tgt := 4) dX0_countYear_103 (by decide) ?_
          have hi := ih (i + 1) (gUp (gUp v 33 i (v0 33 i + G i)) 34 i (v0 34 i + (if Ac = 0 then 0 else (D * G i).tdiv Ac))) (by omega) (by omega) (fun a j hn => by
            rw [gUp_ne2 (by omega), gUp_ne2 (by omega)]
            exact hF a j (by omega)) (fun x x0 x1 => by
            by_cases g : x = i
            · rw [g]
              exact ⟨by rw [gUp_ne2 (by omega), gUp_eq2 rfl rfl], by rw [gUp_eq2 rfl rfl]⟩
            · rw [gUp_ne2 (by omega), gUp_ne2 (by omega), gUp_ne2 (by omega), gUp_ne2 (by omega)]
              exact hV x x0 (by omega))
          rw [yCnt_s h0] at hi
          first
          | (rw [if_pos (hBt (by omega))] at hi; exact hi)
          | (rw [if_neg (show ¬ B i = true from fun z => by rw [if_pos z] at q26; omega)] at hi; exact hi)
        · refine Gx_lconst0 dX0_countYear_68 ?_
          refine Gx_goto (tgt := 98) dX0_countYear_69 (by decide) ?_
          refine Gx_ladd dX0_countYear_98 ?_
          first
          | (rw [show v0 34 i + 0 = v0 34 i + (if Ac = 0 then 0 else (D * G i).tdiv Ac) by rw [if_pos (by omega)], w64_id (by omega) (by omega)])
          | (rw [show v0 34 i + (D * G i).tdiv Ac = v0 34 i + (if Ac = 0 then 0 else (D * G i).tdiv Ac) by rw [if_neg (by omega)], w64_id (by rw [if_neg (by omega)]; omega) (by rw [if_neg (by omega)]; omega)])
          refine Gx_lastore dX0_countYear_99 rfl (by first | omega | (simp (disch := omega) only [w32_id]; omega)) ?_
          refine Gx_iinc_3 dX0_countYear_100 (Nat.le_of_ble_eq_true rfl) (Nat.ne_of_beq_eq_false rfl) ?_
          try simp (disch := omega) only [w32_id]
          refine Gx_goto (tgt := 4) dX0_countYear_103 (by decide) ?_
          have hi := ih (i + 1) (gUp (gUp v 33 i (v0 33 i + G i)) 34 i (v0 34 i + (if Ac = 0 then 0 else (D * G i).tdiv Ac))) (by omega) (by omega) (fun a j hn => by
            rw [gUp_ne2 (by omega), gUp_ne2 (by omega)]
            exact hF a j (by omega)) (fun x x0 x1 => by
            by_cases g : x = i
            · rw [g]
              exact ⟨by rw [gUp_ne2 (by omega), gUp_eq2 rfl rfl], by rw [gUp_eq2 rfl rfl]⟩
            · rw [gUp_ne2 (by omega), gUp_ne2 (by omega), gUp_ne2 (by omega), gUp_ne2 (by omega)]
              exact hV x x0 (by omega))
          rw [yCnt_s h0] at hi
          first
          | (rw [if_pos (hBt (by omega))] at hi; exact hi)
          | (rw [if_neg (show ¬ B i = true from fun z => by rw [if_pos z] at q26; omega)] at hi; exact hi)
set_option maxHeartbeats 2000000 in
theorem lp_X0_countYear2 {k N : Int} {S : Int → Bool} {bc bs : Nat} {v0 : gM} (h2 : v0 0 12 ≤ 2) (r28 : ∀ e, 0 ≤ e → e < v0 0 12 → v0 28 e = if S e = true then 1 else 0) (b35 : ∀ e, 0 ≤ e → e < v0 0 12 → 0 ≤ v0 35 e ∧ v0 35 e ≤ 1000000) (cont : ∀ v1, (∀ a j, ¬ (a = 35 ∧ 0 ≤ j ∧ j < v0 0 12) → v1 a j = v0 a j) → (∀ x, 0 ≤ x → x < v0 0 12 → v1 35 x = v0 35 x + (if S x = true then 1 else 0)) → Gx Γ mX0_countYear 148 [(2, 0), (0, k), (0, N), (0, v0 0 12)] [] v1 (gHd K) t bc bs Q) : ∀ (j : Nat) (i : Int) (v : gM), 0 ≤ i → i + j = v0 0 12 → (∀ a j, ¬ (a = 35 ∧ 0 ≤ j ∧ j < i) → v a j = v0 a j) → (∀ x, 0 ≤ x → x < i → v 35 x = v0 35 x + (if S x = true then 1 else 0)) → Gx Γ mX0_countYear 108 [(2, 0), (0, k), (0, N), (0, i)] [] v (gHd K) t bc bs Q := by
  intro j
  induction j with
  | zero =>
    intro i v h0 h1 hF hV
    have e12 : v 0 12 = v0 0 12 := hF 0 12 (by omega)
    refine Gx_iload_n (i := 3) dX0_countYear_108 rfl rfl ?_
    refine Gx_aload_n (i := 0) dX0_countYear_109 rfl rfl ?_
    refine gf_X0_273_20 dX0_countYear_110 rfl rfl ?_
    refine Gx_icmp_ge (tgt := 148) dX0_countYear_113 (by decide) (fun c113 => ?_) (fun c113 => ?_)
    · have e0 : i = v0 0 12 := by omega
      subst e0
      exact cont v hF hV
    · exfalso
      omega
  | succ j ih =>
    intro i v h0 h1 hF hV
    have e12 : v 0 12 = v0 0 12 := hF 0 12 (by omega)
    have q28 : v 28 i = if S i = true then 1 else 0 := by rw [hF 28 i (by omega)]; exact r28 i h0 (by omega)
    have q35 : v 35 i = v0 35 i := hF 35 i (by omega)
    have bb := b35 i h0 (by omega)
    have hSt : v 28 i ≠ 0 → S i = true := fun w => by
      by_cases z : S i = true
      · exact z
      · rw [if_neg z] at q28
        omega
    have hSf : v 28 i = 0 → ¬ S i = true := fun w z => by
      rw [if_pos z] at q28
      omega
    refine Gx_iload_n (i := 3) dX0_countYear_108 rfl rfl ?_
    refine Gx_aload_n (i := 0) dX0_countYear_109 rfl rfl ?_
    refine gf_X0_273_20 dX0_countYear_110 rfl rfl ?_
    refine Gx_icmp_ge (tgt := 148) dX0_countYear_113 (by decide) (fun c113 => ?_) (fun c113 => ?_)
    · exfalso
      omega
    · refine Gx_aload_n (i := 0) dX0_countYear_116 rfl rfl ?_
      refine gf_X0_120_20 dX0_countYear_117 rfl rfl ?_
      refine Gx_iload_n (i := 3) dX0_countYear_120 rfl rfl ?_
      refine Gx_dup2 (Nat.ne_of_beq_eq_false rfl) (Nat.ne_of_beq_eq_false rfl) dX0_countYear_121 ?_
      refine Gx_iaload dX0_countYear_122 rfl (by first | omega | (simp (disch := omega) only [w32_id]; omega)) ?_
      rw [q35]
      refine Gx_aload_n (i := 0) dX0_countYear_123 rfl rfl ?_
      refine gf_X0_90_20 dX0_countYear_124 rfl rfl ?_
      refine gf_X0_385_21 dX0_countYear_127 rfl rfl ?_
      refine Gx_iload_n (i := 3) dX0_countYear_130 rfl rfl ?_
      rw [show (23 : Int) + 5 = 28 from rfl]
      refine Gx_zaload dX0_countYear_131 rfl (by first | omega | (simp (disch := omega) only [w32_id]; omega)) ?_
      refine Gx_if_eq (tgt := 139) dX0_countYear_132 (by decide) (fun c132 => ?_) (fun c132 => ?_)
      · refine Gx_iconst ⟨by decide, by decide⟩ dX0_countYear_139 ?_
        refine Gx_iadd dX0_countYear_140 ?_
        try simp (disch := omega) only [w32_id]
        refine Gx_iastore dX0_countYear_141 rfl (by first | omega | (simp (disch := omega) only [w32_id]; omega)) ?_
        refine Gx_iinc_3 dX0_countYear_142 (Nat.le_of_ble_eq_true rfl) (Nat.ne_of_beq_eq_false rfl) ?_
        try simp (disch := omega) only [w32_id]
        refine Gx_goto (tgt := 108) dX0_countYear_145 (by decide) ?_
        refine ih (i + 1) _ (by omega) (by omega) (fun a j hn => ?_) (fun x x0 x1 => ?_)
        · rw [gUp_ne2 (by omega)]
          exact hF a j (by omega)
        · by_cases g : x = i
          · rw [g, gUp_eq2 rfl rfl]
            first
            | rw [if_pos (hSt (by omega))]
            | rw [if_neg (hSf (by omega))]
          · rw [gUp_ne2 (by omega)]
            exact hV x x0 (by omega)
      · refine Gx_iconst ⟨by decide, by decide⟩ dX0_countYear_135 ?_
        refine Gx_goto (tgt := 140) dX0_countYear_136 (by decide) ?_
        refine Gx_iadd dX0_countYear_140 ?_
        try simp (disch := omega) only [w32_id]
        refine Gx_iastore dX0_countYear_141 rfl (by first | omega | (simp (disch := omega) only [w32_id]; omega)) ?_
        refine Gx_iinc_3 dX0_countYear_142 (Nat.le_of_ble_eq_true rfl) (Nat.ne_of_beq_eq_false rfl) ?_
        try simp (disch := omega) only [w32_id]
        refine Gx_goto (tgt := 108) dX0_countYear_145 (by decide) ?_
        refine ih (i + 1) _ (by omega) (by omega) (fun a j hn => ?_) (fun x x0 x1 => ?_)
        · rw [gUp_ne2 (by omega)]
          exact hF a j (by omega)
        · by_cases g : x = i
          · rw [g, gUp_eq2 rfl rfl]
            first
            | rw [if_pos (hSt (by omega))]
            | rw [if_neg (hSf (by omega))]
          · rw [gUp_ne2 (by omega)]
            exact hV x x0 (by omega)
/-- a year is counted -/
def oCy (v v1 : gM) (k N Ac D : Int) (G : Int → Int) (S : Int → Bool) : Prop := aScr v v1 ∧ (∀ j, 41 ≤ j → j ≤ 44 → j ≠ 43 → v1 0 j = v 0 j) ∧ (∀ a j, 23 ≤ a → a ≤ 32 → v1 a j = v a j) ∧ (∀ x, 0 ≤ x → x < v 0 32 → v1 33 x = v 33 x + G x ∧ v1 34 x = v 34 x + (if Ac = 0 then 0 else (D * G x).tdiv Ac)) ∧ (∀ x, 0 ≤ x → x < v 0 12 → v1 35 x = v 35 x + (if S x = true then 1 else 0)) ∧ v1 0 45 = v 0 45 + N * (N - 1) ∧ v1 0 46 = v 0 46 + N ∧ v1 0 47 = v 0 47 + Ac ∧ v1 0 48 = v 0 48 + D ∧ (∀ j, j ≠ k → v1 36 j = v 36 j) ∧ v1 36 k = Ac ∧ v1 0 43 = max (v 0 43) Ac

set_option maxHeartbeats 4000000 in
theorem ct_X0_countYear {k Ac D : Int} {B S : Int → Bool} {G : Int → Int} (h24 : v 0 32 ≤ 24) (r6 : v 23 6 = Ac ∧ 0 ≤ Ac ∧ Ac ≤ 1440) (r7 : v 23 7 = D ∧ 0 ≤ D ∧ D ≤ 1440) (r26 : ∀ i, 0 ≤ i → i < v 0 32 → v 26 i = if B i = true then 1 else 0) (r27 : ∀ i, 0 ≤ i → i < v 0 32 → v 27 i = G i ∧ 0 ≤ G i ∧ G i ≤ 60) (b33 : ∀ i, 0 ≤ i → i < v 0 32 → (0 ≤ v 33 i ∧ v 33 i ≤ 1000000000) ∧ 0 ≤ v 34 i ∧ v 34 i ≤ 1000000000) (h320 : 0 ≤ v 0 32) (h12 : 0 ≤ v 0 12 ∧ v 0 12 ≤ 2) (hk : 0 ≤ k ∧ k < 2000) (r28 : ∀ e, 0 ≤ e → e < v 0 12 → v 28 e = if S e = true then 1 else 0) (b35 : ∀ e, 0 ≤ e → e < v 0 12 → 0 ≤ v 35 e ∧ v 35 e ≤ 1000000) (b45 : (0 ≤ v 0 45 ∧ v 0 45 ≤ 100000000) ∧ (0 ≤ v 0 46 ∧ v 0 46 ≤ 100000000) ∧ (0 ≤ v 0 47 ∧ v 0 47 ≤ 100000000) ∧ 0 ≤ v 0 48 ∧ v 0 48 ≤ 100000000) (kk : ∀ v1, oCy v v1 k (yCnt B (v 0 32).toNat) Ac D G S → Q (9, 0) v1 (gHd K) t) : Ctr Γ mX0_countYear [(2, 0), (0, k)] v (gHd K) t Q := by
  refine Ctr.ofG (ls := [(2, 0), (0, k), (9, 0), (9, 0)]) rfl rfl rfl rfl rfl ?_
  refine Gx_iconst ⟨by decide, by decide⟩ dX0_countYear_0 ?_
  refine Gx_istore_n_2 dX0_countYear_1 (Nat.le_of_ble_eq_true rfl) (Nat.ne_of_beq_eq_false rfl) ?_
  refine Gx_iconst ⟨by decide, by decide⟩ dX0_countYear_2 ?_
  refine Gx_istore_n_3 dX0_countYear_3 (Nat.le_of_ble_eq_true rfl) (Nat.ne_of_beq_eq_false rfl) ?_
  refine lp_X0_countYear1 (v0 := v) h24 r6 r7 r26 r27 b33 (fun v1 f1 g1 => ?_) (v 0 32).toNat 0 v (by omega) (by omega) (fun _ _ _ => rfl) (fun x x0 x1 => absurd x1 (by omega))
  refine Gx_iconst ⟨by decide, by decide⟩ dX0_countYear_106 ?_
  refine Gx_istore_n_3 dX0_countYear_107 (Nat.le_of_ble_eq_true rfl) (Nat.ne_of_beq_eq_false rfl) ?_
  have l1 : ∀ j, v1 0 j = v 0 j := fun j => f1 0 j (by omega)
  have e12 := l1 12
  refine lp_X0_countYear2 (v0 := v1) (S := S) (by omega) (fun e e0 e1 => by rw [f1 28 e (by omega)]; exact r28 e e0 (by omega)) (fun e e0 e1 => by rw [f1 35 e (by omega)]; exact b35 e e0 (by omega)) (fun v2 f2 g2 => ?_) (v1 0 12).toNat 0 v1 (by omega) (by omega) (fun _ _ _ => rfl) (fun x x0 x1 => absurd x1 (by omega))
  have l2 : ∀ j, v2 0 j = v 0 j := fun j => by rw [f2 0 j (by omega)]; exact l1 j
  have q6 : v2 23 6 = Ac := by rw [f2 23 6 (by omega), f1 23 6 (by omega)]; exact r6.1
  have q7 : v2 23 7 = D := by rw [f2 23 7 (by omega), f1 23 7 (by omega)]; exact r7.1
  have bN := yCnt_le B (v 0 32).toNat
  have nn : 0 ≤ yCnt B (v 0 32).toNat * (yCnt B (v 0 32).toNat - 1) ∧ yCnt B (v 0 32).toNat * (yCnt B (v 0 32).toNat - 1) ≤ 576 := by
    by_cases z : yCnt B (v 0 32).toNat = 0
    · rw [z]; omega
    · have := mul_le_of (a := yCnt B (v 0 32).toNat) (b := yCnt B (v 0 32).toNat - 1) (A := 24) (B := 24) (by omega) (by omega) (by omega) (by omega)
      omega
  generalize hNe : yCnt B (v 0 32).toNat = NN at nn bN
  refine Gx_aload_n (i := 0) dX0_countYear_148 rfl rfl ?_
  refine Gx_dup (Nat.ne_of_beq_eq_false rfl) dX0_countYear_149 ?_
  refine gf_X0_454_20 dX0_countYear_150 rfl rfl ?_
  rw [l2]
  refine Gx_iload_n (i := 2) dX0_countYear_153 rfl rfl ?_
  refine Gx_i2l dX0_countYear_154 ?_
  refine Gx_iload_n (i := 2) dX0_countYear_155 rfl rfl ?_
  refine Gx_iconst ⟨by decide, by decide⟩ dX0_countYear_156 ?_
  refine Gx_isub dX0_countYear_157 ?_
  try simp (disch := omega) only [w32_id]
  refine Gx_i2l dX0_countYear_158 ?_
  refine Gx_lmul dX0_countYear_159 ?_
  refine Gx_ladd dX0_countYear_160 ?_
  rw [w64_id (x := NN * (NN - 1)) (by omega) (by omega), w64_id (by omega) (by omega)]
  refine pf_X0_454_20 dX0_countYear_161 rfl rfl ?_
  refine Gx_aload_n (i := 0) dX0_countYear_164 rfl rfl ?_
  refine Gx_dup (Nat.ne_of_beq_eq_false rfl) dX0_countYear_165 ?_
  refine gf_X0_457_20 dX0_countYear_166 rfl rfl ?_
  rw [gUp_ne2 (by omega), l2]
  refine Gx_iload_n (i := 2) dX0_countYear_169 rfl rfl ?_
  refine Gx_i2l dX0_countYear_170 ?_
  refine Gx_ladd dX0_countYear_171 ?_
  rw [w64_id (by omega) (by omega)]
  refine pf_X0_457_20 dX0_countYear_172 rfl rfl ?_
  refine Gx_aload_n (i := 0) dX0_countYear_175 rfl rfl ?_
  refine Gx_dup (Nat.ne_of_beq_eq_false rfl) dX0_countYear_176 ?_
  refine gf_X0_459_20 dX0_countYear_177 rfl rfl ?_
  rw [gUp_ne2 (by omega), gUp_ne2 (by omega), l2]
  refine Gx_aload_n (i := 0) dX0_countYear_180 rfl rfl ?_
  refine gf_X0_90_20 dX0_countYear_181 rfl rfl ?_
  refine gf_X0_374_21 dX0_countYear_184 rfl rfl ?_
  rw [gUp_ne2 (by omega), gUp_ne2 (by omega), q6]
  refine Gx_i2l dX0_countYear_187 ?_
  refine Gx_ladd dX0_countYear_188 ?_
  rw [w64_id (by omega) (by omega)]
  refine pf_X0_459_20 dX0_countYear_189 rfl rfl ?_
  refine Gx_aload_n (i := 0) dX0_countYear_192 rfl rfl ?_
  refine Gx_dup (Nat.ne_of_beq_eq_false rfl) dX0_countYear_193 ?_
  refine gf_X0_462_20 dX0_countYear_194 rfl rfl ?_
  rw [gUp_ne2 (by omega), gUp_ne2 (by omega), gUp_ne2 (by omega), l2]
  refine Gx_aload_n (i := 0) dX0_countYear_197 rfl rfl ?_
  refine gf_X0_90_20 dX0_countYear_198 rfl rfl ?_
  refine gf_X0_399_21 dX0_countYear_201 rfl rfl ?_
  rw [gUp_ne2 (by omega), gUp_ne2 (by omega), gUp_ne2 (by omega), q7]
  refine Gx_i2l dX0_countYear_204 ?_
  refine Gx_ladd dX0_countYear_205 ?_
  rw [w64_id (by omega) (by omega)]
  refine pf_X0_462_20 dX0_countYear_206 rfl rfl ?_
  refine Gx_aload_n (i := 0) dX0_countYear_209 rfl rfl ?_
  refine gf_X0_123_20 dX0_countYear_210 rfl rfl ?_
  refine Gx_iload_n (i := 1) dX0_countYear_213 rfl rfl ?_
  refine Gx_aload_n (i := 0) dX0_countYear_214 rfl rfl ?_
  refine gf_X0_90_20 dX0_countYear_215 rfl rfl ?_
  refine gf_X0_374_21 dX0_countYear_218 rfl rfl ?_
  simp (disch := omega) only [gUp_ne2, q6]
  refine Gx_iastore dX0_countYear_221 rfl (by first | omega | (simp (disch := omega) only [w32_id]; omega)) ?_
  refine Gx_aload_n (i := 0) dX0_countYear_222 rfl rfl ?_
  refine Gx_aload_n (i := 0) dX0_countYear_223 rfl rfl ?_
  refine gf_X0_448_20 dX0_countYear_224 rfl rfl ?_
  simp (disch := omega) only [gUp_ne2, l2]
  refine Gx_aload_n (i := 0) dX0_countYear_227 rfl rfl ?_
  refine gf_X0_90_20 dX0_countYear_228 rfl rfl ?_
  refine gf_X0_374_21 dX0_countYear_231 rfl rfl ?_
  simp (disch := omega) only [gUp_ne2, q6]
  refine cl_X0_465 dX0_countYear_234 rfl ⟨(Nat.le_of_ble_eq_true rfl), (Nat.le_of_ble_eq_true rfl)⟩ rfl ?_
  refine pf_X0_448_20 dX0_countYear_237 rfl rfl ?_
  refine Gx_return dX0_countYear_240 rfl ?_
  refine kk _ ⟨fun a j hn => ?_, fun j j0 j1 j2 => ?_, fun a j a0 a1 => ?_, fun x x0 x1 => ?_, fun x x0 x1 => ?_, ?_, ?_, ?_, ?_, fun j hj => ?_, ?_, ?_⟩
  · simp (disch := omega) only [gUp_ne2, f2, f1]
  · simp (disch := omega) only [gUp_ne2, l2]
  · simp (disch := omega) only [gUp_ne2, f2, f1]
  · simp (disch := omega) only [gUp_ne2, f2]
    exact g1 x x0 x1
  · simp (disch := omega) only [gUp_ne2]
    rw [g2 x x0 (by omega), f1 35 x (by omega)]
  · simp (disch := omega) only [gUp_ne2, gUp_eq2, hNe]
  · simp (disch := omega) only [gUp_ne2, gUp_eq2, hNe]
  · simp (disch := omega) only [gUp_ne2, gUp_eq2]
  · simp (disch := omega) only [gUp_ne2, gUp_eq2]
  · simp (disch := omega) only [gUp_ne2, f2, f1]
  · simp (disch := omega) only [gUp_ne2, gUp_eq2]
  · simp (disch := omega) only [gUp_ne2, gUp_eq2]
end
