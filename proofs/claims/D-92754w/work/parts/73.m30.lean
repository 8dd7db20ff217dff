/-! AcornYearsModel: keep, stand, goTo -/
section
variable {Γ : gC} {v : gM} {K : gH} {t : Nat} {Q : gQ}
/-- a walker is where now is; now is where a walker is -/
def oStand (v v1 : gM) (c : Int) : Prop := (∀ a k, ¬ (a = 63 ∧ 27 * c ≤ k ∧ k < 27 * c + 27) → v1 a k = v a k) ∧ v1 63 (27 * c) = v 38 31 ∧ v1 63 (27 * c + 1) = v 56 0 ∧ v1 63 (27 * c + 2) = v 56 1 ∧ ∀ k, 0 ≤ k → k < v 38 33 → v1 63 (27 * c + 3 + k) = v 58 k
def oGoTo (v v1 : gM) (c : Int) : Prop := (∀ a k, ¬ ((a = 38 ∧ k = 31) ∨ (a = 56 ∧ 0 ≤ k ∧ k < 2) ∨ (a = 58 ∧ 0 ≤ k ∧ k < v 38 33)) → v1 a k = v a k) ∧ v1 38 31 = v 63 (27 * c) ∧ v1 56 0 = v 63 (27 * c + 1) ∧ v1 56 1 = v 63 (27 * c + 2) ∧ ∀ k, 0 ≤ k → k < v 38 33 → v1 58 k = v 63 (27 * c + 3 + k)

set_option maxHeartbeats 1000000 in
theorem lp_X2_stand {c n : Int} {bc bs : Nat} {u : gM} (hc : 0 ≤ c ∧ c ≤ 2) (hn : u 38 33 = n) (hn24 : n ≤ 24) (cont : Q (9, 0) (gCopy u 63 (27 * c + 3) n (fun e => u 58 e)) (gHd K) t) : ∀ (j : Nat) (x : Int), 0 ≤ x → x + j = n → Gx Γ mX2_stand 46 [(2, 38), (0, c), (0, 27 * c), (0, x)] [] (gCopy u 63 (27 * c + 3) x (fun e => u 58 e)) (gHd K) t bc bs Q := by
  intro j
  induction j with
  | zero =>
    intro x h0 h1
    refine Gx_iload_n (i := 3) dX2_stand_46 rfl rfl ?_
    refine Gx_aload_n (i := 0) dX2_stand_47 rfl rfl ?_
    refine gf_X2_203_22 dX2_stand_48 rfl rfl ?_
    rw [gCopy_ne (by omega)]
    refine Gx_icmp_ge (tgt := 76) dX2_stand_51 (by decide) (fun c51 => ?_) (fun c51 => ?_)
    · refine Gx_return dX2_stand_76 rfl ?_
      have e0 : x = n := by omega
      rw [e0]
      exact cont
    · exfalso
      omega
  | succ j ih =>
    intro x h0 h1
    refine Gx_iload_n (i := 3) dX2_stand_46 rfl rfl ?_
    refine Gx_aload_n (i := 0) dX2_stand_47 rfl rfl ?_
    refine gf_X2_203_22 dX2_stand_48 rfl rfl ?_
    rw [gCopy_ne (by omega)]
    refine Gx_icmp_ge (tgt := 76) dX2_stand_51 (by decide) (fun c51 => ?_) (fun c51 => ?_)
    · refine Gx_return dX2_stand_76 rfl ?_
      exfalso
      omega
    · refine Gx_aload_n (i := 0) dX2_stand_54 rfl rfl ?_
      refine gf_X2_84_22 dX2_stand_55 rfl rfl ?_
      refine Gx_iload_n (i := 2) dX2_stand_58 rfl rfl ?_
      refine Gx_iconst ⟨by decide, by decide⟩ dX2_stand_59 ?_
      refine Gx_iadd dX2_stand_60 ?_
      try simp (disch := omega) only [w32_id]
      refine Gx_iload_n (i := 3) dX2_stand_61 rfl rfl ?_
      refine Gx_iadd dX2_stand_62 ?_
      try simp (disch := omega) only [w32_id]
      refine Gx_aload_n (i := 0) dX2_stand_63 rfl rfl ?_
      refine gf_X2_68_22 dX2_stand_64 rfl rfl ?_
      refine Gx_iload_n (i := 3) dX2_stand_67 rfl rfl ?_
      refine Gx_iaload dX2_stand_68 rfl (by first | omega | (simp (disch := omega) only [w32_id]; omega)) ?_
      rw [gCopy_ne (by omega)]
      refine Gx_iastore dX2_stand_69 rfl (by first | omega | (simp (disch := omega) only [w32_id]; omega)) ?_
      refine Gx_iinc_3 dX2_stand_70 (Nat.le_of_ble_eq_true rfl) (Nat.ne_of_beq_eq_false rfl) ?_
      try simp (disch := omega) only [w32_id]
      refine Gx_goto (tgt := 46) dX2_stand_73 (by decide) ?_
      have e1 := gCopy_step (v := u) (a := 63) (lo := 27 * c + 3) (i := x) (f := fun e => u 58 e) h0
      have hi := ih (x + 1) (by omega) (by omega)
      rw [← e1] at hi
      exact hi
set_option maxHeartbeats 1000000 in
theorem ct_X2_stand {c : Int} (hc : 0 ≤ c ∧ c ≤ 2) (h33 : 0 ≤ v 38 33 ∧ v 38 33 ≤ 24) (k1 : ∀ v1, oStand v v1 c → Q (9, 0) v1 (gHd K) t) : Ctr Γ mX2_stand [(2, 38), (0, c)] v (gHd K) t Q := by
  refine Ctr.ofG (ls := [(2, 38), (0, c), (9, 0), (9, 0)]) rfl rfl rfl rfl rfl ?_
  refine Gx_bipush dX2_stand_0 ⟨by decide, by decide⟩ ?_
  refine Gx_iload_n (i := 1) dX2_stand_2 rfl rfl ?_
  refine Gx_imul dX2_stand_3 ?_
  try simp (disch := omega) only [w32_id]
  refine Gx_istore_n_2 dX2_stand_4 (Nat.le_of_ble_eq_true rfl) (Nat.ne_of_beq_eq_false rfl) ?_
  refine Gx_aload_n (i := 0) dX2_stand_5 rfl rfl ?_
  refine gf_X2_84_22 dX2_stand_6 rfl rfl ?_
  refine Gx_iload_n (i := 2) dX2_stand_9 rfl rfl ?_
  refine Gx_aload_n (i := 0) dX2_stand_10 rfl rfl ?_
  refine gf_X2_206_22 dX2_stand_11 rfl rfl ?_
  refine Gx_iastore dX2_stand_14 rfl (by first | omega | (simp (disch := omega) only [w32_id]; omega)) ?_
  refine Gx_iconst ⟨by decide, by decide⟩ dX2_stand_15 ?_
  refine Gx_istore_n_3 dX2_stand_16 (Nat.le_of_ble_eq_true rfl) (Nat.ne_of_beq_eq_false rfl) ?_
  refine Gx_iload_n (i := 3) dX2_stand_17 rfl rfl ?_
  refine Gx_iconst ⟨by decide, by decide⟩ dX2_stand_18 ?_
  refine Gx_icmp_ge (tgt := 44) dX2_stand_19 (by decide) (fun hz => absurd hz (by decide)) (fun _ => ?_)
  refine Gx_aload_n (i := 0) dX2_stand_22 rfl rfl ?_
  refine gf_X2_84_22 dX2_stand_23 rfl rfl ?_
  refine Gx_iload_n (i := 2) dX2_stand_26 rfl rfl ?_
  refine Gx_iconst ⟨by decide, by decide⟩ dX2_stand_27 ?_
  refine Gx_iadd dX2_stand_28 ?_
  try simp (disch := omega) only [w32_id]
  refine Gx_iload_n (i := 3) dX2_stand_29 rfl rfl ?_
  refine Gx_iadd dX2_stand_30 ?_
  try simp (disch := omega) only [w32_id]
  refine Gx_aload_n (i := 0) dX2_stand_31 rfl rfl ?_
  refine gf_X2_62_22 dX2_stand_32 rfl rfl ?_
  refine Gx_iload_n (i := 3) dX2_stand_35 rfl rfl ?_
  refine Gx_iaload dX2_stand_36 rfl (by first | omega | (simp (disch := omega) only [w32_id]; omega)) ?_
  refine Gx_iastore dX2_stand_37 rfl (by first | omega | (simp (disch := omega) only [w32_id]; omega)) ?_
  refine Gx_iinc_3 dX2_stand_38 (Nat.le_of_ble_eq_true rfl) (Nat.ne_of_beq_eq_false rfl) ?_
  rw [show w32 (0 + 1) = (1 : Int) from by decide]
  refine Gx_goto (tgt := 17) dX2_stand_41 (by decide) ?_
  refine Gx_iload_n (i := 3) dX2_stand_17 rfl rfl ?_
  refine Gx_iconst ⟨by decide, by decide⟩ dX2_stand_18 ?_
  refine Gx_icmp_ge (tgt := 44) dX2_stand_19 (by decide) (fun hz => absurd hz (by decide)) (fun _ => ?_)
  refine Gx_aload_n (i := 0) dX2_stand_22 rfl rfl ?_
  refine gf_X2_84_22 dX2_stand_23 rfl rfl ?_
  refine Gx_iload_n (i := 2) dX2_stand_26 rfl rfl ?_
  refine Gx_iconst ⟨by decide, by decide⟩ dX2_stand_27 ?_
  refine Gx_iadd dX2_stand_28 ?_
  try simp (disch := omega) only [w32_id]
  refine Gx_iload_n (i := 3) dX2_stand_29 rfl rfl ?_
  refine Gx_iadd dX2_stand_30 ?_
  try simp (disch := omega) only [w32_id]
  refine Gx_aload_n (i := 0) dX2_stand_31 rfl rfl ?_
  refine gf_X2_62_22 dX2_stand_32 rfl rfl ?_
  refine Gx_iload_n (i := 3) dX2_stand_35 rfl rfl ?_
  refine Gx_iaload dX2_stand_36 rfl (by first | omega | (simp (disch := omega) only [w32_id]; omega)) ?_
  refine Gx_iastore dX2_stand_37 rfl (by first | omega | (simp (disch := omega) only [w32_id]; omega)) ?_
  refine Gx_iinc_3 dX2_stand_38 (Nat.le_of_ble_eq_true rfl) (Nat.ne_of_beq_eq_false rfl) ?_
  rw [show w32 (1 + 1) = (2 : Int) from by decide]
  refine Gx_goto (tgt := 17) dX2_stand_41 (by decide) ?_
  refine Gx_iload_n (i := 3) dX2_stand_17 rfl rfl ?_
  refine Gx_iconst ⟨by decide, by decide⟩ dX2_stand_18 ?_
  refine Gx_icmp_ge (tgt := 44) dX2_stand_19 (by decide) (fun _ => ?_) (fun hz => absurd hz (by decide))
  refine Gx_iconst ⟨by decide, by decide⟩ dX2_stand_44 ?_
  refine Gx_istore_n_3 dX2_stand_45 (Nat.le_of_ble_eq_true rfl) (Nat.ne_of_beq_eq_false rfl) ?_
  refine Gx_name (fun vN eN => ?_)
  have hFN : ∀ a k, ¬ (a = 63 ∧ 27 * c ≤ k ∧ k < 27 * c + 3) → vN a k = v a k := by
    intro a k hk
    rw [eN]
    simp (disch := omega) only [gUp_ne2]
  have h33' := hFN 38 33 (by omega)
  have hl := lp_X2_stand (Γ := Γ) (K := K) (t := t) (Q := Q) (c := c) (n := v 38 33) (bc := 0) (bs := 0) (u := vN) hc h33' h33.2 ?_ (v 38 33).toNat 0 (by omega) (by omega)
  · rw [gCopy_0] at hl
    exact hl
  refine k1 _ ⟨fun a k hk => ?_, ?_, ?_, ?_, fun k k0 k1 => ?_⟩
  · unfold gCopy
    rw [if_neg (by omega), hFN a k (by omega)]
  · unfold gCopy
    rw [if_neg (by omega), eN]
    simp (disch := omega) only [gUp_ne2, gUp_eq2]
  · unfold gCopy
    rw [if_neg (by omega), eN]
    simp (disch := omega) only [gUp_ne2, gUp_eq2]
    try rfl
  · unfold gCopy
    rw [if_neg (by omega), eN]
    simp (disch := omega) only [gUp_ne2, gUp_eq2]
    try rfl
  · unfold gCopy
    rw [if_pos (by omega), show 27 * c + 3 + k - (27 * c + 3) = k by omega]
    exact hFN 58 k (by omega)
set_option maxHeartbeats 1000000 in
theorem lp_X2_goTo {c n : Int} {bc bs : Nat} {u : gM} (hc : 0 ≤ c ∧ c ≤ 2) (hn : u 38 33 = n) (hn24 : n ≤ 24) (cont : Q (9, 0) (gCopy u 58 0 n (fun e => u 63 (27 * c + 3 + e))) (gHd K) t) : ∀ (j : Nat) (x : Int), 0 ≤ x → x + j = n → Gx Γ mX2_goTo 46 [(2, 38), (0, c), (0, 27 * c), (0, x)] [] (gCopy u 58 0 x (fun e => u 63 (27 * c + 3 + e))) (gHd K) t bc bs Q := by
  intro j
  induction j with
  | zero =>
    intro x h0 h1
    refine Gx_iload_n (i := 3) dX2_goTo_46 rfl rfl ?_
    refine Gx_aload_n (i := 0) dX2_goTo_47 rfl rfl ?_
    refine gf_X2_203_22 dX2_goTo_48 rfl rfl ?_
    rw [gCopy_ne (by omega)]
    refine Gx_icmp_ge (tgt := 76) dX2_goTo_51 (by decide) (fun c51 => ?_) (fun c51 => ?_)
    · refine Gx_return dX2_goTo_76 rfl ?_
      have e0 : x = n := by omega
      rw [e0]
      exact cont
    · exfalso
      omega
  | succ j ih =>
    intro x h0 h1
    refine Gx_iload_n (i := 3) dX2_goTo_46 rfl rfl ?_
    refine Gx_aload_n (i := 0) dX2_goTo_47 rfl rfl ?_
    refine gf_X2_203_22 dX2_goTo_48 rfl rfl ?_
    rw [gCopy_ne (by omega)]
    refine Gx_icmp_ge (tgt := 76) dX2_goTo_51 (by decide) (fun c51 => ?_) (fun c51 => ?_)
    · refine Gx_return dX2_goTo_76 rfl ?_
      exfalso
      omega
    · refine Gx_aload_n (i := 0) dX2_goTo_54 rfl rfl ?_
      refine gf_X2_68_22 dX2_goTo_55 rfl rfl ?_
      refine Gx_iload_n (i := 3) dX2_goTo_58 rfl rfl ?_
      refine Gx_aload_n (i := 0) dX2_goTo_59 rfl rfl ?_
      refine gf_X2_84_22 dX2_goTo_60 rfl rfl ?_
      refine Gx_iload_n (i := 2) dX2_goTo_63 rfl rfl ?_
      refine Gx_iconst ⟨by decide, by decide⟩ dX2_goTo_64 ?_
      refine Gx_iadd dX2_goTo_65 ?_
      try simp (disch := omega) only [w32_id]
      refine Gx_iload_n (i := 3) dX2_goTo_66 rfl rfl ?_
      refine Gx_iadd dX2_goTo_67 ?_
      try simp (disch := omega) only [w32_id]
      refine Gx_iaload dX2_goTo_68 rfl (by first | omega | (simp (disch := omega) only [w32_id]; omega)) ?_
      rw [gCopy_ne (by omega)]
      refine Gx_iastore dX2_goTo_69 rfl (by first | omega | (simp (disch := omega) only [w32_id]; omega)) ?_
      refine Gx_iinc_3 dX2_goTo_70 (Nat.le_of_ble_eq_true rfl) (Nat.ne_of_beq_eq_false rfl) ?_
      try simp (disch := omega) only [w32_id]
      refine Gx_goto (tgt := 46) dX2_goTo_73 (by decide) ?_
      have e1 := gCopy_step (v := u) (a := 58) (lo := 0) (i := x) (f := fun e => u 63 (27 * c + 3 + e)) h0
      rw [show (0 : Int) + x = x by omega] at e1
      have hi := ih (x + 1) (by omega) (by omega)
      rw [← e1] at hi
      exact hi
set_option maxHeartbeats 1000000 in
theorem ct_X2_goTo {c : Int} (hc : 0 ≤ c ∧ c ≤ 2) (h33 : 0 ≤ v 38 33 ∧ v 38 33 ≤ 24) (k1 : ∀ v1, oGoTo v v1 c → Q (9, 0) v1 (gHd K) t) : Ctr Γ mX2_goTo [(2, 38), (0, c)] v (gHd K) t Q := by
  refine Ctr.ofG (ls := [(2, 38), (0, c), (9, 0), (9, 0)]) rfl rfl rfl rfl rfl ?_
  refine Gx_bipush dX2_goTo_0 ⟨by decide, by decide⟩ ?_
  refine Gx_iload_n (i := 1) dX2_goTo_2 rfl rfl ?_
  refine Gx_imul dX2_goTo_3 ?_
  try simp (disch := omega) only [w32_id]
  refine Gx_istore_n_2 dX2_goTo_4 (Nat.le_of_ble_eq_true rfl) (Nat.ne_of_beq_eq_false rfl) ?_
  refine Gx_aload_n (i := 0) dX2_goTo_5 rfl rfl ?_
  refine Gx_aload_n (i := 0) dX2_goTo_6 rfl rfl ?_
  refine gf_X2_84_22 dX2_goTo_7 rfl rfl ?_
  refine Gx_iload_n (i := 2) dX2_goTo_10 rfl rfl ?_
  refine Gx_iaload dX2_goTo_11 rfl (by first | omega | (simp (disch := omega) only [w32_id]; omega)) ?_
  refine pf_X2_206_22 dX2_goTo_12 rfl rfl ?_
  refine Gx_iconst ⟨by decide, by decide⟩ dX2_goTo_15 ?_
  refine Gx_istore_n_3 dX2_goTo_16 (Nat.le_of_ble_eq_true rfl) (Nat.ne_of_beq_eq_false rfl) ?_
  refine Gx_iload_n (i := 3) dX2_goTo_17 rfl rfl ?_
  refine Gx_iconst ⟨by decide, by decide⟩ dX2_goTo_18 ?_
  refine Gx_icmp_ge (tgt := 44) dX2_goTo_19 (by decide) (fun hz => absurd hz (by decide)) (fun _ => ?_)
  refine Gx_aload_n (i := 0) dX2_goTo_22 rfl rfl ?_
  refine gf_X2_62_22 dX2_goTo_23 rfl rfl ?_
  refine Gx_iload_n (i := 3) dX2_goTo_26 rfl rfl ?_
  refine Gx_aload_n (i := 0) dX2_goTo_27 rfl rfl ?_
  refine gf_X2_84_22 dX2_goTo_28 rfl rfl ?_
  refine Gx_iload_n (i := 2) dX2_goTo_31 rfl rfl ?_
  refine Gx_iconst ⟨by decide, by decide⟩ dX2_goTo_32 ?_
  refine Gx_iadd dX2_goTo_33 ?_
  try simp (disch := omega) only [w32_id]
  refine Gx_iload_n (i := 3) dX2_goTo_34 rfl rfl ?_
  refine Gx_iadd dX2_goTo_35 ?_
  try simp (disch := omega) only [w32_id]
  refine Gx_iaload dX2_goTo_36 rfl (by first | omega | (simp (disch := omega) only [w32_id]; omega)) ?_
  refine Gx_iastore dX2_goTo_37 rfl (by first | omega | (simp (disch := omega) only [w32_id]; omega)) ?_
  refine Gx_iinc_3 dX2_goTo_38 (Nat.le_of_ble_eq_true rfl) (Nat.ne_of_beq_eq_false rfl) ?_
  rw [show w32 (0 + 1) = (1 : Int) from by decide]
  refine Gx_goto (tgt := 17) dX2_goTo_41 (by decide) ?_
  refine Gx_iload_n (i := 3) dX2_goTo_17 rfl rfl ?_
  refine Gx_iconst ⟨by decide, by decide⟩ dX2_goTo_18 ?_
  refine Gx_icmp_ge (tgt := 44) dX2_goTo_19 (by decide) (fun hz => absurd hz (by decide)) (fun _ => ?_)
  refine Gx_aload_n (i := 0) dX2_goTo_22 rfl rfl ?_
  refine gf_X2_62_22 dX2_goTo_23 rfl rfl ?_
  refine Gx_iload_n (i := 3) dX2_goTo_26 rfl rfl ?_
  refine Gx_aload_n (i := 0) dX2_goTo_27 rfl rfl ?_
  refine gf_X2_84_22 dX2_goTo_28 rfl rfl ?_
  refine Gx_iload_n (i := 2) dX2_goTo_31 rfl rfl ?_
  refine Gx_iconst ⟨by decide, by decide⟩ dX2_goTo_32 ?_
  refine Gx_iadd dX2_goTo_33 ?_
  try simp (disch := omega) only [w32_id]
  refine Gx_iload_n (i := 3) dX2_goTo_34 rfl rfl ?_
  refine Gx_iadd dX2_goTo_35 ?_
  try simp (disch := omega) only [w32_id]
  refine Gx_iaload dX2_goTo_36 rfl (by first | omega | (simp (disch := omega) only [w32_id]; omega)) ?_
  refine Gx_iastore dX2_goTo_37 rfl (by first | omega | (simp (disch := omega) only [w32_id]; omega)) ?_
  refine Gx_iinc_3 dX2_goTo_38 (Nat.le_of_ble_eq_true rfl) (Nat.ne_of_beq_eq_false rfl) ?_
  rw [show w32 (1 + 1) = (2 : Int) from by decide]
  refine Gx_goto (tgt := 17) dX2_goTo_41 (by decide) ?_
  refine Gx_iload_n (i := 3) dX2_goTo_17 rfl rfl ?_
  refine Gx_iconst ⟨by decide, by decide⟩ dX2_goTo_18 ?_
  refine Gx_icmp_ge (tgt := 44) dX2_goTo_19 (by decide) (fun _ => ?_) (fun hz => absurd hz (by decide))
  refine Gx_iconst ⟨by decide, by decide⟩ dX2_goTo_44 ?_
  refine Gx_istore_n_3 dX2_goTo_45 (Nat.le_of_ble_eq_true rfl) (Nat.ne_of_beq_eq_false rfl) ?_
  refine Gx_name (fun vN eN => ?_)
  have hFN : ∀ a k, ¬ ((a = 38 ∧ k = 31) ∨ (a = 56 ∧ 0 ≤ k ∧ k < 2)) → vN a k = v a k := by
    intro a k hk
    rw [eN]
    simp (disch := omega) only [gUp_ne2]
  have h33' := hFN 38 33 (by omega)
  have hl := lp_X2_goTo (Γ := Γ) (K := K) (t := t) (Q := Q) (c := c) (n := v 38 33) (bc := 0) (bs := 0) (u := vN) hc h33' h33.2 ?_ (v 38 33).toNat 0 (by omega) (by omega)
  · rw [gCopy_0] at hl
    exact hl
  refine k1 _ ⟨fun a k hk => ?_, ?_, ?_, ?_, fun k k0 k1 => ?_⟩
  · unfold gCopy
    rw [if_neg (by omega), hFN a k (by omega)]
  · unfold gCopy
    rw [if_neg (by omega), eN]
    simp (disch := omega) only [gUp_ne2, gUp_eq2]
  · unfold gCopy
    rw [if_neg (by omega), eN]
    simp (disch := omega) only [gUp_ne2, gUp_eq2]
    congr 1
    omega
  · unfold gCopy
    rw [if_neg (by omega), eN]
    simp (disch := omega) only [gUp_ne2, gUp_eq2]
    congr 1
    omega
  · unfold gCopy
    rw [if_pos (by omega), show k - 0 = k by omega]
    exact hFN 63 _ (by omega)
end
