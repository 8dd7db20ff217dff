/-! AcornYearsModel: counted, count -/
section
variable {Γ : gC} {v : gM} {K : gH} {t : Nat} {Q : gQ}
def mSav (v : gM) (s : Int) : Bool := decide (v 50 (7 * s) = 2 ∨ 3 < v 50 (7 * s))
def sCounted (v : gM) (w : Int) : Int := if w = 2 then v 38 20 else if w = 3 then v 38 33 else if w = 5 then v 38 22 else if w = 0 then yCnt (fun r => decide (0 ≤ v 40 r)) 6 else if w = 1 then yCnt (fun r => decide (0 ≤ v 43 r)) 4 else if w = 4 then yCnt (fun i => mSav v (v 57 i)) (v 38 33).toNat else 0
def sCount (v : gM) (w : Int) : Int := if 0 ≤ w ∧ w ≤ 5 then sCounted v w else -1

set_option maxHeartbeats 2000000 in
theorem lp_X2_counted1 {w a0 n : Int} {bc bs : Nat} (ha : 0 ≤ a0 ∧ a0 ≤ 100) (hn : n = 6) (cont : Gx Γ mX2_counted 37 [(2, 38), (0, w), (0, a0 + (if w = 0 then yCnt (fun r => decide (0 ≤ v 40 r)) n.toNat else 0)), (0, n)] [] v (gHd K) t bc bs Q) : ∀ (j : Nat) (i : Int), 0 ≤ i → i + j = n → Gx Γ mX2_counted 4 [(2, 38), (0, w), (0, a0 + (if w = 0 then yCnt (fun r => decide (0 ≤ v 40 r)) i.toNat else 0)), (0, i)] [] v (gHd K) t bc bs Q := by
  intro j
  induction j with
  | zero =>
    intro i h0 h1
    refine Gx_iload_n (i := 3) dX2_counted_4 rfl rfl ?_
    refine Gx_bipush dX2_counted_5 ⟨by decide, by decide⟩ ?_
    refine Gx_icmp_ge (tgt := 37) dX2_counted_7 (by decide) (fun c7 => ?_) (fun c7 => ?_)
    · have e0 : i = n := by omega
      rw [e0]
      exact cont
    · exfalso
      omega
  | succ j ih =>
    intro i h0 h1
    refine Gx_iload_n (i := 3) dX2_counted_4 rfl rfl ?_
    refine Gx_bipush dX2_counted_5 ⟨by decide, by decide⟩ ?_
    refine Gx_icmp_ge (tgt := 37) dX2_counted_7 (by decide) (fun c7 => ?_) (fun c7 => ?_)
    · exfalso
      omega
    · have hc := yCnt_le (fun r => decide (0 ≤ v 40 r)) i.toNat
      have hc2 : 0 ≤ (if w = 0 then yCnt (fun r => decide (0 ≤ v 40 r)) i.toNat else 0) ∧ (if w = 0 then yCnt (fun r => decide (0 ≤ v 40 r)) i.toNat else 0) ≤ i := by split <;> omega
      refine Gx_iload_n (i := 2) dX2_counted_10 rfl rfl ?_
      refine Gx_iload_n (i := 1) dX2_counted_11 rfl rfl ?_
      refine Gx_if_ne (tgt := 28) dX2_counted_12 (by decide) (fun c12 => ?_) (fun c12 => ?_)
      · refine Gx_iconst ⟨by decide, by decide⟩ dX2_counted_28 ?_
        refine Gx_iadd dX2_counted_29 ?_
        try simp (disch := omega) only [w32_id]
        refine Gx_istore_n_2 dX2_counted_30 (Nat.le_of_ble_eq_true rfl) (Nat.ne_of_beq_eq_false rfl) ?_
        refine Gx_iinc_3 dX2_counted_31 (Nat.le_of_ble_eq_true rfl) (Nat.ne_of_beq_eq_false rfl) ?_
        try simp (disch := omega) only [w32_id]
        refine Gx_goto (tgt := 4) dX2_counted_34 (by decide) ?_
        try rw [Int.add_zero]
        have hx := yCnt_s (q := fun r => decide (0 ≤ v 40 r)) h0
        have hi := ih (i + 1) (by omega) (by omega)
        rw [hx] at hi
        first
          | (rw [if_neg (by omega)] at hi ⊢
             exact hi)
          | (rw [if_pos (by omega), if_pos (by simp only [mSav, decide_eq_true_eq]; omega)] at hi
             rw [if_pos (by omega)]
             rw [← Int.add_assoc] at hi
             exact hi)
          | (rw [if_pos (by omega), if_neg (by simp only [mSav, decide_eq_true_eq]; omega), Int.add_zero] at hi
             rw [if_pos (by omega)]
             exact hi)
      · refine Gx_aload_n (i := 0) dX2_counted_15 rfl rfl ?_
        refine gf_X2_13_22 dX2_counted_16 rfl rfl ?_
        refine Gx_iload_n (i := 3) dX2_counted_19 rfl rfl ?_
        refine Gx_iaload dX2_counted_20 rfl (by first | omega | (simp (disch := omega) only [w32_id]; omega)) ?_
        refine Gx_if_lt (tgt := 28) dX2_counted_21 (by decide) (fun c21 => ?_) (fun c21 => ?_)
        · refine Gx_iconst ⟨by decide, by decide⟩ dX2_counted_28 ?_
          refine Gx_iadd dX2_counted_29 ?_
          try simp (disch := omega) only [w32_id]
          refine Gx_istore_n_2 dX2_counted_30 (Nat.le_of_ble_eq_true rfl) (Nat.ne_of_beq_eq_false rfl) ?_
          refine Gx_iinc_3 dX2_counted_31 (Nat.le_of_ble_eq_true rfl) (Nat.ne_of_beq_eq_false rfl) ?_
          try simp (disch := omega) only [w32_id]
          refine Gx_goto (tgt := 4) dX2_counted_34 (by decide) ?_
          try rw [Int.add_zero]
          have hx := yCnt_s (q := fun r => decide (0 ≤ v 40 r)) h0
          have hi := ih (i + 1) (by omega) (by omega)
          rw [hx] at hi
          first
            | (rw [if_neg (by omega)] at hi ⊢
               exact hi)
            | (rw [if_pos (by omega), if_pos (by simp only [mSav, decide_eq_true_eq]; omega)] at hi
               rw [if_pos (by omega)]
               rw [← Int.add_assoc] at hi
               exact hi)
            | (rw [if_pos (by omega), if_neg (by simp only [mSav, decide_eq_true_eq]; omega), Int.add_zero] at hi
               rw [if_pos (by omega)]
               exact hi)
        · refine Gx_iconst ⟨by decide, by decide⟩ dX2_counted_24 ?_
          refine Gx_goto (tgt := 29) dX2_counted_25 (by decide) ?_
          refine Gx_iadd dX2_counted_29 ?_
          try simp (disch := omega) only [w32_id]
          refine Gx_istore_n_2 dX2_counted_30 (Nat.le_of_ble_eq_true rfl) (Nat.ne_of_beq_eq_false rfl) ?_
          refine Gx_iinc_3 dX2_counted_31 (Nat.le_of_ble_eq_true rfl) (Nat.ne_of_beq_eq_false rfl) ?_
          try simp (disch := omega) only [w32_id]
          refine Gx_goto (tgt := 4) dX2_counted_34 (by decide) ?_
          try rw [Int.add_zero]
          have hx := yCnt_s (q := fun r => decide (0 ≤ v 40 r)) h0
          have hi := ih (i + 1) (by omega) (by omega)
          rw [hx] at hi
          first
            | (rw [if_neg (by omega)] at hi ⊢
               exact hi)
            | (rw [if_pos (by omega), if_pos (by simp only [mSav, decide_eq_true_eq]; omega)] at hi
               rw [if_pos (by omega)]
               rw [← Int.add_assoc] at hi
               exact hi)
            | (rw [if_pos (by omega), if_neg (by simp only [mSav, decide_eq_true_eq]; omega), Int.add_zero] at hi
               rw [if_pos (by omega)]
               exact hi)
set_option maxHeartbeats 2000000 in
theorem lp_X2_counted2 {w a0 n : Int} {bc bs : Nat} (ha : 0 ≤ a0 ∧ a0 ≤ 100) (hn : n = 4) (cont : Gx Γ mX2_counted 72 [(2, 38), (0, w), (0, a0 + (if w = 1 then yCnt (fun r => decide (0 ≤ v 43 r)) n.toNat else 0)), (0, n)] [] v (gHd K) t bc bs Q) : ∀ (j : Nat) (i : Int), 0 ≤ i → i + j = n → Gx Γ mX2_counted 39 [(2, 38), (0, w), (0, a0 + (if w = 1 then yCnt (fun r => decide (0 ≤ v 43 r)) i.toNat else 0)), (0, i)] [] v (gHd K) t bc bs Q := by
  intro j
  induction j with
  | zero =>
    intro i h0 h1
    refine Gx_iload_n (i := 3) dX2_counted_39 rfl rfl ?_
    refine Gx_iconst ⟨by decide, by decide⟩ dX2_counted_40 ?_
    refine Gx_icmp_ge (tgt := 72) dX2_counted_41 (by decide) (fun c41 => ?_) (fun c41 => ?_)
    · have e0 : i = n := by omega
      rw [e0]
      exact cont
    · exfalso
      omega
  | succ j ih =>
    intro i h0 h1
    refine Gx_iload_n (i := 3) dX2_counted_39 rfl rfl ?_
    refine Gx_iconst ⟨by decide, by decide⟩ dX2_counted_40 ?_
    refine Gx_icmp_ge (tgt := 72) dX2_counted_41 (by decide) (fun c41 => ?_) (fun c41 => ?_)
    · exfalso
      omega
    · have hc := yCnt_le (fun r => decide (0 ≤ v 43 r)) i.toNat
      have hc2 : 0 ≤ (if w = 1 then yCnt (fun r => decide (0 ≤ v 43 r)) i.toNat else 0) ∧ (if w = 1 then yCnt (fun r => decide (0 ≤ v 43 r)) i.toNat else 0) ≤ i := by split <;> omega
      refine Gx_iload_n (i := 2) dX2_counted_44 rfl rfl ?_
      refine Gx_iload_n (i := 1) dX2_counted_45 rfl rfl ?_
      refine Gx_iconst ⟨by decide, by decide⟩ dX2_counted_46 ?_
      refine Gx_icmp_ne (tgt := 63) dX2_counted_47 (by decide) (fun c47 => ?_) (fun c47 => ?_)
      · refine Gx_iconst ⟨by decide, by decide⟩ dX2_counted_63 ?_
        refine Gx_iadd dX2_counted_64 ?_
        try simp (disch := omega) only [w32_id]
        refine Gx_istore_n_2 dX2_counted_65 (Nat.le_of_ble_eq_true rfl) (Nat.ne_of_beq_eq_false rfl) ?_
        refine Gx_iinc_3 dX2_counted_66 (Nat.le_of_ble_eq_true rfl) (Nat.ne_of_beq_eq_false rfl) ?_
        try simp (disch := omega) only [w32_id]
        refine Gx_goto (tgt := 39) dX2_counted_69 (by decide) ?_
        try rw [Int.add_zero]
        have hx := yCnt_s (q := fun r => decide (0 ≤ v 43 r)) h0
        have hi := ih (i + 1) (by omega) (by omega)
        rw [hx] at hi
        first
          | (rw [if_neg (by omega)] at hi ⊢
             exact hi)
          | (rw [if_pos (by omega), if_pos (by simp only [mSav, decide_eq_true_eq]; omega)] at hi
             rw [if_pos (by omega)]
             rw [← Int.add_assoc] at hi
             exact hi)
          | (rw [if_pos (by omega), if_neg (by simp only [mSav, decide_eq_true_eq]; omega), Int.add_zero] at hi
             rw [if_pos (by omega)]
             exact hi)
      · refine Gx_aload_n (i := 0) dX2_counted_50 rfl rfl ?_
        refine gf_X2_22_22 dX2_counted_51 rfl rfl ?_
        refine Gx_iload_n (i := 3) dX2_counted_54 rfl rfl ?_
        refine Gx_iaload dX2_counted_55 rfl (by first | omega | (simp (disch := omega) only [w32_id]; omega)) ?_
        refine Gx_if_lt (tgt := 63) dX2_counted_56 (by decide) (fun c56 => ?_) (fun c56 => ?_)
        · refine Gx_iconst ⟨by decide, by decide⟩ dX2_counted_63 ?_
          refine Gx_iadd dX2_counted_64 ?_
          try simp (disch := omega) only [w32_id]
          refine Gx_istore_n_2 dX2_counted_65 (Nat.le_of_ble_eq_true rfl) (Nat.ne_of_beq_eq_false rfl) ?_
          refine Gx_iinc_3 dX2_counted_66 (Nat.le_of_ble_eq_true rfl) (Nat.ne_of_beq_eq_false rfl) ?_
          try simp (disch := omega) only [w32_id]
          refine Gx_goto (tgt := 39) dX2_counted_69 (by decide) ?_
          try rw [Int.add_zero]
          have hx := yCnt_s (q := fun r => decide (0 ≤ v 43 r)) h0
          have hi := ih (i + 1) (by omega) (by omega)
          rw [hx] at hi
          first
            | (rw [if_neg (by omega)] at hi ⊢
               exact hi)
            | (rw [if_pos (by omega), if_pos (by simp only [mSav, decide_eq_true_eq]; omega)] at hi
               rw [if_pos (by omega)]
               rw [← Int.add_assoc] at hi
               exact hi)
            | (rw [if_pos (by omega), if_neg (by simp only [mSav, decide_eq_true_eq]; omega), Int.add_zero] at hi
               rw [if_pos (by omega)]
               exact hi)
        · refine Gx_iconst ⟨by decide, by decide⟩ dX2_counted_59 ?_
          refine Gx_goto (tgt := 64) dX2_counted_60 (by decide) ?_
          refine Gx_iadd dX2_counted_64 ?_
          try simp (disch := omega) only [w32_id]
          refine Gx_istore_n_2 dX2_counted_65 (Nat.le_of_ble_eq_true rfl) (Nat.ne_of_beq_eq_false rfl) ?_
          refine Gx_iinc_3 dX2_counted_66 (Nat.le_of_ble_eq_true rfl) (Nat.ne_of_beq_eq_false rfl) ?_
          try simp (disch := omega) only [w32_id]
          refine Gx_goto (tgt := 39) dX2_counted_69 (by decide) ?_
          try rw [Int.add_zero]
          have hx := yCnt_s (q := fun r => decide (0 ≤ v 43 r)) h0
          have hi := ih (i + 1) (by omega) (by omega)
          rw [hx] at hi
          first
            | (rw [if_neg (by omega)] at hi ⊢
               exact hi)
            | (rw [if_pos (by omega), if_pos (by simp only [mSav, decide_eq_true_eq]; omega)] at hi
               rw [if_pos (by omega)]
               rw [← Int.add_assoc] at hi
               exact hi)
            | (rw [if_pos (by omega), if_neg (by simp only [mSav, decide_eq_true_eq]; omega), Int.add_zero] at hi
               rw [if_pos (by omega)]
               exact hi)
set_option maxHeartbeats 2000000 in
theorem lp_X2_counted3 {w a0 n : Int} {bc bs : Nat} (ha : 0 ≤ a0 ∧ a0 ≤ 100) (hn : v 38 33 = n) (hn24 : n ≤ 24) (hS : ∀ i, 0 ≤ i → i < n → 0 ≤ v 57 i ∧ v 57 i < 6) (cont : Gx Γ mX2_counted 114 [(2, 38), (0, w), (0, a0 + (if w = 4 then yCnt (fun i => mSav v (v 57 i)) n.toNat else 0)), (0, n)] [] v (gHd K) t bc bs Q) : ∀ (j : Nat) (i : Int), 0 ≤ i → i + j = n → Gx Γ mX2_counted 74 [(2, 38), (0, w), (0, a0 + (if w = 4 then yCnt (fun i => mSav v (v 57 i)) i.toNat else 0)), (0, i)] [] v (gHd K) t bc bs Q := by
  intro j
  induction j with
  | zero =>
    intro i h0 h1
    refine Gx_iload_n (i := 3) dX2_counted_74 rfl rfl ?_
    refine Gx_aload_n (i := 0) dX2_counted_75 rfl rfl ?_
    refine gf_X2_203_22 dX2_counted_76 rfl rfl ?_
    refine Gx_icmp_ge (tgt := 114) dX2_counted_79 (by decide) (fun c79 => ?_) (fun c79 => ?_)
    · have e0 : i = n := by omega
      rw [e0]
      exact cont
    · exfalso
      omega
  | succ j ih =>
    intro i h0 h1
    refine Gx_iload_n (i := 3) dX2_counted_74 rfl rfl ?_
    refine Gx_aload_n (i := 0) dX2_counted_75 rfl rfl ?_
    refine gf_X2_203_22 dX2_counted_76 rfl rfl ?_
    refine Gx_icmp_ge (tgt := 114) dX2_counted_79 (by decide) (fun c79 => ?_) (fun c79 => ?_)
    · exfalso
      omega
    · have hc := yCnt_le (fun i => mSav v (v 57 i)) i.toNat
      have hc2 : 0 ≤ (if w = 4 then yCnt (fun i => mSav v (v 57 i)) i.toNat else 0) ∧ (if w = 4 then yCnt (fun i => mSav v (v 57 i)) i.toNat else 0) ≤ i := by split <;> omega
      refine Gx_iload_n (i := 2) dX2_counted_82 rfl rfl ?_
      refine Gx_iload_n (i := 1) dX2_counted_83 rfl rfl ?_
      refine Gx_iconst ⟨by decide, by decide⟩ dX2_counted_84 ?_
      refine Gx_icmp_ne (tgt := 105) dX2_counted_85 (by decide) (fun c85 => ?_) (fun c85 => ?_)
      · refine Gx_iconst ⟨by decide, by decide⟩ dX2_counted_105 ?_
        refine Gx_iadd dX2_counted_106 ?_
        try simp (disch := omega) only [w32_id]
        refine Gx_istore_n_2 dX2_counted_107 (Nat.le_of_ble_eq_true rfl) (Nat.ne_of_beq_eq_false rfl) ?_
        refine Gx_iinc_3 dX2_counted_108 (Nat.le_of_ble_eq_true rfl) (Nat.ne_of_beq_eq_false rfl) ?_
        try simp (disch := omega) only [w32_id]
        refine Gx_goto (tgt := 74) dX2_counted_111 (by decide) ?_
        try rw [Int.add_zero]
        have hx := yCnt_s (q := fun i => mSav v (v 57 i)) h0
        have hi := ih (i + 1) (by omega) (by omega)
        rw [hx] at hi
        first
          | (rw [if_neg (by omega)] at hi ⊢
             exact hi)
          | (rw [if_pos (by omega), if_pos (by simp only [mSav, decide_eq_true_eq]; omega)] at hi
             rw [if_pos (by omega)]
             rw [← Int.add_assoc] at hi
             exact hi)
          | (rw [if_pos (by omega), if_neg (by simp only [mSav, decide_eq_true_eq]; omega), Int.add_zero] at hi
             rw [if_pos (by omega)]
             exact hi)
      · have hs := hS i h0 (by omega)
        refine Gx_aload_n (i := 0) dX2_counted_88 rfl rfl ?_
        refine Gx_aload_n (i := 0) dX2_counted_89 rfl rfl ?_
        refine gf_X2_65_22 dX2_counted_90 rfl rfl ?_
        refine Gx_iload_n (i := 3) dX2_counted_93 rfl rfl ?_
        refine Gx_iaload dX2_counted_94 rfl (by first | omega | (simp (disch := omega) only [w32_id]; omega)) ?_
        refine cl_X2_215 dX2_counted_95 rfl rfl ⟨(Nat.le_of_ble_eq_true rfl), (Nat.le_of_ble_eq_true rfl)⟩ rfl ?_
        refine ct_X2_isSaver (by omega) (fun c95 => ?_) (fun c95 => ?_)
        · refine Gx_if_eq (tgt := 105) dX2_counted_98 (by decide) (fun hz => absurd hz (by decide)) (fun _ => ?_)
          refine Gx_iconst ⟨by decide, by decide⟩ dX2_counted_101 ?_
          refine Gx_goto (tgt := 106) dX2_counted_102 (by decide) ?_
          refine Gx_iadd dX2_counted_106 ?_
          try simp (disch := omega) only [w32_id]
          refine Gx_istore_n_2 dX2_counted_107 (Nat.le_of_ble_eq_true rfl) (Nat.ne_of_beq_eq_false rfl) ?_
          refine Gx_iinc_3 dX2_counted_108 (Nat.le_of_ble_eq_true rfl) (Nat.ne_of_beq_eq_false rfl) ?_
          try simp (disch := omega) only [w32_id]
          refine Gx_goto (tgt := 74) dX2_counted_111 (by decide) ?_
          try rw [Int.add_zero]
          have hx := yCnt_s (q := fun i => mSav v (v 57 i)) h0
          have hi := ih (i + 1) (by omega) (by omega)
          rw [hx] at hi
          first
            | (rw [if_neg (by omega)] at hi ⊢
               exact hi)
            | (rw [if_pos (by omega), if_pos (by simp only [mSav, decide_eq_true_eq]; omega)] at hi
               rw [if_pos (by omega)]
               rw [← Int.add_assoc] at hi
               exact hi)
            | (rw [if_pos (by omega), if_neg (by simp only [mSav, decide_eq_true_eq]; omega), Int.add_zero] at hi
               rw [if_pos (by omega)]
               exact hi)
        · refine Gx_if_eq (tgt := 105) dX2_counted_98 (by decide) (fun _ => ?_) (fun hz => absurd hz (by decide))
          refine Gx_iconst ⟨by decide, by decide⟩ dX2_counted_105 ?_
          refine Gx_iadd dX2_counted_106 ?_
          try simp (disch := omega) only [w32_id]
          refine Gx_istore_n_2 dX2_counted_107 (Nat.le_of_ble_eq_true rfl) (Nat.ne_of_beq_eq_false rfl) ?_
          refine Gx_iinc_3 dX2_counted_108 (Nat.le_of_ble_eq_true rfl) (Nat.ne_of_beq_eq_false rfl) ?_
          try simp (disch := omega) only [w32_id]
          refine Gx_goto (tgt := 74) dX2_counted_111 (by decide) ?_
          try rw [Int.add_zero]
          have hx := yCnt_s (q := fun i => mSav v (v 57 i)) h0
          have hi := ih (i + 1) (by omega) (by omega)
          rw [hx] at hi
          first
            | (rw [if_neg (by omega)] at hi ⊢
               exact hi)
            | (rw [if_pos (by omega), if_pos (by simp only [mSav, decide_eq_true_eq]; omega)] at hi
               rw [if_pos (by omega)]
               rw [← Int.add_assoc] at hi
               exact hi)
            | (rw [if_pos (by omega), if_neg (by simp only [mSav, decide_eq_true_eq]; omega), Int.add_zero] at hi
               rw [if_pos (by omega)]
               exact hi)

set_option maxHeartbeats 2000000 in
theorem ct_X2_counted {w : Int} (h33 : 0 ≤ v 38 33 ∧ v 38 33 ≤ 24) (hS : ∀ i, 0 ≤ i → i < v 38 33 → 0 ≤ v 57 i ∧ v 57 i < 6) (k : Q (0, sCounted v w) v (gHd K) t) : Ctr Γ mX2_counted [(2, 38), (0, w)] v (gHd K) t Q := by
  refine Ctr.ofG (ls := [(2, 38), (0, w), (9, 0), (9, 0)]) rfl rfl rfl rfl rfl ?_
  refine Gx_iconst ⟨by decide, by decide⟩ dX2_counted_0 ?_
  refine Gx_istore_n_2 dX2_counted_1 (Nat.le_of_ble_eq_true rfl) (Nat.ne_of_beq_eq_false rfl) ?_
  refine Gx_iconst ⟨by decide, by decide⟩ dX2_counted_2 ?_
  refine Gx_istore_n_3 dX2_counted_3 (Nat.le_of_ble_eq_true rfl) (Nat.ne_of_beq_eq_false rfl) ?_
  have hl := lp_X2_counted1 (Γ := Γ) (v := v) (K := K) (t := t) (Q := Q) (w := w) (a0 := 0) (n := 6) (bc := 0) (bs := 0) (by omega) rfl ?_ 6 0 (by omega) (by omega)
  · rw [show (0 : Int) + (if w = 0 then yCnt (fun r => decide (0 ≤ v 40 r)) (0 : Int).toNat else 0) = 0 by split <;> rfl] at hl
    exact hl
  have hc1 := yCnt_le (fun r => decide (0 ≤ v 40 r)) (6 : Int).toNat
  obtain ⟨a1, ea1⟩ : ∃ a1, a1 = (0 : Int) + (if w = 0 then yCnt (fun r => decide (0 ≤ v 40 r)) (6 : Int).toNat else 0) := ⟨_, rfl⟩
  have ha1 : 0 ≤ a1 ∧ a1 ≤ 6 := by rw [ea1]; split <;> omega
  rw [← ea1]
  refine Gx_iconst ⟨by decide, by decide⟩ dX2_counted_37 ?_
  refine Gx_istore_n_3 dX2_counted_38 (Nat.le_of_ble_eq_true rfl) (Nat.ne_of_beq_eq_false rfl) ?_
  have hl := lp_X2_counted2 (Γ := Γ) (v := v) (K := K) (t := t) (Q := Q) (w := w) (a0 := a1) (n := 4) (bc := 0) (bs := 0) (by omega) rfl ?_ 4 0 (by omega) (by omega)
  · rw [show a1 + (if w = 1 then yCnt (fun r => decide (0 ≤ v 43 r)) (0 : Int).toNat else 0) = a1 by split <;> exact Int.add_zero _] at hl
    exact hl
  have hc2 := yCnt_le (fun r => decide (0 ≤ v 43 r)) (4 : Int).toNat
  obtain ⟨a2, ea2⟩ : ∃ a2, a2 = a1 + (if w = 1 then yCnt (fun r => decide (0 ≤ v 43 r)) (4 : Int).toNat else 0) := ⟨_, rfl⟩
  have ha2 : 0 ≤ a2 ∧ a2 ≤ 10 := by rw [ea2]; split <;> omega
  rw [← ea2]
  refine Gx_iconst ⟨by decide, by decide⟩ dX2_counted_72 ?_
  refine Gx_istore_n_3 dX2_counted_73 (Nat.le_of_ble_eq_true rfl) (Nat.ne_of_beq_eq_false rfl) ?_
  have hl := lp_X2_counted3 (Γ := Γ) (v := v) (K := K) (t := t) (Q := Q) (w := w) (a0 := a2) (n := v 38 33) (bc := 0) (bs := 0) (by omega) rfl (by omega) hS ?_ (v 38 33).toNat 0 (by omega) (by omega)
  · rw [show a2 + (if w = 4 then yCnt (fun i => mSav v (v 57 i)) (0 : Int).toNat else 0) = a2 by split <;> exact Int.add_zero _] at hl
    exact hl
  refine Gx_iload_n (i := 1) dX2_counted_114 rfl rfl ?_
  refine Gx_iconst ⟨by decide, by decide⟩ dX2_counted_115 ?_
  refine Gx_icmp_ne (tgt := 126) dX2_counted_116 (by decide) (fun c116 => ?_) (fun c116 => ?_)
  · refine Gx_iload_n (i := 1) dX2_counted_126 rfl rfl ?_
    refine Gx_iconst ⟨by decide, by decide⟩ dX2_counted_127 ?_
    refine Gx_icmp_ne (tgt := 138) dX2_counted_128 (by decide) (fun c128 => ?_) (fun c128 => ?_)
    · refine Gx_iload_n (i := 1) dX2_counted_138 rfl rfl ?_
      refine Gx_iconst ⟨by decide, by decide⟩ dX2_counted_139 ?_
      refine Gx_icmp_ne (tgt := 150) dX2_counted_140 (by decide) (fun c140 => ?_) (fun c140 => ?_)
      · refine Gx_iload_n (i := 2) dX2_counted_150 rfl rfl ?_
        refine Gx_ireturn dX2_counted_151 trivial ?_
        first
          | (have e : a2 + (if w = 4 then yCnt (fun i => mSav v (v 57 i)) (v 38 33).toNat else 0) = sCounted v w := by
               rw [ea2, ea1]
               unfold sCounted
               rw [show (6 : Int).toNat = 6 from rfl, show (4 : Int).toNat = 4 from rfl, if_neg c116, if_neg c128, if_neg c140]
               repeat' split
               all_goals omega
             rw [e]
             exact k)
          | (unfold sCounted at k
             first
               | (rw [if_pos c116] at k; exact k)
               | (rw [if_neg c116, if_pos c128] at k; exact k)
               | (rw [if_neg c116, if_neg c128, if_pos c140] at k; exact k))
      · refine Gx_aload_n (i := 0) dX2_counted_143 rfl rfl ?_
        refine gf_X2_194_22 dX2_counted_144 rfl rfl ?_
        refine Gx_goto (tgt := 151) dX2_counted_147 (by decide) ?_
        refine Gx_ireturn dX2_counted_151 trivial ?_
        first
          | (have e : a2 + (if w = 4 then yCnt (fun i => mSav v (v 57 i)) (v 38 33).toNat else 0) = sCounted v w := by
               rw [ea2, ea1]
               unfold sCounted
               rw [show (6 : Int).toNat = 6 from rfl, show (4 : Int).toNat = 4 from rfl, if_neg c116, if_neg c128, if_neg c140]
               repeat' split
               all_goals omega
             rw [e]
             exact k)
          | (unfold sCounted at k
             first
               | (rw [if_pos c116] at k; exact k)
               | (rw [if_neg c116, if_pos c128] at k; exact k)
               | (rw [if_neg c116, if_neg c128, if_pos c140] at k; exact k))
    · refine Gx_aload_n (i := 0) dX2_counted_131 rfl rfl ?_
      refine gf_X2_203_22 dX2_counted_132 rfl rfl ?_
      refine Gx_goto (tgt := 151) dX2_counted_135 (by decide) ?_
      refine Gx_ireturn dX2_counted_151 trivial ?_
      first
        | (have e : a2 + (if w = 4 then yCnt (fun i => mSav v (v 57 i)) (v 38 33).toNat else 0) = sCounted v w := by
             rw [ea2, ea1]
             unfold sCounted
             rw [show (6 : Int).toNat = 6 from rfl, show (4 : Int).toNat = 4 from rfl, if_neg c116, if_neg c128, if_neg c140]
             repeat' split
             all_goals omega
           rw [e]
           exact k)
        | (unfold sCounted at k
           first
             | (rw [if_pos c116] at k; exact k)
             | (rw [if_neg c116, if_pos c128] at k; exact k)
             | (rw [if_neg c116, if_neg c128, if_pos c140] at k; exact k))
  · refine Gx_aload_n (i := 0) dX2_counted_119 rfl rfl ?_
    refine gf_X2_191_22 dX2_counted_120 rfl rfl ?_
    refine Gx_goto (tgt := 151) dX2_counted_123 (by decide) ?_
    refine Gx_ireturn dX2_counted_151 trivial ?_
    first
      | (have e : a2 + (if w = 4 then yCnt (fun i => mSav v (v 57 i)) (v 38 33).toNat else 0) = sCounted v w := by
           rw [ea2, ea1]
           unfold sCounted
           rw [show (6 : Int).toNat = 6 from rfl, show (4 : Int).toNat = 4 from rfl, if_neg c116, if_neg c128, if_neg c140]
           repeat' split
           all_goals omega
         rw [e]
         exact k)
      | (unfold sCounted at k
         first
           | (rw [if_pos c116] at k; exact k)
           | (rw [if_neg c116, if_pos c128] at k; exact k)
           | (rw [if_neg c116, if_neg c128, if_pos c140] at k; exact k))
theorem ct_X2_count {w : Int} (h33 : 0 ≤ v 38 33 ∧ v 38 33 ≤ 24) (hS : ∀ i, 0 ≤ i → i < v 38 33 → 0 ≤ v 57 i ∧ v 57 i < 6) (k : Q (0, sCount v w) v (gHd K) t) : Ctr Γ mX2_count [(2, 38), (0, w)] v (gHd K) t Q := by
  refine Ctr.ofG (ls := [(2, 38), (0, w)]) rfl rfl rfl rfl rfl ?_
  refine Gx_iload_n (i := 1) dX2_count_0 rfl rfl ?_
  refine Gx_iconst ⟨by decide, by decide⟩ dX2_count_1 ?_
  refine Gx_iconst ⟨by decide, by decide⟩ dX2_count_2 ?_
  refine cl_X2_104 dX2_count_3 rfl ⟨(Nat.le_of_ble_eq_true rfl), (Nat.le_of_ble_eq_true rfl)⟩ rfl ?_
  refine ct_X2_in (fun c3 => ?_) (fun c3 => ?_)
  · refine Gx_if_eq (tgt := 17) dX2_count_6 (by decide) (fun hz => absurd hz (by decide)) (fun _ => ?_)
    refine Gx_aload_n (i := 0) dX2_count_9 rfl rfl ?_
    refine Gx_iload_n (i := 1) dX2_count_10 rfl rfl ?_
    refine cl_X2_376 dX2_count_11 rfl rfl ⟨(Nat.le_of_ble_eq_true rfl), (Nat.le_of_ble_eq_true rfl)⟩ rfl ?_
    refine ct_X2_counted h33 hS ?_
    refine Gx_goto (tgt := 18) dX2_count_14 (by decide) ?_
    refine Gx_ireturn dX2_count_18 trivial ?_
    unfold sCount at k
    split at k <;> first | exact k | (exfalso; omega)
  · refine Gx_if_eq (tgt := 17) dX2_count_6 (by decide) (fun _ => ?_) (fun hz => absurd hz (by decide))
    refine Gx_iconst ⟨by decide, by decide⟩ dX2_count_17 ?_
    refine Gx_ireturn dX2_count_18 trivial ?_
    unfold sCount at k
    split at k <;> first | exact k | (exfalso; omega)
end
