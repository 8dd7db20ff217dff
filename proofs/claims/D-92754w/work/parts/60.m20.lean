/-! AcornYearsModel: guess -/
section
variable {Γ : gC} {v : gM} {K : gH} {t : Nat} {Q : gQ}
def gCL (q : Int → Bool) (z : Int) : Nat → Int × Int → Int × Int
  | 0, s => s
  | k + 1, s => if q ((k + 1 : Nat) : Int) = true then ((gCL q z k s).1 + 1, if (gCL q z k s).1 = 0 then z + ((k + 1 : Nat) : Int) else (gCL q z k s).2) else gCL q z k s
theorem gCL_s {q : Int → Bool} {z c : Int} {s : Int × Int} (h : 1 ≤ c) : gCL q z c.toNat s = if q c = true then ((gCL q z (c - 1).toNat s).1 + 1, if (gCL q z (c - 1).toNat s).1 = 0 then z + c else (gCL q z (c - 1).toNat s).2) else gCL q z (c - 1).toNat s := by
  obtain ⟨k, rfl⟩ : ∃ k : Nat, c = ((k + 1 : Nat) : Int) := ⟨(c - 1).toNat, by omega⟩
  rw [show (((k + 1 : Nat) : Int)).toNat = k + 1 by omega, show ((((k + 1 : Nat) : Int)) - 1).toNat = k by omega]
  rfl
theorem gCL_le (q : Int → Bool) (z : Int) (s : Int × Int) : ∀ k, s.1 ≤ (gCL q z k s).1 ∧ (gCL q z k s).1 ≤ s.1 + k
  | 0 => by unfold gCL; omega
  | k + 1 => by
    have := gCL_le q z s k
    unfold gCL
    split
    · dsimp only; omega
    · omega
def gBL (q : Int → Int → Bool) (g : Int) : Nat → Int × Int → Int × Int
  | 0, s => s
  | k + 1, s => gCL (q k) (10000 * g + 100 * (k : Int)) (min 60 ((k : Int) + 1)).toNat (gBL q g k s)
theorem gBL_s {q : Int → Int → Bool} {g b : Int} {s : Int × Int} (h : 0 ≤ b) : gBL q g (b + 1).toNat s = gCL (q b) (10000 * g + 100 * b) (min 60 (b + 1)).toNat (gBL q g b.toNat s) := by
  obtain ⟨k, rfl⟩ : ∃ k : Nat, b = (k : Int) := ⟨b.toNat, by omega⟩
  rw [show ((k : Int) + 1).toNat = k + 1 by omega, show ((k : Int)).toNat = k by omega]
  rfl
theorem gBL_le (q : Int → Int → Bool) (g : Int) (s : Int × Int) : ∀ k, s.1 ≤ (gBL q g k s).1 ∧ (gBL q g k s).1 ≤ s.1 + 60 * k
  | 0 => by unfold gBL; omega
  | k + 1 => by
    have h1 := gBL_le q g s k
    have h2 := gCL_le (q k) (10000 * g + 100 * (k : Int)) (gBL q g k s) (min 60 ((k : Int) + 1)).toNat
    unfold gBL
    omega
def gGL (q : Int → Int → Int → Bool) : Nat → Int × Int
  | 0 => (0, -9)
  | k + 1 => gBL (q ((k + 1 : Nat) : Int)) ((k + 1 : Nat) : Int) 61 (gGL q k)
theorem gGL_s {q : Int → Int → Int → Bool} {g : Int} (h : 1 ≤ g) : gGL q g.toNat = gBL (q g) g 61 (gGL q (g - 1).toNat) := by
  obtain ⟨k, rfl⟩ : ∃ k : Nat, g = ((k + 1 : Nat) : Int) := ⟨(g - 1).toNat, by omega⟩
  rw [show (((k + 1 : Nat) : Int)).toNat = k + 1 by omega, show ((((k + 1 : Nat) : Int)) - 1).toNat = k by omega]
  rfl
theorem gGL_le (q : Int → Int → Int → Bool) : ∀ k, 0 ≤ (gGL q k).1 ∧ (gGL q k).1 ≤ 3660 * k
  | 0 => by unfold gGL; simp
  | k + 1 => by
    have h1 := gGL_le q k
    have h2 := gBL_le (q ((k + 1 : Nat) : Int)) ((k + 1 : Nat) : Int) (gGL q k) 61
    unfold gGL
    omega
def sGuess (v : gM) (r : Int) : Int × gM := if (sNL v r 40).1 < 0 then sNL v r 40 else ((gGL (mFits v r) 9).1, gUp v 38 2 (gGL (mFits v r) 9).2)

set_option maxHeartbeats 2000000 in
theorem lp_X2_guess1 {r x2 g b : Int} {s : Int × Int} {bc bs : Nat} (hr : 0 ≤ r ∧ r ≤ 5) (hn : 0 ≤ v 40 r ∧ v 40 r ≤ 80) (hg : 1 ≤ g ∧ g ≤ 9) (hb : 0 ≤ b ∧ b ≤ 60) (hs : 0 ≤ s.1 ∧ s.1 ≤ 100000) (cont : Gx Γ mX2_guess 108 [(2, 38), (0, r), (0, x2), (0, (gCL (mFits v r g b) (10000 * g + 100 * b) (min 60 (b + 1)).toNat s).1), (0, (gCL (mFits v r g b) (10000 * g + 100 * b) (min 60 (b + 1)).toNat s).2), (0, g), (0, b), (0, min 60 (b + 1) + 1)] [] v (gHd K) t bc bs Q) : ∀ (j : Nat) (c : Int), 1 ≤ c → c + j = min 60 (b + 1) + 1 → Gx Γ mX2_guess 43 [(2, 38), (0, r), (0, x2), (0, (gCL (mFits v r g b) (10000 * g + 100 * b) (c - 1).toNat s).1), (0, (gCL (mFits v r g b) (10000 * g + 100 * b) (c - 1).toNat s).2), (0, g), (0, b), (0, c)] [] v (gHd K) t bc bs Q := by
  intro j
  induction j with
  | zero =>
    intro c h0 h1
    refine Gx_iload dX2_guess_43 rfl ?_
    refine Gx_iload dX2_guess_45 rfl ?_
    refine Gx_iconst ⟨by decide, by decide⟩ dX2_guess_47 ?_
    refine Gx_iadd dX2_guess_48 ?_
    try simp (disch := omega) only [w32_id]
    refine Gx_icmp_gt (tgt := 108) dX2_guess_49 (by decide) (fun c49 => ?_) (fun c49 => ?_)
    · have e0 : c = min 60 (b + 1) + 1 := by omega
      have e1 : (c - 1).toNat = (min 60 (b + 1)).toNat := by omega
      rw [e1, e0]
      exact cont
    · refine Gx_iload dX2_guess_52 rfl ?_
      refine Gx_bipush dX2_guess_54 ⟨by decide, by decide⟩ ?_
      refine Gx_icmp_gt (tgt := 108) dX2_guess_56 (by decide) (fun c56 => ?_) (fun c56 => ?_)
      · have e0 : c = min 60 (b + 1) + 1 := by omega
        have e1 : (c - 1).toNat = (min 60 (b + 1)).toNat := by omega
        rw [e1, e0]
        exact cont
      · exfalso
        omega
  | succ j ih =>
    intro c h0 h1
    refine Gx_iload dX2_guess_43 rfl ?_
    refine Gx_iload dX2_guess_45 rfl ?_
    refine Gx_iconst ⟨by decide, by decide⟩ dX2_guess_47 ?_
    refine Gx_iadd dX2_guess_48 ?_
    try simp (disch := omega) only [w32_id]
    refine Gx_icmp_gt (tgt := 108) dX2_guess_49 (by decide) (fun c49 => ?_) (fun c49 => ?_)
    · exfalso
      omega
    · refine Gx_iload dX2_guess_52 rfl ?_
      refine Gx_bipush dX2_guess_54 ⟨by decide, by decide⟩ ?_
      refine Gx_icmp_gt (tgt := 108) dX2_guess_56 (by decide) (fun c56 => ?_) (fun c56 => ?_)
      · exfalso
        omega
      · have hl := gCL_le (mFits v r g b) (10000 * g + 100 * b) s (c - 1).toNat
        refine Gx_aload_n (i := 0) dX2_guess_59 rfl rfl ?_
        refine Gx_iload_n (i := 1) dX2_guess_60 rfl rfl ?_
        refine Gx_iload dX2_guess_61 rfl ?_
        refine Gx_iload dX2_guess_63 rfl ?_
        refine Gx_iload dX2_guess_65 rfl ?_
        refine cl_X2_373 dX2_guess_67 rfl rfl ⟨(Nat.le_of_ble_eq_true rfl), (Nat.le_of_ble_eq_true rfl)⟩ rfl ?_
        refine ct_X2_fits hr hn (by omega) hb (by omega) (fun c67 => ?_) (fun c67 => ?_)
        · refine Gx_if_eq (tgt := 102) dX2_guess_70 (by decide) (fun hz => absurd hz (by decide)) (fun _ => ?_)
          refine Gx_iload_n (i := 3) dX2_guess_73 rfl rfl ?_
          refine Gx_if_ne (tgt := 95) dX2_guess_74 (by decide) (fun c74 => ?_) (fun c74 => ?_)
          · refine Gx_iload dX2_guess_95 rfl ?_
            refine Gx_istore_4 dX2_guess_97 (Nat.le_of_ble_eq_true rfl) (Nat.ne_of_beq_eq_false rfl) ?_
            refine Gx_iinc_3 dX2_guess_99 (Nat.le_of_ble_eq_true rfl) (Nat.ne_of_beq_eq_false rfl) ?_
            try simp (disch := omega) only [w32_id]
            refine Gx_iinc_7 dX2_guess_102 (Nat.le_of_ble_eq_true rfl) (Nat.ne_of_beq_eq_false rfl) ?_
            try simp (disch := omega) only [w32_id]
            refine Gx_goto (tgt := 43) dX2_guess_105 (by decide) ?_
            have hx := gCL_s (q := mFits v r g b) (z := 10000 * g + 100 * b) (s := s) h0
            have hi := ih (c + 1) (by omega) (by omega)
            rw [show c + 1 - 1 = c by omega, hx] at hi
            first
              | (rw [if_pos c67] at hi
                 dsimp only at hi
                 first
                   | (rw [if_pos (by omega)] at hi; exact hi)
                   | (rw [if_neg (by omega)] at hi; exact hi))
              | (rw [if_neg (by rw [c67]; decide)] at hi
                 exact hi)
          · refine Gx_sipush dX2_guess_77 ⟨by decide, by decide⟩ ?_
            refine Gx_iload dX2_guess_80 rfl ?_
            refine Gx_imul dX2_guess_82 ?_
            try simp (disch := omega) only [w32_id]
            refine Gx_bipush dX2_guess_83 ⟨by decide, by decide⟩ ?_
            refine Gx_iload dX2_guess_85 rfl ?_
            refine Gx_imul dX2_guess_87 ?_
            try simp (disch := omega) only [w32_id]
            refine Gx_iadd dX2_guess_88 ?_
            try simp (disch := omega) only [w32_id]
            refine Gx_iload dX2_guess_89 rfl ?_
            refine Gx_iadd dX2_guess_91 ?_
            try simp (disch := omega) only [w32_id]
            refine Gx_goto (tgt := 97) dX2_guess_92 (by decide) ?_
            refine Gx_istore_4 dX2_guess_97 (Nat.le_of_ble_eq_true rfl) (Nat.ne_of_beq_eq_false rfl) ?_
            refine Gx_iinc_3 dX2_guess_99 (Nat.le_of_ble_eq_true rfl) (Nat.ne_of_beq_eq_false rfl) ?_
            try simp (disch := omega) only [w32_id]
            refine Gx_iinc_7 dX2_guess_102 (Nat.le_of_ble_eq_true rfl) (Nat.ne_of_beq_eq_false rfl) ?_
            try simp (disch := omega) only [w32_id]
            refine Gx_goto (tgt := 43) dX2_guess_105 (by decide) ?_
            have hx := gCL_s (q := mFits v r g b) (z := 10000 * g + 100 * b) (s := s) h0
            have hi := ih (c + 1) (by omega) (by omega)
            rw [show c + 1 - 1 = c by omega, hx] at hi
            first
              | (rw [if_pos c67] at hi
                 dsimp only at hi
                 first
                   | (rw [if_pos (by omega)] at hi; exact hi)
                   | (rw [if_neg (by omega)] at hi; exact hi))
              | (rw [if_neg (by rw [c67]; decide)] at hi
                 exact hi)
        · refine Gx_if_eq (tgt := 102) dX2_guess_70 (by decide) (fun _ => ?_) (fun hz => absurd hz (by decide))
          refine Gx_iinc_7 dX2_guess_102 (Nat.le_of_ble_eq_true rfl) (Nat.ne_of_beq_eq_false rfl) ?_
          try simp (disch := omega) only [w32_id]
          refine Gx_goto (tgt := 43) dX2_guess_105 (by decide) ?_
          have hx := gCL_s (q := mFits v r g b) (z := 10000 * g + 100 * b) (s := s) h0
          have hi := ih (c + 1) (by omega) (by omega)
          rw [show c + 1 - 1 = c by omega, hx] at hi
          first
            | (rw [if_pos c67] at hi
               dsimp only at hi
               first
                 | (rw [if_pos (by omega)] at hi; exact hi)
                 | (rw [if_neg (by omega)] at hi; exact hi))
            | (rw [if_neg (by rw [c67]; decide)] at hi
               exact hi)
set_option maxHeartbeats 2000000 in
theorem lp_X2_guess2 {r x2 g : Int} {s : Int × Int} {bc bs : Nat} (hr : 0 ≤ r ∧ r ≤ 5) (hn : 0 ≤ v 40 r ∧ v 40 r ≤ 80) (hg : 1 ≤ g ∧ g ≤ 9) (hs : 0 ≤ s.1 ∧ s.1 ≤ 50000) (cont : ∀ z7 : gV, Gx Γ mX2_guess 114 [(2, 38), (0, r), (0, x2), (0, (gBL (mFits v r g) g 61 s).1), (0, (gBL (mFits v r g) g 61 s).2), (0, g), (0, 61), z7] [] v (gHd K) t bc bs Q) : ∀ (j : Nat) (b : Int) (z7 : gV), 0 ≤ b → b + j = 61 → Gx Γ mX2_guess 33 [(2, 38), (0, r), (0, x2), (0, (gBL (mFits v r g) g b.toNat s).1), (0, (gBL (mFits v r g) g b.toNat s).2), (0, g), (0, b), z7] [] v (gHd K) t bc bs Q := by
  intro j
  induction j with
  | zero =>
    intro b z7 h0 h1
    refine Gx_iload dX2_guess_33 rfl ?_
    refine Gx_bipush dX2_guess_35 ⟨by decide, by decide⟩ ?_
    refine Gx_icmp_gt (tgt := 114) dX2_guess_37 (by decide) (fun c37 => ?_) (fun c37 => ?_)
    · have e0 : b = 61 := by omega
      rw [e0]
      exact cont z7
    · exfalso
      omega
  | succ j ih =>
    intro b z7 h0 h1
    refine Gx_iload dX2_guess_33 rfl ?_
    refine Gx_bipush dX2_guess_35 ⟨by decide, by decide⟩ ?_
    refine Gx_icmp_gt (tgt := 114) dX2_guess_37 (by decide) (fun c37 => ?_) (fun c37 => ?_)
    · exfalso
      omega
    · refine Gx_iconst ⟨by decide, by decide⟩ dX2_guess_40 ?_
      refine Gx_istore_7 dX2_guess_41 (Nat.le_of_ble_eq_true rfl) (Nat.ne_of_beq_eq_false rfl) ?_
      refine lp_X2_guess1 hr hn hg (by omega) (s := gBL (mFits v r g) g b.toNat s) (by have := gBL_le (mFits v r g) g s b.toNat; omega) ?_ (min 60 (b + 1)).toNat 1 (by omega) (by omega)
      rw [← gBL_s h0]
      refine Gx_iinc_6 dX2_guess_108 (Nat.le_of_ble_eq_true rfl) (Nat.ne_of_beq_eq_false rfl) ?_
      try simp (disch := omega) only [w32_id]
      refine Gx_goto (tgt := 33) dX2_guess_111 (by decide) ?_
      exact ih (b + 1) _ (by omega) (by omega)
set_option maxHeartbeats 2000000 in
theorem lp_X2_guess3 {r x2 : Int} {bc bs : Nat} (hr : 0 ≤ r ∧ r ≤ 5) (hn : 0 ≤ v 40 r ∧ v 40 r ≤ 80) (cont : ∀ z6 z7 : gV, Gx Γ mX2_guess 120 [(2, 38), (0, r), (0, x2), (0, (gGL (mFits v r) 9).1), (0, (gGL (mFits v r) 9).2), (0, 10), z6, z7] [] v (gHd K) t bc bs Q) : ∀ (j : Nat) (g : Int) (z6 z7 : gV), 1 ≤ g → g + j = 10 → Gx Γ mX2_guess 23 [(2, 38), (0, r), (0, x2), (0, (gGL (mFits v r) (g - 1).toNat).1), (0, (gGL (mFits v r) (g - 1).toNat).2), (0, g), z6, z7] [] v (gHd K) t bc bs Q := by
  intro j
  induction j with
  | zero =>
    intro g z6 z7 h0 h1
    refine Gx_iload dX2_guess_23 rfl ?_
    refine Gx_bipush dX2_guess_25 ⟨by decide, by decide⟩ ?_
    refine Gx_icmp_gt (tgt := 120) dX2_guess_27 (by decide) (fun c27 => ?_) (fun c27 => ?_)
    · have e0 : g = 10 := by omega
      subst e0
      exact cont z6 z7
    · exfalso
      omega
  | succ j ih =>
    intro g z6 z7 h0 h1
    refine Gx_iload dX2_guess_23 rfl ?_
    refine Gx_bipush dX2_guess_25 ⟨by decide, by decide⟩ ?_
    refine Gx_icmp_gt (tgt := 120) dX2_guess_27 (by decide) (fun c27 => ?_) (fun c27 => ?_)
    · exfalso
      omega
    · refine Gx_iconst ⟨by decide, by decide⟩ dX2_guess_30 ?_
      refine Gx_istore_6 dX2_guess_31 (Nat.le_of_ble_eq_true rfl) (Nat.ne_of_beq_eq_false rfl) ?_
      refine lp_X2_guess2 hr hn (by omega) (s := gGL (mFits v r) (g - 1).toNat) (by have := gGL_le (mFits v r) (g - 1).toNat; omega) (fun z7 => ?_) 61 0 _ (by omega) (by omega)
      rw [← gGL_s h0]
      refine Gx_iinc_5 dX2_guess_114 (Nat.le_of_ble_eq_true rfl) (Nat.ne_of_beq_eq_false rfl) ?_
      try simp (disch := omega) only [w32_id]
      refine Gx_goto (tgt := 23) dX2_guess_117 (by decide) ?_
      have hi := ih (g + 1) (0, 61) z7 (by omega) (by omega)
      rw [show g + 1 - 1 = g by omega] at hi
      exact hi
set_option maxHeartbeats 2000000 in
theorem ct_X2_guess {r : Int} (hS : oSz v) (k : Q (0, (sGuess v r).1) (sGuess v r).2 (gHd K) t) : Ctr Γ mX2_guess [(2, 38), (0, r)] v (gHd K) t Q := by
  refine Ctr.ofG (ls := [(2, 38), (0, r), (9, 0), (9, 0), (9, 0), (9, 0), (9, 0), (9, 0)]) rfl rfl rfl rfl rfl ?_
  refine Gx_aload_n (i := 0) dX2_guess_0 rfl rfl ?_
  refine Gx_iload_n (i := 1) dX2_guess_1 rfl rfl ?_
  refine Gx_bipush dX2_guess_2 ⟨by decide, by decide⟩ ?_
  refine cl_X2_370 dX2_guess_4 rfl rfl ⟨(Nat.le_of_ble_eq_true rfl), (Nat.le_of_ble_eq_true rfl)⟩ rfl ?_
  refine ct_X2_needLayers hS ?_
  by_cases hz : (sNL v r 40).1 < 0
  · unfold sGuess at k
    rw [if_pos hz] at k
    refine Gx_istore_n_2 dX2_guess_7 (Nat.le_of_ble_eq_true rfl) (Nat.ne_of_beq_eq_false rfl) ?_
    refine Gx_iload_n (i := 2) dX2_guess_8 rfl rfl ?_
    refine Gx_if_ge (tgt := 14) dX2_guess_9 (by decide) (fun c9 => absurd hz (by omega)) (fun c9 => ?_)
    refine Gx_iload_n (i := 2) dX2_guess_12 rfl rfl ?_
    exact Gx_ireturn dX2_guess_13 trivial k
  have hnl : sNL v r 40 = (0, v) ∧ (0 ≤ r ∧ r ≤ 5) ∧ 1 ≤ v 40 r ∧ v 40 r ≤ 40 := by
    unfold sNL at hz ⊢
    (repeat' split at hz) <;> first | (exfalso; omega) | skip
    all_goals first | (exfalso; revert hz; decide) | skip
    rw [if_neg (by omega), if_neg (by omega), if_neg (by omega), if_pos (by assumption)]
    exact ⟨rfl, by omega, by omega, by omega⟩
  obtain ⟨enl, hr, hn⟩ := hnl
  rw [enl]
  dsimp only
  unfold sGuess at k
  rw [if_neg hz] at k
  have hS := hS r hr.1 hr.2
  refine Gx_istore_n_2 dX2_guess_7 (Nat.le_of_ble_eq_true rfl) (Nat.ne_of_beq_eq_false rfl) ?_
  refine Gx_iload_n (i := 2) dX2_guess_8 rfl rfl ?_
  refine Gx_if_ge (tgt := 14) dX2_guess_9 (by decide) (fun _ => ?_) (fun hz => absurd hz (by decide))
  refine Gx_iconst ⟨by decide, by decide⟩ dX2_guess_14 ?_
  refine Gx_istore_n_3 dX2_guess_15 (Nat.le_of_ble_eq_true rfl) (Nat.ne_of_beq_eq_false rfl) ?_
  refine Gx_bipush dX2_guess_16 ⟨by decide, by decide⟩ ?_
  refine Gx_istore_4 dX2_guess_18 (Nat.le_of_ble_eq_true rfl) (Nat.ne_of_beq_eq_false rfl) ?_
  refine Gx_iconst ⟨by decide, by decide⟩ dX2_guess_20 ?_
  refine Gx_istore_5 dX2_guess_21 (Nat.le_of_ble_eq_true rfl) (Nat.ne_of_beq_eq_false rfl) ?_
  refine lp_X2_guess3 hr (by omega) (fun z6 z7 => ?_) 9 1 _ _ (by omega) (by omega)
  refine Gx_aload_n (i := 0) dX2_guess_120 rfl rfl ?_
  refine Gx_iload dX2_guess_121 rfl ?_
  refine Gx_iload_n (i := 3) dX2_guess_123 rfl rfl ?_
  refine cl_X2_126 dX2_guess_124 rfl rfl ⟨(Nat.le_of_ble_eq_true rfl), (Nat.le_of_ble_eq_true rfl)⟩ rfl ?_
  refine ct_X2_tells ?_
  refine Gx_ireturn dX2_guess_127 trivial ?_
  exact k
end
