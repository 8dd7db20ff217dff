/-! AcornYears: guess, period -/
section
variable {Γ : gC} {v : gM} {K : gH} {t : Nat} {Q : gQ}
theorem pAgr_dead {f : Int → Int} {k : Int} {i : Nat} (h : pAgr f k i = false) : ∀ j, i ≤ j → pAgr f k j = false := by
  intro j
  induction j with
  | zero => intro hj; rw [show i = 0 by omega] at h; exact h
  | succ j ih =>
    intro hj
    by_cases e : i = j + 1
    · rw [← e]; exact h
    · unfold pAgr
      rw [ih (by omega), Bool.false_and]

set_option maxHeartbeats 2000000 in
theorem lp_X0_period1 {r x2 d n : Int} {bc bs : Nat} (hr : 0 ≤ r ∧ r ≤ 5) (ho : aRo v (gHd K) r n) (hd : 1 ≤ d ∧ d ≤ n) (cont : ∀ (is : Int) (z6 : gV), (is = 1 ∧ pAgr (v (v 2 r)) d (n - d).toNat = true) ∨ (is = 0 ∧ pAgr (v (v 2 r)) d (n - d).toNat = false) → Gx Γ mX0_period 90 [(2, 0), (0, r), (0, x2), (0, n), (0, d), (0, is), z6] [] v (gHd K) t bc bs Q) : ∀ (j : Nat) (m is : Int), 0 ≤ m → m + j = n - d → (is = 1 ∧ pAgr (v (v 2 r)) d m.toNat = true) ∨ (is = 0 ∧ pAgr (v (v 2 r)) d m.toNat = false) → Gx Γ mX0_period 39 [(2, 0), (0, r), (0, x2), (0, n), (0, d), (0, is), (0, m)] [] v (gHd K) t bc bs Q := by
  intro j
  induction j with
  | zero =>
    intro m is h0 h1 hg
    obtain ⟨r66, hrh, n0, n1⟩ := ho
    refine Gx_iload dX0_period_39 rfl ?_
    refine Gx_iload dX0_period_41 rfl ?_
    refine Gx_iadd dX0_period_43 ?_
    try simp (disch := omega) only [w32_id]
    refine Gx_iload_n (i := 3) dX0_period_44 rfl rfl ?_
    refine Gx_icmp_ge (tgt := 90) dX0_period_45 (by decide) (fun c45 => ?_) (fun c45 => ?_)
    · refine cont is _ ?_
      rcases hg with ⟨q1, q2⟩ | ⟨q1, q2⟩
      · first
        | (exfalso; omega)
        | (have e0 : m = n - d := by omega
           rw [e0] at q2
           exact Or.inl ⟨q1, q2⟩)
      · exact Or.inr ⟨q1, pAgr_dead q2 _ (by omega)⟩
    · exfalso
      omega
  | succ j ih =>
    intro m is h0 h1 hg
    obtain ⟨r66, hrh, n0, n1⟩ := ho
    refine Gx_iload dX0_period_39 rfl ?_
    refine Gx_iload dX0_period_41 rfl ?_
    refine Gx_iadd dX0_period_43 ?_
    try simp (disch := omega) only [w32_id]
    refine Gx_iload_n (i := 3) dX0_period_44 rfl rfl ?_
    refine Gx_icmp_ge (tgt := 90) dX0_period_45 (by decide) (fun c45 => ?_) (fun c45 => ?_)
    · refine cont is _ ?_
      rcases hg with ⟨q1, q2⟩ | ⟨q1, q2⟩
      · first
        | (exfalso; omega)
        | (have e0 : m = n - d := by omega
           rw [e0] at q2
           exact Or.inl ⟨q1, q2⟩)
      · exact Or.inr ⟨q1, pAgr_dead q2 _ (by omega)⟩
    · refine Gx_iload dX0_period_48 rfl ?_
      refine Gx_if_eq (tgt := 90) dX0_period_50 (by decide) (fun c50 => ?_) (fun c50 => ?_)
      · refine cont is _ ?_
        rcases hg with ⟨q1, q2⟩ | ⟨q1, q2⟩
        · first
          | (exfalso; omega)
          | (have e0 : m = n - d := by omega
             rw [e0] at q2
             exact Or.inl ⟨q1, q2⟩)
        · exact Or.inr ⟨q1, pAgr_dead q2 _ (by omega)⟩
      · refine Gx_aload_n (i := 0) dX0_period_53 rfl rfl ?_
        refine gf_X0_28_20 dX0_period_54 rfl rfl ?_
        refine Gx_iload_n (i := 1) dX0_period_57 rfl rfl ?_
        refine Gx_aaload15 dX0_period_58 rfl (by first | omega | (simp (disch := omega) only [w32_id]; omega)) ?_
        refine Gx_iload dX0_period_59 rfl ?_
        refine Gx_iaload dX0_period_61 hrh (by first | omega | (simp (disch := omega) only [w32_id]; omega)) ?_
        refine Gx_aload_n (i := 0) dX0_period_62 rfl rfl ?_
        refine gf_X0_28_20 dX0_period_63 rfl rfl ?_
        refine Gx_iload_n (i := 1) dX0_period_66 rfl rfl ?_
        refine Gx_aaload15 dX0_period_67 rfl (by first | omega | (simp (disch := omega) only [w32_id]; omega)) ?_
        refine Gx_iload dX0_period_68 rfl ?_
        refine Gx_iload dX0_period_70 rfl ?_
        refine Gx_iadd dX0_period_72 ?_
        try simp (disch := omega) only [w32_id]
        refine Gx_iaload dX0_period_73 hrh (by first | omega | (simp (disch := omega) only [w32_id]; omega)) ?_
        refine Gx_icmp_ne (tgt := 81) dX0_period_74 (by decide) (fun c74 => ?_) (fun c74 => ?_)
        · refine Gx_iconst ⟨by decide, by decide⟩ dX0_period_81 ?_
          refine Gx_istore_5 dX0_period_82 (Nat.le_of_ble_eq_true rfl) (Nat.ne_of_beq_eq_false rfl) ?_
          refine Gx_iinc_6 dX0_period_84 (Nat.le_of_ble_eq_true rfl) (Nat.ne_of_beq_eq_false rfl) ?_
          try simp (disch := omega) only [w32_id]
          refine Gx_goto (tgt := 39) dX0_period_87 (by decide) ?_
          first
          | (refine ih (m + 1) 1 (by omega) (by omega) ?_
             rw [pAgr_s h0]
             rcases hg with ⟨q1, q2⟩ | ⟨q1, q2⟩
             · rw [q2, Bool.true_and]
               exact Or.inl ⟨rfl, decide_eq_true (by rw [Int.add_comm]; omega)⟩
             · exfalso; omega)
          | (refine ih (m + 1) 0 (by omega) (by omega) ?_
             rw [pAgr_s h0]
             rcases hg with ⟨q1, q2⟩ | ⟨q1, q2⟩
             · rw [q2, Bool.true_and]
               exact Or.inr ⟨rfl, decide_eq_false (by rw [Int.add_comm d m]; omega)⟩
             · exfalso; omega)
        · refine Gx_iconst ⟨by decide, by decide⟩ dX0_period_77 ?_
          refine Gx_goto (tgt := 82) dX0_period_78 (by decide) ?_
          refine Gx_istore_5 dX0_period_82 (Nat.le_of_ble_eq_true rfl) (Nat.ne_of_beq_eq_false rfl) ?_
          refine Gx_iinc_6 dX0_period_84 (Nat.le_of_ble_eq_true rfl) (Nat.ne_of_beq_eq_false rfl) ?_
          try simp (disch := omega) only [w32_id]
          refine Gx_goto (tgt := 39) dX0_period_87 (by decide) ?_
          first
          | (refine ih (m + 1) 1 (by omega) (by omega) ?_
             rw [pAgr_s h0]
             rcases hg with ⟨q1, q2⟩ | ⟨q1, q2⟩
             · rw [q2, Bool.true_and]
               exact Or.inl ⟨rfl, decide_eq_true (by rw [Int.add_comm]; omega)⟩
             · exfalso; omega)
          | (refine ih (m + 1) 0 (by omega) (by omega) ?_
             rw [pAgr_s h0]
             rcases hg with ⟨q1, q2⟩ | ⟨q1, q2⟩
             · rw [q2, Bool.true_and]
               exact Or.inr ⟨rfl, decide_eq_false (by rw [Int.add_comm d m]; omega)⟩
             · exfalso; omega)
set_option maxHeartbeats 2000000 in
theorem lp_X0_period2 {r x2 n : Int} {bc bs : Nat} (hr : 0 ≤ r ∧ r ≤ 5) (ho : aRo v (gHd K) r n) (hn8 : 1 ≤ n ∧ n ≤ 80) : ∀ (j : Nat) (d : Int) (z6 : gV), 1 ≤ d → d ≤ n → n < d + j → Q (0, pPer (v (v 2 r)) n j d) v (gHd K) t → Gx Γ mX0_period 28 [(2, 0), (0, r), (0, x2), (0, n), (0, d), (0, 0), z6] [] v (gHd K) t bc bs Q := by
  intro j
  induction j with
  | zero =>
    intro d z6 h0 h1 h2 k
    exfalso
    omega
  | succ j ih =>
    intro d z6 h0 h1 h2 k
    refine Gx_iload dX0_period_28 rfl ?_
    refine Gx_if_ne (tgt := 108) dX0_period_30 (by decide) (fun hz => absurd hz (by decide)) (fun _ => ?_)
    refine Gx_iconst ⟨by decide, by decide⟩ dX0_period_33 ?_
    refine Gx_istore_5 dX0_period_34 (Nat.le_of_ble_eq_true rfl) (Nat.ne_of_beq_eq_false rfl) ?_
    refine Gx_iconst ⟨by decide, by decide⟩ dX0_period_36 ?_
    refine Gx_istore_6 dX0_period_37 (Nat.le_of_ble_eq_true rfl) (Nat.ne_of_beq_eq_false rfl) ?_
    refine lp_X0_period1 hr ho (by omega) (fun is z hg => ?_) (n - d).toNat 0 1 (by omega) (by omega) (Or.inl ⟨rfl, rfl⟩)
    rcases hg with ⟨q1, q2⟩ | ⟨q1, q2⟩
    · subst q1
      refine Gx_iload dX0_period_90 rfl ?_
      refine Gx_iload dX0_period_92 rfl ?_
      refine Gx_if_eq (tgt := 101) dX0_period_94 (by decide) (fun hz => absurd hz (by decide)) (fun _ => ?_)
      refine Gx_iconst ⟨by decide, by decide⟩ dX0_period_97 ?_
      refine Gx_goto (tgt := 102) dX0_period_98 (by decide) ?_
      refine Gx_iadd dX0_period_102 ?_
      try simp (disch := omega) only [w32_id]
      refine Gx_istore_4 dX0_period_103 (Nat.le_of_ble_eq_true rfl) (Nat.ne_of_beq_eq_false rfl) ?_
      refine Gx_goto (tgt := 28) dX0_period_105 (by decide) ?_
      refine Gx_iload dX0_period_28 rfl ?_
      refine Gx_if_ne (tgt := 108) dX0_period_30 (by decide) (fun _ => ?_) (fun hz => absurd hz (by decide))
      refine Gx_iload dX0_period_108 rfl ?_
      refine Gx_ireturn dX0_period_110 trivial ?_
      unfold pPer at k
      rw [if_pos q2] at k
      rw [show d + 0 = d by omega]
      exact k
    · subst q1
      refine Gx_iload dX0_period_90 rfl ?_
      refine Gx_iload dX0_period_92 rfl ?_
      refine Gx_if_eq (tgt := 101) dX0_period_94 (by decide) (fun _ => ?_) (fun hz => absurd hz (by decide))
      refine Gx_iconst ⟨by decide, by decide⟩ dX0_period_101 ?_
      refine Gx_iadd dX0_period_102 ?_
      try simp (disch := omega) only [w32_id]
      refine Gx_istore_4 dX0_period_103 (Nat.le_of_ble_eq_true rfl) (Nat.ne_of_beq_eq_false rfl) ?_
      refine Gx_goto (tgt := 28) dX0_period_105 (by decide) ?_
      unfold pPer at k
      rw [if_neg (by rw [q2]; decide)] at k
      have hdn : d < n := by
        refine Decidable.byContradiction fun hc => ?_
        rw [show (n - d).toNat = 0 by omega] at q2
        cases q2
      exact ih (d + 1) z (by omega) (by omega) (by omega) k
set_option maxHeartbeats 1000000 in
theorem ct_X0_period {r n : Int} (hro : 0 ≤ r ∧ r ≤ 5 → v 2 r = -1 ∨ aRo v (gHd K) r n) (kB : ¬ (0 ≤ r ∧ r ≤ 5) → Q (0, -1) v (gHd K) t) (kN : 0 ≤ r ∧ r ≤ 5 → v 2 r = -1 → Q (0, -3) (aMet v 1) (gHd K) t) (kZ : 0 ≤ r ∧ r ≤ 5 → aRo v (gHd K) r n → ¬ (1 ≤ n ∧ n ≤ 80) → Q (0, -3) (aMet v 5) (gHd K) t) (kU : 0 ≤ r ∧ r ≤ 5 → aRo v (gHd K) r n → (1 ≤ n ∧ n ≤ 80) → pLay (v (v 2 r)) n.toNat = false → Q (0, -3) (aMet v 3) (gHd K) t) (k0 : 0 ≤ r ∧ r ≤ 5 → aRo v (gHd K) r n → (1 ≤ n ∧ n ≤ 80) → pLay (v (v 2 r)) n.toNat = true → Q (0, pPer (v (v 2 r)) n n.toNat 1) v (gHd K) t) : Ctr Γ mX0_period [(2, 0), (0, r)] v (gHd K) t Q := by
  refine Ctr.ofG (ls := [(2, 0), (0, r), (9, 0), (9, 0), (9, 0), (9, 0), (9, 0)]) rfl rfl rfl rfl rfl ?_
  refine Gx_aload_n (i := 0) dX0_period_0 rfl rfl ?_
  refine Gx_iload_n (i := 1) dX0_period_1 rfl rfl ?_
  refine Gx_bipush dX0_period_2 ⟨by decide, by decide⟩ ?_
  refine cl_X0_493 dX0_period_4 rfl rfl ⟨(Nat.le_of_ble_eq_true rfl), (Nat.le_of_ble_eq_true rfl)⟩ rfl ?_
  refine ct_X0_askedLayers hro (fun hr => ?_) (fun hr hz => ?_) (fun hr ho hz => ?_) (fun hr ho hz hl => ?_) (fun hr ho hn hl => ?_)
  · refine Gx_istore_n_2 dX0_period_7 (Nat.le_of_ble_eq_true rfl) (Nat.ne_of_beq_eq_false rfl) ?_
    refine Gx_iload_n (i := 2) dX0_period_8 rfl rfl ?_
    refine Gx_if_ge (tgt := 14) dX0_period_9 (by decide) (fun hz => absurd hz (by decide)) (fun _ => ?_)
    refine Gx_iload_n (i := 2) dX0_period_12 rfl rfl ?_
    refine Gx_ireturn dX0_period_13 trivial ?_
    first | exact kB hr | exact kN hr hz | exact kZ hr ho hz | exact kU hr ho hz hl
  · refine Gx_istore_n_2 dX0_period_7 (Nat.le_of_ble_eq_true rfl) (Nat.ne_of_beq_eq_false rfl) ?_
    refine Gx_iload_n (i := 2) dX0_period_8 rfl rfl ?_
    refine Gx_if_ge (tgt := 14) dX0_period_9 (by decide) (fun hz => absurd hz (by decide)) (fun _ => ?_)
    refine Gx_iload_n (i := 2) dX0_period_12 rfl rfl ?_
    refine Gx_ireturn dX0_period_13 trivial ?_
    first | exact kB hr | exact kN hr hz | exact kZ hr ho hz | exact kU hr ho hz hl
  · refine Gx_istore_n_2 dX0_period_7 (Nat.le_of_ble_eq_true rfl) (Nat.ne_of_beq_eq_false rfl) ?_
    refine Gx_iload_n (i := 2) dX0_period_8 rfl rfl ?_
    refine Gx_if_ge (tgt := 14) dX0_period_9 (by decide) (fun hz => absurd hz (by decide)) (fun _ => ?_)
    refine Gx_iload_n (i := 2) dX0_period_12 rfl rfl ?_
    refine Gx_ireturn dX0_period_13 trivial ?_
    first | exact kB hr | exact kN hr hz | exact kZ hr ho hz | exact kU hr ho hz hl
  · refine Gx_istore_n_2 dX0_period_7 (Nat.le_of_ble_eq_true rfl) (Nat.ne_of_beq_eq_false rfl) ?_
    refine Gx_iload_n (i := 2) dX0_period_8 rfl rfl ?_
    refine Gx_if_ge (tgt := 14) dX0_period_9 (by decide) (fun hz => absurd hz (by decide)) (fun _ => ?_)
    refine Gx_iload_n (i := 2) dX0_period_12 rfl rfl ?_
    refine Gx_ireturn dX0_period_13 trivial ?_
    first | exact kB hr | exact kN hr hz | exact kZ hr ho hz | exact kU hr ho hz hl
  · refine Gx_istore_n_2 dX0_period_7 (Nat.le_of_ble_eq_true rfl) (Nat.ne_of_beq_eq_false rfl) ?_
    refine Gx_iload_n (i := 2) dX0_period_8 rfl rfl ?_
    refine Gx_if_ge (tgt := 14) dX0_period_9 (by decide) (fun _ => ?_) (fun hz => absurd hz (by decide))
    refine Gx_aload_n (i := 0) dX0_period_14 rfl rfl ?_
    refine gf_X0_28_20 dX0_period_15 rfl rfl ?_
    refine Gx_iload_n (i := 1) dX0_period_18 rfl rfl ?_
    refine Gx_aaload15 dX0_period_19 rfl (by first | omega | (simp (disch := omega) only [w32_id]; omega)) ?_
    refine Gx_alen dX0_period_20 ho.2.1 (by decide) (by decide) ?_
    refine Gx_istore_n_3 dX0_period_21 (Nat.le_of_ble_eq_true rfl) (Nat.ne_of_beq_eq_false rfl) ?_
    refine Gx_iconst ⟨by decide, by decide⟩ dX0_period_22 ?_
    refine Gx_istore_4 dX0_period_23 (Nat.le_of_ble_eq_true rfl) (Nat.ne_of_beq_eq_false rfl) ?_
    refine Gx_iconst ⟨by decide, by decide⟩ dX0_period_25 ?_
    refine Gx_istore_5 dX0_period_26 (Nat.le_of_ble_eq_true rfl) (Nat.ne_of_beq_eq_false rfl) ?_
    exact lp_X0_period2 hr ho (by omega) n.toNat 1 _ (by omega) (by omega) (by omega) (k0 hr ho hn hl)
def aFits (v : gM) (r n g b c : Int) : Bool := (gFt (v (v 2 r)) g b c n.toNat).1
set_option maxHeartbeats 2000000 in
theorem lp_X0_guess1 {r x2 n g b : Int} {s : Int × Int} {bc bs : Nat} (hr : 0 ≤ r ∧ r ≤ 5) (ho : aRo v (gHd K) r n) (hg : 1 ≤ g ∧ g ≤ 9) (hb : 0 ≤ b ∧ b ≤ 60) (hs : 0 ≤ s.1 ∧ s.1 ≤ 100000) (cont : Gx Γ mX0_guess 110 [(2, 0), (0, r), (0, x2), (0, (gCL (aFits v r n g b) (10000 * g + 100 * b) (min 60 (b + 1)).toNat s).1), (0, (gCL (aFits v r n g b) (10000 * g + 100 * b) (min 60 (b + 1)).toNat s).2), (0, g), (0, b), (0, min 60 (b + 1) + 1)] [] v (gHd K) t bc bs Q) : ∀ (j : Nat) (c : Int), 1 ≤ c → c + j = min 60 (b + 1) + 1 → Gx Γ mX0_guess 43 [(2, 0), (0, r), (0, x2), (0, (gCL (aFits v r n g b) (10000 * g + 100 * b) (c - 1).toNat s).1), (0, (gCL (aFits v r n g b) (10000 * g + 100 * b) (c - 1).toNat s).2), (0, g), (0, b), (0, c)] [] v (gHd K) t bc bs Q := by
  intro j
  induction j with
  | zero =>
    intro c h0 h1
    refine Gx_iload dX0_guess_43 rfl ?_
    refine Gx_bipush dX0_guess_45 ⟨by decide, by decide⟩ ?_
    refine Gx_iload dX0_guess_47 rfl ?_
    refine Gx_iconst ⟨by decide, by decide⟩ dX0_guess_49 ?_
    refine Gx_iadd dX0_guess_50 ?_
    try simp (disch := omega) only [w32_id]
    refine cl_X0_207 dX0_guess_51 rfl ⟨(Nat.le_of_ble_eq_true rfl), (Nat.le_of_ble_eq_true rfl)⟩ rfl ?_
    refine Gx_icmp_gt (tgt := 110) dX0_guess_54 (by decide) (fun c54 => ?_) (fun c54 => ?_)
    · have e0 : c = min 60 (b + 1) + 1 := by omega
      have e1 : (c - 1).toNat = (min 60 (b + 1)).toNat := by omega
      rw [e1, e0]
      exact cont
    · exfalso
      omega
  | succ j ih =>
    intro c h0 h1
    refine Gx_iload dX0_guess_43 rfl ?_
    refine Gx_bipush dX0_guess_45 ⟨by decide, by decide⟩ ?_
    refine Gx_iload dX0_guess_47 rfl ?_
    refine Gx_iconst ⟨by decide, by decide⟩ dX0_guess_49 ?_
    refine Gx_iadd dX0_guess_50 ?_
    try simp (disch := omega) only [w32_id]
    refine cl_X0_207 dX0_guess_51 rfl ⟨(Nat.le_of_ble_eq_true rfl), (Nat.le_of_ble_eq_true rfl)⟩ rfl ?_
    refine Gx_icmp_gt (tgt := 110) dX0_guess_54 (by decide) (fun c54 => ?_) (fun c54 => ?_)
    · exfalso
      omega
    · have hl := gCL_le (aFits v r n g b) (10000 * g + 100 * b) s (c - 1).toNat
      refine Gx_aload_n (i := 0) dX0_guess_57 rfl rfl ?_
      refine gf_X0_28_20 dX0_guess_58 rfl rfl ?_
      refine Gx_iload_n (i := 1) dX0_guess_61 rfl rfl ?_
      refine Gx_aaload15 dX0_guess_62 rfl (by first | omega | (simp (disch := omega) only [w32_id]; omega)) ?_
      refine Gx_iload dX0_guess_63 rfl ?_
      refine Gx_iload dX0_guess_65 rfl ?_
      refine Gx_iload dX0_guess_67 rfl ?_
      refine cl_X0_496 dX0_guess_69 rfl ⟨(Nat.le_of_ble_eq_true rfl), (Nat.le_of_ble_eq_true rfl)⟩ rfl ?_
      refine ct_X0_fits ho.2.1 ho.2.2 (by omega) hb (by omega) (fun c67 => ?_) (fun c67 => ?_)
      · refine Gx_if_eq (tgt := 104) dX0_guess_72 (by decide) (fun hz => absurd hz (by decide)) (fun _ => ?_)
        refine Gx_iload_n (i := 3) dX0_guess_75 rfl rfl ?_
        refine Gx_if_ne (tgt := 97) dX0_guess_76 (by decide) (fun c76 => ?_) (fun c76 => ?_)
        · refine Gx_iload dX0_guess_97 rfl ?_
          refine Gx_istore_4 dX0_guess_99 (Nat.le_of_ble_eq_true rfl) (Nat.ne_of_beq_eq_false rfl) ?_
          refine Gx_iinc_3 dX0_guess_101 (Nat.le_of_ble_eq_true rfl) (Nat.ne_of_beq_eq_false rfl) ?_
          try simp (disch := omega) only [w32_id]
          refine Gx_iinc_7 dX0_guess_104 (Nat.le_of_ble_eq_true rfl) (Nat.ne_of_beq_eq_false rfl) ?_
          try simp (disch := omega) only [w32_id]
          refine Gx_goto (tgt := 43) dX0_guess_107 (by decide) ?_
          have hx := gCL_s (q := aFits v r n g b) (z := 10000 * g + 100 * b) (s := s) h0
          have hi := ih (c + 1) (by omega) (by omega)
          rw [show c + 1 - 1 = c by omega, hx] at hi
          first
            | (rw [if_pos (show aFits v r n g b c = true from c67)] at hi
               dsimp only at hi
               first
                 | (rw [if_pos (by omega)] at hi; exact hi)
                 | (rw [if_neg (by omega)] at hi; exact hi))
            | (rw [if_neg (by rw [show aFits v r n g b c = false from c67]; decide)] at hi
               exact hi)
        · refine Gx_sipush dX0_guess_79 ⟨by decide, by decide⟩ ?_
          refine Gx_iload dX0_guess_82 rfl ?_
          refine Gx_imul dX0_guess_84 ?_
          try simp (disch := omega) only [w32_id]
          refine Gx_bipush dX0_guess_85 ⟨by decide, by decide⟩ ?_
          refine Gx_iload dX0_guess_87 rfl ?_
          refine Gx_imul dX0_guess_89 ?_
          try simp (disch := omega) only [w32_id]
          refine Gx_iadd dX0_guess_90 ?_
          try simp (disch := omega) only [w32_id]
          refine Gx_iload dX0_guess_91 rfl ?_
          refine Gx_iadd dX0_guess_93 ?_
          try simp (disch := omega) only [w32_id]
          refine Gx_goto (tgt := 99) dX0_guess_94 (by decide) ?_
          refine Gx_istore_4 dX0_guess_99 (Nat.le_of_ble_eq_true rfl) (Nat.ne_of_beq_eq_false rfl) ?_
          refine Gx_iinc_3 dX0_guess_101 (Nat.le_of_ble_eq_true rfl) (Nat.ne_of_beq_eq_false rfl) ?_
          try simp (disch := omega) only [w32_id]
          refine Gx_iinc_7 dX0_guess_104 (Nat.le_of_ble_eq_true rfl) (Nat.ne_of_beq_eq_false rfl) ?_
          try simp (disch := omega) only [w32_id]
          refine Gx_goto (tgt := 43) dX0_guess_107 (by decide) ?_
          have hx := gCL_s (q := aFits v r n g b) (z := 10000 * g + 100 * b) (s := s) h0
          have hi := ih (c + 1) (by omega) (by omega)
          rw [show c + 1 - 1 = c by omega, hx] at hi
          first
            | (rw [if_pos (show aFits v r n g b c = true from c67)] at hi
               dsimp only at hi
               first
                 | (rw [if_pos (by omega)] at hi; exact hi)
                 | (rw [if_neg (by omega)] at hi; exact hi))
            | (rw [if_neg (by rw [show aFits v r n g b c = false from c67]; decide)] at hi
               exact hi)
      · refine Gx_if_eq (tgt := 104) dX0_guess_72 (by decide) (fun _ => ?_) (fun hz => absurd hz (by decide))
        refine Gx_iinc_7 dX0_guess_104 (Nat.le_of_ble_eq_true rfl) (Nat.ne_of_beq_eq_false rfl) ?_
        try simp (disch := omega) only [w32_id]
        refine Gx_goto (tgt := 43) dX0_guess_107 (by decide) ?_
        have hx := gCL_s (q := aFits v r n g b) (z := 10000 * g + 100 * b) (s := s) h0
        have hi := ih (c + 1) (by omega) (by omega)
        rw [show c + 1 - 1 = c by omega, hx] at hi
        first
          | (rw [if_pos (show aFits v r n g b c = true from c67)] at hi
             dsimp only at hi
             first
               | (rw [if_pos (by omega)] at hi; exact hi)
               | (rw [if_neg (by omega)] at hi; exact hi))
          | (rw [if_neg (by rw [show aFits v r n g b c = false from c67]; decide)] at hi
             exact hi)
set_option maxHeartbeats 2000000 in
theorem lp_X0_guess2 {r x2 n g : Int} {s : Int × Int} {bc bs : Nat} (hr : 0 ≤ r ∧ r ≤ 5) (ho : aRo v (gHd K) r n) (hg : 1 ≤ g ∧ g ≤ 9) (hs : 0 ≤ s.1 ∧ s.1 ≤ 50000) (cont : ∀ z7 : gV, Gx Γ mX0_guess 116 [(2, 0), (0, r), (0, x2), (0, (gBL (aFits v r n g) g 61 s).1), (0, (gBL (aFits v r n g) g 61 s).2), (0, g), (0, 61), z7] [] v (gHd K) t bc bs Q) : ∀ (j : Nat) (b : Int) (z7 : gV), 0 ≤ b → b + j = 61 → Gx Γ mX0_guess 33 [(2, 0), (0, r), (0, x2), (0, (gBL (aFits v r n g) g b.toNat s).1), (0, (gBL (aFits v r n g) g b.toNat s).2), (0, g), (0, b), z7] [] v (gHd K) t bc bs Q := by
  intro j
  induction j with
  | zero =>
    intro b z7 h0 h1
    refine Gx_iload dX0_guess_33 rfl ?_
    refine Gx_bipush dX0_guess_35 ⟨by decide, by decide⟩ ?_
    refine Gx_icmp_gt (tgt := 116) dX0_guess_37 (by decide) (fun c37 => ?_) (fun c37 => ?_)
    · have e0 : b = 61 := by omega
      rw [e0]
      exact cont z7
    · exfalso
      omega
  | succ j ih =>
    intro b z7 h0 h1
    refine Gx_iload dX0_guess_33 rfl ?_
    refine Gx_bipush dX0_guess_35 ⟨by decide, by decide⟩ ?_
    refine Gx_icmp_gt (tgt := 116) dX0_guess_37 (by decide) (fun c37 => ?_) (fun c37 => ?_)
    · exfalso
      omega
    · refine Gx_iconst ⟨by decide, by decide⟩ dX0_guess_40 ?_
      refine Gx_istore_7 dX0_guess_41 (Nat.le_of_ble_eq_true rfl) (Nat.ne_of_beq_eq_false rfl) ?_
      refine lp_X0_guess1 hr ho hg (by omega) (s := gBL (aFits v r n g) g b.toNat s) (by have := gBL_le (aFits v r n g) g s b.toNat; omega) ?_ (min 60 (b + 1)).toNat 1 (by omega) (by omega)
      rw [← gBL_s h0]
      refine Gx_iinc_6 dX0_guess_110 (Nat.le_of_ble_eq_true rfl) (Nat.ne_of_beq_eq_false rfl) ?_
      try simp (disch := omega) only [w32_id]
      refine Gx_goto (tgt := 33) dX0_guess_113 (by decide) ?_
      exact ih (b + 1) _ (by omega) (by omega)
set_option maxHeartbeats 2000000 in
theorem lp_X0_guess3 {r x2 n : Int} {bc bs : Nat} (hr : 0 ≤ r ∧ r ≤ 5) (ho : aRo v (gHd K) r n) (cont : ∀ z6 z7 : gV, Gx Γ mX0_guess 122 [(2, 0), (0, r), (0, x2), (0, (gGL (aFits v r n) 9).1), (0, (gGL (aFits v r n) 9).2), (0, 10), z6, z7] [] v (gHd K) t bc bs Q) : ∀ (j : Nat) (g : Int) (z6 z7 : gV), 1 ≤ g → g + j = 10 → Gx Γ mX0_guess 23 [(2, 0), (0, r), (0, x2), (0, (gGL (aFits v r n) (g - 1).toNat).1), (0, (gGL (aFits v r n) (g - 1).toNat).2), (0, g), z6, z7] [] v (gHd K) t bc bs Q := by
  intro j
  induction j with
  | zero =>
    intro g z6 z7 h0 h1
    refine Gx_iload dX0_guess_23 rfl ?_
    refine Gx_bipush dX0_guess_25 ⟨by decide, by decide⟩ ?_
    refine Gx_icmp_gt (tgt := 122) dX0_guess_27 (by decide) (fun c27 => ?_) (fun c27 => ?_)
    · have e0 : g = 10 := by omega
      subst e0
      exact cont z6 z7
    · exfalso
      omega
  | succ j ih =>
    intro g z6 z7 h0 h1
    refine Gx_iload dX0_guess_23 rfl ?_
    refine Gx_bipush dX0_guess_25 ⟨by decide, by decide⟩ ?_
    refine Gx_icmp_gt (tgt := 122) dX0_guess_27 (by decide) (fun c27 => ?_) (fun c27 => ?_)
    · exfalso
      omega
    · refine Gx_iconst ⟨by decide, by decide⟩ dX0_guess_30 ?_
      refine Gx_istore_6 dX0_guess_31 (Nat.le_of_ble_eq_true rfl) (Nat.ne_of_beq_eq_false rfl) ?_
      refine lp_X0_guess2 hr ho (by omega) (s := gGL (aFits v r n) (g - 1).toNat) (by have := gGL_le (aFits v r n) (g - 1).toNat; omega) (fun z7 => ?_) 61 0 _ (by omega) (by omega)
      rw [← gGL_s h0]
      refine Gx_iinc_5 dX0_guess_116 (Nat.le_of_ble_eq_true rfl) (Nat.ne_of_beq_eq_false rfl) ?_
      try simp (disch := omega) only [w32_id]
      refine Gx_goto (tgt := 23) dX0_guess_119 (by decide) ?_
      have hi := ih (g + 1) (0, 61) z7 (by omega) (by omega)
      rw [show g + 1 - 1 = g by omega] at hi
      exact hi
set_option maxHeartbeats 2000000 in
theorem ct_X0_guess {r n : Int} (hro : 0 ≤ r ∧ r ≤ 5 → v 2 r = -1 ∨ aRo v (gHd K) r n) (kB : ¬ (0 ≤ r ∧ r ≤ 5) → Q (0, -1) v (gHd K) t) (kN : 0 ≤ r ∧ r ≤ 5 → v 2 r = -1 → Q (0, -3) (aMet v 1) (gHd K) t) (kZ : 0 ≤ r ∧ r ≤ 5 → aRo v (gHd K) r n → ¬ (1 ≤ n ∧ n ≤ 40) → Q (0, -3) (aMet v 5) (gHd K) t) (kU : 0 ≤ r ∧ r ≤ 5 → aRo v (gHd K) r n → (1 ≤ n ∧ n ≤ 40) → pLay (v (v 2 r)) n.toNat = false → Q (0, -3) (aMet v 3) (gHd K) t) (k0 : 0 ≤ r ∧ r ≤ 5 → aRo v (gHd K) r n → (1 ≤ n ∧ n ≤ 40) → pLay (v (v 2 r)) n.toNat = true → Q (0, (gGL (aFits v r n) 9).1) (gUp v 0 2 (gGL (aFits v r n) 9).2) (gHd K) t) : Ctr Γ mX0_guess [(2, 0), (0, r)] v (gHd K) t Q := by
  refine Ctr.ofG (ls := [(2, 0), (0, r), (9, 0), (9, 0), (9, 0), (9, 0), (9, 0), (9, 0)]) rfl rfl rfl rfl rfl ?_
  refine Gx_aload_n (i := 0) dX0_guess_0 rfl rfl ?_
  refine Gx_iload_n (i := 1) dX0_guess_1 rfl rfl ?_
  refine Gx_bipush dX0_guess_2 ⟨by decide, by decide⟩ ?_
  refine cl_X0_493 dX0_guess_4 rfl rfl ⟨(Nat.le_of_ble_eq_true rfl), (Nat.le_of_ble_eq_true rfl)⟩ rfl ?_
  refine ct_X0_askedLayers hro (fun hr => ?_) (fun hr hz => ?_) (fun hr ho hz => ?_) (fun hr ho hz hl => ?_) (fun hr ho hn hl => ?_)
  · refine Gx_istore_n_2 dX0_guess_7 (Nat.le_of_ble_eq_true rfl) (Nat.ne_of_beq_eq_false rfl) ?_
    refine Gx_iload_n (i := 2) dX0_guess_8 rfl rfl ?_
    refine Gx_if_ge (tgt := 14) dX0_guess_9 (by decide) (fun hz => absurd hz (by decide)) (fun _ => ?_)
    refine Gx_iload_n (i := 2) dX0_guess_12 rfl rfl ?_
    refine Gx_ireturn dX0_guess_13 trivial ?_
    first | exact kB hr | exact kN hr hz | exact kZ hr ho hz | exact kU hr ho hz hl
  · refine Gx_istore_n_2 dX0_guess_7 (Nat.le_of_ble_eq_true rfl) (Nat.ne_of_beq_eq_false rfl) ?_
    refine Gx_iload_n (i := 2) dX0_guess_8 rfl rfl ?_
    refine Gx_if_ge (tgt := 14) dX0_guess_9 (by decide) (fun hz => absurd hz (by decide)) (fun _ => ?_)
    refine Gx_iload_n (i := 2) dX0_guess_12 rfl rfl ?_
    refine Gx_ireturn dX0_guess_13 trivial ?_
    first | exact kB hr | exact kN hr hz | exact kZ hr ho hz | exact kU hr ho hz hl
  · refine Gx_istore_n_2 dX0_guess_7 (Nat.le_of_ble_eq_true rfl) (Nat.ne_of_beq_eq_false rfl) ?_
    refine Gx_iload_n (i := 2) dX0_guess_8 rfl rfl ?_
    refine Gx_if_ge (tgt := 14) dX0_guess_9 (by decide) (fun hz => absurd hz (by decide)) (fun _ => ?_)
    refine Gx_iload_n (i := 2) dX0_guess_12 rfl rfl ?_
    refine Gx_ireturn dX0_guess_13 trivial ?_
    first | exact kB hr | exact kN hr hz | exact kZ hr ho hz | exact kU hr ho hz hl
  · refine Gx_istore_n_2 dX0_guess_7 (Nat.le_of_ble_eq_true rfl) (Nat.ne_of_beq_eq_false rfl) ?_
    refine Gx_iload_n (i := 2) dX0_guess_8 rfl rfl ?_
    refine Gx_if_ge (tgt := 14) dX0_guess_9 (by decide) (fun hz => absurd hz (by decide)) (fun _ => ?_)
    refine Gx_iload_n (i := 2) dX0_guess_12 rfl rfl ?_
    refine Gx_ireturn dX0_guess_13 trivial ?_
    first | exact kB hr | exact kN hr hz | exact kZ hr ho hz | exact kU hr ho hz hl
  · refine Gx_istore_n_2 dX0_guess_7 (Nat.le_of_ble_eq_true rfl) (Nat.ne_of_beq_eq_false rfl) ?_
    refine Gx_iload_n (i := 2) dX0_guess_8 rfl rfl ?_
    refine Gx_if_ge (tgt := 14) dX0_guess_9 (by decide) (fun _ => ?_) (fun hz => absurd hz (by decide))
    refine Gx_iconst ⟨by decide, by decide⟩ dX0_guess_14 ?_
    refine Gx_istore_n_3 dX0_guess_15 (Nat.le_of_ble_eq_true rfl) (Nat.ne_of_beq_eq_false rfl) ?_
    refine Gx_bipush dX0_guess_16 ⟨by decide, by decide⟩ ?_
    refine Gx_istore_4 dX0_guess_18 (Nat.le_of_ble_eq_true rfl) (Nat.ne_of_beq_eq_false rfl) ?_
    refine Gx_iconst ⟨by decide, by decide⟩ dX0_guess_20 ?_
    refine Gx_istore_5 dX0_guess_21 (Nat.le_of_ble_eq_true rfl) (Nat.ne_of_beq_eq_false rfl) ?_
    refine lp_X0_guess3 hr ho (fun z6 z7 => ?_) 9 1 _ _ (by omega) (by omega)
    refine Gx_aload_n (i := 0) dX0_guess_122 rfl rfl ?_
    refine Gx_iload dX0_guess_123 rfl ?_
    refine Gx_iload_n (i := 3) dX0_guess_125 rfl rfl ?_
    refine cl_X0_147 dX0_guess_126 rfl rfl ⟨(Nat.le_of_ble_eq_true rfl), (Nat.le_of_ble_eq_true rfl)⟩ rfl ?_
    refine ct_X0_ask ?_
    refine Gx_ireturn dX0_guess_129 trivial ?_
    exact k0 hr ho hn hl
end
