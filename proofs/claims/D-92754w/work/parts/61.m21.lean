/-! AcornYearsModel: period -/
section
variable {Γ : gC} {v : gM} {K : gH} {t : Nat} {Q : gQ}
/-- the first m layers agree with those k behind them -/
def pAgr (f : Int → Int) (k : Int) : Nat → Bool
  | 0 => true
  | m + 1 => pAgr f k m && decide (f (k + (m : Int)) = f (m : Int))
theorem pAgr_s {f : Int → Int} {k m : Int} (h : 0 ≤ m) : pAgr f k (m + 1).toNat = (pAgr f k m.toNat && decide (f (k + m) = f m)) := by
  obtain ⟨x, rfl⟩ : ∃ x : Nat, m = (x : Int) := ⟨m.toNat, by omega⟩
  rw [show ((x : Int) + 1).toNat = x + 1 by omega, show ((x : Int)).toNat = x by omega]
  rfl
def pPer (f : Int → Int) (n : Int) : Nat → Int → Int
  | 0, k => k
  | t + 1, k => if pAgr f k (n - k).toNat = true then k else pPer f n t (k + 1)
def sPeriod (v : gM) (r : Int) : Int × gM := if (sNL v r 80).1 < 0 then sNL v r 80 else (pPer (fun k => v 41 (80 * r + k)) (v 40 r) (v 40 r).toNat 1, v)
theorem sNL_ok {v : gM} {r m : Int} (hz : ¬ (sNL v r m).1 < 0) : sNL v r m = (0, v) ∧ (0 ≤ r ∧ r ≤ 5) ∧ 1 ≤ v 40 r ∧ v 40 r ≤ m ∧ pLay (fun k => v 41 (80 * r + k)) (v 40 r).toNat = true := by
  unfold sNL at hz ⊢
  (repeat' split at hz) <;> first | (exfalso; omega) | skip
  all_goals first | (exfalso; revert hz; decide) | skip
  rw [if_neg (by omega), if_neg (by omega), if_neg (by omega), if_pos (by assumption)]
  exact ⟨rfl, by omega, by omega, by omega, by assumption⟩

set_option maxHeartbeats 2000000 in
theorem lp_X2_period1 {r x2 d n : Int} {bc bs : Nat} (hr : 0 ≤ r ∧ r ≤ 5) (hn : v 40 r = n) (hn8 : n ≤ 80) (hd : 1 ≤ d ∧ d ≤ n) (cont : ∀ (is : Int) (z5 : gV), (is = 1 ∧ pAgr (fun k => v 41 (80 * r + k)) d (n - d).toNat = true) ∨ (is = 0 ∧ pAgr (fun k => v 41 (80 * r + k)) d (n - d).toNat = false) → Gx Γ mX2_period 78 [(2, 38), (0, r), (0, x2), (0, d), (0, is), z5] [] v (gHd K) t bc bs Q) : ∀ (j : Nat) (m is : Int), 0 ≤ m → m + j = n - d → (is = 1 ∧ pAgr (fun k => v 41 (80 * r + k)) d m.toNat = true) ∨ (is = 0 ∧ pAgr (fun k => v 41 (80 * r + k)) d m.toNat = false) → Gx Γ mX2_period 30 [(2, 38), (0, r), (0, x2), (0, d), (0, is), (0, d + m)] [] v (gHd K) t bc bs Q := by
  intro j
  induction j with
  | zero =>
    intro m is h0 h1 hg
    refine Gx_iload dX2_period_30 rfl ?_
    refine Gx_aload_n (i := 0) dX2_period_32 rfl rfl ?_
    refine gf_X2_13_22 dX2_period_33 rfl rfl ?_
    refine Gx_iload_n (i := 1) dX2_period_36 rfl rfl ?_
    refine Gx_iaload dX2_period_37 rfl (by first | omega | (simp (disch := omega) only [w32_id]; omega)) ?_
    refine Gx_icmp_ge (tgt := 78) dX2_period_38 (by decide) (fun c38 => ?_) (fun c38 => ?_)
    · have e0 : m = n - d := by omega
      rw [e0] at hg
      exact cont is _ hg
    · exfalso
      omega
  | succ j ih =>
    intro m is h0 h1 hg
    refine Gx_iload dX2_period_30 rfl ?_
    refine Gx_aload_n (i := 0) dX2_period_32 rfl rfl ?_
    refine gf_X2_13_22 dX2_period_33 rfl rfl ?_
    refine Gx_iload_n (i := 1) dX2_period_36 rfl rfl ?_
    refine Gx_iaload dX2_period_37 rfl (by first | omega | (simp (disch := omega) only [w32_id]; omega)) ?_
    refine Gx_icmp_ge (tgt := 78) dX2_period_38 (by decide) (fun c38 => ?_) (fun c38 => ?_)
    · exfalso
      omega
    · refine Gx_iload dX2_period_41 rfl ?_
      refine Gx_if_eq (tgt := 69) dX2_period_43 (by decide) (fun c43 => ?_) (fun c43 => ?_)
      · refine Gx_iconst ⟨by decide, by decide⟩ dX2_period_69 ?_
        refine Gx_istore_4 dX2_period_70 (Nat.le_of_ble_eq_true rfl) (Nat.ne_of_beq_eq_false rfl) ?_
        refine Gx_iinc_5 dX2_period_72 (Nat.le_of_ble_eq_true rfl) (Nat.ne_of_beq_eq_false rfl) ?_
        try simp (disch := omega) only [w32_id]
        refine Gx_goto (tgt := 30) dX2_period_75 (by decide) ?_
        first
          | (have hx := pAgr_s (f := fun k => v 41 (80 * r + k)) (k := d) h0
             have hi := ih (m + 1) (1) (by omega) (by omega) ?_
             · rw [show d + (m + 1) = d + m + 1 by omega] at hi
               exact hi
             · rw [hx]
               rcases hg with ⟨q1, q2⟩ | ⟨q1, q2⟩
               · rw [q2, Bool.true_and]
                 first
                   | exact Or.inl ⟨rfl, decide_eq_true c62⟩
                   | exact Or.inr ⟨rfl, decide_eq_false c62⟩
                   | (exfalso; omega)
               · rw [q2, Bool.false_and]
                 first
                   | exact Or.inr ⟨rfl, rfl⟩
                   | (exfalso; omega))
          | (have hx := pAgr_s (f := fun k => v 41 (80 * r + k)) (k := d) h0
             have hi := ih (m + 1) (0) (by omega) (by omega) ?_
             · rw [show d + (m + 1) = d + m + 1 by omega] at hi
               exact hi
             · rw [hx]
               rcases hg with ⟨q1, q2⟩ | ⟨q1, q2⟩
               · rw [q2, Bool.true_and]
                 first
                   | exact Or.inl ⟨rfl, decide_eq_true c62⟩
                   | exact Or.inr ⟨rfl, decide_eq_false c62⟩
                   | (exfalso; omega)
               · rw [q2, Bool.false_and]
                 first
                   | exact Or.inr ⟨rfl, rfl⟩
                   | (exfalso; omega))
      · refine Gx_aload_n (i := 0) dX2_period_46 rfl rfl ?_
        refine Gx_iload_n (i := 1) dX2_period_47 rfl rfl ?_
        refine Gx_iload dX2_period_48 rfl ?_
        refine cl_X2_122 dX2_period_50 rfl rfl ⟨(Nat.le_of_ble_eq_true rfl), (Nat.le_of_ble_eq_true rfl)⟩ rfl ?_
        refine ct_X2_rowAt (by omega) (by omega) ?_
        refine Gx_aload_n (i := 0) dX2_period_53 rfl rfl ?_
        refine Gx_iload_n (i := 1) dX2_period_54 rfl rfl ?_
        refine Gx_iload dX2_period_55 rfl ?_
        refine Gx_iload_n (i := 3) dX2_period_57 rfl rfl ?_
        refine Gx_isub dX2_period_58 ?_
        try simp (disch := omega) only [w32_id]
        refine cl_X2_122 dX2_period_59 rfl rfl ⟨(Nat.le_of_ble_eq_true rfl), (Nat.le_of_ble_eq_true rfl)⟩ rfl ?_
        rw [show d + m - d = m by omega]
        refine ct_X2_rowAt (by omega) (by omega) ?_
        refine Gx_icmp_ne (tgt := 69) dX2_period_62 (by decide) (fun c62 => ?_) (fun c62 => ?_)
        · refine Gx_iconst ⟨by decide, by decide⟩ dX2_period_69 ?_
          refine Gx_istore_4 dX2_period_70 (Nat.le_of_ble_eq_true rfl) (Nat.ne_of_beq_eq_false rfl) ?_
          refine Gx_iinc_5 dX2_period_72 (Nat.le_of_ble_eq_true rfl) (Nat.ne_of_beq_eq_false rfl) ?_
          try simp (disch := omega) only [w32_id]
          refine Gx_goto (tgt := 30) dX2_period_75 (by decide) ?_
          first
            | (have hx := pAgr_s (f := fun k => v 41 (80 * r + k)) (k := d) h0
               have hi := ih (m + 1) (1) (by omega) (by omega) ?_
               · rw [show d + (m + 1) = d + m + 1 by omega] at hi
                 exact hi
               · rw [hx]
                 rcases hg with ⟨q1, q2⟩ | ⟨q1, q2⟩
                 · rw [q2, Bool.true_and]
                   first
                     | exact Or.inl ⟨rfl, decide_eq_true c62⟩
                     | exact Or.inr ⟨rfl, decide_eq_false c62⟩
                     | (exfalso; omega)
                 · rw [q2, Bool.false_and]
                   first
                     | exact Or.inr ⟨rfl, rfl⟩
                     | (exfalso; omega))
            | (have hx := pAgr_s (f := fun k => v 41 (80 * r + k)) (k := d) h0
               have hi := ih (m + 1) (0) (by omega) (by omega) ?_
               · rw [show d + (m + 1) = d + m + 1 by omega] at hi
                 exact hi
               · rw [hx]
                 rcases hg with ⟨q1, q2⟩ | ⟨q1, q2⟩
                 · rw [q2, Bool.true_and]
                   first
                     | exact Or.inl ⟨rfl, decide_eq_true c62⟩
                     | exact Or.inr ⟨rfl, decide_eq_false c62⟩
                     | (exfalso; omega)
                 · rw [q2, Bool.false_and]
                   first
                     | exact Or.inr ⟨rfl, rfl⟩
                     | (exfalso; omega))
        · refine Gx_iconst ⟨by decide, by decide⟩ dX2_period_65 ?_
          refine Gx_goto (tgt := 70) dX2_period_66 (by decide) ?_
          refine Gx_istore_4 dX2_period_70 (Nat.le_of_ble_eq_true rfl) (Nat.ne_of_beq_eq_false rfl) ?_
          refine Gx_iinc_5 dX2_period_72 (Nat.le_of_ble_eq_true rfl) (Nat.ne_of_beq_eq_false rfl) ?_
          try simp (disch := omega) only [w32_id]
          refine Gx_goto (tgt := 30) dX2_period_75 (by decide) ?_
          first
            | (have hx := pAgr_s (f := fun k => v 41 (80 * r + k)) (k := d) h0
               have hi := ih (m + 1) (1) (by omega) (by omega) ?_
               · rw [show d + (m + 1) = d + m + 1 by omega] at hi
                 exact hi
               · rw [hx]
                 rcases hg with ⟨q1, q2⟩ | ⟨q1, q2⟩
                 · rw [q2, Bool.true_and]
                   first
                     | exact Or.inl ⟨rfl, decide_eq_true c62⟩
                     | exact Or.inr ⟨rfl, decide_eq_false c62⟩
                     | (exfalso; omega)
                 · rw [q2, Bool.false_and]
                   first
                     | exact Or.inr ⟨rfl, rfl⟩
                     | (exfalso; omega))
            | (have hx := pAgr_s (f := fun k => v 41 (80 * r + k)) (k := d) h0
               have hi := ih (m + 1) (0) (by omega) (by omega) ?_
               · rw [show d + (m + 1) = d + m + 1 by omega] at hi
                 exact hi
               · rw [hx]
                 rcases hg with ⟨q1, q2⟩ | ⟨q1, q2⟩
                 · rw [q2, Bool.true_and]
                   first
                     | exact Or.inl ⟨rfl, decide_eq_true c62⟩
                     | exact Or.inr ⟨rfl, decide_eq_false c62⟩
                     | (exfalso; omega)
                 · rw [q2, Bool.false_and]
                   first
                     | exact Or.inr ⟨rfl, rfl⟩
                     | (exfalso; omega))
set_option maxHeartbeats 2000000 in
theorem lp_X2_period2 {r x2 n : Int} {bc bs : Nat} (hr : 0 ≤ r ∧ r ≤ 5) (hn : v 40 r = n) (hn8 : 1 ≤ n ∧ n ≤ 80) : ∀ (j : Nat) (d : Int) (z5 : gV), 1 ≤ d → d ≤ n → n < d + j → Q (0, pPer (fun k => v 41 (80 * r + k)) n j d) v (gHd K) t → Gx Γ mX2_period 19 [(2, 38), (0, r), (0, x2), (0, d), (0, 0), z5] [] v (gHd K) t bc bs Q := by
  intro j
  induction j with
  | zero =>
    intro d z5 h0 h1 h2 k
    exfalso
    omega
  | succ j ih =>
    intro d z5 h0 h1 h2 k
    refine Gx_iload dX2_period_19 rfl ?_
    refine Gx_if_ne (tgt := 94) dX2_period_21 (by decide) (fun hz => absurd hz (by decide)) (fun _ => ?_)
    refine Gx_iconst ⟨by decide, by decide⟩ dX2_period_24 ?_
    refine Gx_istore_4 dX2_period_25 (Nat.le_of_ble_eq_true rfl) (Nat.ne_of_beq_eq_false rfl) ?_
    refine Gx_iload_n (i := 3) dX2_period_27 rfl rfl ?_
    refine Gx_istore_5 dX2_period_28 (Nat.le_of_ble_eq_true rfl) (Nat.ne_of_beq_eq_false rfl) ?_
    have hl := lp_X2_period1 (Γ := Γ) (K := K) (t := t) (Q := Q) (x2 := x2) (d := d) (n := n) (bc := bc) (bs := bs) hr hn (by omega) (by omega) (fun is z hg => ?_) (n - d).toNat 0 1 (by omega) (by omega) (Or.inl ⟨rfl, rfl⟩)
    · rw [show d + 0 = d by omega] at hl
      exact hl
    have his : is = 0 ∨ is = 1 := by rcases hg with ⟨q1, q2⟩ | ⟨q1, q2⟩ <;> omega
    refine Gx_iload_n (i := 3) dX2_period_78 rfl rfl ?_
    refine Gx_iload dX2_period_79 rfl ?_
    refine Gx_if_eq (tgt := 88) dX2_period_81 (by decide) (fun c81 => ?_) (fun c81 => ?_)
    · refine Gx_iconst ⟨by decide, by decide⟩ dX2_period_88 ?_
      refine Gx_iadd dX2_period_89 ?_
      try simp (disch := omega) only [w32_id]
      refine Gx_istore_n_3 dX2_period_90 (Nat.le_of_ble_eq_true rfl) (Nat.ne_of_beq_eq_false rfl) ?_
      refine Gx_goto (tgt := 19) dX2_period_91 (by decide) ?_
      first
        | (have e1 : is = 1 := by omega
           subst e1
           rcases hg with ⟨q1, q2⟩ | ⟨q1, q2⟩
           · unfold pPer at k
             rw [if_pos q2] at k
             rw [show d + 0 = d by omega]
             refine Gx_iload dX2_period_19 rfl ?_
             refine Gx_if_ne (tgt := 94) dX2_period_21 (by decide) (fun _ => ?_) (fun hz => absurd hz (by decide))
             refine Gx_iload_n (i := 3) dX2_period_94 rfl rfl ?_
             exact Gx_ireturn dX2_period_95 trivial k
           · exfalso; omega)
        | (have e1 : is = 0 := by omega
           subst e1
           rcases hg with ⟨q1, q2⟩ | ⟨q1, q2⟩
           · exfalso; omega
           · unfold pPer at k
             rw [if_neg (by rw [q2]; decide)] at k
             have hdn : d < n := by
               refine Decidable.byContradiction fun hc => ?_
               rw [show (n - d).toNat = 0 by omega] at q2
               cases q2
             exact ih (d + 1) z (by omega) (by omega) (by omega) k)
    · refine Gx_iconst ⟨by decide, by decide⟩ dX2_period_84 ?_
      refine Gx_goto (tgt := 89) dX2_period_85 (by decide) ?_
      refine Gx_iadd dX2_period_89 ?_
      try simp (disch := omega) only [w32_id]
      refine Gx_istore_n_3 dX2_period_90 (Nat.le_of_ble_eq_true rfl) (Nat.ne_of_beq_eq_false rfl) ?_
      refine Gx_goto (tgt := 19) dX2_period_91 (by decide) ?_
      first
        | (have e1 : is = 1 := by omega
           subst e1
           rcases hg with ⟨q1, q2⟩ | ⟨q1, q2⟩
           · unfold pPer at k
             rw [if_pos q2] at k
             rw [show d + 0 = d by omega]
             refine Gx_iload dX2_period_19 rfl ?_
             refine Gx_if_ne (tgt := 94) dX2_period_21 (by decide) (fun _ => ?_) (fun hz => absurd hz (by decide))
             refine Gx_iload_n (i := 3) dX2_period_94 rfl rfl ?_
             exact Gx_ireturn dX2_period_95 trivial k
           · exfalso; omega)
        | (have e1 : is = 0 := by omega
           subst e1
           rcases hg with ⟨q1, q2⟩ | ⟨q1, q2⟩
           · exfalso; omega
           · unfold pPer at k
             rw [if_neg (by rw [q2]; decide)] at k
             have hdn : d < n := by
               refine Decidable.byContradiction fun hc => ?_
               rw [show (n - d).toNat = 0 by omega] at q2
               cases q2
             exact ih (d + 1) z (by omega) (by omega) (by omega) k)
set_option maxHeartbeats 2000000 in
theorem ct_X2_period {r : Int} (hS : oSz v) (k : Q (0, (sPeriod v r).1) (sPeriod v r).2 (gHd K) t) : Ctr Γ mX2_period [(2, 38), (0, r)] v (gHd K) t Q := by
  refine Ctr.ofG (ls := [(2, 38), (0, r), (9, 0), (9, 0), (9, 0), (9, 0)]) rfl rfl rfl rfl rfl ?_
  refine Gx_aload_n (i := 0) dX2_period_0 rfl rfl ?_
  refine Gx_iload_n (i := 1) dX2_period_1 rfl rfl ?_
  refine Gx_bipush dX2_period_2 ⟨by decide, by decide⟩ ?_
  refine cl_X2_370 dX2_period_4 rfl rfl ⟨(Nat.le_of_ble_eq_true rfl), (Nat.le_of_ble_eq_true rfl)⟩ rfl ?_
  refine ct_X2_needLayers hS ?_
  by_cases hz : (sNL v r 80).1 < 0
  · unfold sPeriod at k
    rw [if_pos hz] at k
    refine Gx_istore_n_2 dX2_period_7 (Nat.le_of_ble_eq_true rfl) (Nat.ne_of_beq_eq_false rfl) ?_
    refine Gx_iload_n (i := 2) dX2_period_8 rfl rfl ?_
    refine Gx_if_ge (tgt := 14) dX2_period_9 (by decide) (fun c9 => absurd hz (by omega)) (fun c9 => ?_)
    refine Gx_iload_n (i := 2) dX2_period_12 rfl rfl ?_
    exact Gx_ireturn dX2_period_13 trivial k
  obtain ⟨enl, hr, hn1, hn2, -⟩ := sNL_ok hz
  rw [enl]
  dsimp only
  unfold sPeriod at k
  rw [if_neg hz] at k
  refine Gx_istore_n_2 dX2_period_7 (Nat.le_of_ble_eq_true rfl) (Nat.ne_of_beq_eq_false rfl) ?_
  refine Gx_iload_n (i := 2) dX2_period_8 rfl rfl ?_
  refine Gx_if_ge (tgt := 14) dX2_period_9 (by decide) (fun _ => ?_) (fun hz => absurd hz (by decide))
  refine Gx_iconst ⟨by decide, by decide⟩ dX2_period_14 ?_
  refine Gx_istore_n_3 dX2_period_15 (Nat.le_of_ble_eq_true rfl) (Nat.ne_of_beq_eq_false rfl) ?_
  refine Gx_iconst ⟨by decide, by decide⟩ dX2_period_16 ?_
  refine Gx_istore_4 dX2_period_17 (Nat.le_of_ble_eq_true rfl) (Nat.ne_of_beq_eq_false rfl) ?_
  exact lp_X2_period2 hr rfl (by omega) (v 40 r).toNat 1 _ (by omega) (by omega) (by omega) k
end
