/-! AcornYearsModel: plants, next, counts -/
section
variable {Γ : gC} {v : gM} {K : gH} {t : Nat} {Q : gQ}
def pPl (n : Int) (f : Int → Int) : Nat → Bool
  | 0 => true
  | k + 1 => pPl n f k && decide ((0 ≤ f (2 * (k : Int)) ∧ f (2 * (k : Int)) < n) ∧ 0 ≤ f (2 * (k : Int) + 1) ∧ f (2 * (k : Int) + 1) ≤ 60)
theorem pPl_s {n k : Int} {f : Int → Int} (h : 0 ≤ k) : pPl n f (k + 1).toNat = (pPl n f k.toNat && decide ((0 ≤ f (2 * k) ∧ f (2 * k) < n) ∧ 0 ≤ f (2 * k + 1) ∧ f (2 * k + 1) ≤ 60)) := by
  obtain ⟨x, rfl⟩ : ∃ x : Nat, k = (x : Int) := ⟨k.toNat, by omega⟩
  rw [show ((x : Int) + 1).toNat = x + 1 by omega, show ((x : Int)).toNat = x by omega]
  rfl
def gPl (f : Int → Int) : Nat → gM → gM
  | 0, v => v
  | k + 1, v => sGrow (gPl f k v) (f (2 * (k : Int))) (f (2 * (k : Int) + 1))
theorem gPl_s {f : Int → Int} {v : gM} {k : Int} (h : 0 ≤ k) : gPl f (k + 1).toNat v = sGrow (gPl f k.toNat v) (f (2 * k)) (f (2 * k + 1)) := by
  obtain ⟨x, rfl⟩ : ∃ x : Nat, k = (x : Int) := ⟨k.toNat, by omega⟩
  rw [show ((x : Int) + 1).toNat = x + 1 by omega, show ((x : Int)).toNat = x by omega]
  rfl
theorem sGrow_fr {v : gM} {s x a k : Int} (h : ¬ ((a = 38 ∧ k = 33) ∨ (57 ≤ a ∧ a ≤ 60))) : sGrow v s x a k = v a k := by
  unfold sGrow
  rw [gUp_ne2 (by omega), gUp_ne2 (by omega), gUp_ne2 (by omega), gUp_ne2 (by omega), gUp_ne2 (by omega)]
theorem gPl_fr {f : Int → Int} {v : gM} {a k : Int} (h : ¬ ((a = 38 ∧ k = 33) ∨ (57 ≤ a ∧ a ≤ 60))) : ∀ n, gPl f n v a k = v a k
  | 0 => rfl
  | n + 1 => by
    unfold gPl
    rw [sGrow_fr h]
    exact gPl_fr h n
theorem gPl_n {f : Int → Int} {v : gM} : ∀ n : Nat, gPl f n v 38 33 = v 38 33 + n
  | 0 => by unfold gPl; omega
  | n + 1 => by
    have := gPl_n (f := f) (v := v) n
    unfold gPl sGrow
    rw [gUp_eq2 rfl rfl, this]
    omega
def sPlants (v : gM) (r : Int) : Int × gM := if ¬ (0 ≤ r ∧ r ≤ 5) then (-1, v) else if v 40 r < 0 then (-3, sMeet v 1) else if v 40 r % 2 = 1 then (-3, sMeet v 5) else if 24 < v 38 33 + v 40 r / 2 then (-2, v) else if pPl (v 38 20) (fun k => v 41 (80 * r + k)) (v 40 r / 2).toNat = true then (v 40 r / 2, gPl (fun k => v 41 (80 * r + k)) (v 40 r / 2).toNat v) else (-3, sMeet v 3)

set_option maxHeartbeats 2000000 in
theorem lp_X2_plants1 {r n : Int} {bc bs : Nat} (hr : 0 ≤ r ∧ r ≤ 5) (hn : 0 ≤ n ∧ n ≤ 40) (h20 : 0 ≤ v 38 20 ∧ v 38 20 ≤ 6) (cont : ∀ gd : Int, (gd = 1 ∧ pPl (v 38 20) (fun k => v 41 (80 * r + k)) n.toNat = true) ∨ (gd = 0 ∧ pPl (v 38 20) (fun k => v 41 (80 * r + k)) n.toNat = false) → Gx Γ mX2_plants 128 [(2, 38), (0, r), (0, n), (0, gd), (0, n)] [] v (gHd K) t bc bs Q) : ∀ (j : Nat) (k gd : Int), 0 ≤ k → k + j = n → (gd = 1 ∧ pPl (v 38 20) (fun k => v 41 (80 * r + k)) k.toNat = true) ∨ (gd = 0 ∧ pPl (v 38 20) (fun k => v 41 (80 * r + k)) k.toNat = false) → Gx Γ mX2_plants 70 [(2, 38), (0, r), (0, n), (0, gd), (0, k)] [] v (gHd K) t bc bs Q := by
  intro j
  induction j with
  | zero =>
    intro k gd h0 h1 hg
    refine Gx_iload dX2_plants_70 rfl ?_
    refine Gx_iload_n (i := 2) dX2_plants_72 rfl rfl ?_
    refine Gx_icmp_ge (tgt := 128) dX2_plants_73 (by decide) (fun c73 => ?_) (fun c73 => ?_)
    · have e0 : k = n := by omega
      rw [e0] at hg ⊢
      exact cont gd hg
    · exfalso
      omega
  | succ j ih =>
    intro k gd h0 h1 hg
    refine Gx_iload dX2_plants_70 rfl ?_
    refine Gx_iload_n (i := 2) dX2_plants_72 rfl rfl ?_
    refine Gx_icmp_ge (tgt := 128) dX2_plants_73 (by decide) (fun c73 => ?_) (fun c73 => ?_)
    · exfalso
      omega
    · refine Gx_iload_n (i := 3) dX2_plants_76 rfl rfl ?_
      refine Gx_if_eq (tgt := 120) dX2_plants_77 (by decide) (fun c77 => ?_) (fun c77 => ?_)
      · refine Gx_iconst ⟨by decide, by decide⟩ dX2_plants_120 ?_
        refine Gx_istore_n_3 dX2_plants_121 (Nat.le_of_ble_eq_true rfl) (Nat.ne_of_beq_eq_false rfl) ?_
        refine Gx_iinc_4 dX2_plants_122 (Nat.le_of_ble_eq_true rfl) (Nat.ne_of_beq_eq_false rfl) ?_
        try simp (disch := omega) only [w32_id]
        refine Gx_goto (tgt := 70) dX2_plants_125 (by decide) ?_
        have hx := pPl_s (n := v 38 20) (f := fun k => v 41 (80 * r + k)) h0
        refine ih (k + 1) _ (by omega) (by omega) ?_
        rw [hx]
        rcases hg with ⟨q1, q2⟩ | ⟨q1, q2⟩
        · rw [q2, Bool.true_and]
          first
            | exact Or.inl ⟨rfl, decide_eq_true (by omega)⟩
            | exact Or.inr ⟨rfl, decide_eq_false (by omega)⟩
            | (exfalso; omega)
        · rw [q2, Bool.false_and]
          first
            | exact Or.inr ⟨rfl, rfl⟩
            | (exfalso; omega)
      · refine Gx_aload_n (i := 0) dX2_plants_80 rfl rfl ?_
        refine Gx_aload_n (i := 0) dX2_plants_81 rfl rfl ?_
        refine Gx_iload_n (i := 1) dX2_plants_82 rfl rfl ?_
        refine Gx_iconst ⟨by decide, by decide⟩ dX2_plants_83 ?_
        refine Gx_iload dX2_plants_84 rfl ?_
        refine Gx_imul dX2_plants_86 ?_
        try simp (disch := omega) only [w32_id]
        refine cl_X2_122 dX2_plants_87 rfl rfl ⟨(Nat.le_of_ble_eq_true rfl), (Nat.le_of_ble_eq_true rfl)⟩ rfl ?_
        refine ct_X2_rowAt (by omega) (by omega) ?_
        refine cl_X2_212 dX2_plants_90 rfl rfl ⟨(Nat.le_of_ble_eq_true rfl), (Nat.le_of_ble_eq_true rfl)⟩ rfl ?_
        refine ct_X2_isSort (by omega) (fun c90 => ?_) (fun c90 => ?_)
        · refine Gx_if_eq (tgt := 120) dX2_plants_93 (by decide) (fun hz => absurd hz (by decide)) (fun _ => ?_)
          refine Gx_aload_n (i := 0) dX2_plants_96 rfl rfl ?_
          refine Gx_iload_n (i := 1) dX2_plants_97 rfl rfl ?_
          refine Gx_iconst ⟨by decide, by decide⟩ dX2_plants_98 ?_
          refine Gx_iload dX2_plants_99 rfl ?_
          refine Gx_imul dX2_plants_101 ?_
          try simp (disch := omega) only [w32_id]
          refine Gx_iconst ⟨by decide, by decide⟩ dX2_plants_102 ?_
          refine Gx_iadd dX2_plants_103 ?_
          try simp (disch := omega) only [w32_id]
          refine cl_X2_122 dX2_plants_104 rfl rfl ⟨(Nat.le_of_ble_eq_true rfl), (Nat.le_of_ble_eq_true rfl)⟩ rfl ?_
          refine ct_X2_rowAt (by omega) (by omega) ?_
          refine Gx_iconst ⟨by decide, by decide⟩ dX2_plants_107 ?_
          refine Gx_bipush dX2_plants_108 ⟨by decide, by decide⟩ ?_
          refine cl_X2_104 dX2_plants_110 rfl ⟨(Nat.le_of_ble_eq_true rfl), (Nat.le_of_ble_eq_true rfl)⟩ rfl ?_
          refine ct_X2_in (fun c110 => ?_) (fun c110 => ?_)
          · refine Gx_if_eq (tgt := 120) dX2_plants_113 (by decide) (fun hz => absurd hz (by decide)) (fun _ => ?_)
            refine Gx_iconst ⟨by decide, by decide⟩ dX2_plants_116 ?_
            refine Gx_goto (tgt := 121) dX2_plants_117 (by decide) ?_
            refine Gx_istore_n_3 dX2_plants_121 (Nat.le_of_ble_eq_true rfl) (Nat.ne_of_beq_eq_false rfl) ?_
            refine Gx_iinc_4 dX2_plants_122 (Nat.le_of_ble_eq_true rfl) (Nat.ne_of_beq_eq_false rfl) ?_
            try simp (disch := omega) only [w32_id]
            refine Gx_goto (tgt := 70) dX2_plants_125 (by decide) ?_
            have hx := pPl_s (n := v 38 20) (f := fun k => v 41 (80 * r + k)) h0
            refine ih (k + 1) _ (by omega) (by omega) ?_
            rw [hx]
            rcases hg with ⟨q1, q2⟩ | ⟨q1, q2⟩
            · rw [q2, Bool.true_and]
              first
                | exact Or.inl ⟨rfl, decide_eq_true (by omega)⟩
                | exact Or.inr ⟨rfl, decide_eq_false (by omega)⟩
                | (exfalso; omega)
            · rw [q2, Bool.false_and]
              first
                | exact Or.inr ⟨rfl, rfl⟩
                | (exfalso; omega)
          · refine Gx_if_eq (tgt := 120) dX2_plants_113 (by decide) (fun _ => ?_) (fun hz => absurd hz (by decide))
            refine Gx_iconst ⟨by decide, by decide⟩ dX2_plants_120 ?_
            refine Gx_istore_n_3 dX2_plants_121 (Nat.le_of_ble_eq_true rfl) (Nat.ne_of_beq_eq_false rfl) ?_
            refine Gx_iinc_4 dX2_plants_122 (Nat.le_of_ble_eq_true rfl) (Nat.ne_of_beq_eq_false rfl) ?_
            try simp (disch := omega) only [w32_id]
            refine Gx_goto (tgt := 70) dX2_plants_125 (by decide) ?_
            have hx := pPl_s (n := v 38 20) (f := fun k => v 41 (80 * r + k)) h0
            refine ih (k + 1) _ (by omega) (by omega) ?_
            rw [hx]
            rcases hg with ⟨q1, q2⟩ | ⟨q1, q2⟩
            · rw [q2, Bool.true_and]
              first
                | exact Or.inl ⟨rfl, decide_eq_true (by omega)⟩
                | exact Or.inr ⟨rfl, decide_eq_false (by omega)⟩
                | (exfalso; omega)
            · rw [q2, Bool.false_and]
              first
                | exact Or.inr ⟨rfl, rfl⟩
                | (exfalso; omega)
        · refine Gx_if_eq (tgt := 120) dX2_plants_93 (by decide) (fun _ => ?_) (fun hz => absurd hz (by decide))
          refine Gx_iconst ⟨by decide, by decide⟩ dX2_plants_120 ?_
          refine Gx_istore_n_3 dX2_plants_121 (Nat.le_of_ble_eq_true rfl) (Nat.ne_of_beq_eq_false rfl) ?_
          refine Gx_iinc_4 dX2_plants_122 (Nat.le_of_ble_eq_true rfl) (Nat.ne_of_beq_eq_false rfl) ?_
          try simp (disch := omega) only [w32_id]
          refine Gx_goto (tgt := 70) dX2_plants_125 (by decide) ?_
          have hx := pPl_s (n := v 38 20) (f := fun k => v 41 (80 * r + k)) h0
          refine ih (k + 1) _ (by omega) (by omega) ?_
          rw [hx]
          rcases hg with ⟨q1, q2⟩ | ⟨q1, q2⟩
          · rw [q2, Bool.true_and]
            first
              | exact Or.inl ⟨rfl, decide_eq_true (by omega)⟩
              | exact Or.inr ⟨rfl, decide_eq_false (by omega)⟩
              | (exfalso; omega)
          · rw [q2, Bool.false_and]
            first
              | exact Or.inr ⟨rfl, rfl⟩
              | (exfalso; omega)
set_option maxHeartbeats 2000000 in
theorem lp_X2_plants2 {r n gd : Int} {bc bs : Nat} (hr : 0 ≤ r ∧ r ≤ 5) (hn : 0 ≤ n ∧ n ≤ 40) (h33 : 0 ≤ v 38 33 ∧ v 38 33 + n ≤ 24) (cont : Q (0, n) (gPl (fun k => v 41 (80 * r + k)) n.toNat v) (gHd K) t) : ∀ (j : Nat) (k : Int), 0 ≤ k → k + j = n → Gx Γ mX2_plants 141 [(2, 38), (0, r), (0, n), (0, gd), (0, k)] [] (gPl (fun k => v 41 (80 * r + k)) k.toNat v) (gHd K) t bc bs Q := by
  intro j
  induction j with
  | zero =>
    intro k h0 h1
    refine Gx_iload dX2_plants_141 rfl ?_
    refine Gx_iload_n (i := 2) dX2_plants_143 rfl rfl ?_
    refine Gx_icmp_ge (tgt := 178) dX2_plants_144 (by decide) (fun c144 => ?_) (fun c144 => ?_)
    · refine Gx_iload_n (i := 2) dX2_plants_178 rfl rfl ?_
      refine Gx_ireturn dX2_plants_179 trivial ?_
      have e0 : k = n := by omega
      rw [e0]
      exact cont
    · exfalso
      omega
  | succ j ih =>
    intro k h0 h1
    refine Gx_iload dX2_plants_141 rfl ?_
    refine Gx_iload_n (i := 2) dX2_plants_143 rfl rfl ?_
    refine Gx_icmp_ge (tgt := 178) dX2_plants_144 (by decide) (fun c144 => ?_) (fun c144 => ?_)
    · refine Gx_iload_n (i := 2) dX2_plants_178 rfl rfl ?_
      refine Gx_ireturn dX2_plants_179 trivial ?_
      exfalso
      omega
    · refine Gx_aload_n (i := 0) dX2_plants_147 rfl rfl ?_
      refine Gx_aload_n (i := 0) dX2_plants_148 rfl rfl ?_
      refine Gx_iload_n (i := 1) dX2_plants_149 rfl rfl ?_
      refine Gx_iconst ⟨by decide, by decide⟩ dX2_plants_150 ?_
      refine Gx_iload dX2_plants_151 rfl ?_
      refine Gx_imul dX2_plants_153 ?_
      try simp (disch := omega) only [w32_id]
      refine cl_X2_122 dX2_plants_154 rfl rfl ⟨(Nat.le_of_ble_eq_true rfl), (Nat.le_of_ble_eq_true rfl)⟩ rfl ?_
      refine ct_X2_rowAt (by omega) (by omega) ?_
      rw [gPl_fr (by omega)]
      refine Gx_aload_n (i := 0) dX2_plants_157 rfl rfl ?_
      refine Gx_iload_n (i := 1) dX2_plants_158 rfl rfl ?_
      refine Gx_iconst ⟨by decide, by decide⟩ dX2_plants_159 ?_
      refine Gx_iload dX2_plants_160 rfl ?_
      refine Gx_imul dX2_plants_162 ?_
      try simp (disch := omega) only [w32_id]
      refine Gx_iconst ⟨by decide, by decide⟩ dX2_plants_163 ?_
      refine Gx_iadd dX2_plants_164 ?_
      try simp (disch := omega) only [w32_id]
      refine cl_X2_122 dX2_plants_165 rfl rfl ⟨(Nat.le_of_ble_eq_true rfl), (Nat.le_of_ble_eq_true rfl)⟩ rfl ?_
      refine ct_X2_rowAt (by omega) (by omega) ?_
      rw [gPl_fr (by omega)]
      refine cl_X2_224 dX2_plants_168 rfl rfl ⟨(Nat.le_of_ble_eq_true rfl), (Nat.le_of_ble_eq_true rfl)⟩ rfl ?_
      refine ct_X2_grow (by have := gPl_n (f := (fun k => v 41 (80 * r + k))) (v := v) k.toNat; omega) ?_
      refine Gx_pop (Nat.ne_of_beq_eq_false rfl) dX2_plants_171 ?_
      refine Gx_iinc_4 dX2_plants_172 (Nat.le_of_ble_eq_true rfl) (Nat.ne_of_beq_eq_false rfl) ?_
      try simp (disch := omega) only [w32_id]
      refine Gx_goto (tgt := 141) dX2_plants_175 (by decide) ?_
      rw [← gPl_s (f := (fun k => v 41 (80 * r + k))) h0]
      exact ih (k + 1) (by omega) (by omega)
set_option maxHeartbeats 2000000 in
theorem ct_X2_plants {r : Int} (hS : oSz v) (h20 : 0 ≤ v 38 20 ∧ v 38 20 ≤ 6) (h33 : 0 ≤ v 38 33 ∧ v 38 33 ≤ 24) (k : Q (0, (sPlants v r).1) (sPlants v r).2 (gHd K) t) : Ctr Γ mX2_plants [(2, 38), (0, r)] v (gHd K) t Q := by
  refine Ctr.ofG (ls := [(2, 38), (0, r), (9, 0), (9, 0), (9, 0)]) rfl rfl rfl rfl rfl ?_
  refine Gx_iload_n (i := 1) dX2_plants_0 rfl rfl ?_
  refine cl_X2_114 dX2_plants_1 rfl ⟨(Nat.le_of_ble_eq_true rfl), (Nat.le_of_ble_eq_true rfl)⟩ rfl ?_
  refine ct_X2_isRow (fun c1 => ?_) (fun c1 => ?_)
  · refine Gx_if_ne (tgt := 9) dX2_plants_4 (by decide) (fun _ => ?_) (fun hz => absurd hz (by decide))
    have hs := hS r (by omega) (by omega)
    refine Gx_aload_n (i := 0) dX2_plants_9 rfl rfl ?_
    refine gf_X2_13_22 dX2_plants_10 rfl rfl ?_
    refine Gx_iload_n (i := 1) dX2_plants_13 rfl rfl ?_
    refine Gx_iaload dX2_plants_14 rfl (by first | omega | (simp (disch := omega) only [w32_id]; omega)) ?_
    refine Gx_if_ge (tgt := 24) dX2_plants_15 (by decide) (fun c15 => ?_) (fun c15 => ?_)
    · refine Gx_aload_n (i := 0) dX2_plants_24 rfl rfl ?_
      refine gf_X2_13_22 dX2_plants_25 rfl rfl ?_
      refine Gx_iload_n (i := 1) dX2_plants_28 rfl rfl ?_
      refine Gx_iaload dX2_plants_29 rfl (by first | omega | (simp (disch := omega) only [w32_id]; omega)) ?_
      refine Gx_iconst ⟨by decide, by decide⟩ dX2_plants_30 ?_
      refine Gx_irem dX2_plants_31 (by first | omega | (simp (disch := omega) only [w32_id]; omega)) ?_
      refine Gx_iconst ⟨by decide, by decide⟩ dX2_plants_32 ?_
      rw [Int.tmod_eq_emod_of_nonneg (by omega)]
      refine Gx_icmp_ne (tgt := 42) dX2_plants_33 (by decide) (fun c33 => ?_) (fun c33 => ?_)
      · refine Gx_aload_n (i := 0) dX2_plants_42 rfl rfl ?_
        refine gf_X2_13_22 dX2_plants_43 rfl rfl ?_
        refine Gx_iload_n (i := 1) dX2_plants_46 rfl rfl ?_
        refine Gx_iaload dX2_plants_47 rfl (by first | omega | (simp (disch := omega) only [w32_id]; omega)) ?_
        refine Gx_iconst ⟨by decide, by decide⟩ dX2_plants_48 ?_
        refine Gx_idiv dX2_plants_49 (by first | omega | (simp (disch := omega) only [w32_id]; omega)) ?_
        rw [Int.tdiv_eq_ediv_of_nonneg (by omega)]
        try simp (disch := omega) only [w32_id]
        refine Gx_istore_n_2 dX2_plants_50 (Nat.le_of_ble_eq_true rfl) (Nat.ne_of_beq_eq_false rfl) ?_
        refine Gx_aload_n (i := 0) dX2_plants_51 rfl rfl ?_
        refine gf_X2_203_22 dX2_plants_52 rfl rfl ?_
        refine Gx_iload_n (i := 2) dX2_plants_55 rfl rfl ?_
        refine Gx_iadd dX2_plants_56 ?_
        try simp (disch := omega) only [w32_id]
        refine Gx_bipush dX2_plants_57 ⟨by decide, by decide⟩ ?_
        refine Gx_icmp_le (tgt := 65) dX2_plants_59 (by decide) (fun c59 => ?_) (fun c59 => ?_)
        · refine Gx_iconst ⟨by decide, by decide⟩ dX2_plants_65 ?_
          refine Gx_istore_n_3 dX2_plants_66 (Nat.le_of_ble_eq_true rfl) (Nat.ne_of_beq_eq_false rfl) ?_
          refine Gx_iconst ⟨by decide, by decide⟩ dX2_plants_67 ?_
          refine Gx_istore_4 dX2_plants_68 (Nat.le_of_ble_eq_true rfl) (Nat.ne_of_beq_eq_false rfl) ?_
          refine lp_X2_plants1 (n := v 40 r / 2) (by omega) (by omega) h20 (fun gd hg => ?_) (v 40 r / 2).toNat 0 1 (by omega) (by omega) (Or.inl ⟨rfl, rfl⟩)
          refine Gx_iload_n (i := 3) dX2_plants_128 rfl rfl ?_
          refine Gx_if_ne (tgt := 138) dX2_plants_129 (by decide) (fun c129 => ?_) (fun c129 => ?_)
          · refine Gx_iconst ⟨by decide, by decide⟩ dX2_plants_138 ?_
            refine Gx_istore_4 dX2_plants_139 (Nat.le_of_ble_eq_true rfl) (Nat.ne_of_beq_eq_false rfl) ?_
            rcases hg with ⟨q1, q2⟩ | ⟨q1, q2⟩
            · unfold sPlants at k
              rw [if_neg (by omega), if_neg (by omega), if_neg (by omega), if_neg (by omega), if_pos q2] at k
              exact lp_X2_plants2 (n := v 40 r / 2) (by omega) (by omega) (by omega) k (v 40 r / 2).toNat 0 (by omega) (by omega)
            · exfalso; omega
          · refine Gx_aload_n (i := 0) dX2_plants_132 rfl rfl ?_
            refine Gx_iconst ⟨by decide, by decide⟩ dX2_plants_133 ?_
            refine cl_X2_118 dX2_plants_134 rfl rfl ⟨(Nat.le_of_ble_eq_true rfl), (Nat.le_of_ble_eq_true rfl)⟩ rfl ?_
            refine ct_X2_meets (by omega) ?_
            refine Gx_ireturn dX2_plants_137 trivial ?_
            rcases hg with ⟨q1, q2⟩ | ⟨q1, q2⟩
            · exfalso; omega
            · unfold sPlants at k
              rw [if_neg (by omega), if_neg (by omega), if_neg (by omega), if_neg (by omega), if_neg (by rw [q2]; decide)] at k
              exact k
        · refine Gx_bipush dX2_plants_62 ⟨by decide, by decide⟩ ?_
          refine Gx_ireturn dX2_plants_64 trivial ?_
          unfold sPlants at k
          (repeat' split at k) <;> first | exact k | (exfalso; omega)
      · refine Gx_aload_n (i := 0) dX2_plants_36 rfl rfl ?_
        refine Gx_iconst ⟨by decide, by decide⟩ dX2_plants_37 ?_
        refine cl_X2_118 dX2_plants_38 rfl rfl ⟨(Nat.le_of_ble_eq_true rfl), (Nat.le_of_ble_eq_true rfl)⟩ rfl ?_
        refine ct_X2_meets (by omega) ?_
        refine Gx_ireturn dX2_plants_41 trivial ?_
        unfold sPlants at k
        (repeat' split at k) <;> first | exact k | (exfalso; omega)
    · refine Gx_aload_n (i := 0) dX2_plants_18 rfl rfl ?_
      refine Gx_iconst ⟨by decide, by decide⟩ dX2_plants_19 ?_
      refine cl_X2_118 dX2_plants_20 rfl rfl ⟨(Nat.le_of_ble_eq_true rfl), (Nat.le_of_ble_eq_true rfl)⟩ rfl ?_
      refine ct_X2_meets (by omega) ?_
      refine Gx_ireturn dX2_plants_23 trivial ?_
      unfold sPlants at k
      (repeat' split at k) <;> first | exact k | (exfalso; omega)
  · refine Gx_if_ne (tgt := 9) dX2_plants_4 (by decide) (fun hz => absurd hz (by decide)) (fun _ => ?_)
    refine Gx_iconst ⟨by decide, by decide⟩ dX2_plants_7 ?_
    refine Gx_ireturn dX2_plants_8 trivial ?_
    unfold sPlants at k
    (repeat' split at k) <;> first | exact k | (exfalso; omega)
end
