/-! AcornYears: digest -/
section
variable {Γ : gC} {v : gM} {K : gH} {t : Nat} {Q : gQ}
/-- what stands at a row, at a text: none, or an array of its own -/
def aSh (v : gM) (h : gH) (c : Int) (k : Nat) (r : Int) : Prop := v c r = -1 ∨ (66 ≤ v c r ∧ h (v c r) = (k, (h (v c r)).2) ∧ 0 ≤ (h (v c r)).2 ∧ (h (v c r)).2 ≤ 80)
def aLn (v : gM) (h : gH) (c r : Int) : Int := if v c r = -1 then -1 else (h (v c r)).2
def aLnS (v : gM) (h : gH) (c r g : Int) : Int := hIt (hOne (v (v c r))) (aLn v h c r).toNat (hMix g (aLn v h c r))
def aDig (v : gM) (h : gH) : Int := hIt (aLnS v h 3) 4 (hIt (aLnS v h 2) 6 (aWood v h (hIt (hOne (aCnt v h)) 6 17)))
theorem aCnt_53 {v : gM} {h : gH} {q x : Int} (hW : aWf v h) (h33 : v 0 32 ≤ 24) (hs : ∀ i, 0 ≤ i → i < v 0 32 → 0 ≤ v (v 16 i) 0 ∧ v (v 16 i) 0 < (h (v 0 7)).2) : aCnt (gUp v 0 53 x) h q = aCnt v h q := by
  have w7 := hW.1.1
  have e4 : yCnt (fun i => decide (aIs (h (gUp v 0 53 x (gUp v 0 53 x 0 7) (gUp v 0 53 x (gUp v 0 53 x 16 i) 0))).1 2)) (v 0 32).toNat = yCnt (fun i => decide (aIs (h (v (v 0 7) (v (v 16 i) 0))).1 2)) (v 0 32).toNat := by
    refine yCnt_congr _ (fun i i0 i1 => ?_)
    have w := (hW.2.2.2.1 i i0 (by omega)).1
    show decide _ = decide _
    rw [r53 0 7 (by omega), r53 16 i (by omega), r53 (v 16 i) 0 (by omega), r53 (v 0 7) _ (by omega)]
  unfold aCnt
  rw [r53 0 32 (by omega), e4]
  rfl

set_option maxHeartbeats 2000000 in
theorem lp_X0_digest1 {r o n h : Int} {bc bs : Nat} (ho : (n = -1) ∨ (66 ≤ o ∧ gHd K o = (10, n) ∧ 0 ≤ n ∧ n ≤ 80)) (cont : ∀ z6 : Int, Gx Γ mX0_digest 98 [(2, 0), (2, 2), (0, 6), (0, r), (2, o), (0, n), (0, z6)] [] (gUp v 0 53 (hIt (hOne (v o)) n.toNat h)) (gHd K) t bc bs Q) : ∀ (j : Nat) (i : Int), 0 ≤ i → i + j = n.toNat → Gx Γ mX0_digest 76 [(2, 0), (2, 2), (0, 6), (0, r), (2, o), (0, n), (0, i)] [] (gUp v 0 53 (hIt (hOne (v o)) i.toNat h)) (gHd K) t bc bs Q := by
  intro j
  induction j with
  | zero =>
    intro i h0 h1
    refine Gx_iload dX0_digest_76 rfl ?_
    refine Gx_iload dX0_digest_78 rfl ?_
    refine Gx_icmp_ge (tgt := 98) dX0_digest_80 (by decide) (fun c80 => ?_) (fun c80 => ?_)
    · have e0 : i.toNat = n.toNat := by omega
      rw [e0]
      exact cont i
    · exfalso
      omega
  | succ j ih =>
    intro i h0 h1
    obtain ⟨w1, w2, w3, w4⟩ := ho.resolve_left (by omega)
    refine Gx_iload dX0_digest_76 rfl ?_
    refine Gx_iload dX0_digest_78 rfl ?_
    refine Gx_icmp_ge (tgt := 98) dX0_digest_80 (by decide) (fun c80 => ?_) (fun c80 => ?_)
    · exfalso
      omega
    · refine Gx_aload_n (i := 0) dX0_digest_83 rfl rfl ?_
      refine Gx_aload dX0_digest_84 rfl ?_
      refine Gx_iload dX0_digest_86 rfl ?_
      refine Gx_iaload dX0_digest_88 w2 (by first | omega | (simp (disch := omega) only [w32_id]; omega)) ?_
      try simp (disch := omega) only [gUp_ne2, gUp_eq2]
      refine cl_X0_517 dX0_digest_89 rfl rfl ⟨(Nat.le_of_ble_eq_true rfl), (Nat.le_of_ble_eq_true rfl)⟩ rfl ?_
      refine ct_X0_mix ?_
      rw [gH53, gUp_eq2 rfl rfl]
      refine Gx_iinc_6 dX0_digest_92 (Nat.le_of_ble_eq_true rfl) (Nat.ne_of_beq_eq_false rfl) ?_
      try simp (disch := omega) only [w32_id]
      refine Gx_goto (tgt := 76) dX0_digest_95 (by decide) ?_
      have hx := hIt_s (f := hOne (v o)) (h := h) h0
      have hi := ih (i + 1) (by omega) (by omega)
      rw [hx] at hi
      exact hi
set_option maxHeartbeats 2000000 in
theorem lp_X0_digestO1 {n h : Int} {bc bs : Nat} (hn : n = 6) (hS : ∀ r, 0 ≤ r → r < 6 → aSh v (gHd K) 2 10 r) (cont : ∀ z4 z5 z6 : gV, Gx Γ mX0_digest 104 [(2, 0), (2, 2), (0, 6), (0, n), z4, z5, z6] [] (gUp v 0 53 (hIt (aLnS v (gHd K) 2) n.toNat h)) (gHd K) t bc bs Q) : ∀ (j : Nat) (r : Int) (z4 z5 z6 : gV), 0 ≤ r → r + j = n → Gx Γ mX0_digest 43 [(2, 0), (2, 2), (0, 6), (0, r), z4, z5, z6] [] (gUp v 0 53 (hIt (aLnS v (gHd K) 2) r.toNat h)) (gHd K) t bc bs Q := by
  intro j
  induction j with
  | zero =>
    intro r z4 z5 z6 h0 h1
    refine Gx_iload_n (i := 3) dX0_digest_43 rfl rfl ?_
    refine Gx_iload_n (i := 2) dX0_digest_44 rfl rfl ?_
    refine Gx_icmp_ge (tgt := 104) dX0_digest_45 (by decide) (fun c45 => ?_) (fun c45 => ?_)
    · have e0 : r = n := by omega
      rw [e0] at *
      exact cont z4 z5 z6
    · exfalso
      omega
  | succ j ih =>
    intro r z4 z5 z6 h0 h1
    have hl : aLn v (gHd K) 2 r = -1 ∨ (66 ≤ v 2 r ∧ gHd K (v 2 r) = (10, aLn v (gHd K) 2 r) ∧ 0 ≤ aLn v (gHd K) 2 r ∧ aLn v (gHd K) 2 r ≤ 80) := by
      unfold aLn
      rcases hS r h0 (by omega) with z | ⟨z1, z2, z3, z4⟩
      · rw [if_pos z]; exact Or.inl rfl
      · rw [if_neg (by omega)]; exact Or.inr ⟨z1, z2, z3, z4⟩
    have hc : (v 2 r = -1 ∧ aLn v (gHd K) 2 r = -1) ∨ (66 ≤ v 2 r ∧ gHd K (v 2 r) = (10, aLn v (gHd K) 2 r)) := by
      unfold aLn
      rcases hS r h0 (by omega) with z | ⟨z1, z2, z3, z4⟩
      · rw [if_pos z]; exact Or.inl ⟨z, rfl⟩
      · rw [if_neg (by omega)]; exact Or.inr ⟨z1, z2⟩
    refine Gx_iload_n (i := 3) dX0_digest_43 rfl rfl ?_
    refine Gx_iload_n (i := 2) dX0_digest_44 rfl rfl ?_
    refine Gx_icmp_ge (tgt := 104) dX0_digest_45 (by decide) (fun c45 => ?_) (fun c45 => ?_)
    · exfalso
      omega
    · refine Gx_aload_n (i := 1) dX0_digest_48 rfl rfl ?_
      refine Gx_iload_n (i := 3) dX0_digest_49 rfl rfl ?_
      refine Gx_aaload15 dX0_digest_50 rfl (by first | omega | (simp (disch := omega) only [w32_id]; omega)) ?_
      rw [r53 2 r (by omega)]
      refine Gx_astore_4 dX0_digest_51 (Nat.le_of_ble_eq_true rfl) (Nat.ne_of_beq_eq_false rfl) ?_
      refine Gx_aload dX0_digest_53 rfl ?_
      refine Gx_ifnonnull (tgt := 62) dX0_digest_55 (by decide) (fun c55 => ?_) (fun c55 => ?_)
      · refine Gx_aload dX0_digest_62 rfl ?_
        have EL : aLn v (gHd K) 2 r = aLn v (gHd K) 2 r := rfl
        refine Gx_alen dX0_digest_64 (hc.resolve_left (by omega)).2 (by decide) (by decide) ?_
        refine Gx_istore_5 dX0_digest_65 (Nat.le_of_ble_eq_true rfl) (Nat.ne_of_beq_eq_false rfl) ?_
        refine Gx_aload_n (i := 0) dX0_digest_67 rfl rfl ?_
        refine Gx_iload dX0_digest_68 rfl ?_
        refine cl_X0_517 dX0_digest_70 rfl rfl ⟨(Nat.le_of_ble_eq_true rfl), (Nat.le_of_ble_eq_true rfl)⟩ rfl ?_
        try rw [EL]
        refine ct_X0_mix ?_
        rw [gH53, gUp_eq2 rfl rfl]
        refine Gx_iconst ⟨by decide, by decide⟩ dX0_digest_73 ?_
        refine Gx_istore_6 dX0_digest_74 (Nat.le_of_ble_eq_true rfl) (Nat.ne_of_beq_eq_false rfl) ?_
        refine lp_X0_digest1 (n := aLn v (gHd K) 2 r) (h := hMix (hIt (aLnS v (gHd K) 2) r.toNat h) (aLn v (gHd K) 2 r)) hl (fun z6 => ?_) (aLn v (gHd K) 2 r).toNat 0 (by omega) (by omega)
        rw [show hIt (hOne (v (v 2 r))) (aLn v (gHd K) 2 r).toNat (hMix (hIt (aLnS v (gHd K) 2) r.toNat h) (aLn v (gHd K) 2 r)) = aLnS v (gHd K) 2 r (hIt (aLnS v (gHd K) 2) r.toNat h) from rfl, ← hIt_s (f := aLnS v (gHd K) 2) h0]
        refine Gx_iinc_3 dX0_digest_98 (Nat.le_of_ble_eq_true rfl) (Nat.ne_of_beq_eq_false rfl) ?_
        try simp (disch := omega) only [w32_id]
        refine Gx_goto (tgt := 43) dX0_digest_101 (by decide) ?_
        exact ih (r + 1) _ _ _ (by omega) (by omega)
      · have EL : (-1 : Int) = aLn v (gHd K) 2 r := by omega
        refine Gx_iconst ⟨by decide, by decide⟩ dX0_digest_58 ?_
        refine Gx_goto (tgt := 65) dX0_digest_59 (by decide) ?_
        refine Gx_istore_5 dX0_digest_65 (Nat.le_of_ble_eq_true rfl) (Nat.ne_of_beq_eq_false rfl) ?_
        refine Gx_aload_n (i := 0) dX0_digest_67 rfl rfl ?_
        refine Gx_iload dX0_digest_68 rfl ?_
        refine cl_X0_517 dX0_digest_70 rfl rfl ⟨(Nat.le_of_ble_eq_true rfl), (Nat.le_of_ble_eq_true rfl)⟩ rfl ?_
        try rw [EL]
        refine ct_X0_mix ?_
        rw [gH53, gUp_eq2 rfl rfl]
        refine Gx_iconst ⟨by decide, by decide⟩ dX0_digest_73 ?_
        refine Gx_istore_6 dX0_digest_74 (Nat.le_of_ble_eq_true rfl) (Nat.ne_of_beq_eq_false rfl) ?_
        refine lp_X0_digest1 (n := aLn v (gHd K) 2 r) (h := hMix (hIt (aLnS v (gHd K) 2) r.toNat h) (aLn v (gHd K) 2 r)) hl (fun z6 => ?_) (aLn v (gHd K) 2 r).toNat 0 (by omega) (by omega)
        rw [show hIt (hOne (v (v 2 r))) (aLn v (gHd K) 2 r).toNat (hMix (hIt (aLnS v (gHd K) 2) r.toNat h) (aLn v (gHd K) 2 r)) = aLnS v (gHd K) 2 r (hIt (aLnS v (gHd K) 2) r.toNat h) from rfl, ← hIt_s (f := aLnS v (gHd K) 2) h0]
        refine Gx_iinc_3 dX0_digest_98 (Nat.le_of_ble_eq_true rfl) (Nat.ne_of_beq_eq_false rfl) ?_
        try simp (disch := omega) only [w32_id]
        refine Gx_goto (tgt := 43) dX0_digest_101 (by decide) ?_
        exact ih (r + 1) _ _ _ (by omega) (by omega)
set_option maxHeartbeats 2000000 in
theorem lp_X0_digest2 {r o n h : Int} {bc bs : Nat} (ho : (n = -1) ∨ (66 ≤ o ∧ gHd K o = (11, n) ∧ 0 ≤ n ∧ n ≤ 80)) (cont : ∀ z6 : Int, Gx Γ mX0_digest 169 [(2, 0), (2, 3), (0, 4), (0, r), (2, o), (0, n), (0, z6)] [] (gUp v 0 53 (hIt (hOne (v o)) n.toNat h)) (gHd K) t bc bs Q) : ∀ (j : Nat) (i : Int), 0 ≤ i → i + j = n.toNat → Gx Γ mX0_digest 147 [(2, 0), (2, 3), (0, 4), (0, r), (2, o), (0, n), (0, i)] [] (gUp v 0 53 (hIt (hOne (v o)) i.toNat h)) (gHd K) t bc bs Q := by
  intro j
  induction j with
  | zero =>
    intro i h0 h1
    refine Gx_iload dX0_digest_147 rfl ?_
    refine Gx_iload dX0_digest_149 rfl ?_
    refine Gx_icmp_ge (tgt := 169) dX0_digest_151 (by decide) (fun c151 => ?_) (fun c151 => ?_)
    · have e0 : i.toNat = n.toNat := by omega
      rw [e0]
      exact cont i
    · exfalso
      omega
  | succ j ih =>
    intro i h0 h1
    obtain ⟨w1, w2, w3, w4⟩ := ho.resolve_left (by omega)
    refine Gx_iload dX0_digest_147 rfl ?_
    refine Gx_iload dX0_digest_149 rfl ?_
    refine Gx_icmp_ge (tgt := 169) dX0_digest_151 (by decide) (fun c151 => ?_) (fun c151 => ?_)
    · exfalso
      omega
    · refine Gx_aload_n (i := 0) dX0_digest_154 rfl rfl ?_
      refine Gx_aload dX0_digest_155 rfl ?_
      refine Gx_iload dX0_digest_157 rfl ?_
      refine Gx_baload dX0_digest_159 w2 (by first | omega | (simp (disch := omega) only [w32_id]; omega)) ?_
      try simp (disch := omega) only [gUp_ne2, gUp_eq2]
      refine cl_X0_517 dX0_digest_160 rfl rfl ⟨(Nat.le_of_ble_eq_true rfl), (Nat.le_of_ble_eq_true rfl)⟩ rfl ?_
      refine ct_X0_mix ?_
      rw [gH53, gUp_eq2 rfl rfl]
      refine Gx_iinc_6 dX0_digest_163 (Nat.le_of_ble_eq_true rfl) (Nat.ne_of_beq_eq_false rfl) ?_
      try simp (disch := omega) only [w32_id]
      refine Gx_goto (tgt := 147) dX0_digest_166 (by decide) ?_
      have hx := hIt_s (f := hOne (v o)) (h := h) h0
      have hi := ih (i + 1) (by omega) (by omega)
      rw [hx] at hi
      exact hi
set_option maxHeartbeats 2000000 in
theorem lp_X0_digestO2 {n h : Int} {bc bs : Nat} (hn : n = 4) (hS : ∀ r, 0 ≤ r → r < 4 → aSh v (gHd K) 3 11 r) (cont : ∀ z4 z5 z6 : gV, Gx Γ mX0_digest 175 [(2, 0), (2, 3), (0, 4), (0, n), z4, z5, z6] [] (gUp v 0 53 (hIt (aLnS v (gHd K) 3) n.toNat h)) (gHd K) t bc bs Q) : ∀ (j : Nat) (r : Int) (z4 z5 z6 : gV), 0 ≤ r → r + j = n → Gx Γ mX0_digest 114 [(2, 0), (2, 3), (0, 4), (0, r), z4, z5, z6] [] (gUp v 0 53 (hIt (aLnS v (gHd K) 3) r.toNat h)) (gHd K) t bc bs Q := by
  intro j
  induction j with
  | zero =>
    intro r z4 z5 z6 h0 h1
    refine Gx_iload_n (i := 3) dX0_digest_114 rfl rfl ?_
    refine Gx_iload_n (i := 2) dX0_digest_115 rfl rfl ?_
    refine Gx_icmp_ge (tgt := 175) dX0_digest_116 (by decide) (fun c116 => ?_) (fun c116 => ?_)
    · have e0 : r = n := by omega
      rw [e0] at *
      exact cont z4 z5 z6
    · exfalso
      omega
  | succ j ih =>
    intro r z4 z5 z6 h0 h1
    have hl : aLn v (gHd K) 3 r = -1 ∨ (66 ≤ v 3 r ∧ gHd K (v 3 r) = (11, aLn v (gHd K) 3 r) ∧ 0 ≤ aLn v (gHd K) 3 r ∧ aLn v (gHd K) 3 r ≤ 80) := by
      unfold aLn
      rcases hS r h0 (by omega) with z | ⟨z1, z2, z3, z4⟩
      · rw [if_pos z]; exact Or.inl rfl
      · rw [if_neg (by omega)]; exact Or.inr ⟨z1, z2, z3, z4⟩
    have hc : (v 3 r = -1 ∧ aLn v (gHd K) 3 r = -1) ∨ (66 ≤ v 3 r ∧ gHd K (v 3 r) = (11, aLn v (gHd K) 3 r)) := by
      unfold aLn
      rcases hS r h0 (by omega) with z | ⟨z1, z2, z3, z4⟩
      · rw [if_pos z]; exact Or.inl ⟨z, rfl⟩
      · rw [if_neg (by omega)]; exact Or.inr ⟨z1, z2⟩
    refine Gx_iload_n (i := 3) dX0_digest_114 rfl rfl ?_
    refine Gx_iload_n (i := 2) dX0_digest_115 rfl rfl ?_
    refine Gx_icmp_ge (tgt := 175) dX0_digest_116 (by decide) (fun c116 => ?_) (fun c116 => ?_)
    · exfalso
      omega
    · refine Gx_aload_n (i := 1) dX0_digest_119 rfl rfl ?_
      refine Gx_iload_n (i := 3) dX0_digest_120 rfl rfl ?_
      refine Gx_aaload16 dX0_digest_121 rfl (by first | omega | (simp (disch := omega) only [w32_id]; omega)) ?_
      rw [r53 3 r (by omega)]
      refine Gx_astore_4 dX0_digest_122 (Nat.le_of_ble_eq_true rfl) (Nat.ne_of_beq_eq_false rfl) ?_
      refine Gx_aload dX0_digest_124 rfl ?_
      refine Gx_ifnonnull (tgt := 133) dX0_digest_126 (by decide) (fun c126 => ?_) (fun c126 => ?_)
      · refine Gx_aload dX0_digest_133 rfl ?_
        have EL : aLn v (gHd K) 3 r = aLn v (gHd K) 3 r := rfl
        refine Gx_alen dX0_digest_135 (hc.resolve_left (by omega)).2 (by decide) (by decide) ?_
        refine Gx_istore_5 dX0_digest_136 (Nat.le_of_ble_eq_true rfl) (Nat.ne_of_beq_eq_false rfl) ?_
        refine Gx_aload_n (i := 0) dX0_digest_138 rfl rfl ?_
        refine Gx_iload dX0_digest_139 rfl ?_
        refine cl_X0_517 dX0_digest_141 rfl rfl ⟨(Nat.le_of_ble_eq_true rfl), (Nat.le_of_ble_eq_true rfl)⟩ rfl ?_
        try rw [EL]
        refine ct_X0_mix ?_
        rw [gH53, gUp_eq2 rfl rfl]
        refine Gx_iconst ⟨by decide, by decide⟩ dX0_digest_144 ?_
        refine Gx_istore_6 dX0_digest_145 (Nat.le_of_ble_eq_true rfl) (Nat.ne_of_beq_eq_false rfl) ?_
        refine lp_X0_digest2 (n := aLn v (gHd K) 3 r) (h := hMix (hIt (aLnS v (gHd K) 3) r.toNat h) (aLn v (gHd K) 3 r)) hl (fun z6 => ?_) (aLn v (gHd K) 3 r).toNat 0 (by omega) (by omega)
        rw [show hIt (hOne (v (v 3 r))) (aLn v (gHd K) 3 r).toNat (hMix (hIt (aLnS v (gHd K) 3) r.toNat h) (aLn v (gHd K) 3 r)) = aLnS v (gHd K) 3 r (hIt (aLnS v (gHd K) 3) r.toNat h) from rfl, ← hIt_s (f := aLnS v (gHd K) 3) h0]
        refine Gx_iinc_3 dX0_digest_169 (Nat.le_of_ble_eq_true rfl) (Nat.ne_of_beq_eq_false rfl) ?_
        try simp (disch := omega) only [w32_id]
        refine Gx_goto (tgt := 114) dX0_digest_172 (by decide) ?_
        exact ih (r + 1) _ _ _ (by omega) (by omega)
      · have EL : (-1 : Int) = aLn v (gHd K) 3 r := by omega
        refine Gx_iconst ⟨by decide, by decide⟩ dX0_digest_129 ?_
        refine Gx_goto (tgt := 136) dX0_digest_130 (by decide) ?_
        refine Gx_istore_5 dX0_digest_136 (Nat.le_of_ble_eq_true rfl) (Nat.ne_of_beq_eq_false rfl) ?_
        refine Gx_aload_n (i := 0) dX0_digest_138 rfl rfl ?_
        refine Gx_iload dX0_digest_139 rfl ?_
        refine cl_X0_517 dX0_digest_141 rfl rfl ⟨(Nat.le_of_ble_eq_true rfl), (Nat.le_of_ble_eq_true rfl)⟩ rfl ?_
        try rw [EL]
        refine ct_X0_mix ?_
        rw [gH53, gUp_eq2 rfl rfl]
        refine Gx_iconst ⟨by decide, by decide⟩ dX0_digest_144 ?_
        refine Gx_istore_6 dX0_digest_145 (Nat.le_of_ble_eq_true rfl) (Nat.ne_of_beq_eq_false rfl) ?_
        refine lp_X0_digest2 (n := aLn v (gHd K) 3 r) (h := hMix (hIt (aLnS v (gHd K) 3) r.toNat h) (aLn v (gHd K) 3 r)) hl (fun z6 => ?_) (aLn v (gHd K) 3 r).toNat 0 (by omega) (by omega)
        rw [show hIt (hOne (v (v 3 r))) (aLn v (gHd K) 3 r).toNat (hMix (hIt (aLnS v (gHd K) 3) r.toNat h) (aLn v (gHd K) 3 r)) = aLnS v (gHd K) 3 r (hIt (aLnS v (gHd K) 3) r.toNat h) from rfl, ← hIt_s (f := aLnS v (gHd K) 3) h0]
        refine Gx_iinc_3 dX0_digest_169 (Nat.le_of_ble_eq_true rfl) (Nat.ne_of_beq_eq_false rfl) ?_
        try simp (disch := omega) only [w32_id]
        refine Gx_goto (tgt := 114) dX0_digest_172 (by decide) ?_
        exact ih (r + 1) _ _ _ (by omega) (by omega)
theorem hIt_cg {f g : Int → Int → Int} {h : Int} : ∀ n : Nat, (∀ i x, 0 ≤ i → i < (n : Int) → f i x = g i x) → hIt f n h = hIt g n h
  | 0, _ => rfl
  | n + 1, he => by
    unfold hIt
    rw [hIt_cg n (fun i x i0 i1 => he i x i0 (by omega))]
    exact he _ _ (by omega) (by omega)
theorem aTl_53 {v : gM} {h : gH} {s x : Int} (hW : aWf v h) (h0 : 0 ≤ s) (h1 : s < (h (v 0 7)).2) : aTl (gUp v 0 53 x) h s = aTl v h s := by
  obtain ⟨w1, -, w3, -⟩ := hW.2.1 s h0 h1
  have w7 := hW.1.1
  unfold aTl
  rw [r53 0 7 (by omega), r53 (v 0 7) _ (by omega), r53 (v (v 0 7) s) 0 (by omega), r53 (v (v 0 7) s) 1 (by omega), r53 (v (v 0 7) s) 2 (by omega), r53 (v (v 0 7) s) 3 (by omega), r53 (v (v (v 0 7) s) 0) 0 (by omega), r53 (v (v (v 0 7) s) 0) 1 (by omega), r53 (v (v (v 0 7) s) 0) 2 (by omega)]
theorem aTb_53 {v : gM} {h : gH} {x : Int} (hW : aWf v h) (hT : aTb v h) : aTb (gUp v 0 53 x) h := by
  intro s h0 h1
  rw [r53 0 7 (by omega)] at h1
  obtain ⟨w1, -, w3, -⟩ := hW.2.1 s h0 h1
  have w7 := hW.1.1
  have := hT s h0 h1
  rw [r53 0 7 (by omega), r53 (v 0 7) _ (by omega), r53 (v (v 0 7) s) 0 (by omega), r53 (v (v 0 7) s) 1 (by omega), r53 (v (v 0 7) s) 2 (by omega)]
  refine ⟨fun j j0 j1 => ?_, this.2⟩
  rw [r53 _ j (by omega)]
  exact this.1 j j0 j1
theorem aWood_53 {v : gM} {h : gH} {x g : Int} (hW : aWf v h) (h33 : v 0 32 ≤ 24) : aWood (gUp v 0 53 x) h g = aWood v h g := by
  have w7 := hW.1.1
  have w8 := hW.2.2.1.1
  unfold aWood hWood
  rw [r53 0 7 (by omega), r53 0 8 (by omega), r53 0 12 (by omega), r53 0 32 (by omega)]
  have e1 : hIt (hSort (aAb (gUp v 0 53 x) h) (fun s => aAb (gUp v 0 53 x) h s 3) (aTl (gUp v 0 53 x) h)) (h (v 0 7)).2.toNat g = hIt (hSort (aAb v h) (fun s => aAb v h s 3) (aTl v h)) (h (v 0 7)).2.toNat g := by
    refine hIt_cg _ (fun i y i0 i1 => ?_)
    have ab : ∀ q, aAb (gUp v 0 53 x) h i q = aAb v h i q := fun q => aAb_53 hW i0 (by omega)
    unfold hSort
    simp only [ab]
    rw [aTl_53 hW i0 (by omega)]
  rw [e1]
  have e8 : (gUp v 0 53 x) (v 0 8) = v (v 0 8) := by
    funext k
    exact r53 _ _ (by omega)
  rw [e8]
  refine hIt_cg _ (fun i y i0 i1 => ?_)
  unfold hFour
  rw [aTold_53 hW i0 (by omega), aTold_53 hW i0 (by omega), aTold_53 hW i0 (by omega), aTold_53 hW i0 (by omega)]

set_option maxHeartbeats 4000000 in
theorem ct_X0_digest  (hW : aWf v (gHd K)) (hT : aTb v (gHd K)) (h22 : 0 ≤ v 0 12 ∧ v 0 12 ≤ 2) (h28 : 0 ≤ (gHd K (v 0 8)).2 ∧ (gHd K (v 0 8)).2 ≤ 8) (h33 : 0 ≤ v 0 32 ∧ v 0 32 ≤ 24) (hs : ∀ i, 0 ≤ i → i < v 0 32 → 0 ≤ v (v 16 i) 0 ∧ v (v 16 i) 0 < (gHd K (v 0 7)).2) (hR : ∀ r, 0 ≤ r → r < 6 → aSh v (gHd K) 2 10 r) (hX : ∀ r, 0 ≤ r → r < 4 → aSh v (gHd K) 3 11 r) (k : Q (1, aDig v (gHd K)) (gUp v 0 53 (aDig v (gHd K))) (gHd K) t) : Ctr Γ mX0_digest [(2, 0)] v (gHd K) t Q := by
  refine Ctr.ofG (ls := [(2, 0), (9, 0), (9, 0), (9, 0), (9, 0), (9, 0), (9, 0)]) rfl rfl rfl rfl rfl ?_
  refine Gx_aload_n (i := 0) dX0_digest_0 rfl rfl ?_
  refine Gx_ldc2 (n := 17) dX0_digest_1 rfl q1177 (by decide) ?_
  refine pf_X0_514_20 dX0_digest_4 rfl rfl ?_
  refine Gx_iconst ⟨by decide, by decide⟩ dX0_digest_7 ?_
  refine Gx_istore_n_1 dX0_digest_8 (Nat.le_of_ble_eq_true rfl) (Nat.ne_of_beq_eq_false rfl) ?_
  refine Gx_iload_n (i := 1) dX0_digest_9 rfl rfl ?_
  refine Gx_iconst ⟨by decide, by decide⟩ dX0_digest_10 ?_
  refine Gx_icmp_gt (tgt := 29) dX0_digest_11 (by decide) (fun hz => absurd hz (by decide)) (fun _ => ?_)
  refine Gx_aload_n (i := 0) dX0_digest_14 rfl rfl ?_
  refine Gx_aload_n (i := 0) dX0_digest_15 rfl rfl ?_
  refine Gx_iload_n (i := 1) dX0_digest_16 rfl rfl ?_
  refine cl_X0_509 dX0_digest_17 rfl rfl ⟨(Nat.le_of_ble_eq_true rfl), (Nat.le_of_ble_eq_true rfl)⟩ rfl ?_
  refine ct_X0_countsOf (fun r r0 r1 => ?_) (fun r r0 r1 => ?_) (aWf_53 hW) h33 (fun i i0 i1 => ?_) (by omega) ?_
  · rcases hR r r0 r1 with z | z
    · rw [r53 2 r (by omega)]; omega
    · rw [r53 2 r (by omega)]; omega
  · rcases hX r r0 r1 with z | z
    · rw [r53 3 r (by omega)]; omega
    · rw [r53 3 r (by omega)]; omega
  · have w := (hW.2.2.2.1 i i0 i1).1
    rw [r53 16 i (by omega), r53 (v 16 i) 0 (by omega)]
    exact hs i i0 i1
  rw [aCnt_53 hW h33.2 hs]
  refine cl_X0_517 dX0_digest_20 rfl rfl ⟨(Nat.le_of_ble_eq_true rfl), (Nat.le_of_ble_eq_true rfl)⟩ rfl ?_
  refine ct_X0_mix ?_
  rw [gH53, gUp_eq2 rfl rfl]
  refine Gx_iinc_1 dX0_digest_23 (Nat.le_of_ble_eq_true rfl) (Nat.ne_of_beq_eq_false rfl) ?_
  rw [show w32 (0 + 1) = (1 : Int) from by decide]
  refine Gx_goto (tgt := 9) dX0_digest_26 (by decide) ?_
  refine Gx_iload_n (i := 1) dX0_digest_9 rfl rfl ?_
  refine Gx_iconst ⟨by decide, by decide⟩ dX0_digest_10 ?_
  refine Gx_icmp_gt (tgt := 29) dX0_digest_11 (by decide) (fun hz => absurd hz (by decide)) (fun _ => ?_)
  refine Gx_aload_n (i := 0) dX0_digest_14 rfl rfl ?_
  refine Gx_aload_n (i := 0) dX0_digest_15 rfl rfl ?_
  refine Gx_iload_n (i := 1) dX0_digest_16 rfl rfl ?_
  refine cl_X0_509 dX0_digest_17 rfl rfl ⟨(Nat.le_of_ble_eq_true rfl), (Nat.le_of_ble_eq_true rfl)⟩ rfl ?_
  refine ct_X0_countsOf (fun r r0 r1 => ?_) (fun r r0 r1 => ?_) (aWf_53 hW) h33 (fun i i0 i1 => ?_) (by omega) ?_
  · rcases hR r r0 r1 with z | z
    · rw [r53 2 r (by omega)]; omega
    · rw [r53 2 r (by omega)]; omega
  · rcases hX r r0 r1 with z | z
    · rw [r53 3 r (by omega)]; omega
    · rw [r53 3 r (by omega)]; omega
  · have w := (hW.2.2.2.1 i i0 i1).1
    rw [r53 16 i (by omega), r53 (v 16 i) 0 (by omega)]
    exact hs i i0 i1
  rw [aCnt_53 hW h33.2 hs]
  refine cl_X0_517 dX0_digest_20 rfl rfl ⟨(Nat.le_of_ble_eq_true rfl), (Nat.le_of_ble_eq_true rfl)⟩ rfl ?_
  refine ct_X0_mix ?_
  rw [gH53, gUp_eq2 rfl rfl]
  refine Gx_iinc_1 dX0_digest_23 (Nat.le_of_ble_eq_true rfl) (Nat.ne_of_beq_eq_false rfl) ?_
  rw [show w32 (1 + 1) = (2 : Int) from by decide]
  refine Gx_goto (tgt := 9) dX0_digest_26 (by decide) ?_
  refine Gx_iload_n (i := 1) dX0_digest_9 rfl rfl ?_
  refine Gx_iconst ⟨by decide, by decide⟩ dX0_digest_10 ?_
  refine Gx_icmp_gt (tgt := 29) dX0_digest_11 (by decide) (fun hz => absurd hz (by decide)) (fun _ => ?_)
  refine Gx_aload_n (i := 0) dX0_digest_14 rfl rfl ?_
  refine Gx_aload_n (i := 0) dX0_digest_15 rfl rfl ?_
  refine Gx_iload_n (i := 1) dX0_digest_16 rfl rfl ?_
  refine cl_X0_509 dX0_digest_17 rfl rfl ⟨(Nat.le_of_ble_eq_true rfl), (Nat.le_of_ble_eq_true rfl)⟩ rfl ?_
  refine ct_X0_countsOf (fun r r0 r1 => ?_) (fun r r0 r1 => ?_) (aWf_53 hW) h33 (fun i i0 i1 => ?_) (by omega) ?_
  · rcases hR r r0 r1 with z | z
    · rw [r53 2 r (by omega)]; omega
    · rw [r53 2 r (by omega)]; omega
  · rcases hX r r0 r1 with z | z
    · rw [r53 3 r (by omega)]; omega
    · rw [r53 3 r (by omega)]; omega
  · have w := (hW.2.2.2.1 i i0 i1).1
    rw [r53 16 i (by omega), r53 (v 16 i) 0 (by omega)]
    exact hs i i0 i1
  rw [aCnt_53 hW h33.2 hs]
  refine cl_X0_517 dX0_digest_20 rfl rfl ⟨(Nat.le_of_ble_eq_true rfl), (Nat.le_of_ble_eq_true rfl)⟩ rfl ?_
  refine ct_X0_mix ?_
  rw [gH53, gUp_eq2 rfl rfl]
  refine Gx_iinc_1 dX0_digest_23 (Nat.le_of_ble_eq_true rfl) (Nat.ne_of_beq_eq_false rfl) ?_
  rw [show w32 (2 + 1) = (3 : Int) from by decide]
  refine Gx_goto (tgt := 9) dX0_digest_26 (by decide) ?_
  refine Gx_iload_n (i := 1) dX0_digest_9 rfl rfl ?_
  refine Gx_iconst ⟨by decide, by decide⟩ dX0_digest_10 ?_
  refine Gx_icmp_gt (tgt := 29) dX0_digest_11 (by decide) (fun hz => absurd hz (by decide)) (fun _ => ?_)
  refine Gx_aload_n (i := 0) dX0_digest_14 rfl rfl ?_
  refine Gx_aload_n (i := 0) dX0_digest_15 rfl rfl ?_
  refine Gx_iload_n (i := 1) dX0_digest_16 rfl rfl ?_
  refine cl_X0_509 dX0_digest_17 rfl rfl ⟨(Nat.le_of_ble_eq_true rfl), (Nat.le_of_ble_eq_true rfl)⟩ rfl ?_
  refine ct_X0_countsOf (fun r r0 r1 => ?_) (fun r r0 r1 => ?_) (aWf_53 hW) h33 (fun i i0 i1 => ?_) (by omega) ?_
  · rcases hR r r0 r1 with z | z
    · rw [r53 2 r (by omega)]; omega
    · rw [r53 2 r (by omega)]; omega
  · rcases hX r r0 r1 with z | z
    · rw [r53 3 r (by omega)]; omega
    · rw [r53 3 r (by omega)]; omega
  · have w := (hW.2.2.2.1 i i0 i1).1
    rw [r53 16 i (by omega), r53 (v 16 i) 0 (by omega)]
    exact hs i i0 i1
  rw [aCnt_53 hW h33.2 hs]
  refine cl_X0_517 dX0_digest_20 rfl rfl ⟨(Nat.le_of_ble_eq_true rfl), (Nat.le_of_ble_eq_true rfl)⟩ rfl ?_
  refine ct_X0_mix ?_
  rw [gH53, gUp_eq2 rfl rfl]
  refine Gx_iinc_1 dX0_digest_23 (Nat.le_of_ble_eq_true rfl) (Nat.ne_of_beq_eq_false rfl) ?_
  rw [show w32 (3 + 1) = (4 : Int) from by decide]
  refine Gx_goto (tgt := 9) dX0_digest_26 (by decide) ?_
  refine Gx_iload_n (i := 1) dX0_digest_9 rfl rfl ?_
  refine Gx_iconst ⟨by decide, by decide⟩ dX0_digest_10 ?_
  refine Gx_icmp_gt (tgt := 29) dX0_digest_11 (by decide) (fun hz => absurd hz (by decide)) (fun _ => ?_)
  refine Gx_aload_n (i := 0) dX0_digest_14 rfl rfl ?_
  refine Gx_aload_n (i := 0) dX0_digest_15 rfl rfl ?_
  refine Gx_iload_n (i := 1) dX0_digest_16 rfl rfl ?_
  refine cl_X0_509 dX0_digest_17 rfl rfl ⟨(Nat.le_of_ble_eq_true rfl), (Nat.le_of_ble_eq_true rfl)⟩ rfl ?_
  refine ct_X0_countsOf (fun r r0 r1 => ?_) (fun r r0 r1 => ?_) (aWf_53 hW) h33 (fun i i0 i1 => ?_) (by omega) ?_
  · rcases hR r r0 r1 with z | z
    · rw [r53 2 r (by omega)]; omega
    · rw [r53 2 r (by omega)]; omega
  · rcases hX r r0 r1 with z | z
    · rw [r53 3 r (by omega)]; omega
    · rw [r53 3 r (by omega)]; omega
  · have w := (hW.2.2.2.1 i i0 i1).1
    rw [r53 16 i (by omega), r53 (v 16 i) 0 (by omega)]
    exact hs i i0 i1
  rw [aCnt_53 hW h33.2 hs]
  refine cl_X0_517 dX0_digest_20 rfl rfl ⟨(Nat.le_of_ble_eq_true rfl), (Nat.le_of_ble_eq_true rfl)⟩ rfl ?_
  refine ct_X0_mix ?_
  rw [gH53, gUp_eq2 rfl rfl]
  refine Gx_iinc_1 dX0_digest_23 (Nat.le_of_ble_eq_true rfl) (Nat.ne_of_beq_eq_false rfl) ?_
  rw [show w32 (4 + 1) = (5 : Int) from by decide]
  refine Gx_goto (tgt := 9) dX0_digest_26 (by decide) ?_
  refine Gx_iload_n (i := 1) dX0_digest_9 rfl rfl ?_
  refine Gx_iconst ⟨by decide, by decide⟩ dX0_digest_10 ?_
  refine Gx_icmp_gt (tgt := 29) dX0_digest_11 (by decide) (fun hz => absurd hz (by decide)) (fun _ => ?_)
  refine Gx_aload_n (i := 0) dX0_digest_14 rfl rfl ?_
  refine Gx_aload_n (i := 0) dX0_digest_15 rfl rfl ?_
  refine Gx_iload_n (i := 1) dX0_digest_16 rfl rfl ?_
  refine cl_X0_509 dX0_digest_17 rfl rfl ⟨(Nat.le_of_ble_eq_true rfl), (Nat.le_of_ble_eq_true rfl)⟩ rfl ?_
  refine ct_X0_countsOf (fun r r0 r1 => ?_) (fun r r0 r1 => ?_) (aWf_53 hW) h33 (fun i i0 i1 => ?_) (by omega) ?_
  · rcases hR r r0 r1 with z | z
    · rw [r53 2 r (by omega)]; omega
    · rw [r53 2 r (by omega)]; omega
  · rcases hX r r0 r1 with z | z
    · rw [r53 3 r (by omega)]; omega
    · rw [r53 3 r (by omega)]; omega
  · have w := (hW.2.2.2.1 i i0 i1).1
    rw [r53 16 i (by omega), r53 (v 16 i) 0 (by omega)]
    exact hs i i0 i1
  rw [aCnt_53 hW h33.2 hs]
  refine cl_X0_517 dX0_digest_20 rfl rfl ⟨(Nat.le_of_ble_eq_true rfl), (Nat.le_of_ble_eq_true rfl)⟩ rfl ?_
  refine ct_X0_mix ?_
  rw [gH53, gUp_eq2 rfl rfl]
  refine Gx_iinc_1 dX0_digest_23 (Nat.le_of_ble_eq_true rfl) (Nat.ne_of_beq_eq_false rfl) ?_
  rw [show w32 (5 + 1) = (6 : Int) from by decide]
  refine Gx_goto (tgt := 9) dX0_digest_26 (by decide) ?_
  refine Gx_iload_n (i := 1) dX0_digest_9 rfl rfl ?_
  refine Gx_iconst ⟨by decide, by decide⟩ dX0_digest_10 ?_
  refine Gx_icmp_gt (tgt := 29) dX0_digest_11 (by decide) (fun _ => ?_) (fun hz => absurd hz (by decide))
  refine Gx_aload_n (i := 0) dX0_digest_29 rfl rfl ?_
  refine cl_X0_522 dX0_digest_30 rfl rfl ⟨(Nat.le_of_ble_eq_true rfl), (Nat.le_of_ble_eq_true rfl)⟩ rfl ?_
  refine ct_X0_mixWood (aWf_53 hW) (aTb_53 hW hT) h22 h28 h33 ?_
  rw [gH53, gUp_eq2 rfl rfl, aWood_53 hW h33.2]
  show Gx Γ mX0_digest _ _ _ (gUp v 0 53 (aWood v (gHd K) (hIt (hOne (aCnt v (gHd K))) 6 17))) (gHd K) t _ _ Q
  refine Gx_aload_n (i := 0) dX0_digest_33 rfl rfl ?_
  refine gf_X0_28_20 dX0_digest_34 rfl rfl ?_
  refine Gx_astore_n_1 dX0_digest_37 (Nat.le_of_ble_eq_true rfl) (Nat.ne_of_beq_eq_false rfl) ?_
  refine Gx_aload_n (i := 1) dX0_digest_38 rfl rfl ?_
  refine Gx_alen dX0_digest_39 rfl (by decide) (by decide) ?_
  refine Gx_istore_n_2 dX0_digest_40 (Nat.le_of_ble_eq_true rfl) (Nat.ne_of_beq_eq_false rfl) ?_
  refine Gx_iconst ⟨by decide, by decide⟩ dX0_digest_41 ?_
  refine Gx_istore_n_3 dX0_digest_42 (Nat.le_of_ble_eq_true rfl) (Nat.ne_of_beq_eq_false rfl) ?_
  refine lp_X0_digestO1 rfl hR (fun z4 z5 z6 => ?_) 6 0 _ _ _ (by omega) (by omega)
  refine Gx_aload_n (i := 0) dX0_digest_104 rfl rfl ?_
  refine gf_X0_34_20 dX0_digest_105 rfl rfl ?_
  refine Gx_astore_n_1 dX0_digest_108 (Nat.le_of_ble_eq_true rfl) (Nat.ne_of_beq_eq_false rfl) ?_
  refine Gx_aload_n (i := 1) dX0_digest_109 rfl rfl ?_
  refine Gx_alen dX0_digest_110 rfl (by decide) (by decide) ?_
  refine Gx_istore_n_2 dX0_digest_111 (Nat.le_of_ble_eq_true rfl) (Nat.ne_of_beq_eq_false rfl) ?_
  refine Gx_iconst ⟨by decide, by decide⟩ dX0_digest_112 ?_
  refine Gx_istore_n_3 dX0_digest_113 (Nat.le_of_ble_eq_true rfl) (Nat.ne_of_beq_eq_false rfl) ?_
  refine lp_X0_digestO2 rfl hX (fun z4 z5 z6 => ?_) 4 0 _ _ _ (by omega) (by omega)
  refine Gx_aload_n (i := 0) dX0_digest_175 rfl rfl ?_
  refine gf_X0_514_20 dX0_digest_176 rfl rfl ?_
  try simp (disch := omega) only [gUp_ne2, gUp_eq2]
  refine Gx_lreturn dX0_digest_179 rfl ?_
  exact k
end
