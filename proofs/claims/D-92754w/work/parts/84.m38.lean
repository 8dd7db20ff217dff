/-! AcornYearsModel: need -/
section
variable {Γ : gC} {v : gM} {K : gH} {t : Nat} {Q : gQ}
set_option maxHeartbeats 2000000 in
theorem lp_X2_need1 {bc bs : Nat} {v0 : gM} {z3 z4 : gV} (h20 : 0 ≤ v0 38 20 ∧ v0 38 20 ≤ 6) (k0 : (∀ s, 0 ≤ s → s < v0 38 20 → v0 50 (7 * s) ≠ 4) → Gx Γ mX2_need 55 [(2, 38), (0, 0), (0, v0 38 20), z3, z4] [] (gCopy v0 65 0 (v0 38 20) (fun e => v0 50 (7 * e + 6))) (gHd K) t bc bs Q) (k1 : (∃ s, 0 ≤ s ∧ s < v0 38 20 ∧ v0 50 (7 * s) = 4) → Gx Γ mX2_need 55 [(2, 38), (0, 1), (0, v0 38 20), z3, z4] [] (gCopy v0 65 0 (v0 38 20) (fun e => v0 50 (7 * e + 6))) (gHd K) t bc bs Q) : ∀ (j : Nat) (x b : Int), 0 ≤ x → x + j = v0 38 20 → ((b = 0 ∧ ∀ s, 0 ≤ s → s < x → v0 50 (7 * s) ≠ 4) ∨ (b = 1 ∧ ∃ s, 0 ≤ s ∧ s < v0 38 20 ∧ v0 50 (7 * s) = 4)) → Gx Γ mX2_need 4 [(2, 38), (0, b), (0, x), z3, z4] [] (gCopy v0 65 0 x (fun e => v0 50 (7 * e + 6))) (gHd K) t bc bs Q := by
  intro j
  induction j with
  | zero =>
    intro x b h0 h1 hI
    refine Gx_iload_n (i := 2) dX2_need_4 rfl rfl ?_
    refine Gx_aload_n (i := 0) dX2_need_5 rfl rfl ?_
    refine gf_X2_191_22 dX2_need_6 rfl rfl ?_
    rw [gCopy_ne (by omega)]
    refine Gx_icmp_ge (tgt := 55) dX2_need_9 (by decide) (fun c9 => ?_) (fun c9 => ?_)
    · have e0 : x = v0 38 20 := by omega
      rw [e0] at hI ⊢
      rcases hI with ⟨e, hz⟩ | ⟨e, hz⟩
      · rw [e]
        exact k0 hz
      · rw [e]
        exact k1 hz
    · exfalso
      omega
  | succ j ih =>
    intro x b h0 h1 hI
    refine Gx_iload_n (i := 2) dX2_need_4 rfl rfl ?_
    refine Gx_aload_n (i := 0) dX2_need_5 rfl rfl ?_
    refine gf_X2_191_22 dX2_need_6 rfl rfl ?_
    rw [gCopy_ne (by omega)]
    refine Gx_icmp_ge (tgt := 55) dX2_need_9 (by decide) (fun c9 => ?_) (fun c9 => ?_)
    · exfalso
      omega
    · refine Gx_iload_n (i := 1) dX2_need_12 rfl rfl ?_
      refine Gx_if_ne (tgt := 25) dX2_need_13 (by decide) (fun c13 => ?_) (fun c13 => ?_)
      · refine Gx_iconst ⟨by decide, by decide⟩ dX2_need_25 ?_
        refine Gx_goto (tgt := 30) dX2_need_26 (by decide) ?_
        refine Gx_istore_n_1 dX2_need_30 (Nat.le_of_ble_eq_true rfl) (Nat.ne_of_beq_eq_false rfl) ?_
        refine Gx_aload_n (i := 0) dX2_need_31 rfl rfl ?_
        refine gf_X2_90_22 dX2_need_32 rfl rfl ?_
        refine Gx_iload_n (i := 2) dX2_need_35 rfl rfl ?_
        refine Gx_aload_n (i := 0) dX2_need_36 rfl rfl ?_
        refine gf_X2_44_22 dX2_need_37 rfl rfl ?_
        refine Gx_bipush dX2_need_40 ⟨by decide, by decide⟩ ?_
        refine Gx_iload_n (i := 2) dX2_need_42 rfl rfl ?_
        refine Gx_imul dX2_need_43 ?_
        try simp (disch := omega) only [w32_id]
        refine Gx_bipush dX2_need_44 ⟨by decide, by decide⟩ ?_
        refine Gx_iadd dX2_need_46 ?_
        try simp (disch := omega) only [w32_id]
        refine Gx_iaload dX2_need_47 rfl (by first | omega | (simp (disch := omega) only [w32_id]; omega)) ?_
        rw [gCopy_ne (by omega)]
        refine Gx_iastore dX2_need_48 rfl (by first | omega | (simp (disch := omega) only [w32_id]; omega)) ?_
        refine Gx_iinc_2 dX2_need_49 (Nat.le_of_ble_eq_true rfl) (Nat.ne_of_beq_eq_false rfl) ?_
        try simp (disch := omega) only [w32_id]
        refine Gx_goto (tgt := 4) dX2_need_52 (by decide) ?_
        have e1 := gCopy_step (v := v0) (a := 65) (lo := 0) (i := x) (f := fun e => v0 50 (7 * e + 6)) h0
        rw [show (0 : Int) + x = x by omega] at e1
        have hi := fun b hb => ih (x + 1) b (by omega) (by omega) hb
        rw [← e1] at hi
        refine hi _ ?_
        rcases hI with ⟨e, hz⟩ | ⟨e, hz⟩
        · first
          | (refine Or.inl ⟨rfl, fun s s0 s1 => ?_⟩
             by_cases c : s = x
             · rw [c]; exact c22
             · exact hz s s0 (by omega))
          | exact Or.inr ⟨rfl, x, h0, by omega, c22⟩
          | (exfalso; omega)
        · first
          | exact Or.inr ⟨rfl, hz⟩
          | (exfalso; omega)
      · refine Gx_aload_n (i := 0) dX2_need_16 rfl rfl ?_
        refine Gx_iload_n (i := 2) dX2_need_17 rfl rfl ?_
        refine cl_X2_209 dX2_need_18 rfl rfl ⟨(Nat.le_of_ble_eq_true rfl), (Nat.le_of_ble_eq_true rfl)⟩ rfl ?_
        refine ct_X2_kind ⟨by omega, by omega⟩ ?_
        rw [gCopy_ne (by omega)]
        refine Gx_iconst ⟨by decide, by decide⟩ dX2_need_21 ?_
        refine Gx_icmp_ne (tgt := 29) dX2_need_22 (by decide) (fun c22 => ?_) (fun c22 => ?_)
        · refine Gx_iconst ⟨by decide, by decide⟩ dX2_need_29 ?_
          refine Gx_istore_n_1 dX2_need_30 (Nat.le_of_ble_eq_true rfl) (Nat.ne_of_beq_eq_false rfl) ?_
          refine Gx_aload_n (i := 0) dX2_need_31 rfl rfl ?_
          refine gf_X2_90_22 dX2_need_32 rfl rfl ?_
          refine Gx_iload_n (i := 2) dX2_need_35 rfl rfl ?_
          refine Gx_aload_n (i := 0) dX2_need_36 rfl rfl ?_
          refine gf_X2_44_22 dX2_need_37 rfl rfl ?_
          refine Gx_bipush dX2_need_40 ⟨by decide, by decide⟩ ?_
          refine Gx_iload_n (i := 2) dX2_need_42 rfl rfl ?_
          refine Gx_imul dX2_need_43 ?_
          try simp (disch := omega) only [w32_id]
          refine Gx_bipush dX2_need_44 ⟨by decide, by decide⟩ ?_
          refine Gx_iadd dX2_need_46 ?_
          try simp (disch := omega) only [w32_id]
          refine Gx_iaload dX2_need_47 rfl (by first | omega | (simp (disch := omega) only [w32_id]; omega)) ?_
          rw [gCopy_ne (by omega)]
          refine Gx_iastore dX2_need_48 rfl (by first | omega | (simp (disch := omega) only [w32_id]; omega)) ?_
          refine Gx_iinc_2 dX2_need_49 (Nat.le_of_ble_eq_true rfl) (Nat.ne_of_beq_eq_false rfl) ?_
          try simp (disch := omega) only [w32_id]
          refine Gx_goto (tgt := 4) dX2_need_52 (by decide) ?_
          have e1 := gCopy_step (v := v0) (a := 65) (lo := 0) (i := x) (f := fun e => v0 50 (7 * e + 6)) h0
          rw [show (0 : Int) + x = x by omega] at e1
          have hi := fun b hb => ih (x + 1) b (by omega) (by omega) hb
          rw [← e1] at hi
          refine hi _ ?_
          rcases hI with ⟨e, hz⟩ | ⟨e, hz⟩
          · first
            | (refine Or.inl ⟨rfl, fun s s0 s1 => ?_⟩
               by_cases c : s = x
               · rw [c]; exact c22
               · exact hz s s0 (by omega))
            | exact Or.inr ⟨rfl, x, h0, by omega, c22⟩
            | (exfalso; omega)
          · first
            | exact Or.inr ⟨rfl, hz⟩
            | (exfalso; omega)
        · refine Gx_iconst ⟨by decide, by decide⟩ dX2_need_25 ?_
          refine Gx_goto (tgt := 30) dX2_need_26 (by decide) ?_
          refine Gx_istore_n_1 dX2_need_30 (Nat.le_of_ble_eq_true rfl) (Nat.ne_of_beq_eq_false rfl) ?_
          refine Gx_aload_n (i := 0) dX2_need_31 rfl rfl ?_
          refine gf_X2_90_22 dX2_need_32 rfl rfl ?_
          refine Gx_iload_n (i := 2) dX2_need_35 rfl rfl ?_
          refine Gx_aload_n (i := 0) dX2_need_36 rfl rfl ?_
          refine gf_X2_44_22 dX2_need_37 rfl rfl ?_
          refine Gx_bipush dX2_need_40 ⟨by decide, by decide⟩ ?_
          refine Gx_iload_n (i := 2) dX2_need_42 rfl rfl ?_
          refine Gx_imul dX2_need_43 ?_
          try simp (disch := omega) only [w32_id]
          refine Gx_bipush dX2_need_44 ⟨by decide, by decide⟩ ?_
          refine Gx_iadd dX2_need_46 ?_
          try simp (disch := omega) only [w32_id]
          refine Gx_iaload dX2_need_47 rfl (by first | omega | (simp (disch := omega) only [w32_id]; omega)) ?_
          rw [gCopy_ne (by omega)]
          refine Gx_iastore dX2_need_48 rfl (by first | omega | (simp (disch := omega) only [w32_id]; omega)) ?_
          refine Gx_iinc_2 dX2_need_49 (Nat.le_of_ble_eq_true rfl) (Nat.ne_of_beq_eq_false rfl) ?_
          try simp (disch := omega) only [w32_id]
          refine Gx_goto (tgt := 4) dX2_need_52 (by decide) ?_
          have e1 := gCopy_step (v := v0) (a := 65) (lo := 0) (i := x) (f := fun e => v0 50 (7 * e + 6)) h0
          rw [show (0 : Int) + x = x by omega] at e1
          have hi := fun b hb => ih (x + 1) b (by omega) (by omega) hb
          rw [← e1] at hi
          refine hi _ ?_
          rcases hI with ⟨e, hz⟩ | ⟨e, hz⟩
          · first
            | (refine Or.inl ⟨rfl, fun s s0 s1 => ?_⟩
               by_cases c : s = x
               · rw [c]; exact c22
               · exact hz s s0 (by omega))
            | exact Or.inr ⟨rfl, x, h0, by omega, c22⟩
            | (exfalso; omega)
          · first
            | exact Or.inr ⟨rfl, hz⟩
            | (exfalso; omega)
set_option maxHeartbeats 2000000 in
theorem lp_X2_need2 {pp b1 b2 : Int} {bc bs : Nat} {v0 : gM} (h20 : 0 ≤ v0 38 20 ∧ v0 38 20 ≤ 6) (cont : ∀ v1, oNs v0 v1 → (∀ s, 0 ≤ s → s < v0 38 20 → v1 50 (7 * s + 6) = yNd v0 pp 50 (7 * s + 6)) → Gx Γ mX2_need 131 [(2, 38), (0, b1), (0, b2), (0, pp), (0, v0 38 20)] [] v1 (gHd K) t bc bs Q) : ∀ (j : Nat) (x : Int) (v : gM), 0 ≤ x → x + j = v0 38 20 → oNs v0 v → (∀ s, 0 ≤ s → s < x → v 50 (7 * s + 6) = yNd v0 pp 50 (7 * s + 6)) → Gx Γ mX2_need 82 [(2, 38), (0, b1), (0, b2), (0, pp), (0, x)] [] v (gHd K) t bc bs Q := by
  intro j
  induction j with
  | zero =>
    intro x v h0 h1 hS hP
    have q20 := hS.1 38 20 (by omega)
    have qk := hS.1 50 (7 * x) (by omega)
    refine Gx_iload dX2_need_82 rfl ?_
    refine Gx_aload_n (i := 0) dX2_need_84 rfl rfl ?_
    refine gf_X2_191_22 dX2_need_85 rfl rfl ?_
    rw [q20]
    refine Gx_icmp_ge (tgt := 131) dX2_need_88 (by decide) (fun c88 => ?_) (fun c88 => ?_)
    · have e0 : x = v0 38 20 := by omega
      rw [e0] at hP ⊢
      exact cont v hS hP
    · exfalso
      omega
  | succ j ih =>
    intro x v h0 h1 hS hP
    have q20 := hS.1 38 20 (by omega)
    have qk := hS.1 50 (7 * x) (by omega)
    refine Gx_iload dX2_need_82 rfl ?_
    refine Gx_aload_n (i := 0) dX2_need_84 rfl rfl ?_
    refine gf_X2_191_22 dX2_need_85 rfl rfl ?_
    rw [q20]
    refine Gx_icmp_ge (tgt := 131) dX2_need_88 (by decide) (fun c88 => ?_) (fun c88 => ?_)
    · exfalso
      omega
    · refine Gx_aload_n (i := 0) dX2_need_91 rfl rfl ?_
      refine gf_X2_44_22 dX2_need_92 rfl rfl ?_
      refine Gx_bipush dX2_need_95 ⟨by decide, by decide⟩ ?_
      refine Gx_iload dX2_need_97 rfl ?_
      refine Gx_imul dX2_need_99 ?_
      try simp (disch := omega) only [w32_id]
      refine Gx_bipush dX2_need_100 ⟨by decide, by decide⟩ ?_
      refine Gx_iadd dX2_need_102 ?_
      try simp (disch := omega) only [w32_id]
      refine Gx_aload_n (i := 0) dX2_need_103 rfl rfl ?_
      refine Gx_iload dX2_need_104 rfl ?_
      refine cl_X2_209 dX2_need_106 rfl rfl ⟨(Nat.le_of_ble_eq_true rfl), (Nat.le_of_ble_eq_true rfl)⟩ rfl ?_
      refine ct_X2_kind ⟨by omega, by omega⟩ ?_
      rw [qk]
      refine Gx_iconst ⟨by decide, by decide⟩ dX2_need_109 ?_
      refine Gx_icmp_ne (tgt := 117) dX2_need_110 (by decide) (fun c110 => ?_) (fun c110 => ?_)
      · refine Gx_aload_n (i := 0) dX2_need_117 rfl rfl ?_
        refine gf_X2_90_22 dX2_need_118 rfl rfl ?_
        refine Gx_iload dX2_need_121 rfl ?_
        refine Gx_iaload dX2_need_123 rfl (by first | omega | (simp (disch := omega) only [w32_id]; omega)) ?_
        refine Gx_iastore dX2_need_124 rfl (by first | omega | (simp (disch := omega) only [w32_id]; omega)) ?_
        refine Gx_iinc_4 dX2_need_125 (Nat.le_of_ble_eq_true rfl) (Nat.ne_of_beq_eq_false rfl) ?_
        try simp (disch := omega) only [w32_id]
        refine Gx_goto (tgt := 82) dX2_need_128 (by decide) ?_
        refine ih (x + 1) _ (by omega) (by omega) ⟨fun a k hk => ?_, fun s s0 s1 => ?_⟩ (fun s s0 s1 => ?_)
        · by_cases c : a = 50 ∧ k = 7 * x + 6
          · have c4 : ¬ v0 50 (7 * x) = 4 := by
              intro z
              exact hk (Or.inr (Or.inr ⟨c.1, by omega, by omega, by omega, by rw [c.2, show 7 * x + 6 - 6 = 7 * x by omega]; exact z⟩))
            rw [gUp_eq2 c.1 c.2, c.1, c.2]
            first
            | exact hS.2 x h0 (by omega)
            | exact absurd (c110) c4
          · rw [gUp_ne2 c]
            exact hS.1 a k hk
        · rw [gUp_ne2 (by omega)]
          exact hS.2 s s0 s1
        · by_cases c : s = x
          · rw [c, gUp_eq2 rfl rfl, yNd_6 h0 (by omega)]
            first
            | (rw [if_pos (c110)]; done)
            | (rw [if_neg c110]
               exact hS.2 x h0 (by omega))
          · rw [gUp_ne2 (by omega)]
            exact hP s s0 (by omega)
      · refine Gx_iload_n (i := 3) dX2_need_113 rfl rfl ?_
        refine Gx_goto (tgt := 124) dX2_need_114 (by decide) ?_
        refine Gx_iastore dX2_need_124 rfl (by first | omega | (simp (disch := omega) only [w32_id]; omega)) ?_
        refine Gx_iinc_4 dX2_need_125 (Nat.le_of_ble_eq_true rfl) (Nat.ne_of_beq_eq_false rfl) ?_
        try simp (disch := omega) only [w32_id]
        refine Gx_goto (tgt := 82) dX2_need_128 (by decide) ?_
        refine ih (x + 1) _ (by omega) (by omega) ⟨fun a k hk => ?_, fun s s0 s1 => ?_⟩ (fun s s0 s1 => ?_)
        · by_cases c : a = 50 ∧ k = 7 * x + 6
          · have c4 : ¬ v0 50 (7 * x) = 4 := by
              intro z
              exact hk (Or.inr (Or.inr ⟨c.1, by omega, by omega, by omega, by rw [c.2, show 7 * x + 6 - 6 = 7 * x by omega]; exact z⟩))
            rw [gUp_eq2 c.1 c.2, c.1, c.2]
            first
            | exact hS.2 x h0 (by omega)
            | exact absurd (c110) c4
          · rw [gUp_ne2 c]
            exact hS.1 a k hk
        · rw [gUp_ne2 (by omega)]
          exact hS.2 s s0 s1
        · by_cases c : s = x
          · rw [c, gUp_eq2 rfl rfl, yNd_6 h0 (by omega)]
            first
            | (rw [if_pos (c110)]; done)
            | (rw [if_neg c110]
               exact hS.2 x h0 (by omega))
          · rw [gUp_ne2 (by omega)]
            exact hP s s0 (by omega)
set_option maxHeartbeats 2000000 in
theorem lp_X2_need3 {b1 r : Int} {bc bs : Nat} {v0 : gM} {z4 : gV} (h20 : 0 ≤ v0 38 20 ∧ v0 38 20 ≤ 6) (cont : ∀ v1, oScW v0 v1 → Gx Γ mX2_need 210 [(2, 38), (0, b1), (0, r), (0, v0 38 20), z4] [] v1 (gHd K) t bc bs Q) : ∀ (j : Nat) (x : Int) (v : gM), 0 ≤ x → x + j = v0 38 20 → oNs v0 v → (∀ s, 0 ≤ s → s < x → v 50 (7 * s + 6) = v0 50 (7 * s + 6)) → Gx Γ mX2_need 178 [(2, 38), (0, b1), (0, r), (0, x), z4] [] v (gHd K) t bc bs Q := by
  intro j
  induction j with
  | zero =>
    intro x v h0 h1 hS hP
    have q20 := hS.1 38 20 (by omega)
    refine Gx_iload_n (i := 3) dX2_need_178 rfl rfl ?_
    refine Gx_aload_n (i := 0) dX2_need_179 rfl rfl ?_
    refine gf_X2_191_22 dX2_need_180 rfl rfl ?_
    rw [q20]
    refine Gx_icmp_ge (tgt := 210) dX2_need_183 (by decide) (fun c183 => ?_) (fun c183 => ?_)
    · have e0 : x = v0 38 20 := by omega
      rw [e0] at hP ⊢
      refine cont v (fun a k hk => ?_)
      by_cases c : a = 50 ∧ 0 ≤ k ∧ k < 7 * v0 38 20 ∧ k % 7 = 6
      · have g := hP (k / 7) (by omega) (by omega)
        rw [show 7 * (k / 7) + 6 = k by omega] at g
        rw [c.1]
        exact g
      · exact hS.1 a k (by omega)
    · exfalso
      omega
  | succ j ih =>
    intro x v h0 h1 hS hP
    have q20 := hS.1 38 20 (by omega)
    refine Gx_iload_n (i := 3) dX2_need_178 rfl rfl ?_
    refine Gx_aload_n (i := 0) dX2_need_179 rfl rfl ?_
    refine gf_X2_191_22 dX2_need_180 rfl rfl ?_
    rw [q20]
    refine Gx_icmp_ge (tgt := 210) dX2_need_183 (by decide) (fun c183 => ?_) (fun c183 => ?_)
    · exfalso
      omega
    · refine Gx_aload_n (i := 0) dX2_need_186 rfl rfl ?_
      refine gf_X2_44_22 dX2_need_187 rfl rfl ?_
      refine Gx_bipush dX2_need_190 ⟨by decide, by decide⟩ ?_
      refine Gx_iload_n (i := 3) dX2_need_192 rfl rfl ?_
      refine Gx_imul dX2_need_193 ?_
      try simp (disch := omega) only [w32_id]
      refine Gx_bipush dX2_need_194 ⟨by decide, by decide⟩ ?_
      refine Gx_iadd dX2_need_196 ?_
      try simp (disch := omega) only [w32_id]
      refine Gx_aload_n (i := 0) dX2_need_197 rfl rfl ?_
      refine gf_X2_90_22 dX2_need_198 rfl rfl ?_
      refine Gx_iload_n (i := 3) dX2_need_201 rfl rfl ?_
      refine Gx_iaload dX2_need_202 rfl (by first | omega | (simp (disch := omega) only [w32_id]; omega)) ?_
      refine Gx_iastore dX2_need_203 rfl (by first | omega | (simp (disch := omega) only [w32_id]; omega)) ?_
      refine Gx_iinc_3 dX2_need_204 (Nat.le_of_ble_eq_true rfl) (Nat.ne_of_beq_eq_false rfl) ?_
      try simp (disch := omega) only [w32_id]
      refine Gx_goto (tgt := 178) dX2_need_207 (by decide) ?_
      refine ih (x + 1) _ (by omega) (by omega) ⟨fun a k hk => ?_, fun s s0 s1 => ?_⟩ (fun s s0 s1 => ?_)
      · by_cases c : a = 50 ∧ k = 7 * x + 6
        · rw [gUp_eq2 c.1 c.2, c.1, c.2]
          exact hS.2 x h0 (by omega)
        · rw [gUp_ne2 c]
          exact hS.1 a k hk
      · rw [gUp_ne2 (by omega)]
        exact hS.2 s s0 s1
      · by_cases c : s = x
        · rw [c, gUp_eq2 rfl rfl]
          exact hS.2 x h0 (by omega)
        · rw [gUp_ne2 (by omega)]
          exact hP s s0 (by omega)
set_option maxHeartbeats 4000000 in
theorem lp_X2_need4 {b1 : Int} {bc bs : Nat} {v0 : gM} (hok : yOK v0) (hy : v0 38 31 ≤ 9999) (k1 : ∀ (v1 : gM) (r : Int), oScW v0 v1 → oLst (yNe (mN v0)) 100 r → Q (0, r) v1 (gHd K) t) : ∀ (j : Nat) (x b : Int) (v : gM) (z4 : gV), 0 ≤ x → x + j = 100 → oNs v0 v → ((b = -9 ∧ ∀ q, 0 ≤ q → q < x → ¬ yNe (mN v0) q) ∨ ((0 ≤ b ∧ b < 100) ∧ yNe (mN v0) b ∧ ∀ q, 0 ≤ q → q < b → ¬ yNe (mN v0) q)) → Gx Γ mX2_need 67 [(2, 38), (0, b1), (0, b), (0, x), z4] [] v (gHd K) t bc bs Q := by
  intro j
  induction j with
  | zero =>
    intro x b v z4 h0 h1 hS hI
    have h20 := hok.1
    refine Gx_iload_n (i := 3) dX2_need_67 rfl rfl ?_
    refine Gx_bipush dX2_need_68 ⟨by decide, by decide⟩ ?_
    refine Gx_icmp_ge (tgt := 176) dX2_need_70 (by decide) (fun c70 => ?_) (fun c70 => ?_)
    · refine Gx_iconst ⟨by decide, by decide⟩ dX2_need_176 ?_
      refine Gx_istore_n_3 dX2_need_177 (Nat.le_of_ble_eq_true rfl) (Nat.ne_of_beq_eq_false rfl) ?_
      refine lp_X2_need3 h20 (fun v3 hS3 => ?_) (v0 38 20).toNat 0 v (by omega) (by omega) hS (fun s s0 s1 => by omega)
      refine Gx_iload_n (i := 2) dX2_need_210 rfl rfl ?_
      refine Gx_ireturn dX2_need_211 trivial ?_
      refine k1 v3 b hS3 ?_
      rcases hI with ⟨e, hz⟩ | hz
      · exact Or.inl ⟨e, fun q q0 q1 => hz q q0 (by omega)⟩
      · exact Or.inr hz
    · exfalso
      omega
  | succ j ih =>
    intro x b v z4 h0 h1 hS hI
    have h20 := hok.1
    refine Gx_iload_n (i := 3) dX2_need_67 rfl rfl ?_
    refine Gx_bipush dX2_need_68 ⟨by decide, by decide⟩ ?_
    refine Gx_icmp_ge (tgt := 176) dX2_need_70 (by decide) (fun c70 => ?_) (fun c70 => ?_)
    · refine Gx_iconst ⟨by decide, by decide⟩ dX2_need_176 ?_
      refine Gx_istore_n_3 dX2_need_177 (Nat.le_of_ble_eq_true rfl) (Nat.ne_of_beq_eq_false rfl) ?_
      refine lp_X2_need3 h20 (fun v3 hS3 => ?_) (v0 38 20).toNat 0 v (by omega) (by omega) hS (fun s s0 s1 => by omega)
      refine Gx_iload_n (i := 2) dX2_need_210 rfl rfl ?_
      refine Gx_ireturn dX2_need_211 trivial ?_
      refine k1 v3 b hS3 ?_
      rcases hI with ⟨e, hz⟩ | hz
      · exact Or.inl ⟨e, fun q q0 q1 => hz q q0 (by omega)⟩
      · exact Or.inr hz
    · refine Gx_iload_n (i := 2) dX2_need_73 rfl rfl ?_
      refine Gx_bipush dX2_need_74 ⟨by decide, by decide⟩ ?_
      refine Gx_icmp_ne (tgt := 176) dX2_need_76 (by decide) (fun c76 => ?_) (fun c76 => ?_)
      · refine Gx_iconst ⟨by decide, by decide⟩ dX2_need_176 ?_
        refine Gx_istore_n_3 dX2_need_177 (Nat.le_of_ble_eq_true rfl) (Nat.ne_of_beq_eq_false rfl) ?_
        refine lp_X2_need3 h20 (fun v3 hS3 => ?_) (v0 38 20).toNat 0 v (by omega) (by omega) hS (fun s s0 s1 => by omega)
        refine Gx_iload_n (i := 2) dX2_need_210 rfl rfl ?_
        refine Gx_ireturn dX2_need_211 trivial ?_
        refine k1 v3 b hS3 ?_
        rcases hI with ⟨e, hz⟩ | hz
        · exact Or.inl ⟨e, fun q q0 q1 => hz q q0 (by omega)⟩
        · exact Or.inr hz
      · refine Gx_iconst ⟨by decide, by decide⟩ dX2_need_79 ?_
        refine Gx_istore_4 dX2_need_80 (Nat.le_of_ble_eq_true rfl) (Nat.ne_of_beq_eq_false rfl) ?_
        refine lp_X2_need2 (v0 := v0) h20 (fun v1 hS1 hP1 => ?_) (v0 38 20).toNat 0 v (by omega) (by omega) hS (fun s s0 s1 => by omega)
        have hmN := oNs_p hS1 hP1
        have hov : yOK v1 := yOK_of (by rw [hmN]; exact yOK_nd (yOK_N hok) ⟨h0, by omega⟩)
        refine Gx_aload_n (i := 0) dX2_need_131 rfl rfl ?_
        refine Gx_bipush dX2_need_132 ⟨by decide, by decide⟩ ?_
        refine Gx_bipush dX2_need_134 ⟨by decide, by decide⟩ ?_
        refine cl_X2_339 dX2_need_136 rfl rfl ⟨(Nat.le_of_ble_eq_true rfl), (Nat.le_of_ble_eq_true rfl)⟩ rfl ?_
        refine ct_X2_laySums hov (by rw [hS1.1 38 31 (by omega)]; exact hy) (by have := hov.2.2.1; omega) (by have := hov.2.2.2.2.1.1; omega) (fun v2 m l hml hS2 h47 hSm => ?_) (fun hno v2 hS2 => ?_)
        · rw [hmN] at hml hSm
          obtain ⟨s48, s49, s50, s51, s52, s53, -⟩ := hSm
          have hoN := yOK_nd (p := x) (yOK_N hok) ⟨h0, by omega⟩
          have b1' := yOP_le hoN m l
          have hiff : yNe (mN v0) x ↔ (0 < yTot yO1 (yIt (yNd (mN v0) x) m) l ∧ yTot yP1 (yIt (yNd (mN v0) x) m) l = yTot yO1 (yIt (yNd (mN v0) x) m) l) := by
            constructor
            · rintro ⟨m', l', g, e⟩
              have e1 := oHas_u hoN hml g
              rw [e1.1, e1.2]
              exact e
            · intro e
              exact ⟨m, l, hml, e⟩
          refine Gx_if_eq (tgt := 167) dX2_need_139 (by decide) (fun hz => absurd hz (by decide)) (fun _ => ?_)
          refine Gx_aload_n (i := 0) dX2_need_142 rfl rfl ?_
          refine gf_X2_321_22 dX2_need_143 rfl rfl ?_
          rw [s52]
          refine Gx_lconst0 dX2_need_146 ?_
          try simp (disch := omega) only [w64_id]
          refine Gx_lcmpif_le (tgt := 167) dX2_need_147 dX2_need_148 (by decide) (fun c147 => ?_) (fun c147 => ?_)
          · refine Gx_bipush dX2_need_167 ⟨by decide, by decide⟩ ?_
            refine Gx_istore_n_2 dX2_need_169 (Nat.le_of_ble_eq_true rfl) (Nat.ne_of_beq_eq_false rfl) ?_
            refine Gx_iinc_3 dX2_need_170 (Nat.le_of_ble_eq_true rfl) (Nat.ne_of_beq_eq_false rfl) ?_
            try simp (disch := omega) only [w32_id]
            refine Gx_goto (tgt := 67) dX2_need_173 (by decide) ?_
            refine ih (x + 1) _ v2 _ (by omega) (by omega) (oNs_scr hS1 hS2) ?_
            rcases hI with ⟨e, hz⟩ | hz
            · first
              | (refine Or.inr ⟨⟨h0, by omega⟩, ?_, hz⟩
                 exact hiff.2 ⟨by omega, by omega⟩)
              | (refine Or.inl ⟨rfl, fun q q0 q1 => ?_⟩
                 by_cases c : q = x
                 · rw [c]
                   first
                   | exact hnn
                   | (intro z
                      have := hiff.1 z
                      omega)
                 · exact hz q q0 (by omega))
            · exfalso
              omega
          · refine Gx_aload_n (i := 0) dX2_need_151 rfl rfl ?_
            refine gf_X2_324_22 dX2_need_152 rfl rfl ?_
            rw [s53]
            refine Gx_aload_n (i := 0) dX2_need_155 rfl rfl ?_
            refine gf_X2_321_22 dX2_need_156 rfl rfl ?_
            rw [s52]
            try simp (disch := omega) only [w64_id]
            refine Gx_lcmpif_ne (tgt := 167) dX2_need_159 dX2_need_160 (by decide) (fun c159 => ?_) (fun c159 => ?_)
            · refine Gx_bipush dX2_need_167 ⟨by decide, by decide⟩ ?_
              refine Gx_istore_n_2 dX2_need_169 (Nat.le_of_ble_eq_true rfl) (Nat.ne_of_beq_eq_false rfl) ?_
              refine Gx_iinc_3 dX2_need_170 (Nat.le_of_ble_eq_true rfl) (Nat.ne_of_beq_eq_false rfl) ?_
              try simp (disch := omega) only [w32_id]
              refine Gx_goto (tgt := 67) dX2_need_173 (by decide) ?_
              refine ih (x + 1) _ v2 _ (by omega) (by omega) (oNs_scr hS1 hS2) ?_
              rcases hI with ⟨e, hz⟩ | hz
              · first
                | (refine Or.inr ⟨⟨h0, by omega⟩, ?_, hz⟩
                   exact hiff.2 ⟨by omega, by omega⟩)
                | (refine Or.inl ⟨rfl, fun q q0 q1 => ?_⟩
                   by_cases c : q = x
                   · rw [c]
                     first
                     | exact hnn
                     | (intro z
                        have := hiff.1 z
                        omega)
                   · exact hz q q0 (by omega))
              · exfalso
                omega
            · refine Gx_iload_n (i := 3) dX2_need_163 rfl rfl ?_
              refine Gx_goto (tgt := 169) dX2_need_164 (by decide) ?_
              refine Gx_istore_n_2 dX2_need_169 (Nat.le_of_ble_eq_true rfl) (Nat.ne_of_beq_eq_false rfl) ?_
              refine Gx_iinc_3 dX2_need_170 (Nat.le_of_ble_eq_true rfl) (Nat.ne_of_beq_eq_false rfl) ?_
              try simp (disch := omega) only [w32_id]
              refine Gx_goto (tgt := 67) dX2_need_173 (by decide) ?_
              refine ih (x + 1) _ v2 _ (by omega) (by omega) (oNs_scr hS1 hS2) ?_
              rcases hI with ⟨e, hz⟩ | hz
              · first
                | (refine Or.inr ⟨⟨h0, by omega⟩, ?_, hz⟩
                   exact hiff.2 ⟨by omega, by omega⟩)
                | (refine Or.inl ⟨rfl, fun q q0 q1 => ?_⟩
                   by_cases c : q = x
                   · rw [c]
                     first
                     | exact hnn
                     | (intro z
                        have := hiff.1 z
                        omega)
                   · exact hz q q0 (by omega))
              · exfalso
                omega
        · rw [hmN] at hno
          have hnn : ¬ yNe (mN v0) x := by
            rintro ⟨m', l', g, e⟩
            exact hno m' l' g.1 g.2
          refine Gx_if_eq (tgt := 167) dX2_need_139 (by decide) (fun _ => ?_) (fun hz => absurd hz (by decide))
          refine Gx_bipush dX2_need_167 ⟨by decide, by decide⟩ ?_
          refine Gx_istore_n_2 dX2_need_169 (Nat.le_of_ble_eq_true rfl) (Nat.ne_of_beq_eq_false rfl) ?_
          refine Gx_iinc_3 dX2_need_170 (Nat.le_of_ble_eq_true rfl) (Nat.ne_of_beq_eq_false rfl) ?_
          try simp (disch := omega) only [w32_id]
          refine Gx_goto (tgt := 67) dX2_need_173 (by decide) ?_
          refine ih (x + 1) _ v2 _ (by omega) (by omega) (oNs_scr hS1 hS2) ?_
          rcases hI with ⟨e, hz⟩ | hz
          · first
            | (refine Or.inr ⟨⟨h0, by omega⟩, ?_, hz⟩
               exact hiff.2 ⟨by omega, by omega⟩)
            | (refine Or.inl ⟨rfl, fun q q0 q1 => ?_⟩
               by_cases c : q = x
               · rw [c]
                 first
                 | exact hnn
                 | (intro z
                    have := hiff.1 z
                    omega)
               · exact hz q q0 (by omega))
          · exfalso
            omega
set_option maxHeartbeats 2000000 in
theorem ct_X2_need  (hok : yOK v) (hy : v 38 31 ≤ 9999) (kS : (∀ s, 0 ≤ s → s < v 38 20 → v 50 (7 * s) ≠ 4) → ∀ v1, oScW v v1 → Q (0, -4) v1 (gHd K) t) (k1 : (∃ s, 0 ≤ s ∧ s < v 38 20 ∧ v 50 (7 * s) = 4) → ∀ (v1 : gM) (r : Int), oScW v v1 → oLst (yNe (mN v)) 100 r → Q (0, r) v1 (gHd K) t) : Ctr Γ mX2_need [(2, 38)] v (gHd K) t Q := by
  refine Ctr.ofG (ls := [(2, 38), (9, 0), (9, 0), (9, 0), (9, 0)]) rfl rfl rfl rfl rfl ?_
  refine Gx_iconst ⟨by decide, by decide⟩ dX2_need_0 ?_
  refine Gx_istore_n_1 dX2_need_1 (Nat.le_of_ble_eq_true rfl) (Nat.ne_of_beq_eq_false rfl) ?_
  refine Gx_iconst ⟨by decide, by decide⟩ dX2_need_2 ?_
  refine Gx_istore_n_2 dX2_need_3 (Nat.le_of_ble_eq_true rfl) (Nat.ne_of_beq_eq_false rfl) ?_
  have hl := lp_X2_need1 (Γ := Γ) (K := K) (t := t) (Q := Q) (bc := 0) (bs := 0) (v0 := v) (z3 := (9, 0)) (z4 := (9, 0)) hok.1 (fun hz => ?_) (fun hz => ?_) (v 38 20).toNat 0 0 (by omega) (by have := hok.1; omega) (Or.inl ⟨rfl, fun s s0 s1 => by omega⟩)
  · rw [gCopy_0] at hl
    exact hl
  · have hNs : oNs v (gCopy v 65 0 (v 38 20) (fun e => v 50 (7 * e + 6))) := by
      have := hok.1
      refine ⟨fun a k hk => ?_, fun s s0 s1 => ?_⟩
      · unfold gCopy
        rw [if_neg (by omega)]
      · unfold gCopy
        rw [if_pos (by omega), show s - 0 = s by omega]
    refine Gx_iload_n (i := 1) dX2_need_55 rfl rfl ?_
    refine Gx_if_ne (tgt := 62) dX2_need_56 (by decide) (fun hz => absurd hz (by decide)) (fun _ => ?_)
    refine Gx_bipush dX2_need_59 ⟨by decide, by decide⟩ ?_
    refine Gx_ireturn dX2_need_61 trivial ?_
    refine kS hz _ (fun a k hk => ?_)
    unfold gCopy
    rw [if_neg (by omega)]
  · have hNs : oNs v (gCopy v 65 0 (v 38 20) (fun e => v 50 (7 * e + 6))) := by
      have := hok.1
      refine ⟨fun a k hk => ?_, fun s s0 s1 => ?_⟩
      · unfold gCopy
        rw [if_neg (by omega)]
      · unfold gCopy
        rw [if_pos (by omega), show s - 0 = s by omega]
    refine Gx_iload_n (i := 1) dX2_need_55 rfl rfl ?_
    refine Gx_if_ne (tgt := 62) dX2_need_56 (by decide) (fun _ => ?_) (fun hz => absurd hz (by decide))
    refine Gx_bipush dX2_need_62 ⟨by decide, by decide⟩ ?_
    refine Gx_istore_n_2 dX2_need_64 (Nat.le_of_ble_eq_true rfl) (Nat.ne_of_beq_eq_false rfl) ?_
    refine Gx_iconst ⟨by decide, by decide⟩ dX2_need_65 ?_
    refine Gx_istore_n_3 dX2_need_66 (Nat.le_of_ble_eq_true rfl) (Nat.ne_of_beq_eq_false rfl) ?_
    refine lp_X2_need4 hok hy (k1 hz) 100 0 (-9) _ _ (by omega) (by omega) hNs (Or.inl ⟨rfl, fun q q0 q1 => by omega⟩)
end
