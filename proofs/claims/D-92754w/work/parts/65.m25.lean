/-! AcornYearsModel: digest -/
section
variable {Γ : gC} {v : gM} {K : gH} {t : Nat} {Q : gQ}
def mRowS (v : gM) (r h : Int) : Int := hIt (hOne (fun i => v 41 (80 * r + i))) (v 40 r).toNat (hMix h (v 40 r))
def mTxtS (v : gM) (r h : Int) : Int := hIt (hOne (fun i => sByte v r i)) (v 43 r).toNat (hMix h (v 43 r))
def mDig (v : gM) : Int := hIt (mTxtS v) 4 (hIt (mRowS v) 6 (mWood v (hIt (hOne (sCounted v)) 6 17)))

set_option maxHeartbeats 2000000 in
theorem lp_X2_digest1 {r n h : Int} {bc bs : Nat} (hr : 0 ≤ r ∧ r ≤ 5) (hn : (v 40 r).toNat = n.toNat) (hn0 : 0 ≤ n) (hs : v 40 r = n ∨ (v 40 r = -1 ∧ n = 0)) (hn8 : n ≤ 80) (cont : Gx Γ mX2_digest 83 [(2, 38), (0, r), (0, n)] [] (gUp v 38 60 (hIt (hOne (fun i => v 41 (80 * r + i))) n.toNat h)) (gHd K) t bc bs Q) : ∀ (j : Nat) (i : Int), 0 ≤ i → i + j = n → Gx Γ mX2_digest 56 [(2, 38), (0, r), (0, i)] [] (gUp v 38 60 (hIt (hOne (fun i => v 41 (80 * r + i))) i.toNat h)) (gHd K) t bc bs Q := by
  intro j
  induction j with
  | zero =>
    intro i h0 h1
    refine Gx_iload_n (i := 2) dX2_digest_56 rfl rfl ?_
    refine Gx_aload_n (i := 0) dX2_digest_57 rfl rfl ?_
    refine gf_X2_13_22 dX2_digest_58 rfl rfl ?_
    refine Gx_iload_n (i := 1) dX2_digest_61 rfl rfl ?_
    refine Gx_iaload dX2_digest_62 rfl (by first | omega | (simp (disch := omega) only [w32_id]; omega)) ?_
    try simp (disch := omega) only [gUp_ne2, gUp_eq2]
    refine Gx_icmp_ge (tgt := 83) dX2_digest_63 (by decide) (fun c63 => ?_) (fun c63 => ?_)
    · have e0 : i = n := by omega
      rw [e0]
      exact cont
    · exfalso
      omega
  | succ j ih =>
    intro i h0 h1
    refine Gx_iload_n (i := 2) dX2_digest_56 rfl rfl ?_
    refine Gx_aload_n (i := 0) dX2_digest_57 rfl rfl ?_
    refine gf_X2_13_22 dX2_digest_58 rfl rfl ?_
    refine Gx_iload_n (i := 1) dX2_digest_61 rfl rfl ?_
    refine Gx_iaload dX2_digest_62 rfl (by first | omega | (simp (disch := omega) only [w32_id]; omega)) ?_
    try simp (disch := omega) only [gUp_ne2, gUp_eq2]
    refine Gx_icmp_ge (tgt := 83) dX2_digest_63 (by decide) (fun c63 => ?_) (fun c63 => ?_)
    · exfalso
      omega
    · refine Gx_aload_n (i := 0) dX2_digest_66 rfl rfl ?_
      refine Gx_aload_n (i := 0) dX2_digest_67 rfl rfl ?_
      refine Gx_iload_n (i := 1) dX2_digest_68 rfl rfl ?_
      refine Gx_iload_n (i := 2) dX2_digest_69 rfl rfl ?_
      refine cl_X2_122 dX2_digest_70 rfl rfl ⟨(Nat.le_of_ble_eq_true rfl), (Nat.le_of_ble_eq_true rfl)⟩ rfl ?_
      refine ct_X2_rowAt (by omega) (by omega) ?_
      rw [gUp_ne2 (by omega)]
      refine Gx_i2l dX2_digest_73 ?_
      refine cl_X2_384 dX2_digest_74 rfl rfl ⟨(Nat.le_of_ble_eq_true rfl), (Nat.le_of_ble_eq_true rfl)⟩ rfl ?_
      refine ct_X2_mix ?_
      rw [gHv_up, gUp_eq2 rfl rfl]
      refine Gx_iinc_2 dX2_digest_77 (Nat.le_of_ble_eq_true rfl) (Nat.ne_of_beq_eq_false rfl) ?_
      try simp (disch := omega) only [w32_id]
      refine Gx_goto (tgt := 56) dX2_digest_80 (by decide) ?_
      have hx := hIt_s (f := hOne (fun i => v 41 (80 * r + i))) (h := h) h0
      have hi := ih (i + 1) (by omega) (by omega)
      rw [hx] at hi
      exact hi
set_option maxHeartbeats 2000000 in
theorem lp_X2_digestO1 {n h : Int} {bc bs : Nat} (hn : n = 6) (hS : ∀ r, 0 ≤ r → r ≤ 5 → -1 ≤ v 40 r ∧ v 40 r ≤ 80) (cont : ∀ z2 : gV, Gx Γ mX2_digest 89 [(2, 38), (0, n), z2] [] (gUp v 38 60 (hIt (mRowS v) n.toNat h)) (gHd K) t bc bs Q) : ∀ (j : Nat) (r : Int) (z2 : gV), 0 ≤ r → r + j = n → Gx Γ mX2_digest 37 [(2, 38), (0, r), z2] [] (gUp v 38 60 (hIt (mRowS v) r.toNat h)) (gHd K) t bc bs Q := by
  intro j
  induction j with
  | zero =>
    intro r z2 h0 h1
    refine Gx_iload_n (i := 1) dX2_digest_37 rfl rfl ?_
    refine Gx_bipush dX2_digest_38 ⟨by decide, by decide⟩ ?_
    refine Gx_icmp_ge (tgt := 89) dX2_digest_40 (by decide) (fun c40 => ?_) (fun c40 => ?_)
    · have e0 : r = n := by omega
      rw [e0]
      exact cont z2
    · exfalso
      omega
  | succ j ih =>
    intro r z2 h0 h1
    refine Gx_iload_n (i := 1) dX2_digest_37 rfl rfl ?_
    refine Gx_bipush dX2_digest_38 ⟨by decide, by decide⟩ ?_
    refine Gx_icmp_ge (tgt := 89) dX2_digest_40 (by decide) (fun c40 => ?_) (fun c40 => ?_)
    · exfalso
      omega
    · refine Gx_aload_n (i := 0) dX2_digest_43 rfl rfl ?_
      refine Gx_aload_n (i := 0) dX2_digest_44 rfl rfl ?_
      refine gf_X2_13_22 dX2_digest_45 rfl rfl ?_
      refine Gx_iload_n (i := 1) dX2_digest_48 rfl rfl ?_
      refine Gx_iaload dX2_digest_49 rfl (by first | omega | (simp (disch := omega) only [w32_id]; omega)) ?_
      try simp (disch := omega) only [gUp_ne2, gUp_eq2]
      refine Gx_i2l dX2_digest_50 ?_
      refine cl_X2_384 dX2_digest_51 rfl rfl ⟨(Nat.le_of_ble_eq_true rfl), (Nat.le_of_ble_eq_true rfl)⟩ rfl ?_
      refine ct_X2_mix ?_
      rw [gHv_up, gUp_eq2 rfl rfl]
      refine Gx_iconst ⟨by decide, by decide⟩ dX2_digest_54 ?_
      refine Gx_istore_n_2 dX2_digest_55 (Nat.le_of_ble_eq_true rfl) (Nat.ne_of_beq_eq_false rfl) ?_
      have hs := hS r h0 (by omega)
      obtain ⟨m, hm⟩ : ∃ m : Int, m = ((v 40 r).toNat : Int) := ⟨_, rfl⟩
      refine lp_X2_digest1 (n := m) (h := hMix (hIt (mRowS v) r.toNat h) (v 40 r)) (by omega) (by omega) (by omega) (by omega) (by omega) ?_ m.toNat 0 (by omega) (by omega)
      have em : hIt (hOne (fun i => v 41 (80 * r + i))) m.toNat (hMix (hIt (mRowS v) r.toNat h) (v 40 r)) = mRowS v r (hIt (mRowS v) r.toNat h) := by
        unfold mRowS
        rw [show m.toNat = (v 40 r).toNat by omega]
      rw [em, ← hIt_s (f := mRowS v) h0]
      refine Gx_iinc_1 dX2_digest_83 (Nat.le_of_ble_eq_true rfl) (Nat.ne_of_beq_eq_false rfl) ?_
      try simp (disch := omega) only [w32_id]
      refine Gx_goto (tgt := 37) dX2_digest_86 (by decide) ?_
      exact ih (r + 1) _ (by omega) (by omega)
set_option maxHeartbeats 2000000 in
theorem lp_X2_digest2 {r n h : Int} {bc bs : Nat} (hr : 0 ≤ r ∧ r ≤ 3) (hn : (v 43 r).toNat = n.toNat) (hn0 : 0 ≤ n) (hs : v 43 r = n ∨ (v 43 r = -1 ∧ n = 0)) (hn8 : n ≤ 80) (cont : Gx Γ mX2_digest 136 [(2, 38), (0, r), (0, n)] [] (gUp v 38 60 (hIt (hOne (fun i => sByte v r i)) n.toNat h)) (gHd K) t bc bs Q) : ∀ (j : Nat) (i : Int), 0 ≤ i → i + j = n → Gx Γ mX2_digest 109 [(2, 38), (0, r), (0, i)] [] (gUp v 38 60 (hIt (hOne (fun i => sByte v r i)) i.toNat h)) (gHd K) t bc bs Q := by
  intro j
  induction j with
  | zero =>
    intro i h0 h1
    refine Gx_iload_n (i := 2) dX2_digest_109 rfl rfl ?_
    refine Gx_aload_n (i := 0) dX2_digest_110 rfl rfl ?_
    refine gf_X2_22_22 dX2_digest_111 rfl rfl ?_
    refine Gx_iload_n (i := 1) dX2_digest_114 rfl rfl ?_
    refine Gx_iaload dX2_digest_115 rfl (by first | omega | (simp (disch := omega) only [w32_id]; omega)) ?_
    try simp (disch := omega) only [gUp_ne2, gUp_eq2]
    refine Gx_icmp_ge (tgt := 136) dX2_digest_116 (by decide) (fun c116 => ?_) (fun c116 => ?_)
    · have e0 : i = n := by omega
      rw [e0]
      exact cont
    · exfalso
      omega
  | succ j ih =>
    intro i h0 h1
    refine Gx_iload_n (i := 2) dX2_digest_109 rfl rfl ?_
    refine Gx_aload_n (i := 0) dX2_digest_110 rfl rfl ?_
    refine gf_X2_22_22 dX2_digest_111 rfl rfl ?_
    refine Gx_iload_n (i := 1) dX2_digest_114 rfl rfl ?_
    refine Gx_iaload dX2_digest_115 rfl (by first | omega | (simp (disch := omega) only [w32_id]; omega)) ?_
    try simp (disch := omega) only [gUp_ne2, gUp_eq2]
    refine Gx_icmp_ge (tgt := 136) dX2_digest_116 (by decide) (fun c116 => ?_) (fun c116 => ?_)
    · exfalso
      omega
    · refine Gx_aload_n (i := 0) dX2_digest_119 rfl rfl ?_
      refine Gx_aload_n (i := 0) dX2_digest_120 rfl rfl ?_
      refine Gx_iload_n (i := 1) dX2_digest_121 rfl rfl ?_
      refine Gx_iload_n (i := 2) dX2_digest_122 rfl rfl ?_
      refine cl_X2_135 dX2_digest_123 rfl rfl ⟨(Nat.le_of_ble_eq_true rfl), (Nat.le_of_ble_eq_true rfl)⟩ rfl ?_
      refine ct_X2_byteAt (by omega) (by omega) (by rw [gUp_ne2 (by omega)]; omega) ?_
      rw [show sByte (gUp v 38 60 _) r i = sByte v r i from rfl]
      refine Gx_i2l dX2_digest_126 ?_
      refine cl_X2_384 dX2_digest_127 rfl rfl ⟨(Nat.le_of_ble_eq_true rfl), (Nat.le_of_ble_eq_true rfl)⟩ rfl ?_
      refine ct_X2_mix ?_
      rw [gHv_up, gUp_eq2 rfl rfl]
      refine Gx_iinc_2 dX2_digest_130 (Nat.le_of_ble_eq_true rfl) (Nat.ne_of_beq_eq_false rfl) ?_
      try simp (disch := omega) only [w32_id]
      refine Gx_goto (tgt := 109) dX2_digest_133 (by decide) ?_
      have hx := hIt_s (f := hOne (fun i => sByte v r i)) (h := h) h0
      have hi := ih (i + 1) (by omega) (by omega)
      rw [hx] at hi
      exact hi
set_option maxHeartbeats 2000000 in
theorem lp_X2_digestO2 {n h : Int} {bc bs : Nat} (hn : n = 4) (hS : ∀ r, 0 ≤ r → r ≤ 3 → -1 ≤ v 43 r ∧ v 43 r ≤ 80) (cont : ∀ z2 : gV, Gx Γ mX2_digest 142 [(2, 38), (0, n), z2] [] (gUp v 38 60 (hIt (mTxtS v) n.toNat h)) (gHd K) t bc bs Q) : ∀ (j : Nat) (r : Int) (z2 : gV), 0 ≤ r → r + j = n → Gx Γ mX2_digest 91 [(2, 38), (0, r), z2] [] (gUp v 38 60 (hIt (mTxtS v) r.toNat h)) (gHd K) t bc bs Q := by
  intro j
  induction j with
  | zero =>
    intro r z2 h0 h1
    refine Gx_iload_n (i := 1) dX2_digest_91 rfl rfl ?_
    refine Gx_iconst ⟨by decide, by decide⟩ dX2_digest_92 ?_
    refine Gx_icmp_ge (tgt := 142) dX2_digest_93 (by decide) (fun c93 => ?_) (fun c93 => ?_)
    · have e0 : r = n := by omega
      rw [e0]
      exact cont z2
    · exfalso
      omega
  | succ j ih =>
    intro r z2 h0 h1
    refine Gx_iload_n (i := 1) dX2_digest_91 rfl rfl ?_
    refine Gx_iconst ⟨by decide, by decide⟩ dX2_digest_92 ?_
    refine Gx_icmp_ge (tgt := 142) dX2_digest_93 (by decide) (fun c93 => ?_) (fun c93 => ?_)
    · exfalso
      omega
    · refine Gx_aload_n (i := 0) dX2_digest_96 rfl rfl ?_
      refine Gx_aload_n (i := 0) dX2_digest_97 rfl rfl ?_
      refine gf_X2_22_22 dX2_digest_98 rfl rfl ?_
      refine Gx_iload_n (i := 1) dX2_digest_101 rfl rfl ?_
      refine Gx_iaload dX2_digest_102 rfl (by first | omega | (simp (disch := omega) only [w32_id]; omega)) ?_
      try simp (disch := omega) only [gUp_ne2, gUp_eq2]
      refine Gx_i2l dX2_digest_103 ?_
      refine cl_X2_384 dX2_digest_104 rfl rfl ⟨(Nat.le_of_ble_eq_true rfl), (Nat.le_of_ble_eq_true rfl)⟩ rfl ?_
      refine ct_X2_mix ?_
      rw [gHv_up, gUp_eq2 rfl rfl]
      refine Gx_iconst ⟨by decide, by decide⟩ dX2_digest_107 ?_
      refine Gx_istore_n_2 dX2_digest_108 (Nat.le_of_ble_eq_true rfl) (Nat.ne_of_beq_eq_false rfl) ?_
      have hs := hS r h0 (by omega)
      obtain ⟨m, hm⟩ : ∃ m : Int, m = ((v 43 r).toNat : Int) := ⟨_, rfl⟩
      refine lp_X2_digest2 (n := m) (h := hMix (hIt (mTxtS v) r.toNat h) (v 43 r)) (by omega) (by omega) (by omega) (by omega) (by omega) ?_ m.toNat 0 (by omega) (by omega)
      have em : hIt (hOne (fun i => sByte v r i)) m.toNat (hMix (hIt (mTxtS v) r.toNat h) (v 43 r)) = mTxtS v r (hIt (mTxtS v) r.toNat h) := by
        unfold mTxtS
        rw [show m.toNat = (v 43 r).toNat by omega]
      rw [em, ← hIt_s (f := mTxtS v) h0]
      refine Gx_iinc_1 dX2_digest_136 (Nat.le_of_ble_eq_true rfl) (Nat.ne_of_beq_eq_false rfl) ?_
      try simp (disch := omega) only [w32_id]
      refine Gx_goto (tgt := 91) dX2_digest_139 (by decide) ?_
      exact ih (r + 1) _ (by omega) (by omega)
set_option maxHeartbeats 4000000 in
theorem ct_X2_digest  (h20 : 0 ≤ v 38 20 ∧ v 38 20 ≤ 6) (h22 : 0 ≤ v 38 22 ∧ v 38 22 ≤ 2) (h28 : 0 ≤ v 38 28 ∧ v 38 28 ≤ 8) (h33 : 0 ≤ v 38 33 ∧ v 38 33 ≤ 24) (hR : oSz v) (hT : oTz v) (hS : ∀ i, 0 ≤ i → i < v 38 33 → 0 ≤ v 57 i ∧ v 57 i < 6) (k : Q (1, mDig v) (gUp v 38 60 (mDig v)) (gHd K) t) : Ctr Γ mX2_digest [(2, 38)] v (gHd K) t Q := by
  refine Ctr.ofG (ls := [(2, 38), (9, 0), (9, 0)]) rfl rfl rfl rfl rfl ?_
  refine Gx_aload_n (i := 0) dX2_digest_0 rfl rfl ?_
  refine Gx_ldc2 (n := 17) dX2_digest_1 rfl q1775 (by decide) ?_
  refine pf_X2_381_22 dX2_digest_4 rfl rfl ?_
  refine Gx_iconst ⟨by decide, by decide⟩ dX2_digest_7 ?_
  refine Gx_istore_n_1 dX2_digest_8 (Nat.le_of_ble_eq_true rfl) (Nat.ne_of_beq_eq_false rfl) ?_
  refine Gx_iload_n (i := 1) dX2_digest_9 rfl rfl ?_
  refine Gx_bipush dX2_digest_10 ⟨by decide, by decide⟩ ?_
  refine Gx_icmp_ge (tgt := 31) dX2_digest_12 (by decide) (fun hz => absurd hz (by decide)) (fun _ => ?_)
  refine Gx_aload_n (i := 0) dX2_digest_15 rfl rfl ?_
  refine Gx_aload_n (i := 0) dX2_digest_16 rfl rfl ?_
  refine Gx_iload_n (i := 1) dX2_digest_17 rfl rfl ?_
  refine cl_X2_376 dX2_digest_18 rfl rfl ⟨(Nat.le_of_ble_eq_true rfl), (Nat.le_of_ble_eq_true rfl)⟩ rfl ?_
  refine ct_X2_counted h33 hS ?_
  refine Gx_i2l dX2_digest_21 ?_
  refine cl_X2_384 dX2_digest_22 rfl rfl ⟨(Nat.le_of_ble_eq_true rfl), (Nat.le_of_ble_eq_true rfl)⟩ rfl ?_
  refine ct_X2_mix ?_
  rw [gHv_up, gUp_eq2 rfl rfl]
  refine Gx_iinc_1 dX2_digest_25 (Nat.le_of_ble_eq_true rfl) (Nat.ne_of_beq_eq_false rfl) ?_
  rw [show w32 (0 + 1) = (1 : Int) from by decide]
  refine Gx_goto (tgt := 9) dX2_digest_28 (by decide) ?_
  refine Gx_iload_n (i := 1) dX2_digest_9 rfl rfl ?_
  refine Gx_bipush dX2_digest_10 ⟨by decide, by decide⟩ ?_
  refine Gx_icmp_ge (tgt := 31) dX2_digest_12 (by decide) (fun hz => absurd hz (by decide)) (fun _ => ?_)
  refine Gx_aload_n (i := 0) dX2_digest_15 rfl rfl ?_
  refine Gx_aload_n (i := 0) dX2_digest_16 rfl rfl ?_
  refine Gx_iload_n (i := 1) dX2_digest_17 rfl rfl ?_
  refine cl_X2_376 dX2_digest_18 rfl rfl ⟨(Nat.le_of_ble_eq_true rfl), (Nat.le_of_ble_eq_true rfl)⟩ rfl ?_
  refine ct_X2_counted h33 hS ?_
  refine Gx_i2l dX2_digest_21 ?_
  refine cl_X2_384 dX2_digest_22 rfl rfl ⟨(Nat.le_of_ble_eq_true rfl), (Nat.le_of_ble_eq_true rfl)⟩ rfl ?_
  refine ct_X2_mix ?_
  rw [gHv_up, gUp_eq2 rfl rfl]
  refine Gx_iinc_1 dX2_digest_25 (Nat.le_of_ble_eq_true rfl) (Nat.ne_of_beq_eq_false rfl) ?_
  rw [show w32 (1 + 1) = (2 : Int) from by decide]
  refine Gx_goto (tgt := 9) dX2_digest_28 (by decide) ?_
  refine Gx_iload_n (i := 1) dX2_digest_9 rfl rfl ?_
  refine Gx_bipush dX2_digest_10 ⟨by decide, by decide⟩ ?_
  refine Gx_icmp_ge (tgt := 31) dX2_digest_12 (by decide) (fun hz => absurd hz (by decide)) (fun _ => ?_)
  refine Gx_aload_n (i := 0) dX2_digest_15 rfl rfl ?_
  refine Gx_aload_n (i := 0) dX2_digest_16 rfl rfl ?_
  refine Gx_iload_n (i := 1) dX2_digest_17 rfl rfl ?_
  refine cl_X2_376 dX2_digest_18 rfl rfl ⟨(Nat.le_of_ble_eq_true rfl), (Nat.le_of_ble_eq_true rfl)⟩ rfl ?_
  refine ct_X2_counted h33 hS ?_
  refine Gx_i2l dX2_digest_21 ?_
  refine cl_X2_384 dX2_digest_22 rfl rfl ⟨(Nat.le_of_ble_eq_true rfl), (Nat.le_of_ble_eq_true rfl)⟩ rfl ?_
  refine ct_X2_mix ?_
  rw [gHv_up, gUp_eq2 rfl rfl]
  refine Gx_iinc_1 dX2_digest_25 (Nat.le_of_ble_eq_true rfl) (Nat.ne_of_beq_eq_false rfl) ?_
  rw [show w32 (2 + 1) = (3 : Int) from by decide]
  refine Gx_goto (tgt := 9) dX2_digest_28 (by decide) ?_
  refine Gx_iload_n (i := 1) dX2_digest_9 rfl rfl ?_
  refine Gx_bipush dX2_digest_10 ⟨by decide, by decide⟩ ?_
  refine Gx_icmp_ge (tgt := 31) dX2_digest_12 (by decide) (fun hz => absurd hz (by decide)) (fun _ => ?_)
  refine Gx_aload_n (i := 0) dX2_digest_15 rfl rfl ?_
  refine Gx_aload_n (i := 0) dX2_digest_16 rfl rfl ?_
  refine Gx_iload_n (i := 1) dX2_digest_17 rfl rfl ?_
  refine cl_X2_376 dX2_digest_18 rfl rfl ⟨(Nat.le_of_ble_eq_true rfl), (Nat.le_of_ble_eq_true rfl)⟩ rfl ?_
  refine ct_X2_counted h33 hS ?_
  refine Gx_i2l dX2_digest_21 ?_
  refine cl_X2_384 dX2_digest_22 rfl rfl ⟨(Nat.le_of_ble_eq_true rfl), (Nat.le_of_ble_eq_true rfl)⟩ rfl ?_
  refine ct_X2_mix ?_
  rw [gHv_up, gUp_eq2 rfl rfl]
  refine Gx_iinc_1 dX2_digest_25 (Nat.le_of_ble_eq_true rfl) (Nat.ne_of_beq_eq_false rfl) ?_
  rw [show w32 (3 + 1) = (4 : Int) from by decide]
  refine Gx_goto (tgt := 9) dX2_digest_28 (by decide) ?_
  refine Gx_iload_n (i := 1) dX2_digest_9 rfl rfl ?_
  refine Gx_bipush dX2_digest_10 ⟨by decide, by decide⟩ ?_
  refine Gx_icmp_ge (tgt := 31) dX2_digest_12 (by decide) (fun hz => absurd hz (by decide)) (fun _ => ?_)
  refine Gx_aload_n (i := 0) dX2_digest_15 rfl rfl ?_
  refine Gx_aload_n (i := 0) dX2_digest_16 rfl rfl ?_
  refine Gx_iload_n (i := 1) dX2_digest_17 rfl rfl ?_
  refine cl_X2_376 dX2_digest_18 rfl rfl ⟨(Nat.le_of_ble_eq_true rfl), (Nat.le_of_ble_eq_true rfl)⟩ rfl ?_
  refine ct_X2_counted h33 hS ?_
  refine Gx_i2l dX2_digest_21 ?_
  refine cl_X2_384 dX2_digest_22 rfl rfl ⟨(Nat.le_of_ble_eq_true rfl), (Nat.le_of_ble_eq_true rfl)⟩ rfl ?_
  refine ct_X2_mix ?_
  rw [gHv_up, gUp_eq2 rfl rfl]
  refine Gx_iinc_1 dX2_digest_25 (Nat.le_of_ble_eq_true rfl) (Nat.ne_of_beq_eq_false rfl) ?_
  rw [show w32 (4 + 1) = (5 : Int) from by decide]
  refine Gx_goto (tgt := 9) dX2_digest_28 (by decide) ?_
  refine Gx_iload_n (i := 1) dX2_digest_9 rfl rfl ?_
  refine Gx_bipush dX2_digest_10 ⟨by decide, by decide⟩ ?_
  refine Gx_icmp_ge (tgt := 31) dX2_digest_12 (by decide) (fun hz => absurd hz (by decide)) (fun _ => ?_)
  refine Gx_aload_n (i := 0) dX2_digest_15 rfl rfl ?_
  refine Gx_aload_n (i := 0) dX2_digest_16 rfl rfl ?_
  refine Gx_iload_n (i := 1) dX2_digest_17 rfl rfl ?_
  refine cl_X2_376 dX2_digest_18 rfl rfl ⟨(Nat.le_of_ble_eq_true rfl), (Nat.le_of_ble_eq_true rfl)⟩ rfl ?_
  refine ct_X2_counted h33 hS ?_
  refine Gx_i2l dX2_digest_21 ?_
  refine cl_X2_384 dX2_digest_22 rfl rfl ⟨(Nat.le_of_ble_eq_true rfl), (Nat.le_of_ble_eq_true rfl)⟩ rfl ?_
  refine ct_X2_mix ?_
  rw [gHv_up, gUp_eq2 rfl rfl]
  refine Gx_iinc_1 dX2_digest_25 (Nat.le_of_ble_eq_true rfl) (Nat.ne_of_beq_eq_false rfl) ?_
  rw [show w32 (5 + 1) = (6 : Int) from by decide]
  refine Gx_goto (tgt := 9) dX2_digest_28 (by decide) ?_
  refine Gx_iload_n (i := 1) dX2_digest_9 rfl rfl ?_
  refine Gx_bipush dX2_digest_10 ⟨by decide, by decide⟩ ?_
  refine Gx_icmp_ge (tgt := 31) dX2_digest_12 (by decide) (fun _ => ?_) (fun hz => absurd hz (by decide))
  refine Gx_aload_n (i := 0) dX2_digest_31 rfl rfl ?_
  refine cl_X2_390 dX2_digest_32 rfl rfl ⟨(Nat.le_of_ble_eq_true rfl), (Nat.le_of_ble_eq_true rfl)⟩ rfl ?_
  refine ct_X2_mixWood h20 h22 h28 h33 ?_
  rw [gHv_up, gUp_eq2 rfl rfl]
  show Gx Γ mX2_digest _ _ _ (gUp v 38 60 (mWood v (hIt (hOne (sCounted v)) 6 17))) (gHd K) t _ _ Q
  refine Gx_iconst ⟨by decide, by decide⟩ dX2_digest_35 ?_
  refine Gx_istore_n_1 dX2_digest_36 (Nat.le_of_ble_eq_true rfl) (Nat.ne_of_beq_eq_false rfl) ?_
  refine lp_X2_digestO1 rfl hR (fun z2 => ?_) 6 0 _ (by omega) (by omega)
  refine Gx_iconst ⟨by decide, by decide⟩ dX2_digest_89 ?_
  refine Gx_istore_n_1 dX2_digest_90 (Nat.le_of_ble_eq_true rfl) (Nat.ne_of_beq_eq_false rfl) ?_
  refine lp_X2_digestO2 rfl hT (fun z2 => ?_) 4 0 _ (by omega) (by omega)
  refine Gx_aload_n (i := 0) dX2_digest_142 rfl rfl ?_
  refine gf_X2_381_22 dX2_digest_143 rfl rfl ?_
  try simp (disch := omega) only [gUp_ne2, gUp_eq2]
  refine Gx_lreturn dX2_digest_146 rfl ?_
  exact k
end
