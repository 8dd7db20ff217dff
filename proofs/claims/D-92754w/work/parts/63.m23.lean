/-! AcornYearsModel: mix, mixWood -/
section
variable {Γ : gC} {v : gM} {K : gH} {t : Nat} {Q : gQ}
def hMix (h x : Int) : Int := w64 (w64 (31 * h) + x)
/-- one thing behind the other is mixed in -/
def hIt (f : Int → Int → Int) : Nat → Int → Int
  | 0, h => h
  | n + 1, h => f (n : Int) (hIt f n h)
theorem hIt_s {f : Int → Int → Int} {i h : Int} (hi : 0 ≤ i) : hIt f (i + 1).toNat h = f i (hIt f i.toNat h) := by
  obtain ⟨x, rfl⟩ : ∃ x : Nat, i = (x : Int) := ⟨i.toNat, by omega⟩
  rw [show ((x : Int) + 1).toNat = x + 1 by omega, show ((x : Int)).toNat = x by omega]
  rfl
abbrev gHv (v : gM) (h : Int) : gM := gUp v 38 60 h
theorem gHv_up {v : gM} {h x : Int} : gUp (gUp v 38 60 h) 38 60 x = gUp v 38 60 x := gUp_up
/-- what is mixed in of a sort (w: what a May adds, its kind, its mark), of eaters, of a tree -/
def hSort (a : Int → Int → Int) (kd mk : Int → Int) (s h : Int) : Int := hMix (hMix (hMix (hMix (hMix h (a s 0)) (a s 1)) (a s 2)) (kd s)) (mk s)
def hThree (a b c : Int → Int) (e h : Int) : Int := hMix (hMix (hMix h (a e)) (b e)) (c e)
def hFour (a : Int → Int → Int) (i h : Int) : Int := hMix (hMix (hMix (hMix h (a i 0)) (a i 1)) (a i 2)) (a i 3)
def hOne (a : Int → Int) (i h : Int) : Int := hMix h (a i)
def hWood (nS : Int) (a : Int → Int → Int) (kd mk : Int → Int) (nE : Int) (ea gr co : Int → Int) (nw : Int → Int) (cN : Int) (cal : Int → Int) (n : Int) (tr : Int → Int → Int) (h : Int) : Int :=
  hIt (hFour tr) n.toNat (hIt (hOne cal) cN.toNat (hIt (hOne nw) 9 (hIt (hThree ea gr co) nE.toNat (hIt (hSort a kd mk) nS.toNat h))))
abbrev mWood (v : gM) (h : Int) : Int := hWood (v 38 20) (fun s w => v 50 (7 * s + 1 + w)) (fun s => v 50 (7 * s)) (fun s => sMarkOf v s (v 50 (7 * s))) (v 38 22) (v 51) (v 52) (v 53) (sNow v) (v 38 28) (v 54) (v 38 33) (sTree v) h

theorem ct_X2_mix {x : Int} (k : Q (9, 0) (gUp v 38 60 (hMix (v 38 60) x)) (gHd K) t) : Ctr Γ mX2_mix [(2, 38), (1, x)] v (gHd K) t Q := by
  refine Ctr.ofG (ls := [(2, 38), (1, x), (9, 0)]) rfl rfl rfl rfl rfl ?_
  refine Gx_aload_n (i := 0) dX2_mix_0 rfl rfl ?_
  refine Gx_ldc2 (n := 31) dX2_mix_1 rfl q1780 (by decide) ?_
  refine Gx_aload_n (i := 0) dX2_mix_4 rfl rfl ?_
  refine gf_X2_381_22 dX2_mix_5 rfl rfl ?_
  refine Gx_lmul dX2_mix_8 ?_
  refine Gx_lload_n (i := 1) dX2_mix_9 rfl rfl ?_
  refine Gx_ladd dX2_mix_10 ?_
  refine pf_X2_381_22 dX2_mix_11 rfl rfl ?_
  refine Gx_return dX2_mix_14 rfl ?_
  exact k
set_option maxHeartbeats 4000000 in
theorem lp_X2_mixWood1 {n h : Int} {bc bs : Nat} (hn : v 38 20 = n) (hb : 0 ≤ n ∧ n ≤ 6) (cont : ∀ z2 : gV, Gx Γ mX2_mixWood 72 [(2, 38), (0, n), z2] [] (gUp v 38 60 (hIt (hSort (fun s w => v 50 (7 * s + 1 + w)) (fun s => v 50 (7 * s)) (fun s => sMarkOf v s (v 50 (7 * s)))) n.toNat h)) (gHd K) t bc bs Q) : ∀ (j : Nat) (i : Int) (z2 : gV), 0 ≤ i → i + j = n → Gx Γ mX2_mixWood 2 [(2, 38), (0, i), z2] [] (gUp v 38 60 (hIt (hSort (fun s w => v 50 (7 * s + 1 + w)) (fun s => v 50 (7 * s)) (fun s => sMarkOf v s (v 50 (7 * s)))) i.toNat h)) (gHd K) t bc bs Q := by
  intro j
  induction j with
  | zero =>
    intro i z2 h0 h1
    refine Gx_iload_n (i := 1) dX2_mixWood_2 rfl rfl ?_
    refine Gx_aload_n (i := 0) dX2_mixWood_3 rfl rfl ?_
    refine gf_X2_191_22 dX2_mixWood_4 rfl rfl ?_
    try simp (disch := omega) only [gUp_ne2, gUp_eq2]
    refine Gx_icmp_ge (tgt := 72) dX2_mixWood_7 (by decide) (fun c7 => ?_) (fun c7 => ?_)
    · have e0 : i = n := by omega
      rw [e0]
      exact cont z2
    · exfalso
      omega
  | succ j ih =>
    intro i z2 h0 h1
    refine Gx_iload_n (i := 1) dX2_mixWood_2 rfl rfl ?_
    refine Gx_aload_n (i := 0) dX2_mixWood_3 rfl rfl ?_
    refine gf_X2_191_22 dX2_mixWood_4 rfl rfl ?_
    try simp (disch := omega) only [gUp_ne2, gUp_eq2]
    refine Gx_icmp_ge (tgt := 72) dX2_mixWood_7 (by decide) (fun c7 => ?_) (fun c7 => ?_)
    · exfalso
      omega
    · refine Gx_iconst ⟨by decide, by decide⟩ dX2_mixWood_10 ?_
      refine Gx_istore_n_2 dX2_mixWood_11 (Nat.le_of_ble_eq_true rfl) (Nat.ne_of_beq_eq_false rfl) ?_
      refine Gx_iload_n (i := 2) dX2_mixWood_12 rfl rfl ?_
      refine Gx_iconst ⟨by decide, by decide⟩ dX2_mixWood_13 ?_
      refine Gx_icmp_ge (tgt := 41) dX2_mixWood_14 (by decide) (fun hz => absurd hz (by decide)) (fun _ => ?_)
      refine Gx_aload_n (i := 0) dX2_mixWood_17 rfl rfl ?_
      refine Gx_aload_n (i := 0) dX2_mixWood_18 rfl rfl ?_
      refine gf_X2_44_22 dX2_mixWood_19 rfl rfl ?_
      refine Gx_bipush dX2_mixWood_22 ⟨by decide, by decide⟩ ?_
      refine Gx_iload_n (i := 1) dX2_mixWood_24 rfl rfl ?_
      refine Gx_imul dX2_mixWood_25 ?_
      try simp (disch := omega) only [w32_id]
      refine Gx_iconst ⟨by decide, by decide⟩ dX2_mixWood_26 ?_
      refine Gx_iadd dX2_mixWood_27 ?_
      try simp (disch := omega) only [w32_id]
      refine Gx_iload_n (i := 2) dX2_mixWood_28 rfl rfl ?_
      refine Gx_iadd dX2_mixWood_29 ?_
      try simp (disch := omega) only [w32_id]
      refine Gx_iaload dX2_mixWood_30 rfl (by first | omega | (simp (disch := omega) only [w32_id]; omega)) ?_
      try simp (disch := omega) only [gUp_ne2, gUp_eq2]
      refine Gx_i2l dX2_mixWood_31 ?_
      refine cl_X2_384 dX2_mixWood_32 rfl rfl ⟨(Nat.le_of_ble_eq_true rfl), (Nat.le_of_ble_eq_true rfl)⟩ rfl ?_
      refine ct_X2_mix ?_
      rw [gHv_up, gUp_eq2 rfl rfl]
      refine Gx_iinc_2 dX2_mixWood_35 (Nat.le_of_ble_eq_true rfl) (Nat.ne_of_beq_eq_false rfl) ?_
      rw [show w32 (0 + 1) = (1 : Int) from by decide]
      refine Gx_goto (tgt := 12) dX2_mixWood_38 (by decide) ?_
      refine Gx_iload_n (i := 2) dX2_mixWood_12 rfl rfl ?_
      refine Gx_iconst ⟨by decide, by decide⟩ dX2_mixWood_13 ?_
      refine Gx_icmp_ge (tgt := 41) dX2_mixWood_14 (by decide) (fun hz => absurd hz (by decide)) (fun _ => ?_)
      refine Gx_aload_n (i := 0) dX2_mixWood_17 rfl rfl ?_
      refine Gx_aload_n (i := 0) dX2_mixWood_18 rfl rfl ?_
      refine gf_X2_44_22 dX2_mixWood_19 rfl rfl ?_
      refine Gx_bipush dX2_mixWood_22 ⟨by decide, by decide⟩ ?_
      refine Gx_iload_n (i := 1) dX2_mixWood_24 rfl rfl ?_
      refine Gx_imul dX2_mixWood_25 ?_
      try simp (disch := omega) only [w32_id]
      refine Gx_iconst ⟨by decide, by decide⟩ dX2_mixWood_26 ?_
      refine Gx_iadd dX2_mixWood_27 ?_
      try simp (disch := omega) only [w32_id]
      refine Gx_iload_n (i := 2) dX2_mixWood_28 rfl rfl ?_
      refine Gx_iadd dX2_mixWood_29 ?_
      try simp (disch := omega) only [w32_id]
      refine Gx_iaload dX2_mixWood_30 rfl (by first | omega | (simp (disch := omega) only [w32_id]; omega)) ?_
      try simp (disch := omega) only [gUp_ne2, gUp_eq2]
      refine Gx_i2l dX2_mixWood_31 ?_
      refine cl_X2_384 dX2_mixWood_32 rfl rfl ⟨(Nat.le_of_ble_eq_true rfl), (Nat.le_of_ble_eq_true rfl)⟩ rfl ?_
      refine ct_X2_mix ?_
      rw [gHv_up, gUp_eq2 rfl rfl]
      refine Gx_iinc_2 dX2_mixWood_35 (Nat.le_of_ble_eq_true rfl) (Nat.ne_of_beq_eq_false rfl) ?_
      rw [show w32 (1 + 1) = (2 : Int) from by decide]
      refine Gx_goto (tgt := 12) dX2_mixWood_38 (by decide) ?_
      refine Gx_iload_n (i := 2) dX2_mixWood_12 rfl rfl ?_
      refine Gx_iconst ⟨by decide, by decide⟩ dX2_mixWood_13 ?_
      refine Gx_icmp_ge (tgt := 41) dX2_mixWood_14 (by decide) (fun hz => absurd hz (by decide)) (fun _ => ?_)
      refine Gx_aload_n (i := 0) dX2_mixWood_17 rfl rfl ?_
      refine Gx_aload_n (i := 0) dX2_mixWood_18 rfl rfl ?_
      refine gf_X2_44_22 dX2_mixWood_19 rfl rfl ?_
      refine Gx_bipush dX2_mixWood_22 ⟨by decide, by decide⟩ ?_
      refine Gx_iload_n (i := 1) dX2_mixWood_24 rfl rfl ?_
      refine Gx_imul dX2_mixWood_25 ?_
      try simp (disch := omega) only [w32_id]
      refine Gx_iconst ⟨by decide, by decide⟩ dX2_mixWood_26 ?_
      refine Gx_iadd dX2_mixWood_27 ?_
      try simp (disch := omega) only [w32_id]
      refine Gx_iload_n (i := 2) dX2_mixWood_28 rfl rfl ?_
      refine Gx_iadd dX2_mixWood_29 ?_
      try simp (disch := omega) only [w32_id]
      refine Gx_iaload dX2_mixWood_30 rfl (by first | omega | (simp (disch := omega) only [w32_id]; omega)) ?_
      try simp (disch := omega) only [gUp_ne2, gUp_eq2]
      refine Gx_i2l dX2_mixWood_31 ?_
      refine cl_X2_384 dX2_mixWood_32 rfl rfl ⟨(Nat.le_of_ble_eq_true rfl), (Nat.le_of_ble_eq_true rfl)⟩ rfl ?_
      refine ct_X2_mix ?_
      rw [gHv_up, gUp_eq2 rfl rfl]
      refine Gx_iinc_2 dX2_mixWood_35 (Nat.le_of_ble_eq_true rfl) (Nat.ne_of_beq_eq_false rfl) ?_
      rw [show w32 (2 + 1) = (3 : Int) from by decide]
      refine Gx_goto (tgt := 12) dX2_mixWood_38 (by decide) ?_
      refine Gx_iload_n (i := 2) dX2_mixWood_12 rfl rfl ?_
      refine Gx_iconst ⟨by decide, by decide⟩ dX2_mixWood_13 ?_
      refine Gx_icmp_ge (tgt := 41) dX2_mixWood_14 (by decide) (fun _ => ?_) (fun hz => absurd hz (by decide))
      refine Gx_aload_n (i := 0) dX2_mixWood_41 rfl rfl ?_
      refine Gx_aload_n (i := 0) dX2_mixWood_42 rfl rfl ?_
      refine Gx_iload_n (i := 1) dX2_mixWood_43 rfl rfl ?_
      refine cl_X2_209 dX2_mixWood_44 rfl rfl ⟨(Nat.le_of_ble_eq_true rfl), (Nat.le_of_ble_eq_true rfl)⟩ rfl ?_
      refine ct_X2_kind (by omega) ?_
      refine Gx_i2l dX2_mixWood_47 ?_
      refine cl_X2_384 dX2_mixWood_48 rfl rfl ⟨(Nat.le_of_ble_eq_true rfl), (Nat.le_of_ble_eq_true rfl)⟩ rfl ?_
      refine ct_X2_mix ?_
      rw [gHv_up, gUp_eq2 rfl rfl]
      refine Gx_aload_n (i := 0) dX2_mixWood_51 rfl rfl ?_
      refine Gx_aload_n (i := 0) dX2_mixWood_52 rfl rfl ?_
      refine Gx_iload_n (i := 1) dX2_mixWood_53 rfl rfl ?_
      refine Gx_aload_n (i := 0) dX2_mixWood_54 rfl rfl ?_
      refine Gx_iload_n (i := 1) dX2_mixWood_55 rfl rfl ?_
      refine cl_X2_209 dX2_mixWood_56 rfl rfl ⟨(Nat.le_of_ble_eq_true rfl), (Nat.le_of_ble_eq_true rfl)⟩ rfl ?_
      refine ct_X2_kind (by omega) ?_
      refine cl_X2_218 dX2_mixWood_59 rfl rfl ⟨(Nat.le_of_ble_eq_true rfl), (Nat.le_of_ble_eq_true rfl)⟩ rfl ?_
      refine ct_X2_markOf (by omega) ?_
      refine Gx_i2l dX2_mixWood_62 ?_
      refine cl_X2_384 dX2_mixWood_63 rfl rfl ⟨(Nat.le_of_ble_eq_true rfl), (Nat.le_of_ble_eq_true rfl)⟩ rfl ?_
      refine ct_X2_mix ?_
      rw [gHv_up, gUp_eq2 rfl rfl]
      refine Gx_iinc_1 dX2_mixWood_66 (Nat.le_of_ble_eq_true rfl) (Nat.ne_of_beq_eq_false rfl) ?_
      try simp (disch := omega) only [w32_id]
      refine Gx_goto (tgt := 2) dX2_mixWood_69 (by decide) ?_
      have hx := hIt_s (f := hSort (fun s w => v 50 (7 * s + 1 + w)) (fun s => v 50 (7 * s)) (fun s => sMarkOf v s (v 50 (7 * s)))) (h := h) h0
      have hi := ih (i + 1) (0, 3) (by omega) (by omega)
      rw [hx] at hi
      exact hi
set_option maxHeartbeats 4000000 in
theorem lp_X2_mixWood2 {n h : Int} {bc bs : Nat} (hn : v 38 22 = n) (hb : 0 ≤ n ∧ n ≤ 2) (cont : ∀ z2 : gV, Gx Γ mX2_mixWood 121 [(2, 38), (0, n), z2] [] (gUp v 38 60 (hIt (hThree (v 51) (v 52) (v 53)) n.toNat h)) (gHd K) t bc bs Q) : ∀ (j : Nat) (i : Int) (z2 : gV), 0 ≤ i → i + j = n → Gx Γ mX2_mixWood 74 [(2, 38), (0, i), z2] [] (gUp v 38 60 (hIt (hThree (v 51) (v 52) (v 53)) i.toNat h)) (gHd K) t bc bs Q := by
  intro j
  induction j with
  | zero =>
    intro i z2 h0 h1
    refine Gx_iload_n (i := 1) dX2_mixWood_74 rfl rfl ?_
    refine Gx_aload_n (i := 0) dX2_mixWood_75 rfl rfl ?_
    refine gf_X2_194_22 dX2_mixWood_76 rfl rfl ?_
    try simp (disch := omega) only [gUp_ne2, gUp_eq2]
    refine Gx_icmp_ge (tgt := 121) dX2_mixWood_79 (by decide) (fun c79 => ?_) (fun c79 => ?_)
    · have e0 : i = n := by omega
      rw [e0]
      exact cont z2
    · exfalso
      omega
  | succ j ih =>
    intro i z2 h0 h1
    refine Gx_iload_n (i := 1) dX2_mixWood_74 rfl rfl ?_
    refine Gx_aload_n (i := 0) dX2_mixWood_75 rfl rfl ?_
    refine gf_X2_194_22 dX2_mixWood_76 rfl rfl ?_
    try simp (disch := omega) only [gUp_ne2, gUp_eq2]
    refine Gx_icmp_ge (tgt := 121) dX2_mixWood_79 (by decide) (fun c79 => ?_) (fun c79 => ?_)
    · exfalso
      omega
    · refine Gx_aload_n (i := 0) dX2_mixWood_82 rfl rfl ?_
      refine Gx_aload_n (i := 0) dX2_mixWood_83 rfl rfl ?_
      refine gf_X2_47_22 dX2_mixWood_84 rfl rfl ?_
      refine Gx_iload_n (i := 1) dX2_mixWood_87 rfl rfl ?_
      refine Gx_iaload dX2_mixWood_88 rfl (by first | omega | (simp (disch := omega) only [w32_id]; omega)) ?_
      try simp (disch := omega) only [gUp_ne2, gUp_eq2]
      refine Gx_i2l dX2_mixWood_89 ?_
      refine cl_X2_384 dX2_mixWood_90 rfl rfl ⟨(Nat.le_of_ble_eq_true rfl), (Nat.le_of_ble_eq_true rfl)⟩ rfl ?_
      refine ct_X2_mix ?_
      rw [gHv_up, gUp_eq2 rfl rfl]
      refine Gx_aload_n (i := 0) dX2_mixWood_93 rfl rfl ?_
      refine Gx_aload_n (i := 0) dX2_mixWood_94 rfl rfl ?_
      refine gf_X2_50_22 dX2_mixWood_95 rfl rfl ?_
      refine Gx_iload_n (i := 1) dX2_mixWood_98 rfl rfl ?_
      refine Gx_iaload dX2_mixWood_99 rfl (by first | omega | (simp (disch := omega) only [w32_id]; omega)) ?_
      try simp (disch := omega) only [gUp_ne2, gUp_eq2]
      refine Gx_i2l dX2_mixWood_100 ?_
      refine cl_X2_384 dX2_mixWood_101 rfl rfl ⟨(Nat.le_of_ble_eq_true rfl), (Nat.le_of_ble_eq_true rfl)⟩ rfl ?_
      refine ct_X2_mix ?_
      rw [gHv_up, gUp_eq2 rfl rfl]
      refine Gx_aload_n (i := 0) dX2_mixWood_104 rfl rfl ?_
      refine Gx_aload_n (i := 0) dX2_mixWood_105 rfl rfl ?_
      refine gf_X2_53_22 dX2_mixWood_106 rfl rfl ?_
      refine Gx_iload_n (i := 1) dX2_mixWood_109 rfl rfl ?_
      refine Gx_iaload dX2_mixWood_110 rfl (by first | omega | (simp (disch := omega) only [w32_id]; omega)) ?_
      try simp (disch := omega) only [gUp_ne2, gUp_eq2]
      refine Gx_i2l dX2_mixWood_111 ?_
      refine cl_X2_384 dX2_mixWood_112 rfl rfl ⟨(Nat.le_of_ble_eq_true rfl), (Nat.le_of_ble_eq_true rfl)⟩ rfl ?_
      refine ct_X2_mix ?_
      rw [gHv_up, gUp_eq2 rfl rfl]
      refine Gx_iinc_1 dX2_mixWood_115 (Nat.le_of_ble_eq_true rfl) (Nat.ne_of_beq_eq_false rfl) ?_
      try simp (disch := omega) only [w32_id]
      refine Gx_goto (tgt := 74) dX2_mixWood_118 (by decide) ?_
      have hx := hIt_s (f := hThree (v 51) (v 52) (v 53)) (h := h) h0
      have hi := ih (i + 1) z2 (by omega) (by omega)
      rw [hx] at hi
      exact hi
set_option maxHeartbeats 4000000 in
theorem lp_X2_mixWood3 {n h : Int} {bc bs : Nat} (hn : v 38 28 = n) (hb : 0 ≤ n ∧ n ≤ 8) (cont : ∀ z2 : gV, Gx Γ mX2_mixWood 172 [(2, 38), (0, n), z2] [] (gUp v 38 60 (hIt (hOne (v 54)) n.toNat h)) (gHd K) t bc bs Q) : ∀ (j : Nat) (i : Int) (z2 : gV), 0 ≤ i → i + j = n → Gx Γ mX2_mixWood 147 [(2, 38), (0, i), z2] [] (gUp v 38 60 (hIt (hOne (v 54)) i.toNat h)) (gHd K) t bc bs Q := by
  intro j
  induction j with
  | zero =>
    intro i z2 h0 h1
    refine Gx_iload_n (i := 1) dX2_mixWood_147 rfl rfl ?_
    refine Gx_aload_n (i := 0) dX2_mixWood_148 rfl rfl ?_
    refine gf_X2_97_22 dX2_mixWood_149 rfl rfl ?_
    try simp (disch := omega) only [gUp_ne2, gUp_eq2]
    refine Gx_icmp_ge (tgt := 172) dX2_mixWood_152 (by decide) (fun c152 => ?_) (fun c152 => ?_)
    · have e0 : i = n := by omega
      rw [e0]
      exact cont z2
    · exfalso
      omega
  | succ j ih =>
    intro i z2 h0 h1
    refine Gx_iload_n (i := 1) dX2_mixWood_147 rfl rfl ?_
    refine Gx_aload_n (i := 0) dX2_mixWood_148 rfl rfl ?_
    refine gf_X2_97_22 dX2_mixWood_149 rfl rfl ?_
    try simp (disch := omega) only [gUp_ne2, gUp_eq2]
    refine Gx_icmp_ge (tgt := 172) dX2_mixWood_152 (by decide) (fun c152 => ?_) (fun c152 => ?_)
    · exfalso
      omega
    · refine Gx_aload_n (i := 0) dX2_mixWood_155 rfl rfl ?_
      refine Gx_aload_n (i := 0) dX2_mixWood_156 rfl rfl ?_
      refine gf_X2_56_22 dX2_mixWood_157 rfl rfl ?_
      refine Gx_iload_n (i := 1) dX2_mixWood_160 rfl rfl ?_
      refine Gx_iaload dX2_mixWood_161 rfl (by first | omega | (simp (disch := omega) only [w32_id]; omega)) ?_
      try simp (disch := omega) only [gUp_ne2, gUp_eq2]
      refine Gx_i2l dX2_mixWood_162 ?_
      refine cl_X2_384 dX2_mixWood_163 rfl rfl ⟨(Nat.le_of_ble_eq_true rfl), (Nat.le_of_ble_eq_true rfl)⟩ rfl ?_
      refine ct_X2_mix ?_
      rw [gHv_up, gUp_eq2 rfl rfl]
      refine Gx_iinc_1 dX2_mixWood_166 (Nat.le_of_ble_eq_true rfl) (Nat.ne_of_beq_eq_false rfl) ?_
      try simp (disch := omega) only [w32_id]
      refine Gx_goto (tgt := 147) dX2_mixWood_169 (by decide) ?_
      have hx := hIt_s (f := hOne (v 54)) (h := h) h0
      have hi := ih (i + 1) z2 (by omega) (by omega)
      rw [hx] at hi
      exact hi
set_option maxHeartbeats 4000000 in
theorem lp_X2_mixWood4 {n h : Int} {bc bs : Nat} (hn : v 38 33 = n) (hb : 0 ≤ n ∧ n ≤ 24) (cont : ∀ z2 : gV, Gx Γ mX2_mixWood 212 [(2, 38), (0, n), z2] [] (gUp v 38 60 (hIt (hFour (sTree v)) n.toNat h)) (gHd K) t bc bs Q) : ∀ (j : Nat) (i : Int) (z2 : gV), 0 ≤ i → i + j = n → Gx Γ mX2_mixWood 174 [(2, 38), (0, i), z2] [] (gUp v 38 60 (hIt (hFour (sTree v)) i.toNat h)) (gHd K) t bc bs Q := by
  intro j
  induction j with
  | zero =>
    intro i z2 h0 h1
    refine Gx_iload_n (i := 1) dX2_mixWood_174 rfl rfl ?_
    refine Gx_aload_n (i := 0) dX2_mixWood_175 rfl rfl ?_
    refine gf_X2_203_22 dX2_mixWood_176 rfl rfl ?_
    try simp (disch := omega) only [gUp_ne2, gUp_eq2]
    refine Gx_icmp_ge (tgt := 212) dX2_mixWood_179 (by decide) (fun c179 => ?_) (fun c179 => ?_)
    · have e0 : i = n := by omega
      rw [e0]
      exact cont z2
    · exfalso
      omega
  | succ j ih =>
    intro i z2 h0 h1
    refine Gx_iload_n (i := 1) dX2_mixWood_174 rfl rfl ?_
    refine Gx_aload_n (i := 0) dX2_mixWood_175 rfl rfl ?_
    refine gf_X2_203_22 dX2_mixWood_176 rfl rfl ?_
    try simp (disch := omega) only [gUp_ne2, gUp_eq2]
    refine Gx_icmp_ge (tgt := 212) dX2_mixWood_179 (by decide) (fun c179 => ?_) (fun c179 => ?_)
    · exfalso
      omega
    · refine Gx_iconst ⟨by decide, by decide⟩ dX2_mixWood_182 ?_
      refine Gx_istore_n_2 dX2_mixWood_183 (Nat.le_of_ble_eq_true rfl) (Nat.ne_of_beq_eq_false rfl) ?_
      refine Gx_iload_n (i := 2) dX2_mixWood_184 rfl rfl ?_
      refine Gx_iconst ⟨by decide, by decide⟩ dX2_mixWood_185 ?_
      refine Gx_icmp_ge (tgt := 206) dX2_mixWood_186 (by decide) (fun hz => absurd hz (by decide)) (fun _ => ?_)
      refine Gx_aload_n (i := 0) dX2_mixWood_189 rfl rfl ?_
      refine Gx_aload_n (i := 0) dX2_mixWood_190 rfl rfl ?_
      refine Gx_iload_n (i := 1) dX2_mixWood_191 rfl rfl ?_
      refine Gx_iload_n (i := 2) dX2_mixWood_192 rfl rfl ?_
      refine cl_X2_230 dX2_mixWood_193 rfl rfl ⟨(Nat.le_of_ble_eq_true rfl), (Nat.le_of_ble_eq_true rfl)⟩ rfl ?_
      refine ct_X2_treeTells (by omega) ?_
      refine Gx_i2l dX2_mixWood_196 ?_
      refine cl_X2_384 dX2_mixWood_197 rfl rfl ⟨(Nat.le_of_ble_eq_true rfl), (Nat.le_of_ble_eq_true rfl)⟩ rfl ?_
      refine ct_X2_mix ?_
      rw [gHv_up, gUp_eq2 rfl rfl]
      refine Gx_iinc_2 dX2_mixWood_200 (Nat.le_of_ble_eq_true rfl) (Nat.ne_of_beq_eq_false rfl) ?_
      rw [show w32 (0 + 1) = (1 : Int) from by decide]
      refine Gx_goto (tgt := 184) dX2_mixWood_203 (by decide) ?_
      refine Gx_iload_n (i := 2) dX2_mixWood_184 rfl rfl ?_
      refine Gx_iconst ⟨by decide, by decide⟩ dX2_mixWood_185 ?_
      refine Gx_icmp_ge (tgt := 206) dX2_mixWood_186 (by decide) (fun hz => absurd hz (by decide)) (fun _ => ?_)
      refine Gx_aload_n (i := 0) dX2_mixWood_189 rfl rfl ?_
      refine Gx_aload_n (i := 0) dX2_mixWood_190 rfl rfl ?_
      refine Gx_iload_n (i := 1) dX2_mixWood_191 rfl rfl ?_
      refine Gx_iload_n (i := 2) dX2_mixWood_192 rfl rfl ?_
      refine cl_X2_230 dX2_mixWood_193 rfl rfl ⟨(Nat.le_of_ble_eq_true rfl), (Nat.le_of_ble_eq_true rfl)⟩ rfl ?_
      refine ct_X2_treeTells (by omega) ?_
      refine Gx_i2l dX2_mixWood_196 ?_
      refine cl_X2_384 dX2_mixWood_197 rfl rfl ⟨(Nat.le_of_ble_eq_true rfl), (Nat.le_of_ble_eq_true rfl)⟩ rfl ?_
      refine ct_X2_mix ?_
      rw [gHv_up, gUp_eq2 rfl rfl]
      refine Gx_iinc_2 dX2_mixWood_200 (Nat.le_of_ble_eq_true rfl) (Nat.ne_of_beq_eq_false rfl) ?_
      rw [show w32 (1 + 1) = (2 : Int) from by decide]
      refine Gx_goto (tgt := 184) dX2_mixWood_203 (by decide) ?_
      refine Gx_iload_n (i := 2) dX2_mixWood_184 rfl rfl ?_
      refine Gx_iconst ⟨by decide, by decide⟩ dX2_mixWood_185 ?_
      refine Gx_icmp_ge (tgt := 206) dX2_mixWood_186 (by decide) (fun hz => absurd hz (by decide)) (fun _ => ?_)
      refine Gx_aload_n (i := 0) dX2_mixWood_189 rfl rfl ?_
      refine Gx_aload_n (i := 0) dX2_mixWood_190 rfl rfl ?_
      refine Gx_iload_n (i := 1) dX2_mixWood_191 rfl rfl ?_
      refine Gx_iload_n (i := 2) dX2_mixWood_192 rfl rfl ?_
      refine cl_X2_230 dX2_mixWood_193 rfl rfl ⟨(Nat.le_of_ble_eq_true rfl), (Nat.le_of_ble_eq_true rfl)⟩ rfl ?_
      refine ct_X2_treeTells (by omega) ?_
      refine Gx_i2l dX2_mixWood_196 ?_
      refine cl_X2_384 dX2_mixWood_197 rfl rfl ⟨(Nat.le_of_ble_eq_true rfl), (Nat.le_of_ble_eq_true rfl)⟩ rfl ?_
      refine ct_X2_mix ?_
      rw [gHv_up, gUp_eq2 rfl rfl]
      refine Gx_iinc_2 dX2_mixWood_200 (Nat.le_of_ble_eq_true rfl) (Nat.ne_of_beq_eq_false rfl) ?_
      rw [show w32 (2 + 1) = (3 : Int) from by decide]
      refine Gx_goto (tgt := 184) dX2_mixWood_203 (by decide) ?_
      refine Gx_iload_n (i := 2) dX2_mixWood_184 rfl rfl ?_
      refine Gx_iconst ⟨by decide, by decide⟩ dX2_mixWood_185 ?_
      refine Gx_icmp_ge (tgt := 206) dX2_mixWood_186 (by decide) (fun hz => absurd hz (by decide)) (fun _ => ?_)
      refine Gx_aload_n (i := 0) dX2_mixWood_189 rfl rfl ?_
      refine Gx_aload_n (i := 0) dX2_mixWood_190 rfl rfl ?_
      refine Gx_iload_n (i := 1) dX2_mixWood_191 rfl rfl ?_
      refine Gx_iload_n (i := 2) dX2_mixWood_192 rfl rfl ?_
      refine cl_X2_230 dX2_mixWood_193 rfl rfl ⟨(Nat.le_of_ble_eq_true rfl), (Nat.le_of_ble_eq_true rfl)⟩ rfl ?_
      refine ct_X2_treeTells (by omega) ?_
      refine Gx_i2l dX2_mixWood_196 ?_
      refine cl_X2_384 dX2_mixWood_197 rfl rfl ⟨(Nat.le_of_ble_eq_true rfl), (Nat.le_of_ble_eq_true rfl)⟩ rfl ?_
      refine ct_X2_mix ?_
      rw [gHv_up, gUp_eq2 rfl rfl]
      refine Gx_iinc_2 dX2_mixWood_200 (Nat.le_of_ble_eq_true rfl) (Nat.ne_of_beq_eq_false rfl) ?_
      rw [show w32 (3 + 1) = (4 : Int) from by decide]
      refine Gx_goto (tgt := 184) dX2_mixWood_203 (by decide) ?_
      refine Gx_iload_n (i := 2) dX2_mixWood_184 rfl rfl ?_
      refine Gx_iconst ⟨by decide, by decide⟩ dX2_mixWood_185 ?_
      refine Gx_icmp_ge (tgt := 206) dX2_mixWood_186 (by decide) (fun _ => ?_) (fun hz => absurd hz (by decide))
      refine Gx_iinc_1 dX2_mixWood_206 (Nat.le_of_ble_eq_true rfl) (Nat.ne_of_beq_eq_false rfl) ?_
      try simp (disch := omega) only [w32_id]
      refine Gx_goto (tgt := 174) dX2_mixWood_209 (by decide) ?_
      have hx := hIt_s (f := hFour (sTree v)) (h := h) h0
      have hi := ih (i + 1) (0, 4) (by omega) (by omega)
      rw [hx] at hi
      exact hi
set_option maxHeartbeats 4000000 in
theorem ct_X2_mixWood  (h20 : 0 ≤ v 38 20 ∧ v 38 20 ≤ 6) (h22 : 0 ≤ v 38 22 ∧ v 38 22 ≤ 2) (h28 : 0 ≤ v 38 28 ∧ v 38 28 ≤ 8) (h33 : 0 ≤ v 38 33 ∧ v 38 33 ≤ 24) (k : Q (9, 0) (gUp v 38 60 (mWood v (v 38 60))) (gHd K) t) : Ctr Γ mX2_mixWood [(2, 38)] v (gHd K) t Q := by
  refine Ctr.ofG (ls := [(2, 38), (9, 0), (9, 0)]) rfl rfl rfl rfl rfl ?_
  refine Gx_iconst ⟨by decide, by decide⟩ dX2_mixWood_0 ?_
  refine Gx_istore_n_1 dX2_mixWood_1 (Nat.le_of_ble_eq_true rfl) (Nat.ne_of_beq_eq_false rfl) ?_
  have ev : v = gUp v 38 60 (v 38 60) := by
    funext a j
    unfold gUp
    by_cases h1 : a = 38 <;> by_cases h2 : j = 60 <;> simp [h1, h2]
  rw [ev]
  refine lp_X2_mixWood1 (h := v 38 60) rfl (by omega) (fun z2 => ?_) (v 38 20).toNat 0 _ (by omega) (by omega)
  refine Gx_iconst ⟨by decide, by decide⟩ dX2_mixWood_72 ?_
  refine Gx_istore_n_1 dX2_mixWood_73 (Nat.le_of_ble_eq_true rfl) (Nat.ne_of_beq_eq_false rfl) ?_
  refine lp_X2_mixWood2 rfl (by omega) (fun z2 => ?_) (v 38 22).toNat 0 _ (by omega) (by omega)
  refine Gx_iconst ⟨by decide, by decide⟩ dX2_mixWood_121 ?_
  refine Gx_istore_n_1 dX2_mixWood_122 (Nat.le_of_ble_eq_true rfl) (Nat.ne_of_beq_eq_false rfl) ?_
  refine Gx_iload_n (i := 1) dX2_mixWood_123 rfl rfl ?_
  refine Gx_bipush dX2_mixWood_124 ⟨by decide, by decide⟩ ?_
  refine Gx_icmp_ge (tgt := 145) dX2_mixWood_126 (by decide) (fun hz => absurd hz (by decide)) (fun _ => ?_)
  refine Gx_aload_n (i := 0) dX2_mixWood_129 rfl rfl ?_
  refine Gx_aload_n (i := 0) dX2_mixWood_130 rfl rfl ?_
  refine Gx_iload_n (i := 1) dX2_mixWood_131 rfl rfl ?_
  refine cl_X2_236 dX2_mixWood_132 rfl rfl ⟨(Nat.le_of_ble_eq_true rfl), (Nat.le_of_ble_eq_true rfl)⟩ rfl ?_
  refine ct_X2_nowTells (by omega) ?_
  refine Gx_i2l dX2_mixWood_135 ?_
  refine cl_X2_384 dX2_mixWood_136 rfl rfl ⟨(Nat.le_of_ble_eq_true rfl), (Nat.le_of_ble_eq_true rfl)⟩ rfl ?_
  refine ct_X2_mix ?_
  rw [gHv_up, gUp_eq2 rfl rfl]
  refine Gx_iinc_1 dX2_mixWood_139 (Nat.le_of_ble_eq_true rfl) (Nat.ne_of_beq_eq_false rfl) ?_
  rw [show w32 (0 + 1) = (1 : Int) from by decide]
  refine Gx_goto (tgt := 123) dX2_mixWood_142 (by decide) ?_
  refine Gx_iload_n (i := 1) dX2_mixWood_123 rfl rfl ?_
  refine Gx_bipush dX2_mixWood_124 ⟨by decide, by decide⟩ ?_
  refine Gx_icmp_ge (tgt := 145) dX2_mixWood_126 (by decide) (fun hz => absurd hz (by decide)) (fun _ => ?_)
  refine Gx_aload_n (i := 0) dX2_mixWood_129 rfl rfl ?_
  refine Gx_aload_n (i := 0) dX2_mixWood_130 rfl rfl ?_
  refine Gx_iload_n (i := 1) dX2_mixWood_131 rfl rfl ?_
  refine cl_X2_236 dX2_mixWood_132 rfl rfl ⟨(Nat.le_of_ble_eq_true rfl), (Nat.le_of_ble_eq_true rfl)⟩ rfl ?_
  refine ct_X2_nowTells (by omega) ?_
  refine Gx_i2l dX2_mixWood_135 ?_
  refine cl_X2_384 dX2_mixWood_136 rfl rfl ⟨(Nat.le_of_ble_eq_true rfl), (Nat.le_of_ble_eq_true rfl)⟩ rfl ?_
  refine ct_X2_mix ?_
  rw [gHv_up, gUp_eq2 rfl rfl]
  refine Gx_iinc_1 dX2_mixWood_139 (Nat.le_of_ble_eq_true rfl) (Nat.ne_of_beq_eq_false rfl) ?_
  rw [show w32 (1 + 1) = (2 : Int) from by decide]
  refine Gx_goto (tgt := 123) dX2_mixWood_142 (by decide) ?_
  refine Gx_iload_n (i := 1) dX2_mixWood_123 rfl rfl ?_
  refine Gx_bipush dX2_mixWood_124 ⟨by decide, by decide⟩ ?_
  refine Gx_icmp_ge (tgt := 145) dX2_mixWood_126 (by decide) (fun hz => absurd hz (by decide)) (fun _ => ?_)
  refine Gx_aload_n (i := 0) dX2_mixWood_129 rfl rfl ?_
  refine Gx_aload_n (i := 0) dX2_mixWood_130 rfl rfl ?_
  refine Gx_iload_n (i := 1) dX2_mixWood_131 rfl rfl ?_
  refine cl_X2_236 dX2_mixWood_132 rfl rfl ⟨(Nat.le_of_ble_eq_true rfl), (Nat.le_of_ble_eq_true rfl)⟩ rfl ?_
  refine ct_X2_nowTells (by omega) ?_
  refine Gx_i2l dX2_mixWood_135 ?_
  refine cl_X2_384 dX2_mixWood_136 rfl rfl ⟨(Nat.le_of_ble_eq_true rfl), (Nat.le_of_ble_eq_true rfl)⟩ rfl ?_
  refine ct_X2_mix ?_
  rw [gHv_up, gUp_eq2 rfl rfl]
  refine Gx_iinc_1 dX2_mixWood_139 (Nat.le_of_ble_eq_true rfl) (Nat.ne_of_beq_eq_false rfl) ?_
  rw [show w32 (2 + 1) = (3 : Int) from by decide]
  refine Gx_goto (tgt := 123) dX2_mixWood_142 (by decide) ?_
  refine Gx_iload_n (i := 1) dX2_mixWood_123 rfl rfl ?_
  refine Gx_bipush dX2_mixWood_124 ⟨by decide, by decide⟩ ?_
  refine Gx_icmp_ge (tgt := 145) dX2_mixWood_126 (by decide) (fun hz => absurd hz (by decide)) (fun _ => ?_)
  refine Gx_aload_n (i := 0) dX2_mixWood_129 rfl rfl ?_
  refine Gx_aload_n (i := 0) dX2_mixWood_130 rfl rfl ?_
  refine Gx_iload_n (i := 1) dX2_mixWood_131 rfl rfl ?_
  refine cl_X2_236 dX2_mixWood_132 rfl rfl ⟨(Nat.le_of_ble_eq_true rfl), (Nat.le_of_ble_eq_true rfl)⟩ rfl ?_
  refine ct_X2_nowTells (by omega) ?_
  refine Gx_i2l dX2_mixWood_135 ?_
  refine cl_X2_384 dX2_mixWood_136 rfl rfl ⟨(Nat.le_of_ble_eq_true rfl), (Nat.le_of_ble_eq_true rfl)⟩ rfl ?_
  refine ct_X2_mix ?_
  rw [gHv_up, gUp_eq2 rfl rfl]
  refine Gx_iinc_1 dX2_mixWood_139 (Nat.le_of_ble_eq_true rfl) (Nat.ne_of_beq_eq_false rfl) ?_
  rw [show w32 (3 + 1) = (4 : Int) from by decide]
  refine Gx_goto (tgt := 123) dX2_mixWood_142 (by decide) ?_
  refine Gx_iload_n (i := 1) dX2_mixWood_123 rfl rfl ?_
  refine Gx_bipush dX2_mixWood_124 ⟨by decide, by decide⟩ ?_
  refine Gx_icmp_ge (tgt := 145) dX2_mixWood_126 (by decide) (fun hz => absurd hz (by decide)) (fun _ => ?_)
  refine Gx_aload_n (i := 0) dX2_mixWood_129 rfl rfl ?_
  refine Gx_aload_n (i := 0) dX2_mixWood_130 rfl rfl ?_
  refine Gx_iload_n (i := 1) dX2_mixWood_131 rfl rfl ?_
  refine cl_X2_236 dX2_mixWood_132 rfl rfl ⟨(Nat.le_of_ble_eq_true rfl), (Nat.le_of_ble_eq_true rfl)⟩ rfl ?_
  refine ct_X2_nowTells (by omega) ?_
  refine Gx_i2l dX2_mixWood_135 ?_
  refine cl_X2_384 dX2_mixWood_136 rfl rfl ⟨(Nat.le_of_ble_eq_true rfl), (Nat.le_of_ble_eq_true rfl)⟩ rfl ?_
  refine ct_X2_mix ?_
  rw [gHv_up, gUp_eq2 rfl rfl]
  refine Gx_iinc_1 dX2_mixWood_139 (Nat.le_of_ble_eq_true rfl) (Nat.ne_of_beq_eq_false rfl) ?_
  rw [show w32 (4 + 1) = (5 : Int) from by decide]
  refine Gx_goto (tgt := 123) dX2_mixWood_142 (by decide) ?_
  refine Gx_iload_n (i := 1) dX2_mixWood_123 rfl rfl ?_
  refine Gx_bipush dX2_mixWood_124 ⟨by decide, by decide⟩ ?_
  refine Gx_icmp_ge (tgt := 145) dX2_mixWood_126 (by decide) (fun hz => absurd hz (by decide)) (fun _ => ?_)
  refine Gx_aload_n (i := 0) dX2_mixWood_129 rfl rfl ?_
  refine Gx_aload_n (i := 0) dX2_mixWood_130 rfl rfl ?_
  refine Gx_iload_n (i := 1) dX2_mixWood_131 rfl rfl ?_
  refine cl_X2_236 dX2_mixWood_132 rfl rfl ⟨(Nat.le_of_ble_eq_true rfl), (Nat.le_of_ble_eq_true rfl)⟩ rfl ?_
  refine ct_X2_nowTells (by omega) ?_
  refine Gx_i2l dX2_mixWood_135 ?_
  refine cl_X2_384 dX2_mixWood_136 rfl rfl ⟨(Nat.le_of_ble_eq_true rfl), (Nat.le_of_ble_eq_true rfl)⟩ rfl ?_
  refine ct_X2_mix ?_
  rw [gHv_up, gUp_eq2 rfl rfl]
  refine Gx_iinc_1 dX2_mixWood_139 (Nat.le_of_ble_eq_true rfl) (Nat.ne_of_beq_eq_false rfl) ?_
  rw [show w32 (5 + 1) = (6 : Int) from by decide]
  refine Gx_goto (tgt := 123) dX2_mixWood_142 (by decide) ?_
  refine Gx_iload_n (i := 1) dX2_mixWood_123 rfl rfl ?_
  refine Gx_bipush dX2_mixWood_124 ⟨by decide, by decide⟩ ?_
  refine Gx_icmp_ge (tgt := 145) dX2_mixWood_126 (by decide) (fun hz => absurd hz (by decide)) (fun _ => ?_)
  refine Gx_aload_n (i := 0) dX2_mixWood_129 rfl rfl ?_
  refine Gx_aload_n (i := 0) dX2_mixWood_130 rfl rfl ?_
  refine Gx_iload_n (i := 1) dX2_mixWood_131 rfl rfl ?_
  refine cl_X2_236 dX2_mixWood_132 rfl rfl ⟨(Nat.le_of_ble_eq_true rfl), (Nat.le_of_ble_eq_true rfl)⟩ rfl ?_
  refine ct_X2_nowTells (by omega) ?_
  refine Gx_i2l dX2_mixWood_135 ?_
  refine cl_X2_384 dX2_mixWood_136 rfl rfl ⟨(Nat.le_of_ble_eq_true rfl), (Nat.le_of_ble_eq_true rfl)⟩ rfl ?_
  refine ct_X2_mix ?_
  rw [gHv_up, gUp_eq2 rfl rfl]
  refine Gx_iinc_1 dX2_mixWood_139 (Nat.le_of_ble_eq_true rfl) (Nat.ne_of_beq_eq_false rfl) ?_
  rw [show w32 (6 + 1) = (7 : Int) from by decide]
  refine Gx_goto (tgt := 123) dX2_mixWood_142 (by decide) ?_
  refine Gx_iload_n (i := 1) dX2_mixWood_123 rfl rfl ?_
  refine Gx_bipush dX2_mixWood_124 ⟨by decide, by decide⟩ ?_
  refine Gx_icmp_ge (tgt := 145) dX2_mixWood_126 (by decide) (fun hz => absurd hz (by decide)) (fun _ => ?_)
  refine Gx_aload_n (i := 0) dX2_mixWood_129 rfl rfl ?_
  refine Gx_aload_n (i := 0) dX2_mixWood_130 rfl rfl ?_
  refine Gx_iload_n (i := 1) dX2_mixWood_131 rfl rfl ?_
  refine cl_X2_236 dX2_mixWood_132 rfl rfl ⟨(Nat.le_of_ble_eq_true rfl), (Nat.le_of_ble_eq_true rfl)⟩ rfl ?_
  refine ct_X2_nowTells (by omega) ?_
  refine Gx_i2l dX2_mixWood_135 ?_
  refine cl_X2_384 dX2_mixWood_136 rfl rfl ⟨(Nat.le_of_ble_eq_true rfl), (Nat.le_of_ble_eq_true rfl)⟩ rfl ?_
  refine ct_X2_mix ?_
  rw [gHv_up, gUp_eq2 rfl rfl]
  refine Gx_iinc_1 dX2_mixWood_139 (Nat.le_of_ble_eq_true rfl) (Nat.ne_of_beq_eq_false rfl) ?_
  rw [show w32 (7 + 1) = (8 : Int) from by decide]
  refine Gx_goto (tgt := 123) dX2_mixWood_142 (by decide) ?_
  refine Gx_iload_n (i := 1) dX2_mixWood_123 rfl rfl ?_
  refine Gx_bipush dX2_mixWood_124 ⟨by decide, by decide⟩ ?_
  refine Gx_icmp_ge (tgt := 145) dX2_mixWood_126 (by decide) (fun hz => absurd hz (by decide)) (fun _ => ?_)
  refine Gx_aload_n (i := 0) dX2_mixWood_129 rfl rfl ?_
  refine Gx_aload_n (i := 0) dX2_mixWood_130 rfl rfl ?_
  refine Gx_iload_n (i := 1) dX2_mixWood_131 rfl rfl ?_
  refine cl_X2_236 dX2_mixWood_132 rfl rfl ⟨(Nat.le_of_ble_eq_true rfl), (Nat.le_of_ble_eq_true rfl)⟩ rfl ?_
  refine ct_X2_nowTells (by omega) ?_
  refine Gx_i2l dX2_mixWood_135 ?_
  refine cl_X2_384 dX2_mixWood_136 rfl rfl ⟨(Nat.le_of_ble_eq_true rfl), (Nat.le_of_ble_eq_true rfl)⟩ rfl ?_
  refine ct_X2_mix ?_
  rw [gHv_up, gUp_eq2 rfl rfl]
  refine Gx_iinc_1 dX2_mixWood_139 (Nat.le_of_ble_eq_true rfl) (Nat.ne_of_beq_eq_false rfl) ?_
  rw [show w32 (8 + 1) = (9 : Int) from by decide]
  refine Gx_goto (tgt := 123) dX2_mixWood_142 (by decide) ?_
  refine Gx_iload_n (i := 1) dX2_mixWood_123 rfl rfl ?_
  refine Gx_bipush dX2_mixWood_124 ⟨by decide, by decide⟩ ?_
  refine Gx_icmp_ge (tgt := 145) dX2_mixWood_126 (by decide) (fun _ => ?_) (fun hz => absurd hz (by decide))
  refine Gx_iconst ⟨by decide, by decide⟩ dX2_mixWood_145 ?_
  refine Gx_istore_n_1 dX2_mixWood_146 (Nat.le_of_ble_eq_true rfl) (Nat.ne_of_beq_eq_false rfl) ?_
  refine lp_X2_mixWood3 rfl (by omega) (fun z2 => ?_) (v 38 28).toNat 0 _ (by omega) (by omega)
  refine Gx_iconst ⟨by decide, by decide⟩ dX2_mixWood_172 ?_
  refine Gx_istore_n_1 dX2_mixWood_173 (Nat.le_of_ble_eq_true rfl) (Nat.ne_of_beq_eq_false rfl) ?_
  refine lp_X2_mixWood4 rfl (by omega) (fun z2 => ?_) (v 38 33).toNat 0 _ (by omega) (by omega)
  refine Gx_return dX2_mixWood_212 rfl ?_
  exact k
end
