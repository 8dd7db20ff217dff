/-! AcornYears: plants -/
section
variable {Γ : gC} {v : gM} {K : gH} {t : Nat} {Q : gQ}
/-- i trees are planted: their cells are c, c + 1, .. -/
def oPl (v v1 : gM) (c : Int) (f : Int → Int) (i : Int) : Prop := v1 0 32 = v 0 32 + i ∧ (∀ j, 0 ≤ j → j < i → v1 16 (v 0 32 + j) = c + j ∧ v1 18 (v 0 32 + j) = f (2 * j + 1) ∧ v1 (c + j) 0 = f (2 * j) ∧ v1 (c + j) 1 = 0 ∧ v1 (c + j) 2 = -9) ∧ ∀ a k, ¬ ((c ≤ a ∧ a < c + i) ∨ ((a = 16 ∨ a = 18) ∧ v 0 32 ≤ k ∧ k < v 0 32 + i) ∨ (a = 0 ∧ k = 32)) → v1 a k = v a k
def oPh (K K1 : gH) (c i : Int) : Prop := (∀ j, 0 ≤ j → j < i → K1 (c + j) = (8, 0)) ∧ ∀ a, ¬ (c ≤ a ∧ a < c + i) → K1 a = K a
theorem oPl_0 (v : gM) (c : Int) (f : Int → Int) : oPl v v c f 0 := ⟨by omega, fun j h0 h1 => absurd h1 (by omega), fun a k _ => rfl⟩
theorem oPh_0 (K : gH) (c : Int) : oPh K K c 0 := ⟨fun j h0 h1 => absurd h1 (by omega), fun a _ => rfl⟩
theorem oPl_s {v v1 v2 : gM} {c i : Int} {f : Int → Int} (hc : 66 ≤ c) (hi : 0 ≤ i) (h : oPl v v1 c f i) (g : oNt v1 v2 (c + i) (f (2 * i)) (f (2 * i + 1))) : oPl v v2 c f (i + 1) := by
  obtain ⟨h1, h2, h3⟩ := h
  obtain ⟨g1, g2, g3, g4, g5, g6, g7⟩ := g
  rw [h1] at g4 g5 g6 g7
  refine ⟨by omega, fun j j0 j1 => ?_, fun a k hk => ?_⟩
  · by_cases hj : j = i
    · subst hj
      exact ⟨g4, g5, g1, g2, g3⟩
    · obtain ⟨q1, q2, q3, q4, q5⟩ := h2 j j0 (by omega)
      rw [g7 16 _ (by omega), g7 18 _ (by omega), g7 (c + j) 0 (by omega), g7 (c + j) 1 (by omega), g7 (c + j) 2 (by omega)]
      exact ⟨q1, q2, q3, q4, q5⟩
  · rw [g7 a k (by omega)]
    exact h3 a k (by omega)
theorem oPh_s {K K1 : gH} {c i : Int} (hi : 0 ≤ i) (h : oPh K K1 c i) : oPh K (gUpH K1 (c + i) (8, 0)) c (i + 1) := by
  refine ⟨fun j j0 j1 => ?_, fun a ha => ?_⟩
  · by_cases hj : j = i
    · subst hj
      exact gUpH_at
    · rw [gUpH_ne (by omega)]
      exact h.1 j j0 (by omega)
  · rw [gUpH_ne (by omega)]
    exact h.2 a (by omega)
/-- a row of A's: none, or an array of its own -/
abbrev aRo (v : gM) (h : gH) (r n : Int) : Prop := 66 ≤ v 2 r ∧ h (v 2 r) = (10, n) ∧ 0 ≤ n ∧ n ≤ 80

theorem pPl_ff {n i q : Int} {f : Int → Int} (h0 : 0 ≤ i) (h1 : i < q) (h : pPl n f (i + 1).toNat = false) : pPl n f q.toNat = false := by
  obtain ⟨d, hd⟩ : ∃ d : Nat, q = i + 1 + d := ⟨(q - i - 1).toNat, by omega⟩
  subst hd
  clear h1
  induction d with
  | zero => rw [show i + 1 + ((0 : Nat) : Int) = i + 1 by omega]; exact h
  | succ d ih => rw [show i + 1 + ((d + 1 : Nat) : Int) = i + 1 + (d : Int) + 1 by omega, pPl_s (by omega), ih]; rfl

set_option maxHeartbeats 1000000 in
theorem lp_X0_plants1 {r n m q : Int} {bc bs : Nat} (hr : 0 ≤ r ∧ r ≤ 5) (hro : aRo v (gHd K) r n) (hh : gHd K (v 0 7) = (17, m)) (hm : 0 ≤ m ∧ m ≤ 6) (hq : 2 * q = n) (kU : pPl m (v (v 2 r)) q.toNat = false → Q (0, -3) (aMet v 3) (gHd K) t) (cont : pPl m (v (v 2 r)) q.toNat = true → Gx Γ mX0_plants 124 [(2, 0), (0, r), (0, q), (0, q)] [] v (gHd K) t bc bs Q) : ∀ (j : Nat) (i : Int), 0 ≤ i → i + j = q → pPl m (v (v 2 r)) i.toNat = true → Gx Γ mX0_plants 69 [(2, 0), (0, r), (0, q), (0, i)] [] v (gHd K) t bc bs Q := by
  intro j
  induction j with
  | zero =>
    intro i h0 h1 hP
    obtain ⟨r66, hrh, n0, n1⟩ := hro
    have hps := pPl_s (n := m) (k := i) (f := v (v 2 r)) h0
    refine Gx_iload_n (i := 3) dX0_plants_69 rfl rfl ?_
    refine Gx_iload_n (i := 2) dX0_plants_70 rfl rfl ?_
    refine Gx_icmp_ge (tgt := 124) dX0_plants_71 (by decide) (fun c71 => ?_) (fun c71 => ?_)
    · have e0 : i = q := by omega
      subst e0
      exact cont hP
    · exfalso
      omega
  | succ j ih =>
    intro i h0 h1 hP
    obtain ⟨r66, hrh, n0, n1⟩ := hro
    have hps := pPl_s (n := m) (k := i) (f := v (v 2 r)) h0
    refine Gx_iload_n (i := 3) dX0_plants_69 rfl rfl ?_
    refine Gx_iload_n (i := 2) dX0_plants_70 rfl rfl ?_
    refine Gx_icmp_ge (tgt := 124) dX0_plants_71 (by decide) (fun c71 => ?_) (fun c71 => ?_)
    · exfalso
      omega
    · refine Gx_aload_n (i := 0) dX0_plants_74 rfl rfl ?_
      refine Gx_aload_n (i := 0) dX0_plants_75 rfl rfl ?_
      refine gf_X0_28_20 dX0_plants_76 rfl rfl ?_
      refine Gx_iload_n (i := 1) dX0_plants_79 rfl rfl ?_
      refine Gx_aaload15 dX0_plants_80 rfl (by first | omega | (simp (disch := omega) only [w32_id]; omega)) ?_
      refine Gx_iconst ⟨by decide, by decide⟩ dX0_plants_81 ?_
      refine Gx_iload_n (i := 3) dX0_plants_82 rfl rfl ?_
      refine Gx_imul dX0_plants_83 ?_
      try simp (disch := omega) only [w32_id]
      refine Gx_iaload dX0_plants_84 hrh (by first | omega | (simp (disch := omega) only [w32_id]; omega)) ?_
      refine cl_X0_291 dX0_plants_85 rfl rfl ⟨(Nat.le_of_ble_eq_true rfl), (Nat.le_of_ble_eq_true rfl)⟩ rfl ?_
      refine ct_X0_isSort hh hm (fun hs => ?_) (fun hs => ?_)
      · refine Gx_if_eq (tgt := 112) dX0_plants_88 (by decide) (fun hz => absurd hz (by decide)) (fun _ => ?_)
        refine Gx_aload_n (i := 0) dX0_plants_91 rfl rfl ?_
        refine gf_X0_28_20 dX0_plants_92 rfl rfl ?_
        refine Gx_iload_n (i := 1) dX0_plants_95 rfl rfl ?_
        refine Gx_aaload15 dX0_plants_96 rfl (by first | omega | (simp (disch := omega) only [w32_id]; omega)) ?_
        refine Gx_iconst ⟨by decide, by decide⟩ dX0_plants_97 ?_
        refine Gx_iload_n (i := 3) dX0_plants_98 rfl rfl ?_
        refine Gx_imul dX0_plants_99 ?_
        try simp (disch := omega) only [w32_id]
        refine Gx_iconst ⟨by decide, by decide⟩ dX0_plants_100 ?_
        refine Gx_iadd dX0_plants_101 ?_
        try simp (disch := omega) only [w32_id]
        refine Gx_iaload dX0_plants_102 hrh (by first | omega | (simp (disch := omega) only [w32_id]; omega)) ?_
        refine Gx_iconst ⟨by decide, by decide⟩ dX0_plants_103 ?_
        refine Gx_bipush dX0_plants_104 ⟨by decide, by decide⟩ ?_
        refine cl_X0_129 dX0_plants_106 rfl ⟨(Nat.le_of_ble_eq_true rfl), (Nat.le_of_ble_eq_true rfl)⟩ rfl ?_
        refine ct_X0_isIn (fun hx => ?_) (fun hx => ?_)
        · refine Gx_if_ne (tgt := 118) dX0_plants_109 (by decide) (fun _ => ?_) (fun hz => absurd hz (by decide))
          refine Gx_iinc_3 dX0_plants_118 (Nat.le_of_ble_eq_true rfl) (Nat.ne_of_beq_eq_false rfl) ?_
          try simp (disch := omega) only [w32_id]
          refine Gx_goto (tgt := 69) dX0_plants_121 (by decide) ?_
          refine ih (i + 1) (by omega) (by omega) ?_
          rw [hps, hP, Bool.true_and]
          exact decide_eq_true (by omega)
        · refine Gx_if_ne (tgt := 118) dX0_plants_109 (by decide) (fun hz => absurd hz (by decide)) (fun _ => ?_)
          refine Gx_aload_n (i := 0) dX0_plants_112 rfl rfl ?_
          refine Gx_iconst ⟨by decide, by decide⟩ dX0_plants_113 ?_
          refine cl_X0_139 dX0_plants_114 rfl rfl ⟨(Nat.le_of_ble_eq_true rfl), (Nat.le_of_ble_eq_true rfl)⟩ rfl ?_
          refine ct_X0_met (by omega) ?_
          refine Gx_ireturn dX0_plants_117 trivial ?_
          refine kU (pPl_ff h0 (by omega) (by rw [hps, hP, Bool.true_and]; exact decide_eq_false (by omega)))
      · refine Gx_if_eq (tgt := 112) dX0_plants_88 (by decide) (fun _ => ?_) (fun hz => absurd hz (by decide))
        refine Gx_aload_n (i := 0) dX0_plants_112 rfl rfl ?_
        refine Gx_iconst ⟨by decide, by decide⟩ dX0_plants_113 ?_
        refine cl_X0_139 dX0_plants_114 rfl rfl ⟨(Nat.le_of_ble_eq_true rfl), (Nat.le_of_ble_eq_true rfl)⟩ rfl ?_
        refine ct_X0_met (by omega) ?_
        refine Gx_ireturn dX0_plants_117 trivial ?_
        refine kU (pPl_ff h0 (by omega) (by rw [hps, hP, Bool.true_and]; exact decide_eq_false (by omega)))
set_option maxHeartbeats 1000000 in
theorem lp_X0_plants2 {r n q : Int} {v0 : gM} {K0 : gH} {t0 : Nat} (h66 : 66 ≤ t0) (hT : gTop (gHd K0) t0) (hr : 0 ≤ r ∧ r ≤ 5) (hro : aRo v0 (gHd K0) r n) (hq : 2 * q = n) (hn : 0 ≤ v0 0 32 ∧ v0 0 32 + q ≤ 24) (k : ∀ v1 K1, oPl v0 v1 t0 (v0 (v0 2 r)) q → oPh K0 K1 t0 q → Q (0, q) v1 (gHd K1) (t0 + q.toNat)) : ∀ (j : Nat) (i : Int) (v : gM) (K : gH) (t bc bs : Nat), 0 ≤ i → i + j = q → t = t0 + i.toNat → j ≤ bc → 3 * j ≤ bs → oPl v0 v t0 (v0 (v0 2 r)) i → oPh K0 K t0 i → Gx Γ mX0_plants 126 [(2, 0), (0, r), (0, q), (0, i)] [] v (gHd K) t bc bs Q := by
  intro j
  induction j with
  | zero =>
    intro i v K t bc bs h0 h1 ht hb1 hb2 hP hH
    obtain ⟨r66, hrh, n0, n1⟩ := hro
    have h32 : v 0 32 = v0 0 32 + i := hP.1
    have hlt := (gHd_lh hT hrh (by decide)).2
    have e2 : v 2 r = v0 2 r := hP.2.2 2 r (by omega)
    have hrh2 : gHd K (v 2 r) = (10, n) := by
      rw [e2, ← hrh]
      unfold gHd
      rw [if_neg (by omega), if_neg (by omega)]
      exact hH.2 _ (by omega)
    have eF : ∀ z, v (v 2 r) z = v0 (v0 2 r) z := fun z => by rw [e2]; exact hP.2.2 _ _ (by omega)
    refine Gx_iload_n (i := 3) dX0_plants_126 rfl rfl ?_
    refine Gx_iload_n (i := 2) dX0_plants_127 rfl rfl ?_
    refine Gx_icmp_ge (tgt := 164) dX0_plants_128 (by decide) (fun c128 => ?_) (fun c128 => ?_)
    · refine Gx_iload_n (i := 2) dX0_plants_164 rfl rfl ?_
      refine Gx_ireturn dX0_plants_165 trivial ?_
      have e0 : i = q := by omega
      subst e0
      rw [ht]
      exact k v K hP hH
    · exfalso
      omega
  | succ j ih =>
    intro i v K t bc bs h0 h1 ht hb1 hb2 hP hH
    obtain ⟨r66, hrh, n0, n1⟩ := hro
    have h32 : v 0 32 = v0 0 32 + i := hP.1
    have hlt := (gHd_lh hT hrh (by decide)).2
    have e2 : v 2 r = v0 2 r := hP.2.2 2 r (by omega)
    have hrh2 : gHd K (v 2 r) = (10, n) := by
      rw [e2, ← hrh]
      unfold gHd
      rw [if_neg (by omega), if_neg (by omega)]
      exact hH.2 _ (by omega)
    have eF : ∀ z, v (v 2 r) z = v0 (v0 2 r) z := fun z => by rw [e2]; exact hP.2.2 _ _ (by omega)
    refine Gx_iload_n (i := 3) dX0_plants_126 rfl rfl ?_
    refine Gx_iload_n (i := 2) dX0_plants_127 rfl rfl ?_
    refine Gx_icmp_ge (tgt := 164) dX0_plants_128 (by decide) (fun c128 => ?_) (fun c128 => ?_)
    · refine Gx_iload_n (i := 2) dX0_plants_164 rfl rfl ?_
      refine Gx_ireturn dX0_plants_165 trivial ?_
      exfalso
      omega
    · refine Gx_aload_n (i := 0) dX0_plants_131 rfl rfl ?_
      refine Gx_aload_n (i := 0) dX0_plants_132 rfl rfl ?_
      refine gf_X0_28_20 dX0_plants_133 rfl rfl ?_
      refine Gx_iload_n (i := 1) dX0_plants_136 rfl rfl ?_
      refine Gx_aaload15 dX0_plants_137 rfl (by first | omega | (simp (disch := omega) only [w32_id]; omega)) ?_
      refine Gx_iconst ⟨by decide, by decide⟩ dX0_plants_138 ?_
      refine Gx_iload_n (i := 3) dX0_plants_139 rfl rfl ?_
      refine Gx_imul dX0_plants_140 ?_
      try simp (disch := omega) only [w32_id]
      refine Gx_iaload dX0_plants_141 hrh2 (by first | omega | (simp (disch := omega) only [w32_id]; omega)) ?_
      refine Gx_aload_n (i := 0) dX0_plants_142 rfl rfl ?_
      refine gf_X0_28_20 dX0_plants_143 rfl rfl ?_
      refine Gx_iload_n (i := 1) dX0_plants_146 rfl rfl ?_
      refine Gx_aaload15 dX0_plants_147 rfl (by first | omega | (simp (disch := omega) only [w32_id]; omega)) ?_
      refine Gx_iconst ⟨by decide, by decide⟩ dX0_plants_148 ?_
      refine Gx_iload_n (i := 3) dX0_plants_149 rfl rfl ?_
      refine Gx_imul dX0_plants_150 ?_
      try simp (disch := omega) only [w32_id]
      refine Gx_iconst ⟨by decide, by decide⟩ dX0_plants_151 ?_
      refine Gx_iadd dX0_plants_152 ?_
      try simp (disch := omega) only [w32_id]
      refine Gx_iaload dX0_plants_153 hrh2 (by first | omega | (simp (disch := omega) only [w32_id]; omega)) ?_
      refine cl_X0_294 (bc' := (bc - 1)) (bs' := (bs - 3)) dX0_plants_154 rfl rfl ⟨(Nat.le_of_ble_eq_true rfl), (Nat.le_of_ble_eq_true rfl)⟩ rfl (by first | omega | decide) (by first | omega | decide) ?_
      rw [eF, eF]
      refine ct_X0_newTree (by omega) (by omega) (fun v1 h1 => ?_)
      have hc : (t : Int) = (t0 : Int) + i := by omega
      rw [hc] at h1
      refine Gx_pop (Nat.ne_of_beq_eq_false rfl) dX0_plants_157 ?_
      refine Gx_iinc_3 dX0_plants_158 (Nat.le_of_ble_eq_true rfl) (Nat.ne_of_beq_eq_false rfl) ?_
      try simp (disch := omega) only [w32_id]
      refine Gx_goto (tgt := 126) dX0_plants_161 (by decide) ?_
      refine ih (i + 1) v1 _ (t + 1) (bc - 1) (bs - 3) (by omega) (by omega) (by omega) (by omega) (by omega) (oPl_s (by omega) h0 hP h1) ?_
      rw [hc]
      exact oPh_s h0 hH
set_option maxHeartbeats 1000000 in
theorem ct_X0_plants {r n m : Int} (hro : 0 ≤ r ∧ r ≤ 5 → v 2 r = -1 ∨ aRo v (gHd K) r n) (hh : gHd K (v 0 7) = (17, m)) (hm : 0 ≤ m ∧ m ≤ 6) (hn : 0 ≤ v 0 32 ∧ v 0 32 ≤ 24) (kB : ¬ (0 ≤ r ∧ r ≤ 5) → Q (0, -1) v (gHd K) t) (kN : 0 ≤ r ∧ r ≤ 5 → v 2 r = -1 → Q (0, -3) (aMet v 1) (gHd K) t) (kZ : 0 ≤ r ∧ r ≤ 5 → aRo v (gHd K) r n → n % 2 = 1 → Q (0, -3) (aMet v 5) (gHd K) t) (kF : 0 ≤ r ∧ r ≤ 5 → aRo v (gHd K) r n → n % 2 = 0 → 24 < v 0 32 + n / 2 → Q (0, -2) v (gHd K) t) (kU : 0 ≤ r ∧ r ≤ 5 → aRo v (gHd K) r n → n % 2 = 0 → v 0 32 + n / 2 ≤ 24 → pPl m (v (v 2 r)) (n / 2).toNat = false → Q (0, -3) (aMet v 3) (gHd K) t) (kO : 0 ≤ r ∧ r ≤ 5 → aRo v (gHd K) r n → n % 2 = 0 → v 0 32 + n / 2 ≤ 24 → pPl m (v (v 2 r)) (n / 2).toNat = true → ∀ v1 K1, oPl v v1 t (v (v 2 r)) (n / 2) → oPh K K1 t (n / 2) → Q (0, n / 2) v1 (gHd K1) (t + (n / 2).toNat)) : Ctr Γ mX0_plants [(2, 0), (0, r)] v (gHd K) t Q := by
  refine Ctr.ofG (ls := [(2, 0), (0, r), (9, 0), (9, 0)]) rfl rfl rfl rfl rfl ?_
  refine Gx_top (fun hT => ?_)
  refine Gx_iload_n (i := 1) dX0_plants_0 rfl rfl ?_
  refine cl_X0_133 dX0_plants_1 rfl ⟨(Nat.le_of_ble_eq_true rfl), (Nat.le_of_ble_eq_true rfl)⟩ rfl ?_
  refine ct_X0_isRow (fun hr => ?_) (fun hr => ?_)
  · refine Gx_if_ne (tgt := 9) dX0_plants_4 (by decide) (fun _ => ?_) (fun hz => absurd hz (by decide))
    refine Gx_aload_n (i := 0) dX0_plants_9 rfl rfl ?_
    refine gf_X0_28_20 dX0_plants_10 rfl rfl ?_
    refine Gx_iload_n (i := 1) dX0_plants_13 rfl rfl ?_
    refine Gx_aaload15 dX0_plants_14 rfl (by first | omega | (simp (disch := omega) only [w32_id]; omega)) ?_
    refine Gx_ifnonnull (tgt := 24) dX0_plants_15 (by decide) (fun c15 => ?_) (fun c15 => ?_)
    · have ho : aRo v (gHd K) r n := (hro hr).resolve_left (by omega)
      have n0 := ho.2.2.1
      have n1 := ho.2.2.2
      refine Gx_aload_n (i := 0) dX0_plants_24 rfl rfl ?_
      refine gf_X0_28_20 dX0_plants_25 rfl rfl ?_
      refine Gx_iload_n (i := 1) dX0_plants_28 rfl rfl ?_
      refine Gx_aaload15 dX0_plants_29 rfl (by first | omega | (simp (disch := omega) only [w32_id]; omega)) ?_
      refine Gx_alen dX0_plants_30 ho.2.1 (by decide) (by decide) ?_
      refine Gx_iconst ⟨by decide, by decide⟩ dX0_plants_31 ?_
      refine Gx_idiv dX0_plants_32 (by first | omega | (simp (disch := omega) only [w32_id]; omega)) ?_
      rw [Int.tdiv_eq_ediv_of_nonneg (by omega)]
      try simp (disch := omega) only [w32_id]
      refine Gx_istore_n_2 dX0_plants_33 (Nat.le_of_ble_eq_true rfl) (Nat.ne_of_beq_eq_false rfl) ?_
      refine Gx_aload_n (i := 0) dX0_plants_34 rfl rfl ?_
      refine gf_X0_28_20 dX0_plants_35 rfl rfl ?_
      refine Gx_iload_n (i := 1) dX0_plants_38 rfl rfl ?_
      refine Gx_aaload15 dX0_plants_39 rfl (by first | omega | (simp (disch := omega) only [w32_id]; omega)) ?_
      refine Gx_alen dX0_plants_40 ho.2.1 (by decide) (by decide) ?_
      refine Gx_iconst ⟨by decide, by decide⟩ dX0_plants_41 ?_
      refine Gx_iload_n (i := 2) dX0_plants_42 rfl rfl ?_
      refine Gx_imul dX0_plants_43 ?_
      try simp (disch := omega) only [w32_id]
      refine Gx_icmp_eq (tgt := 53) dX0_plants_44 (by decide) (fun c44 => ?_) (fun c44 => ?_)
      · refine Gx_aload_n (i := 0) dX0_plants_53 rfl rfl ?_
        refine gf_X0_276_20 dX0_plants_54 rfl rfl ?_
        refine Gx_iload_n (i := 2) dX0_plants_57 rfl rfl ?_
        refine Gx_iadd dX0_plants_58 ?_
        try simp (disch := omega) only [w32_id]
        refine Gx_bipush dX0_plants_59 ⟨by decide, by decide⟩ ?_
        refine Gx_icmp_le (tgt := 67) dX0_plants_61 (by decide) (fun c61 => ?_) (fun c61 => ?_)
        · refine Gx_iconst ⟨by decide, by decide⟩ dX0_plants_67 ?_
          refine Gx_istore_n_3 dX0_plants_68 (Nat.le_of_ble_eq_true rfl) (Nat.ne_of_beq_eq_false rfl) ?_
          have hd : n / 2 * 2 = n := by omega
          refine lp_X0_plants1 hr ho hh hm (by omega) (fun hf => kU hr ho (by omega) (by omega) hf) (fun hf => ?_) (n / 2).toNat 0 (by omega) (by omega) rfl
          refine Gx_iconst ⟨by decide, by decide⟩ dX0_plants_124 ?_
          refine Gx_istore_n_3 dX0_plants_125 (Nat.le_of_ble_eq_true rfl) (Nat.ne_of_beq_eq_false rfl) ?_
          refine lp_X0_plants2 (t0 := t) (gHd_66 hT) hT hr ho (by omega) (by omega) (fun v1 K1 h1 h2 => kO hr ho (by omega) (by omega) hf v1 K1 h1 h2) (n / 2).toNat 0 v K t _ _ (by omega) (by omega) (by omega) (by omega) (by omega) (oPl_0 _ _ _) (oPh_0 _ _)
        · refine Gx_bipush dX0_plants_64 ⟨by decide, by decide⟩ ?_
          refine Gx_ireturn dX0_plants_66 trivial ?_
          exact kF hr ho (by omega) (by omega)
      · refine Gx_aload_n (i := 0) dX0_plants_47 rfl rfl ?_
        refine Gx_iconst ⟨by decide, by decide⟩ dX0_plants_48 ?_
        refine cl_X0_139 dX0_plants_49 rfl rfl ⟨(Nat.le_of_ble_eq_true rfl), (Nat.le_of_ble_eq_true rfl)⟩ rfl ?_
        refine ct_X0_met (by omega) ?_
        refine Gx_ireturn dX0_plants_52 trivial ?_
        exact kZ hr ho (by omega)
    · refine Gx_aload_n (i := 0) dX0_plants_18 rfl rfl ?_
      refine Gx_iconst ⟨by decide, by decide⟩ dX0_plants_19 ?_
      refine cl_X0_139 dX0_plants_20 rfl rfl ⟨(Nat.le_of_ble_eq_true rfl), (Nat.le_of_ble_eq_true rfl)⟩ rfl ?_
      refine ct_X0_met (by omega) ?_
      refine Gx_ireturn dX0_plants_23 trivial ?_
      exact kN hr (by rcases hro hr with z | z <;> omega)
  · refine Gx_if_ne (tgt := 9) dX0_plants_4 (by decide) (fun hz => absurd hz (by decide)) (fun _ => ?_)
    refine Gx_iconst ⟨by decide, by decide⟩ dX0_plants_7 ?_
    refine Gx_ireturn dX0_plants_8 trivial ?_
    exact kB hr
end
