/-! AcornYearsModel: a year by bounds; walk, areAlike -/
section
variable {Γ : gC} {v : gM} {K : gH} {t : Nat} {Q : gQ}
theorem yMay_N {v : gM} (h : yOK v) : yMay (mN v) = v 54 (v 38 31 % v 38 28) := by
  have hc := h.2.2.2.2.2.2.2.1
  unfold yMay
  rw [mN_c (by omega), mN_c (by omega)]
  refine mN_at ?_
  have h0 := Int.emod_nonneg (v 38 31) (show v 38 28 ≠ 0 by omega)
  have h1 := Int.emod_lt_of_pos (v 38 31) (show 0 < v 38 28 by omega)
  unfold yR
  omega
theorem ct_X2_passY {w h pg : Int} (hw : 0 ≤ w ∧ w ≤ 2) (hv : yOK v) (hy : v 38 31 ≤ 90000) (k : ∀ v3, oYr v v3 w h pg → Q (9, 0) v3 (gHd K) t) : Ctr Γ mX2_passes [(2, 38), (0, w), (0, h), (0, pg)] v (gHd K) t Q :=
  ct_X2_passes hw ⟨hv.2.2.2.2.2.2.2.2.2, by omega⟩ (yOK_tr hv) hv.2.2.2.2.1 hv.2.2.2.2.2.1 hv.2.2.2.2.2.2.1 (fun v3 h3 => k v3 (oYear_fn hw (yOK_tr hv) hv.2.2.2.2.1 (yOK_so hv) h3))
theorem ct_X2_mayY (hv : yOK v) (k : Q (0, yMay (mN v)) v (gHd K) t) : Ctr Γ mX2_mayNow [(2, 38)] v (gHd K) t Q := by
  rw [yMay_N hv] at k
  exact ct_X2_mayNow hv.2.2.2.2.2.2.2.2.2 hv.2.2.2.2.2.2.2.1 k
theorem oYr_ok {v v3 : gM} {w h pg : Int} (hw : 0 ≤ w ∧ w ≤ 2) (hv : yOK v) (h3 : oYr v v3 w h pg) : yOK v3 := yOK_of (by rw [h3.1]; exact yOK_nx hw (yOK_N hv))
theorem yOK_m {v u : gM} {i : Nat} (hu : yOK u) (hm : mN v = yIt u i) : yOK v := yOK_of (by rw [hm]; exact yOK_it hu i)
theorem yYr_m {v u : gM} {i : Nat} (hm : mN v = yIt u i) : v 38 31 = u 38 31 + i := by
  have := mN_c (v := v) (k := 31) (by omega)
  rw [hm, yIt_y] at this
  omega
/-- what years do to all else -/
abbrev oFy (v v1 : gM) : Prop := ∀ a k, ¬ ((a = 38 ∧ (k = 31 ∨ k = 38 ∨ k = 39 ∨ k = 40 ∨ k = 41)) ∨ ((a = 56 ∨ a = 62) ∧ 0 ≤ k ∧ k < 2) ∨ ((a = 58 ∨ a = 59 ∨ a = 60 ∨ a = 61) ∧ 0 ≤ k ∧ k < v 38 33)) → v1 a k = v a k
theorem oFy_yr {v v1 v2 : gM} {w h pg : Int} (hF : oFy v v1) (h22 : v 38 22 ≤ 2) (h3 : oYr v1 v2 w h pg) : oFy v v2 := by
  have e33 := hF 38 33 (by omega)
  have e22 := hF 38 22 (by omega)
  intro a k hk
  rw [h3.2.2.2.2.2.2.2.2 a k (by omega)]
  exact hF a k hk
theorem wkN_33 {v : gM} {c : Int} : wkN v c 38 33 = v 38 33 := by
  unfold wkN
  rw [if_neg (by omega), if_neg (by omega), if_neg (by omega), mN_c (by omega)]
theorem wkN_22 {v : gM} {c : Int} : wkN v c 38 22 = v 38 22 := by
  unfold wkN
  rw [if_neg (by omega), if_neg (by omega), if_neg (by omega), mN_c (by omega)]
theorem wkN_31 {v : gM} {c : Int} : wkN v c 38 31 = v 63 (27 * c) := by
  unfold wkN
  rw [if_pos ⟨rfl, rfl⟩]

set_option maxHeartbeats 1000000 in
theorem lp_X2_walk {c n : Int} {bc bs : Nat} {u v0 : gM} (hu : yOK u) (hn : 0 ≤ n ∧ n ≤ 2) (hy : u 38 31 ≤ 80000) (h22 : v0 38 22 ≤ 2) (cont : ∀ v1, mN v1 = yIt u n.toNat → oFy v0 v1 → Gx Γ mX2_walk 28 [(2, 38), (0, c), (0, n), (0, n)] [] v1 (gHd K) t bc bs Q) : ∀ (j : Nat) (x : Int) (v : gM), 0 ≤ x → x + j = n → mN v = yIt u x.toNat → oFy v0 v → Gx Γ mX2_walk 7 [(2, 38), (0, c), (0, n), (0, x)] [] v (gHd K) t bc bs Q := by
  intro j
  induction j with
  | zero =>
    intro x v h0 h1 hm hF
    have hok := yOK_m hu hm
    have hyy := yYr_m hm
    refine Gx_iload_n (i := 3) dX2_walk_7 rfl rfl ?_
    refine Gx_iload_n (i := 2) dX2_walk_8 rfl rfl ?_
    refine Gx_icmp_ge (tgt := 28) dX2_walk_9 (by decide) (fun c9 => ?_) (fun c9 => ?_)
    · have e0 : x = n := by omega
      rw [e0] at hm ⊢
      exact cont v hm hF
    · exfalso
      omega
  | succ j ih =>
    intro x v h0 h1 hm hF
    have hok := yOK_m hu hm
    have hyy := yYr_m hm
    refine Gx_iload_n (i := 3) dX2_walk_7 rfl rfl ?_
    refine Gx_iload_n (i := 2) dX2_walk_8 rfl rfl ?_
    refine Gx_icmp_ge (tgt := 28) dX2_walk_9 (by decide) (fun c9 => ?_) (fun c9 => ?_)
    · exfalso
      omega
    · refine Gx_aload_n (i := 0) dX2_walk_12 rfl rfl ?_
      refine Gx_aload_n (i := 0) dX2_walk_13 rfl rfl ?_
      refine cl_X2_273 dX2_walk_14 rfl rfl ⟨(Nat.le_of_ble_eq_true rfl), (Nat.le_of_ble_eq_true rfl)⟩ rfl ?_
      refine ct_X2_mayY hok ?_
      refine Gx_iconst ⟨by decide, by decide⟩ dX2_walk_17 ?_
      refine Gx_iconst ⟨by decide, by decide⟩ dX2_walk_18 ?_
      refine cl_X2_269 dX2_walk_19 rfl rfl ⟨(Nat.le_of_ble_eq_true rfl), (Nat.le_of_ble_eq_true rfl)⟩ rfl ?_
      refine ct_X2_passY (yMay_le (yOK_N hok)) hok (by omega) (fun v3 h3 => ?_)
      refine Gx_iinc_3 dX2_walk_22 (Nat.le_of_ble_eq_true rfl) (Nat.ne_of_beq_eq_false rfl) ?_
      try simp (disch := omega) only [w32_id]
      refine Gx_goto (tgt := 7) dX2_walk_25 (by decide) ?_
      refine ih (x + 1) v3 (by omega) (by omega) ?_ (oFy_yr hF h22 h3)
      rw [h3.1, hm, show (x + 1).toNat = x.toNat + 1 by omega]
      rfl
set_option maxHeartbeats 1000000 in
theorem ct_X2_walk {c n : Int} (hc : 0 ≤ c ∧ c ≤ 2) (hn : 0 ≤ n ∧ n ≤ 2) (hok : yOK (wkN v c)) (hy : wkN v c 38 31 ≤ 80000) (k1 : ∀ v1, oWalk v v1 c n.toNat → Q (9, 0) v1 (gHd K) t) : Ctr Γ mX2_walk [(2, 38), (0, c), (0, n)] v (gHd K) t Q := by
  refine Ctr.ofG (ls := [(2, 38), (0, c), (0, n), (9, 0)]) rfl rfl rfl rfl rfl ?_
  have h33 := hok.2.2.1
  rw [wkN_33] at h33
  have h22 := hok.2.2.2.2.1.1
  rw [wkN_22] at h22
  refine Gx_aload_n (i := 0) dX2_walk_0 rfl rfl ?_
  refine Gx_iload_n (i := 1) dX2_walk_1 rfl rfl ?_
  refine cl_X2_280 dX2_walk_2 rfl rfl ⟨(Nat.le_of_ble_eq_true rfl), (Nat.le_of_ble_eq_true rfl)⟩ rfl ?_
  refine ct_X2_goTo hc h33 (fun v1 hg => ?_)
  refine Gx_iconst ⟨by decide, by decide⟩ dX2_walk_5 ?_
  refine Gx_istore_n_3 dX2_walk_6 (Nat.le_of_ble_eq_true rfl) (Nat.ne_of_beq_eq_false rfl) ?_
  have hm := oGoTo_N hg h22.2
  have q22 := hg.1 38 22 (by omega)
  have q33 := hg.1 38 33 (by omega)
  refine lp_X2_walk (u := wkN v c) (v0 := v1) hok hn hy (by omega) (fun v2 hm2 hF2 => ?_) n.toNat 0 v1 (by omega) (by omega) (by rw [hm]; rfl) (fun a k _ => rfl)
  have p22 := hF2 38 22 (by omega)
  have p33 := hF2 38 33 (by omega)
  refine Gx_aload_n (i := 0) dX2_walk_28 rfl rfl ?_
  refine Gx_iload_n (i := 1) dX2_walk_29 rfl rfl ?_
  refine cl_X2_283 dX2_walk_30 rfl rfl ⟨(Nat.le_of_ble_eq_true rfl), (Nat.le_of_ble_eq_true rfl)⟩ rfl ?_
  refine ct_X2_stand hc (by omega) (fun v3 hs => ?_)
  refine Gx_return dX2_walk_33 rfl ?_
  refine k1 v3 ⟨?_, fun d d0 d1 dn => ?_, fun a k hk => ?_⟩
  · rw [oStand_N hs (by omega), hm2]
  · rw [oStand_o hs dn (by omega) (by omega)]
    refine wkN_congr (fun k k0 k1 => ?_) (fun a k hR z1 z2 z3 => ?_) h22.2 h33.2
    · rw [hF2 63 k (by omega), hg.1 63 k (by omega)]
    · unfold yR at hR
      rw [hF2 a k (by omega), hg.1 a k (by omega)]
  · rw [hs.1 a k (by omega), hF2 a k (by omega), hg.1 a k (by omega)]
abbrev aP (v : gM) (c d s : Int) : Prop := v 63 (27 * c) % v 38 28 = v 63 (27 * d) % v 38 28 ∧ ∀ s', 0 ≤ s' → s' < s → v 50 (7 * s') = 5 → v 63 (27 * c) % v 50 (7 * s' + 6) = v 63 (27 * d) % v 50 (7 * s' + 6)
abbrev aW (v : gM) (c d i : Int) : Prop := ∀ x, 1 ≤ x → x < i → ¬ (x < 3 ∧ v 38 22 < x) → v 63 (27 * c + x) = v 63 (27 * d + x)

set_option maxHeartbeats 2000000 in
theorem lp_X2_alike2 {c d : Int} {bc bs : Nat} (hc : 0 ≤ c ∧ c ≤ 2) (hd : 0 ≤ d ∧ d ≤ 2) (h20 : 0 ≤ v 38 20 ∧ v 38 20 ≤ 6) (hS : oSrt v) (h22 : 0 ≤ v 38 22 ∧ v 38 22 ≤ 2) (h33 : 0 ≤ v 38 33 ∧ v 38 33 ≤ 24) (h28 : 1 ≤ v 38 28 ∧ v 38 28 ≤ 8) (hyc : 0 ≤ v 63 (27 * c)) (hyd : 0 ≤ v 63 (27 * d)) (k1 : yAl (wkN v c) (wkN v d) → Q (0, 1) v (gHd K) t) (k0 : ¬ yAl (wkN v c) (wkN v d) → Q (0, 0) v (gHd K) t) : ∀ (j : Nat) (i b : Int) (z7 : gV), 1 ≤ i → i + j = 3 + v 38 33 → ((b = 0 ∧ ¬ yAl (wkN v c) (wkN v d)) ∨ (b = 1 ∧ aP v c d (v 38 20) ∧ aW v c d i)) → Gx Γ mX2_areAlike 121 [(2, 38), (0, c), (0, d), (0, v 63 (27 * c)), (0, v 63 (27 * d)), (0, b), (0, i), z7] [] v (gHd K) t bc bs Q := by
  intro j
  induction j with
  | zero =>
    intro i b z7 h0 h1 hI
    refine Gx_iload dX2_areAlike_121 rfl ?_
    refine Gx_iconst ⟨by decide, by decide⟩ dX2_areAlike_123 ?_
    refine Gx_aload_n (i := 0) dX2_areAlike_124 rfl rfl ?_
    refine gf_X2_203_22 dX2_areAlike_125 rfl rfl ?_
    refine Gx_iadd dX2_areAlike_128 ?_
    try simp (disch := omega) only [w32_id]
    refine Gx_icmp_ge (tgt := 204) dX2_areAlike_129 (by decide) (fun c129 => ?_) (fun c129 => ?_)
    · refine Gx_iload dX2_areAlike_204 rfl ?_
      refine Gx_ireturn dX2_areAlike_206 (by show _ = (0 : Int) ∨ _ = (1 : Int); omega) ?_
      rcases hI with ⟨e, hz⟩ | ⟨e, hP, hW⟩
      · rw [e]
        exact k0 hz
      · rw [e]
        refine k1 (wkN_al hP.1 hP.2 (fun k q0 q1 => hW (1 + k) (by omega) (by omega) (by omega)) (fun k q0 q1 => hW (3 + k) (by omega) (by omega) (by omega)))
    · exfalso
      omega
  | succ j ih =>
    intro i b z7 h0 h1 hI
    refine Gx_iload dX2_areAlike_121 rfl ?_
    refine Gx_iconst ⟨by decide, by decide⟩ dX2_areAlike_123 ?_
    refine Gx_aload_n (i := 0) dX2_areAlike_124 rfl rfl ?_
    refine gf_X2_203_22 dX2_areAlike_125 rfl rfl ?_
    refine Gx_iadd dX2_areAlike_128 ?_
    try simp (disch := omega) only [w32_id]
    refine Gx_icmp_ge (tgt := 204) dX2_areAlike_129 (by decide) (fun c129 => ?_) (fun c129 => ?_)
    · refine Gx_iload dX2_areAlike_204 rfl ?_
      refine Gx_ireturn dX2_areAlike_206 (by show _ = (0 : Int) ∨ _ = (1 : Int); omega) ?_
      rcases hI with ⟨e, hz⟩ | ⟨e, hP, hW⟩
      · rw [e]
        exact k0 hz
      · exfalso
        omega
    · refine Gx_iload dX2_areAlike_132 rfl ?_
      refine Gx_if_eq (tgt := 204) dX2_areAlike_134 (by decide) (fun c134 => ?_) (fun c134 => ?_)
      · refine Gx_iload dX2_areAlike_204 rfl ?_
        refine Gx_ireturn dX2_areAlike_206 (by show _ = (0 : Int) ∨ _ = (1 : Int); omega) ?_
        rcases hI with ⟨e, hz⟩ | ⟨e, hP, hW⟩
        · rw [e]
          exact k0 hz
        · exfalso
          omega
      · refine Gx_iload dX2_areAlike_137 rfl ?_
        refine Gx_iconst ⟨by decide, by decide⟩ dX2_areAlike_139 ?_
        refine Gx_icmp_ge (tgt := 156) dX2_areAlike_140 (by decide) (fun c140 => ?_) (fun c140 => ?_)
        · refine Gx_iconst ⟨by decide, by decide⟩ dX2_areAlike_156 ?_
          refine Gx_istore_7 dX2_areAlike_157 (Nat.le_of_ble_eq_true rfl) (Nat.ne_of_beq_eq_false rfl) ?_
          refine Gx_iload dX2_areAlike_159 rfl ?_
          refine Gx_if_ne (tgt := 191) dX2_areAlike_161 (by decide) (fun hz => absurd hz (by decide)) (fun _ => ?_)
          refine Gx_aload_n (i := 0) dX2_areAlike_164 rfl rfl ?_
          refine gf_X2_84_22 dX2_areAlike_165 rfl rfl ?_
          refine Gx_bipush dX2_areAlike_168 ⟨by decide, by decide⟩ ?_
          refine Gx_iload_n (i := 1) dX2_areAlike_170 rfl rfl ?_
          refine Gx_imul dX2_areAlike_171 ?_
          try simp (disch := omega) only [w32_id]
          refine Gx_iload dX2_areAlike_172 rfl ?_
          refine Gx_iadd dX2_areAlike_174 ?_
          try simp (disch := omega) only [w32_id]
          refine Gx_iaload dX2_areAlike_175 rfl (by first | omega | (simp (disch := omega) only [w32_id]; omega)) ?_
          refine Gx_aload_n (i := 0) dX2_areAlike_176 rfl rfl ?_
          refine gf_X2_84_22 dX2_areAlike_177 rfl rfl ?_
          refine Gx_bipush dX2_areAlike_180 ⟨by decide, by decide⟩ ?_
          refine Gx_iload_n (i := 2) dX2_areAlike_182 rfl rfl ?_
          refine Gx_imul dX2_areAlike_183 ?_
          try simp (disch := omega) only [w32_id]
          refine Gx_iload dX2_areAlike_184 rfl ?_
          refine Gx_iadd dX2_areAlike_186 ?_
          try simp (disch := omega) only [w32_id]
          refine Gx_iaload dX2_areAlike_187 rfl (by first | omega | (simp (disch := omega) only [w32_id]; omega)) ?_
          refine Gx_icmp_ne (tgt := 195) dX2_areAlike_188 (by decide) (fun c188 => ?_) (fun c188 => ?_)
          · refine Gx_iconst ⟨by decide, by decide⟩ dX2_areAlike_195 ?_
            refine Gx_istore_5 dX2_areAlike_196 (Nat.le_of_ble_eq_true rfl) (Nat.ne_of_beq_eq_false rfl) ?_
            refine Gx_iinc_6 dX2_areAlike_198 (Nat.le_of_ble_eq_true rfl) (Nat.ne_of_beq_eq_false rfl) ?_
            try simp (disch := omega) only [w32_id]
            refine Gx_goto (tgt := 121) dX2_areAlike_201 (by decide) ?_
            refine ih (i + 1) _ _ (by omega) (by omega) ?_
            rcases hI with ⟨e, hz⟩ | ⟨e, hP, hW⟩
            · exfalso
              omega
            first
            | (refine Or.inr ⟨rfl, hP, fun x x0 x1 xn => ?_⟩
               by_cases hx : x = i
               · subst hx
                 first
                 | (exfalso; omega)
                 | exact c188
               · exact hW x x0 (by omega) xn)
            | (refine Or.inl ⟨rfl, fun hz => ?_⟩
               have q := wkN_la hz
               by_cases i3 : i < 3
               · have q3 := q.2.2.1 (i - 1) (by omega) (by omega)
                 rw [show 1 + (i - 1) = i by omega] at q3
                 exact c188 q3
               · have q4 := q.2.2.2 (i - 3) (by omega) (by omega)
                 rw [show 3 + (i - 3) = i by omega] at q4
                 exact c188 q4)
          · refine Gx_iconst ⟨by decide, by decide⟩ dX2_areAlike_191 ?_
            refine Gx_goto (tgt := 196) dX2_areAlike_192 (by decide) ?_
            refine Gx_istore_5 dX2_areAlike_196 (Nat.le_of_ble_eq_true rfl) (Nat.ne_of_beq_eq_false rfl) ?_
            refine Gx_iinc_6 dX2_areAlike_198 (Nat.le_of_ble_eq_true rfl) (Nat.ne_of_beq_eq_false rfl) ?_
            try simp (disch := omega) only [w32_id]
            refine Gx_goto (tgt := 121) dX2_areAlike_201 (by decide) ?_
            refine ih (i + 1) _ _ (by omega) (by omega) ?_
            rcases hI with ⟨e, hz⟩ | ⟨e, hP, hW⟩
            · exfalso
              omega
            first
            | (refine Or.inr ⟨rfl, hP, fun x x0 x1 xn => ?_⟩
               by_cases hx : x = i
               · subst hx
                 first
                 | (exfalso; omega)
                 | exact c188
               · exact hW x x0 (by omega) xn)
            | (refine Or.inl ⟨rfl, fun hz => ?_⟩
               have q := wkN_la hz
               by_cases i3 : i < 3
               · have q3 := q.2.2.1 (i - 1) (by omega) (by omega)
                 rw [show 1 + (i - 1) = i by omega] at q3
                 exact c188 q3
               · have q4 := q.2.2.2 (i - 3) (by omega) (by omega)
                 rw [show 3 + (i - 3) = i by omega] at q4
                 exact c188 q4)
        · refine Gx_iload dX2_areAlike_143 rfl ?_
          refine Gx_aload_n (i := 0) dX2_areAlike_145 rfl rfl ?_
          refine gf_X2_194_22 dX2_areAlike_146 rfl rfl ?_
          refine Gx_icmp_le (tgt := 156) dX2_areAlike_149 (by decide) (fun c149 => ?_) (fun c149 => ?_)
          · refine Gx_iconst ⟨by decide, by decide⟩ dX2_areAlike_156 ?_
            refine Gx_istore_7 dX2_areAlike_157 (Nat.le_of_ble_eq_true rfl) (Nat.ne_of_beq_eq_false rfl) ?_
            refine Gx_iload dX2_areAlike_159 rfl ?_
            refine Gx_if_ne (tgt := 191) dX2_areAlike_161 (by decide) (fun hz => absurd hz (by decide)) (fun _ => ?_)
            refine Gx_aload_n (i := 0) dX2_areAlike_164 rfl rfl ?_
            refine gf_X2_84_22 dX2_areAlike_165 rfl rfl ?_
            refine Gx_bipush dX2_areAlike_168 ⟨by decide, by decide⟩ ?_
            refine Gx_iload_n (i := 1) dX2_areAlike_170 rfl rfl ?_
            refine Gx_imul dX2_areAlike_171 ?_
            try simp (disch := omega) only [w32_id]
            refine Gx_iload dX2_areAlike_172 rfl ?_
            refine Gx_iadd dX2_areAlike_174 ?_
            try simp (disch := omega) only [w32_id]
            refine Gx_iaload dX2_areAlike_175 rfl (by first | omega | (simp (disch := omega) only [w32_id]; omega)) ?_
            refine Gx_aload_n (i := 0) dX2_areAlike_176 rfl rfl ?_
            refine gf_X2_84_22 dX2_areAlike_177 rfl rfl ?_
            refine Gx_bipush dX2_areAlike_180 ⟨by decide, by decide⟩ ?_
            refine Gx_iload_n (i := 2) dX2_areAlike_182 rfl rfl ?_
            refine Gx_imul dX2_areAlike_183 ?_
            try simp (disch := omega) only [w32_id]
            refine Gx_iload dX2_areAlike_184 rfl ?_
            refine Gx_iadd dX2_areAlike_186 ?_
            try simp (disch := omega) only [w32_id]
            refine Gx_iaload dX2_areAlike_187 rfl (by first | omega | (simp (disch := omega) only [w32_id]; omega)) ?_
            refine Gx_icmp_ne (tgt := 195) dX2_areAlike_188 (by decide) (fun c188 => ?_) (fun c188 => ?_)
            · refine Gx_iconst ⟨by decide, by decide⟩ dX2_areAlike_195 ?_
              refine Gx_istore_5 dX2_areAlike_196 (Nat.le_of_ble_eq_true rfl) (Nat.ne_of_beq_eq_false rfl) ?_
              refine Gx_iinc_6 dX2_areAlike_198 (Nat.le_of_ble_eq_true rfl) (Nat.ne_of_beq_eq_false rfl) ?_
              try simp (disch := omega) only [w32_id]
              refine Gx_goto (tgt := 121) dX2_areAlike_201 (by decide) ?_
              refine ih (i + 1) _ _ (by omega) (by omega) ?_
              rcases hI with ⟨e, hz⟩ | ⟨e, hP, hW⟩
              · exfalso
                omega
              first
              | (refine Or.inr ⟨rfl, hP, fun x x0 x1 xn => ?_⟩
                 by_cases hx : x = i
                 · subst hx
                   first
                   | (exfalso; omega)
                   | exact c188
                 · exact hW x x0 (by omega) xn)
              | (refine Or.inl ⟨rfl, fun hz => ?_⟩
                 have q := wkN_la hz
                 by_cases i3 : i < 3
                 · have q3 := q.2.2.1 (i - 1) (by omega) (by omega)
                   rw [show 1 + (i - 1) = i by omega] at q3
                   exact c188 q3
                 · have q4 := q.2.2.2 (i - 3) (by omega) (by omega)
                   rw [show 3 + (i - 3) = i by omega] at q4
                   exact c188 q4)
            · refine Gx_iconst ⟨by decide, by decide⟩ dX2_areAlike_191 ?_
              refine Gx_goto (tgt := 196) dX2_areAlike_192 (by decide) ?_
              refine Gx_istore_5 dX2_areAlike_196 (Nat.le_of_ble_eq_true rfl) (Nat.ne_of_beq_eq_false rfl) ?_
              refine Gx_iinc_6 dX2_areAlike_198 (Nat.le_of_ble_eq_true rfl) (Nat.ne_of_beq_eq_false rfl) ?_
              try simp (disch := omega) only [w32_id]
              refine Gx_goto (tgt := 121) dX2_areAlike_201 (by decide) ?_
              refine ih (i + 1) _ _ (by omega) (by omega) ?_
              rcases hI with ⟨e, hz⟩ | ⟨e, hP, hW⟩
              · exfalso
                omega
              first
              | (refine Or.inr ⟨rfl, hP, fun x x0 x1 xn => ?_⟩
                 by_cases hx : x = i
                 · subst hx
                   first
                   | (exfalso; omega)
                   | exact c188
                 · exact hW x x0 (by omega) xn)
              | (refine Or.inl ⟨rfl, fun hz => ?_⟩
                 have q := wkN_la hz
                 by_cases i3 : i < 3
                 · have q3 := q.2.2.1 (i - 1) (by omega) (by omega)
                   rw [show 1 + (i - 1) = i by omega] at q3
                   exact c188 q3
                 · have q4 := q.2.2.2 (i - 3) (by omega) (by omega)
                   rw [show 3 + (i - 3) = i by omega] at q4
                   exact c188 q4)
          · refine Gx_iconst ⟨by decide, by decide⟩ dX2_areAlike_152 ?_
            refine Gx_goto (tgt := 157) dX2_areAlike_153 (by decide) ?_
            refine Gx_istore_7 dX2_areAlike_157 (Nat.le_of_ble_eq_true rfl) (Nat.ne_of_beq_eq_false rfl) ?_
            refine Gx_iload dX2_areAlike_159 rfl ?_
            refine Gx_if_ne (tgt := 191) dX2_areAlike_161 (by decide) (fun _ => ?_) (fun hz => absurd hz (by decide))
            refine Gx_iconst ⟨by decide, by decide⟩ dX2_areAlike_191 ?_
            refine Gx_goto (tgt := 196) dX2_areAlike_192 (by decide) ?_
            refine Gx_istore_5 dX2_areAlike_196 (Nat.le_of_ble_eq_true rfl) (Nat.ne_of_beq_eq_false rfl) ?_
            refine Gx_iinc_6 dX2_areAlike_198 (Nat.le_of_ble_eq_true rfl) (Nat.ne_of_beq_eq_false rfl) ?_
            try simp (disch := omega) only [w32_id]
            refine Gx_goto (tgt := 121) dX2_areAlike_201 (by decide) ?_
            refine ih (i + 1) _ _ (by omega) (by omega) ?_
            rcases hI with ⟨e, hz⟩ | ⟨e, hP, hW⟩
            · exfalso
              omega
            first
            | (refine Or.inr ⟨rfl, hP, fun x x0 x1 xn => ?_⟩
               by_cases hx : x = i
               · subst hx
                 first
                 | (exfalso; omega)
                 | exact c188
               · exact hW x x0 (by omega) xn)
            | (refine Or.inl ⟨rfl, fun hz => ?_⟩
               have q := wkN_la hz
               by_cases i3 : i < 3
               · have q3 := q.2.2.1 (i - 1) (by omega) (by omega)
                 rw [show 1 + (i - 1) = i by omega] at q3
                 exact c188 q3
               · have q4 := q.2.2.2 (i - 3) (by omega) (by omega)
                 rw [show 3 + (i - 3) = i by omega] at q4
                 exact c188 q4)
set_option maxHeartbeats 2000000 in
theorem lp_X2_alike1 {c d : Int} {bc bs : Nat} {z7 : gV} (hc : 0 ≤ c ∧ c ≤ 2) (hd : 0 ≤ d ∧ d ≤ 2) (h20 : 0 ≤ v 38 20 ∧ v 38 20 ≤ 6) (hS : oSrt v) (h22 : 0 ≤ v 38 22 ∧ v 38 22 ≤ 2) (h33 : 0 ≤ v 38 33 ∧ v 38 33 ≤ 24) (h28 : 1 ≤ v 38 28 ∧ v 38 28 ≤ 8) (hyc : 0 ≤ v 63 (27 * c)) (hyd : 0 ≤ v 63 (27 * d)) (k1 : yAl (wkN v c) (wkN v d) → Q (0, 1) v (gHd K) t) (k0 : ¬ yAl (wkN v c) (wkN v d) → Q (0, 0) v (gHd K) t) : ∀ (j : Nat) (s b : Int), 0 ≤ s → s + j = v 38 20 → ((b = 0 ∧ ¬ yAl (wkN v c) (wkN v d)) ∨ (b = 1 ∧ aP v c d s)) → Gx Γ mX2_areAlike 47 [(2, 38), (0, c), (0, d), (0, v 63 (27 * c)), (0, v 63 (27 * d)), (0, b), (0, s), z7] [] v (gHd K) t bc bs Q := by
  intro j
  induction j with
  | zero =>
    intro s b h0 h1 hI
    refine Gx_iload dX2_areAlike_47 rfl ?_
    refine Gx_aload_n (i := 0) dX2_areAlike_49 rfl rfl ?_
    refine gf_X2_191_22 dX2_areAlike_50 rfl rfl ?_
    refine Gx_icmp_ge (tgt := 118) dX2_areAlike_53 (by decide) (fun c53 => ?_) (fun c53 => ?_)
    · have e0 : s = v 38 20 := by omega
      rw [e0] at hI
      
      refine Gx_iconst ⟨by decide, by decide⟩ dX2_areAlike_118 ?_
      refine Gx_istore_6 dX2_areAlike_119 (Nat.le_of_ble_eq_true rfl) (Nat.ne_of_beq_eq_false rfl) ?_
      refine lp_X2_alike2 hc hd h20 hS h22 h33 h28 hyc hyd k1 k0 (2 + v 38 33).toNat 1 b _ (by omega) (by omega) ?_
      rcases hI with hz | ⟨e, hP⟩
      · exact Or.inl hz
      · exact Or.inr ⟨e, hP, fun x x0 x1 _ => by omega⟩
    · exfalso
      omega
  | succ j ih =>
    intro s b h0 h1 hI
    refine Gx_iload dX2_areAlike_47 rfl ?_
    refine Gx_aload_n (i := 0) dX2_areAlike_49 rfl rfl ?_
    refine gf_X2_191_22 dX2_areAlike_50 rfl rfl ?_
    refine Gx_icmp_ge (tgt := 118) dX2_areAlike_53 (by decide) (fun c53 => ?_) (fun c53 => ?_)
    · exfalso
      omega
    · refine Gx_iload dX2_areAlike_56 rfl ?_
      refine Gx_if_eq (tgt := 109) dX2_areAlike_58 (by decide) (fun c58 => ?_) (fun c58 => ?_)
      · refine Gx_iconst ⟨by decide, by decide⟩ dX2_areAlike_109 ?_
        refine Gx_istore_5 dX2_areAlike_110 (Nat.le_of_ble_eq_true rfl) (Nat.ne_of_beq_eq_false rfl) ?_
        refine Gx_iinc_6 dX2_areAlike_112 (Nat.le_of_ble_eq_true rfl) (Nat.ne_of_beq_eq_false rfl) ?_
        try simp (disch := omega) only [w32_id]
        refine Gx_goto (tgt := 47) dX2_areAlike_115 (by decide) ?_
        refine ih (s + 1) _ (by omega) (by omega) ?_
        rcases hI with ⟨e, hz⟩ | ⟨e, hP, hW⟩
        · first
          | exact Or.inl ⟨rfl, hz⟩
          | (exfalso; omega)
        · first
          | (exfalso; omega)
          | (refine Or.inr ⟨rfl, hP, fun x x0 x1 x5 => ?_⟩
             by_cases hx : x = s
             · subst hx
               first
               | exact absurd x5 c68
               | (rw [Int.tmod_eq_emod_of_nonneg hyc, Int.tmod_eq_emod_of_nonneg hyd] at c102
                  exact c102)
             · exact hW x x0 (by omega) x5)
          | (refine Or.inl ⟨rfl, fun hz => ?_⟩
             have q := (wkN_la hz).2.1 s (by omega) (by omega) (c68)
             rw [Int.tmod_eq_emod_of_nonneg hyc, Int.tmod_eq_emod_of_nonneg hyd] at c102
             exact c102 q)
      · refine Gx_aload_n (i := 0) dX2_areAlike_61 rfl rfl ?_
        refine Gx_iload dX2_areAlike_62 rfl ?_
        refine cl_X2_209 dX2_areAlike_64 rfl rfl ⟨(Nat.le_of_ble_eq_true rfl), (Nat.le_of_ble_eq_true rfl)⟩ rfl ?_
        refine ct_X2_kind ⟨by omega, by omega⟩ ?_
        refine Gx_iconst ⟨by decide, by decide⟩ dX2_areAlike_67 ?_
        refine Gx_icmp_ne (tgt := 105) dX2_areAlike_68 (by decide) (fun c68 => ?_) (fun c68 => ?_)
        · refine Gx_iconst ⟨by decide, by decide⟩ dX2_areAlike_105 ?_
          refine Gx_goto (tgt := 110) dX2_areAlike_106 (by decide) ?_
          refine Gx_istore_5 dX2_areAlike_110 (Nat.le_of_ble_eq_true rfl) (Nat.ne_of_beq_eq_false rfl) ?_
          refine Gx_iinc_6 dX2_areAlike_112 (Nat.le_of_ble_eq_true rfl) (Nat.ne_of_beq_eq_false rfl) ?_
          try simp (disch := omega) only [w32_id]
          refine Gx_goto (tgt := 47) dX2_areAlike_115 (by decide) ?_
          refine ih (s + 1) _ (by omega) (by omega) ?_
          rcases hI with ⟨e, hz⟩ | ⟨e, hP, hW⟩
          · first
            | exact Or.inl ⟨rfl, hz⟩
            | (exfalso; omega)
          · first
            | (exfalso; omega)
            | (refine Or.inr ⟨rfl, hP, fun x x0 x1 x5 => ?_⟩
               by_cases hx : x = s
               · subst hx
                 first
                 | exact absurd x5 c68
                 | (rw [Int.tmod_eq_emod_of_nonneg hyc, Int.tmod_eq_emod_of_nonneg hyd] at c102
                    exact c102)
               · exact hW x x0 (by omega) x5)
            | (refine Or.inl ⟨rfl, fun hz => ?_⟩
               have q := (wkN_la hz).2.1 s (by omega) (by omega) (c68)
               rw [Int.tmod_eq_emod_of_nonneg hyc, Int.tmod_eq_emod_of_nonneg hyd] at c102
               exact c102 q)
        · refine Gx_iload_n (i := 3) dX2_areAlike_71 rfl rfl ?_
          refine Gx_aload_n (i := 0) dX2_areAlike_72 rfl rfl ?_
          refine gf_X2_44_22 dX2_areAlike_73 rfl rfl ?_
          refine Gx_bipush dX2_areAlike_76 ⟨by decide, by decide⟩ ?_
          refine Gx_iload dX2_areAlike_78 rfl ?_
          refine Gx_imul dX2_areAlike_80 ?_
          try simp (disch := omega) only [w32_id]
          refine Gx_bipush dX2_areAlike_81 ⟨by decide, by decide⟩ ?_
          refine Gx_iadd dX2_areAlike_83 ?_
          try simp (disch := omega) only [w32_id]
          refine Gx_iaload dX2_areAlike_84 rfl (by first | omega | (simp (disch := omega) only [w32_id]; omega)) ?_
          refine Gx_irem dX2_areAlike_85 (by have := (hS s (by omega) (by omega)).2.2.2.2.1 (c68); omega) ?_
          refine Gx_iload dX2_areAlike_86 rfl ?_
          refine Gx_aload_n (i := 0) dX2_areAlike_88 rfl rfl ?_
          refine gf_X2_44_22 dX2_areAlike_89 rfl rfl ?_
          refine Gx_bipush dX2_areAlike_92 ⟨by decide, by decide⟩ ?_
          refine Gx_iload dX2_areAlike_94 rfl ?_
          refine Gx_imul dX2_areAlike_96 ?_
          try simp (disch := omega) only [w32_id]
          refine Gx_bipush dX2_areAlike_97 ⟨by decide, by decide⟩ ?_
          refine Gx_iadd dX2_areAlike_99 ?_
          try simp (disch := omega) only [w32_id]
          refine Gx_iaload dX2_areAlike_100 rfl (by first | omega | (simp (disch := omega) only [w32_id]; omega)) ?_
          refine Gx_irem dX2_areAlike_101 (by have := (hS s (by omega) (by omega)).2.2.2.2.1 (c68); omega) ?_
          refine Gx_icmp_ne (tgt := 109) dX2_areAlike_102 (by decide) (fun c102 => ?_) (fun c102 => ?_)
          · refine Gx_iconst ⟨by decide, by decide⟩ dX2_areAlike_109 ?_
            refine Gx_istore_5 dX2_areAlike_110 (Nat.le_of_ble_eq_true rfl) (Nat.ne_of_beq_eq_false rfl) ?_
            refine Gx_iinc_6 dX2_areAlike_112 (Nat.le_of_ble_eq_true rfl) (Nat.ne_of_beq_eq_false rfl) ?_
            try simp (disch := omega) only [w32_id]
            refine Gx_goto (tgt := 47) dX2_areAlike_115 (by decide) ?_
            refine ih (s + 1) _ (by omega) (by omega) ?_
            rcases hI with ⟨e, hz⟩ | ⟨e, hP, hW⟩
            · first
              | exact Or.inl ⟨rfl, hz⟩
              | (exfalso; omega)
            · first
              | (exfalso; omega)
              | (refine Or.inr ⟨rfl, hP, fun x x0 x1 x5 => ?_⟩
                 by_cases hx : x = s
                 · subst hx
                   first
                   | exact absurd x5 c68
                   | (rw [Int.tmod_eq_emod_of_nonneg hyc, Int.tmod_eq_emod_of_nonneg hyd] at c102
                      exact c102)
                 · exact hW x x0 (by omega) x5)
              | (refine Or.inl ⟨rfl, fun hz => ?_⟩
                 have q := (wkN_la hz).2.1 s (by omega) (by omega) (c68)
                 rw [Int.tmod_eq_emod_of_nonneg hyc, Int.tmod_eq_emod_of_nonneg hyd] at c102
                 exact c102 q)
          · refine Gx_iconst ⟨by decide, by decide⟩ dX2_areAlike_105 ?_
            refine Gx_goto (tgt := 110) dX2_areAlike_106 (by decide) ?_
            refine Gx_istore_5 dX2_areAlike_110 (Nat.le_of_ble_eq_true rfl) (Nat.ne_of_beq_eq_false rfl) ?_
            refine Gx_iinc_6 dX2_areAlike_112 (Nat.le_of_ble_eq_true rfl) (Nat.ne_of_beq_eq_false rfl) ?_
            try simp (disch := omega) only [w32_id]
            refine Gx_goto (tgt := 47) dX2_areAlike_115 (by decide) ?_
            refine ih (s + 1) _ (by omega) (by omega) ?_
            rcases hI with ⟨e, hz⟩ | ⟨e, hP, hW⟩
            · first
              | exact Or.inl ⟨rfl, hz⟩
              | (exfalso; omega)
            · first
              | (exfalso; omega)
              | (refine Or.inr ⟨rfl, hP, fun x x0 x1 x5 => ?_⟩
                 by_cases hx : x = s
                 · subst hx
                   first
                   | exact absurd x5 c68
                   | (rw [Int.tmod_eq_emod_of_nonneg hyc, Int.tmod_eq_emod_of_nonneg hyd] at c102
                      exact c102)
                 · exact hW x x0 (by omega) x5)
              | (refine Or.inl ⟨rfl, fun hz => ?_⟩
                 have q := (wkN_la hz).2.1 s (by omega) (by omega) (c68)
                 rw [Int.tmod_eq_emod_of_nonneg hyc, Int.tmod_eq_emod_of_nonneg hyd] at c102
                 exact c102 q)
set_option maxHeartbeats 1000000 in
theorem ct_X2_areAlike {c d : Int} (hc : 0 ≤ c ∧ c ≤ 2) (hd : 0 ≤ d ∧ d ≤ 2) (h20 : 0 ≤ v 38 20 ∧ v 38 20 ≤ 6) (hS : oSrt v) (h22 : 0 ≤ v 38 22 ∧ v 38 22 ≤ 2) (h33 : 0 ≤ v 38 33 ∧ v 38 33 ≤ 24) (h28 : 1 ≤ v 38 28 ∧ v 38 28 ≤ 8) (hyc : 0 ≤ v 63 (27 * c)) (hyd : 0 ≤ v 63 (27 * d)) (k1 : yAl (wkN v c) (wkN v d) → Q (0, 1) v (gHd K) t) (k0 : ¬ yAl (wkN v c) (wkN v d) → Q (0, 0) v (gHd K) t) : Ctr Γ mX2_areAlike [(2, 38), (0, c), (0, d)] v (gHd K) t Q := by
  refine Ctr.ofG (ls := [(2, 38), (0, c), (0, d), (9, 0), (9, 0), (9, 0), (9, 0), (9, 0)]) rfl rfl rfl rfl rfl ?_
  refine Gx_aload_n (i := 0) dX2_areAlike_0 rfl rfl ?_
  refine gf_X2_84_22 dX2_areAlike_1 rfl rfl ?_
  refine Gx_bipush dX2_areAlike_4 ⟨by decide, by decide⟩ ?_
  refine Gx_iload_n (i := 1) dX2_areAlike_6 rfl rfl ?_
  refine Gx_imul dX2_areAlike_7 ?_
  try simp (disch := omega) only [w32_id]
  refine Gx_iaload dX2_areAlike_8 rfl (by first | omega | (simp (disch := omega) only [w32_id]; omega)) ?_
  refine Gx_istore_n_3 dX2_areAlike_9 (Nat.le_of_ble_eq_true rfl) (Nat.ne_of_beq_eq_false rfl) ?_
  refine Gx_aload_n (i := 0) dX2_areAlike_10 rfl rfl ?_
  refine gf_X2_84_22 dX2_areAlike_11 rfl rfl ?_
  refine Gx_bipush dX2_areAlike_14 ⟨by decide, by decide⟩ ?_
  refine Gx_iload_n (i := 2) dX2_areAlike_16 rfl rfl ?_
  refine Gx_imul dX2_areAlike_17 ?_
  try simp (disch := omega) only [w32_id]
  refine Gx_iaload dX2_areAlike_18 rfl (by first | omega | (simp (disch := omega) only [w32_id]; omega)) ?_
  refine Gx_istore_4 dX2_areAlike_19 (Nat.le_of_ble_eq_true rfl) (Nat.ne_of_beq_eq_false rfl) ?_
  refine Gx_iload_n (i := 3) dX2_areAlike_21 rfl rfl ?_
  refine Gx_aload_n (i := 0) dX2_areAlike_22 rfl rfl ?_
  refine gf_X2_97_22 dX2_areAlike_23 rfl rfl ?_
  refine Gx_irem dX2_areAlike_26 (by first | omega | (simp (disch := omega) only [w32_id]; omega)) ?_
  refine Gx_iload dX2_areAlike_27 rfl ?_
  refine Gx_aload_n (i := 0) dX2_areAlike_29 rfl rfl ?_
  refine gf_X2_97_22 dX2_areAlike_30 rfl rfl ?_
  refine Gx_irem dX2_areAlike_33 (by first | omega | (simp (disch := omega) only [w32_id]; omega)) ?_
  refine Gx_icmp_ne (tgt := 41) dX2_areAlike_34 (by decide) (fun c34 => ?_) (fun c34 => ?_)
  · refine Gx_iconst ⟨by decide, by decide⟩ dX2_areAlike_41 ?_
    refine Gx_istore_5 dX2_areAlike_42 (Nat.le_of_ble_eq_true rfl) (Nat.ne_of_beq_eq_false rfl) ?_
    refine Gx_iconst ⟨by decide, by decide⟩ dX2_areAlike_44 ?_
    refine Gx_istore_6 dX2_areAlike_45 (Nat.le_of_ble_eq_true rfl) (Nat.ne_of_beq_eq_false rfl) ?_
    refine lp_X2_alike1 hc hd h20 hS h22 h33 h28 hyc hyd k1 k0 (v 38 20).toNat 0 _ (by omega) (by omega) ?_
    rw [Int.tmod_eq_emod_of_nonneg hyc, Int.tmod_eq_emod_of_nonneg hyd] at c34
    first
    | exact Or.inr ⟨rfl, c34, fun x x0 x1 => by omega⟩
    | exact Or.inl ⟨rfl, fun hz => c34 (wkN_la hz).1⟩
  · refine Gx_iconst ⟨by decide, by decide⟩ dX2_areAlike_37 ?_
    refine Gx_goto (tgt := 42) dX2_areAlike_38 (by decide) ?_
    refine Gx_istore_5 dX2_areAlike_42 (Nat.le_of_ble_eq_true rfl) (Nat.ne_of_beq_eq_false rfl) ?_
    refine Gx_iconst ⟨by decide, by decide⟩ dX2_areAlike_44 ?_
    refine Gx_istore_6 dX2_areAlike_45 (Nat.le_of_ble_eq_true rfl) (Nat.ne_of_beq_eq_false rfl) ?_
    refine lp_X2_alike1 hc hd h20 hS h22 h33 h28 hyc hyd k1 k0 (v 38 20).toNat 0 _ (by omega) (by omega) ?_
    rw [Int.tmod_eq_emod_of_nonneg hyc, Int.tmod_eq_emod_of_nonneg hyd] at c34
    first
    | exact Or.inr ⟨rfl, c34, fun x x0 x1 => by omega⟩
    | exact Or.inl ⟨rfl, fun hz => c34 (wkN_la hz).1⟩
end
