/-! AcornYears: passHere -/
section
variable {Γ : gC} {v : gM} {K : gH} {t : Nat} {Q : gQ}
/-- trees told of a year behind the first i of them: vP the memory behind the year -/
def oHr (vP v : gM) (i : Int) : Prop := (∀ a k, ¬ ((k = 1 ∨ k = 2) ∧ ∃ j, 0 ≤ j ∧ j < i ∧ a = vP 16 j) → v a k = vP a k) ∧ ∀ j, 0 ≤ j → j < i → v (vP 16 j) 1 = (if vP 20 j ≠ 0 then w32 (vP (vP 16 j) 1 + 1) else vP (vP 16 j) 1) ∧ v (vP 16 j) 2 = (if vP 20 j ≠ 0 then vP 17 2 else vP (vP 16 j) 2)

set_option maxHeartbeats 2000000 in
theorem lp_X0_passHere {w n : Int} {bc bs : Nat} {vP : gM} (hn : vP 0 32 = n) (hn24 : n ≤ 24) (hW : aWf vP (gHd K)) (cont : ∀ v1, oHr vP v1 n → Q (9, 0) v1 (gHd K) t) : ∀ (j : Nat) (i : Int) (v : gM), 0 ≤ i → i + j = n → oHr vP v i → Gx Γ mX0_passHere 12 [(2, 0), (0, w), (0, i)] [] v (gHd K) t bc bs Q := by
  intro j
  induction j with
  | zero =>
    intro i v h0 h1 hP
    obtain ⟨hF, hV⟩ := hP
    have wT := hW.2.2.2.1
    have hlow : ∀ a k, a < 66 → v a k = vP a k := fun a k ha => hF a k (fun z => by
      obtain ⟨-, j, j0, j1, e⟩ := z
      have := (wT j j0 (by omega)).1
      omega)
    have e32 : v 0 32 = n := by rw [hlow 0 32 (by omega)]; exact hn
    refine Gx_iload_n (i := 2) dX0_passHere_12 rfl rfl ?_
    refine Gx_aload_n (i := 0) dX0_passHere_13 rfl rfl ?_
    refine gf_X0_276_20 dX0_passHere_14 rfl rfl ?_
    rw [e32]
    refine Gx_icmp_ge (tgt := 69) dX0_passHere_17 (by decide) (fun c17 => ?_) (fun c17 => ?_)
    · refine Gx_return dX0_passHere_69 rfl ?_
      have e0 : i = n := by omega
      rw [e0] at hF hV
      exact cont v ⟨hF, hV⟩
    · exfalso
      omega
  | succ j ih =>
    intro i v h0 h1 hP
    obtain ⟨hF, hV⟩ := hP
    have wT := hW.2.2.2.1
    have hlow : ∀ a k, a < 66 → v a k = vP a k := fun a k ha => hF a k (fun z => by
      obtain ⟨-, j, j0, j1, e⟩ := z
      have := (wT j j0 (by omega)).1
      omega)
    have e32 : v 0 32 = n := by rw [hlow 0 32 (by omega)]; exact hn
    have hTr := wT i h0 (by omega)
    have hne : ∀ j, 0 ≤ j → j < i → vP 16 i ≠ vP 16 j := fun j j0 j1 => hW.2.2.2.2 i j h0 (by omega) j0 (by omega) (by omega)
    have e16 : v 16 i = vP 16 i := hlow 16 i (by omega)
    have e20 : v (17 + 3) i = vP 20 i := hlow 20 i (by omega)
    have hold : ∀ k, v (vP 16 i) k = vP (vP 16 i) k := fun k => hF _ k (fun z => by
      obtain ⟨-, j, j0, j1, e⟩ := z
      exact hne j j0 j1 e)
    have hh2 : gHd K (vP 16 i) = (8, (gHd K (vP 16 i)).2) := pairEq hTr.2
    clear hW
    refine Gx_iload_n (i := 2) dX0_passHere_12 rfl rfl ?_
    refine Gx_aload_n (i := 0) dX0_passHere_13 rfl rfl ?_
    refine gf_X0_276_20 dX0_passHere_14 rfl rfl ?_
    rw [e32]
    refine Gx_icmp_ge (tgt := 69) dX0_passHere_17 (by decide) (fun c17 => ?_) (fun c17 => ?_)
    · refine Gx_return dX0_passHere_69 rfl ?_
      exfalso
      omega
    · refine Gx_aload_n (i := 0) dX0_passHere_20 rfl rfl ?_
      refine gf_X0_86_20 dX0_passHere_21 rfl rfl ?_
      refine gf_X0_352_21 dX0_passHere_24 rfl rfl ?_
      refine Gx_iload_n (i := 2) dX0_passHere_27 rfl rfl ?_
      refine Gx_zaload dX0_passHere_28 rfl (by first | omega | (simp (disch := omega) only [w32_id]; omega)) ?_
      rw [e20]
      refine Gx_if_eq (tgt := 63) dX0_passHere_29 (by decide) (fun c29 => ?_) (fun c29 => ?_)
      · refine Gx_iinc_2 dX0_passHere_63 (Nat.le_of_ble_eq_true rfl) (Nat.ne_of_beq_eq_false rfl) ?_
        try simp (disch := omega) only [w32_id]
        refine Gx_goto (tgt := 12) dX0_passHere_66 (by decide) ?_
        first
        | (have h9 := c29
           have h8 : vP 20 i ≠ 0 := h9
           clear h8 h9
           refine ih (i + 1) _ (by omega) (by omega) ⟨fun a k hk => ?_, fun j j0 j1 => ?_⟩
           · rw [gUp_ne2 (fun z => hk ⟨by omega, i, h0, by omega, z.1⟩), gUp_ne2 (fun z => hk ⟨by omega, i, h0, by omega, z.1⟩)]
             exact hF a k (fun z => by
               obtain ⟨z1, j, j0, j1, e⟩ := z
               exact hk ⟨z1, j, j0, by omega, e⟩)
           · by_cases hj : j = i
             · subst hj
               rw [if_pos c29, if_pos c29, gUp_ne2 (by omega), gUp_eq2 rfl rfl, gUp_eq2 rfl rfl]
               exact ⟨rfl, rfl⟩
             · have hq : vP 16 j ≠ vP 16 i := fun z => hne j j0 (by omega) z.symm
               rw [gUp_ne2 (fun z => hq z.1), gUp_ne2 (fun z => hq z.1), gUp_ne2 (fun z => hq z.1), gUp_ne2 (fun z => hq z.1)]
               exact hV j j0 (by omega))
        | (refine ih (i + 1) v (by omega) (by omega) ⟨fun a k hk => ?_, fun j j0 j1 => ?_⟩
           · exact hF a k (fun z => by
               obtain ⟨z1, j, j0, j1, e⟩ := z
               exact hk ⟨z1, j, j0, by omega, e⟩)
           · by_cases hj : j = i
             · subst hj
               rw [if_neg (by omega), if_neg (by omega)]
               exact ⟨hold 1, hold 2⟩
             · exact hV j j0 (by omega))
      · refine Gx_aload_n (i := 0) dX0_passHere_32 rfl rfl ?_
        refine gf_X0_79_20 dX0_passHere_33 rfl rfl ?_
        refine Gx_iload_n (i := 2) dX0_passHere_36 rfl rfl ?_
        refine Gx_aaload18 dX0_passHere_37 rfl (by first | omega | (simp (disch := omega) only [w32_id]; omega)) ?_
        rw [e16]
        refine Gx_dup (Nat.ne_of_beq_eq_false rfl) dX0_passHere_38 ?_
        refine gf_X0_324_8 dX0_passHere_39 rfl hh2 ?_
        rw [hold 1]
        refine Gx_iconst ⟨by decide, by decide⟩ dX0_passHere_42 ?_
        refine Gx_iadd dX0_passHere_43 ?_
        try simp (disch := omega) only [w32_id]
        refine pf_X0_324_8 dX0_passHere_44 rfl hh2 ?_
        refine Gx_aload_n (i := 0) dX0_passHere_47 rfl rfl ?_
        refine gf_X0_79_20 dX0_passHere_48 rfl rfl ?_
        refine Gx_iload_n (i := 2) dX0_passHere_51 rfl rfl ?_
        refine Gx_aaload18 dX0_passHere_52 rfl (by first | omega | (simp (disch := omega) only [w32_id]; omega)) ?_
        rw [gUp_ne2 (by omega), e16]
        refine Gx_aload_n (i := 0) dX0_passHere_53 rfl rfl ?_
        refine gf_X0_86_20 dX0_passHere_54 rfl rfl ?_
        refine gf_X0_279_21 dX0_passHere_57 rfl rfl ?_
        rw [gUp_ne2 (by omega), hlow 17 2 (by omega)]
        refine pf_X0_327_8 dX0_passHere_60 rfl hh2 ?_
        refine Gx_iinc_2 dX0_passHere_63 (Nat.le_of_ble_eq_true rfl) (Nat.ne_of_beq_eq_false rfl) ?_
        try simp (disch := omega) only [w32_id]
        refine Gx_goto (tgt := 12) dX0_passHere_66 (by decide) ?_
        first
        | (have h9 := c29
           have h8 : vP 20 i ≠ 0 := h9
           clear h8 h9
           refine ih (i + 1) _ (by omega) (by omega) ⟨fun a k hk => ?_, fun j j0 j1 => ?_⟩
           · rw [gUp_ne2 (fun z => hk ⟨by omega, i, h0, by omega, z.1⟩), gUp_ne2 (fun z => hk ⟨by omega, i, h0, by omega, z.1⟩)]
             exact hF a k (fun z => by
               obtain ⟨z1, j, j0, j1, e⟩ := z
               exact hk ⟨z1, j, j0, by omega, e⟩)
           · by_cases hj : j = i
             · subst hj
               rw [if_pos c29, if_pos c29, gUp_ne2 (by omega), gUp_eq2 rfl rfl, gUp_eq2 rfl rfl]
               exact ⟨rfl, rfl⟩
             · have hq : vP 16 j ≠ vP 16 i := fun z => hne j j0 (by omega) z.symm
               rw [gUp_ne2 (fun z => hq z.1), gUp_ne2 (fun z => hq z.1), gUp_ne2 (fun z => hq z.1), gUp_ne2 (fun z => hq z.1)]
               exact hV j j0 (by omega))
        | (refine ih (i + 1) v (by omega) (by omega) ⟨fun a k hk => ?_, fun j j0 j1 => ?_⟩
           · exact hF a k (fun z => by
               obtain ⟨z1, j, j0, j1, e⟩ := z
               exact hk ⟨z1, j, j0, by omega, e⟩)
           · by_cases hj : j = i
             · subst hj
               rw [if_neg (by omega), if_neg (by omega)]
               exact ⟨hold 1, hold 2⟩
             · exact hV j j0 (by omega))
set_option maxHeartbeats 1000000 in
theorem ct_X0_passHere {w : Int} (hw : 0 ≤ w ∧ w ≤ 2) (hW : aWf v (gHd K)) (hu : yOK (aN v (gHd K) 17)) (hy : v 17 2 ≤ 900000) (h35 : v 0 35 ≤ 99) (h63 : ∀ s, 0 ≤ s → s < (gHd K (v 0 7)).2 → (gHd K (v (v 0 7) s)).1 = 6 → 0 ≤ v (v (v 0 7) s) 3 ∧ v (v (v 0 7) s) 3 ≤ 99) (k : ∀ vP v1, oPs v vP (gHd K) 17 w 0 → oHr vP v1 (v 0 32) → Q (9, 0) v1 (gHd K) t) : Ctr Γ mX0_passHere [(2, 0), (0, w)] v (gHd K) t Q := by
  refine Ctr.ofG (ls := [(2, 0), (0, w), (9, 0)]) rfl rfl rfl rfl rfl ?_
  have hy0 := hu.2.2.2.2.2.2.2.2.2
  rw [aN_c31] at hy0
  refine Gx_aload_n (i := 0) dX0_passHere_0 rfl rfl ?_
  refine Gx_aload_n (i := 0) dX0_passHere_1 rfl rfl ?_
  refine gf_X0_86_20 dX0_passHere_2 rfl rfl ?_
  refine Gx_iload_n (i := 1) dX0_passHere_5 rfl rfl ?_
  refine Gx_iconst ⟨by decide, by decide⟩ dX0_passHere_6 ?_
  refine cl_X0_402 dX0_passHere_7 rfl rfl ⟨(Nat.le_of_ble_eq_true rfl), (Nat.le_of_ble_eq_true rfl)⟩ rfl ?_
  refine ct_X0_pass (Or.inl rfl) hw hW hu ⟨hy0, by omega⟩ h35 h63 (fun vP hps => ?_)
  refine Gx_iconst ⟨by decide, by decide⟩ dX0_passHere_10 ?_
  refine Gx_istore_n_2 dX0_passHere_11 (Nat.le_of_ble_eq_true rfl) (Nat.ne_of_beq_eq_false rfl) ?_
  have hFP := hps.2.2.2.2.2
  have q32 : vP 0 32 = v 0 32 := hFP _ _ (by omega)
  have hWP : aWf vP (gHd K) := aWf_congr hW (fun a b hb => hFP a b (by omega))
  refine lp_X0_passHere (vP := vP) q32 hu.2.2.1.2 hWP (k vP · hps ·) (v 0 32).toNat 0 vP (by omega) (by have := hu.2.2.1.1; rw [aN_c33] at this; omega) ⟨fun a b _ => rfl, fun j j0 j1 => by omega⟩
end
