/-! AcornYearsModel: faultOf, fault, wood -/
section
variable {Γ : gC} {v : gM} {K : gH} {t : Nat} {Q : gQ}
/-- before a text is read -/
def pS0 : gM := fun a j => if a = 38 ∧ j = 17 then 1 else if a = 48 then 1 else if a = 49 then 4 else 0
def pLoop (b : pB) (n : Int) : Nat → Int → gM → Except Int gM
  | 0, p, _ => .error p
  | f + 1, p, s => if p < n then (if b p = 32 then pLoop b n f (p + 1) s else match pItem b p s with
    | .error q => .error q
    | .ok (q, s1) => pLoop b n f q s1) else .ok s
/-- a text of n bytes is read: where it can't go on, or what it says -/
def pText (b : pB) (n : Int) : Except Int gM := pLoop b n (n.toNat + 1) 0 pS0
def pFault (b : pB) (n : Int) : Int := match pText b n with
  | .error q => q
  | .ok s => if s 38 12 = 0 then n else -9
theorem FRD.trans {v v1 v2 : gM} (h1 : FRD v v1) (h2 : FRD v1 v2) : FRD v v2 := fun a j hn => (h2 a j hn).trans (h1 a j hn)
theorem pLoop_BP {b : pB} {n : Int} : ∀ (f : Nat) (p : Int) (s s1 : gM), BP s → pLoop b n f p s = .ok s1 → BP s1
  | 0, p, s, s1, _, h => by cases h
  | f + 1, p, s, s1, hB, h => by
    unfold pLoop at h
    split at h
    · split at h
      · exact pLoop_BP f _ _ _ hB h
      · cases hx : pItem b p s with
        | error q => rw [hx] at h; cases h
        | ok a =>
          obtain ⟨q, s2⟩ := a
          rw [hx] at h
          exact pLoop_BP f _ _ _ (BP_item hB hx) h
    · cases h; exact hB
theorem BP_S0 : BP pS0 := by unfold BP; decide

set_option maxHeartbeats 2000000 in
theorem lp_X2_faultOf {r n : Int} {b : pB} {bc bs : Nat} {z : gV} (hr : 0 ≤ r ∧ r ≤ 3) (hn : 0 ≤ n ∧ n ≤ 80) : ∀ (f : Nat) (p : Int) (s v : gM), RP s v → BP s → mB v r = b → v 43 r = n → v 38 10 = p → 0 ≤ p → p ≤ 100 → n - p < f → 0 < f →
    (∀ q v1, pLoop b n f p s = .error q → FRD v v1 → v1 38 10 = q → Q (0, q) v1 (gHd K) t) → (∀ s1 v1, pLoop b n f p s = .ok s1 → RP s1 v1 → FRD v v1 → Gx Γ mX2_faultOf 114 [(2, 38), (0, r), z] [] v1 (gHd K) t bc bs Q) →
    Gx Γ mX2_faultOf 61 [(2, 38), (0, r), z] [] v (gHd K) t bc bs Q := by
  intro f
  induction f with
  | zero =>
    intro p s v hRP hBP hb hn2 hq h0 h1 h2 hf0 kE kO
    exact absurd hf0 (by omega)
  | succ f ih =>
    intro p s v hRP hBP hb hn2 hq h0 h1 h2 hf0 kE kO
    refine Gx_aload_n (i := 0) dX2_faultOf_61 rfl rfl ?_
    refine gf_X2_132_22 dX2_faultOf_62 rfl rfl ?_
    refine Gx_aload_n (i := 0) dX2_faultOf_65 rfl rfl ?_
    refine gf_X2_22_22 dX2_faultOf_66 rfl rfl ?_
    refine Gx_iload_n (i := 1) dX2_faultOf_69 rfl rfl ?_
    refine Gx_iaload dX2_faultOf_70 rfl (by first | omega | (simp (disch := omega) only [w32_id]; omega)) ?_
    refine Gx_icmp_ge (tgt := 114) dX2_faultOf_71 (by decide) (fun c71 => ?_) (fun c71 => ?_)
    · have e : pLoop b n (f + 1) p s = .ok s := by
        show (if _ then _ else _) = _
        rw [if_neg (by omega)]
      exact kO s v e hRP (fun a j hn => rfl)
    · refine Gx_aload_n (i := 0) dX2_faultOf_74 rfl rfl ?_
      refine Gx_iload_n (i := 1) dX2_faultOf_75 rfl rfl ?_
      refine Gx_aload_n (i := 0) dX2_faultOf_76 rfl rfl ?_
      refine gf_X2_132_22 dX2_faultOf_77 rfl rfl ?_
      refine cl_X2_135 dX2_faultOf_80 rfl rfl ⟨(Nat.le_of_ble_eq_true rfl), (Nat.le_of_ble_eq_true rfl)⟩ rfl ?_
      refine ct_X2_byteAt (by omega) (by omega) (by omega) ?_
      refine Gx_bipush dX2_faultOf_83 ⟨by decide, by decide⟩ ?_
      refine Gx_icmp_ne (tgt := 101) dX2_faultOf_85 (by decide) (fun c85 => ?_) (fun c85 => ?_)
      · refine Gx_aload_n (i := 0) dX2_faultOf_101 rfl rfl ?_
        refine Gx_iload_n (i := 1) dX2_faultOf_102 rfl rfl ?_
        refine cl_X2_185 dX2_faultOf_103 rfl rfl ⟨(Nat.le_of_ble_eq_true rfl), (Nat.le_of_ble_eq_true rfl)⟩ rfl ?_
        refine ct_X2_readsItem (q0 := p) hr (by omega) hb hq (by omega) hRP hBP (fun qI sI vI cI hRI hFI hqI => ?_) (fun qI vI cI hFI hqI => ?_)
        · have hd : sByte v r (v 38 10) = b p := by rw [← hb, hq]; rfl
          refine Gx_if_ne (tgt := 61) dX2_faultOf_106 (by decide) (fun _ => ?_) (fun hz => absurd hz (by decide))
          have hbd := Bnd_item (b := b) (p := p) (s := s)
          have hbq := hbd.2 _ cI
          have hbq : p + 1 ≤ qI ∧ qI ≤ p + 17 := hbq
          have e : pLoop b n (f + 1) p s = pLoop b n f qI sI := by
            show (if _ then _ else _) = _
            rw [if_pos (by omega), if_neg (by rw [← hd]; exact c85), cI]
          rw [e] at kE kO
          exact ih qI sI vI hRI (BP_item hBP cI) (mB_of (fun l => hFI 43 l (by omega)) (fun l => hFI 44 l (by omega)) hb) (by rw [hFI 43 r (by omega)]; exact hn2) hqI (by omega) (by omega) (by omega) (by omega) (fun q v1 h1 h2 h3 => kE q v1 h1 (FRD.trans hFI h2) h3) (fun s1 v1 h1 h2 h3 => kO s1 v1 h1 h2 (FRD.trans hFI h3))
          -- done
        · have hd : sByte v r (v 38 10) = b p := by rw [← hb, hq]; rfl
          refine Gx_if_ne (tgt := 61) dX2_faultOf_106 (by decide) (fun hz => absurd hz (by decide)) (fun _ => ?_)
          have e : pLoop b n (f + 1) p s = .error qI := by
            show (if _ then _ else _) = _
            rw [if_pos (by omega), if_neg (by rw [← hd]; exact c85), cI]
          refine Gx_aload_n (i := 0) dX2_faultOf_109 rfl rfl ?_
          refine gf_X2_132_22 dX2_faultOf_110 rfl rfl ?_
          refine Gx_ireturn dX2_faultOf_113 trivial ?_
          rw [hqI]
          exact kE qI vI e hFI hqI
          -- done
      · refine Gx_aload_n (i := 0) dX2_faultOf_88 rfl rfl ?_
        refine Gx_dup (Nat.ne_of_beq_eq_false rfl) dX2_faultOf_89 ?_
        refine gf_X2_132_22 dX2_faultOf_90 rfl rfl ?_
        refine Gx_iconst ⟨by decide, by decide⟩ dX2_faultOf_93 ?_
        refine Gx_iadd dX2_faultOf_94 ?_
        refine pf_X2_132_22 dX2_faultOf_95 rfl rfl ?_
        refine Gx_goto (tgt := 61) dX2_faultOf_98 (by decide) ?_
        have hd : sByte v r (v 38 10) = b p := by rw [← hb, hq]; rfl
        have e : pLoop b n (f + 1) p s = pLoop b n f (p + 1) s := by
          show (if _ then _ else _) = _
          rw [if_pos (by omega), if_pos (by rw [← hd]; exact c85)]
        rw [e] at kE kO
        refine Gx_name (fun vN eN => ?_)
        have hFN : ∀ a j, ¬ (a = 38 ∧ j = 10) → vN a j = v a j := by
          intro a j hn
          rw [eN]
          simp (disch := omega) only [gUp_ne2, gUp_eq2]
        have h10 : vN 38 10 = p + 1 := by
          rw [eN]
          simp (disch := omega) only [gUp_ne2, gUp_eq2]
          rw [hq]
          try exact w32_id (by omega) (by omega)
        have hRN : RP s vN := by
          obtain ⟨h1, h2, h3, h4, h5, h6, h7, h8, h9⟩ := hRP
          exact ⟨(hFN 38 12 (by omega)).trans h1, (hFN 38 14 (by omega)).trans h2, (hFN 38 17 (by omega)).trans h3, fun j j0 j1 => (hFN 45 j (by omega)).trans (h4 j j0 j1), fun j j0 j1 => (hFN 46 j (by omega)).trans (h5 j j0 j1), (hFN 47 0 (by omega)).trans h6, (hFN 47 1 (by omega)).trans h7, fun j j0 j1 => (hFN 48 j (by omega)).trans (h8 j j0 j1), fun j j0 j1 => (hFN 49 j (by omega)).trans (h9 j j0 j1)⟩
        have hFD : FRD v vN := fun a j hn => hFN a j (by omega)
        exact ih (p + 1) s vN hRN hBP (mB_of (fun l => hFN 43 l (by omega)) (fun l => hFN 44 l (by omega)) hb) (by rw [hFN 43 r (by omega)]; exact hn2) h10 (by omega) (by omega) (by omega) (by omega) (fun q v1 h1 h2 h3 => kE q v1 h1 (hFD.trans h2) h3) (fun s1 v1 h1 h2 h3 => kO s1 v1 h1 h2 (hFD.trans h3))
set_option maxHeartbeats 2000000 in
theorem ct_X2_faultOf {r : Int} (hr : 0 ≤ r ∧ r ≤ 3) (hs : 0 ≤ v 43 r ∧ v 43 r ≤ 80) (k : ∀ v1, FRD v v1 → (∀ s, pText (mB v r) (v 43 r) = .ok s → RP s v1) → Q (0, pFault (mB v r) (v 43 r)) v1 (gHd K) t) : Ctr Γ mX2_faultOf [(2, 38), (0, r)] v (gHd K) t Q := by
  refine Ctr.ofG (ls := [(2, 38), (0, r), (9, 0)]) rfl rfl rfl rfl rfl ?_
  refine Gx_aload_n (i := 0) dX2_faultOf_0 rfl rfl ?_
  refine Gx_iconst ⟨by decide, by decide⟩ dX2_faultOf_1 ?_
  refine pf_X2_132_22 dX2_faultOf_2 rfl rfl ?_
  refine Gx_aload_n (i := 0) dX2_faultOf_5 rfl rfl ?_
  refine Gx_iconst ⟨by decide, by decide⟩ dX2_faultOf_6 ?_
  refine pf_X2_144_22 dX2_faultOf_7 rfl rfl ?_
  refine Gx_aload_n (i := 0) dX2_faultOf_10 rfl rfl ?_
  refine Gx_iconst ⟨by decide, by decide⟩ dX2_faultOf_11 ?_
  refine pf_X2_161_22 dX2_faultOf_12 rfl rfl ?_
  refine Gx_aload_n (i := 0) dX2_faultOf_15 rfl rfl ?_
  refine gf_X2_35_22 dX2_faultOf_16 rfl rfl ?_
  refine Gx_iconst ⟨by decide, by decide⟩ dX2_faultOf_19 ?_
  refine Gx_iconst ⟨by decide, by decide⟩ dX2_faultOf_20 ?_
  refine Gx_iastore dX2_faultOf_21 rfl (by first | omega | (simp (disch := omega) only [w32_id]; omega)) ?_
  refine Gx_aload_n (i := 0) dX2_faultOf_22 rfl rfl ?_
  refine gf_X2_35_22 dX2_faultOf_23 rfl rfl ?_
  refine Gx_iconst ⟨by decide, by decide⟩ dX2_faultOf_26 ?_
  refine Gx_iconst ⟨by decide, by decide⟩ dX2_faultOf_27 ?_
  refine Gx_iastore dX2_faultOf_28 rfl (by first | omega | (simp (disch := omega) only [w32_id]; omega)) ?_
  refine Gx_aload_n (i := 0) dX2_faultOf_29 rfl rfl ?_
  refine Gx_iconst ⟨by decide, by decide⟩ dX2_faultOf_30 ?_
  refine pf_X2_164_22 dX2_faultOf_31 rfl rfl ?_
  refine Gx_aload_n (i := 0) dX2_faultOf_34 rfl rfl ?_
  refine gf_X2_38_22 dX2_faultOf_35 rfl rfl ?_
  refine Gx_iconst ⟨by decide, by decide⟩ dX2_faultOf_38 ?_
  refine Gx_iconst ⟨by decide, by decide⟩ dX2_faultOf_39 ?_
  refine Gx_iastore dX2_faultOf_40 rfl (by first | omega | (simp (disch := omega) only [w32_id]; omega)) ?_
  refine Gx_iconst ⟨by decide, by decide⟩ dX2_faultOf_41 ?_
  refine Gx_istore_n_2 dX2_faultOf_42 (Nat.le_of_ble_eq_true rfl) (Nat.ne_of_beq_eq_false rfl) ?_
  refine Gx_iload_n (i := 2) dX2_faultOf_43 rfl rfl ?_
  refine Gx_iconst ⟨by decide, by decide⟩ dX2_faultOf_44 ?_
  refine Gx_icmp_ge (tgt := 61) dX2_faultOf_45 (by decide) (fun hz => absurd hz (by decide)) (fun _ => ?_)
  refine Gx_aload_n (i := 0) dX2_faultOf_48 rfl rfl ?_
  refine gf_X2_41_22 dX2_faultOf_49 rfl rfl ?_
  refine Gx_iload_n (i := 2) dX2_faultOf_52 rfl rfl ?_
  refine Gx_iconst ⟨by decide, by decide⟩ dX2_faultOf_53 ?_
  refine Gx_iastore dX2_faultOf_54 rfl (by first | omega | (simp (disch := omega) only [w32_id]; omega)) ?_
  refine Gx_iinc_2 dX2_faultOf_55 (Nat.le_of_ble_eq_true rfl) (Nat.ne_of_beq_eq_false rfl) ?_
  rw [show w32 (0 + 1) = (1 : Int) from by decide]
  refine Gx_goto (tgt := 43) dX2_faultOf_58 (by decide) ?_
  refine Gx_iload_n (i := 2) dX2_faultOf_43 rfl rfl ?_
  refine Gx_iconst ⟨by decide, by decide⟩ dX2_faultOf_44 ?_
  refine Gx_icmp_ge (tgt := 61) dX2_faultOf_45 (by decide) (fun hz => absurd hz (by decide)) (fun _ => ?_)
  refine Gx_aload_n (i := 0) dX2_faultOf_48 rfl rfl ?_
  refine gf_X2_41_22 dX2_faultOf_49 rfl rfl ?_
  refine Gx_iload_n (i := 2) dX2_faultOf_52 rfl rfl ?_
  refine Gx_iconst ⟨by decide, by decide⟩ dX2_faultOf_53 ?_
  refine Gx_iastore dX2_faultOf_54 rfl (by first | omega | (simp (disch := omega) only [w32_id]; omega)) ?_
  refine Gx_iinc_2 dX2_faultOf_55 (Nat.le_of_ble_eq_true rfl) (Nat.ne_of_beq_eq_false rfl) ?_
  rw [show w32 (1 + 1) = (2 : Int) from by decide]
  refine Gx_goto (tgt := 43) dX2_faultOf_58 (by decide) ?_
  refine Gx_iload_n (i := 2) dX2_faultOf_43 rfl rfl ?_
  refine Gx_iconst ⟨by decide, by decide⟩ dX2_faultOf_44 ?_
  refine Gx_icmp_ge (tgt := 61) dX2_faultOf_45 (by decide) (fun hz => absurd hz (by decide)) (fun _ => ?_)
  refine Gx_aload_n (i := 0) dX2_faultOf_48 rfl rfl ?_
  refine gf_X2_41_22 dX2_faultOf_49 rfl rfl ?_
  refine Gx_iload_n (i := 2) dX2_faultOf_52 rfl rfl ?_
  refine Gx_iconst ⟨by decide, by decide⟩ dX2_faultOf_53 ?_
  refine Gx_iastore dX2_faultOf_54 rfl (by first | omega | (simp (disch := omega) only [w32_id]; omega)) ?_
  refine Gx_iinc_2 dX2_faultOf_55 (Nat.le_of_ble_eq_true rfl) (Nat.ne_of_beq_eq_false rfl) ?_
  rw [show w32 (2 + 1) = (3 : Int) from by decide]
  refine Gx_goto (tgt := 43) dX2_faultOf_58 (by decide) ?_
  refine Gx_iload_n (i := 2) dX2_faultOf_43 rfl rfl ?_
  refine Gx_iconst ⟨by decide, by decide⟩ dX2_faultOf_44 ?_
  refine Gx_icmp_ge (tgt := 61) dX2_faultOf_45 (by decide) (fun _ => ?_) (fun hz => absurd hz (by decide))
  refine Gx_name (fun vI eI => ?_)
  have hFI : FRD v vI := by
    intro a j hn
    rw [eI]
    simp (disch := omega) only [gUp_ne2, gUp_eq2]
  have hRI : RP pS0 vI := by
    refine ⟨?_, ?_, ?_, ?_, ?_, ?_, ?_, ?_, ?_⟩
    · rw [eI]; simp (disch := omega) only [gUp_ne2, gUp_eq2]; rfl
    · rw [eI]; simp (disch := omega) only [gUp_ne2, gUp_eq2]; rfl
    · rw [eI]; simp (disch := omega) only [gUp_ne2, gUp_eq2]; rfl
    · intro j j0 j1
      have e12 : pS0 38 12 = 0 := rfl
      rw [e12] at j1
      omega
    · intro j j0 j1
      have e12 : pS0 38 14 = 0 := rfl
      rw [e12] at j1
      omega
    · rw [eI]; simp (disch := omega) only [gUp_ne2, gUp_eq2]; rfl
    · rw [eI]; simp (disch := omega) only [gUp_ne2, gUp_eq2]; rfl
    · intro j j0 j1
      have e12 : pS0 38 17 = 1 := rfl
      rw [e12] at j1
      have ej : j = 0 := by omega
      subst ej
      rw [eI]; simp (disch := omega) only [gUp_ne2, gUp_eq2]; rfl
    · intro j j0 j1
      rcases (by omega : j = 0 ∨ j = 1 ∨ j = 2) with rfl | rfl | rfl <;> (rw [eI]; simp (disch := omega) only [gUp_ne2, gUp_eq2]; rfl)
  have h10 : vI 38 10 = 0 := by
    rw [eI]
    simp (disch := omega) only [gUp_ne2, gUp_eq2]
  refine lp_X2_faultOf (n := v 43 r) hr (by omega) ((v 43 r).toNat + 1) 0 pS0 vI hRI BP_S0 (mB_of (fun l => hFI 43 l (by omega)) (fun l => hFI 44 l (by omega)) rfl) (hFI 43 r (by omega)) h10 (by omega) (by omega) (by omega) (by omega) (fun q v1 h1 h2 h3 => ?_) (fun s1 v1 h1 h2 h3 => ?_)
  · have ef : pFault (mB v r) (v 43 r) = q := by
      unfold pFault pText
      rw [h1]
    rw [ef] at k
    exact k v1 (hFI.trans h2) (fun s hs => by unfold pText at hs; rw [h1] at hs; cases hs)
  · have ef : pFault (mB v r) (v 43 r) = if s1 38 12 = 0 then v 43 r else -9 := by
      unfold pFault pText
      rw [h1]
    have hk := k v1 (hFI.trans h3) (fun s hs => by unfold pText at hs; rw [h1] at hs; cases hs; exact h2)
    have h12 := h2.1
    have h43 : v1 43 r = v 43 r := (h3 43 r (by omega)).trans (hFI 43 r (by omega))
    rw [ef] at hk
    refine Gx_aload_n (i := 0) dX2_faultOf_114 rfl rfl ?_
    refine gf_X2_144_22 dX2_faultOf_115 rfl rfl ?_
    refine Gx_if_ne (tgt := 130) dX2_faultOf_118 (by decide) (fun c118 => ?_) (fun c118 => ?_)
    · refine Gx_bipush dX2_faultOf_130 ⟨by decide, by decide⟩ ?_
      refine Gx_ireturn dX2_faultOf_132 trivial ?_
      first
        | (rw [if_pos (by omega)] at hk; first | exact hk | (rw [h43]; exact hk))
        | (rw [if_neg (by omega)] at hk; exact hk)
    · refine Gx_aload_n (i := 0) dX2_faultOf_121 rfl rfl ?_
      refine gf_X2_22_22 dX2_faultOf_122 rfl rfl ?_
      refine Gx_iload_n (i := 1) dX2_faultOf_125 rfl rfl ?_
      refine Gx_iaload dX2_faultOf_126 rfl (by first | omega | (simp (disch := omega) only [w32_id]; omega)) ?_
      refine Gx_goto (tgt := 132) dX2_faultOf_127 (by decide) ?_
      refine Gx_ireturn dX2_faultOf_132 trivial ?_
      first
        | (rw [if_pos (by omega)] at hk; first | exact hk | (rw [h43]; exact hk))
        | (rw [if_neg (by omega)] at hk; exact hk)
end
