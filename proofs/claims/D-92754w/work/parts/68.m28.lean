/-! AcornYearsModel: on, next -/
section
variable {Γ : gC} {v : gM} {K : gH} {t : Nat} {Q : gQ}
/-- the wood goes on where an image says -/
def oOn (v v1 : gM) (f : Int → Int) : Prop := (∀ a k, ¬ ((a = 38 ∧ k = 31) ∨ (a = 56 ∧ 0 ≤ k ∧ k < v 38 22) ∨ ((a = 58 ∨ a = 59 ∨ a = 60) ∧ 0 ≤ k ∧ k < v 38 33)) → v1 a k = v a k) ∧ v1 38 31 = f 0 ∧ (∀ k, 0 ≤ k → k < v 38 22 → v1 56 k = f (1 + k)) ∧ ∀ k, 0 ≤ k → k < v 38 33 → v1 58 k = f (3 + 3 * k) ∧ v1 59 k = f (4 + 3 * k) ∧ v1 60 k = f (5 + 3 * k)

set_option maxHeartbeats 1000000 in
theorem lp_X2_on1 {r n : Int} {bc bs : Nat} {u : gM} (hr : 0 ≤ r ∧ r ≤ 5) (hn : u 38 22 = n) (hn2 : n ≤ 2) (cont : Gx Γ mX2_on 101 [(2, 38), (0, r), (0, n)] [] (gCopy u 56 0 n (fun e => mRw u r (1 + e))) (gHd K) t bc bs Q) : ∀ (j : Nat) (x : Int), 0 ≤ x → x + j = n → Gx Γ mX2_on 73 [(2, 38), (0, r), (0, x)] [] (gCopy u 56 0 x (fun e => mRw u r (1 + e))) (gHd K) t bc bs Q := by
  intro j
  induction j with
  | zero =>
    intro x h0 h1
    refine Gx_iload_n (i := 2) dX2_on_73 rfl rfl ?_
    refine Gx_aload_n (i := 0) dX2_on_74 rfl rfl ?_
    refine gf_X2_194_22 dX2_on_75 rfl rfl ?_
    rw [gCopy_ne (by omega)]
    refine Gx_icmp_ge (tgt := 101) dX2_on_78 (by decide) (fun c78 => ?_) (fun c78 => ?_)
    · have e0 : x = n := by omega
      rw [e0]
      exact cont
    · exfalso
      omega
  | succ j ih =>
    intro x h0 h1
    refine Gx_iload_n (i := 2) dX2_on_73 rfl rfl ?_
    refine Gx_aload_n (i := 0) dX2_on_74 rfl rfl ?_
    refine gf_X2_194_22 dX2_on_75 rfl rfl ?_
    rw [gCopy_ne (by omega)]
    refine Gx_icmp_ge (tgt := 101) dX2_on_78 (by decide) (fun c78 => ?_) (fun c78 => ?_)
    · exfalso
      omega
    · refine Gx_aload_n (i := 0) dX2_on_81 rfl rfl ?_
      refine gf_X2_62_22 dX2_on_82 rfl rfl ?_
      refine Gx_iload_n (i := 2) dX2_on_85 rfl rfl ?_
      refine Gx_aload_n (i := 0) dX2_on_86 rfl rfl ?_
      refine Gx_iload_n (i := 1) dX2_on_87 rfl rfl ?_
      refine Gx_iconst ⟨by decide, by decide⟩ dX2_on_88 ?_
      refine Gx_iload_n (i := 2) dX2_on_89 rfl rfl ?_
      refine Gx_iadd dX2_on_90 ?_
      try simp (disch := omega) only [w32_id]
      refine cl_X2_122 dX2_on_91 rfl rfl ⟨(Nat.le_of_ble_eq_true rfl), (Nat.le_of_ble_eq_true rfl)⟩ rfl ?_
      refine ct_X2_rowAt (by omega) (by omega) ?_
      rw [gCopy_ne (by omega)]
      refine Gx_iastore dX2_on_94 rfl (by first | omega | (simp (disch := omega) only [w32_id]; omega)) ?_
      refine Gx_iinc_2 dX2_on_95 (Nat.le_of_ble_eq_true rfl) (Nat.ne_of_beq_eq_false rfl) ?_
      try simp (disch := omega) only [w32_id]
      refine Gx_goto (tgt := 73) dX2_on_98 (by decide) ?_
      have e1 := gCopy_step (v := u) (a := 56) (lo := 0) (i := x) (f := fun e => mRw u r (1 + e)) h0
      rw [show (0 : Int) + x = x by omega] at e1
      have hi := ih (x + 1) (by omega) (by omega)
      rw [← e1] at hi
      exact hi
set_option maxHeartbeats 1000000 in
theorem lp_X2_on2 {r n : Int} {bc bs : Nat} {u : gM} (hr : 0 ≤ r ∧ r ≤ 5) (hn : u 38 33 = n) (hn24 : n ≤ 24) (cont : ∀ v1, (∀ a k, ¬ ((a = 58 ∨ a = 59 ∨ a = 60) ∧ 0 ≤ k ∧ k < n) → v1 a k = u a k) → (∀ k, 0 ≤ k → k < n → v1 58 k = mRw u r (3 + 3 * k) ∧ v1 59 k = mRw u r (4 + 3 * k) ∧ v1 60 k = mRw u r (5 + 3 * k)) → Q (0, 1) v1 (gHd K) t) : ∀ (j : Nat) (x : Int) (v : gM), 0 ≤ x → x + j = n → (∀ a k, ¬ ((a = 58 ∨ a = 59 ∨ a = 60) ∧ 0 ≤ k ∧ k < x) → v a k = u a k) → (∀ k, 0 ≤ k → k < x → v 58 k = mRw u r (3 + 3 * k) ∧ v 59 k = mRw u r (4 + 3 * k) ∧ v 60 k = mRw u r (5 + 3 * k)) → Gx Γ mX2_on 103 [(2, 38), (0, r), (0, x)] [] v (gHd K) t bc bs Q := by
  intro j
  induction j with
  | zero =>
    intro x v h0 h1 hF hV
    have hv33 : v 38 33 = n := by rw [hF 38 33 (by omega)]; exact hn
    refine Gx_iload_n (i := 2) dX2_on_103 rfl rfl ?_
    refine Gx_aload_n (i := 0) dX2_on_104 rfl rfl ?_
    refine gf_X2_203_22 dX2_on_105 rfl rfl ?_
    refine Gx_icmp_ge (tgt := 165) dX2_on_108 (by decide) (fun c108 => ?_) (fun c108 => ?_)
    · refine Gx_iconst ⟨by decide, by decide⟩ dX2_on_165 ?_
      refine Gx_ireturn dX2_on_166 trivial ?_
      have e0 : x = n := by omega
      rw [e0] at hF hV
      exact cont v hF hV
    · exfalso
      omega
  | succ j ih =>
    intro x v h0 h1 hF hV
    have hv33 : v 38 33 = n := by rw [hF 38 33 (by omega)]; exact hn
    refine Gx_iload_n (i := 2) dX2_on_103 rfl rfl ?_
    refine Gx_aload_n (i := 0) dX2_on_104 rfl rfl ?_
    refine gf_X2_203_22 dX2_on_105 rfl rfl ?_
    refine Gx_icmp_ge (tgt := 165) dX2_on_108 (by decide) (fun c108 => ?_) (fun c108 => ?_)
    · refine Gx_iconst ⟨by decide, by decide⟩ dX2_on_165 ?_
      refine Gx_ireturn dX2_on_166 trivial ?_
      exfalso
      omega
    · refine Gx_aload_n (i := 0) dX2_on_111 rfl rfl ?_
      refine gf_X2_68_22 dX2_on_112 rfl rfl ?_
      refine Gx_iload_n (i := 2) dX2_on_115 rfl rfl ?_
      refine Gx_aload_n (i := 0) dX2_on_116 rfl rfl ?_
      refine Gx_iload_n (i := 1) dX2_on_117 rfl rfl ?_
      refine Gx_iconst ⟨by decide, by decide⟩ dX2_on_118 ?_
      refine Gx_iconst ⟨by decide, by decide⟩ dX2_on_119 ?_
      refine Gx_iload_n (i := 2) dX2_on_120 rfl rfl ?_
      refine Gx_imul dX2_on_121 ?_
      try simp (disch := omega) only [w32_id]
      refine Gx_iadd dX2_on_122 ?_
      try simp (disch := omega) only [w32_id]
      refine cl_X2_122 dX2_on_123 rfl rfl ⟨(Nat.le_of_ble_eq_true rfl), (Nat.le_of_ble_eq_true rfl)⟩ rfl ?_
      refine ct_X2_rowAt (by omega) (by omega) ?_
      simp (disch := omega) only [gUp_ne2, hF]
      refine Gx_iastore dX2_on_126 rfl (by first | omega | (simp (disch := omega) only [w32_id]; omega)) ?_
      refine Gx_aload_n (i := 0) dX2_on_127 rfl rfl ?_
      refine gf_X2_71_22 dX2_on_128 rfl rfl ?_
      refine Gx_iload_n (i := 2) dX2_on_131 rfl rfl ?_
      refine Gx_aload_n (i := 0) dX2_on_132 rfl rfl ?_
      refine Gx_iload_n (i := 1) dX2_on_133 rfl rfl ?_
      refine Gx_iconst ⟨by decide, by decide⟩ dX2_on_134 ?_
      refine Gx_iconst ⟨by decide, by decide⟩ dX2_on_135 ?_
      refine Gx_iload_n (i := 2) dX2_on_136 rfl rfl ?_
      refine Gx_imul dX2_on_137 ?_
      try simp (disch := omega) only [w32_id]
      refine Gx_iadd dX2_on_138 ?_
      try simp (disch := omega) only [w32_id]
      refine cl_X2_122 dX2_on_139 rfl rfl ⟨(Nat.le_of_ble_eq_true rfl), (Nat.le_of_ble_eq_true rfl)⟩ rfl ?_
      refine ct_X2_rowAt (by omega) (by omega) ?_
      simp (disch := omega) only [gUp_ne2, hF]
      refine Gx_iastore dX2_on_142 rfl (by first | omega | (simp (disch := omega) only [w32_id]; omega)) ?_
      refine Gx_aload_n (i := 0) dX2_on_143 rfl rfl ?_
      refine gf_X2_74_22 dX2_on_144 rfl rfl ?_
      refine Gx_iload_n (i := 2) dX2_on_147 rfl rfl ?_
      refine Gx_aload_n (i := 0) dX2_on_148 rfl rfl ?_
      refine Gx_iload_n (i := 1) dX2_on_149 rfl rfl ?_
      refine Gx_iconst ⟨by decide, by decide⟩ dX2_on_150 ?_
      refine Gx_iconst ⟨by decide, by decide⟩ dX2_on_151 ?_
      refine Gx_iload_n (i := 2) dX2_on_152 rfl rfl ?_
      refine Gx_imul dX2_on_153 ?_
      try simp (disch := omega) only [w32_id]
      refine Gx_iadd dX2_on_154 ?_
      try simp (disch := omega) only [w32_id]
      refine cl_X2_122 dX2_on_155 rfl rfl ⟨(Nat.le_of_ble_eq_true rfl), (Nat.le_of_ble_eq_true rfl)⟩ rfl ?_
      refine ct_X2_rowAt (by omega) (by omega) ?_
      simp (disch := omega) only [gUp_ne2, hF]
      refine Gx_iastore dX2_on_158 rfl (by first | omega | (simp (disch := omega) only [w32_id]; omega)) ?_
      refine Gx_iinc_2 dX2_on_159 (Nat.le_of_ble_eq_true rfl) (Nat.ne_of_beq_eq_false rfl) ?_
      try simp (disch := omega) only [w32_id]
      refine Gx_goto (tgt := 103) dX2_on_162 (by decide) ?_
      refine Gx_name (fun vN eN => ?_)
      refine ih (x + 1) vN (by omega) (by omega) (fun a k hn9 => ?_) (fun k k0 k1 => ?_)
      · rw [eN]
        simp (disch := omega) only [gUp_ne2]
        exact hF a k (by omega)
      · by_cases hk : k = x
        · subst hk
          rw [eN]
          refine ⟨?_, ?_, ?_⟩
          · simp (disch := omega) only [gUp_ne2, gUp_eq2]
          · simp (disch := omega) only [gUp_ne2, gUp_eq2]
          · simp (disch := omega) only [gUp_ne2, gUp_eq2]
        · have hv := hV k k0 (by omega)
          rw [eN]
          simp (disch := omega) only [gUp_ne2]
          exact hv
set_option maxHeartbeats 2000000 in
theorem ct_X2_on {r : Int} (hS : oSz v) (h33 : 0 ≤ v 38 33 ∧ v 38 33 ≤ 24) (h22 : 0 ≤ v 38 22 ∧ v 38 22 ≤ 2) (kB : ¬ (0 ≤ r ∧ r ≤ 5) → Q (0, -1) v (gHd K) t) (kN : 0 ≤ r ∧ r ≤ 5 → v 40 r < 0 → Q (0, -3) (sMeet v 1) (gHd K) t) (kZ : 0 ≤ r ∧ r ≤ 5 → 0 ≤ v 40 r → v 40 r ≠ 3 + 3 * v 38 33 → Q (0, -3) (sMeet v 5) (gHd K) t) (kU : 0 ≤ r ∧ r ≤ 5 → v 40 r = 3 + 3 * v 38 33 → ¬ pImage (v 38 22) (v 38 33) (mRw v r) → Q (0, -3) (sMeet v 3) (gHd K) t) (kO : (0 ≤ r ∧ r ≤ 5) ∧ v 40 r = 3 + 3 * v 38 33 → pImage (v 38 22) (v 38 33) (mRw v r) → ∀ v1, oOn v v1 (mRw v r) → Q (0, 1) v1 (gHd K) t) : Ctr Γ mX2_on [(2, 38), (0, r)] v (gHd K) t Q := by
  refine Ctr.ofG (ls := [(2, 38), (0, r), (9, 0)]) rfl rfl rfl rfl rfl ?_
  refine Gx_iload_n (i := 1) dX2_on_0 rfl rfl ?_
  refine cl_X2_114 dX2_on_1 rfl ⟨(Nat.le_of_ble_eq_true rfl), (Nat.le_of_ble_eq_true rfl)⟩ rfl ?_
  refine ct_X2_isRow (fun c1 => ?_) (fun c1 => ?_)
  · refine Gx_if_ne (tgt := 9) dX2_on_4 (by decide) (fun _ => ?_) (fun hz => absurd hz (by decide))
    have hs := hS r (by omega) (by omega)
    refine Gx_aload_n (i := 0) dX2_on_9 rfl rfl ?_
    refine gf_X2_13_22 dX2_on_10 rfl rfl ?_
    refine Gx_iload_n (i := 1) dX2_on_13 rfl rfl ?_
    refine Gx_iaload dX2_on_14 rfl (by first | omega | (simp (disch := omega) only [w32_id]; omega)) ?_
    refine Gx_if_ge (tgt := 24) dX2_on_15 (by decide) (fun c15 => ?_) (fun c15 => ?_)
    · refine Gx_aload_n (i := 0) dX2_on_24 rfl rfl ?_
      refine gf_X2_13_22 dX2_on_25 rfl rfl ?_
      refine Gx_iload_n (i := 1) dX2_on_28 rfl rfl ?_
      refine Gx_iaload dX2_on_29 rfl (by first | omega | (simp (disch := omega) only [w32_id]; omega)) ?_
      refine Gx_iconst ⟨by decide, by decide⟩ dX2_on_30 ?_
      refine Gx_iconst ⟨by decide, by decide⟩ dX2_on_31 ?_
      refine Gx_aload_n (i := 0) dX2_on_32 rfl rfl ?_
      refine gf_X2_203_22 dX2_on_33 rfl rfl ?_
      refine Gx_imul dX2_on_36 ?_
      try simp (disch := omega) only [w32_id]
      refine Gx_iadd dX2_on_37 ?_
      try simp (disch := omega) only [w32_id]
      refine Gx_icmp_eq (tgt := 47) dX2_on_38 (by decide) (fun c38 => ?_) (fun c38 => ?_)
      · refine Gx_aload_n (i := 0) dX2_on_47 rfl rfl ?_
        refine Gx_iload_n (i := 1) dX2_on_48 rfl rfl ?_
        refine cl_X2_277 dX2_on_49 rfl rfl ⟨(Nat.le_of_ble_eq_true rfl), (Nat.le_of_ble_eq_true rfl)⟩ rfl ?_
        refine ct_X2_isImage (by omega) h33 (fun hI => ?_) (fun hI => ?_)
        · refine Gx_if_ne (tgt := 61) dX2_on_52 (by decide) (fun _ => ?_) (fun hz => absurd hz (by decide))
          refine Gx_aload_n (i := 0) dX2_on_61 rfl rfl ?_
          refine Gx_aload_n (i := 0) dX2_on_62 rfl rfl ?_
          refine Gx_iload_n (i := 1) dX2_on_63 rfl rfl ?_
          refine Gx_iconst ⟨by decide, by decide⟩ dX2_on_64 ?_
          refine cl_X2_122 dX2_on_65 rfl rfl ⟨(Nat.le_of_ble_eq_true rfl), (Nat.le_of_ble_eq_true rfl)⟩ rfl ?_
          refine ct_X2_rowAt (by omega) (by omega) ?_
          refine pf_X2_206_22 dX2_on_68 rfl rfl ?_
          refine Gx_iconst ⟨by decide, by decide⟩ dX2_on_71 ?_
          refine Gx_istore_n_2 dX2_on_72 (Nat.le_of_ble_eq_true rfl) (Nat.ne_of_beq_eq_false rfl) ?_
          have hl := lp_X2_on1 (Γ := Γ) (K := K) (t := t) (Q := Q) (r := r) (n := v 38 22) (bc := 0) (bs := 0) (u := gUp v 38 31 (mRw v r 0)) (by omega) (by rw [gUp_ne2 (by omega)]) (by omega) ?_ (v 38 22).toNat 0 (by omega) (by omega)
          · rw [gCopy_0] at hl
            exact hl
          refine Gx_iconst ⟨by decide, by decide⟩ dX2_on_101 ?_
          refine Gx_istore_n_2 dX2_on_102 (Nat.le_of_ble_eq_true rfl) (Nat.ne_of_beq_eq_false rfl) ?_
          refine lp_X2_on2 (u := gCopy (gUp v 38 31 (mRw v r 0)) 56 0 (v 38 22) (fun e => mRw (gUp v 38 31 (mRw v r 0)) r (1 + e))) (n := v 38 33) (by omega) ?_ (by omega) (fun v1 hF1 hV1 => ?_) (v 38 33).toNat 0 _ (by omega) (by omega) (fun a k _ => rfl) (fun k k0 k1 => by omega)
          · rw [gCopy_ne (by omega), gUp_ne2 (by omega)]
          · refine kO (by omega) hI v1 ⟨fun a k hn9 => ?_, ?_, fun k k0 k1 => ?_, fun k k0 k1 => ?_⟩
            · rw [hF1 a k (by omega)]
              unfold gCopy
              rw [if_neg (by omega), gUp_ne2 (by omega)]
            · rw [hF1 38 31 (by omega), gCopy_ne (by omega), gUp_eq2 rfl rfl]
            · rw [hF1 56 k (by omega)]
              unfold gCopy
              rw [if_pos (by omega), show k - 0 = k by omega]
              rfl
            · exact hV1 k k0 k1
        · refine Gx_if_ne (tgt := 61) dX2_on_52 (by decide) (fun hz => absurd hz (by decide)) (fun _ => ?_)
          refine Gx_aload_n (i := 0) dX2_on_55 rfl rfl ?_
          refine Gx_iconst ⟨by decide, by decide⟩ dX2_on_56 ?_
          refine cl_X2_118 dX2_on_57 rfl rfl ⟨(Nat.le_of_ble_eq_true rfl), (Nat.le_of_ble_eq_true rfl)⟩ rfl ?_
          refine ct_X2_meets (by omega) ?_
          refine Gx_ireturn dX2_on_60 trivial ?_
          exact kU (by omega) (by omega) hI
      · refine Gx_aload_n (i := 0) dX2_on_41 rfl rfl ?_
        refine Gx_iconst ⟨by decide, by decide⟩ dX2_on_42 ?_
        refine cl_X2_118 dX2_on_43 rfl rfl ⟨(Nat.le_of_ble_eq_true rfl), (Nat.le_of_ble_eq_true rfl)⟩ rfl ?_
        refine ct_X2_meets (by omega) ?_
        refine Gx_ireturn dX2_on_46 trivial ?_
        exact kZ (by omega) (by omega) (by omega)
    · refine Gx_aload_n (i := 0) dX2_on_18 rfl rfl ?_
      refine Gx_iconst ⟨by decide, by decide⟩ dX2_on_19 ?_
      refine cl_X2_118 dX2_on_20 rfl rfl ⟨(Nat.le_of_ble_eq_true rfl), (Nat.le_of_ble_eq_true rfl)⟩ rfl ?_
      refine ct_X2_meets (by omega) ?_
      refine Gx_ireturn dX2_on_23 trivial ?_
      exact kN (by omega) (by omega)
  · refine Gx_if_ne (tgt := 9) dX2_on_4 (by decide) (fun hz => absurd hz (by decide)) (fun _ => ?_)
    refine Gx_iconst ⟨by decide, by decide⟩ dX2_on_7 ?_
    refine Gx_ireturn dX2_on_8 trivial ?_
    exact kB (by omega)
theorem ct_X2_next {w : Int} (hy : 0 ≤ v 38 31 ∧ v 38 31 ≤ 9999) (hT : oTr v) (hE : oEat v) (hh : 0 ≤ v 38 26 ∧ v 38 26 ≤ 99) (hf : 0 ≤ v 38 27 ∧ v 38 27 ≤ 12) (kB : ¬ (0 ≤ w ∧ w ≤ 2) → Q (0, -1) v (gHd K) t) (kS : 0 ≤ w ∧ w ≤ 2 → v 38 31 = 9999 → Q (0, -4) v (gHd K) t) (kY : 0 ≤ w ∧ w ≤ 2 → v 38 31 ≠ 9999 → ∀ v3, oYear v v3 w 0 0 → Q (0, v3 38 38) (gUp v3 38 2 (v3 38 39)) (gHd K) t) : Ctr Γ mX2_next [(2, 38), (0, w)] v (gHd K) t Q := by
  refine Ctr.ofG (ls := [(2, 38), (0, w)]) rfl rfl rfl rfl rfl ?_
  refine Gx_iload_n (i := 1) dX2_next_0 rfl rfl ?_
  refine Gx_iconst ⟨by decide, by decide⟩ dX2_next_1 ?_
  refine Gx_iconst ⟨by decide, by decide⟩ dX2_next_2 ?_
  refine cl_X2_104 dX2_next_3 rfl ⟨(Nat.le_of_ble_eq_true rfl), (Nat.le_of_ble_eq_true rfl)⟩ rfl ?_
  refine ct_X2_in (fun c3 => ?_) (fun c3 => ?_)
  · refine Gx_if_ne (tgt := 11) dX2_next_6 (by decide) (fun _ => ?_) (fun hz => absurd hz (by decide))
    refine Gx_aload_n (i := 0) dX2_next_11 rfl rfl ?_
    refine gf_X2_206_22 dX2_next_12 rfl rfl ?_
    refine Gx_sipush dX2_next_15 ⟨by decide, by decide⟩ ?_
    refine Gx_icmp_ne (tgt := 24) dX2_next_18 (by decide) (fun c18 => ?_) (fun c18 => ?_)
    · refine Gx_aload_n (i := 0) dX2_next_24 rfl rfl ?_
      refine Gx_iload_n (i := 1) dX2_next_25 rfl rfl ?_
      refine Gx_iconst ⟨by decide, by decide⟩ dX2_next_26 ?_
      refine Gx_iconst ⟨by decide, by decide⟩ dX2_next_27 ?_
      refine cl_X2_269 dX2_next_28 rfl rfl ⟨(Nat.le_of_ble_eq_true rfl), (Nat.le_of_ble_eq_true rfl)⟩ rfl ?_
      refine ct_X2_passes (by omega) (by omega) hT hE hh hf (fun v3 h3 => ?_)
      refine Gx_aload_n (i := 0) dX2_next_31 rfl rfl ?_
      refine Gx_aload_n (i := 0) dX2_next_32 rfl rfl ?_
      refine gf_X2_266_22 dX2_next_33 rfl rfl ?_
      refine Gx_aload_n (i := 0) dX2_next_36 rfl rfl ?_
      refine gf_X2_251_22 dX2_next_37 rfl rfl ?_
      refine cl_X2_126 dX2_next_40 rfl rfl ⟨(Nat.le_of_ble_eq_true rfl), (Nat.le_of_ble_eq_true rfl)⟩ rfl ?_
      refine ct_X2_tells ?_
      refine Gx_ireturn dX2_next_43 trivial ?_
      exact kY (by omega) (by omega) v3 h3
    · refine Gx_bipush dX2_next_21 ⟨by decide, by decide⟩ ?_
      refine Gx_ireturn dX2_next_23 trivial ?_
      exact kS (by omega) (by omega)
  · refine Gx_if_ne (tgt := 11) dX2_next_6 (by decide) (fun hz => absurd hz (by decide)) (fun _ => ?_)
    refine Gx_iconst ⟨by decide, by decide⟩ dX2_next_9 ?_
    refine Gx_ireturn dX2_next_10 trivial ?_
    exact kB (by omega)
end
