/-! AcornYearsModel: eaten, gainOf, mayNow -/
section
variable {Γ : gC} {v : gM} {K : gH} {t : Nat} {Q : gQ}
theorem yLeft_le {ea mo : Int → Int} {l : Int} (hl : 0 ≤ l) : ∀ n : Nat, (∀ k : Int, 0 ≤ k → k < n → 0 ≤ ea k * mo k) → 0 ≤ yLeft ea mo l n ∧ yLeft ea mo l n ≤ l
  | 0, _ => by unfold yLeft; omega
  | n + 1, h => by
    have h1 := yLeft_le hl n (fun k h0 h2 => h k h0 (by omega))
    have h2 := h n (by omega) (by omega)
    unfold yLeft
    omega
theorem yLeft_s {ea mo : Int → Int} {l e : Int} (h : 0 ≤ e) : yLeft ea mo l (e + 1).toNat = yLeft ea mo l e.toNat - min (yLeft ea mo l e.toNat) (ea e * mo e) := by
  rw [show (e + 1).toNat = e.toNat + 1 by omega]
  show yLeft ea mo l e.toNat - min (yLeft ea mo l e.toNat) (ea (e.toNat : Int) * mo (e.toNat : Int)) = _
  rw [show ((e.toNat : Nat) : Int) = e by omega]
theorem tdiv_bd {a b : Int} (ha : 0 ≤ a) (hb : 1 ≤ b) : 0 ≤ a.tdiv b ∧ a.tdiv b ≤ a := by
  rw [Int.tdiv_eq_ediv_of_nonneg ha]
  exact ⟨Int.ediv_nonneg ha (by omega), Int.ediv_le_self b ha⟩
/-- the eaters of a memory: what bounds them -/
def oEat (v : gM) : Prop := (0 ≤ v 38 22 ∧ v 38 22 ≤ 2) ∧ ∀ e, 0 ≤ e → e < v 38 22 → (1 ≤ v 51 e ∧ v 51 e ≤ 9) ∧ (0 ≤ v 56 e ∧ v 56 e ≤ 200) ∧ (0 ≤ v 52 e ∧ v 52 e ≤ 9) ∧ 0 ≤ v 53 e ∧ v 53 e ≤ 9

set_option maxHeartbeats 4000000 in
theorem lp_X2_eaten {th hd fg l0 n : Int} {bc bs : Nat} {v0 : gM} (hE : oEat v0) (hn : v0 38 22 = n) (hl : 0 ≤ l0 ∧ l0 ≤ 5000)
    (cont : ∀ (v1 : gM) (z6 z7 z8 : gV), (∀ a k, ¬ ((a = 56 ∨ a = 62) ∧ 0 ≤ k ∧ k < n) → v1 a k = v0 a k) → (∀ k, 0 ≤ k → k < n → v1 56 k = yMo (v0 51 k) (v0 56 k) (v0 52 k) (v0 53 k) (yLeft (v0 51) (v0 56) l0 k.toNat) ∧ v1 62 k = (if yStv (v0 51 k) (v0 56 k) (yLeft (v0 51) (v0 56) l0 k.toNat) = true then 1 else 0)) → Gx Γ mX2_eaten 175 [(2, 38), (0, th), (0, hd), (0, fg), (0, yLeft (v0 51) (v0 56) l0 n.toNat), (0, n), z6, z7, z8] [] v1 (gHd K) t bc bs Q) :
    ∀ (j : Nat) (e : Int) (v : gM) (z6 z7 z8 : gV), 0 ≤ e → e + j = n → (∀ a k, ¬ ((a = 56 ∨ a = 62) ∧ 0 ≤ k ∧ k < e) → v a k = v0 a k) → (∀ k, 0 ≤ k → k < e → v 56 k = yMo (v0 51 k) (v0 56 k) (v0 52 k) (v0 53 k) (yLeft (v0 51) (v0 56) l0 k.toNat) ∧ v 62 k = (if yStv (v0 51 k) (v0 56 k) (yLeft (v0 51) (v0 56) l0 k.toNat) = true then 1 else 0)) →
    Gx Γ mX2_eaten 27 [(2, 38), (0, th), (0, hd), (0, fg), (0, yLeft (v0 51) (v0 56) l0 e.toNat), (0, e), z6, z7, z8] [] v (gHd K) t bc bs Q := by
  intro j
  induction j with
  | zero =>
    intro e v z6 z7 z8 h0 h1 hF hV
    have hv22 : v 38 22 = n := by rw [hF 38 22 (by omega)]; exact hn
    refine Gx_iload dX2_eaten_27 rfl ?_
    refine Gx_aload_n (i := 0) dX2_eaten_29 rfl rfl ?_
    refine gf_X2_194_22 dX2_eaten_30 rfl rfl ?_
    refine Gx_icmp_ge (tgt := 175) dX2_eaten_33 (by decide) (fun c33 => ?_) (fun c33 => ?_)
    · have e0 : e = n := by omega
      rw [e0] at hF hV ⊢
      exact cont v z6 z7 z8 hF hV
    · exfalso
      omega
  | succ j ih =>
    intro e v z6 z7 z8 h0 h1 hF hV
    have hv22 : v 38 22 = n := by rw [hF 38 22 (by omega)]; exact hn
    refine Gx_iload dX2_eaten_27 rfl ?_
    refine Gx_aload_n (i := 0) dX2_eaten_29 rfl rfl ?_
    refine gf_X2_194_22 dX2_eaten_30 rfl rfl ?_
    try simp (disch := omega) only [gUp_ne2, gUp_eq2, hF]
    refine Gx_icmp_ge (tgt := 175) dX2_eaten_33 (by decide) (fun c33 => ?_) (fun c33 => ?_)
    · exfalso
      omega
    · have hE1 := hE.1
      obtain ⟨g51, g56, g52, g53⟩ := hE.2 e h0 (by omega)
      have hlb := yLeft_le (ea := v0 51) (mo := v0 56) hl.1 e.toNat (fun k k0 k1 => Int.mul_nonneg (by have := (hE.2 k k0 (by omega)).1; omega) (by have := (hE.2 k k0 (by omega)).2.1; omega))
      have hm1 : 0 ≤ v0 51 e * v0 56 e ∧ v0 51 e * v0 56 e ≤ 9 * 200 := ⟨Int.mul_nonneg (by omega) g56.1, Int.mul_le_mul g51.2 g56.2 g56.1 (by omega)⟩
      have hm2 : 0 ≤ v0 56 e * v0 52 e ∧ v0 56 e * v0 52 e ≤ 200 * 9 := ⟨Int.mul_nonneg g56.1 g52.1, Int.mul_le_mul g56.2 g52.2 g52.1 (by omega)⟩
      have hd1 := tdiv_bd (a := v0 56 e * v0 52 e) (b := 10) hm2.1 (by omega)
      have hd2 := tdiv_bd (a := min (yLeft (v0 51) (v0 56) l0 e.toNat) (v0 51 e * v0 56 e)) (b := v0 51 e) (by omega) (by omega)
      refine Gx_aload_n (i := 0) dX2_eaten_36 rfl rfl ?_
      refine gf_X2_47_22 dX2_eaten_37 rfl rfl ?_
      refine Gx_iload dX2_eaten_40 rfl ?_
      refine Gx_iaload dX2_eaten_42 rfl (by first | omega | (simp (disch := omega) only [w32_id]; omega)) ?_
      try simp (disch := omega) only [gUp_ne2, gUp_eq2, hF]
      refine Gx_aload_n (i := 0) dX2_eaten_43 rfl rfl ?_
      refine gf_X2_62_22 dX2_eaten_44 rfl rfl ?_
      refine Gx_iload dX2_eaten_47 rfl ?_
      refine Gx_iaload dX2_eaten_49 rfl (by first | omega | (simp (disch := omega) only [w32_id]; omega)) ?_
      try simp (disch := omega) only [gUp_ne2, gUp_eq2, hF]
      refine Gx_imul dX2_eaten_50 ?_
      try simp (disch := omega) only [w32_id]
      refine Gx_istore_6 dX2_eaten_51 (Nat.le_of_ble_eq_true rfl) (Nat.ne_of_beq_eq_false rfl) ?_
      refine Gx_iload dX2_eaten_53 rfl ?_
      refine Gx_iload dX2_eaten_55 rfl ?_
      refine cl_X2_158 dX2_eaten_57 rfl ⟨(Nat.le_of_ble_eq_true rfl), (Nat.le_of_ble_eq_true rfl)⟩ rfl ?_
      refine ct_X2_lesser ?_
      refine Gx_istore_7 dX2_eaten_60 (Nat.le_of_ble_eq_true rfl) (Nat.ne_of_beq_eq_false rfl) ?_
      refine Gx_iload dX2_eaten_62 rfl ?_
      refine Gx_iload dX2_eaten_64 rfl ?_
      refine Gx_isub dX2_eaten_66 ?_
      try simp (disch := omega) only [w32_id]
      refine Gx_istore_4 dX2_eaten_67 (Nat.le_of_ble_eq_true rfl) (Nat.ne_of_beq_eq_false rfl) ?_
      refine Gx_aload_n (i := 0) dX2_eaten_69 rfl rfl ?_
      refine gf_X2_80_22 dX2_eaten_70 rfl rfl ?_
      refine Gx_iload dX2_eaten_73 rfl ?_
      refine Gx_aload_n (i := 0) dX2_eaten_75 rfl rfl ?_
      refine gf_X2_62_22 dX2_eaten_76 rfl rfl ?_
      refine Gx_iload dX2_eaten_79 rfl ?_
      refine Gx_iaload dX2_eaten_81 rfl (by first | omega | (simp (disch := omega) only [w32_id]; omega)) ?_
      try simp (disch := omega) only [gUp_ne2, gUp_eq2, hF]
      refine Gx_if_le (tgt := 96) dX2_eaten_82 (by decide) (fun c82 => ?_) (fun c82 => ?_)
      · refine Gx_iconst ⟨by decide, by decide⟩ dX2_eaten_96 ?_
        refine Gx_zastore dX2_eaten_97 rfl (by first | omega | (simp (disch := omega) only [w32_id]; omega)) (by first | omega | (simp (disch := omega) only [w32_id]; omega)) ?_
        refine Gx_iload dX2_eaten_98 rfl ?_
        refine Gx_iload dX2_eaten_100 rfl ?_
        refine Gx_icmp_ne (tgt := 134) dX2_eaten_102 (by decide) (fun c102 => ?_) (fun c102 => ?_)
        · refine Gx_iload dX2_eaten_134 rfl ?_
          refine Gx_aload_n (i := 0) dX2_eaten_136 rfl rfl ?_
          refine gf_X2_47_22 dX2_eaten_137 rfl rfl ?_
          refine Gx_iload dX2_eaten_140 rfl ?_
          refine Gx_iaload dX2_eaten_142 rfl (by first | omega | (simp (disch := omega) only [w32_id]; omega)) ?_
          try simp (disch := omega) only [gUp_ne2, gUp_eq2, hF]
          refine Gx_idiv dX2_eaten_143 (by first | omega | (simp (disch := omega) only [w32_id]; omega)) ?_
          refine Gx_istore_8 dX2_eaten_144 (Nat.le_of_ble_eq_true rfl) (Nat.ne_of_beq_eq_false rfl) ?_
          refine Gx_aload_n (i := 0) dX2_eaten_146 rfl rfl ?_
          refine gf_X2_62_22 dX2_eaten_147 rfl rfl ?_
          refine Gx_iload dX2_eaten_150 rfl ?_
          refine Gx_sipush dX2_eaten_152 ⟨by decide, by decide⟩ ?_
          refine Gx_iload dX2_eaten_155 rfl ?_
          refine Gx_aload_n (i := 0) dX2_eaten_157 rfl rfl ?_
          refine gf_X2_53_22 dX2_eaten_158 rfl rfl ?_
          refine Gx_iload dX2_eaten_161 rfl ?_
          refine Gx_iaload dX2_eaten_163 rfl (by first | omega | (simp (disch := omega) only [w32_id]; omega)) ?_
          try simp (disch := omega) only [gUp_ne2, gUp_eq2, hF]
          refine Gx_iadd dX2_eaten_164 ?_
          try simp (disch := omega) only [w32_id]
          refine cl_X2_158 dX2_eaten_165 rfl ⟨(Nat.le_of_ble_eq_true rfl), (Nat.le_of_ble_eq_true rfl)⟩ rfl ?_
          refine ct_X2_lesser ?_
          refine Gx_iastore dX2_eaten_168 rfl (by first | omega | (simp (disch := omega) only [w32_id]; omega)) ?_
          refine Gx_iinc_5 dX2_eaten_169 (Nat.le_of_ble_eq_true rfl) (Nat.ne_of_beq_eq_false rfl) ?_
          try simp (disch := omega) only [w32_id]
          refine Gx_goto (tgt := 27) dX2_eaten_172 (by decide) ?_
          have hx := yLeft_s (ea := v0 51) (mo := v0 56) (l := l0) h0
          rw [← hx]
          refine Gx_name (fun vN eN => ?_)
          refine ih (e + 1) vN _ _ _ (by omega) (by omega) (fun a k hn9 => ?_) (fun k k0 k1 => ?_)
          · rw [eN, gUp_ne2 (by omega), gUp_ne2 (by omega)]
            exact hF a k (by omega)
          · by_cases hk : k = e
            · subst hk
              refine ⟨?_, ?_⟩
              · rw [eN, gUp_eq2 rfl rfl]
                unfold yMo
                first | (rw [if_pos (by omega)]; done) | (rw [if_neg (by omega)]; done) | (rw [if_pos (by omega)]) | (rw [if_neg (by omega)])
              · rw [eN, gUp_ne2 (by omega), gUp_eq2 rfl rfl]
                unfold yStv
                first | (rw [if_pos (by simp only [decide_eq_true_eq]; omega)]; done) | (rw [if_neg (by simp only [decide_eq_true_eq]; omega)]; done)
            · rw [eN, gUp_ne2 (by omega), gUp_ne2 (by omega), gUp_ne2 (by omega), gUp_ne2 (by omega)]
              exact hV k k0 (by omega)
        · refine Gx_aload_n (i := 0) dX2_eaten_105 rfl rfl ?_
          refine gf_X2_62_22 dX2_eaten_106 rfl rfl ?_
          refine Gx_iload dX2_eaten_109 rfl ?_
          refine Gx_iaload dX2_eaten_111 rfl (by first | omega | (simp (disch := omega) only [w32_id]; omega)) ?_
          try simp (disch := omega) only [gUp_ne2, gUp_eq2, hF]
          refine Gx_aload_n (i := 0) dX2_eaten_112 rfl rfl ?_
          refine gf_X2_62_22 dX2_eaten_113 rfl rfl ?_
          refine Gx_iload dX2_eaten_116 rfl ?_
          refine Gx_iaload dX2_eaten_118 rfl (by first | omega | (simp (disch := omega) only [w32_id]; omega)) ?_
          try simp (disch := omega) only [gUp_ne2, gUp_eq2, hF]
          refine Gx_aload_n (i := 0) dX2_eaten_119 rfl rfl ?_
          refine gf_X2_50_22 dX2_eaten_120 rfl rfl ?_
          refine Gx_iload dX2_eaten_123 rfl ?_
          refine Gx_iaload dX2_eaten_125 rfl (by first | omega | (simp (disch := omega) only [w32_id]; omega)) ?_
          try simp (disch := omega) only [gUp_ne2, gUp_eq2, hF]
          refine Gx_imul dX2_eaten_126 ?_
          try simp (disch := omega) only [w32_id]
          refine Gx_bipush dX2_eaten_127 ⟨by decide, by decide⟩ ?_
          refine Gx_idiv dX2_eaten_129 (by first | omega | (simp (disch := omega) only [w32_id]; omega)) ?_
          refine Gx_iadd dX2_eaten_130 ?_
          try simp (disch := omega) only [w32_id]
          refine Gx_goto (tgt := 144) dX2_eaten_131 (by decide) ?_
          refine Gx_istore_8 dX2_eaten_144 (Nat.le_of_ble_eq_true rfl) (Nat.ne_of_beq_eq_false rfl) ?_
          refine Gx_aload_n (i := 0) dX2_eaten_146 rfl rfl ?_
          refine gf_X2_62_22 dX2_eaten_147 rfl rfl ?_
          refine Gx_iload dX2_eaten_150 rfl ?_
          refine Gx_sipush dX2_eaten_152 ⟨by decide, by decide⟩ ?_
          refine Gx_iload dX2_eaten_155 rfl ?_
          refine Gx_aload_n (i := 0) dX2_eaten_157 rfl rfl ?_
          refine gf_X2_53_22 dX2_eaten_158 rfl rfl ?_
          refine Gx_iload dX2_eaten_161 rfl ?_
          refine Gx_iaload dX2_eaten_163 rfl (by first | omega | (simp (disch := omega) only [w32_id]; omega)) ?_
          try simp (disch := omega) only [gUp_ne2, gUp_eq2, hF]
          refine Gx_iadd dX2_eaten_164 ?_
          try simp (disch := omega) only [w32_id]
          refine cl_X2_158 dX2_eaten_165 rfl ⟨(Nat.le_of_ble_eq_true rfl), (Nat.le_of_ble_eq_true rfl)⟩ rfl ?_
          refine ct_X2_lesser ?_
          refine Gx_iastore dX2_eaten_168 rfl (by first | omega | (simp (disch := omega) only [w32_id]; omega)) ?_
          refine Gx_iinc_5 dX2_eaten_169 (Nat.le_of_ble_eq_true rfl) (Nat.ne_of_beq_eq_false rfl) ?_
          try simp (disch := omega) only [w32_id]
          refine Gx_goto (tgt := 27) dX2_eaten_172 (by decide) ?_
          have hx := yLeft_s (ea := v0 51) (mo := v0 56) (l := l0) h0
          rw [← hx]
          refine Gx_name (fun vN eN => ?_)
          refine ih (e + 1) vN _ _ _ (by omega) (by omega) (fun a k hn9 => ?_) (fun k k0 k1 => ?_)
          · rw [eN, gUp_ne2 (by omega), gUp_ne2 (by omega)]
            exact hF a k (by omega)
          · by_cases hk : k = e
            · subst hk
              refine ⟨?_, ?_⟩
              · rw [eN, gUp_eq2 rfl rfl]
                unfold yMo
                first | (rw [if_pos (by omega)]; done) | (rw [if_neg (by omega)]; done) | (rw [if_pos (by omega)]) | (rw [if_neg (by omega)])
              · rw [eN, gUp_ne2 (by omega), gUp_eq2 rfl rfl]
                unfold yStv
                first | (rw [if_pos (by simp only [decide_eq_true_eq]; omega)]; done) | (rw [if_neg (by simp only [decide_eq_true_eq]; omega)]; done)
            · rw [eN, gUp_ne2 (by omega), gUp_ne2 (by omega), gUp_ne2 (by omega), gUp_ne2 (by omega)]
              exact hV k k0 (by omega)
      · refine Gx_iload dX2_eaten_85 rfl ?_
        refine Gx_iload dX2_eaten_87 rfl ?_
        refine Gx_icmp_ge (tgt := 96) dX2_eaten_89 (by decide) (fun c89 => ?_) (fun c89 => ?_)
        · refine Gx_iconst ⟨by decide, by decide⟩ dX2_eaten_96 ?_
          refine Gx_zastore dX2_eaten_97 rfl (by first | omega | (simp (disch := omega) only [w32_id]; omega)) (by first | omega | (simp (disch := omega) only [w32_id]; omega)) ?_
          refine Gx_iload dX2_eaten_98 rfl ?_
          refine Gx_iload dX2_eaten_100 rfl ?_
          refine Gx_icmp_ne (tgt := 134) dX2_eaten_102 (by decide) (fun c102 => ?_) (fun c102 => ?_)
          · refine Gx_iload dX2_eaten_134 rfl ?_
            refine Gx_aload_n (i := 0) dX2_eaten_136 rfl rfl ?_
            refine gf_X2_47_22 dX2_eaten_137 rfl rfl ?_
            refine Gx_iload dX2_eaten_140 rfl ?_
            refine Gx_iaload dX2_eaten_142 rfl (by first | omega | (simp (disch := omega) only [w32_id]; omega)) ?_
            try simp (disch := omega) only [gUp_ne2, gUp_eq2, hF]
            refine Gx_idiv dX2_eaten_143 (by first | omega | (simp (disch := omega) only [w32_id]; omega)) ?_
            refine Gx_istore_8 dX2_eaten_144 (Nat.le_of_ble_eq_true rfl) (Nat.ne_of_beq_eq_false rfl) ?_
            refine Gx_aload_n (i := 0) dX2_eaten_146 rfl rfl ?_
            refine gf_X2_62_22 dX2_eaten_147 rfl rfl ?_
            refine Gx_iload dX2_eaten_150 rfl ?_
            refine Gx_sipush dX2_eaten_152 ⟨by decide, by decide⟩ ?_
            refine Gx_iload dX2_eaten_155 rfl ?_
            refine Gx_aload_n (i := 0) dX2_eaten_157 rfl rfl ?_
            refine gf_X2_53_22 dX2_eaten_158 rfl rfl ?_
            refine Gx_iload dX2_eaten_161 rfl ?_
            refine Gx_iaload dX2_eaten_163 rfl (by first | omega | (simp (disch := omega) only [w32_id]; omega)) ?_
            try simp (disch := omega) only [gUp_ne2, gUp_eq2, hF]
            refine Gx_iadd dX2_eaten_164 ?_
            try simp (disch := omega) only [w32_id]
            refine cl_X2_158 dX2_eaten_165 rfl ⟨(Nat.le_of_ble_eq_true rfl), (Nat.le_of_ble_eq_true rfl)⟩ rfl ?_
            refine ct_X2_lesser ?_
            refine Gx_iastore dX2_eaten_168 rfl (by first | omega | (simp (disch := omega) only [w32_id]; omega)) ?_
            refine Gx_iinc_5 dX2_eaten_169 (Nat.le_of_ble_eq_true rfl) (Nat.ne_of_beq_eq_false rfl) ?_
            try simp (disch := omega) only [w32_id]
            refine Gx_goto (tgt := 27) dX2_eaten_172 (by decide) ?_
            have hx := yLeft_s (ea := v0 51) (mo := v0 56) (l := l0) h0
            rw [← hx]
            refine Gx_name (fun vN eN => ?_)
            refine ih (e + 1) vN _ _ _ (by omega) (by omega) (fun a k hn9 => ?_) (fun k k0 k1 => ?_)
            · rw [eN, gUp_ne2 (by omega), gUp_ne2 (by omega)]
              exact hF a k (by omega)
            · by_cases hk : k = e
              · subst hk
                refine ⟨?_, ?_⟩
                · rw [eN, gUp_eq2 rfl rfl]
                  unfold yMo
                  first | (rw [if_pos (by omega)]; done) | (rw [if_neg (by omega)]; done) | (rw [if_pos (by omega)]) | (rw [if_neg (by omega)])
                · rw [eN, gUp_ne2 (by omega), gUp_eq2 rfl rfl]
                  unfold yStv
                  first | (rw [if_pos (by simp only [decide_eq_true_eq]; omega)]; done) | (rw [if_neg (by simp only [decide_eq_true_eq]; omega)]; done)
              · rw [eN, gUp_ne2 (by omega), gUp_ne2 (by omega), gUp_ne2 (by omega), gUp_ne2 (by omega)]
                exact hV k k0 (by omega)
          · refine Gx_aload_n (i := 0) dX2_eaten_105 rfl rfl ?_
            refine gf_X2_62_22 dX2_eaten_106 rfl rfl ?_
            refine Gx_iload dX2_eaten_109 rfl ?_
            refine Gx_iaload dX2_eaten_111 rfl (by first | omega | (simp (disch := omega) only [w32_id]; omega)) ?_
            try simp (disch := omega) only [gUp_ne2, gUp_eq2, hF]
            refine Gx_aload_n (i := 0) dX2_eaten_112 rfl rfl ?_
            refine gf_X2_62_22 dX2_eaten_113 rfl rfl ?_
            refine Gx_iload dX2_eaten_116 rfl ?_
            refine Gx_iaload dX2_eaten_118 rfl (by first | omega | (simp (disch := omega) only [w32_id]; omega)) ?_
            try simp (disch := omega) only [gUp_ne2, gUp_eq2, hF]
            refine Gx_aload_n (i := 0) dX2_eaten_119 rfl rfl ?_
            refine gf_X2_50_22 dX2_eaten_120 rfl rfl ?_
            refine Gx_iload dX2_eaten_123 rfl ?_
            refine Gx_iaload dX2_eaten_125 rfl (by first | omega | (simp (disch := omega) only [w32_id]; omega)) ?_
            try simp (disch := omega) only [gUp_ne2, gUp_eq2, hF]
            refine Gx_imul dX2_eaten_126 ?_
            try simp (disch := omega) only [w32_id]
            refine Gx_bipush dX2_eaten_127 ⟨by decide, by decide⟩ ?_
            refine Gx_idiv dX2_eaten_129 (by first | omega | (simp (disch := omega) only [w32_id]; omega)) ?_
            refine Gx_iadd dX2_eaten_130 ?_
            try simp (disch := omega) only [w32_id]
            refine Gx_goto (tgt := 144) dX2_eaten_131 (by decide) ?_
            refine Gx_istore_8 dX2_eaten_144 (Nat.le_of_ble_eq_true rfl) (Nat.ne_of_beq_eq_false rfl) ?_
            refine Gx_aload_n (i := 0) dX2_eaten_146 rfl rfl ?_
            refine gf_X2_62_22 dX2_eaten_147 rfl rfl ?_
            refine Gx_iload dX2_eaten_150 rfl ?_
            refine Gx_sipush dX2_eaten_152 ⟨by decide, by decide⟩ ?_
            refine Gx_iload dX2_eaten_155 rfl ?_
            refine Gx_aload_n (i := 0) dX2_eaten_157 rfl rfl ?_
            refine gf_X2_53_22 dX2_eaten_158 rfl rfl ?_
            refine Gx_iload dX2_eaten_161 rfl ?_
            refine Gx_iaload dX2_eaten_163 rfl (by first | omega | (simp (disch := omega) only [w32_id]; omega)) ?_
            try simp (disch := omega) only [gUp_ne2, gUp_eq2, hF]
            refine Gx_iadd dX2_eaten_164 ?_
            try simp (disch := omega) only [w32_id]
            refine cl_X2_158 dX2_eaten_165 rfl ⟨(Nat.le_of_ble_eq_true rfl), (Nat.le_of_ble_eq_true rfl)⟩ rfl ?_
            refine ct_X2_lesser ?_
            refine Gx_iastore dX2_eaten_168 rfl (by first | omega | (simp (disch := omega) only [w32_id]; omega)) ?_
            refine Gx_iinc_5 dX2_eaten_169 (Nat.le_of_ble_eq_true rfl) (Nat.ne_of_beq_eq_false rfl) ?_
            try simp (disch := omega) only [w32_id]
            refine Gx_goto (tgt := 27) dX2_eaten_172 (by decide) ?_
            have hx := yLeft_s (ea := v0 51) (mo := v0 56) (l := l0) h0
            rw [← hx]
            refine Gx_name (fun vN eN => ?_)
            refine ih (e + 1) vN _ _ _ (by omega) (by omega) (fun a k hn9 => ?_) (fun k k0 k1 => ?_)
            · rw [eN, gUp_ne2 (by omega), gUp_ne2 (by omega)]
              exact hF a k (by omega)
            · by_cases hk : k = e
              · subst hk
                refine ⟨?_, ?_⟩
                · rw [eN, gUp_eq2 rfl rfl]
                  unfold yMo
                  first | (rw [if_pos (by omega)]; done) | (rw [if_neg (by omega)]; done) | (rw [if_pos (by omega)]) | (rw [if_neg (by omega)])
                · rw [eN, gUp_ne2 (by omega), gUp_eq2 rfl rfl]
                  unfold yStv
                  first | (rw [if_pos (by simp only [decide_eq_true_eq]; omega)]; done) | (rw [if_neg (by simp only [decide_eq_true_eq]; omega)]; done)
              · rw [eN, gUp_ne2 (by omega), gUp_ne2 (by omega), gUp_ne2 (by omega), gUp_ne2 (by omega)]
                exact hV k k0 (by omega)
        · refine Gx_iconst ⟨by decide, by decide⟩ dX2_eaten_92 ?_
          refine Gx_goto (tgt := 97) dX2_eaten_93 (by decide) ?_
          refine Gx_zastore dX2_eaten_97 rfl (by first | omega | (simp (disch := omega) only [w32_id]; omega)) (by first | omega | (simp (disch := omega) only [w32_id]; omega)) ?_
          refine Gx_iload dX2_eaten_98 rfl ?_
          refine Gx_iload dX2_eaten_100 rfl ?_
          refine Gx_icmp_ne (tgt := 134) dX2_eaten_102 (by decide) (fun c102 => ?_) (fun c102 => ?_)
          · refine Gx_iload dX2_eaten_134 rfl ?_
            refine Gx_aload_n (i := 0) dX2_eaten_136 rfl rfl ?_
            refine gf_X2_47_22 dX2_eaten_137 rfl rfl ?_
            refine Gx_iload dX2_eaten_140 rfl ?_
            refine Gx_iaload dX2_eaten_142 rfl (by first | omega | (simp (disch := omega) only [w32_id]; omega)) ?_
            try simp (disch := omega) only [gUp_ne2, gUp_eq2, hF]
            refine Gx_idiv dX2_eaten_143 (by first | omega | (simp (disch := omega) only [w32_id]; omega)) ?_
            refine Gx_istore_8 dX2_eaten_144 (Nat.le_of_ble_eq_true rfl) (Nat.ne_of_beq_eq_false rfl) ?_
            refine Gx_aload_n (i := 0) dX2_eaten_146 rfl rfl ?_
            refine gf_X2_62_22 dX2_eaten_147 rfl rfl ?_
            refine Gx_iload dX2_eaten_150 rfl ?_
            refine Gx_sipush dX2_eaten_152 ⟨by decide, by decide⟩ ?_
            refine Gx_iload dX2_eaten_155 rfl ?_
            refine Gx_aload_n (i := 0) dX2_eaten_157 rfl rfl ?_
            refine gf_X2_53_22 dX2_eaten_158 rfl rfl ?_
            refine Gx_iload dX2_eaten_161 rfl ?_
            refine Gx_iaload dX2_eaten_163 rfl (by first | omega | (simp (disch := omega) only [w32_id]; omega)) ?_
            try simp (disch := omega) only [gUp_ne2, gUp_eq2, hF]
            refine Gx_iadd dX2_eaten_164 ?_
            try simp (disch := omega) only [w32_id]
            refine cl_X2_158 dX2_eaten_165 rfl ⟨(Nat.le_of_ble_eq_true rfl), (Nat.le_of_ble_eq_true rfl)⟩ rfl ?_
            refine ct_X2_lesser ?_
            refine Gx_iastore dX2_eaten_168 rfl (by first | omega | (simp (disch := omega) only [w32_id]; omega)) ?_
            refine Gx_iinc_5 dX2_eaten_169 (Nat.le_of_ble_eq_true rfl) (Nat.ne_of_beq_eq_false rfl) ?_
            try simp (disch := omega) only [w32_id]
            refine Gx_goto (tgt := 27) dX2_eaten_172 (by decide) ?_
            have hx := yLeft_s (ea := v0 51) (mo := v0 56) (l := l0) h0
            rw [← hx]
            refine Gx_name (fun vN eN => ?_)
            refine ih (e + 1) vN _ _ _ (by omega) (by omega) (fun a k hn9 => ?_) (fun k k0 k1 => ?_)
            · rw [eN, gUp_ne2 (by omega), gUp_ne2 (by omega)]
              exact hF a k (by omega)
            · by_cases hk : k = e
              · subst hk
                refine ⟨?_, ?_⟩
                · rw [eN, gUp_eq2 rfl rfl]
                  unfold yMo
                  first | (rw [if_pos (by omega)]; done) | (rw [if_neg (by omega)]; done) | (rw [if_pos (by omega)]) | (rw [if_neg (by omega)])
                · rw [eN, gUp_ne2 (by omega), gUp_eq2 rfl rfl]
                  unfold yStv
                  first | (rw [if_pos (by simp only [decide_eq_true_eq]; omega)]; done) | (rw [if_neg (by simp only [decide_eq_true_eq]; omega)]; done)
              · rw [eN, gUp_ne2 (by omega), gUp_ne2 (by omega), gUp_ne2 (by omega), gUp_ne2 (by omega)]
                exact hV k k0 (by omega)
          · refine Gx_aload_n (i := 0) dX2_eaten_105 rfl rfl ?_
            refine gf_X2_62_22 dX2_eaten_106 rfl rfl ?_
            refine Gx_iload dX2_eaten_109 rfl ?_
            refine Gx_iaload dX2_eaten_111 rfl (by first | omega | (simp (disch := omega) only [w32_id]; omega)) ?_
            try simp (disch := omega) only [gUp_ne2, gUp_eq2, hF]
            refine Gx_aload_n (i := 0) dX2_eaten_112 rfl rfl ?_
            refine gf_X2_62_22 dX2_eaten_113 rfl rfl ?_
            refine Gx_iload dX2_eaten_116 rfl ?_
            refine Gx_iaload dX2_eaten_118 rfl (by first | omega | (simp (disch := omega) only [w32_id]; omega)) ?_
            try simp (disch := omega) only [gUp_ne2, gUp_eq2, hF]
            refine Gx_aload_n (i := 0) dX2_eaten_119 rfl rfl ?_
            refine gf_X2_50_22 dX2_eaten_120 rfl rfl ?_
            refine Gx_iload dX2_eaten_123 rfl ?_
            refine Gx_iaload dX2_eaten_125 rfl (by first | omega | (simp (disch := omega) only [w32_id]; omega)) ?_
            try simp (disch := omega) only [gUp_ne2, gUp_eq2, hF]
            refine Gx_imul dX2_eaten_126 ?_
            try simp (disch := omega) only [w32_id]
            refine Gx_bipush dX2_eaten_127 ⟨by decide, by decide⟩ ?_
            refine Gx_idiv dX2_eaten_129 (by first | omega | (simp (disch := omega) only [w32_id]; omega)) ?_
            refine Gx_iadd dX2_eaten_130 ?_
            try simp (disch := omega) only [w32_id]
            refine Gx_goto (tgt := 144) dX2_eaten_131 (by decide) ?_
            refine Gx_istore_8 dX2_eaten_144 (Nat.le_of_ble_eq_true rfl) (Nat.ne_of_beq_eq_false rfl) ?_
            refine Gx_aload_n (i := 0) dX2_eaten_146 rfl rfl ?_
            refine gf_X2_62_22 dX2_eaten_147 rfl rfl ?_
            refine Gx_iload dX2_eaten_150 rfl ?_
            refine Gx_sipush dX2_eaten_152 ⟨by decide, by decide⟩ ?_
            refine Gx_iload dX2_eaten_155 rfl ?_
            refine Gx_aload_n (i := 0) dX2_eaten_157 rfl rfl ?_
            refine gf_X2_53_22 dX2_eaten_158 rfl rfl ?_
            refine Gx_iload dX2_eaten_161 rfl ?_
            refine Gx_iaload dX2_eaten_163 rfl (by first | omega | (simp (disch := omega) only [w32_id]; omega)) ?_
            try simp (disch := omega) only [gUp_ne2, gUp_eq2, hF]
            refine Gx_iadd dX2_eaten_164 ?_
            try simp (disch := omega) only [w32_id]
            refine cl_X2_158 dX2_eaten_165 rfl ⟨(Nat.le_of_ble_eq_true rfl), (Nat.le_of_ble_eq_true rfl)⟩ rfl ?_
            refine ct_X2_lesser ?_
            refine Gx_iastore dX2_eaten_168 rfl (by first | omega | (simp (disch := omega) only [w32_id]; omega)) ?_
            refine Gx_iinc_5 dX2_eaten_169 (Nat.le_of_ble_eq_true rfl) (Nat.ne_of_beq_eq_false rfl) ?_
            try simp (disch := omega) only [w32_id]
            refine Gx_goto (tgt := 27) dX2_eaten_172 (by decide) ?_
            have hx := yLeft_s (ea := v0 51) (mo := v0 56) (l := l0) h0
            rw [← hx]
            refine Gx_name (fun vN eN => ?_)
            refine ih (e + 1) vN _ _ _ (by omega) (by omega) (fun a k hn9 => ?_) (fun k k0 k1 => ?_)
            · rw [eN, gUp_ne2 (by omega), gUp_ne2 (by omega)]
              exact hF a k (by omega)
            · by_cases hk : k = e
              · subst hk
                refine ⟨?_, ?_⟩
                · rw [eN, gUp_eq2 rfl rfl]
                  unfold yMo
                  first | (rw [if_pos (by omega)]; done) | (rw [if_neg (by omega)]; done) | (rw [if_pos (by omega)]) | (rw [if_neg (by omega)])
                · rw [eN, gUp_ne2 (by omega), gUp_eq2 rfl rfl]
                  unfold yStv
                  first | (rw [if_pos (by simp only [decide_eq_true_eq]; omega)]; done) | (rw [if_neg (by simp only [decide_eq_true_eq]; omega)]; done)
              · rw [eN, gUp_ne2 (by omega), gUp_ne2 (by omega), gUp_ne2 (by omega), gUp_ne2 (by omega)]
                exact hV k k0 (by omega)
/-- behind the eaters of a year: th acorns are there; what is said of the memory v1 -/
def oEaten (v v1 : gM) (th : Int) : Prop := (∀ a k, ¬ ((a = 38 ∧ k = 39) ∨ ((a = 56 ∨ a = 62) ∧ 0 ≤ k ∧ k < v 38 22)) → v1 a k = v a k) ∧ v1 38 39 = yLeft (v 51) (v 56) (th - min (v 38 26) th) (v 38 22).toNat + (min (v 38 26) th * v 38 27).tdiv 12 ∧
  ∀ k, 0 ≤ k → k < v 38 22 → v1 56 k = yMo (v 51 k) (v 56 k) (v 52 k) (v 53 k) (yLeft (v 51) (v 56) (th - min (v 38 26) th) k.toNat) ∧ v1 62 k = (if yStv (v 51 k) (v 56 k) (yLeft (v 51) (v 56) (th - min (v 38 26) th) k.toNat) = true then 1 else 0)
set_option maxHeartbeats 2000000 in
theorem ct_X2_eaten {th : Int} (hE : oEat v) (hh : 0 ≤ v 38 26 ∧ v 38 26 ≤ 99) (hf : 0 ≤ v 38 27 ∧ v 38 27 ≤ 12) (ht : 0 ≤ th ∧ th ≤ 5000) (k : ∀ v1, oEaten v v1 th → Q (9, 0) v1 (gHd K) t) : Ctr Γ mX2_eaten [(2, 38), (0, th)] v (gHd K) t Q := by
  refine Ctr.ofG (ls := [(2, 38), (0, th), (9, 0), (9, 0), (9, 0), (9, 0), (9, 0), (9, 0), (9, 0)]) rfl rfl rfl rfl rfl ?_
  refine Gx_aload_n (i := 0) dX2_eaten_0 rfl rfl ?_
  refine gf_X2_197_22 dX2_eaten_1 rfl rfl ?_
  refine Gx_iload_n (i := 1) dX2_eaten_4 rfl rfl ?_
  refine cl_X2_158 dX2_eaten_5 rfl ⟨(Nat.le_of_ble_eq_true rfl), (Nat.le_of_ble_eq_true rfl)⟩ rfl ?_
  refine ct_X2_lesser ?_
  refine Gx_istore_n_2 dX2_eaten_8 (Nat.le_of_ble_eq_true rfl) (Nat.ne_of_beq_eq_false rfl) ?_
  refine Gx_iload_n (i := 2) dX2_eaten_9 rfl rfl ?_
  refine Gx_aload_n (i := 0) dX2_eaten_10 rfl rfl ?_
  refine gf_X2_200_22 dX2_eaten_11 rfl rfl ?_
  refine Gx_imul dX2_eaten_14 ?_
  try simp (disch := omega) only [w32_id]
  have hm : 0 ≤ min (v 38 26) th * v 38 27 ∧ min (v 38 26) th * v 38 27 ≤ 99 * 12 := ⟨Int.mul_nonneg (by omega) hf.1, Int.mul_le_mul (by omega) hf.2 hf.1 (by omega)⟩
  have hd := tdiv_bd (a := min (v 38 26) th * v 38 27) (b := 12) hm.1 (by omega)
  try simp (disch := omega) only [w32_id]
  refine Gx_bipush dX2_eaten_15 ⟨by decide, by decide⟩ ?_
  refine Gx_idiv dX2_eaten_17 (by first | omega | (simp (disch := omega) only [w32_id]; omega)) ?_
  try simp (disch := omega) only [w32_id]
  refine Gx_istore_n_3 dX2_eaten_18 (Nat.le_of_ble_eq_true rfl) (Nat.ne_of_beq_eq_false rfl) ?_
  refine Gx_iload_n (i := 1) dX2_eaten_19 rfl rfl ?_
  refine Gx_iload_n (i := 2) dX2_eaten_20 rfl rfl ?_
  refine Gx_isub dX2_eaten_21 ?_
  try simp (disch := omega) only [w32_id]
  refine Gx_istore_4 dX2_eaten_22 (Nat.le_of_ble_eq_true rfl) (Nat.ne_of_beq_eq_false rfl) ?_
  refine Gx_iconst ⟨by decide, by decide⟩ dX2_eaten_24 ?_
  refine Gx_istore_5 dX2_eaten_25 (Nat.le_of_ble_eq_true rfl) (Nat.ne_of_beq_eq_false rfl) ?_
  refine lp_X2_eaten (l0 := th - min (v 38 26) th) (v0 := v) hE rfl (by omega) (fun v1 z6 z7 z8 hF1 hV1 => ?_) (v 38 22).toNat 0 v (9, 0) (9, 0) (9, 0) (by omega) (by have := hE.1; omega) (fun a l hn9 => rfl) (fun l l0 l1 => by omega)
  have hlb := yLeft_le (ea := v 51) (mo := v 56) (l := th - min (v 38 26) th) (by omega) (v 38 22).toNat (fun k k0 k1 => Int.mul_nonneg (by have := (hE.2 k k0 (by omega)).1; omega) (by have := (hE.2 k k0 (by omega)).2.1; omega))
  refine Gx_aload_n (i := 0) dX2_eaten_175 rfl rfl ?_
  refine Gx_iload dX2_eaten_176 rfl ?_
  refine Gx_iload_n (i := 3) dX2_eaten_178 rfl rfl ?_
  refine Gx_iadd dX2_eaten_179 ?_
  try simp (disch := omega) only [w32_id]
  try simp (disch := omega) only [w32_id]
  refine pf_X2_266_22 dX2_eaten_180 rfl rfl ?_
  refine Gx_return dX2_eaten_183 rfl ?_
  refine k _ ⟨fun a l hn9 => ?_, ?_, fun l l0 l1 => ?_⟩
  · rw [gUp_ne2 (by omega)]
    exact hF1 a l (by omega)
  · rw [gUp_eq2 rfl rfl]
  · rw [gUp_ne2 (by omega), gUp_ne2 (by omega)]
    exact hV1 l l0 l1
theorem ct_X2_mayNow  (hy : 0 ≤ v 38 31) (hc : 1 ≤ v 38 28 ∧ v 38 28 ≤ 8) (k : Q (0, v 54 ((v 38 31) % (v 38 28))) v (gHd K) t) : Ctr Γ mX2_mayNow [(2, 38)] v (gHd K) t Q := by
  refine Ctr.ofG (ls := [(2, 38)]) rfl rfl rfl rfl rfl ?_
  refine Gx_aload_n (i := 0) dX2_mayNow_0 rfl rfl ?_
  refine gf_X2_56_22 dX2_mayNow_1 rfl rfl ?_
  refine Gx_aload_n (i := 0) dX2_mayNow_4 rfl rfl ?_
  refine gf_X2_206_22 dX2_mayNow_5 rfl rfl ?_
  refine Gx_aload_n (i := 0) dX2_mayNow_8 rfl rfl ?_
  refine gf_X2_97_22 dX2_mayNow_9 rfl rfl ?_
  refine Gx_irem dX2_mayNow_12 (by first | omega | (simp (disch := omega) only [w32_id]; omega)) ?_
  have e : (v 38 31).tmod (v 38 28) = v 38 31 % v 38 28 := Int.tmod_eq_emod_of_nonneg hy
  have h1 := Int.emod_nonneg (v 38 31) (show v 38 28 ≠ 0 by omega)
  have h2 := Int.emod_lt_of_pos (v 38 31) (show 0 < v 38 28 by omega)
  rw [e]
  refine Gx_iaload dX2_mayNow_13 rfl (by first | omega | (simp (disch := omega) only [w32_id]; omega)) ?_
  refine Gx_ireturn dX2_mayNow_14 trivial ?_
  exact k
end
