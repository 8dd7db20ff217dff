/-! AcornYearsModel: sorts, eaters, trees, what is told -/
section
variable {Γ : gC} {v : gM} {K : gH} {t : Nat} {Q : gQ}
theorem ct_X2_isSort {x : Int} (hn : 0 ≤ v 38 20 ∧ v 38 20 ≤ 24) (k1 : 0 ≤ x ∧ x < v 38 20 → Q (0, 1) v (gHd K) t) (k0 : ¬ (0 ≤ x ∧ x < v 38 20) → Q (0, 0) v (gHd K) t) : Ctr Γ mX2_isSort [(2, 38), (0, x)] v (gHd K) t Q := by
  refine Ctr.ofG (ls := [(2, 38), (0, x)]) rfl rfl rfl rfl rfl ?_
  refine Gx_iload_n (i := 1) dX2_isSort_0 rfl rfl ?_
  refine Gx_iconst ⟨by decide, by decide⟩ dX2_isSort_1 ?_
  refine Gx_aload_n (i := 0) dX2_isSort_2 rfl rfl ?_
  refine gf_X2_191_22 dX2_isSort_3 rfl rfl ?_
  refine Gx_iconst ⟨by decide, by decide⟩ dX2_isSort_6 ?_
  refine Gx_isub dX2_isSort_7 ?_
  try simp (disch := omega) only [w32_id]
  refine cl_X2_104 dX2_isSort_8 rfl ⟨(Nat.le_of_ble_eq_true rfl), (Nat.le_of_ble_eq_true rfl)⟩ rfl ?_
  refine ct_X2_in (fun c8 => ?_) (fun c8 => ?_)
  · refine Gx_ireturn dX2_isSort_11 (Or.inr rfl) ?_
    first | exact k1 (by omega) | exact k0 (by omega)
  · refine Gx_ireturn dX2_isSort_11 (Or.inl rfl) ?_
    first | exact k1 (by omega) | exact k0 (by omega)
theorem ct_X2_isEater {x : Int} (hn : 0 ≤ v 38 22 ∧ v 38 22 ≤ 24) (k1 : 0 ≤ x ∧ x < v 38 22 → Q (0, 1) v (gHd K) t) (k0 : ¬ (0 ≤ x ∧ x < v 38 22) → Q (0, 0) v (gHd K) t) : Ctr Γ mX2_isEater [(2, 38), (0, x)] v (gHd K) t Q := by
  refine Ctr.ofG (ls := [(2, 38), (0, x)]) rfl rfl rfl rfl rfl ?_
  refine Gx_iload_n (i := 1) dX2_isEater_0 rfl rfl ?_
  refine Gx_iconst ⟨by decide, by decide⟩ dX2_isEater_1 ?_
  refine Gx_aload_n (i := 0) dX2_isEater_2 rfl rfl ?_
  refine gf_X2_194_22 dX2_isEater_3 rfl rfl ?_
  refine Gx_iconst ⟨by decide, by decide⟩ dX2_isEater_6 ?_
  refine Gx_isub dX2_isEater_7 ?_
  try simp (disch := omega) only [w32_id]
  refine cl_X2_104 dX2_isEater_8 rfl ⟨(Nat.le_of_ble_eq_true rfl), (Nat.le_of_ble_eq_true rfl)⟩ rfl ?_
  refine ct_X2_in (fun c8 => ?_) (fun c8 => ?_)
  · refine Gx_ireturn dX2_isEater_11 (Or.inr rfl) ?_
    first | exact k1 (by omega) | exact k0 (by omega)
  · refine Gx_ireturn dX2_isEater_11 (Or.inl rfl) ?_
    first | exact k1 (by omega) | exact k0 (by omega)
theorem ct_X2_isTree {x : Int} (hn : 0 ≤ v 38 33 ∧ v 38 33 ≤ 24) (k1 : 0 ≤ x ∧ x < v 38 33 → Q (0, 1) v (gHd K) t) (k0 : ¬ (0 ≤ x ∧ x < v 38 33) → Q (0, 0) v (gHd K) t) : Ctr Γ mX2_isTree [(2, 38), (0, x)] v (gHd K) t Q := by
  refine Ctr.ofG (ls := [(2, 38), (0, x)]) rfl rfl rfl rfl rfl ?_
  refine Gx_iload_n (i := 1) dX2_isTree_0 rfl rfl ?_
  refine Gx_iconst ⟨by decide, by decide⟩ dX2_isTree_1 ?_
  refine Gx_aload_n (i := 0) dX2_isTree_2 rfl rfl ?_
  refine gf_X2_203_22 dX2_isTree_3 rfl rfl ?_
  refine Gx_iconst ⟨by decide, by decide⟩ dX2_isTree_6 ?_
  refine Gx_isub dX2_isTree_7 ?_
  try simp (disch := omega) only [w32_id]
  refine cl_X2_104 dX2_isTree_8 rfl ⟨(Nat.le_of_ble_eq_true rfl), (Nat.le_of_ble_eq_true rfl)⟩ rfl ?_
  refine ct_X2_in (fun c8 => ?_) (fun c8 => ?_)
  · refine Gx_ireturn dX2_isTree_11 (Or.inr rfl) ?_
    first | exact k1 (by omega) | exact k0 (by omega)
  · refine Gx_ireturn dX2_isTree_11 (Or.inl rfl) ?_
    first | exact k1 (by omega) | exact k0 (by omega)
theorem ct_X2_kind {s : Int} (hs : 0 ≤ s ∧ s < 6) (k : Q (0, v 50 (7 * s)) v (gHd K) t) : Ctr Γ mX2_kind [(2, 38), (0, s)] v (gHd K) t Q := by
  refine Ctr.ofG (ls := [(2, 38), (0, s)]) rfl rfl rfl rfl rfl ?_
  refine Gx_aload_n (i := 0) dX2_kind_0 rfl rfl ?_
  refine gf_X2_44_22 dX2_kind_1 rfl rfl ?_
  refine Gx_bipush dX2_kind_4 ⟨by decide, by decide⟩ ?_
  refine Gx_iload_n (i := 1) dX2_kind_6 rfl rfl ?_
  refine Gx_imul dX2_kind_7 ?_
  try simp (disch := omega) only [w32_id]
  refine Gx_iaload dX2_kind_8 rfl (by first | omega | (simp (disch := omega) only [w32_id]; omega)) ?_
  refine Gx_ireturn dX2_kind_9 trivial ?_
  exact k
theorem ct_X2_isSaver {s : Int} (hs : 0 ≤ s ∧ s < 6) (k1 : v 50 (7 * s) = 2 ∨ 3 < v 50 (7 * s) → Q (0, 1) v (gHd K) t) (k0 : ¬ (v 50 (7 * s) = 2 ∨ 3 < v 50 (7 * s)) → Q (0, 0) v (gHd K) t) : Ctr Γ mX2_isSaver [(2, 38), (0, s)] v (gHd K) t Q := by
  refine Ctr.ofG (ls := [(2, 38), (0, s)]) rfl rfl rfl rfl rfl ?_
  refine Gx_aload_n (i := 0) dX2_isSaver_0 rfl rfl ?_
  refine Gx_iload_n (i := 1) dX2_isSaver_1 rfl rfl ?_
  refine cl_X2_209 dX2_isSaver_2 rfl rfl ⟨(Nat.le_of_ble_eq_true rfl), (Nat.le_of_ble_eq_true rfl)⟩ rfl ?_
  refine ct_X2_kind (by omega) ?_
  refine Gx_iconst ⟨by decide, by decide⟩ dX2_isSaver_5 ?_
  refine Gx_icmp_eq (tgt := 18) dX2_isSaver_6 (by decide) (fun c6 => ?_) (fun c6 => ?_)
  · refine Gx_iconst ⟨by decide, by decide⟩ dX2_isSaver_18 ?_
    refine Gx_goto (tgt := 23) dX2_isSaver_19 (by decide) ?_
    refine Gx_ireturn dX2_isSaver_23 (Or.inr rfl) ?_
    first | exact k1 (by omega) | exact k0 (by omega)
  · refine Gx_aload_n (i := 0) dX2_isSaver_9 rfl rfl ?_
    refine Gx_iload_n (i := 1) dX2_isSaver_10 rfl rfl ?_
    refine cl_X2_209 dX2_isSaver_11 rfl rfl ⟨(Nat.le_of_ble_eq_true rfl), (Nat.le_of_ble_eq_true rfl)⟩ rfl ?_
    refine ct_X2_kind (by omega) ?_
    refine Gx_iconst ⟨by decide, by decide⟩ dX2_isSaver_14 ?_
    refine Gx_icmp_le (tgt := 22) dX2_isSaver_15 (by decide) (fun c15 => ?_) (fun c15 => ?_)
    · refine Gx_iconst ⟨by decide, by decide⟩ dX2_isSaver_22 ?_
      refine Gx_ireturn dX2_isSaver_23 (Or.inl rfl) ?_
      first | exact k1 (by omega) | exact k0 (by omega)
    · refine Gx_iconst ⟨by decide, by decide⟩ dX2_isSaver_18 ?_
      refine Gx_goto (tgt := 23) dX2_isSaver_19 (by decide) ?_
      refine Gx_ireturn dX2_isSaver_23 (Or.inr rfl) ?_
      first | exact k1 (by omega) | exact k0 (by omega)
def sAbout (v : gM) (s w : Int) : Int × gM := if (0 ≤ s ∧ s < v 38 20) ∧ 0 ≤ w ∧ w ≤ 3 then (1, gUp v 38 2 (if w = 3 then v 50 (7 * s) else v 50 (7 * s + 1 + w))) else (-1, v)
def sMarkOf (v : gM) (s a : Int) : Int := if a = 1 then w32 (w32 (v 50 (7 * s + 1) + v 50 (7 * s + 2)) + v 50 (7 * s + 3)) else if 3 < a then v 50 (7 * s + 6) else w32 (w32 (100 * v 50 (7 * s + 4)) + v 50 (7 * s + 5))
def sMark (v : gM) (s a : Int) : Int × gM := if ¬ (0 ≤ s ∧ s < v 38 20) ∨ ¬ (1 ≤ a ∧ a ≤ 5) then (-1, v) else if v 50 (7 * s) = a ∨ (a = 2 ∧ (v 50 (7 * s) = 2 ∨ 3 < v 50 (7 * s))) then (sMarkOf v s a, v) else (-3, sMeet v 3)
def sSpring (v : gM) (i w : Int) : Int × gM := if ¬ (0 ≤ w ∧ w ≤ 2) then (-1, v) else if ¬ (0 ≤ i ∧ i < v 38 28) then (-3, sMeet v 2) else (v 54 i, gUp v 54 i w)
def sJay (v : gM) (h p : Int) : Int × gM := if ¬ (0 ≤ h ∧ h ≤ 99) ∨ ¬ (0 ≤ p ∧ p ≤ 12) then (-1, v) else (1, gUp (gUp v 38 26 h) 38 27 p)
def sMice (v : gM) (e n : Int) : Int × gM := if ¬ (0 ≤ e ∧ e < v 38 22) ∨ ¬ (0 ≤ n ∧ n ≤ 200) then (-1, v) else (v 56 e, gUp v 56 e n)
def sGrow (v : gM) (s x : Int) : gM := gUp (gUp (gUp (gUp (gUp v 57 (v 38 33) s) 58 (v 38 33) x) 59 (v 38 33) 0) 60 (v 38 33) (-9)) 38 33 (v 38 33 + 1)
def sPlant (v : gM) (s x : Int) : Int × gM := if ¬ (0 ≤ s ∧ s < v 38 20) ∨ ¬ (0 ≤ x ∧ x ≤ 60) then (-1, v) else if v 38 33 = 24 then (-2, v) else (v 38 33, sGrow v s x)
def sTree (v : gM) (i w : Int) : Int := if w = 0 then v 57 i else if w = 1 then v 58 i else if w = 2 then v 59 i else v 60 i
def sTold (v : gM) (i w : Int) : Int × gM := if (0 ≤ i ∧ i < v 38 33) ∧ 0 ≤ w ∧ w ≤ 3 then (1, gUp v 38 2 (sTree v i w)) else (-1, v)
def sMouse (v : gM) (e : Int) : Int := if e < v 38 22 then v 56 e else -9
def sNow (v : gM) (w : Int) : Int := if w = 0 then v 38 31 else if w = 1 then sMouse v 0 else if w = 2 then sMouse v 1 else if w = 3 then v 38 26 else if w = 4 then v 38 27 else if w = 5 then v 38 28 else v 55 (w - 6)
def sNowA (v : gM) (w : Int) : Int × gM := if 0 ≤ w ∧ w ≤ 8 then (1, gUp v 38 2 (sNow v w)) else (-1, v)

theorem ct_X2_about {s w : Int} (hn : 0 ≤ v 38 20 ∧ v 38 20 ≤ 6) (k : Q (0, (sAbout v s w).1) (sAbout v s w).2 (gHd K) t) : Ctr Γ mX2_about [(2, 38), (0, s), (0, w)] v (gHd K) t Q := by
  refine Ctr.ofG (ls := [(2, 38), (0, s), (0, w)]) rfl rfl rfl rfl rfl ?_
  refine Gx_aload_n (i := 0) dX2_about_0 rfl rfl ?_
  refine Gx_iload_n (i := 1) dX2_about_1 rfl rfl ?_
  refine cl_X2_212 dX2_about_2 rfl rfl ⟨(Nat.le_of_ble_eq_true rfl), (Nat.le_of_ble_eq_true rfl)⟩ rfl ?_
  refine ct_X2_isSort (by omega) (fun c2 => ?_) (fun c2 => ?_)
  · refine Gx_if_eq (tgt := 51) dX2_about_5 (by decide) (fun hz => absurd hz (by decide)) (fun _ => ?_)
    refine Gx_iload_n (i := 2) dX2_about_8 rfl rfl ?_
    refine Gx_iconst ⟨by decide, by decide⟩ dX2_about_9 ?_
    refine Gx_iconst ⟨by decide, by decide⟩ dX2_about_10 ?_
    refine cl_X2_104 dX2_about_11 rfl ⟨(Nat.le_of_ble_eq_true rfl), (Nat.le_of_ble_eq_true rfl)⟩ rfl ?_
    refine ct_X2_in (fun c11 => ?_) (fun c11 => ?_)
    · refine Gx_if_eq (tgt := 51) dX2_about_14 (by decide) (fun hz => absurd hz (by decide)) (fun _ => ?_)
      refine Gx_aload_n (i := 0) dX2_about_17 rfl rfl ?_
      refine Gx_iload_n (i := 2) dX2_about_18 rfl rfl ?_
      refine Gx_iconst ⟨by decide, by decide⟩ dX2_about_19 ?_
      refine Gx_icmp_ne (tgt := 31) dX2_about_20 (by decide) (fun c20 => ?_) (fun c20 => ?_)
      · refine Gx_aload_n (i := 0) dX2_about_31 rfl rfl ?_
        refine gf_X2_44_22 dX2_about_32 rfl rfl ?_
        refine Gx_bipush dX2_about_35 ⟨by decide, by decide⟩ ?_
        refine Gx_iload_n (i := 1) dX2_about_37 rfl rfl ?_
        refine Gx_imul dX2_about_38 ?_
        try simp (disch := omega) only [w32_id]
        refine Gx_iconst ⟨by decide, by decide⟩ dX2_about_39 ?_
        refine Gx_iadd dX2_about_40 ?_
        try simp (disch := omega) only [w32_id]
        refine Gx_iload_n (i := 2) dX2_about_41 rfl rfl ?_
        refine Gx_iadd dX2_about_42 ?_
        try simp (disch := omega) only [w32_id]
        refine Gx_iaload dX2_about_43 rfl (by first | omega | (simp (disch := omega) only [w32_id]; omega)) ?_
        refine Gx_iconst ⟨by decide, by decide⟩ dX2_about_44 ?_
        refine cl_X2_126 dX2_about_45 rfl rfl ⟨(Nat.le_of_ble_eq_true rfl), (Nat.le_of_ble_eq_true rfl)⟩ rfl ?_
        refine ct_X2_tells ?_
        refine Gx_goto (tgt := 52) dX2_about_48 (by decide) ?_
        refine Gx_ireturn dX2_about_52 trivial ?_
        unfold sAbout at k
        (repeat' split at k) <;> first | exact k | (exfalso; omega)
      · refine Gx_aload_n (i := 0) dX2_about_23 rfl rfl ?_
        refine Gx_iload_n (i := 1) dX2_about_24 rfl rfl ?_
        refine cl_X2_209 dX2_about_25 rfl rfl ⟨(Nat.le_of_ble_eq_true rfl), (Nat.le_of_ble_eq_true rfl)⟩ rfl ?_
        refine ct_X2_kind (by omega) ?_
        refine Gx_goto (tgt := 44) dX2_about_28 (by decide) ?_
        refine Gx_iconst ⟨by decide, by decide⟩ dX2_about_44 ?_
        refine cl_X2_126 dX2_about_45 rfl rfl ⟨(Nat.le_of_ble_eq_true rfl), (Nat.le_of_ble_eq_true rfl)⟩ rfl ?_
        refine ct_X2_tells ?_
        refine Gx_goto (tgt := 52) dX2_about_48 (by decide) ?_
        refine Gx_ireturn dX2_about_52 trivial ?_
        unfold sAbout at k
        (repeat' split at k) <;> first | exact k | (exfalso; omega)
    · refine Gx_if_eq (tgt := 51) dX2_about_14 (by decide) (fun _ => ?_) (fun hz => absurd hz (by decide))
      refine Gx_iconst ⟨by decide, by decide⟩ dX2_about_51 ?_
      refine Gx_ireturn dX2_about_52 trivial ?_
      unfold sAbout at k
      (repeat' split at k) <;> first | exact k | (exfalso; omega)
  · refine Gx_if_eq (tgt := 51) dX2_about_5 (by decide) (fun _ => ?_) (fun hz => absurd hz (by decide))
    refine Gx_iconst ⟨by decide, by decide⟩ dX2_about_51 ?_
    refine Gx_ireturn dX2_about_52 trivial ?_
    unfold sAbout at k
    (repeat' split at k) <;> first | exact k | (exfalso; omega)
theorem ct_X2_markOf {s a : Int} (hs : 0 ≤ s ∧ s < 6) (k : Q (0, sMarkOf v s a) v (gHd K) t) : Ctr Γ mX2_markOf [(2, 38), (0, s), (0, a)] v (gHd K) t Q := by
  refine Ctr.ofG (ls := [(2, 38), (0, s), (0, a), (9, 0)]) rfl rfl rfl rfl rfl ?_
  refine Gx_bipush dX2_markOf_0 ⟨by decide, by decide⟩ ?_
  refine Gx_iload_n (i := 1) dX2_markOf_2 rfl rfl ?_
  refine Gx_imul dX2_markOf_3 ?_
  refine Gx_istore_n_3 dX2_markOf_4 (Nat.le_of_ble_eq_true rfl) (Nat.ne_of_beq_eq_false rfl) ?_
  simp (disch := omega) only [w32_id]
  refine Gx_iload_n (i := 2) dX2_markOf_5 rfl rfl ?_
  refine Gx_iconst ⟨by decide, by decide⟩ dX2_markOf_6 ?_
  refine Gx_icmp_ne (tgt := 39) dX2_markOf_7 (by decide) (fun c7 => ?_) (fun c7 => ?_)
  · refine Gx_iload_n (i := 2) dX2_markOf_39 rfl rfl ?_
    refine Gx_iconst ⟨by decide, by decide⟩ dX2_markOf_40 ?_
    refine Gx_icmp_le (tgt := 56) dX2_markOf_41 (by decide) (fun c41 => ?_) (fun c41 => ?_)
    · refine Gx_bipush dX2_markOf_56 ⟨by decide, by decide⟩ ?_
      refine Gx_aload_n (i := 0) dX2_markOf_58 rfl rfl ?_
      refine gf_X2_44_22 dX2_markOf_59 rfl rfl ?_
      refine Gx_iload_n (i := 3) dX2_markOf_62 rfl rfl ?_
      refine Gx_iconst ⟨by decide, by decide⟩ dX2_markOf_63 ?_
      refine Gx_iadd dX2_markOf_64 ?_
      try simp (disch := omega) only [w32_id]
      refine Gx_iaload dX2_markOf_65 rfl (by first | omega | (simp (disch := omega) only [w32_id]; omega)) ?_
      refine Gx_imul dX2_markOf_66 ?_
      refine Gx_aload_n (i := 0) dX2_markOf_67 rfl rfl ?_
      refine gf_X2_44_22 dX2_markOf_68 rfl rfl ?_
      refine Gx_iload_n (i := 3) dX2_markOf_71 rfl rfl ?_
      refine Gx_iconst ⟨by decide, by decide⟩ dX2_markOf_72 ?_
      refine Gx_iadd dX2_markOf_73 ?_
      try simp (disch := omega) only [w32_id]
      refine Gx_iaload dX2_markOf_74 rfl (by first | omega | (simp (disch := omega) only [w32_id]; omega)) ?_
      refine Gx_iadd dX2_markOf_75 ?_
      refine Gx_ireturn dX2_markOf_76 trivial ?_
      unfold sMarkOf at k
      (repeat' split at k) <;> first | (exfalso; omega) | exact k | (try simp (disch := omega) only [w32_id] at k ⊢; exact k)
    · refine Gx_aload_n (i := 0) dX2_markOf_44 rfl rfl ?_
      refine gf_X2_44_22 dX2_markOf_45 rfl rfl ?_
      refine Gx_iload_n (i := 3) dX2_markOf_48 rfl rfl ?_
      refine Gx_bipush dX2_markOf_49 ⟨by decide, by decide⟩ ?_
      refine Gx_iadd dX2_markOf_51 ?_
      try simp (disch := omega) only [w32_id]
      refine Gx_iaload dX2_markOf_52 rfl (by first | omega | (simp (disch := omega) only [w32_id]; omega)) ?_
      refine Gx_goto (tgt := 76) dX2_markOf_53 (by decide) ?_
      refine Gx_ireturn dX2_markOf_76 trivial ?_
      unfold sMarkOf at k
      (repeat' split at k) <;> first | (exfalso; omega) | exact k | (try simp (disch := omega) only [w32_id] at k ⊢; exact k)
  · refine Gx_aload_n (i := 0) dX2_markOf_10 rfl rfl ?_
    refine gf_X2_44_22 dX2_markOf_11 rfl rfl ?_
    refine Gx_iload_n (i := 3) dX2_markOf_14 rfl rfl ?_
    refine Gx_iconst ⟨by decide, by decide⟩ dX2_markOf_15 ?_
    refine Gx_iadd dX2_markOf_16 ?_
    try simp (disch := omega) only [w32_id]
    refine Gx_iaload dX2_markOf_17 rfl (by first | omega | (simp (disch := omega) only [w32_id]; omega)) ?_
    refine Gx_aload_n (i := 0) dX2_markOf_18 rfl rfl ?_
    refine gf_X2_44_22 dX2_markOf_19 rfl rfl ?_
    refine Gx_iload_n (i := 3) dX2_markOf_22 rfl rfl ?_
    refine Gx_iconst ⟨by decide, by decide⟩ dX2_markOf_23 ?_
    refine Gx_iadd dX2_markOf_24 ?_
    try simp (disch := omega) only [w32_id]
    refine Gx_iaload dX2_markOf_25 rfl (by first | omega | (simp (disch := omega) only [w32_id]; omega)) ?_
    refine Gx_iadd dX2_markOf_26 ?_
    refine Gx_aload_n (i := 0) dX2_markOf_27 rfl rfl ?_
    refine gf_X2_44_22 dX2_markOf_28 rfl rfl ?_
    refine Gx_iload_n (i := 3) dX2_markOf_31 rfl rfl ?_
    refine Gx_iconst ⟨by decide, by decide⟩ dX2_markOf_32 ?_
    refine Gx_iadd dX2_markOf_33 ?_
    try simp (disch := omega) only [w32_id]
    refine Gx_iaload dX2_markOf_34 rfl (by first | omega | (simp (disch := omega) only [w32_id]; omega)) ?_
    refine Gx_iadd dX2_markOf_35 ?_
    refine Gx_goto (tgt := 76) dX2_markOf_36 (by decide) ?_
    refine Gx_ireturn dX2_markOf_76 trivial ?_
    unfold sMarkOf at k
    (repeat' split at k) <;> first | (exfalso; omega) | exact k | (try simp (disch := omega) only [w32_id] at k ⊢; exact k)
theorem ct_X2_mark {s a : Int} (hn : 0 ≤ v 38 20 ∧ v 38 20 ≤ 6) (k : Q (0, (sMark v s a).1) (sMark v s a).2 (gHd K) t) : Ctr Γ mX2_mark [(2, 38), (0, s), (0, a)] v (gHd K) t Q := by
  refine Ctr.ofG (ls := [(2, 38), (0, s), (0, a), (9, 0)]) rfl rfl rfl rfl rfl ?_
  refine Gx_aload_n (i := 0) dX2_mark_0 rfl rfl ?_
  refine Gx_iload_n (i := 1) dX2_mark_1 rfl rfl ?_
  refine cl_X2_212 dX2_mark_2 rfl rfl ⟨(Nat.le_of_ble_eq_true rfl), (Nat.le_of_ble_eq_true rfl)⟩ rfl ?_
  refine ct_X2_isSort (by omega) (fun c2 => ?_) (fun c2 => ?_)
  · refine Gx_if_eq (tgt := 17) dX2_mark_5 (by decide) (fun hz => absurd hz (by decide)) (fun _ => ?_)
    refine Gx_iload_n (i := 2) dX2_mark_8 rfl rfl ?_
    refine Gx_iconst ⟨by decide, by decide⟩ dX2_mark_9 ?_
    refine Gx_iconst ⟨by decide, by decide⟩ dX2_mark_10 ?_
    refine cl_X2_104 dX2_mark_11 rfl ⟨(Nat.le_of_ble_eq_true rfl), (Nat.le_of_ble_eq_true rfl)⟩ rfl ?_
    refine ct_X2_in (fun c11 => ?_) (fun c11 => ?_)
    · refine Gx_if_ne (tgt := 19) dX2_mark_14 (by decide) (fun _ => ?_) (fun hz => absurd hz (by decide))
      refine Gx_aload_n (i := 0) dX2_mark_19 rfl rfl ?_
      refine Gx_iload_n (i := 1) dX2_mark_20 rfl rfl ?_
      refine cl_X2_209 dX2_mark_21 rfl rfl ⟨(Nat.le_of_ble_eq_true rfl), (Nat.le_of_ble_eq_true rfl)⟩ rfl ?_
      refine ct_X2_kind (by omega) ?_
      refine Gx_iload_n (i := 2) dX2_mark_24 rfl rfl ?_
      refine Gx_icmp_eq (tgt := 41) dX2_mark_25 (by decide) (fun c25 => ?_) (fun c25 => ?_)
      · refine Gx_iconst ⟨by decide, by decide⟩ dX2_mark_41 ?_
        refine Gx_goto (tgt := 46) dX2_mark_42 (by decide) ?_
        refine Gx_istore_n_3 dX2_mark_46 (Nat.le_of_ble_eq_true rfl) (Nat.ne_of_beq_eq_false rfl) ?_
        refine Gx_iload_n (i := 3) dX2_mark_47 rfl rfl ?_
        refine Gx_if_eq (tgt := 60) dX2_mark_48 (by decide) (fun hz => absurd hz (by decide)) (fun _ => ?_)
        refine Gx_aload_n (i := 0) dX2_mark_51 rfl rfl ?_
        refine Gx_iload_n (i := 1) dX2_mark_52 rfl rfl ?_
        refine Gx_iload_n (i := 2) dX2_mark_53 rfl rfl ?_
        refine cl_X2_218 dX2_mark_54 rfl rfl ⟨(Nat.le_of_ble_eq_true rfl), (Nat.le_of_ble_eq_true rfl)⟩ rfl ?_
        refine ct_X2_markOf (by omega) ?_
        refine Gx_goto (tgt := 65) dX2_mark_57 (by decide) ?_
        refine Gx_ireturn dX2_mark_65 trivial ?_
        unfold sMark at k
        (repeat' split at k) <;> first | exact k | (exfalso; omega)
      · refine Gx_iload_n (i := 2) dX2_mark_28 rfl rfl ?_
        refine Gx_iconst ⟨by decide, by decide⟩ dX2_mark_29 ?_
        refine Gx_icmp_ne (tgt := 45) dX2_mark_30 (by decide) (fun c30 => ?_) (fun c30 => ?_)
        · refine Gx_iconst ⟨by decide, by decide⟩ dX2_mark_45 ?_
          refine Gx_istore_n_3 dX2_mark_46 (Nat.le_of_ble_eq_true rfl) (Nat.ne_of_beq_eq_false rfl) ?_
          refine Gx_iload_n (i := 3) dX2_mark_47 rfl rfl ?_
          refine Gx_if_eq (tgt := 60) dX2_mark_48 (by decide) (fun _ => ?_) (fun hz => absurd hz (by decide))
          refine Gx_aload_n (i := 0) dX2_mark_60 rfl rfl ?_
          refine Gx_iconst ⟨by decide, by decide⟩ dX2_mark_61 ?_
          refine cl_X2_118 dX2_mark_62 rfl rfl ⟨(Nat.le_of_ble_eq_true rfl), (Nat.le_of_ble_eq_true rfl)⟩ rfl ?_
          refine ct_X2_meets (by omega) ?_
          refine Gx_ireturn dX2_mark_65 trivial ?_
          unfold sMark at k
          (repeat' split at k) <;> first | exact k | (exfalso; omega)
        · refine Gx_aload_n (i := 0) dX2_mark_33 rfl rfl ?_
          refine Gx_iload_n (i := 1) dX2_mark_34 rfl rfl ?_
          refine cl_X2_215 dX2_mark_35 rfl rfl ⟨(Nat.le_of_ble_eq_true rfl), (Nat.le_of_ble_eq_true rfl)⟩ rfl ?_
          refine ct_X2_isSaver (by omega) (fun c35 => ?_) (fun c35 => ?_)
          · refine Gx_if_eq (tgt := 45) dX2_mark_38 (by decide) (fun hz => absurd hz (by decide)) (fun _ => ?_)
            refine Gx_iconst ⟨by decide, by decide⟩ dX2_mark_41 ?_
            refine Gx_goto (tgt := 46) dX2_mark_42 (by decide) ?_
            refine Gx_istore_n_3 dX2_mark_46 (Nat.le_of_ble_eq_true rfl) (Nat.ne_of_beq_eq_false rfl) ?_
            refine Gx_iload_n (i := 3) dX2_mark_47 rfl rfl ?_
            refine Gx_if_eq (tgt := 60) dX2_mark_48 (by decide) (fun hz => absurd hz (by decide)) (fun _ => ?_)
            refine Gx_aload_n (i := 0) dX2_mark_51 rfl rfl ?_
            refine Gx_iload_n (i := 1) dX2_mark_52 rfl rfl ?_
            refine Gx_iload_n (i := 2) dX2_mark_53 rfl rfl ?_
            refine cl_X2_218 dX2_mark_54 rfl rfl ⟨(Nat.le_of_ble_eq_true rfl), (Nat.le_of_ble_eq_true rfl)⟩ rfl ?_
            refine ct_X2_markOf (by omega) ?_
            refine Gx_goto (tgt := 65) dX2_mark_57 (by decide) ?_
            refine Gx_ireturn dX2_mark_65 trivial ?_
            unfold sMark at k
            (repeat' split at k) <;> first | exact k | (exfalso; omega)
          · refine Gx_if_eq (tgt := 45) dX2_mark_38 (by decide) (fun _ => ?_) (fun hz => absurd hz (by decide))
            refine Gx_iconst ⟨by decide, by decide⟩ dX2_mark_45 ?_
            refine Gx_istore_n_3 dX2_mark_46 (Nat.le_of_ble_eq_true rfl) (Nat.ne_of_beq_eq_false rfl) ?_
            refine Gx_iload_n (i := 3) dX2_mark_47 rfl rfl ?_
            refine Gx_if_eq (tgt := 60) dX2_mark_48 (by decide) (fun _ => ?_) (fun hz => absurd hz (by decide))
            refine Gx_aload_n (i := 0) dX2_mark_60 rfl rfl ?_
            refine Gx_iconst ⟨by decide, by decide⟩ dX2_mark_61 ?_
            refine cl_X2_118 dX2_mark_62 rfl rfl ⟨(Nat.le_of_ble_eq_true rfl), (Nat.le_of_ble_eq_true rfl)⟩ rfl ?_
            refine ct_X2_meets (by omega) ?_
            refine Gx_ireturn dX2_mark_65 trivial ?_
            unfold sMark at k
            (repeat' split at k) <;> first | exact k | (exfalso; omega)
    · refine Gx_if_ne (tgt := 19) dX2_mark_14 (by decide) (fun hz => absurd hz (by decide)) (fun _ => ?_)
      refine Gx_iconst ⟨by decide, by decide⟩ dX2_mark_17 ?_
      refine Gx_ireturn dX2_mark_18 trivial ?_
      unfold sMark at k
      (repeat' split at k) <;> first | exact k | (exfalso; omega)
  · refine Gx_if_eq (tgt := 17) dX2_mark_5 (by decide) (fun _ => ?_) (fun hz => absurd hz (by decide))
    refine Gx_iconst ⟨by decide, by decide⟩ dX2_mark_17 ?_
    refine Gx_ireturn dX2_mark_18 trivial ?_
    unfold sMark at k
    (repeat' split at k) <;> first | exact k | (exfalso; omega)
theorem ct_X2_spring {i w : Int} (hn : 1 ≤ v 38 28 ∧ v 38 28 ≤ 8) (k : Q (0, (sSpring v i w).1) (sSpring v i w).2 (gHd K) t) : Ctr Γ mX2_spring [(2, 38), (0, i), (0, w)] v (gHd K) t Q := by
  refine Ctr.ofG (ls := [(2, 38), (0, i), (0, w), (9, 0)]) rfl rfl rfl rfl rfl ?_
  refine Gx_iload_n (i := 2) dX2_spring_0 rfl rfl ?_
  refine Gx_iconst ⟨by decide, by decide⟩ dX2_spring_1 ?_
  refine Gx_iconst ⟨by decide, by decide⟩ dX2_spring_2 ?_
  refine cl_X2_104 dX2_spring_3 rfl ⟨(Nat.le_of_ble_eq_true rfl), (Nat.le_of_ble_eq_true rfl)⟩ rfl ?_
  refine ct_X2_in (fun c3 => ?_) (fun c3 => ?_)
  · refine Gx_if_ne (tgt := 11) dX2_spring_6 (by decide) (fun _ => ?_) (fun hz => absurd hz (by decide))
    refine Gx_iload_n (i := 1) dX2_spring_11 rfl rfl ?_
    refine Gx_iconst ⟨by decide, by decide⟩ dX2_spring_12 ?_
    refine Gx_aload_n (i := 0) dX2_spring_13 rfl rfl ?_
    refine gf_X2_97_22 dX2_spring_14 rfl rfl ?_
    refine Gx_iconst ⟨by decide, by decide⟩ dX2_spring_17 ?_
    refine Gx_isub dX2_spring_18 ?_
    try simp (disch := omega) only [w32_id]
    refine cl_X2_104 dX2_spring_19 rfl ⟨(Nat.le_of_ble_eq_true rfl), (Nat.le_of_ble_eq_true rfl)⟩ rfl ?_
    refine ct_X2_in (fun c19 => ?_) (fun c19 => ?_)
    · refine Gx_if_ne (tgt := 31) dX2_spring_22 (by decide) (fun _ => ?_) (fun hz => absurd hz (by decide))
      refine Gx_aload_n (i := 0) dX2_spring_31 rfl rfl ?_
      refine gf_X2_56_22 dX2_spring_32 rfl rfl ?_
      refine Gx_iload_n (i := 1) dX2_spring_35 rfl rfl ?_
      refine Gx_iaload dX2_spring_36 rfl (by first | omega | (simp (disch := omega) only [w32_id]; omega)) ?_
      refine Gx_istore_n_3 dX2_spring_37 (Nat.le_of_ble_eq_true rfl) (Nat.ne_of_beq_eq_false rfl) ?_
      refine Gx_aload_n (i := 0) dX2_spring_38 rfl rfl ?_
      refine gf_X2_56_22 dX2_spring_39 rfl rfl ?_
      refine Gx_iload_n (i := 1) dX2_spring_42 rfl rfl ?_
      refine Gx_iload_n (i := 2) dX2_spring_43 rfl rfl ?_
      refine Gx_iastore dX2_spring_44 rfl (by first | omega | (simp (disch := omega) only [w32_id]; omega)) ?_
      refine Gx_iload_n (i := 3) dX2_spring_45 rfl rfl ?_
      refine Gx_ireturn dX2_spring_46 trivial ?_
      unfold sSpring at k
      (repeat' split at k) <;> first | exact k | (exfalso; omega)
    · refine Gx_if_ne (tgt := 31) dX2_spring_22 (by decide) (fun hz => absurd hz (by decide)) (fun _ => ?_)
      refine Gx_aload_n (i := 0) dX2_spring_25 rfl rfl ?_
      refine Gx_iconst ⟨by decide, by decide⟩ dX2_spring_26 ?_
      refine cl_X2_118 dX2_spring_27 rfl rfl ⟨(Nat.le_of_ble_eq_true rfl), (Nat.le_of_ble_eq_true rfl)⟩ rfl ?_
      refine ct_X2_meets (by omega) ?_
      refine Gx_ireturn dX2_spring_30 trivial ?_
      unfold sSpring at k
      (repeat' split at k) <;> first | exact k | (exfalso; omega)
  · refine Gx_if_ne (tgt := 11) dX2_spring_6 (by decide) (fun hz => absurd hz (by decide)) (fun _ => ?_)
    refine Gx_iconst ⟨by decide, by decide⟩ dX2_spring_9 ?_
    refine Gx_ireturn dX2_spring_10 trivial ?_
    unfold sSpring at k
    (repeat' split at k) <;> first | exact k | (exfalso; omega)
theorem ct_X2_jay {h p : Int} (k : Q (0, (sJay v h p).1) (sJay v h p).2 (gHd K) t) : Ctr Γ mX2_jay [(2, 38), (0, h), (0, p)] v (gHd K) t Q := by
  refine Ctr.ofG (ls := [(2, 38), (0, h), (0, p)]) rfl rfl rfl rfl rfl ?_
  refine Gx_iload_n (i := 1) dX2_jay_0 rfl rfl ?_
  refine Gx_iconst ⟨by decide, by decide⟩ dX2_jay_1 ?_
  refine Gx_bipush dX2_jay_2 ⟨by decide, by decide⟩ ?_
  refine cl_X2_104 dX2_jay_4 rfl ⟨(Nat.le_of_ble_eq_true rfl), (Nat.le_of_ble_eq_true rfl)⟩ rfl ?_
  refine ct_X2_in (fun c4 => ?_) (fun c4 => ?_)
  · refine Gx_if_eq (tgt := 20) dX2_jay_7 (by decide) (fun hz => absurd hz (by decide)) (fun _ => ?_)
    refine Gx_iload_n (i := 2) dX2_jay_10 rfl rfl ?_
    refine Gx_iconst ⟨by decide, by decide⟩ dX2_jay_11 ?_
    refine Gx_bipush dX2_jay_12 ⟨by decide, by decide⟩ ?_
    refine cl_X2_104 dX2_jay_14 rfl ⟨(Nat.le_of_ble_eq_true rfl), (Nat.le_of_ble_eq_true rfl)⟩ rfl ?_
    refine ct_X2_in (fun c14 => ?_) (fun c14 => ?_)
    · refine Gx_if_ne (tgt := 22) dX2_jay_17 (by decide) (fun _ => ?_) (fun hz => absurd hz (by decide))
      refine Gx_aload_n (i := 0) dX2_jay_22 rfl rfl ?_
      refine Gx_iload_n (i := 1) dX2_jay_23 rfl rfl ?_
      refine pf_X2_197_22 dX2_jay_24 rfl rfl ?_
      refine Gx_aload_n (i := 0) dX2_jay_27 rfl rfl ?_
      refine Gx_iload_n (i := 2) dX2_jay_28 rfl rfl ?_
      refine pf_X2_200_22 dX2_jay_29 rfl rfl ?_
      refine Gx_iconst ⟨by decide, by decide⟩ dX2_jay_32 ?_
      refine Gx_ireturn dX2_jay_33 trivial ?_
      unfold sJay at k
      (repeat' split at k) <;> first | exact k | (exfalso; omega)
    · refine Gx_if_ne (tgt := 22) dX2_jay_17 (by decide) (fun hz => absurd hz (by decide)) (fun _ => ?_)
      refine Gx_iconst ⟨by decide, by decide⟩ dX2_jay_20 ?_
      refine Gx_ireturn dX2_jay_21 trivial ?_
      unfold sJay at k
      (repeat' split at k) <;> first | exact k | (exfalso; omega)
  · refine Gx_if_eq (tgt := 20) dX2_jay_7 (by decide) (fun _ => ?_) (fun hz => absurd hz (by decide))
    refine Gx_iconst ⟨by decide, by decide⟩ dX2_jay_20 ?_
    refine Gx_ireturn dX2_jay_21 trivial ?_
    unfold sJay at k
    (repeat' split at k) <;> first | exact k | (exfalso; omega)
theorem ct_X2_mice {e n : Int} (hn : 0 ≤ v 38 22 ∧ v 38 22 ≤ 2) (k : Q (0, (sMice v e n).1) (sMice v e n).2 (gHd K) t) : Ctr Γ mX2_mice [(2, 38), (0, e), (0, n)] v (gHd K) t Q := by
  refine Ctr.ofG (ls := [(2, 38), (0, e), (0, n), (9, 0)]) rfl rfl rfl rfl rfl ?_
  refine Gx_aload_n (i := 0) dX2_mice_0 rfl rfl ?_
  refine Gx_iload_n (i := 1) dX2_mice_1 rfl rfl ?_
  refine cl_X2_221 dX2_mice_2 rfl rfl ⟨(Nat.le_of_ble_eq_true rfl), (Nat.le_of_ble_eq_true rfl)⟩ rfl ?_
  refine ct_X2_isEater (by omega) (fun c2 => ?_) (fun c2 => ?_)
  · refine Gx_if_eq (tgt := 19) dX2_mice_5 (by decide) (fun hz => absurd hz (by decide)) (fun _ => ?_)
    refine Gx_iload_n (i := 2) dX2_mice_8 rfl rfl ?_
    refine Gx_iconst ⟨by decide, by decide⟩ dX2_mice_9 ?_
    refine Gx_sipush dX2_mice_10 ⟨by decide, by decide⟩ ?_
    refine cl_X2_104 dX2_mice_13 rfl ⟨(Nat.le_of_ble_eq_true rfl), (Nat.le_of_ble_eq_true rfl)⟩ rfl ?_
    refine ct_X2_in (fun c13 => ?_) (fun c13 => ?_)
    · refine Gx_if_ne (tgt := 21) dX2_mice_16 (by decide) (fun _ => ?_) (fun hz => absurd hz (by decide))
      refine Gx_aload_n (i := 0) dX2_mice_21 rfl rfl ?_
      refine gf_X2_62_22 dX2_mice_22 rfl rfl ?_
      refine Gx_iload_n (i := 1) dX2_mice_25 rfl rfl ?_
      refine Gx_iaload dX2_mice_26 rfl (by first | omega | (simp (disch := omega) only [w32_id]; omega)) ?_
      refine Gx_istore_n_3 dX2_mice_27 (Nat.le_of_ble_eq_true rfl) (Nat.ne_of_beq_eq_false rfl) ?_
      refine Gx_aload_n (i := 0) dX2_mice_28 rfl rfl ?_
      refine gf_X2_62_22 dX2_mice_29 rfl rfl ?_
      refine Gx_iload_n (i := 1) dX2_mice_32 rfl rfl ?_
      refine Gx_iload_n (i := 2) dX2_mice_33 rfl rfl ?_
      refine Gx_iastore dX2_mice_34 rfl (by first | omega | (simp (disch := omega) only [w32_id]; omega)) ?_
      refine Gx_iload_n (i := 3) dX2_mice_35 rfl rfl ?_
      refine Gx_ireturn dX2_mice_36 trivial ?_
      unfold sMice at k
      (repeat' split at k) <;> first | exact k | (exfalso; omega)
    · refine Gx_if_ne (tgt := 21) dX2_mice_16 (by decide) (fun hz => absurd hz (by decide)) (fun _ => ?_)
      refine Gx_iconst ⟨by decide, by decide⟩ dX2_mice_19 ?_
      refine Gx_ireturn dX2_mice_20 trivial ?_
      unfold sMice at k
      (repeat' split at k) <;> first | exact k | (exfalso; omega)
  · refine Gx_if_eq (tgt := 19) dX2_mice_5 (by decide) (fun _ => ?_) (fun hz => absurd hz (by decide))
    refine Gx_iconst ⟨by decide, by decide⟩ dX2_mice_19 ?_
    refine Gx_ireturn dX2_mice_20 trivial ?_
    unfold sMice at k
    (repeat' split at k) <;> first | exact k | (exfalso; omega)
theorem ct_X2_grow {s x : Int} (hn : 0 ≤ v 38 33 ∧ v 38 33 < 24) (k : Q (0, v 38 33) (sGrow v s x) (gHd K) t) : Ctr Γ mX2_grow [(2, 38), (0, s), (0, x)] v (gHd K) t Q := by
  refine Ctr.ofG (ls := [(2, 38), (0, s), (0, x)]) rfl rfl rfl rfl rfl ?_
  refine Gx_aload_n (i := 0) dX2_grow_0 rfl rfl ?_
  refine gf_X2_65_22 dX2_grow_1 rfl rfl ?_
  refine Gx_aload_n (i := 0) dX2_grow_4 rfl rfl ?_
  refine gf_X2_203_22 dX2_grow_5 rfl rfl ?_
  try simp (disch := omega) only [gUp_ne2, gUp_eq2]
  refine Gx_iload_n (i := 1) dX2_grow_8 rfl rfl ?_
  refine Gx_iastore dX2_grow_9 rfl (by first | omega | (simp (disch := omega) only [w32_id]; omega)) ?_
  refine Gx_aload_n (i := 0) dX2_grow_10 rfl rfl ?_
  refine gf_X2_68_22 dX2_grow_11 rfl rfl ?_
  refine Gx_aload_n (i := 0) dX2_grow_14 rfl rfl ?_
  refine gf_X2_203_22 dX2_grow_15 rfl rfl ?_
  try simp (disch := omega) only [gUp_ne2, gUp_eq2]
  refine Gx_iload_n (i := 2) dX2_grow_18 rfl rfl ?_
  refine Gx_iastore dX2_grow_19 rfl (by first | omega | (simp (disch := omega) only [w32_id]; omega)) ?_
  refine Gx_aload_n (i := 0) dX2_grow_20 rfl rfl ?_
  refine gf_X2_71_22 dX2_grow_21 rfl rfl ?_
  refine Gx_aload_n (i := 0) dX2_grow_24 rfl rfl ?_
  refine gf_X2_203_22 dX2_grow_25 rfl rfl ?_
  try simp (disch := omega) only [gUp_ne2, gUp_eq2]
  refine Gx_iconst ⟨by decide, by decide⟩ dX2_grow_28 ?_
  refine Gx_iastore dX2_grow_29 rfl (by first | omega | (simp (disch := omega) only [w32_id]; omega)) ?_
  refine Gx_aload_n (i := 0) dX2_grow_30 rfl rfl ?_
  refine gf_X2_74_22 dX2_grow_31 rfl rfl ?_
  refine Gx_aload_n (i := 0) dX2_grow_34 rfl rfl ?_
  refine gf_X2_203_22 dX2_grow_35 rfl rfl ?_
  try simp (disch := omega) only [gUp_ne2, gUp_eq2]
  refine Gx_bipush dX2_grow_38 ⟨by decide, by decide⟩ ?_
  refine Gx_iastore dX2_grow_40 rfl (by first | omega | (simp (disch := omega) only [w32_id]; omega)) ?_
  refine Gx_aload_n (i := 0) dX2_grow_41 rfl rfl ?_
  refine Gx_dup (Nat.ne_of_beq_eq_false rfl) dX2_grow_42 ?_
  refine gf_X2_203_22 dX2_grow_43 rfl rfl ?_
  try simp (disch := omega) only [gUp_ne2, gUp_eq2]
  refine Gx_iconst ⟨by decide, by decide⟩ dX2_grow_46 ?_
  refine Gx_iadd dX2_grow_47 ?_
  try simp (disch := omega) only [w32_id]
  refine pf_X2_203_22 dX2_grow_48 rfl rfl ?_
  refine Gx_aload_n (i := 0) dX2_grow_51 rfl rfl ?_
  refine gf_X2_203_22 dX2_grow_52 rfl rfl ?_
  try simp (disch := omega) only [gUp_ne2, gUp_eq2]
  refine Gx_iconst ⟨by decide, by decide⟩ dX2_grow_55 ?_
  refine Gx_isub dX2_grow_56 ?_
  try simp (disch := omega) only [w32_id]
  refine Gx_ireturn dX2_grow_57 trivial ?_
  rw [show v 38 33 + 1 - 1 = v 38 33 by omega]
  exact k
theorem ct_X2_plant {s x : Int} (hn : 0 ≤ v 38 20 ∧ v 38 20 ≤ 6) (hn2 : 0 ≤ v 38 33 ∧ v 38 33 ≤ 24) (k : Q (0, (sPlant v s x).1) (sPlant v s x).2 (gHd K) t) : Ctr Γ mX2_plant [(2, 38), (0, s), (0, x)] v (gHd K) t Q := by
  refine Ctr.ofG (ls := [(2, 38), (0, s), (0, x)]) rfl rfl rfl rfl rfl ?_
  refine Gx_aload_n (i := 0) dX2_plant_0 rfl rfl ?_
  refine Gx_iload_n (i := 1) dX2_plant_1 rfl rfl ?_
  refine cl_X2_212 dX2_plant_2 rfl rfl ⟨(Nat.le_of_ble_eq_true rfl), (Nat.le_of_ble_eq_true rfl)⟩ rfl ?_
  refine ct_X2_isSort (by omega) (fun c2 => ?_) (fun c2 => ?_)
  · refine Gx_if_eq (tgt := 18) dX2_plant_5 (by decide) (fun hz => absurd hz (by decide)) (fun _ => ?_)
    refine Gx_iload_n (i := 2) dX2_plant_8 rfl rfl ?_
    refine Gx_iconst ⟨by decide, by decide⟩ dX2_plant_9 ?_
    refine Gx_bipush dX2_plant_10 ⟨by decide, by decide⟩ ?_
    refine cl_X2_104 dX2_plant_12 rfl ⟨(Nat.le_of_ble_eq_true rfl), (Nat.le_of_ble_eq_true rfl)⟩ rfl ?_
    refine ct_X2_in (fun c12 => ?_) (fun c12 => ?_)
    · refine Gx_if_ne (tgt := 20) dX2_plant_15 (by decide) (fun _ => ?_) (fun hz => absurd hz (by decide))
      refine Gx_aload_n (i := 0) dX2_plant_20 rfl rfl ?_
      refine gf_X2_203_22 dX2_plant_21 rfl rfl ?_
      refine Gx_bipush dX2_plant_24 ⟨by decide, by decide⟩ ?_
      refine Gx_icmp_ne (tgt := 34) dX2_plant_26 (by decide) (fun c26 => ?_) (fun c26 => ?_)
      · refine Gx_aload_n (i := 0) dX2_plant_34 rfl rfl ?_
        refine Gx_iload_n (i := 1) dX2_plant_35 rfl rfl ?_
        refine Gx_iload_n (i := 2) dX2_plant_36 rfl rfl ?_
        refine cl_X2_224 dX2_plant_37 rfl rfl ⟨(Nat.le_of_ble_eq_true rfl), (Nat.le_of_ble_eq_true rfl)⟩ rfl ?_
        refine ct_X2_grow (by omega) ?_
        refine Gx_ireturn dX2_plant_40 trivial ?_
        unfold sPlant at k
        (repeat' split at k) <;> first | exact k | (exfalso; omega)
      · refine Gx_bipush dX2_plant_29 ⟨by decide, by decide⟩ ?_
        refine Gx_goto (tgt := 40) dX2_plant_31 (by decide) ?_
        refine Gx_ireturn dX2_plant_40 trivial ?_
        unfold sPlant at k
        (repeat' split at k) <;> first | exact k | (exfalso; omega)
    · refine Gx_if_ne (tgt := 20) dX2_plant_15 (by decide) (fun hz => absurd hz (by decide)) (fun _ => ?_)
      refine Gx_iconst ⟨by decide, by decide⟩ dX2_plant_18 ?_
      refine Gx_ireturn dX2_plant_19 trivial ?_
      unfold sPlant at k
      (repeat' split at k) <;> first | exact k | (exfalso; omega)
  · refine Gx_if_eq (tgt := 18) dX2_plant_5 (by decide) (fun _ => ?_) (fun hz => absurd hz (by decide))
    refine Gx_iconst ⟨by decide, by decide⟩ dX2_plant_18 ?_
    refine Gx_ireturn dX2_plant_19 trivial ?_
    unfold sPlant at k
    (repeat' split at k) <;> first | exact k | (exfalso; omega)
theorem ct_X2_treeTells {i w : Int} (hi : 0 ≤ i ∧ i < 24) (k : Q (0, sTree v i w) v (gHd K) t) : Ctr Γ mX2_treeTells [(2, 38), (0, i), (0, w)] v (gHd K) t Q := by
  refine Ctr.ofG (ls := [(2, 38), (0, i), (0, w)]) rfl rfl rfl rfl rfl ?_
  refine Gx_iload_n (i := 2) dX2_treeTells_0 rfl rfl ?_
  refine Gx_if_ne (tgt := 13) dX2_treeTells_1 (by decide) (fun c1 => ?_) (fun c1 => ?_)
  · refine Gx_iload_n (i := 2) dX2_treeTells_13 rfl rfl ?_
    refine Gx_iconst ⟨by decide, by decide⟩ dX2_treeTells_14 ?_
    refine Gx_icmp_ne (tgt := 27) dX2_treeTells_15 (by decide) (fun c15 => ?_) (fun c15 => ?_)
    · refine Gx_iload_n (i := 2) dX2_treeTells_27 rfl rfl ?_
      refine Gx_iconst ⟨by decide, by decide⟩ dX2_treeTells_28 ?_
      refine Gx_icmp_ne (tgt := 41) dX2_treeTells_29 (by decide) (fun c29 => ?_) (fun c29 => ?_)
      · refine Gx_aload_n (i := 0) dX2_treeTells_41 rfl rfl ?_
        refine gf_X2_74_22 dX2_treeTells_42 rfl rfl ?_
        refine Gx_iload_n (i := 1) dX2_treeTells_45 rfl rfl ?_
        refine Gx_iaload dX2_treeTells_46 rfl (by first | omega | (simp (disch := omega) only [w32_id]; omega)) ?_
        refine Gx_ireturn dX2_treeTells_47 trivial ?_
        unfold sTree at k
        (repeat' split at k) <;> first | exact k | (exfalso; omega)
      · refine Gx_aload_n (i := 0) dX2_treeTells_32 rfl rfl ?_
        refine gf_X2_71_22 dX2_treeTells_33 rfl rfl ?_
        refine Gx_iload_n (i := 1) dX2_treeTells_36 rfl rfl ?_
        refine Gx_iaload dX2_treeTells_37 rfl (by first | omega | (simp (disch := omega) only [w32_id]; omega)) ?_
        refine Gx_goto (tgt := 47) dX2_treeTells_38 (by decide) ?_
        refine Gx_ireturn dX2_treeTells_47 trivial ?_
        unfold sTree at k
        (repeat' split at k) <;> first | exact k | (exfalso; omega)
    · refine Gx_aload_n (i := 0) dX2_treeTells_18 rfl rfl ?_
      refine gf_X2_68_22 dX2_treeTells_19 rfl rfl ?_
      refine Gx_iload_n (i := 1) dX2_treeTells_22 rfl rfl ?_
      refine Gx_iaload dX2_treeTells_23 rfl (by first | omega | (simp (disch := omega) only [w32_id]; omega)) ?_
      refine Gx_goto (tgt := 47) dX2_treeTells_24 (by decide) ?_
      refine Gx_ireturn dX2_treeTells_47 trivial ?_
      unfold sTree at k
      (repeat' split at k) <;> first | exact k | (exfalso; omega)
  · refine Gx_aload_n (i := 0) dX2_treeTells_4 rfl rfl ?_
    refine gf_X2_65_22 dX2_treeTells_5 rfl rfl ?_
    refine Gx_iload_n (i := 1) dX2_treeTells_8 rfl rfl ?_
    refine Gx_iaload dX2_treeTells_9 rfl (by first | omega | (simp (disch := omega) only [w32_id]; omega)) ?_
    refine Gx_goto (tgt := 47) dX2_treeTells_10 (by decide) ?_
    refine Gx_ireturn dX2_treeTells_47 trivial ?_
    unfold sTree at k
    (repeat' split at k) <;> first | exact k | (exfalso; omega)
theorem ct_X2_told {i w : Int} (hn : 0 ≤ v 38 33 ∧ v 38 33 ≤ 24) (k : Q (0, (sTold v i w).1) (sTold v i w).2 (gHd K) t) : Ctr Γ mX2_told [(2, 38), (0, i), (0, w)] v (gHd K) t Q := by
  refine Ctr.ofG (ls := [(2, 38), (0, i), (0, w)]) rfl rfl rfl rfl rfl ?_
  refine Gx_aload_n (i := 0) dX2_told_0 rfl rfl ?_
  refine Gx_iload_n (i := 1) dX2_told_1 rfl rfl ?_
  refine cl_X2_227 dX2_told_2 rfl rfl ⟨(Nat.le_of_ble_eq_true rfl), (Nat.le_of_ble_eq_true rfl)⟩ rfl ?_
  refine ct_X2_isTree (by omega) (fun c2 => ?_) (fun c2 => ?_)
  · refine Gx_if_eq (tgt := 31) dX2_told_5 (by decide) (fun hz => absurd hz (by decide)) (fun _ => ?_)
    refine Gx_iload_n (i := 2) dX2_told_8 rfl rfl ?_
    refine Gx_iconst ⟨by decide, by decide⟩ dX2_told_9 ?_
    refine Gx_iconst ⟨by decide, by decide⟩ dX2_told_10 ?_
    refine cl_X2_104 dX2_told_11 rfl ⟨(Nat.le_of_ble_eq_true rfl), (Nat.le_of_ble_eq_true rfl)⟩ rfl ?_
    refine ct_X2_in (fun c11 => ?_) (fun c11 => ?_)
    · refine Gx_if_eq (tgt := 31) dX2_told_14 (by decide) (fun hz => absurd hz (by decide)) (fun _ => ?_)
      refine Gx_aload_n (i := 0) dX2_told_17 rfl rfl ?_
      refine Gx_aload_n (i := 0) dX2_told_18 rfl rfl ?_
      refine Gx_iload_n (i := 1) dX2_told_19 rfl rfl ?_
      refine Gx_iload_n (i := 2) dX2_told_20 rfl rfl ?_
      refine cl_X2_230 dX2_told_21 rfl rfl ⟨(Nat.le_of_ble_eq_true rfl), (Nat.le_of_ble_eq_true rfl)⟩ rfl ?_
      refine ct_X2_treeTells (by omega) ?_
      refine Gx_iconst ⟨by decide, by decide⟩ dX2_told_24 ?_
      refine cl_X2_126 dX2_told_25 rfl rfl ⟨(Nat.le_of_ble_eq_true rfl), (Nat.le_of_ble_eq_true rfl)⟩ rfl ?_
      refine ct_X2_tells ?_
      refine Gx_goto (tgt := 32) dX2_told_28 (by decide) ?_
      refine Gx_ireturn dX2_told_32 trivial ?_
      unfold sTold at k
      (repeat' split at k) <;> first | exact k | (exfalso; omega)
    · refine Gx_if_eq (tgt := 31) dX2_told_14 (by decide) (fun _ => ?_) (fun hz => absurd hz (by decide))
      refine Gx_iconst ⟨by decide, by decide⟩ dX2_told_31 ?_
      refine Gx_ireturn dX2_told_32 trivial ?_
      unfold sTold at k
      (repeat' split at k) <;> first | exact k | (exfalso; omega)
  · refine Gx_if_eq (tgt := 31) dX2_told_5 (by decide) (fun _ => ?_) (fun hz => absurd hz (by decide))
    refine Gx_iconst ⟨by decide, by decide⟩ dX2_told_31 ?_
    refine Gx_ireturn dX2_told_32 trivial ?_
    unfold sTold at k
    (repeat' split at k) <;> first | exact k | (exfalso; omega)
theorem ct_X2_mouseOf {e : Int} (he : 0 ≤ e ∧ e < 2) (k : Q (0, sMouse v e) v (gHd K) t) : Ctr Γ mX2_mouseOf [(2, 38), (0, e)] v (gHd K) t Q := by
  refine Ctr.ofG (ls := [(2, 38), (0, e)]) rfl rfl rfl rfl rfl ?_
  refine Gx_iload_n (i := 1) dX2_mouseOf_0 rfl rfl ?_
  refine Gx_aload_n (i := 0) dX2_mouseOf_1 rfl rfl ?_
  refine gf_X2_194_22 dX2_mouseOf_2 rfl rfl ?_
  refine Gx_icmp_ge (tgt := 17) dX2_mouseOf_5 (by decide) (fun c5 => ?_) (fun c5 => ?_)
  · refine Gx_bipush dX2_mouseOf_17 ⟨by decide, by decide⟩ ?_
    refine Gx_ireturn dX2_mouseOf_19 trivial ?_
    unfold sMouse at k
    (repeat' split at k) <;> first | exact k | (exfalso; omega)
  · refine Gx_aload_n (i := 0) dX2_mouseOf_8 rfl rfl ?_
    refine gf_X2_62_22 dX2_mouseOf_9 rfl rfl ?_
    refine Gx_iload_n (i := 1) dX2_mouseOf_12 rfl rfl ?_
    refine Gx_iaload dX2_mouseOf_13 rfl (by first | omega | (simp (disch := omega) only [w32_id]; omega)) ?_
    refine Gx_goto (tgt := 19) dX2_mouseOf_14 (by decide) ?_
    refine Gx_ireturn dX2_mouseOf_19 trivial ?_
    unfold sMouse at k
    (repeat' split at k) <;> first | exact k | (exfalso; omega)
theorem ct_X2_nowTells {w : Int} (hw : 0 ≤ w ∧ w ≤ 8) (k : Q (0, sNow v w) v (gHd K) t) : Ctr Γ mX2_nowTells [(2, 38), (0, w)] v (gHd K) t Q := by
  refine Ctr.ofG (ls := [(2, 38), (0, w)]) rfl rfl rfl rfl rfl ?_
  refine Gx_iload_n (i := 1) dX2_nowTells_0 rfl rfl ?_
  rcases (by omega : w = 0 ∨ w = 1 ∨ w = 2 ∨ w = 3 ∨ w = 4 ∨ w = 5 ∨ (w < 0 ∨ 5 < w)) with w1 | w1 | w1 | w1 | w1 | w1 | w1
  · rw [w1]
    refine Gx_tableIn (off := 39) (tgt := 40) dX2_nowTells_1 (by decide) (by decide) rfl (by decide) ?_
    refine Gx_aload_n (i := 0) dX2_nowTells_40 rfl rfl ?_
    refine gf_X2_206_22 dX2_nowTells_41 rfl rfl ?_
    refine Gx_ireturn dX2_nowTells_44 trivial ?_
    unfold sNow at k
    (repeat' split at k) <;> first | exact k | (exfalso; omega)
  · rw [w1]
    refine Gx_tableIn (off := 44) (tgt := 45) dX2_nowTells_1 (by decide) (by decide) rfl (by decide) ?_
    refine Gx_aload_n (i := 0) dX2_nowTells_45 rfl rfl ?_
    refine Gx_iconst ⟨by decide, by decide⟩ dX2_nowTells_46 ?_
    refine cl_X2_233 dX2_nowTells_47 rfl rfl ⟨(Nat.le_of_ble_eq_true rfl), (Nat.le_of_ble_eq_true rfl)⟩ rfl ?_
    refine ct_X2_mouseOf (by omega) ?_
    refine Gx_ireturn dX2_nowTells_50 trivial ?_
    unfold sNow at k
    (repeat' split at k) <;> first | exact k | (exfalso; omega)
  · rw [w1]
    refine Gx_tableIn (off := 50) (tgt := 51) dX2_nowTells_1 (by decide) (by decide) rfl (by decide) ?_
    refine Gx_aload_n (i := 0) dX2_nowTells_51 rfl rfl ?_
    refine Gx_iconst ⟨by decide, by decide⟩ dX2_nowTells_52 ?_
    refine cl_X2_233 dX2_nowTells_53 rfl rfl ⟨(Nat.le_of_ble_eq_true rfl), (Nat.le_of_ble_eq_true rfl)⟩ rfl ?_
    refine ct_X2_mouseOf (by omega) ?_
    refine Gx_ireturn dX2_nowTells_56 trivial ?_
    unfold sNow at k
    (repeat' split at k) <;> first | exact k | (exfalso; omega)
  · rw [w1]
    refine Gx_tableIn (off := 56) (tgt := 57) dX2_nowTells_1 (by decide) (by decide) rfl (by decide) ?_
    refine Gx_aload_n (i := 0) dX2_nowTells_57 rfl rfl ?_
    refine gf_X2_197_22 dX2_nowTells_58 rfl rfl ?_
    refine Gx_ireturn dX2_nowTells_61 trivial ?_
    unfold sNow at k
    (repeat' split at k) <;> first | exact k | (exfalso; omega)
  · rw [w1]
    refine Gx_tableIn (off := 61) (tgt := 62) dX2_nowTells_1 (by decide) (by decide) rfl (by decide) ?_
    refine Gx_aload_n (i := 0) dX2_nowTells_62 rfl rfl ?_
    refine gf_X2_200_22 dX2_nowTells_63 rfl rfl ?_
    refine Gx_ireturn dX2_nowTells_66 trivial ?_
    unfold sNow at k
    (repeat' split at k) <;> first | exact k | (exfalso; omega)
  · rw [w1]
    refine Gx_tableIn (off := 66) (tgt := 67) dX2_nowTells_1 (by decide) (by decide) rfl (by decide) ?_
    refine Gx_aload_n (i := 0) dX2_nowTells_67 rfl rfl ?_
    refine gf_X2_97_22 dX2_nowTells_68 rfl rfl ?_
    refine Gx_ireturn dX2_nowTells_71 trivial ?_
    unfold sNow at k
    (repeat' split at k) <;> first | exact k | (exfalso; omega)
  · refine Gx_tableOut (tgt := 72) dX2_nowTells_1 w1 (by decide) ?_
    refine Gx_aload_n (i := 0) dX2_nowTells_72 rfl rfl ?_
    refine gf_X2_59_22 dX2_nowTells_73 rfl rfl ?_
    refine Gx_iload_n (i := 1) dX2_nowTells_76 rfl rfl ?_
    refine Gx_bipush dX2_nowTells_77 ⟨by decide, by decide⟩ ?_
    refine Gx_isub dX2_nowTells_79 ?_
    try simp (disch := omega) only [w32_id]
    refine Gx_iaload dX2_nowTells_80 rfl (by first | omega | (simp (disch := omega) only [w32_id]; omega)) ?_
    refine Gx_ireturn dX2_nowTells_81 trivial ?_
    unfold sNow at k
    (repeat' split at k) <;> first | exact k | (exfalso; omega)
theorem ct_X2_now {w : Int} (k : Q (0, (sNowA v w).1) (sNowA v w).2 (gHd K) t) : Ctr Γ mX2_now [(2, 38), (0, w)] v (gHd K) t Q := by
  refine Ctr.ofG (ls := [(2, 38), (0, w)]) rfl rfl rfl rfl rfl ?_
  refine Gx_iload_n (i := 1) dX2_now_0 rfl rfl ?_
  refine Gx_iconst ⟨by decide, by decide⟩ dX2_now_1 ?_
  refine Gx_bipush dX2_now_2 ⟨by decide, by decide⟩ ?_
  refine cl_X2_104 dX2_now_4 rfl ⟨(Nat.le_of_ble_eq_true rfl), (Nat.le_of_ble_eq_true rfl)⟩ rfl ?_
  refine ct_X2_in (fun c4 => ?_) (fun c4 => ?_)
  · refine Gx_if_eq (tgt := 23) dX2_now_7 (by decide) (fun hz => absurd hz (by decide)) (fun _ => ?_)
    refine Gx_aload_n (i := 0) dX2_now_10 rfl rfl ?_
    refine Gx_aload_n (i := 0) dX2_now_11 rfl rfl ?_
    refine Gx_iload_n (i := 1) dX2_now_12 rfl rfl ?_
    refine cl_X2_236 dX2_now_13 rfl rfl ⟨(Nat.le_of_ble_eq_true rfl), (Nat.le_of_ble_eq_true rfl)⟩ rfl ?_
    refine ct_X2_nowTells (by omega) ?_
    refine Gx_iconst ⟨by decide, by decide⟩ dX2_now_16 ?_
    refine cl_X2_126 dX2_now_17 rfl rfl ⟨(Nat.le_of_ble_eq_true rfl), (Nat.le_of_ble_eq_true rfl)⟩ rfl ?_
    refine ct_X2_tells ?_
    refine Gx_goto (tgt := 24) dX2_now_20 (by decide) ?_
    refine Gx_ireturn dX2_now_24 trivial ?_
    unfold sNowA at k
    (repeat' split at k) <;> first | exact k | (exfalso; omega)
  · refine Gx_if_eq (tgt := 23) dX2_now_7 (by decide) (fun _ => ?_) (fun hz => absurd hz (by decide))
    refine Gx_iconst ⟨by decide, by decide⟩ dX2_now_23 ?_
    refine Gx_ireturn dX2_now_24 trivial ?_
    unfold sNowA at k
    (repeat' split at k) <;> first | exact k | (exfalso; omega)
end
