/-! the constructors -/
section
variable {Γ : gC} {M : gI} {pc : Nat} {ls st : List gV} {v : gM} {K h : gH} {t bc bs : Nat} {Q : gQ}
theorem cl_X2_1 {a n : Int} {k : Nat} (d : decode M.2.1 pc = .ok (.invokespecial 1, 3)) (ho : RX2 = M.2.2.2.2.1) (hh : h a = (k, n)) (hk : k ≠ 99) (hrm : 1 ≤ M.2.2.2.2.2.frames ∧ 20 ≤ M.2.2.2.2.2.locals) (hcs : (gCs st).ble 8 = true) (kk : Gx Γ M (pc + 3) ls st v h t bc bs Q) : Gx Γ M pc ls ((2, a) :: st) v h t bc bs Q :=
  Gx_objI d ho hh hk q1192 q135 q136 hrm hcs kk
theorem gSl20 {a : Int} (h1 : v a ((1 : Nat) : Int) = a + 1) (h5 : v a ((5 : Nat) : Int) = a + 2) (h6 : v a ((6 : Nat) : Int) = a + 3) (h9 : v a ((9 : Nat) : Int) = a + 5) (h13 : v a ((13 : Nat) : Int) = a + 6) (h14 : v a ((14 : Nat) : Int) = a + 7) (h15 : v a ((15 : Nat) : Int) = a + 8) (h16 : v a ((16 : Nat) : Int) = a + 9) (h20 : v a ((20 : Nat) : Int) = a + 10) (h23 : v a ((23 : Nat) : Int) = a + 11) (h27 : v a ((27 : Nat) : Int) = a + 12) (h28 : v a ((28 : Nat) : Int) = a + 13) (h29 : v a ((29 : Nat) : Int) = a + 14) (h30 : v a ((30 : Nat) : Int) = a + 15) (h31 : v a ((31 : Nat) : Int) = a + 16) (h33 : v a ((33 : Nat) : Int) = a + 17) (h34 : v a ((34 : Nat) : Int) = a + 23) (h37 : v a ((37 : Nat) : Int) = a + 29) (h38 : v a ((38 : Nat) : Int) = a + 30) (h39 : v a ((39 : Nat) : Int) = a + 31) (h40 : v a ((40 : Nat) : Int) = a + 32) (h49 : v a ((49 : Nat) : Int) = a + 33) (h50 : v a ((50 : Nat) : Int) = a + 34) (h51 : v a ((51 : Nat) : Int) = a + 35) (h52 : v a ((52 : Nat) : Int) = a + 36) : ∀ (f : Nat) (x : Int), gOff 20 f = some x → v a f = a + x := by
  intro f x hx
  unfold gOff at hx
  simp only at hx
  split at hx <;> first | (cases hx; assumption) | (cases hx; done)
theorem gSl21 {a : Int} (h0 : v a ((0 : Nat) : Int) = a + 1) (h1 : v a ((1 : Nat) : Int) = a + 2) (h3 : v a ((3 : Nat) : Int) = a + 3) (h4 : v a ((4 : Nat) : Int) = a + 4) (h5 : v a ((5 : Nat) : Int) = a + 5) : ∀ (f : Nat) (x : Int), gOff 21 f = some x → v a f = a + x := by
  intro f x hx
  unfold gOff at hx
  simp only at hx
  split at hx <;> first | (cases hx; assumption) | (cases hx; done)
theorem gSl22 {a : Int} (h1 : v a ((1 : Nat) : Int) = a + 1) (h5 : v a ((5 : Nat) : Int) = a + 2) (h6 : v a ((6 : Nat) : Int) = a + 3) (h7 : v a ((7 : Nat) : Int) = a + 4) (h8 : v a ((8 : Nat) : Int) = a + 5) (h9 : v a ((9 : Nat) : Int) = a + 6) (h13 : v a ((13 : Nat) : Int) = a + 7) (h15 : v a ((15 : Nat) : Int) = a + 8) (h16 : v a ((16 : Nat) : Int) = a + 9) (h18 : v a ((18 : Nat) : Int) = a + 10) (h19 : v a ((19 : Nat) : Int) = a + 11) (h21 : v a ((21 : Nat) : Int) = a + 12) (h23 : v a ((23 : Nat) : Int) = a + 13) (h24 : v a ((24 : Nat) : Int) = a + 14) (h25 : v a ((25 : Nat) : Int) = a + 15) (h29 : v a ((29 : Nat) : Int) = a + 16) (h30 : v a ((30 : Nat) : Int) = a + 17) (h32 : v a ((32 : Nat) : Int) = a + 18) (h34 : v a ((34 : Nat) : Int) = a + 19) (h35 : v a ((35 : Nat) : Int) = a + 20) (h36 : v a ((36 : Nat) : Int) = a + 21) (h37 : v a ((37 : Nat) : Int) = a + 22) (h42 : v a ((42 : Nat) : Int) = a + 23) (h43 : v a ((43 : Nat) : Int) = a + 24) (h44 : v a ((44 : Nat) : Int) = a + 25) (h45 : v a ((45 : Nat) : Int) = a + 26) (h57 : v a ((57 : Nat) : Int) = a + 27) : ∀ (f : Nat) (x : Int), gOff 22 f = some x → v a f = a + x := by
  intro f x hx
  unfold gOff at hx
  simp only at hx
  split at hx <;> first | (cases hx; assumption) | (cases hx; done)
abbrev iW (v : gM) (a : Int) (t : Nat) : gM := gUp (gNf (gUp (gNf (gUp (gNf (gUp (gNf (gUp (gNf (v) ((t : Nat) : Int) (fun _ => 0)) a 0 ((t : Nat) : Int)) ((t + 1 : Nat) : Int) (fun _ => 0)) a 1 ((t + 1 : Nat) : Int)) ((t + 1 + 1 : Nat) : Int) (fun _ => 0)) a 3 ((t + 1 + 1 : Nat) : Int)) ((t + 1 + 1 + 1 : Nat) : Int) (fun _ => 0)) a 4 ((t + 1 + 1 + 1 : Nat) : Int)) ((t + 1 + 1 + 1 + 1 : Nat) : Int) (fun _ => 0)) a 5 ((t + 1 + 1 + 1 + 1 : Nat) : Int)
abbrev iWh (h : gH) (t : Nat) : gH := gUpH (gUpH (gUpH (gUpH (gUpH (h) ((t : Nat) : Int) (10, 24)) ((t + 1 : Nat) : Int) (10, 2)) ((t + 1 + 1 : Nat) : Int) (12, 24)) ((t + 1 + 1 + 1 : Nat) : Int) (10, 24)) ((t + 1 + 1 + 1 + 1 : Nat) : Int) (12, 2)
theorem ct_X1_init {a : Int} (hh : h a = (1, 0)) (hat : a < (t : Int)) (k : Q (9, 0) (iW v a t) (iWh h t) (t + 1 + 1 + 1 + 1 + 1)) : Ctr Γ mX1_init [(2, a)] v h t Q := by
  refine Ctr.ofG (ls := [(2, a)]) rfl rfl rfl rfl rfl ?_
  refine Gx_aload_n (i := 0) dX1_init_0 rfl rfl ?_
  refine cl_X1_3 dX1_init_1 rfl hh (by decide) ⟨(Nat.le_of_ble_eq_true rfl), (Nat.le_of_ble_eq_true rfl)⟩ rfl ?_
  refine Gx_aload_n (i := 0) dX1_init_4 rfl rfl ?_
  refine Gx_bipush dX1_init_5 ⟨by decide, by decide⟩ ?_
  refine Gx_newarr (k := 10) (bc' := 4) (bs' := 52) dX1_init_7 ⟨by decide, by decide⟩ rfl q182 (by first | omega | (simp (disch := omega) only [w32_id]; omega)) (by decide) (by decide) ?_
  refine pf_X1_9_1 dX1_init_9 rfl rfl (by rw [gUpH_ne (by omega)]; exact hh) ?_
  refine Gx_aload_n (i := 0) dX1_init_12 rfl rfl ?_
  refine Gx_iconst ⟨by decide, by decide⟩ dX1_init_13 ?_
  refine Gx_newarr (k := 10) (bc' := 3) (bs' := 50) dX1_init_14 ⟨by decide, by decide⟩ rfl q182 (by first | omega | (simp (disch := omega) only [w32_id]; omega)) (by decide) (by decide) ?_
  refine pf_X1_15_1 dX1_init_16 rfl rfl (by rw [gUpH_ne (by omega), gUpH_ne (by omega)]; exact hh) ?_
  refine Gx_aload_n (i := 0) dX1_init_19 rfl rfl ?_
  refine Gx_bipush dX1_init_20 ⟨by decide, by decide⟩ ?_
  refine Gx_newarr (k := 12) (bc' := 2) (bs' := 26) dX1_init_22 ⟨by decide, by decide⟩ rfl q183 (by first | omega | (simp (disch := omega) only [w32_id]; omega)) (by decide) (by decide) ?_
  refine pf_X1_18_1 dX1_init_24 rfl rfl (by rw [gUpH_ne (by omega), gUpH_ne (by omega), gUpH_ne (by omega)]; exact hh) ?_
  refine Gx_aload_n (i := 0) dX1_init_27 rfl rfl ?_
  refine Gx_bipush dX1_init_28 ⟨by decide, by decide⟩ ?_
  refine Gx_newarr (k := 10) (bc' := 1) (bs' := 2) dX1_init_30 ⟨by decide, by decide⟩ rfl q182 (by first | omega | (simp (disch := omega) only [w32_id]; omega)) (by decide) (by decide) ?_
  refine pf_X1_22_1 dX1_init_32 rfl rfl (by rw [gUpH_ne (by omega), gUpH_ne (by omega), gUpH_ne (by omega), gUpH_ne (by omega)]; exact hh) ?_
  refine Gx_aload_n (i := 0) dX1_init_35 rfl rfl ?_
  refine Gx_iconst ⟨by decide, by decide⟩ dX1_init_36 ?_
  refine Gx_newarr (k := 12) (bc' := 0) (bs' := 0) dX1_init_37 ⟨by decide, by decide⟩ rfl q183 (by first | omega | (simp (disch := omega) only [w32_id]; omega)) (by decide) (by decide) ?_
  refine pf_X1_25_1 dX1_init_39 rfl rfl (by rw [gUpH_ne (by omega), gUpH_ne (by omega), gUpH_ne (by omega), gUpH_ne (by omega), gUpH_ne (by omega)]; exact hh) ?_
  refine Gx_return dX1_init_42 rfl ?_
  exact k
/-- A as it is made -/
def lA0 (v : gM) : Prop := (v 0 0 = 0) ∧ (v 0 2 = 0) ∧ (v 0 3 = 0) ∧ (v 0 4 = 1) ∧ (v 0 7 = 4) ∧ (v 0 8 = 37) ∧ (v 0 10 = 0) ∧ (v 0 11 = 0) ∧ (v 0 12 = 0) ∧ (v 0 32 = 0) ∧ (v 0 35 = -9) ∧ (v 0 36 = -9) ∧ (v 17 2 = 0) ∧ (∀ f, v 1 f = 0) ∧ (∀ r, v 2 r = -1) ∧ (∀ r, v 3 r = -1) ∧ (v 37 0 = 1) ∧ (v 5 0 = 4) ∧ (v 5 1 = 4) ∧ (v 5 2 = 4)
set_option maxHeartbeats 4000000 in
theorem ct_X0_init  (hh : h 0 = (0, 0)) (hz : v 0 0 = 0 ∧ v 0 2 = 0 ∧ v 0 3 = 0 ∧ v 0 10 = 0 ∧ v 0 11 = 0 ∧ v 0 12 = 0 ∧ v 0 32 = 0) (k : ∀ v1 h1, lA0 v1 → (∀ a, 0 ≤ a → a < 38 → h1 a = gHd0.getD a.toNat (99, 0)) → Q (9, 0) v1 h1 38) : Ctr Γ mX0_init [(2, 0)] v h 1 Q := by
  refine Ctr.ofG (ls := [(2, 0), (9, 0)]) rfl rfl rfl rfl rfl ?_
  refine Gx_aload_n (i := 0) dX0_init_0 rfl rfl ?_
  refine cl_X0_21 dX0_init_1 rfl hh (by decide) ⟨(Nat.le_of_ble_eq_true rfl), (Nat.le_of_ble_eq_true rfl)⟩ rfl ?_
  refine Gx_aload_n (i := 0) dX0_init_4 rfl rfl ?_
  refine Gx_bipush dX0_init_5 ⟨by decide, by decide⟩ ?_
  refine Gx_newarr (k := 10) (bc' := 39) (bs' := 69994) dX0_init_7 ⟨by decide, by decide⟩ rfl q182 (by first | decide | omega) (by decide) (by decide) ?_
  refine pf_X0_7_0 dX0_init_9 rfl rfl hh ?_
  refine Gx_aload_n (i := 0) dX0_init_12 rfl rfl ?_
  refine Gx_lconst1 dX0_init_13 ?_
  refine pf_X0_18_0 dX0_init_14 rfl hh ?_
  refine Gx_aload_n (i := 0) dX0_init_17 rfl rfl ?_
  refine Gx_bipush dX0_init_18 ⟨by decide, by decide⟩ ?_
  refine Gx_anew15 (bc' := 38) (bs' := 69988) dX0_init_20 rfl q137 q138 (by first | decide | omega) (by decide) (by decide) ?_
  refine pf_X0_28_0 dX0_init_23 rfl rfl hh ?_
  refine Gx_aload_n (i := 0) dX0_init_26 rfl rfl ?_
  refine Gx_iconst ⟨by decide, by decide⟩ dX0_init_27 ?_
  refine Gx_anew16 (bc' := 37) (bs' := 69984) dX0_init_28 rfl q139 q140 (by first | decide | omega) (by decide) (by decide) ?_
  refine pf_X0_34_0 dX0_init_31 rfl rfl hh ?_
  refine Gx_aload_n (i := 0) dX0_init_34 rfl rfl ?_
  refine Gx_iconst ⟨by decide, by decide⟩ dX0_init_35 ?_
  refine Gx_anew17 (bc' := 36) (bs' := 69984) dX0_init_36 rfl q141 q142 (by first | decide | omega) (by decide) (by decide) ?_
  refine pf_X0_40_0 dX0_init_39 rfl hh ?_
  refine Gx_aload_n (i := 0) dX0_init_42 rfl rfl ?_
  refine Gx_iconst ⟨by decide, by decide⟩ dX0_init_43 ?_
  refine Gx_newarr (k := 10) (bc' := 35) (bs' := 69981) dX0_init_44 ⟨by decide, by decide⟩ rfl q182 (by first | decide | omega) (by decide) (by decide) ?_
  refine pf_X0_44_0 dX0_init_46 rfl rfl hh ?_
  refine Gx_aload_n (i := 0) dX0_init_49 rfl rfl ?_
  refine Gx_iconst ⟨by decide, by decide⟩ dX0_init_50 ?_
  refine Gx_newarr (k := 10) (bc' := 34) (bs' := 69979) dX0_init_51 ⟨by decide, by decide⟩ rfl q182 (by first | decide | omega) (by decide) (by decide) ?_
  refine pf_X0_47_0 dX0_init_53 rfl rfl hh ?_
  refine Gx_aload_n (i := 0) dX0_init_56 rfl rfl ?_
  refine Gx_iconst ⟨by decide, by decide⟩ dX0_init_57 ?_
  refine Gx_newarr (k := 10) (bc' := 33) (bs' := 69977) dX0_init_58 ⟨by decide, by decide⟩ rfl q182 (by first | decide | omega) (by decide) (by decide) ?_
  refine pf_X0_50_0 dX0_init_60 rfl rfl hh ?_
  refine Gx_aload_n (i := 0) dX0_init_63 rfl rfl ?_
  refine Gx_iconst ⟨by decide, by decide⟩ dX0_init_64 ?_
  refine Gx_newarr (k := 10) (bc' := 32) (bs' := 69975) dX0_init_65 ⟨by decide, by decide⟩ rfl q182 (by first | decide | omega) (by decide) (by decide) ?_
  refine pf_X0_53_0 dX0_init_67 rfl rfl hh ?_
  refine Gx_aload_n (i := 0) dX0_init_70 rfl rfl ?_
  refine Gx_iconst ⟨by decide, by decide⟩ dX0_init_71 ?_
  refine Gx_newarr (k := 10) (bc' := 31) (bs' := 69973) dX0_init_72 ⟨by decide, by decide⟩ rfl q182 (by first | decide | omega) (by decide) (by decide) ?_
  refine pf_X0_56_0 dX0_init_74 rfl rfl hh ?_
  refine Gx_aload_n (i := 0) dX0_init_77 rfl rfl ?_
  refine Gx_bipush dX0_init_78 ⟨by decide, by decide⟩ ?_
  refine Gx_anew17 (bc' := 30) (bs' := 69967) dX0_init_80 rfl q141 q142 (by first | decide | omega) (by decide) (by decide) ?_
  refine pf_X0_59_0 dX0_init_83 rfl rfl hh ?_
  refine Gx_aload_n (i := 0) dX0_init_86 rfl rfl ?_
  refine Gx_iconst ⟨by decide, by decide⟩ dX0_init_87 ?_
  refine Gx_newarr (k := 10) (bc' := 29) (bs' := 69964) dX0_init_88 ⟨by decide, by decide⟩ rfl q182 (by first | decide | omega) (by decide) (by decide) ?_
  refine pf_X0_62_0 dX0_init_90 rfl rfl hh ?_
  refine Gx_aload_n (i := 0) dX0_init_93 rfl rfl ?_
  refine Gx_iconst ⟨by decide, by decide⟩ dX0_init_94 ?_
  refine Gx_newarr (k := 10) (bc' := 28) (bs' := 69962) dX0_init_95 ⟨by decide, by decide⟩ rfl q182 (by first | decide | omega) (by decide) (by decide) ?_
  refine pf_X0_65_0 dX0_init_97 rfl rfl hh ?_
  refine Gx_aload_n (i := 0) dX0_init_100 rfl rfl ?_
  refine Gx_iconst ⟨by decide, by decide⟩ dX0_init_101 ?_
  refine Gx_newarr (k := 10) (bc' := 27) (bs' := 69960) dX0_init_102 ⟨by decide, by decide⟩ rfl q182 (by first | decide | omega) (by decide) (by decide) ?_
  refine pf_X0_68_0 dX0_init_104 rfl rfl hh ?_
  refine Gx_aload_n (i := 0) dX0_init_107 rfl rfl ?_
  refine Gx_iconst ⟨by decide, by decide⟩ dX0_init_108 ?_
  refine Gx_newarr (k := 10) (bc' := 26) (bs' := 69958) dX0_init_109 ⟨by decide, by decide⟩ rfl q182 (by first | decide | omega) (by decide) (by decide) ?_
  refine pf_X0_71_0 dX0_init_111 rfl rfl hh ?_
  refine Gx_aload_n (i := 0) dX0_init_114 rfl rfl ?_
  refine Gx_iconst ⟨by decide, by decide⟩ dX0_init_115 ?_
  refine Gx_newarr (k := 10) (bc' := 25) (bs' := 69956) dX0_init_116 ⟨by decide, by decide⟩ rfl q182 (by first | decide | omega) (by decide) (by decide) ?_
  refine pf_X0_74_0 dX0_init_118 rfl rfl hh ?_
  refine Gx_aload_n (i := 0) dX0_init_121 rfl rfl ?_
  refine Gx_bipush dX0_init_122 ⟨by decide, by decide⟩ ?_
  refine Gx_anew18 (bc' := 24) (bs' := 69932) dX0_init_124 rfl q143 q144 (by first | decide | omega) (by decide) (by decide) ?_
  refine pf_X0_79_0 dX0_init_127 rfl rfl hh ?_
  refine Gx_aload_n (i := 0) dX0_init_130 rfl rfl ?_
  refine Gx_new (k := 1) (C := RX1) (T := TX1) (N := 8) (bc' := 23) (bs' := 69924) dX0_init_131 rfl (by decide) rfl in_X1 tyX1_ok (by decide) q145 q146 q108 (by decide) (by decide) ?_
  refine Gx_dup (Nat.ne_of_beq_eq_false rfl) dX0_init_134 ?_
  refine cl_X0_85_1 (bc' := 18) (bs' := 69848) dX0_init_135 rfl rfl ⟨(Nat.le_of_ble_eq_true rfl), (Nat.le_of_ble_eq_true rfl)⟩ rfl (by first | omega | decide) (by first | omega | decide) ?_
  refine ct_X1_init rfl (by decide) ?_
  refine Gx_seal (a := 17) (k := 1) (k' := 21) (n := 0) rfl (by decide) rfl (by decide) (gSl21 rfl rfl rfl rfl rfl) ?_
  refine pf_X0_86_0 dX0_init_138 rfl rfl hh ?_
  refine Gx_aload_n (i := 0) dX0_init_141 rfl rfl ?_
  refine Gx_new (k := 1) (C := RX1) (T := TX1) (N := 8) (bc' := 17) (bs' := 69840) dX0_init_142 rfl (by decide) rfl in_X1 tyX1_ok (by decide) q145 q146 q108 (by decide) (by decide) ?_
  refine Gx_dup (Nat.ne_of_beq_eq_false rfl) dX0_init_145 ?_
  refine cl_X0_85_1 (bc' := 12) (bs' := 69764) dX0_init_146 rfl rfl ⟨(Nat.le_of_ble_eq_true rfl), (Nat.le_of_ble_eq_true rfl)⟩ rfl (by first | omega | decide) (by first | omega | decide) ?_
  refine ct_X1_init rfl (by decide) ?_
  refine Gx_seal (a := 23) (k := 1) (k' := 21) (n := 0) rfl (by decide) rfl (by decide) (gSl21 rfl rfl rfl rfl rfl) ?_
  refine pf_X0_90_0 dX0_init_149 rfl rfl hh ?_
  refine Gx_aload_n (i := 0) dX0_init_152 rfl rfl ?_
  refine Gx_bipush dX0_init_153 ⟨by decide, by decide⟩ ?_
  refine pf_X0_93_0 dX0_init_155 rfl hh ?_
  refine Gx_aload_n (i := 0) dX0_init_158 rfl rfl ?_
  refine Gx_bipush dX0_init_159 ⟨by decide, by decide⟩ ?_
  refine pf_X0_96_0 dX0_init_161 rfl hh ?_
  refine Gx_aload_n (i := 0) dX0_init_164 rfl rfl ?_
  refine Gx_iconst ⟨by decide, by decide⟩ dX0_init_165 ?_
  refine Gx_newarr (k := 10) (bc' := 11) (bs' := 69762) dX0_init_166 ⟨by decide, by decide⟩ rfl q182 (by first | decide | omega) (by decide) (by decide) ?_
  refine pf_X0_99_0 dX0_init_168 rfl rfl hh ?_
  refine Gx_aload_n (i := 0) dX0_init_171 rfl rfl ?_
  refine Gx_iconst ⟨by decide, by decide⟩ dX0_init_172 ?_
  refine Gx_newarr (k := 10) (bc' := 10) (bs' := 69760) dX0_init_173 ⟨by decide, by decide⟩ rfl q182 (by first | decide | omega) (by decide) (by decide) ?_
  refine pf_X0_102_0 dX0_init_175 rfl rfl hh ?_
  refine Gx_aload_n (i := 0) dX0_init_178 rfl rfl ?_
  refine Gx_ldc (n := 54027) dX0_init_179 rfl q184 (by decide) ?_
  refine Gx_newarr (k := 13) (bc' := 9) (bs' := 15733) dX0_init_181 ⟨by decide, by decide⟩ rfl q348 (by first | decide | omega) (by decide) (by decide) ?_
  refine pf_X0_106_0 dX0_init_183 rfl rfl hh ?_
  refine Gx_aload_n (i := 0) dX0_init_186 rfl rfl ?_
  refine Gx_sipush dX0_init_187 ⟨by decide, by decide⟩ ?_
  refine Gx_newarr (k := 13) (bc' := 8) (bs' := 7541) dX0_init_190 ⟨by decide, by decide⟩ rfl q348 (by first | decide | omega) (by decide) (by decide) ?_
  refine pf_X0_110_0 dX0_init_192 rfl rfl hh ?_
  refine Gx_aload_n (i := 0) dX0_init_195 rfl rfl ?_
  refine Gx_bipush dX0_init_196 ⟨by decide, by decide⟩ ?_
  refine Gx_newarr (k := 14) (bc' := 7) (bs' := 7517) dX0_init_198 ⟨by decide, by decide⟩ rfl q349 (by first | decide | omega) (by decide) (by decide) ?_
  refine pf_X0_113_0 dX0_init_200 rfl rfl hh ?_
  refine Gx_aload_n (i := 0) dX0_init_203 rfl rfl ?_
  refine Gx_bipush dX0_init_204 ⟨by decide, by decide⟩ ?_
  refine Gx_newarr (k := 14) (bc' := 6) (bs' := 7493) dX0_init_206 ⟨by decide, by decide⟩ rfl q349 (by first | decide | omega) (by decide) (by decide) ?_
  refine pf_X0_117_0 dX0_init_208 rfl rfl hh ?_
  refine Gx_aload_n (i := 0) dX0_init_211 rfl rfl ?_
  refine Gx_iconst ⟨by decide, by decide⟩ dX0_init_212 ?_
  refine Gx_newarr (k := 10) (bc' := 5) (bs' := 7491) dX0_init_213 ⟨by decide, by decide⟩ rfl q182 (by first | decide | omega) (by decide) (by decide) ?_
  refine pf_X0_120_0 dX0_init_215 rfl rfl hh ?_
  refine Gx_aload_n (i := 0) dX0_init_218 rfl rfl ?_
  refine Gx_sipush dX0_init_219 ⟨by decide, by decide⟩ ?_
  refine Gx_newarr (k := 10) (bc' := 4) (bs' := 5491) dX0_init_222 ⟨by decide, by decide⟩ rfl q182 (by first | decide | omega) (by decide) (by decide) ?_
  refine pf_X0_123_0 dX0_init_224 rfl rfl hh ?_
  refine Gx_aload_n (i := 0) dX0_init_227 rfl rfl ?_
  refine Gx_iconst ⟨by decide, by decide⟩ dX0_init_228 ?_
  refine Gx_newarr (k := 11) (bc' := 3) (bs' := 5490) dX0_init_229 ⟨by decide, by decide⟩ rfl q350 (by first | decide | omega) (by decide) (by decide) ?_
  refine Gx_dup (Nat.ne_of_beq_eq_false rfl) dX0_init_231 ?_
  refine Gx_iconst ⟨by decide, by decide⟩ dX0_init_232 ?_
  refine Gx_iconst ⟨by decide, by decide⟩ dX0_init_233 ?_
  refine Gx_bastore dX0_init_234 rfl (by first | decide | omega) (by first | decide | omega) ?_
  refine pf_X0_126_0 dX0_init_235 rfl hh ?_
  refine Gx_iconst ⟨by decide, by decide⟩ dX0_init_238 ?_
  refine Gx_istore_n_1 dX0_init_239 (Nat.le_of_ble_eq_true rfl) (Nat.ne_of_beq_eq_false rfl) ?_
  refine Gx_iload_n (i := 1) dX0_init_240 rfl rfl ?_
  refine Gx_iconst ⟨by decide, by decide⟩ dX0_init_241 ?_
  refine Gx_icmp_ge (tgt := 258) dX0_init_242 (by decide) (fun hz => absurd hz (by decide)) (fun _ => ?_)
  refine Gx_aload_n (i := 0) dX0_init_245 rfl rfl ?_
  refine gf_X0_44_0 dX0_init_246 rfl hh ?_
  refine Gx_iload_n (i := 1) dX0_init_249 rfl rfl ?_
  refine Gx_iconst ⟨by decide, by decide⟩ dX0_init_250 ?_
  refine Gx_iastore dX0_init_251 rfl (by first | decide | omega) ?_
  refine Gx_iinc_1 dX0_init_252 (Nat.le_of_ble_eq_true rfl) (Nat.ne_of_beq_eq_false rfl) ?_
  rw [show w32 (0 + 1) = (1 : Int) from by decide]
  refine Gx_goto (tgt := 240) dX0_init_255 (by decide) ?_
  refine Gx_iload_n (i := 1) dX0_init_240 rfl rfl ?_
  refine Gx_iconst ⟨by decide, by decide⟩ dX0_init_241 ?_
  refine Gx_icmp_ge (tgt := 258) dX0_init_242 (by decide) (fun hz => absurd hz (by decide)) (fun _ => ?_)
  refine Gx_aload_n (i := 0) dX0_init_245 rfl rfl ?_
  refine gf_X0_44_0 dX0_init_246 rfl hh ?_
  refine Gx_iload_n (i := 1) dX0_init_249 rfl rfl ?_
  refine Gx_iconst ⟨by decide, by decide⟩ dX0_init_250 ?_
  refine Gx_iastore dX0_init_251 rfl (by first | decide | omega) ?_
  refine Gx_iinc_1 dX0_init_252 (Nat.le_of_ble_eq_true rfl) (Nat.ne_of_beq_eq_false rfl) ?_
  rw [show w32 (1 + 1) = (2 : Int) from by decide]
  refine Gx_goto (tgt := 240) dX0_init_255 (by decide) ?_
  refine Gx_iload_n (i := 1) dX0_init_240 rfl rfl ?_
  refine Gx_iconst ⟨by decide, by decide⟩ dX0_init_241 ?_
  refine Gx_icmp_ge (tgt := 258) dX0_init_242 (by decide) (fun hz => absurd hz (by decide)) (fun _ => ?_)
  refine Gx_aload_n (i := 0) dX0_init_245 rfl rfl ?_
  refine gf_X0_44_0 dX0_init_246 rfl hh ?_
  refine Gx_iload_n (i := 1) dX0_init_249 rfl rfl ?_
  refine Gx_iconst ⟨by decide, by decide⟩ dX0_init_250 ?_
  refine Gx_iastore dX0_init_251 rfl (by first | decide | omega) ?_
  refine Gx_iinc_1 dX0_init_252 (Nat.le_of_ble_eq_true rfl) (Nat.ne_of_beq_eq_false rfl) ?_
  rw [show w32 (2 + 1) = (3 : Int) from by decide]
  refine Gx_goto (tgt := 240) dX0_init_255 (by decide) ?_
  refine Gx_iload_n (i := 1) dX0_init_240 rfl rfl ?_
  refine Gx_iconst ⟨by decide, by decide⟩ dX0_init_241 ?_
  refine Gx_icmp_ge (tgt := 258) dX0_init_242 (by decide) (fun _ => ?_) (fun hz => absurd hz (by decide))
  refine Gx_seal (a := 0) (k := 0) (k' := 20) (n := 0) hh (by decide) rfl (by decide) (gSl20 rfl rfl rfl rfl rfl rfl rfl rfl rfl rfl rfl rfl rfl rfl rfl rfl rfl rfl rfl rfl rfl rfl rfl rfl rfl) ?_
  refine Gx_return dX0_init_258 rfl ?_
  refine k _ _ ?_ ?_
  · exact ⟨hz.1, hz.2.1, hz.2.2.1, rfl, rfl, rfl, hz.2.2.2.1, hz.2.2.2.2.1, hz.2.2.2.2.2.1, hz.2.2.2.2.2.2, rfl, rfl, rfl, fun _ => rfl, fun _ => rfl, fun _ => rfl, rfl, rfl, rfl, rfl⟩
  · intro a a0 a1
    rcases (by omega : a = 0 ∨ a = 1 ∨ a = 2 ∨ a = 3 ∨ a = 4 ∨ a = 5 ∨ a = 6 ∨ a = 7 ∨ a = 8 ∨ a = 9 ∨ a = 10 ∨ a = 11 ∨ a = 12 ∨ a = 13 ∨ a = 14 ∨ a = 15 ∨ a = 16 ∨ a = 17 ∨ a = 18 ∨ a = 19 ∨ a = 20 ∨ a = 21 ∨ a = 22 ∨ a = 23 ∨ a = 24 ∨ a = 25 ∨ a = 26 ∨ a = 27 ∨ a = 28 ∨ a = 29 ∨ a = 30 ∨ a = 31 ∨ a = 32 ∨ a = 33 ∨ a = 34 ∨ a = 35 ∨ a = 36 ∨ a = 37) with rfl | rfl | rfl | rfl | rfl | rfl | rfl | rfl | rfl | rfl | rfl | rfl | rfl | rfl | rfl | rfl | rfl | rfl | rfl | rfl | rfl | rfl | rfl | rfl | rfl | rfl | rfl | rfl | rfl | rfl | rfl | rfl | rfl | rfl | rfl | rfl | rfl | rfl <;> rfl
end
