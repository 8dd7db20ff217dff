/-! fields: a rule a use (class of the code, place in its pool, kind of the cell) -/
section
variable {Γ : gC} {M : gI} {pc : Nat} {ls st : List gV} {v : gM} {h : gH} {t bc bs : Nat} {Q : gQ}
theorem gf_X0_3_20 {n : Int} (d : decode M.2.1 pc = .ok (.getfield 3, 3)) (ho : RX0 = M.2.2.2.2.1) (hh : h 0 = (20, n)) (kk : Gx Γ M (pc + 3) ls ((0, v 0 0) :: st) v h t bc bs Q) : Gx Γ M pc ls ((2, 0) :: st) v h t bc bs Q :=
  Gx_get (k := 20) (f := 0) (C := RX0) (T := TX0) (N := 54) d ho hh rfl rfl (by decide) in_X0 q185 rfl rfl rfl kk
theorem gf_X0_3_0 {a : Int} {n : Int} (d : decode M.2.1 pc = .ok (.getfield 3, 3)) (ho : RX0 = M.2.2.2.2.1) (hh : h a = (0, n)) (kk : Gx Γ M (pc + 3) ls ((0, v a 0) :: st) v h t bc bs Q) : Gx Γ M pc ls ((2, a) :: st) v h t bc bs Q :=
  Gx_get (k := 0) (f := 0) (C := RX0) (T := TX0) (N := 54) d ho hh rfl rfl (by decide) in_X0 q185 rfl rfl rfl kk
theorem gf_X0_7_20 {n : Int} (d : decode M.2.1 pc = .ok (.getfield 7, 3)) (ho : RX0 = M.2.2.2.2.1) (hh : h 0 = (20, n)) (kk : Gx Γ M (pc + 3) ls ((2, 1) :: st) v h t bc bs Q) : Gx Γ M pc ls ((2, 0) :: st) v h t bc bs Q :=
  Gx_get (k := 20) (f := 1) (C := RX0) (T := TX0) (N := 54) d ho hh rfl rfl (by decide) in_X0 q186 rfl rfl rfl kk
theorem gf_X0_7_0 {a : Int} {n : Int} (d : decode M.2.1 pc = .ok (.getfield 7, 3)) (ho : RX0 = M.2.2.2.2.1) (hh : h a = (0, n)) (kk : Gx Γ M (pc + 3) ls ((2, v a 1) :: st) v h t bc bs Q) : Gx Γ M pc ls ((2, a) :: st) v h t bc bs Q :=
  Gx_get (k := 0) (f := 1) (C := RX0) (T := TX0) (N := 54) d ho hh rfl rfl (by decide) in_X0 q186 rfl rfl rfl kk
theorem gf_X0_11_20 {n : Int} (d : decode M.2.1 pc = .ok (.getfield 11, 3)) (ho : RX0 = M.2.2.2.2.1) (hh : h 0 = (20, n)) (kk : Gx Γ M (pc + 3) ls ((0, v 0 2) :: st) v h t bc bs Q) : Gx Γ M pc ls ((2, 0) :: st) v h t bc bs Q :=
  Gx_get (k := 20) (f := 2) (C := RX0) (T := TX0) (N := 54) d ho hh rfl rfl (by decide) in_X0 q187 rfl rfl rfl kk
theorem gf_X0_11_0 {a : Int} {n : Int} (d : decode M.2.1 pc = .ok (.getfield 11, 3)) (ho : RX0 = M.2.2.2.2.1) (hh : h a = (0, n)) (kk : Gx Γ M (pc + 3) ls ((0, v a 2) :: st) v h t bc bs Q) : Gx Γ M pc ls ((2, a) :: st) v h t bc bs Q :=
  Gx_get (k := 0) (f := 2) (C := RX0) (T := TX0) (N := 54) d ho hh rfl rfl (by decide) in_X0 q187 rfl rfl rfl kk
theorem gf_X0_14_20 {n : Int} (d : decode M.2.1 pc = .ok (.getfield 14, 3)) (ho : RX0 = M.2.2.2.2.1) (hh : h 0 = (20, n)) (kk : Gx Γ M (pc + 3) ls ((1, v 0 3) :: st) v h t bc bs Q) : Gx Γ M pc ls ((2, 0) :: st) v h t bc bs Q :=
  Gx_get (k := 20) (f := 3) (C := RX0) (T := TX0) (N := 54) d ho hh rfl rfl (by decide) in_X0 q188 rfl rfl rfl kk
theorem gf_X0_14_0 {a : Int} {n : Int} (d : decode M.2.1 pc = .ok (.getfield 14, 3)) (ho : RX0 = M.2.2.2.2.1) (hh : h a = (0, n)) (kk : Gx Γ M (pc + 3) ls ((1, v a 3) :: st) v h t bc bs Q) : Gx Γ M pc ls ((2, a) :: st) v h t bc bs Q :=
  Gx_get (k := 0) (f := 3) (C := RX0) (T := TX0) (N := 54) d ho hh rfl rfl (by decide) in_X0 q188 rfl rfl rfl kk
theorem gf_X0_18_20 {n : Int} (d : decode M.2.1 pc = .ok (.getfield 18, 3)) (ho : RX0 = M.2.2.2.2.1) (hh : h 0 = (20, n)) (kk : Gx Γ M (pc + 3) ls ((1, v 0 4) :: st) v h t bc bs Q) : Gx Γ M pc ls ((2, 0) :: st) v h t bc bs Q :=
  Gx_get (k := 20) (f := 4) (C := RX0) (T := TX0) (N := 54) d ho hh rfl rfl (by decide) in_X0 q189 rfl rfl rfl kk
theorem gf_X0_18_0 {a : Int} {n : Int} (d : decode M.2.1 pc = .ok (.getfield 18, 3)) (ho : RX0 = M.2.2.2.2.1) (hh : h a = (0, n)) (kk : Gx Γ M (pc + 3) ls ((1, v a 4) :: st) v h t bc bs Q) : Gx Γ M pc ls ((2, a) :: st) v h t bc bs Q :=
  Gx_get (k := 0) (f := 4) (C := RX0) (T := TX0) (N := 54) d ho hh rfl rfl (by decide) in_X0 q189 rfl rfl rfl kk
theorem gf_X0_28_20 {n : Int} (d : decode M.2.1 pc = .ok (.getfield 28, 3)) (ho : RX0 = M.2.2.2.2.1) (hh : h 0 = (20, n)) (kk : Gx Γ M (pc + 3) ls ((2, 2) :: st) v h t bc bs Q) : Gx Γ M pc ls ((2, 0) :: st) v h t bc bs Q :=
  Gx_get (k := 20) (f := 5) (C := RX0) (T := TX0) (N := 54) d ho hh rfl rfl (by decide) in_X0 q190 rfl rfl rfl kk
theorem gf_X0_28_0 {a : Int} {n : Int} (d : decode M.2.1 pc = .ok (.getfield 28, 3)) (ho : RX0 = M.2.2.2.2.1) (hh : h a = (0, n)) (kk : Gx Γ M (pc + 3) ls ((2, v a 5) :: st) v h t bc bs Q) : Gx Γ M pc ls ((2, a) :: st) v h t bc bs Q :=
  Gx_get (k := 0) (f := 5) (C := RX0) (T := TX0) (N := 54) d ho hh rfl rfl (by decide) in_X0 q190 rfl rfl rfl kk
theorem gf_X0_34_20 {n : Int} (d : decode M.2.1 pc = .ok (.getfield 34, 3)) (ho : RX0 = M.2.2.2.2.1) (hh : h 0 = (20, n)) (kk : Gx Γ M (pc + 3) ls ((2, 3) :: st) v h t bc bs Q) : Gx Γ M pc ls ((2, 0) :: st) v h t bc bs Q :=
  Gx_get (k := 20) (f := 6) (C := RX0) (T := TX0) (N := 54) d ho hh rfl rfl (by decide) in_X0 q191 rfl rfl rfl kk
theorem gf_X0_34_0 {a : Int} {n : Int} (d : decode M.2.1 pc = .ok (.getfield 34, 3)) (ho : RX0 = M.2.2.2.2.1) (hh : h a = (0, n)) (kk : Gx Γ M (pc + 3) ls ((2, v a 6) :: st) v h t bc bs Q) : Gx Γ M pc ls ((2, a) :: st) v h t bc bs Q :=
  Gx_get (k := 0) (f := 6) (C := RX0) (T := TX0) (N := 54) d ho hh rfl rfl (by decide) in_X0 q191 rfl rfl rfl kk
theorem gf_X0_40_20 {n : Int} (d : decode M.2.1 pc = .ok (.getfield 40, 3)) (ho : RX0 = M.2.2.2.2.1) (hh : h 0 = (20, n)) (kk : Gx Γ M (pc + 3) ls ((2, v 0 7) :: st) v h t bc bs Q) : Gx Γ M pc ls ((2, 0) :: st) v h t bc bs Q :=
  Gx_get (k := 20) (f := 7) (C := RX0) (T := TX0) (N := 54) d ho hh rfl rfl (by decide) in_X0 q192 rfl rfl rfl kk
theorem gf_X0_40_0 {a : Int} {n : Int} (d : decode M.2.1 pc = .ok (.getfield 40, 3)) (ho : RX0 = M.2.2.2.2.1) (hh : h a = (0, n)) (kk : Gx Γ M (pc + 3) ls ((2, v a 7) :: st) v h t bc bs Q) : Gx Γ M pc ls ((2, a) :: st) v h t bc bs Q :=
  Gx_get (k := 0) (f := 7) (C := RX0) (T := TX0) (N := 54) d ho hh rfl rfl (by decide) in_X0 q192 rfl rfl rfl kk
theorem gf_X0_44_20 {n : Int} (d : decode M.2.1 pc = .ok (.getfield 44, 3)) (ho : RX0 = M.2.2.2.2.1) (hh : h 0 = (20, n)) (kk : Gx Γ M (pc + 3) ls ((2, 5) :: st) v h t bc bs Q) : Gx Γ M pc ls ((2, 0) :: st) v h t bc bs Q :=
  Gx_get (k := 20) (f := 9) (C := RX0) (T := TX0) (N := 54) d ho hh rfl rfl (by decide) in_X0 q194 rfl rfl rfl kk
theorem gf_X0_44_0 {a : Int} {n : Int} (d : decode M.2.1 pc = .ok (.getfield 44, 3)) (ho : RX0 = M.2.2.2.2.1) (hh : h a = (0, n)) (kk : Gx Γ M (pc + 3) ls ((2, v a 9) :: st) v h t bc bs Q) : Gx Γ M pc ls ((2, a) :: st) v h t bc bs Q :=
  Gx_get (k := 0) (f := 9) (C := RX0) (T := TX0) (N := 54) d ho hh rfl rfl (by decide) in_X0 q194 rfl rfl rfl kk
theorem gf_X0_47_20 {n : Int} (d : decode M.2.1 pc = .ok (.getfield 47, 3)) (ho : RX0 = M.2.2.2.2.1) (hh : h 0 = (20, n)) (kk : Gx Γ M (pc + 3) ls ((2, 6) :: st) v h t bc bs Q) : Gx Γ M pc ls ((2, 0) :: st) v h t bc bs Q :=
  Gx_get (k := 20) (f := 13) (C := RX0) (T := TX0) (N := 54) d ho hh rfl rfl (by decide) in_X0 q198 rfl rfl rfl kk
theorem gf_X0_47_0 {a : Int} {n : Int} (d : decode M.2.1 pc = .ok (.getfield 47, 3)) (ho : RX0 = M.2.2.2.2.1) (hh : h a = (0, n)) (kk : Gx Γ M (pc + 3) ls ((2, v a 13) :: st) v h t bc bs Q) : Gx Γ M pc ls ((2, a) :: st) v h t bc bs Q :=
  Gx_get (k := 0) (f := 13) (C := RX0) (T := TX0) (N := 54) d ho hh rfl rfl (by decide) in_X0 q198 rfl rfl rfl kk
theorem gf_X0_50_20 {n : Int} (d : decode M.2.1 pc = .ok (.getfield 50, 3)) (ho : RX0 = M.2.2.2.2.1) (hh : h 0 = (20, n)) (kk : Gx Γ M (pc + 3) ls ((2, 7) :: st) v h t bc bs Q) : Gx Γ M pc ls ((2, 0) :: st) v h t bc bs Q :=
  Gx_get (k := 20) (f := 14) (C := RX0) (T := TX0) (N := 54) d ho hh rfl rfl (by decide) in_X0 q199 rfl rfl rfl kk
theorem gf_X0_50_0 {a : Int} {n : Int} (d : decode M.2.1 pc = .ok (.getfield 50, 3)) (ho : RX0 = M.2.2.2.2.1) (hh : h a = (0, n)) (kk : Gx Γ M (pc + 3) ls ((2, v a 14) :: st) v h t bc bs Q) : Gx Γ M pc ls ((2, a) :: st) v h t bc bs Q :=
  Gx_get (k := 0) (f := 14) (C := RX0) (T := TX0) (N := 54) d ho hh rfl rfl (by decide) in_X0 q199 rfl rfl rfl kk
theorem gf_X0_53_20 {n : Int} (d : decode M.2.1 pc = .ok (.getfield 53, 3)) (ho : RX0 = M.2.2.2.2.1) (hh : h 0 = (20, n)) (kk : Gx Γ M (pc + 3) ls ((2, 8) :: st) v h t bc bs Q) : Gx Γ M pc ls ((2, 0) :: st) v h t bc bs Q :=
  Gx_get (k := 20) (f := 15) (C := RX0) (T := TX0) (N := 54) d ho hh rfl rfl (by decide) in_X0 q200 rfl rfl rfl kk
theorem gf_X0_53_0 {a : Int} {n : Int} (d : decode M.2.1 pc = .ok (.getfield 53, 3)) (ho : RX0 = M.2.2.2.2.1) (hh : h a = (0, n)) (kk : Gx Γ M (pc + 3) ls ((2, v a 15) :: st) v h t bc bs Q) : Gx Γ M pc ls ((2, a) :: st) v h t bc bs Q :=
  Gx_get (k := 0) (f := 15) (C := RX0) (T := TX0) (N := 54) d ho hh rfl rfl (by decide) in_X0 q200 rfl rfl rfl kk
theorem gf_X0_56_20 {n : Int} (d : decode M.2.1 pc = .ok (.getfield 56, 3)) (ho : RX0 = M.2.2.2.2.1) (hh : h 0 = (20, n)) (kk : Gx Γ M (pc + 3) ls ((2, 9) :: st) v h t bc bs Q) : Gx Γ M pc ls ((2, 0) :: st) v h t bc bs Q :=
  Gx_get (k := 20) (f := 16) (C := RX0) (T := TX0) (N := 54) d ho hh rfl rfl (by decide) in_X0 q201 rfl rfl rfl kk
theorem gf_X0_56_0 {a : Int} {n : Int} (d : decode M.2.1 pc = .ok (.getfield 56, 3)) (ho : RX0 = M.2.2.2.2.1) (hh : h a = (0, n)) (kk : Gx Γ M (pc + 3) ls ((2, v a 16) :: st) v h t bc bs Q) : Gx Γ M pc ls ((2, a) :: st) v h t bc bs Q :=
  Gx_get (k := 0) (f := 16) (C := RX0) (T := TX0) (N := 54) d ho hh rfl rfl (by decide) in_X0 q201 rfl rfl rfl kk
theorem gf_X0_59_20 {n : Int} (d : decode M.2.1 pc = .ok (.getfield 59, 3)) (ho : RX0 = M.2.2.2.2.1) (hh : h 0 = (20, n)) (kk : Gx Γ M (pc + 3) ls ((2, 10) :: st) v h t bc bs Q) : Gx Γ M pc ls ((2, 0) :: st) v h t bc bs Q :=
  Gx_get (k := 20) (f := 20) (C := RX0) (T := TX0) (N := 54) d ho hh rfl rfl (by decide) in_X0 q205 rfl rfl rfl kk
theorem gf_X0_59_0 {a : Int} {n : Int} (d : decode M.2.1 pc = .ok (.getfield 59, 3)) (ho : RX0 = M.2.2.2.2.1) (hh : h a = (0, n)) (kk : Gx Γ M (pc + 3) ls ((2, v a 20) :: st) v h t bc bs Q) : Gx Γ M pc ls ((2, a) :: st) v h t bc bs Q :=
  Gx_get (k := 0) (f := 20) (C := RX0) (T := TX0) (N := 54) d ho hh rfl rfl (by decide) in_X0 q205 rfl rfl rfl kk
theorem gf_X0_62_20 {n : Int} (d : decode M.2.1 pc = .ok (.getfield 62, 3)) (ho : RX0 = M.2.2.2.2.1) (hh : h 0 = (20, n)) (kk : Gx Γ M (pc + 3) ls ((2, 11) :: st) v h t bc bs Q) : Gx Γ M pc ls ((2, 0) :: st) v h t bc bs Q :=
  Gx_get (k := 20) (f := 23) (C := RX0) (T := TX0) (N := 54) d ho hh rfl rfl (by decide) in_X0 q208 rfl rfl rfl kk
theorem gf_X0_62_0 {a : Int} {n : Int} (d : decode M.2.1 pc = .ok (.getfield 62, 3)) (ho : RX0 = M.2.2.2.2.1) (hh : h a = (0, n)) (kk : Gx Γ M (pc + 3) ls ((2, v a 23) :: st) v h t bc bs Q) : Gx Γ M pc ls ((2, a) :: st) v h t bc bs Q :=
  Gx_get (k := 0) (f := 23) (C := RX0) (T := TX0) (N := 54) d ho hh rfl rfl (by decide) in_X0 q208 rfl rfl rfl kk
theorem gf_X0_65_20 {n : Int} (d : decode M.2.1 pc = .ok (.getfield 65, 3)) (ho : RX0 = M.2.2.2.2.1) (hh : h 0 = (20, n)) (kk : Gx Γ M (pc + 3) ls ((2, 12) :: st) v h t bc bs Q) : Gx Γ M pc ls ((2, 0) :: st) v h t bc bs Q :=
  Gx_get (k := 20) (f := 27) (C := RX0) (T := TX0) (N := 54) d ho hh rfl rfl (by decide) in_X0 q212 rfl rfl rfl kk
theorem gf_X0_65_0 {a : Int} {n : Int} (d : decode M.2.1 pc = .ok (.getfield 65, 3)) (ho : RX0 = M.2.2.2.2.1) (hh : h a = (0, n)) (kk : Gx Γ M (pc + 3) ls ((2, v a 27) :: st) v h t bc bs Q) : Gx Γ M pc ls ((2, a) :: st) v h t bc bs Q :=
  Gx_get (k := 0) (f := 27) (C := RX0) (T := TX0) (N := 54) d ho hh rfl rfl (by decide) in_X0 q212 rfl rfl rfl kk
theorem gf_X0_68_20 {n : Int} (d : decode M.2.1 pc = .ok (.getfield 68, 3)) (ho : RX0 = M.2.2.2.2.1) (hh : h 0 = (20, n)) (kk : Gx Γ M (pc + 3) ls ((2, 13) :: st) v h t bc bs Q) : Gx Γ M pc ls ((2, 0) :: st) v h t bc bs Q :=
  Gx_get (k := 20) (f := 28) (C := RX0) (T := TX0) (N := 54) d ho hh rfl rfl (by decide) in_X0 q213 rfl rfl rfl kk
theorem gf_X0_68_0 {a : Int} {n : Int} (d : decode M.2.1 pc = .ok (.getfield 68, 3)) (ho : RX0 = M.2.2.2.2.1) (hh : h a = (0, n)) (kk : Gx Γ M (pc + 3) ls ((2, v a 28) :: st) v h t bc bs Q) : Gx Γ M pc ls ((2, a) :: st) v h t bc bs Q :=
  Gx_get (k := 0) (f := 28) (C := RX0) (T := TX0) (N := 54) d ho hh rfl rfl (by decide) in_X0 q213 rfl rfl rfl kk
theorem gf_X0_71_20 {n : Int} (d : decode M.2.1 pc = .ok (.getfield 71, 3)) (ho : RX0 = M.2.2.2.2.1) (hh : h 0 = (20, n)) (kk : Gx Γ M (pc + 3) ls ((2, 14) :: st) v h t bc bs Q) : Gx Γ M pc ls ((2, 0) :: st) v h t bc bs Q :=
  Gx_get (k := 20) (f := 29) (C := RX0) (T := TX0) (N := 54) d ho hh rfl rfl (by decide) in_X0 q214 rfl rfl rfl kk
theorem gf_X0_71_0 {a : Int} {n : Int} (d : decode M.2.1 pc = .ok (.getfield 71, 3)) (ho : RX0 = M.2.2.2.2.1) (hh : h a = (0, n)) (kk : Gx Γ M (pc + 3) ls ((2, v a 29) :: st) v h t bc bs Q) : Gx Γ M pc ls ((2, a) :: st) v h t bc bs Q :=
  Gx_get (k := 0) (f := 29) (C := RX0) (T := TX0) (N := 54) d ho hh rfl rfl (by decide) in_X0 q214 rfl rfl rfl kk
theorem gf_X0_74_20 {n : Int} (d : decode M.2.1 pc = .ok (.getfield 74, 3)) (ho : RX0 = M.2.2.2.2.1) (hh : h 0 = (20, n)) (kk : Gx Γ M (pc + 3) ls ((2, 15) :: st) v h t bc bs Q) : Gx Γ M pc ls ((2, 0) :: st) v h t bc bs Q :=
  Gx_get (k := 20) (f := 30) (C := RX0) (T := TX0) (N := 54) d ho hh rfl rfl (by decide) in_X0 q215 rfl rfl rfl kk
theorem gf_X0_74_0 {a : Int} {n : Int} (d : decode M.2.1 pc = .ok (.getfield 74, 3)) (ho : RX0 = M.2.2.2.2.1) (hh : h a = (0, n)) (kk : Gx Γ M (pc + 3) ls ((2, v a 30) :: st) v h t bc bs Q) : Gx Γ M pc ls ((2, a) :: st) v h t bc bs Q :=
  Gx_get (k := 0) (f := 30) (C := RX0) (T := TX0) (N := 54) d ho hh rfl rfl (by decide) in_X0 q215 rfl rfl rfl kk
theorem gf_X0_79_20 {n : Int} (d : decode M.2.1 pc = .ok (.getfield 79, 3)) (ho : RX0 = M.2.2.2.2.1) (hh : h 0 = (20, n)) (kk : Gx Γ M (pc + 3) ls ((2, 16) :: st) v h t bc bs Q) : Gx Γ M pc ls ((2, 0) :: st) v h t bc bs Q :=
  Gx_get (k := 20) (f := 31) (C := RX0) (T := TX0) (N := 54) d ho hh rfl rfl (by decide) in_X0 q216 rfl rfl rfl kk
theorem gf_X0_79_0 {a : Int} {n : Int} (d : decode M.2.1 pc = .ok (.getfield 79, 3)) (ho : RX0 = M.2.2.2.2.1) (hh : h a = (0, n)) (kk : Gx Γ M (pc + 3) ls ((2, v a 31) :: st) v h t bc bs Q) : Gx Γ M pc ls ((2, a) :: st) v h t bc bs Q :=
  Gx_get (k := 0) (f := 31) (C := RX0) (T := TX0) (N := 54) d ho hh rfl rfl (by decide) in_X0 q216 rfl rfl rfl kk
theorem gf_X0_86_20 {n : Int} (d : decode M.2.1 pc = .ok (.getfield 86, 3)) (ho : RX0 = M.2.2.2.2.1) (hh : h 0 = (20, n)) (kk : Gx Γ M (pc + 3) ls ((2, 17) :: st) v h t bc bs Q) : Gx Γ M pc ls ((2, 0) :: st) v h t bc bs Q :=
  Gx_get (k := 20) (f := 33) (C := RX0) (T := TX0) (N := 54) d ho hh rfl rfl (by decide) in_X0 q218 rfl rfl rfl kk
theorem gf_X0_86_0 {a : Int} {n : Int} (d : decode M.2.1 pc = .ok (.getfield 86, 3)) (ho : RX0 = M.2.2.2.2.1) (hh : h a = (0, n)) (kk : Gx Γ M (pc + 3) ls ((2, v a 33) :: st) v h t bc bs Q) : Gx Γ M pc ls ((2, a) :: st) v h t bc bs Q :=
  Gx_get (k := 0) (f := 33) (C := RX0) (T := TX0) (N := 54) d ho hh rfl rfl (by decide) in_X0 q218 rfl rfl rfl kk
theorem gf_X0_90_20 {n : Int} (d : decode M.2.1 pc = .ok (.getfield 90, 3)) (ho : RX0 = M.2.2.2.2.1) (hh : h 0 = (20, n)) (kk : Gx Γ M (pc + 3) ls ((2, 23) :: st) v h t bc bs Q) : Gx Γ M pc ls ((2, 0) :: st) v h t bc bs Q :=
  Gx_get (k := 20) (f := 34) (C := RX0) (T := TX0) (N := 54) d ho hh rfl rfl (by decide) in_X0 q219 rfl rfl rfl kk
theorem gf_X0_90_0 {a : Int} {n : Int} (d : decode M.2.1 pc = .ok (.getfield 90, 3)) (ho : RX0 = M.2.2.2.2.1) (hh : h a = (0, n)) (kk : Gx Γ M (pc + 3) ls ((2, v a 34) :: st) v h t bc bs Q) : Gx Γ M pc ls ((2, a) :: st) v h t bc bs Q :=
  Gx_get (k := 0) (f := 34) (C := RX0) (T := TX0) (N := 54) d ho hh rfl rfl (by decide) in_X0 q219 rfl rfl rfl kk
theorem gf_X0_93_20 {n : Int} (d : decode M.2.1 pc = .ok (.getfield 93, 3)) (ho : RX0 = M.2.2.2.2.1) (hh : h 0 = (20, n)) (kk : Gx Γ M (pc + 3) ls ((0, v 0 35) :: st) v h t bc bs Q) : Gx Γ M pc ls ((2, 0) :: st) v h t bc bs Q :=
  Gx_get (k := 20) (f := 35) (C := RX0) (T := TX0) (N := 54) d ho hh rfl rfl (by decide) in_X0 q220 rfl rfl rfl kk
theorem gf_X0_93_0 {a : Int} {n : Int} (d : decode M.2.1 pc = .ok (.getfield 93, 3)) (ho : RX0 = M.2.2.2.2.1) (hh : h a = (0, n)) (kk : Gx Γ M (pc + 3) ls ((0, v a 35) :: st) v h t bc bs Q) : Gx Γ M pc ls ((2, a) :: st) v h t bc bs Q :=
  Gx_get (k := 0) (f := 35) (C := RX0) (T := TX0) (N := 54) d ho hh rfl rfl (by decide) in_X0 q220 rfl rfl rfl kk
theorem gf_X0_96_20 {n : Int} (d : decode M.2.1 pc = .ok (.getfield 96, 3)) (ho : RX0 = M.2.2.2.2.1) (hh : h 0 = (20, n)) (kk : Gx Γ M (pc + 3) ls ((0, v 0 36) :: st) v h t bc bs Q) : Gx Γ M pc ls ((2, 0) :: st) v h t bc bs Q :=
  Gx_get (k := 20) (f := 36) (C := RX0) (T := TX0) (N := 54) d ho hh rfl rfl (by decide) in_X0 q221 rfl rfl rfl kk
theorem gf_X0_96_0 {a : Int} {n : Int} (d : decode M.2.1 pc = .ok (.getfield 96, 3)) (ho : RX0 = M.2.2.2.2.1) (hh : h a = (0, n)) (kk : Gx Γ M (pc + 3) ls ((0, v a 36) :: st) v h t bc bs Q) : Gx Γ M pc ls ((2, a) :: st) v h t bc bs Q :=
  Gx_get (k := 0) (f := 36) (C := RX0) (T := TX0) (N := 54) d ho hh rfl rfl (by decide) in_X0 q221 rfl rfl rfl kk
theorem gf_X0_99_20 {n : Int} (d : decode M.2.1 pc = .ok (.getfield 99, 3)) (ho : RX0 = M.2.2.2.2.1) (hh : h 0 = (20, n)) (kk : Gx Γ M (pc + 3) ls ((2, 29) :: st) v h t bc bs Q) : Gx Γ M pc ls ((2, 0) :: st) v h t bc bs Q :=
  Gx_get (k := 20) (f := 37) (C := RX0) (T := TX0) (N := 54) d ho hh rfl rfl (by decide) in_X0 q222 rfl rfl rfl kk
theorem gf_X0_99_0 {a : Int} {n : Int} (d : decode M.2.1 pc = .ok (.getfield 99, 3)) (ho : RX0 = M.2.2.2.2.1) (hh : h a = (0, n)) (kk : Gx Γ M (pc + 3) ls ((2, v a 37) :: st) v h t bc bs Q) : Gx Γ M pc ls ((2, a) :: st) v h t bc bs Q :=
  Gx_get (k := 0) (f := 37) (C := RX0) (T := TX0) (N := 54) d ho hh rfl rfl (by decide) in_X0 q222 rfl rfl rfl kk
theorem gf_X0_102_20 {n : Int} (d : decode M.2.1 pc = .ok (.getfield 102, 3)) (ho : RX0 = M.2.2.2.2.1) (hh : h 0 = (20, n)) (kk : Gx Γ M (pc + 3) ls ((2, 30) :: st) v h t bc bs Q) : Gx Γ M pc ls ((2, 0) :: st) v h t bc bs Q :=
  Gx_get (k := 20) (f := 38) (C := RX0) (T := TX0) (N := 54) d ho hh rfl rfl (by decide) in_X0 q223 rfl rfl rfl kk
theorem gf_X0_102_0 {a : Int} {n : Int} (d : decode M.2.1 pc = .ok (.getfield 102, 3)) (ho : RX0 = M.2.2.2.2.1) (hh : h a = (0, n)) (kk : Gx Γ M (pc + 3) ls ((2, v a 38) :: st) v h t bc bs Q) : Gx Γ M pc ls ((2, a) :: st) v h t bc bs Q :=
  Gx_get (k := 0) (f := 38) (C := RX0) (T := TX0) (N := 54) d ho hh rfl rfl (by decide) in_X0 q223 rfl rfl rfl kk
theorem gf_X0_106_20 {n : Int} (d : decode M.2.1 pc = .ok (.getfield 106, 3)) (ho : RX0 = M.2.2.2.2.1) (hh : h 0 = (20, n)) (kk : Gx Γ M (pc + 3) ls ((2, 31) :: st) v h t bc bs Q) : Gx Γ M pc ls ((2, 0) :: st) v h t bc bs Q :=
  Gx_get (k := 20) (f := 39) (C := RX0) (T := TX0) (N := 54) d ho hh rfl rfl (by decide) in_X0 q224 rfl rfl rfl kk
theorem gf_X0_106_0 {a : Int} {n : Int} (d : decode M.2.1 pc = .ok (.getfield 106, 3)) (ho : RX0 = M.2.2.2.2.1) (hh : h a = (0, n)) (kk : Gx Γ M (pc + 3) ls ((2, v a 39) :: st) v h t bc bs Q) : Gx Γ M pc ls ((2, a) :: st) v h t bc bs Q :=
  Gx_get (k := 0) (f := 39) (C := RX0) (T := TX0) (N := 54) d ho hh rfl rfl (by decide) in_X0 q224 rfl rfl rfl kk
theorem gf_X0_110_20 {n : Int} (d : decode M.2.1 pc = .ok (.getfield 110, 3)) (ho : RX0 = M.2.2.2.2.1) (hh : h 0 = (20, n)) (kk : Gx Γ M (pc + 3) ls ((2, 32) :: st) v h t bc bs Q) : Gx Γ M pc ls ((2, 0) :: st) v h t bc bs Q :=
  Gx_get (k := 20) (f := 40) (C := RX0) (T := TX0) (N := 54) d ho hh rfl rfl (by decide) in_X0 q225 rfl rfl rfl kk
theorem gf_X0_110_0 {a : Int} {n : Int} (d : decode M.2.1 pc = .ok (.getfield 110, 3)) (ho : RX0 = M.2.2.2.2.1) (hh : h a = (0, n)) (kk : Gx Γ M (pc + 3) ls ((2, v a 40) :: st) v h t bc bs Q) : Gx Γ M pc ls ((2, a) :: st) v h t bc bs Q :=
  Gx_get (k := 0) (f := 40) (C := RX0) (T := TX0) (N := 54) d ho hh rfl rfl (by decide) in_X0 q225 rfl rfl rfl kk
theorem gf_X0_113_20 {n : Int} (d : decode M.2.1 pc = .ok (.getfield 113, 3)) (ho : RX0 = M.2.2.2.2.1) (hh : h 0 = (20, n)) (kk : Gx Γ M (pc + 3) ls ((2, 33) :: st) v h t bc bs Q) : Gx Γ M pc ls ((2, 0) :: st) v h t bc bs Q :=
  Gx_get (k := 20) (f := 49) (C := RX0) (T := TX0) (N := 54) d ho hh rfl rfl (by decide) in_X0 q234 rfl rfl rfl kk
theorem gf_X0_113_0 {a : Int} {n : Int} (d : decode M.2.1 pc = .ok (.getfield 113, 3)) (ho : RX0 = M.2.2.2.2.1) (hh : h a = (0, n)) (kk : Gx Γ M (pc + 3) ls ((2, v a 49) :: st) v h t bc bs Q) : Gx Γ M pc ls ((2, a) :: st) v h t bc bs Q :=
  Gx_get (k := 0) (f := 49) (C := RX0) (T := TX0) (N := 54) d ho hh rfl rfl (by decide) in_X0 q234 rfl rfl rfl kk
theorem gf_X0_117_20 {n : Int} (d : decode M.2.1 pc = .ok (.getfield 117, 3)) (ho : RX0 = M.2.2.2.2.1) (hh : h 0 = (20, n)) (kk : Gx Γ M (pc + 3) ls ((2, 34) :: st) v h t bc bs Q) : Gx Γ M pc ls ((2, 0) :: st) v h t bc bs Q :=
  Gx_get (k := 20) (f := 50) (C := RX0) (T := TX0) (N := 54) d ho hh rfl rfl (by decide) in_X0 q235 rfl rfl rfl kk
theorem gf_X0_117_0 {a : Int} {n : Int} (d : decode M.2.1 pc = .ok (.getfield 117, 3)) (ho : RX0 = M.2.2.2.2.1) (hh : h a = (0, n)) (kk : Gx Γ M (pc + 3) ls ((2, v a 50) :: st) v h t bc bs Q) : Gx Γ M pc ls ((2, a) :: st) v h t bc bs Q :=
  Gx_get (k := 0) (f := 50) (C := RX0) (T := TX0) (N := 54) d ho hh rfl rfl (by decide) in_X0 q235 rfl rfl rfl kk
theorem gf_X0_120_20 {n : Int} (d : decode M.2.1 pc = .ok (.getfield 120, 3)) (ho : RX0 = M.2.2.2.2.1) (hh : h 0 = (20, n)) (kk : Gx Γ M (pc + 3) ls ((2, 35) :: st) v h t bc bs Q) : Gx Γ M pc ls ((2, 0) :: st) v h t bc bs Q :=
  Gx_get (k := 20) (f := 51) (C := RX0) (T := TX0) (N := 54) d ho hh rfl rfl (by decide) in_X0 q236 rfl rfl rfl kk
theorem gf_X0_120_0 {a : Int} {n : Int} (d : decode M.2.1 pc = .ok (.getfield 120, 3)) (ho : RX0 = M.2.2.2.2.1) (hh : h a = (0, n)) (kk : Gx Γ M (pc + 3) ls ((2, v a 51) :: st) v h t bc bs Q) : Gx Γ M pc ls ((2, a) :: st) v h t bc bs Q :=
  Gx_get (k := 0) (f := 51) (C := RX0) (T := TX0) (N := 54) d ho hh rfl rfl (by decide) in_X0 q236 rfl rfl rfl kk
theorem gf_X0_123_20 {n : Int} (d : decode M.2.1 pc = .ok (.getfield 123, 3)) (ho : RX0 = M.2.2.2.2.1) (hh : h 0 = (20, n)) (kk : Gx Γ M (pc + 3) ls ((2, 36) :: st) v h t bc bs Q) : Gx Γ M pc ls ((2, 0) :: st) v h t bc bs Q :=
  Gx_get (k := 20) (f := 52) (C := RX0) (T := TX0) (N := 54) d ho hh rfl rfl (by decide) in_X0 q237 rfl rfl rfl kk
theorem gf_X0_123_0 {a : Int} {n : Int} (d : decode M.2.1 pc = .ok (.getfield 123, 3)) (ho : RX0 = M.2.2.2.2.1) (hh : h a = (0, n)) (kk : Gx Γ M (pc + 3) ls ((2, v a 52) :: st) v h t bc bs Q) : Gx Γ M pc ls ((2, a) :: st) v h t bc bs Q :=
  Gx_get (k := 0) (f := 52) (C := RX0) (T := TX0) (N := 54) d ho hh rfl rfl (by decide) in_X0 q237 rfl rfl rfl kk
theorem gf_X0_126_20 {n : Int} (d : decode M.2.1 pc = .ok (.getfield 126, 3)) (ho : RX0 = M.2.2.2.2.1) (hh : h 0 = (20, n)) (kk : Gx Γ M (pc + 3) ls ((2, v 0 8) :: st) v h t bc bs Q) : Gx Γ M pc ls ((2, 0) :: st) v h t bc bs Q :=
  Gx_get (k := 20) (f := 8) (C := RX0) (T := TX0) (N := 54) d ho hh rfl rfl (by decide) in_X0 q193 rfl rfl rfl kk
theorem gf_X0_126_0 {a : Int} {n : Int} (d : decode M.2.1 pc = .ok (.getfield 126, 3)) (ho : RX0 = M.2.2.2.2.1) (hh : h a = (0, n)) (kk : Gx Γ M (pc + 3) ls ((2, v a 8) :: st) v h t bc bs Q) : Gx Γ M pc ls ((2, a) :: st) v h t bc bs Q :=
  Gx_get (k := 0) (f := 8) (C := RX0) (T := TX0) (N := 54) d ho hh rfl rfl (by decide) in_X0 q193 rfl rfl rfl kk
theorem gf_X0_167_20 {n : Int} (d : decode M.2.1 pc = .ok (.getfield 167, 3)) (ho : RX0 = M.2.2.2.2.1) (hh : h 0 = (20, n)) (kk : Gx Γ M (pc + 3) ls ((0, v 0 18) :: st) v h t bc bs Q) : Gx Γ M pc ls ((2, 0) :: st) v h t bc bs Q :=
  Gx_get (k := 20) (f := 18) (C := RX0) (T := TX0) (N := 54) d ho hh rfl rfl (by decide) in_X0 q203 rfl rfl rfl kk
theorem gf_X0_167_0 {a : Int} {n : Int} (d : decode M.2.1 pc = .ok (.getfield 167, 3)) (ho : RX0 = M.2.2.2.2.1) (hh : h a = (0, n)) (kk : Gx Γ M (pc + 3) ls ((0, v a 18) :: st) v h t bc bs Q) : Gx Γ M pc ls ((2, a) :: st) v h t bc bs Q :=
  Gx_get (k := 0) (f := 18) (C := RX0) (T := TX0) (N := 54) d ho hh rfl rfl (by decide) in_X0 q203 rfl rfl rfl kk
theorem gf_X0_170_20 {n : Int} (d : decode M.2.1 pc = .ok (.getfield 170, 3)) (ho : RX0 = M.2.2.2.2.1) (hh : h 0 = (20, n)) (kk : Gx Γ M (pc + 3) ls ((2, v 0 17) :: st) v h t bc bs Q) : Gx Γ M pc ls ((2, 0) :: st) v h t bc bs Q :=
  Gx_get (k := 20) (f := 17) (C := RX0) (T := TX0) (N := 54) d ho hh rfl rfl (by decide) in_X0 q202 rfl rfl rfl kk
theorem gf_X0_170_0 {a : Int} {n : Int} (d : decode M.2.1 pc = .ok (.getfield 170, 3)) (ho : RX0 = M.2.2.2.2.1) (hh : h a = (0, n)) (kk : Gx Γ M (pc + 3) ls ((2, v a 17) :: st) v h t bc bs Q) : Gx Γ M pc ls ((2, a) :: st) v h t bc bs Q :=
  Gx_get (k := 0) (f := 17) (C := RX0) (T := TX0) (N := 54) d ho hh rfl rfl (by decide) in_X0 q202 rfl rfl rfl kk
theorem gf_X0_177_20 {n : Int} (d : decode M.2.1 pc = .ok (.getfield 177, 3)) (ho : RX0 = M.2.2.2.2.1) (hh : h 0 = (20, n)) (kk : Gx Γ M (pc + 3) ls ((0, v 0 19) :: st) v h t bc bs Q) : Gx Γ M pc ls ((2, 0) :: st) v h t bc bs Q :=
  Gx_get (k := 20) (f := 19) (C := RX0) (T := TX0) (N := 54) d ho hh rfl rfl (by decide) in_X0 q204 rfl rfl rfl kk
theorem gf_X0_177_0 {a : Int} {n : Int} (d : decode M.2.1 pc = .ok (.getfield 177, 3)) (ho : RX0 = M.2.2.2.2.1) (hh : h a = (0, n)) (kk : Gx Γ M (pc + 3) ls ((0, v a 19) :: st) v h t bc bs Q) : Gx Γ M pc ls ((2, a) :: st) v h t bc bs Q :=
  Gx_get (k := 0) (f := 19) (C := RX0) (T := TX0) (N := 54) d ho hh rfl rfl (by decide) in_X0 q204 rfl rfl rfl kk
theorem gf_X0_196_20 {n : Int} (d : decode M.2.1 pc = .ok (.getfield 196, 3)) (ho : RX0 = M.2.2.2.2.1) (hh : h 0 = (20, n)) (kk : Gx Γ M (pc + 3) ls ((0, v 0 21) :: st) v h t bc bs Q) : Gx Γ M pc ls ((2, 0) :: st) v h t bc bs Q :=
  Gx_get (k := 20) (f := 21) (C := RX0) (T := TX0) (N := 54) d ho hh rfl rfl (by decide) in_X0 q206 rfl rfl rfl kk
theorem gf_X0_196_0 {a : Int} {n : Int} (d : decode M.2.1 pc = .ok (.getfield 196, 3)) (ho : RX0 = M.2.2.2.2.1) (hh : h a = (0, n)) (kk : Gx Γ M (pc + 3) ls ((0, v a 21) :: st) v h t bc bs Q) : Gx Γ M pc ls ((2, a) :: st) v h t bc bs Q :=
  Gx_get (k := 0) (f := 21) (C := RX0) (T := TX0) (N := 54) d ho hh rfl rfl (by decide) in_X0 q206 rfl rfl rfl kk
theorem gf_X0_223_20 {n : Int} (d : decode M.2.1 pc = .ok (.getfield 223, 3)) (ho : RX0 = M.2.2.2.2.1) (hh : h 0 = (20, n)) (kk : Gx Γ M (pc + 3) ls ((0, v 0 26) :: st) v h t bc bs Q) : Gx Γ M pc ls ((2, 0) :: st) v h t bc bs Q :=
  Gx_get (k := 20) (f := 26) (C := RX0) (T := TX0) (N := 54) d ho hh rfl rfl (by decide) in_X0 q211 rfl rfl rfl kk
theorem gf_X0_223_0 {a : Int} {n : Int} (d : decode M.2.1 pc = .ok (.getfield 223, 3)) (ho : RX0 = M.2.2.2.2.1) (hh : h a = (0, n)) (kk : Gx Γ M (pc + 3) ls ((0, v a 26) :: st) v h t bc bs Q) : Gx Γ M pc ls ((2, a) :: st) v h t bc bs Q :=
  Gx_get (k := 0) (f := 26) (C := RX0) (T := TX0) (N := 54) d ho hh rfl rfl (by decide) in_X0 q211 rfl rfl rfl kk
theorem gf_X0_226_20 {n : Int} (d : decode M.2.1 pc = .ok (.getfield 226, 3)) (ho : RX0 = M.2.2.2.2.1) (hh : h 0 = (20, n)) (kk : Gx Γ M (pc + 3) ls ((0, v 0 24) :: st) v h t bc bs Q) : Gx Γ M pc ls ((2, 0) :: st) v h t bc bs Q :=
  Gx_get (k := 20) (f := 24) (C := RX0) (T := TX0) (N := 54) d ho hh rfl rfl (by decide) in_X0 q209 rfl rfl rfl kk
theorem gf_X0_226_0 {a : Int} {n : Int} (d : decode M.2.1 pc = .ok (.getfield 226, 3)) (ho : RX0 = M.2.2.2.2.1) (hh : h a = (0, n)) (kk : Gx Γ M (pc + 3) ls ((0, v a 24) :: st) v h t bc bs Q) : Gx Γ M pc ls ((2, a) :: st) v h t bc bs Q :=
  Gx_get (k := 0) (f := 24) (C := RX0) (T := TX0) (N := 54) d ho hh rfl rfl (by decide) in_X0 q209 rfl rfl rfl kk
theorem gf_X0_229_20 {n : Int} (d : decode M.2.1 pc = .ok (.getfield 229, 3)) (ho : RX0 = M.2.2.2.2.1) (hh : h 0 = (20, n)) (kk : Gx Γ M (pc + 3) ls ((0, v 0 25) :: st) v h t bc bs Q) : Gx Γ M pc ls ((2, 0) :: st) v h t bc bs Q :=
  Gx_get (k := 20) (f := 25) (C := RX0) (T := TX0) (N := 54) d ho hh rfl rfl (by decide) in_X0 q210 rfl rfl rfl kk
theorem gf_X0_229_0 {a : Int} {n : Int} (d : decode M.2.1 pc = .ok (.getfield 229, 3)) (ho : RX0 = M.2.2.2.2.1) (hh : h a = (0, n)) (kk : Gx Γ M (pc + 3) ls ((0, v a 25) :: st) v h t bc bs Q) : Gx Γ M pc ls ((2, a) :: st) v h t bc bs Q :=
  Gx_get (k := 0) (f := 25) (C := RX0) (T := TX0) (N := 54) d ho hh rfl rfl (by decide) in_X0 q210 rfl rfl rfl kk
theorem gf_X0_232_20 {n : Int} (d : decode M.2.1 pc = .ok (.getfield 232, 3)) (ho : RX0 = M.2.2.2.2.1) (hh : h 0 = (20, n)) (kk : Gx Γ M (pc + 3) ls ((2, v 0 22) :: st) v h t bc bs Q) : Gx Γ M pc ls ((2, 0) :: st) v h t bc bs Q :=
  Gx_get (k := 20) (f := 22) (C := RX0) (T := TX0) (N := 54) d ho hh rfl rfl (by decide) in_X0 q207 rfl rfl rfl kk
theorem gf_X0_232_0 {a : Int} {n : Int} (d : decode M.2.1 pc = .ok (.getfield 232, 3)) (ho : RX0 = M.2.2.2.2.1) (hh : h a = (0, n)) (kk : Gx Γ M (pc + 3) ls ((2, v a 22) :: st) v h t bc bs Q) : Gx Γ M pc ls ((2, a) :: st) v h t bc bs Q :=
  Gx_get (k := 0) (f := 22) (C := RX0) (T := TX0) (N := 54) d ho hh rfl rfl (by decide) in_X0 q207 rfl rfl rfl kk
theorem gf_X0_267_20 {n : Int} (d : decode M.2.1 pc = .ok (.getfield 267, 3)) (ho : RX0 = M.2.2.2.2.1) (hh : h 0 = (20, n)) (kk : Gx Γ M (pc + 3) ls ((0, v 0 10) :: st) v h t bc bs Q) : Gx Γ M pc ls ((2, 0) :: st) v h t bc bs Q :=
  Gx_get (k := 20) (f := 10) (C := RX0) (T := TX0) (N := 54) d ho hh rfl rfl (by decide) in_X0 q195 rfl rfl rfl kk
theorem gf_X0_267_0 {a : Int} {n : Int} (d : decode M.2.1 pc = .ok (.getfield 267, 3)) (ho : RX0 = M.2.2.2.2.1) (hh : h a = (0, n)) (kk : Gx Γ M (pc + 3) ls ((0, v a 10) :: st) v h t bc bs Q) : Gx Γ M pc ls ((2, a) :: st) v h t bc bs Q :=
  Gx_get (k := 0) (f := 10) (C := RX0) (T := TX0) (N := 54) d ho hh rfl rfl (by decide) in_X0 q195 rfl rfl rfl kk
theorem gf_X0_270_20 {n : Int} (d : decode M.2.1 pc = .ok (.getfield 270, 3)) (ho : RX0 = M.2.2.2.2.1) (hh : h 0 = (20, n)) (kk : Gx Γ M (pc + 3) ls ((0, v 0 11) :: st) v h t bc bs Q) : Gx Γ M pc ls ((2, 0) :: st) v h t bc bs Q :=
  Gx_get (k := 20) (f := 11) (C := RX0) (T := TX0) (N := 54) d ho hh rfl rfl (by decide) in_X0 q196 rfl rfl rfl kk
theorem gf_X0_270_0 {a : Int} {n : Int} (d : decode M.2.1 pc = .ok (.getfield 270, 3)) (ho : RX0 = M.2.2.2.2.1) (hh : h a = (0, n)) (kk : Gx Γ M (pc + 3) ls ((0, v a 11) :: st) v h t bc bs Q) : Gx Γ M pc ls ((2, a) :: st) v h t bc bs Q :=
  Gx_get (k := 0) (f := 11) (C := RX0) (T := TX0) (N := 54) d ho hh rfl rfl (by decide) in_X0 q196 rfl rfl rfl kk
theorem gf_X0_273_20 {n : Int} (d : decode M.2.1 pc = .ok (.getfield 273, 3)) (ho : RX0 = M.2.2.2.2.1) (hh : h 0 = (20, n)) (kk : Gx Γ M (pc + 3) ls ((0, v 0 12) :: st) v h t bc bs Q) : Gx Γ M pc ls ((2, 0) :: st) v h t bc bs Q :=
  Gx_get (k := 20) (f := 12) (C := RX0) (T := TX0) (N := 54) d ho hh rfl rfl (by decide) in_X0 q197 rfl rfl rfl kk
theorem gf_X0_273_0 {a : Int} {n : Int} (d : decode M.2.1 pc = .ok (.getfield 273, 3)) (ho : RX0 = M.2.2.2.2.1) (hh : h a = (0, n)) (kk : Gx Γ M (pc + 3) ls ((0, v a 12) :: st) v h t bc bs Q) : Gx Γ M pc ls ((2, a) :: st) v h t bc bs Q :=
  Gx_get (k := 0) (f := 12) (C := RX0) (T := TX0) (N := 54) d ho hh rfl rfl (by decide) in_X0 q197 rfl rfl rfl kk
theorem gf_X0_276_20 {n : Int} (d : decode M.2.1 pc = .ok (.getfield 276, 3)) (ho : RX0 = M.2.2.2.2.1) (hh : h 0 = (20, n)) (kk : Gx Γ M (pc + 3) ls ((0, v 0 32) :: st) v h t bc bs Q) : Gx Γ M pc ls ((2, 0) :: st) v h t bc bs Q :=
  Gx_get (k := 20) (f := 32) (C := RX0) (T := TX0) (N := 54) d ho hh rfl rfl (by decide) in_X0 q217 rfl rfl rfl kk
theorem gf_X0_276_0 {a : Int} {n : Int} (d : decode M.2.1 pc = .ok (.getfield 276, 3)) (ho : RX0 = M.2.2.2.2.1) (hh : h a = (0, n)) (kk : Gx Γ M (pc + 3) ls ((0, v a 32) :: st) v h t bc bs Q) : Gx Γ M pc ls ((2, a) :: st) v h t bc bs Q :=
  Gx_get (k := 0) (f := 32) (C := RX0) (T := TX0) (N := 54) d ho hh rfl rfl (by decide) in_X0 q217 rfl rfl rfl kk
theorem gf_X0_279_21 {a : Int} {n : Int} (d : decode M.2.1 pc = .ok (.getfield 279, 3)) (ho : RX0 = M.2.2.2.2.1) (hh : h a = (21, n)) (kk : Gx Γ M (pc + 3) ls ((0, v a 2) :: st) v h t bc bs Q) : Gx Γ M pc ls ((2, a) :: st) v h t bc bs Q :=
  Gx_getN (k := 21) (f := 2) (C := RX1) (T := TX1) (N := 8) d ho hh rfl rfl (by decide) in_X1 q156 rfl rfl rfl kk
theorem gf_X0_279_1 {a : Int} {n : Int} (d : decode M.2.1 pc = .ok (.getfield 279, 3)) (ho : RX0 = M.2.2.2.2.1) (hh : h a = (1, n)) (kk : Gx Γ M (pc + 3) ls ((0, v a 2) :: st) v h t bc bs Q) : Gx Γ M pc ls ((2, a) :: st) v h t bc bs Q :=
  Gx_getN (k := 1) (f := 2) (C := RX1) (T := TX1) (N := 8) d ho hh rfl rfl (by decide) in_X1 q156 rfl rfl rfl kk
theorem gf_X0_282_21 {a : Int} {n : Int} (d : decode M.2.1 pc = .ok (.getfield 282, 3)) (ho : RX0 = M.2.2.2.2.1) (hh : h a = (21, n)) (kk : Gx Γ M (pc + 3) ls ((2, a + 2) :: st) v h t bc bs Q) : Gx Γ M pc ls ((2, a) :: st) v h t bc bs Q :=
  Gx_getN (k := 21) (f := 1) (C := RX1) (T := TX1) (N := 8) d ho hh rfl rfl (by decide) in_X1 q154 rfl rfl rfl kk
theorem gf_X0_282_1 {a : Int} {n : Int} (d : decode M.2.1 pc = .ok (.getfield 282, 3)) (ho : RX0 = M.2.2.2.2.1) (hh : h a = (1, n)) (kk : Gx Γ M (pc + 3) ls ((2, v a 1) :: st) v h t bc bs Q) : Gx Γ M pc ls ((2, a) :: st) v h t bc bs Q :=
  Gx_getN (k := 1) (f := 1) (C := RX1) (T := TX1) (N := 8) d ho hh rfl rfl (by decide) in_X1 q154 rfl rfl rfl kk
theorem gf_X0_288_21 {a : Int} {n : Int} (d : decode M.2.1 pc = .ok (.getfield 288, 3)) (ho : RX0 = M.2.2.2.2.1) (hh : h a = (21, n)) (kk : Gx Γ M (pc + 3) ls ((2, a + 1) :: st) v h t bc bs Q) : Gx Γ M pc ls ((2, a) :: st) v h t bc bs Q :=
  Gx_getN (k := 21) (f := 0) (C := RX1) (T := TX1) (N := 8) d ho hh rfl rfl (by decide) in_X1 q152 rfl rfl rfl kk
theorem gf_X0_288_1 {a : Int} {n : Int} (d : decode M.2.1 pc = .ok (.getfield 288, 3)) (ho : RX0 = M.2.2.2.2.1) (hh : h a = (1, n)) (kk : Gx Γ M (pc + 3) ls ((2, v a 0) :: st) v h t bc bs Q) : Gx Γ M pc ls ((2, a) :: st) v h t bc bs Q :=
  Gx_getN (k := 1) (f := 0) (C := RX1) (T := TX1) (N := 8) d ho hh rfl rfl (by decide) in_X1 q152 rfl rfl rfl kk
theorem gf_X0_313_6 {a : Int} {n : Int} (d : decode M.2.1 pc = .ok (.getfield 313, 3)) (ho : RX0 = M.2.2.2.2.1) (hh : h a = (6, n)) (kk : Gx Γ M (pc + 3) ls ((0, v a 3) :: st) v h t bc bs Q) : Gx Γ M pc ls ((2, a) :: st) v h t bc bs Q :=
  Gx_getN (k := 6) (f := 3) (C := RX7) (T := TX7) (N := 4) d ho hh rfl rfl (by decide) in_X7 q662 rfl rfl rfl kk
theorem gf_X0_316_7 {a : Int} {n : Int} (d : decode M.2.1 pc = .ok (.getfield 316, 3)) (ho : RX0 = M.2.2.2.2.1) (hh : h a = (7, n)) (kk : Gx Γ M (pc + 3) ls ((0, v a 3) :: st) v h t bc bs Q) : Gx Γ M pc ls ((2, a) :: st) v h t bc bs Q :=
  Gx_getN (k := 7) (f := 3) (C := RX8) (T := TX8) (N := 4) d ho hh rfl rfl (by decide) in_X8 q676 rfl rfl rfl kk
theorem gf_X0_321_8 {a : Int} {n : Int} (d : decode M.2.1 pc = .ok (.getfield 321, 3)) (ho : RX0 = M.2.2.2.2.1) (hh : h a = (8, n)) (kk : Gx Γ M (pc + 3) ls ((0, v a 0) :: st) v h t bc bs Q) : Gx Γ M pc ls ((2, a) :: st) v h t bc bs Q :=
  Gx_getN (k := 8) (f := 0) (C := RX9) (T := TX9) (N := 3) d ho hh rfl rfl (by decide) in_X9 q705 rfl rfl rfl kk
theorem gf_X0_324_8 {a : Int} {n : Int} (d : decode M.2.1 pc = .ok (.getfield 324, 3)) (ho : RX0 = M.2.2.2.2.1) (hh : h a = (8, n)) (kk : Gx Γ M (pc + 3) ls ((0, v a 1) :: st) v h t bc bs Q) : Gx Γ M pc ls ((2, a) :: st) v h t bc bs Q :=
  Gx_getN (k := 8) (f := 1) (C := RX9) (T := TX9) (N := 3) d ho hh rfl rfl (by decide) in_X9 q706 rfl rfl rfl kk
theorem gf_X0_327_8 {a : Int} {n : Int} (d : decode M.2.1 pc = .ok (.getfield 327, 3)) (ho : RX0 = M.2.2.2.2.1) (hh : h a = (8, n)) (kk : Gx Γ M (pc + 3) ls ((0, v a 2) :: st) v h t bc bs Q) : Gx Γ M pc ls ((2, a) :: st) v h t bc bs Q :=
  Gx_getN (k := 8) (f := 2) (C := RX9) (T := TX9) (N := 3) d ho hh rfl rfl (by decide) in_X9 q708 rfl rfl rfl kk
theorem gf_X0_352_21 {a : Int} {n : Int} (d : decode M.2.1 pc = .ok (.getfield 352, 3)) (ho : RX0 = M.2.2.2.2.1) (hh : h a = (21, n)) (kk : Gx Γ M (pc + 3) ls ((2, a + 3) :: st) v h t bc bs Q) : Gx Γ M pc ls ((2, a) :: st) v h t bc bs Q :=
  Gx_getN (k := 21) (f := 3) (C := RX1) (T := TX1) (N := 8) d ho hh rfl rfl (by decide) in_X1 q158 rfl rfl rfl kk
theorem gf_X0_352_1 {a : Int} {n : Int} (d : decode M.2.1 pc = .ok (.getfield 352, 3)) (ho : RX0 = M.2.2.2.2.1) (hh : h a = (1, n)) (kk : Gx Γ M (pc + 3) ls ((2, v a 3) :: st) v h t bc bs Q) : Gx Γ M pc ls ((2, a) :: st) v h t bc bs Q :=
  Gx_getN (k := 1) (f := 3) (C := RX1) (T := TX1) (N := 8) d ho hh rfl rfl (by decide) in_X1 q158 rfl rfl rfl kk
theorem gf_X0_374_21 {a : Int} {n : Int} (d : decode M.2.1 pc = .ok (.getfield 374, 3)) (ho : RX0 = M.2.2.2.2.1) (hh : h a = (21, n)) (kk : Gx Γ M (pc + 3) ls ((0, v a 6) :: st) v h t bc bs Q) : Gx Γ M pc ls ((2, a) :: st) v h t bc bs Q :=
  Gx_getN (k := 21) (f := 6) (C := RX1) (T := TX1) (N := 8) d ho hh rfl rfl (by decide) in_X1 q163 rfl rfl rfl kk
theorem gf_X0_374_1 {a : Int} {n : Int} (d : decode M.2.1 pc = .ok (.getfield 374, 3)) (ho : RX0 = M.2.2.2.2.1) (hh : h a = (1, n)) (kk : Gx Γ M (pc + 3) ls ((0, v a 6) :: st) v h t bc bs Q) : Gx Γ M pc ls ((2, a) :: st) v h t bc bs Q :=
  Gx_getN (k := 1) (f := 6) (C := RX1) (T := TX1) (N := 8) d ho hh rfl rfl (by decide) in_X1 q163 rfl rfl rfl kk
theorem gf_X0_377_21 {a : Int} {n : Int} (d : decode M.2.1 pc = .ok (.getfield 377, 3)) (ho : RX0 = M.2.2.2.2.1) (hh : h a = (21, n)) (kk : Gx Γ M (pc + 3) ls ((2, a + 4) :: st) v h t bc bs Q) : Gx Γ M pc ls ((2, a) :: st) v h t bc bs Q :=
  Gx_getN (k := 21) (f := 4) (C := RX1) (T := TX1) (N := 8) d ho hh rfl rfl (by decide) in_X1 q160 rfl rfl rfl kk
theorem gf_X0_377_1 {a : Int} {n : Int} (d : decode M.2.1 pc = .ok (.getfield 377, 3)) (ho : RX0 = M.2.2.2.2.1) (hh : h a = (1, n)) (kk : Gx Γ M (pc + 3) ls ((2, v a 4) :: st) v h t bc bs Q) : Gx Γ M pc ls ((2, a) :: st) v h t bc bs Q :=
  Gx_getN (k := 1) (f := 4) (C := RX1) (T := TX1) (N := 8) d ho hh rfl rfl (by decide) in_X1 q160 rfl rfl rfl kk
theorem gf_X0_385_21 {a : Int} {n : Int} (d : decode M.2.1 pc = .ok (.getfield 385, 3)) (ho : RX0 = M.2.2.2.2.1) (hh : h a = (21, n)) (kk : Gx Γ M (pc + 3) ls ((2, a + 5) :: st) v h t bc bs Q) : Gx Γ M pc ls ((2, a) :: st) v h t bc bs Q :=
  Gx_getN (k := 21) (f := 5) (C := RX1) (T := TX1) (N := 8) d ho hh rfl rfl (by decide) in_X1 q162 rfl rfl rfl kk
theorem gf_X0_385_1 {a : Int} {n : Int} (d : decode M.2.1 pc = .ok (.getfield 385, 3)) (ho : RX0 = M.2.2.2.2.1) (hh : h a = (1, n)) (kk : Gx Γ M (pc + 3) ls ((2, v a 5) :: st) v h t bc bs Q) : Gx Γ M pc ls ((2, a) :: st) v h t bc bs Q :=
  Gx_getN (k := 1) (f := 5) (C := RX1) (T := TX1) (N := 8) d ho hh rfl rfl (by decide) in_X1 q162 rfl rfl rfl kk
theorem gf_X0_399_21 {a : Int} {n : Int} (d : decode M.2.1 pc = .ok (.getfield 399, 3)) (ho : RX0 = M.2.2.2.2.1) (hh : h a = (21, n)) (kk : Gx Γ M (pc + 3) ls ((0, v a 7) :: st) v h t bc bs Q) : Gx Γ M pc ls ((2, a) :: st) v h t bc bs Q :=
  Gx_getN (k := 21) (f := 7) (C := RX1) (T := TX1) (N := 8) d ho hh rfl rfl (by decide) in_X1 q164 rfl rfl rfl kk
theorem gf_X0_399_1 {a : Int} {n : Int} (d : decode M.2.1 pc = .ok (.getfield 399, 3)) (ho : RX0 = M.2.2.2.2.1) (hh : h a = (1, n)) (kk : Gx Γ M (pc + 3) ls ((0, v a 7) :: st) v h t bc bs Q) : Gx Γ M pc ls ((2, a) :: st) v h t bc bs Q :=
  Gx_getN (k := 1) (f := 7) (C := RX1) (T := TX1) (N := 8) d ho hh rfl rfl (by decide) in_X1 q164 rfl rfl rfl kk
theorem gf_X0_439_20 {n : Int} (d : decode M.2.1 pc = .ok (.getfield 439, 3)) (ho : RX0 = M.2.2.2.2.1) (hh : h 0 = (20, n)) (kk : Gx Γ M (pc + 3) ls ((0, v 0 41) :: st) v h t bc bs Q) : Gx Γ M pc ls ((2, 0) :: st) v h t bc bs Q :=
  Gx_get (k := 20) (f := 41) (C := RX0) (T := TX0) (N := 54) d ho hh rfl rfl (by decide) in_X0 q226 rfl rfl rfl kk
theorem gf_X0_439_0 {a : Int} {n : Int} (d : decode M.2.1 pc = .ok (.getfield 439, 3)) (ho : RX0 = M.2.2.2.2.1) (hh : h a = (0, n)) (kk : Gx Γ M (pc + 3) ls ((0, v a 41) :: st) v h t bc bs Q) : Gx Γ M pc ls ((2, a) :: st) v h t bc bs Q :=
  Gx_get (k := 0) (f := 41) (C := RX0) (T := TX0) (N := 54) d ho hh rfl rfl (by decide) in_X0 q226 rfl rfl rfl kk
theorem gf_X0_442_20 {n : Int} (d : decode M.2.1 pc = .ok (.getfield 442, 3)) (ho : RX0 = M.2.2.2.2.1) (hh : h 0 = (20, n)) (kk : Gx Γ M (pc + 3) ls ((0, v 0 42) :: st) v h t bc bs Q) : Gx Γ M pc ls ((2, 0) :: st) v h t bc bs Q :=
  Gx_get (k := 20) (f := 42) (C := RX0) (T := TX0) (N := 54) d ho hh rfl rfl (by decide) in_X0 q227 rfl rfl rfl kk
theorem gf_X0_442_0 {a : Int} {n : Int} (d : decode M.2.1 pc = .ok (.getfield 442, 3)) (ho : RX0 = M.2.2.2.2.1) (hh : h a = (0, n)) (kk : Gx Γ M (pc + 3) ls ((0, v a 42) :: st) v h t bc bs Q) : Gx Γ M pc ls ((2, a) :: st) v h t bc bs Q :=
  Gx_get (k := 0) (f := 42) (C := RX0) (T := TX0) (N := 54) d ho hh rfl rfl (by decide) in_X0 q227 rfl rfl rfl kk
theorem gf_X0_448_20 {n : Int} (d : decode M.2.1 pc = .ok (.getfield 448, 3)) (ho : RX0 = M.2.2.2.2.1) (hh : h 0 = (20, n)) (kk : Gx Γ M (pc + 3) ls ((0, v 0 43) :: st) v h t bc bs Q) : Gx Γ M pc ls ((2, 0) :: st) v h t bc bs Q :=
  Gx_get (k := 20) (f := 43) (C := RX0) (T := TX0) (N := 54) d ho hh rfl rfl (by decide) in_X0 q228 rfl rfl rfl kk
theorem gf_X0_448_0 {a : Int} {n : Int} (d : decode M.2.1 pc = .ok (.getfield 448, 3)) (ho : RX0 = M.2.2.2.2.1) (hh : h a = (0, n)) (kk : Gx Γ M (pc + 3) ls ((0, v a 43) :: st) v h t bc bs Q) : Gx Γ M pc ls ((2, a) :: st) v h t bc bs Q :=
  Gx_get (k := 0) (f := 43) (C := RX0) (T := TX0) (N := 54) d ho hh rfl rfl (by decide) in_X0 q228 rfl rfl rfl kk
theorem gf_X0_451_20 {n : Int} (d : decode M.2.1 pc = .ok (.getfield 451, 3)) (ho : RX0 = M.2.2.2.2.1) (hh : h 0 = (20, n)) (kk : Gx Γ M (pc + 3) ls ((0, v 0 44) :: st) v h t bc bs Q) : Gx Γ M pc ls ((2, 0) :: st) v h t bc bs Q :=
  Gx_get (k := 20) (f := 44) (C := RX0) (T := TX0) (N := 54) d ho hh rfl rfl (by decide) in_X0 q229 rfl rfl rfl kk
theorem gf_X0_451_0 {a : Int} {n : Int} (d : decode M.2.1 pc = .ok (.getfield 451, 3)) (ho : RX0 = M.2.2.2.2.1) (hh : h a = (0, n)) (kk : Gx Γ M (pc + 3) ls ((0, v a 44) :: st) v h t bc bs Q) : Gx Γ M pc ls ((2, a) :: st) v h t bc bs Q :=
  Gx_get (k := 0) (f := 44) (C := RX0) (T := TX0) (N := 54) d ho hh rfl rfl (by decide) in_X0 q229 rfl rfl rfl kk
theorem gf_X0_454_20 {n : Int} (d : decode M.2.1 pc = .ok (.getfield 454, 3)) (ho : RX0 = M.2.2.2.2.1) (hh : h 0 = (20, n)) (kk : Gx Γ M (pc + 3) ls ((1, v 0 45) :: st) v h t bc bs Q) : Gx Γ M pc ls ((2, 0) :: st) v h t bc bs Q :=
  Gx_get (k := 20) (f := 45) (C := RX0) (T := TX0) (N := 54) d ho hh rfl rfl (by decide) in_X0 q230 rfl rfl rfl kk
theorem gf_X0_454_0 {a : Int} {n : Int} (d : decode M.2.1 pc = .ok (.getfield 454, 3)) (ho : RX0 = M.2.2.2.2.1) (hh : h a = (0, n)) (kk : Gx Γ M (pc + 3) ls ((1, v a 45) :: st) v h t bc bs Q) : Gx Γ M pc ls ((2, a) :: st) v h t bc bs Q :=
  Gx_get (k := 0) (f := 45) (C := RX0) (T := TX0) (N := 54) d ho hh rfl rfl (by decide) in_X0 q230 rfl rfl rfl kk
theorem gf_X0_457_20 {n : Int} (d : decode M.2.1 pc = .ok (.getfield 457, 3)) (ho : RX0 = M.2.2.2.2.1) (hh : h 0 = (20, n)) (kk : Gx Γ M (pc + 3) ls ((1, v 0 46) :: st) v h t bc bs Q) : Gx Γ M pc ls ((2, 0) :: st) v h t bc bs Q :=
  Gx_get (k := 20) (f := 46) (C := RX0) (T := TX0) (N := 54) d ho hh rfl rfl (by decide) in_X0 q231 rfl rfl rfl kk
theorem gf_X0_457_0 {a : Int} {n : Int} (d : decode M.2.1 pc = .ok (.getfield 457, 3)) (ho : RX0 = M.2.2.2.2.1) (hh : h a = (0, n)) (kk : Gx Γ M (pc + 3) ls ((1, v a 46) :: st) v h t bc bs Q) : Gx Γ M pc ls ((2, a) :: st) v h t bc bs Q :=
  Gx_get (k := 0) (f := 46) (C := RX0) (T := TX0) (N := 54) d ho hh rfl rfl (by decide) in_X0 q231 rfl rfl rfl kk
theorem gf_X0_459_20 {n : Int} (d : decode M.2.1 pc = .ok (.getfield 459, 3)) (ho : RX0 = M.2.2.2.2.1) (hh : h 0 = (20, n)) (kk : Gx Γ M (pc + 3) ls ((1, v 0 47) :: st) v h t bc bs Q) : Gx Γ M pc ls ((2, 0) :: st) v h t bc bs Q :=
  Gx_get (k := 20) (f := 47) (C := RX0) (T := TX0) (N := 54) d ho hh rfl rfl (by decide) in_X0 q232 rfl rfl rfl kk
theorem gf_X0_459_0 {a : Int} {n : Int} (d : decode M.2.1 pc = .ok (.getfield 459, 3)) (ho : RX0 = M.2.2.2.2.1) (hh : h a = (0, n)) (kk : Gx Γ M (pc + 3) ls ((1, v a 47) :: st) v h t bc bs Q) : Gx Γ M pc ls ((2, a) :: st) v h t bc bs Q :=
  Gx_get (k := 0) (f := 47) (C := RX0) (T := TX0) (N := 54) d ho hh rfl rfl (by decide) in_X0 q232 rfl rfl rfl kk
theorem gf_X0_462_20 {n : Int} (d : decode M.2.1 pc = .ok (.getfield 462, 3)) (ho : RX0 = M.2.2.2.2.1) (hh : h 0 = (20, n)) (kk : Gx Γ M (pc + 3) ls ((1, v 0 48) :: st) v h t bc bs Q) : Gx Γ M pc ls ((2, 0) :: st) v h t bc bs Q :=
  Gx_get (k := 20) (f := 48) (C := RX0) (T := TX0) (N := 54) d ho hh rfl rfl (by decide) in_X0 q233 rfl rfl rfl kk
theorem gf_X0_462_0 {a : Int} {n : Int} (d : decode M.2.1 pc = .ok (.getfield 462, 3)) (ho : RX0 = M.2.2.2.2.1) (hh : h a = (0, n)) (kk : Gx Γ M (pc + 3) ls ((1, v a 48) :: st) v h t bc bs Q) : Gx Γ M pc ls ((2, a) :: st) v h t bc bs Q :=
  Gx_get (k := 0) (f := 48) (C := RX0) (T := TX0) (N := 54) d ho hh rfl rfl (by decide) in_X0 q233 rfl rfl rfl kk
theorem gf_X0_514_20 {n : Int} (d : decode M.2.1 pc = .ok (.getfield 514, 3)) (ho : RX0 = M.2.2.2.2.1) (hh : h 0 = (20, n)) (kk : Gx Γ M (pc + 3) ls ((1, v 0 53) :: st) v h t bc bs Q) : Gx Γ M pc ls ((2, 0) :: st) v h t bc bs Q :=
  Gx_get (k := 20) (f := 53) (C := RX0) (T := TX0) (N := 54) d ho hh rfl rfl (by decide) in_X0 q238 rfl rfl rfl kk
theorem gf_X0_514_0 {a : Int} {n : Int} (d : decode M.2.1 pc = .ok (.getfield 514, 3)) (ho : RX0 = M.2.2.2.2.1) (hh : h a = (0, n)) (kk : Gx Γ M (pc + 3) ls ((1, v a 53) :: st) v h t bc bs Q) : Gx Γ M pc ls ((2, a) :: st) v h t bc bs Q :=
  Gx_get (k := 0) (f := 53) (C := RX0) (T := TX0) (N := 54) d ho hh rfl rfl (by decide) in_X0 q238 rfl rfl rfl kk
theorem pf_X0_3_20 {n x : Int} (d : decode M.2.1 pc = .ok (.putfield 3, 3)) (ho : RX0 = M.2.2.2.2.1) (hh : h 0 = (20, n)) (kk : Gx Γ M (pc + 3) ls st (gUp v 0 0 x) h t bc bs Q) : Gx Γ M pc ls ((0, x) :: (2, 0) :: st) v h t bc bs Q :=
  Gx_put (k := 20) (f := 0) (C := RX0) (T := TX0) (N := 54) d ho hh rfl rfl (by decide) in_X0 tyX0_ok nmX0 q185 rfl rfl rfl rfl rfl kk
theorem pf_X0_3_0 {a : Int} {n x : Int} (d : decode M.2.1 pc = .ok (.putfield 3, 3)) (ho : RX0 = M.2.2.2.2.1) (hh : h a = (0, n)) (kk : Gx Γ M (pc + 3) ls st (gUp v a 0 x) h t bc bs Q) : Gx Γ M pc ls ((0, x) :: (2, a) :: st) v h t bc bs Q :=
  Gx_put (k := 0) (f := 0) (C := RX0) (T := TX0) (N := 54) d ho hh rfl rfl (by decide) in_X0 tyX0_ok nmX0 q185 rfl rfl rfl rfl rfl kk
theorem pf_X0_7_0 {a : Int} {n x : Int} (d : decode M.2.1 pc = .ok (.putfield 7, 3)) (ho : RX0 = M.2.2.2.2.1) (hi : M.1.name = "<init>") (hh : h a = (0, n)) (kk : Gx Γ M (pc + 3) ls st (gUp v a 1 x) h t bc bs Q) : Gx Γ M pc ls ((2, x) :: (2, a) :: st) v h t bc bs Q :=
  Gx_putF (k := 0) (f := 1) (C := RX0) (T := TX0) (N := 54) d ho hi hh rfl rfl (by decide) in_X0 tyX0_ok nmX0 q186 rfl rfl rfl rfl rfl rfl kk
theorem pf_X0_11_20 {n x : Int} (d : decode M.2.1 pc = .ok (.putfield 11, 3)) (ho : RX0 = M.2.2.2.2.1) (hh : h 0 = (20, n)) (kk : Gx Γ M (pc + 3) ls st (gUp v 0 2 x) h t bc bs Q) : Gx Γ M pc ls ((0, x) :: (2, 0) :: st) v h t bc bs Q :=
  Gx_put (k := 20) (f := 2) (C := RX0) (T := TX0) (N := 54) d ho hh rfl rfl (by decide) in_X0 tyX0_ok nmX0 q187 rfl rfl rfl rfl rfl kk
theorem pf_X0_11_0 {a : Int} {n x : Int} (d : decode M.2.1 pc = .ok (.putfield 11, 3)) (ho : RX0 = M.2.2.2.2.1) (hh : h a = (0, n)) (kk : Gx Γ M (pc + 3) ls st (gUp v a 2 x) h t bc bs Q) : Gx Γ M pc ls ((0, x) :: (2, a) :: st) v h t bc bs Q :=
  Gx_put (k := 0) (f := 2) (C := RX0) (T := TX0) (N := 54) d ho hh rfl rfl (by decide) in_X0 tyX0_ok nmX0 q187 rfl rfl rfl rfl rfl kk
theorem pf_X0_14_20 {n x : Int} (d : decode M.2.1 pc = .ok (.putfield 14, 3)) (ho : RX0 = M.2.2.2.2.1) (hh : h 0 = (20, n)) (kk : Gx Γ M (pc + 3) ls st (gUp v 0 3 x) h t bc bs Q) : Gx Γ M pc ls ((1, x) :: (2, 0) :: st) v h t bc bs Q :=
  Gx_put (k := 20) (f := 3) (C := RX0) (T := TX0) (N := 54) d ho hh rfl rfl (by decide) in_X0 tyX0_ok nmX0 q188 rfl rfl rfl rfl rfl kk
theorem pf_X0_14_0 {a : Int} {n x : Int} (d : decode M.2.1 pc = .ok (.putfield 14, 3)) (ho : RX0 = M.2.2.2.2.1) (hh : h a = (0, n)) (kk : Gx Γ M (pc + 3) ls st (gUp v a 3 x) h t bc bs Q) : Gx Γ M pc ls ((1, x) :: (2, a) :: st) v h t bc bs Q :=
  Gx_put (k := 0) (f := 3) (C := RX0) (T := TX0) (N := 54) d ho hh rfl rfl (by decide) in_X0 tyX0_ok nmX0 q188 rfl rfl rfl rfl rfl kk
theorem pf_X0_18_20 {n x : Int} (d : decode M.2.1 pc = .ok (.putfield 18, 3)) (ho : RX0 = M.2.2.2.2.1) (hh : h 0 = (20, n)) (kk : Gx Γ M (pc + 3) ls st (gUp v 0 4 x) h t bc bs Q) : Gx Γ M pc ls ((1, x) :: (2, 0) :: st) v h t bc bs Q :=
  Gx_put (k := 20) (f := 4) (C := RX0) (T := TX0) (N := 54) d ho hh rfl rfl (by decide) in_X0 tyX0_ok nmX0 q189 rfl rfl rfl rfl rfl kk
theorem pf_X0_18_0 {a : Int} {n x : Int} (d : decode M.2.1 pc = .ok (.putfield 18, 3)) (ho : RX0 = M.2.2.2.2.1) (hh : h a = (0, n)) (kk : Gx Γ M (pc + 3) ls st (gUp v a 4 x) h t bc bs Q) : Gx Γ M pc ls ((1, x) :: (2, a) :: st) v h t bc bs Q :=
  Gx_put (k := 0) (f := 4) (C := RX0) (T := TX0) (N := 54) d ho hh rfl rfl (by decide) in_X0 tyX0_ok nmX0 q189 rfl rfl rfl rfl rfl kk
theorem pf_X0_28_0 {a : Int} {n x : Int} (d : decode M.2.1 pc = .ok (.putfield 28, 3)) (ho : RX0 = M.2.2.2.2.1) (hi : M.1.name = "<init>") (hh : h a = (0, n)) (kk : Gx Γ M (pc + 3) ls st (gUp v a 5 x) h t bc bs Q) : Gx Γ M pc ls ((2, x) :: (2, a) :: st) v h t bc bs Q :=
  Gx_putF (k := 0) (f := 5) (C := RX0) (T := TX0) (N := 54) d ho hi hh rfl rfl (by decide) in_X0 tyX0_ok nmX0 q190 rfl rfl rfl rfl rfl rfl kk
theorem pf_X0_34_0 {a : Int} {n x : Int} (d : decode M.2.1 pc = .ok (.putfield 34, 3)) (ho : RX0 = M.2.2.2.2.1) (hi : M.1.name = "<init>") (hh : h a = (0, n)) (kk : Gx Γ M (pc + 3) ls st (gUp v a 6 x) h t bc bs Q) : Gx Γ M pc ls ((2, x) :: (2, a) :: st) v h t bc bs Q :=
  Gx_putF (k := 0) (f := 6) (C := RX0) (T := TX0) (N := 54) d ho hi hh rfl rfl (by decide) in_X0 tyX0_ok nmX0 q191 rfl rfl rfl rfl rfl rfl kk
theorem pf_X0_40_20 {n x : Int} (d : decode M.2.1 pc = .ok (.putfield 40, 3)) (ho : RX0 = M.2.2.2.2.1) (hh : h 0 = (20, n)) (kk : Gx Γ M (pc + 3) ls st (gUp v 0 7 x) h t bc bs Q) : Gx Γ M pc ls ((2, x) :: (2, 0) :: st) v h t bc bs Q :=
  Gx_put (k := 20) (f := 7) (C := RX0) (T := TX0) (N := 54) d ho hh rfl rfl (by decide) in_X0 tyX0_ok nmX0 q192 rfl rfl rfl rfl rfl kk
theorem pf_X0_40_0 {a : Int} {n x : Int} (d : decode M.2.1 pc = .ok (.putfield 40, 3)) (ho : RX0 = M.2.2.2.2.1) (hh : h a = (0, n)) (kk : Gx Γ M (pc + 3) ls st (gUp v a 7 x) h t bc bs Q) : Gx Γ M pc ls ((2, x) :: (2, a) :: st) v h t bc bs Q :=
  Gx_put (k := 0) (f := 7) (C := RX0) (T := TX0) (N := 54) d ho hh rfl rfl (by decide) in_X0 tyX0_ok nmX0 q192 rfl rfl rfl rfl rfl kk
theorem pf_X0_44_0 {a : Int} {n x : Int} (d : decode M.2.1 pc = .ok (.putfield 44, 3)) (ho : RX0 = M.2.2.2.2.1) (hi : M.1.name = "<init>") (hh : h a = (0, n)) (kk : Gx Γ M (pc + 3) ls st (gUp v a 9 x) h t bc bs Q) : Gx Γ M pc ls ((2, x) :: (2, a) :: st) v h t bc bs Q :=
  Gx_putF (k := 0) (f := 9) (C := RX0) (T := TX0) (N := 54) d ho hi hh rfl rfl (by decide) in_X0 tyX0_ok nmX0 q194 rfl rfl rfl rfl rfl rfl kk
theorem pf_X0_47_0 {a : Int} {n x : Int} (d : decode M.2.1 pc = .ok (.putfield 47, 3)) (ho : RX0 = M.2.2.2.2.1) (hi : M.1.name = "<init>") (hh : h a = (0, n)) (kk : Gx Γ M (pc + 3) ls st (gUp v a 13 x) h t bc bs Q) : Gx Γ M pc ls ((2, x) :: (2, a) :: st) v h t bc bs Q :=
  Gx_putF (k := 0) (f := 13) (C := RX0) (T := TX0) (N := 54) d ho hi hh rfl rfl (by decide) in_X0 tyX0_ok nmX0 q198 rfl rfl rfl rfl rfl rfl kk
theorem pf_X0_50_0 {a : Int} {n x : Int} (d : decode M.2.1 pc = .ok (.putfield 50, 3)) (ho : RX0 = M.2.2.2.2.1) (hi : M.1.name = "<init>") (hh : h a = (0, n)) (kk : Gx Γ M (pc + 3) ls st (gUp v a 14 x) h t bc bs Q) : Gx Γ M pc ls ((2, x) :: (2, a) :: st) v h t bc bs Q :=
  Gx_putF (k := 0) (f := 14) (C := RX0) (T := TX0) (N := 54) d ho hi hh rfl rfl (by decide) in_X0 tyX0_ok nmX0 q199 rfl rfl rfl rfl rfl rfl kk
theorem pf_X0_53_0 {a : Int} {n x : Int} (d : decode M.2.1 pc = .ok (.putfield 53, 3)) (ho : RX0 = M.2.2.2.2.1) (hi : M.1.name = "<init>") (hh : h a = (0, n)) (kk : Gx Γ M (pc + 3) ls st (gUp v a 15 x) h t bc bs Q) : Gx Γ M pc ls ((2, x) :: (2, a) :: st) v h t bc bs Q :=
  Gx_putF (k := 0) (f := 15) (C := RX0) (T := TX0) (N := 54) d ho hi hh rfl rfl (by decide) in_X0 tyX0_ok nmX0 q200 rfl rfl rfl rfl rfl rfl kk
theorem pf_X0_56_0 {a : Int} {n x : Int} (d : decode M.2.1 pc = .ok (.putfield 56, 3)) (ho : RX0 = M.2.2.2.2.1) (hi : M.1.name = "<init>") (hh : h a = (0, n)) (kk : Gx Γ M (pc + 3) ls st (gUp v a 16 x) h t bc bs Q) : Gx Γ M pc ls ((2, x) :: (2, a) :: st) v h t bc bs Q :=
  Gx_putF (k := 0) (f := 16) (C := RX0) (T := TX0) (N := 54) d ho hi hh rfl rfl (by decide) in_X0 tyX0_ok nmX0 q201 rfl rfl rfl rfl rfl rfl kk
theorem pf_X0_59_0 {a : Int} {n x : Int} (d : decode M.2.1 pc = .ok (.putfield 59, 3)) (ho : RX0 = M.2.2.2.2.1) (hi : M.1.name = "<init>") (hh : h a = (0, n)) (kk : Gx Γ M (pc + 3) ls st (gUp v a 20 x) h t bc bs Q) : Gx Γ M pc ls ((2, x) :: (2, a) :: st) v h t bc bs Q :=
  Gx_putF (k := 0) (f := 20) (C := RX0) (T := TX0) (N := 54) d ho hi hh rfl rfl (by decide) in_X0 tyX0_ok nmX0 q205 rfl rfl rfl rfl rfl rfl kk
theorem pf_X0_62_0 {a : Int} {n x : Int} (d : decode M.2.1 pc = .ok (.putfield 62, 3)) (ho : RX0 = M.2.2.2.2.1) (hi : M.1.name = "<init>") (hh : h a = (0, n)) (kk : Gx Γ M (pc + 3) ls st (gUp v a 23 x) h t bc bs Q) : Gx Γ M pc ls ((2, x) :: (2, a) :: st) v h t bc bs Q :=
  Gx_putF (k := 0) (f := 23) (C := RX0) (T := TX0) (N := 54) d ho hi hh rfl rfl (by decide) in_X0 tyX0_ok nmX0 q208 rfl rfl rfl rfl rfl rfl kk
theorem pf_X0_65_0 {a : Int} {n x : Int} (d : decode M.2.1 pc = .ok (.putfield 65, 3)) (ho : RX0 = M.2.2.2.2.1) (hi : M.1.name = "<init>") (hh : h a = (0, n)) (kk : Gx Γ M (pc + 3) ls st (gUp v a 27 x) h t bc bs Q) : Gx Γ M pc ls ((2, x) :: (2, a) :: st) v h t bc bs Q :=
  Gx_putF (k := 0) (f := 27) (C := RX0) (T := TX0) (N := 54) d ho hi hh rfl rfl (by decide) in_X0 tyX0_ok nmX0 q212 rfl rfl rfl rfl rfl rfl kk
theorem pf_X0_68_0 {a : Int} {n x : Int} (d : decode M.2.1 pc = .ok (.putfield 68, 3)) (ho : RX0 = M.2.2.2.2.1) (hi : M.1.name = "<init>") (hh : h a = (0, n)) (kk : Gx Γ M (pc + 3) ls st (gUp v a 28 x) h t bc bs Q) : Gx Γ M pc ls ((2, x) :: (2, a) :: st) v h t bc bs Q :=
  Gx_putF (k := 0) (f := 28) (C := RX0) (T := TX0) (N := 54) d ho hi hh rfl rfl (by decide) in_X0 tyX0_ok nmX0 q213 rfl rfl rfl rfl rfl rfl kk
theorem pf_X0_71_0 {a : Int} {n x : Int} (d : decode M.2.1 pc = .ok (.putfield 71, 3)) (ho : RX0 = M.2.2.2.2.1) (hi : M.1.name = "<init>") (hh : h a = (0, n)) (kk : Gx Γ M (pc + 3) ls st (gUp v a 29 x) h t bc bs Q) : Gx Γ M pc ls ((2, x) :: (2, a) :: st) v h t bc bs Q :=
  Gx_putF (k := 0) (f := 29) (C := RX0) (T := TX0) (N := 54) d ho hi hh rfl rfl (by decide) in_X0 tyX0_ok nmX0 q214 rfl rfl rfl rfl rfl rfl kk
theorem pf_X0_74_0 {a : Int} {n x : Int} (d : decode M.2.1 pc = .ok (.putfield 74, 3)) (ho : RX0 = M.2.2.2.2.1) (hi : M.1.name = "<init>") (hh : h a = (0, n)) (kk : Gx Γ M (pc + 3) ls st (gUp v a 30 x) h t bc bs Q) : Gx Γ M pc ls ((2, x) :: (2, a) :: st) v h t bc bs Q :=
  Gx_putF (k := 0) (f := 30) (C := RX0) (T := TX0) (N := 54) d ho hi hh rfl rfl (by decide) in_X0 tyX0_ok nmX0 q215 rfl rfl rfl rfl rfl rfl kk
theorem pf_X0_79_0 {a : Int} {n x : Int} (d : decode M.2.1 pc = .ok (.putfield 79, 3)) (ho : RX0 = M.2.2.2.2.1) (hi : M.1.name = "<init>") (hh : h a = (0, n)) (kk : Gx Γ M (pc + 3) ls st (gUp v a 31 x) h t bc bs Q) : Gx Γ M pc ls ((2, x) :: (2, a) :: st) v h t bc bs Q :=
  Gx_putF (k := 0) (f := 31) (C := RX0) (T := TX0) (N := 54) d ho hi hh rfl rfl (by decide) in_X0 tyX0_ok nmX0 q216 rfl rfl rfl rfl rfl rfl kk
theorem pf_X0_86_0 {a : Int} {n x : Int} (d : decode M.2.1 pc = .ok (.putfield 86, 3)) (ho : RX0 = M.2.2.2.2.1) (hi : M.1.name = "<init>") (hh : h a = (0, n)) (kk : Gx Γ M (pc + 3) ls st (gUp v a 33 x) h t bc bs Q) : Gx Γ M pc ls ((2, x) :: (2, a) :: st) v h t bc bs Q :=
  Gx_putF (k := 0) (f := 33) (C := RX0) (T := TX0) (N := 54) d ho hi hh rfl rfl (by decide) in_X0 tyX0_ok nmX0 q218 rfl rfl rfl rfl rfl rfl kk
theorem pf_X0_90_0 {a : Int} {n x : Int} (d : decode M.2.1 pc = .ok (.putfield 90, 3)) (ho : RX0 = M.2.2.2.2.1) (hi : M.1.name = "<init>") (hh : h a = (0, n)) (kk : Gx Γ M (pc + 3) ls st (gUp v a 34 x) h t bc bs Q) : Gx Γ M pc ls ((2, x) :: (2, a) :: st) v h t bc bs Q :=
  Gx_putF (k := 0) (f := 34) (C := RX0) (T := TX0) (N := 54) d ho hi hh rfl rfl (by decide) in_X0 tyX0_ok nmX0 q219 rfl rfl rfl rfl rfl rfl kk
theorem pf_X0_93_20 {n x : Int} (d : decode M.2.1 pc = .ok (.putfield 93, 3)) (ho : RX0 = M.2.2.2.2.1) (hh : h 0 = (20, n)) (kk : Gx Γ M (pc + 3) ls st (gUp v 0 35 x) h t bc bs Q) : Gx Γ M pc ls ((0, x) :: (2, 0) :: st) v h t bc bs Q :=
  Gx_put (k := 20) (f := 35) (C := RX0) (T := TX0) (N := 54) d ho hh rfl rfl (by decide) in_X0 tyX0_ok nmX0 q220 rfl rfl rfl rfl rfl kk
theorem pf_X0_93_0 {a : Int} {n x : Int} (d : decode M.2.1 pc = .ok (.putfield 93, 3)) (ho : RX0 = M.2.2.2.2.1) (hh : h a = (0, n)) (kk : Gx Γ M (pc + 3) ls st (gUp v a 35 x) h t bc bs Q) : Gx Γ M pc ls ((0, x) :: (2, a) :: st) v h t bc bs Q :=
  Gx_put (k := 0) (f := 35) (C := RX0) (T := TX0) (N := 54) d ho hh rfl rfl (by decide) in_X0 tyX0_ok nmX0 q220 rfl rfl rfl rfl rfl kk
theorem pf_X0_96_20 {n x : Int} (d : decode M.2.1 pc = .ok (.putfield 96, 3)) (ho : RX0 = M.2.2.2.2.1) (hh : h 0 = (20, n)) (kk : Gx Γ M (pc + 3) ls st (gUp v 0 36 x) h t bc bs Q) : Gx Γ M pc ls ((0, x) :: (2, 0) :: st) v h t bc bs Q :=
  Gx_put (k := 20) (f := 36) (C := RX0) (T := TX0) (N := 54) d ho hh rfl rfl (by decide) in_X0 tyX0_ok nmX0 q221 rfl rfl rfl rfl rfl kk
theorem pf_X0_96_0 {a : Int} {n x : Int} (d : decode M.2.1 pc = .ok (.putfield 96, 3)) (ho : RX0 = M.2.2.2.2.1) (hh : h a = (0, n)) (kk : Gx Γ M (pc + 3) ls st (gUp v a 36 x) h t bc bs Q) : Gx Γ M pc ls ((0, x) :: (2, a) :: st) v h t bc bs Q :=
  Gx_put (k := 0) (f := 36) (C := RX0) (T := TX0) (N := 54) d ho hh rfl rfl (by decide) in_X0 tyX0_ok nmX0 q221 rfl rfl rfl rfl rfl kk
theorem pf_X0_99_0 {a : Int} {n x : Int} (d : decode M.2.1 pc = .ok (.putfield 99, 3)) (ho : RX0 = M.2.2.2.2.1) (hi : M.1.name = "<init>") (hh : h a = (0, n)) (kk : Gx Γ M (pc + 3) ls st (gUp v a 37 x) h t bc bs Q) : Gx Γ M pc ls ((2, x) :: (2, a) :: st) v h t bc bs Q :=
  Gx_putF (k := 0) (f := 37) (C := RX0) (T := TX0) (N := 54) d ho hi hh rfl rfl (by decide) in_X0 tyX0_ok nmX0 q222 rfl rfl rfl rfl rfl rfl kk
theorem pf_X0_102_0 {a : Int} {n x : Int} (d : decode M.2.1 pc = .ok (.putfield 102, 3)) (ho : RX0 = M.2.2.2.2.1) (hi : M.1.name = "<init>") (hh : h a = (0, n)) (kk : Gx Γ M (pc + 3) ls st (gUp v a 38 x) h t bc bs Q) : Gx Γ M pc ls ((2, x) :: (2, a) :: st) v h t bc bs Q :=
  Gx_putF (k := 0) (f := 38) (C := RX0) (T := TX0) (N := 54) d ho hi hh rfl rfl (by decide) in_X0 tyX0_ok nmX0 q223 rfl rfl rfl rfl rfl rfl kk
theorem pf_X0_106_0 {a : Int} {n x : Int} (d : decode M.2.1 pc = .ok (.putfield 106, 3)) (ho : RX0 = M.2.2.2.2.1) (hi : M.1.name = "<init>") (hh : h a = (0, n)) (kk : Gx Γ M (pc + 3) ls st (gUp v a 39 x) h t bc bs Q) : Gx Γ M pc ls ((2, x) :: (2, a) :: st) v h t bc bs Q :=
  Gx_putF (k := 0) (f := 39) (C := RX0) (T := TX0) (N := 54) d ho hi hh rfl rfl (by decide) in_X0 tyX0_ok nmX0 q224 rfl rfl rfl rfl rfl rfl kk
theorem pf_X0_110_0 {a : Int} {n x : Int} (d : decode M.2.1 pc = .ok (.putfield 110, 3)) (ho : RX0 = M.2.2.2.2.1) (hi : M.1.name = "<init>") (hh : h a = (0, n)) (kk : Gx Γ M (pc + 3) ls st (gUp v a 40 x) h t bc bs Q) : Gx Γ M pc ls ((2, x) :: (2, a) :: st) v h t bc bs Q :=
  Gx_putF (k := 0) (f := 40) (C := RX0) (T := TX0) (N := 54) d ho hi hh rfl rfl (by decide) in_X0 tyX0_ok nmX0 q225 rfl rfl rfl rfl rfl rfl kk
theorem pf_X0_113_0 {a : Int} {n x : Int} (d : decode M.2.1 pc = .ok (.putfield 113, 3)) (ho : RX0 = M.2.2.2.2.1) (hi : M.1.name = "<init>") (hh : h a = (0, n)) (kk : Gx Γ M (pc + 3) ls st (gUp v a 49 x) h t bc bs Q) : Gx Γ M pc ls ((2, x) :: (2, a) :: st) v h t bc bs Q :=
  Gx_putF (k := 0) (f := 49) (C := RX0) (T := TX0) (N := 54) d ho hi hh rfl rfl (by decide) in_X0 tyX0_ok nmX0 q234 rfl rfl rfl rfl rfl rfl kk
theorem pf_X0_117_0 {a : Int} {n x : Int} (d : decode M.2.1 pc = .ok (.putfield 117, 3)) (ho : RX0 = M.2.2.2.2.1) (hi : M.1.name = "<init>") (hh : h a = (0, n)) (kk : Gx Γ M (pc + 3) ls st (gUp v a 50 x) h t bc bs Q) : Gx Γ M pc ls ((2, x) :: (2, a) :: st) v h t bc bs Q :=
  Gx_putF (k := 0) (f := 50) (C := RX0) (T := TX0) (N := 54) d ho hi hh rfl rfl (by decide) in_X0 tyX0_ok nmX0 q235 rfl rfl rfl rfl rfl rfl kk
theorem pf_X0_120_0 {a : Int} {n x : Int} (d : decode M.2.1 pc = .ok (.putfield 120, 3)) (ho : RX0 = M.2.2.2.2.1) (hi : M.1.name = "<init>") (hh : h a = (0, n)) (kk : Gx Γ M (pc + 3) ls st (gUp v a 51 x) h t bc bs Q) : Gx Γ M pc ls ((2, x) :: (2, a) :: st) v h t bc bs Q :=
  Gx_putF (k := 0) (f := 51) (C := RX0) (T := TX0) (N := 54) d ho hi hh rfl rfl (by decide) in_X0 tyX0_ok nmX0 q236 rfl rfl rfl rfl rfl rfl kk
theorem pf_X0_123_0 {a : Int} {n x : Int} (d : decode M.2.1 pc = .ok (.putfield 123, 3)) (ho : RX0 = M.2.2.2.2.1) (hi : M.1.name = "<init>") (hh : h a = (0, n)) (kk : Gx Γ M (pc + 3) ls st (gUp v a 52 x) h t bc bs Q) : Gx Γ M pc ls ((2, x) :: (2, a) :: st) v h t bc bs Q :=
  Gx_putF (k := 0) (f := 52) (C := RX0) (T := TX0) (N := 54) d ho hi hh rfl rfl (by decide) in_X0 tyX0_ok nmX0 q237 rfl rfl rfl rfl rfl rfl kk
theorem pf_X0_126_20 {n x : Int} (d : decode M.2.1 pc = .ok (.putfield 126, 3)) (ho : RX0 = M.2.2.2.2.1) (hh : h 0 = (20, n)) (kk : Gx Γ M (pc + 3) ls st (gUp v 0 8 x) h t bc bs Q) : Gx Γ M pc ls ((2, x) :: (2, 0) :: st) v h t bc bs Q :=
  Gx_put (k := 20) (f := 8) (C := RX0) (T := TX0) (N := 54) d ho hh rfl rfl (by decide) in_X0 tyX0_ok nmX0 q193 rfl rfl rfl rfl rfl kk
theorem pf_X0_126_0 {a : Int} {n x : Int} (d : decode M.2.1 pc = .ok (.putfield 126, 3)) (ho : RX0 = M.2.2.2.2.1) (hh : h a = (0, n)) (kk : Gx Γ M (pc + 3) ls st (gUp v a 8 x) h t bc bs Q) : Gx Γ M pc ls ((2, x) :: (2, a) :: st) v h t bc bs Q :=
  Gx_put (k := 0) (f := 8) (C := RX0) (T := TX0) (N := 54) d ho hh rfl rfl (by decide) in_X0 tyX0_ok nmX0 q193 rfl rfl rfl rfl rfl kk
theorem pf_X0_167_20 {n x : Int} (d : decode M.2.1 pc = .ok (.putfield 167, 3)) (ho : RX0 = M.2.2.2.2.1) (hh : h 0 = (20, n)) (kk : Gx Γ M (pc + 3) ls st (gUp v 0 18 x) h t bc bs Q) : Gx Γ M pc ls ((0, x) :: (2, 0) :: st) v h t bc bs Q :=
  Gx_put (k := 20) (f := 18) (C := RX0) (T := TX0) (N := 54) d ho hh rfl rfl (by decide) in_X0 tyX0_ok nmX0 q203 rfl rfl rfl rfl rfl kk
theorem pf_X0_167_0 {a : Int} {n x : Int} (d : decode M.2.1 pc = .ok (.putfield 167, 3)) (ho : RX0 = M.2.2.2.2.1) (hh : h a = (0, n)) (kk : Gx Γ M (pc + 3) ls st (gUp v a 18 x) h t bc bs Q) : Gx Γ M pc ls ((0, x) :: (2, a) :: st) v h t bc bs Q :=
  Gx_put (k := 0) (f := 18) (C := RX0) (T := TX0) (N := 54) d ho hh rfl rfl (by decide) in_X0 tyX0_ok nmX0 q203 rfl rfl rfl rfl rfl kk
theorem pf_X0_170_20 {n x : Int} (d : decode M.2.1 pc = .ok (.putfield 170, 3)) (ho : RX0 = M.2.2.2.2.1) (hh : h 0 = (20, n)) (kk : Gx Γ M (pc + 3) ls st (gUp v 0 17 x) h t bc bs Q) : Gx Γ M pc ls ((2, x) :: (2, 0) :: st) v h t bc bs Q :=
  Gx_put (k := 20) (f := 17) (C := RX0) (T := TX0) (N := 54) d ho hh rfl rfl (by decide) in_X0 tyX0_ok nmX0 q202 rfl rfl rfl rfl rfl kk
theorem pf_X0_170_0 {a : Int} {n x : Int} (d : decode M.2.1 pc = .ok (.putfield 170, 3)) (ho : RX0 = M.2.2.2.2.1) (hh : h a = (0, n)) (kk : Gx Γ M (pc + 3) ls st (gUp v a 17 x) h t bc bs Q) : Gx Γ M pc ls ((2, x) :: (2, a) :: st) v h t bc bs Q :=
  Gx_put (k := 0) (f := 17) (C := RX0) (T := TX0) (N := 54) d ho hh rfl rfl (by decide) in_X0 tyX0_ok nmX0 q202 rfl rfl rfl rfl rfl kk
theorem pf_X0_177_20 {n x : Int} (d : decode M.2.1 pc = .ok (.putfield 177, 3)) (ho : RX0 = M.2.2.2.2.1) (hh : h 0 = (20, n)) (kk : Gx Γ M (pc + 3) ls st (gUp v 0 19 x) h t bc bs Q) : Gx Γ M pc ls ((0, x) :: (2, 0) :: st) v h t bc bs Q :=
  Gx_put (k := 20) (f := 19) (C := RX0) (T := TX0) (N := 54) d ho hh rfl rfl (by decide) in_X0 tyX0_ok nmX0 q204 rfl rfl rfl rfl rfl kk
theorem pf_X0_177_0 {a : Int} {n x : Int} (d : decode M.2.1 pc = .ok (.putfield 177, 3)) (ho : RX0 = M.2.2.2.2.1) (hh : h a = (0, n)) (kk : Gx Γ M (pc + 3) ls st (gUp v a 19 x) h t bc bs Q) : Gx Γ M pc ls ((0, x) :: (2, a) :: st) v h t bc bs Q :=
  Gx_put (k := 0) (f := 19) (C := RX0) (T := TX0) (N := 54) d ho hh rfl rfl (by decide) in_X0 tyX0_ok nmX0 q204 rfl rfl rfl rfl rfl kk
theorem pf_X0_196_20 {n x : Int} (d : decode M.2.1 pc = .ok (.putfield 196, 3)) (ho : RX0 = M.2.2.2.2.1) (hh : h 0 = (20, n)) (kk : Gx Γ M (pc + 3) ls st (gUp v 0 21 x) h t bc bs Q) : Gx Γ M pc ls ((0, x) :: (2, 0) :: st) v h t bc bs Q :=
  Gx_put (k := 20) (f := 21) (C := RX0) (T := TX0) (N := 54) d ho hh rfl rfl (by decide) in_X0 tyX0_ok nmX0 q206 rfl rfl rfl rfl rfl kk
theorem pf_X0_196_0 {a : Int} {n x : Int} (d : decode M.2.1 pc = .ok (.putfield 196, 3)) (ho : RX0 = M.2.2.2.2.1) (hh : h a = (0, n)) (kk : Gx Γ M (pc + 3) ls st (gUp v a 21 x) h t bc bs Q) : Gx Γ M pc ls ((0, x) :: (2, a) :: st) v h t bc bs Q :=
  Gx_put (k := 0) (f := 21) (C := RX0) (T := TX0) (N := 54) d ho hh rfl rfl (by decide) in_X0 tyX0_ok nmX0 q206 rfl rfl rfl rfl rfl kk
theorem pf_X0_223_20 {n x : Int} (d : decode M.2.1 pc = .ok (.putfield 223, 3)) (ho : RX0 = M.2.2.2.2.1) (hh : h 0 = (20, n)) (kk : Gx Γ M (pc + 3) ls st (gUp v 0 26 x) h t bc bs Q) : Gx Γ M pc ls ((0, x) :: (2, 0) :: st) v h t bc bs Q :=
  Gx_put (k := 20) (f := 26) (C := RX0) (T := TX0) (N := 54) d ho hh rfl rfl (by decide) in_X0 tyX0_ok nmX0 q211 rfl rfl rfl rfl rfl kk
theorem pf_X0_223_0 {a : Int} {n x : Int} (d : decode M.2.1 pc = .ok (.putfield 223, 3)) (ho : RX0 = M.2.2.2.2.1) (hh : h a = (0, n)) (kk : Gx Γ M (pc + 3) ls st (gUp v a 26 x) h t bc bs Q) : Gx Γ M pc ls ((0, x) :: (2, a) :: st) v h t bc bs Q :=
  Gx_put (k := 0) (f := 26) (C := RX0) (T := TX0) (N := 54) d ho hh rfl rfl (by decide) in_X0 tyX0_ok nmX0 q211 rfl rfl rfl rfl rfl kk
theorem pf_X0_226_20 {n x : Int} (d : decode M.2.1 pc = .ok (.putfield 226, 3)) (ho : RX0 = M.2.2.2.2.1) (hh : h 0 = (20, n)) (kk : Gx Γ M (pc + 3) ls st (gUp v 0 24 x) h t bc bs Q) : Gx Γ M pc ls ((0, x) :: (2, 0) :: st) v h t bc bs Q :=
  Gx_put (k := 20) (f := 24) (C := RX0) (T := TX0) (N := 54) d ho hh rfl rfl (by decide) in_X0 tyX0_ok nmX0 q209 rfl rfl rfl rfl rfl kk
theorem pf_X0_226_0 {a : Int} {n x : Int} (d : decode M.2.1 pc = .ok (.putfield 226, 3)) (ho : RX0 = M.2.2.2.2.1) (hh : h a = (0, n)) (kk : Gx Γ M (pc + 3) ls st (gUp v a 24 x) h t bc bs Q) : Gx Γ M pc ls ((0, x) :: (2, a) :: st) v h t bc bs Q :=
  Gx_put (k := 0) (f := 24) (C := RX0) (T := TX0) (N := 54) d ho hh rfl rfl (by decide) in_X0 tyX0_ok nmX0 q209 rfl rfl rfl rfl rfl kk
theorem pf_X0_229_20 {n x : Int} (d : decode M.2.1 pc = .ok (.putfield 229, 3)) (ho : RX0 = M.2.2.2.2.1) (hh : h 0 = (20, n)) (kk : Gx Γ M (pc + 3) ls st (gUp v 0 25 x) h t bc bs Q) : Gx Γ M pc ls ((0, x) :: (2, 0) :: st) v h t bc bs Q :=
  Gx_put (k := 20) (f := 25) (C := RX0) (T := TX0) (N := 54) d ho hh rfl rfl (by decide) in_X0 tyX0_ok nmX0 q210 rfl rfl rfl rfl rfl kk
theorem pf_X0_229_0 {a : Int} {n x : Int} (d : decode M.2.1 pc = .ok (.putfield 229, 3)) (ho : RX0 = M.2.2.2.2.1) (hh : h a = (0, n)) (kk : Gx Γ M (pc + 3) ls st (gUp v a 25 x) h t bc bs Q) : Gx Γ M pc ls ((0, x) :: (2, a) :: st) v h t bc bs Q :=
  Gx_put (k := 0) (f := 25) (C := RX0) (T := TX0) (N := 54) d ho hh rfl rfl (by decide) in_X0 tyX0_ok nmX0 q210 rfl rfl rfl rfl rfl kk
theorem pf_X0_232_20 {n x : Int} (d : decode M.2.1 pc = .ok (.putfield 232, 3)) (ho : RX0 = M.2.2.2.2.1) (hh : h 0 = (20, n)) (kk : Gx Γ M (pc + 3) ls st (gUp v 0 22 x) h t bc bs Q) : Gx Γ M pc ls ((2, x) :: (2, 0) :: st) v h t bc bs Q :=
  Gx_put (k := 20) (f := 22) (C := RX0) (T := TX0) (N := 54) d ho hh rfl rfl (by decide) in_X0 tyX0_ok nmX0 q207 rfl rfl rfl rfl rfl kk
theorem pf_X0_232_0 {a : Int} {n x : Int} (d : decode M.2.1 pc = .ok (.putfield 232, 3)) (ho : RX0 = M.2.2.2.2.1) (hh : h a = (0, n)) (kk : Gx Γ M (pc + 3) ls st (gUp v a 22 x) h t bc bs Q) : Gx Γ M pc ls ((2, x) :: (2, a) :: st) v h t bc bs Q :=
  Gx_put (k := 0) (f := 22) (C := RX0) (T := TX0) (N := 54) d ho hh rfl rfl (by decide) in_X0 tyX0_ok nmX0 q207 rfl rfl rfl rfl rfl kk
theorem pf_X0_267_20 {n x : Int} (d : decode M.2.1 pc = .ok (.putfield 267, 3)) (ho : RX0 = M.2.2.2.2.1) (hh : h 0 = (20, n)) (kk : Gx Γ M (pc + 3) ls st (gUp v 0 10 x) h t bc bs Q) : Gx Γ M pc ls ((0, x) :: (2, 0) :: st) v h t bc bs Q :=
  Gx_put (k := 20) (f := 10) (C := RX0) (T := TX0) (N := 54) d ho hh rfl rfl (by decide) in_X0 tyX0_ok nmX0 q195 rfl rfl rfl rfl rfl kk
theorem pf_X0_267_0 {a : Int} {n x : Int} (d : decode M.2.1 pc = .ok (.putfield 267, 3)) (ho : RX0 = M.2.2.2.2.1) (hh : h a = (0, n)) (kk : Gx Γ M (pc + 3) ls st (gUp v a 10 x) h t bc bs Q) : Gx Γ M pc ls ((0, x) :: (2, a) :: st) v h t bc bs Q :=
  Gx_put (k := 0) (f := 10) (C := RX0) (T := TX0) (N := 54) d ho hh rfl rfl (by decide) in_X0 tyX0_ok nmX0 q195 rfl rfl rfl rfl rfl kk
theorem pf_X0_270_20 {n x : Int} (d : decode M.2.1 pc = .ok (.putfield 270, 3)) (ho : RX0 = M.2.2.2.2.1) (hh : h 0 = (20, n)) (kk : Gx Γ M (pc + 3) ls st (gUp v 0 11 x) h t bc bs Q) : Gx Γ M pc ls ((0, x) :: (2, 0) :: st) v h t bc bs Q :=
  Gx_put (k := 20) (f := 11) (C := RX0) (T := TX0) (N := 54) d ho hh rfl rfl (by decide) in_X0 tyX0_ok nmX0 q196 rfl rfl rfl rfl rfl kk
theorem pf_X0_270_0 {a : Int} {n x : Int} (d : decode M.2.1 pc = .ok (.putfield 270, 3)) (ho : RX0 = M.2.2.2.2.1) (hh : h a = (0, n)) (kk : Gx Γ M (pc + 3) ls st (gUp v a 11 x) h t bc bs Q) : Gx Γ M pc ls ((0, x) :: (2, a) :: st) v h t bc bs Q :=
  Gx_put (k := 0) (f := 11) (C := RX0) (T := TX0) (N := 54) d ho hh rfl rfl (by decide) in_X0 tyX0_ok nmX0 q196 rfl rfl rfl rfl rfl kk
theorem pf_X0_273_20 {n x : Int} (d : decode M.2.1 pc = .ok (.putfield 273, 3)) (ho : RX0 = M.2.2.2.2.1) (hh : h 0 = (20, n)) (kk : Gx Γ M (pc + 3) ls st (gUp v 0 12 x) h t bc bs Q) : Gx Γ M pc ls ((0, x) :: (2, 0) :: st) v h t bc bs Q :=
  Gx_put (k := 20) (f := 12) (C := RX0) (T := TX0) (N := 54) d ho hh rfl rfl (by decide) in_X0 tyX0_ok nmX0 q197 rfl rfl rfl rfl rfl kk
theorem pf_X0_273_0 {a : Int} {n x : Int} (d : decode M.2.1 pc = .ok (.putfield 273, 3)) (ho : RX0 = M.2.2.2.2.1) (hh : h a = (0, n)) (kk : Gx Γ M (pc + 3) ls st (gUp v a 12 x) h t bc bs Q) : Gx Γ M pc ls ((0, x) :: (2, a) :: st) v h t bc bs Q :=
  Gx_put (k := 0) (f := 12) (C := RX0) (T := TX0) (N := 54) d ho hh rfl rfl (by decide) in_X0 tyX0_ok nmX0 q197 rfl rfl rfl rfl rfl kk
theorem pf_X0_276_20 {n x : Int} (d : decode M.2.1 pc = .ok (.putfield 276, 3)) (ho : RX0 = M.2.2.2.2.1) (hh : h 0 = (20, n)) (kk : Gx Γ M (pc + 3) ls st (gUp v 0 32 x) h t bc bs Q) : Gx Γ M pc ls ((0, x) :: (2, 0) :: st) v h t bc bs Q :=
  Gx_put (k := 20) (f := 32) (C := RX0) (T := TX0) (N := 54) d ho hh rfl rfl (by decide) in_X0 tyX0_ok nmX0 q217 rfl rfl rfl rfl rfl kk
theorem pf_X0_276_0 {a : Int} {n x : Int} (d : decode M.2.1 pc = .ok (.putfield 276, 3)) (ho : RX0 = M.2.2.2.2.1) (hh : h a = (0, n)) (kk : Gx Γ M (pc + 3) ls st (gUp v a 32 x) h t bc bs Q) : Gx Γ M pc ls ((0, x) :: (2, a) :: st) v h t bc bs Q :=
  Gx_put (k := 0) (f := 32) (C := RX0) (T := TX0) (N := 54) d ho hh rfl rfl (by decide) in_X0 tyX0_ok nmX0 q217 rfl rfl rfl rfl rfl kk
theorem pf_X0_279_21 {a : Int} {n x : Int} (d : decode M.2.1 pc = .ok (.putfield 279, 3)) (ho : RX0 = M.2.2.2.2.1) (hh : h a = (21, n)) (kk : Gx Γ M (pc + 3) ls st (gUp v a 2 x) h t bc bs Q) : Gx Γ M pc ls ((0, x) :: (2, a) :: st) v h t bc bs Q :=
  Gx_putN (k := 21) (f := 2) (C := RX1) (T := TX1) (N := 8) d ho hh rfl rfl (by decide) in_X1 tyX1_ok nmX1 q156 rfl rfl rfl rfl rfl kk
theorem pf_X0_279_1 {a : Int} {n x : Int} (d : decode M.2.1 pc = .ok (.putfield 279, 3)) (ho : RX0 = M.2.2.2.2.1) (hh : h a = (1, n)) (kk : Gx Γ M (pc + 3) ls st (gUp v a 2 x) h t bc bs Q) : Gx Γ M pc ls ((0, x) :: (2, a) :: st) v h t bc bs Q :=
  Gx_putN (k := 1) (f := 2) (C := RX1) (T := TX1) (N := 8) d ho hh rfl rfl (by decide) in_X1 tyX1_ok nmX1 q156 rfl rfl rfl rfl rfl kk
theorem pf_X0_321_8 {a : Int} {n x : Int} (d : decode M.2.1 pc = .ok (.putfield 321, 3)) (ho : RX0 = M.2.2.2.2.1) (hh : h a = (8, n)) (kk : Gx Γ M (pc + 3) ls st (gUp v a 0 x) h t bc bs Q) : Gx Γ M pc ls ((0, x) :: (2, a) :: st) v h t bc bs Q :=
  Gx_putN (k := 8) (f := 0) (C := RX9) (T := TX9) (N := 3) d ho hh rfl rfl (by decide) in_X9 tyX9_ok nmX9 q705 rfl rfl rfl rfl rfl kk
theorem pf_X0_324_8 {a : Int} {n x : Int} (d : decode M.2.1 pc = .ok (.putfield 324, 3)) (ho : RX0 = M.2.2.2.2.1) (hh : h a = (8, n)) (kk : Gx Γ M (pc + 3) ls st (gUp v a 1 x) h t bc bs Q) : Gx Γ M pc ls ((0, x) :: (2, a) :: st) v h t bc bs Q :=
  Gx_putN (k := 8) (f := 1) (C := RX9) (T := TX9) (N := 3) d ho hh rfl rfl (by decide) in_X9 tyX9_ok nmX9 q706 rfl rfl rfl rfl rfl kk
theorem pf_X0_327_8 {a : Int} {n x : Int} (d : decode M.2.1 pc = .ok (.putfield 327, 3)) (ho : RX0 = M.2.2.2.2.1) (hh : h a = (8, n)) (kk : Gx Γ M (pc + 3) ls st (gUp v a 2 x) h t bc bs Q) : Gx Γ M pc ls ((0, x) :: (2, a) :: st) v h t bc bs Q :=
  Gx_putN (k := 8) (f := 2) (C := RX9) (T := TX9) (N := 3) d ho hh rfl rfl (by decide) in_X9 tyX9_ok nmX9 q708 rfl rfl rfl rfl rfl kk
theorem pf_X0_374_21 {a : Int} {n x : Int} (d : decode M.2.1 pc = .ok (.putfield 374, 3)) (ho : RX0 = M.2.2.2.2.1) (hh : h a = (21, n)) (kk : Gx Γ M (pc + 3) ls st (gUp v a 6 x) h t bc bs Q) : Gx Γ M pc ls ((0, x) :: (2, a) :: st) v h t bc bs Q :=
  Gx_putN (k := 21) (f := 6) (C := RX1) (T := TX1) (N := 8) d ho hh rfl rfl (by decide) in_X1 tyX1_ok nmX1 q163 rfl rfl rfl rfl rfl kk
theorem pf_X0_374_1 {a : Int} {n x : Int} (d : decode M.2.1 pc = .ok (.putfield 374, 3)) (ho : RX0 = M.2.2.2.2.1) (hh : h a = (1, n)) (kk : Gx Γ M (pc + 3) ls st (gUp v a 6 x) h t bc bs Q) : Gx Γ M pc ls ((0, x) :: (2, a) :: st) v h t bc bs Q :=
  Gx_putN (k := 1) (f := 6) (C := RX1) (T := TX1) (N := 8) d ho hh rfl rfl (by decide) in_X1 tyX1_ok nmX1 q163 rfl rfl rfl rfl rfl kk
theorem pf_X0_399_21 {a : Int} {n x : Int} (d : decode M.2.1 pc = .ok (.putfield 399, 3)) (ho : RX0 = M.2.2.2.2.1) (hh : h a = (21, n)) (kk : Gx Γ M (pc + 3) ls st (gUp v a 7 x) h t bc bs Q) : Gx Γ M pc ls ((0, x) :: (2, a) :: st) v h t bc bs Q :=
  Gx_putN (k := 21) (f := 7) (C := RX1) (T := TX1) (N := 8) d ho hh rfl rfl (by decide) in_X1 tyX1_ok nmX1 q164 rfl rfl rfl rfl rfl kk
theorem pf_X0_399_1 {a : Int} {n x : Int} (d : decode M.2.1 pc = .ok (.putfield 399, 3)) (ho : RX0 = M.2.2.2.2.1) (hh : h a = (1, n)) (kk : Gx Γ M (pc + 3) ls st (gUp v a 7 x) h t bc bs Q) : Gx Γ M pc ls ((0, x) :: (2, a) :: st) v h t bc bs Q :=
  Gx_putN (k := 1) (f := 7) (C := RX1) (T := TX1) (N := 8) d ho hh rfl rfl (by decide) in_X1 tyX1_ok nmX1 q164 rfl rfl rfl rfl rfl kk
theorem pf_X0_439_20 {n x : Int} (d : decode M.2.1 pc = .ok (.putfield 439, 3)) (ho : RX0 = M.2.2.2.2.1) (hh : h 0 = (20, n)) (kk : Gx Γ M (pc + 3) ls st (gUp v 0 41 x) h t bc bs Q) : Gx Γ M pc ls ((0, x) :: (2, 0) :: st) v h t bc bs Q :=
  Gx_put (k := 20) (f := 41) (C := RX0) (T := TX0) (N := 54) d ho hh rfl rfl (by decide) in_X0 tyX0_ok nmX0 q226 rfl rfl rfl rfl rfl kk
theorem pf_X0_439_0 {a : Int} {n x : Int} (d : decode M.2.1 pc = .ok (.putfield 439, 3)) (ho : RX0 = M.2.2.2.2.1) (hh : h a = (0, n)) (kk : Gx Γ M (pc + 3) ls st (gUp v a 41 x) h t bc bs Q) : Gx Γ M pc ls ((0, x) :: (2, a) :: st) v h t bc bs Q :=
  Gx_put (k := 0) (f := 41) (C := RX0) (T := TX0) (N := 54) d ho hh rfl rfl (by decide) in_X0 tyX0_ok nmX0 q226 rfl rfl rfl rfl rfl kk
theorem pf_X0_442_20 {n x : Int} (d : decode M.2.1 pc = .ok (.putfield 442, 3)) (ho : RX0 = M.2.2.2.2.1) (hh : h 0 = (20, n)) (kk : Gx Γ M (pc + 3) ls st (gUp v 0 42 x) h t bc bs Q) : Gx Γ M pc ls ((0, x) :: (2, 0) :: st) v h t bc bs Q :=
  Gx_put (k := 20) (f := 42) (C := RX0) (T := TX0) (N := 54) d ho hh rfl rfl (by decide) in_X0 tyX0_ok nmX0 q227 rfl rfl rfl rfl rfl kk
theorem pf_X0_442_0 {a : Int} {n x : Int} (d : decode M.2.1 pc = .ok (.putfield 442, 3)) (ho : RX0 = M.2.2.2.2.1) (hh : h a = (0, n)) (kk : Gx Γ M (pc + 3) ls st (gUp v a 42 x) h t bc bs Q) : Gx Γ M pc ls ((0, x) :: (2, a) :: st) v h t bc bs Q :=
  Gx_put (k := 0) (f := 42) (C := RX0) (T := TX0) (N := 54) d ho hh rfl rfl (by decide) in_X0 tyX0_ok nmX0 q227 rfl rfl rfl rfl rfl kk
theorem pf_X0_448_20 {n x : Int} (d : decode M.2.1 pc = .ok (.putfield 448, 3)) (ho : RX0 = M.2.2.2.2.1) (hh : h 0 = (20, n)) (kk : Gx Γ M (pc + 3) ls st (gUp v 0 43 x) h t bc bs Q) : Gx Γ M pc ls ((0, x) :: (2, 0) :: st) v h t bc bs Q :=
  Gx_put (k := 20) (f := 43) (C := RX0) (T := TX0) (N := 54) d ho hh rfl rfl (by decide) in_X0 tyX0_ok nmX0 q228 rfl rfl rfl rfl rfl kk
theorem pf_X0_448_0 {a : Int} {n x : Int} (d : decode M.2.1 pc = .ok (.putfield 448, 3)) (ho : RX0 = M.2.2.2.2.1) (hh : h a = (0, n)) (kk : Gx Γ M (pc + 3) ls st (gUp v a 43 x) h t bc bs Q) : Gx Γ M pc ls ((0, x) :: (2, a) :: st) v h t bc bs Q :=
  Gx_put (k := 0) (f := 43) (C := RX0) (T := TX0) (N := 54) d ho hh rfl rfl (by decide) in_X0 tyX0_ok nmX0 q228 rfl rfl rfl rfl rfl kk
theorem pf_X0_451_20 {n x : Int} (d : decode M.2.1 pc = .ok (.putfield 451, 3)) (ho : RX0 = M.2.2.2.2.1) (hh : h 0 = (20, n)) (kk : Gx Γ M (pc + 3) ls st (gUp v 0 44 x) h t bc bs Q) : Gx Γ M pc ls ((0, x) :: (2, 0) :: st) v h t bc bs Q :=
  Gx_put (k := 20) (f := 44) (C := RX0) (T := TX0) (N := 54) d ho hh rfl rfl (by decide) in_X0 tyX0_ok nmX0 q229 rfl rfl rfl rfl rfl kk
theorem pf_X0_451_0 {a : Int} {n x : Int} (d : decode M.2.1 pc = .ok (.putfield 451, 3)) (ho : RX0 = M.2.2.2.2.1) (hh : h a = (0, n)) (kk : Gx Γ M (pc + 3) ls st (gUp v a 44 x) h t bc bs Q) : Gx Γ M pc ls ((0, x) :: (2, a) :: st) v h t bc bs Q :=
  Gx_put (k := 0) (f := 44) (C := RX0) (T := TX0) (N := 54) d ho hh rfl rfl (by decide) in_X0 tyX0_ok nmX0 q229 rfl rfl rfl rfl rfl kk
theorem pf_X0_454_20 {n x : Int} (d : decode M.2.1 pc = .ok (.putfield 454, 3)) (ho : RX0 = M.2.2.2.2.1) (hh : h 0 = (20, n)) (kk : Gx Γ M (pc + 3) ls st (gUp v 0 45 x) h t bc bs Q) : Gx Γ M pc ls ((1, x) :: (2, 0) :: st) v h t bc bs Q :=
  Gx_put (k := 20) (f := 45) (C := RX0) (T := TX0) (N := 54) d ho hh rfl rfl (by decide) in_X0 tyX0_ok nmX0 q230 rfl rfl rfl rfl rfl kk
theorem pf_X0_454_0 {a : Int} {n x : Int} (d : decode M.2.1 pc = .ok (.putfield 454, 3)) (ho : RX0 = M.2.2.2.2.1) (hh : h a = (0, n)) (kk : Gx Γ M (pc + 3) ls st (gUp v a 45 x) h t bc bs Q) : Gx Γ M pc ls ((1, x) :: (2, a) :: st) v h t bc bs Q :=
  Gx_put (k := 0) (f := 45) (C := RX0) (T := TX0) (N := 54) d ho hh rfl rfl (by decide) in_X0 tyX0_ok nmX0 q230 rfl rfl rfl rfl rfl kk
theorem pf_X0_457_20 {n x : Int} (d : decode M.2.1 pc = .ok (.putfield 457, 3)) (ho : RX0 = M.2.2.2.2.1) (hh : h 0 = (20, n)) (kk : Gx Γ M (pc + 3) ls st (gUp v 0 46 x) h t bc bs Q) : Gx Γ M pc ls ((1, x) :: (2, 0) :: st) v h t bc bs Q :=
  Gx_put (k := 20) (f := 46) (C := RX0) (T := TX0) (N := 54) d ho hh rfl rfl (by decide) in_X0 tyX0_ok nmX0 q231 rfl rfl rfl rfl rfl kk
theorem pf_X0_457_0 {a : Int} {n x : Int} (d : decode M.2.1 pc = .ok (.putfield 457, 3)) (ho : RX0 = M.2.2.2.2.1) (hh : h a = (0, n)) (kk : Gx Γ M (pc + 3) ls st (gUp v a 46 x) h t bc bs Q) : Gx Γ M pc ls ((1, x) :: (2, a) :: st) v h t bc bs Q :=
  Gx_put (k := 0) (f := 46) (C := RX0) (T := TX0) (N := 54) d ho hh rfl rfl (by decide) in_X0 tyX0_ok nmX0 q231 rfl rfl rfl rfl rfl kk
theorem pf_X0_459_20 {n x : Int} (d : decode M.2.1 pc = .ok (.putfield 459, 3)) (ho : RX0 = M.2.2.2.2.1) (hh : h 0 = (20, n)) (kk : Gx Γ M (pc + 3) ls st (gUp v 0 47 x) h t bc bs Q) : Gx Γ M pc ls ((1, x) :: (2, 0) :: st) v h t bc bs Q :=
  Gx_put (k := 20) (f := 47) (C := RX0) (T := TX0) (N := 54) d ho hh rfl rfl (by decide) in_X0 tyX0_ok nmX0 q232 rfl rfl rfl rfl rfl kk
theorem pf_X0_459_0 {a : Int} {n x : Int} (d : decode M.2.1 pc = .ok (.putfield 459, 3)) (ho : RX0 = M.2.2.2.2.1) (hh : h a = (0, n)) (kk : Gx Γ M (pc + 3) ls st (gUp v a 47 x) h t bc bs Q) : Gx Γ M pc ls ((1, x) :: (2, a) :: st) v h t bc bs Q :=
  Gx_put (k := 0) (f := 47) (C := RX0) (T := TX0) (N := 54) d ho hh rfl rfl (by decide) in_X0 tyX0_ok nmX0 q232 rfl rfl rfl rfl rfl kk
theorem pf_X0_462_20 {n x : Int} (d : decode M.2.1 pc = .ok (.putfield 462, 3)) (ho : RX0 = M.2.2.2.2.1) (hh : h 0 = (20, n)) (kk : Gx Γ M (pc + 3) ls st (gUp v 0 48 x) h t bc bs Q) : Gx Γ M pc ls ((1, x) :: (2, 0) :: st) v h t bc bs Q :=
  Gx_put (k := 20) (f := 48) (C := RX0) (T := TX0) (N := 54) d ho hh rfl rfl (by decide) in_X0 tyX0_ok nmX0 q233 rfl rfl rfl rfl rfl kk
theorem pf_X0_462_0 {a : Int} {n x : Int} (d : decode M.2.1 pc = .ok (.putfield 462, 3)) (ho : RX0 = M.2.2.2.2.1) (hh : h a = (0, n)) (kk : Gx Γ M (pc + 3) ls st (gUp v a 48 x) h t bc bs Q) : Gx Γ M pc ls ((1, x) :: (2, a) :: st) v h t bc bs Q :=
  Gx_put (k := 0) (f := 48) (C := RX0) (T := TX0) (N := 54) d ho hh rfl rfl (by decide) in_X0 tyX0_ok nmX0 q233 rfl rfl rfl rfl rfl kk
theorem pf_X0_514_20 {n x : Int} (d : decode M.2.1 pc = .ok (.putfield 514, 3)) (ho : RX0 = M.2.2.2.2.1) (hh : h 0 = (20, n)) (kk : Gx Γ M (pc + 3) ls st (gUp v 0 53 x) h t bc bs Q) : Gx Γ M pc ls ((1, x) :: (2, 0) :: st) v h t bc bs Q :=
  Gx_put (k := 20) (f := 53) (C := RX0) (T := TX0) (N := 54) d ho hh rfl rfl (by decide) in_X0 tyX0_ok nmX0 q238 rfl rfl rfl rfl rfl kk
theorem pf_X0_514_0 {a : Int} {n x : Int} (d : decode M.2.1 pc = .ok (.putfield 514, 3)) (ho : RX0 = M.2.2.2.2.1) (hh : h a = (0, n)) (kk : Gx Γ M (pc + 3) ls st (gUp v a 53 x) h t bc bs Q) : Gx Γ M pc ls ((1, x) :: (2, a) :: st) v h t bc bs Q :=
  Gx_put (k := 0) (f := 53) (C := RX0) (T := TX0) (N := 54) d ho hh rfl rfl (by decide) in_X0 tyX0_ok nmX0 q238 rfl rfl rfl rfl rfl kk
theorem gf_X1_9_21 {a : Int} {n : Int} (d : decode M.2.1 pc = .ok (.getfield 9, 3)) (ho : RX1 = M.2.2.2.2.1) (hh : h a = (21, n)) (kk : Gx Γ M (pc + 3) ls ((2, a + 1) :: st) v h t bc bs Q) : Gx Γ M pc ls ((2, a) :: st) v h t bc bs Q :=
  Gx_get (k := 21) (f := 0) (C := RX1) (T := TX1) (N := 8) d ho hh rfl rfl (by decide) in_X1 q151 rfl rfl rfl kk
theorem gf_X1_9_1 {a : Int} {n : Int} (d : decode M.2.1 pc = .ok (.getfield 9, 3)) (ho : RX1 = M.2.2.2.2.1) (hh : h a = (1, n)) (kk : Gx Γ M (pc + 3) ls ((2, v a 0) :: st) v h t bc bs Q) : Gx Γ M pc ls ((2, a) :: st) v h t bc bs Q :=
  Gx_get (k := 1) (f := 0) (C := RX1) (T := TX1) (N := 8) d ho hh rfl rfl (by decide) in_X1 q151 rfl rfl rfl kk
theorem gf_X1_15_21 {a : Int} {n : Int} (d : decode M.2.1 pc = .ok (.getfield 15, 3)) (ho : RX1 = M.2.2.2.2.1) (hh : h a = (21, n)) (kk : Gx Γ M (pc + 3) ls ((2, a + 2) :: st) v h t bc bs Q) : Gx Γ M pc ls ((2, a) :: st) v h t bc bs Q :=
  Gx_get (k := 21) (f := 1) (C := RX1) (T := TX1) (N := 8) d ho hh rfl rfl (by decide) in_X1 q153 rfl rfl rfl kk
theorem gf_X1_15_1 {a : Int} {n : Int} (d : decode M.2.1 pc = .ok (.getfield 15, 3)) (ho : RX1 = M.2.2.2.2.1) (hh : h a = (1, n)) (kk : Gx Γ M (pc + 3) ls ((2, v a 1) :: st) v h t bc bs Q) : Gx Γ M pc ls ((2, a) :: st) v h t bc bs Q :=
  Gx_get (k := 1) (f := 1) (C := RX1) (T := TX1) (N := 8) d ho hh rfl rfl (by decide) in_X1 q153 rfl rfl rfl kk
theorem gf_X1_34_21 {a : Int} {n : Int} (d : decode M.2.1 pc = .ok (.getfield 34, 3)) (ho : RX1 = M.2.2.2.2.1) (hh : h a = (21, n)) (kk : Gx Γ M (pc + 3) ls ((0, v a 2) :: st) v h t bc bs Q) : Gx Γ M pc ls ((2, a) :: st) v h t bc bs Q :=
  Gx_get (k := 21) (f := 2) (C := RX1) (T := TX1) (N := 8) d ho hh rfl rfl (by decide) in_X1 q155 rfl rfl rfl kk
theorem gf_X1_34_1 {a : Int} {n : Int} (d : decode M.2.1 pc = .ok (.getfield 34, 3)) (ho : RX1 = M.2.2.2.2.1) (hh : h a = (1, n)) (kk : Gx Γ M (pc + 3) ls ((0, v a 2) :: st) v h t bc bs Q) : Gx Γ M pc ls ((2, a) :: st) v h t bc bs Q :=
  Gx_get (k := 1) (f := 2) (C := RX1) (T := TX1) (N := 8) d ho hh rfl rfl (by decide) in_X1 q155 rfl rfl rfl kk
theorem pf_X1_9_1 {a : Int} {n x : Int} (d : decode M.2.1 pc = .ok (.putfield 9, 3)) (ho : RX1 = M.2.2.2.2.1) (hi : M.1.name = "<init>") (hh : h a = (1, n)) (kk : Gx Γ M (pc + 3) ls st (gUp v a 0 x) h t bc bs Q) : Gx Γ M pc ls ((2, x) :: (2, a) :: st) v h t bc bs Q :=
  Gx_putF (k := 1) (f := 0) (C := RX1) (T := TX1) (N := 8) d ho hi hh rfl rfl (by decide) in_X1 tyX1_ok nmX1 q151 rfl rfl rfl rfl rfl rfl kk
theorem pf_X1_15_1 {a : Int} {n x : Int} (d : decode M.2.1 pc = .ok (.putfield 15, 3)) (ho : RX1 = M.2.2.2.2.1) (hi : M.1.name = "<init>") (hh : h a = (1, n)) (kk : Gx Γ M (pc + 3) ls st (gUp v a 1 x) h t bc bs Q) : Gx Γ M pc ls ((2, x) :: (2, a) :: st) v h t bc bs Q :=
  Gx_putF (k := 1) (f := 1) (C := RX1) (T := TX1) (N := 8) d ho hi hh rfl rfl (by decide) in_X1 tyX1_ok nmX1 q153 rfl rfl rfl rfl rfl rfl kk
theorem pf_X1_18_1 {a : Int} {n x : Int} (d : decode M.2.1 pc = .ok (.putfield 18, 3)) (ho : RX1 = M.2.2.2.2.1) (hi : M.1.name = "<init>") (hh : h a = (1, n)) (kk : Gx Γ M (pc + 3) ls st (gUp v a 3 x) h t bc bs Q) : Gx Γ M pc ls ((2, x) :: (2, a) :: st) v h t bc bs Q :=
  Gx_putF (k := 1) (f := 3) (C := RX1) (T := TX1) (N := 8) d ho hi hh rfl rfl (by decide) in_X1 tyX1_ok nmX1 q157 rfl rfl rfl rfl rfl rfl kk
theorem pf_X1_22_1 {a : Int} {n x : Int} (d : decode M.2.1 pc = .ok (.putfield 22, 3)) (ho : RX1 = M.2.2.2.2.1) (hi : M.1.name = "<init>") (hh : h a = (1, n)) (kk : Gx Γ M (pc + 3) ls st (gUp v a 4 x) h t bc bs Q) : Gx Γ M pc ls ((2, x) :: (2, a) :: st) v h t bc bs Q :=
  Gx_putF (k := 1) (f := 4) (C := RX1) (T := TX1) (N := 8) d ho hi hh rfl rfl (by decide) in_X1 tyX1_ok nmX1 q159 rfl rfl rfl rfl rfl rfl kk
theorem pf_X1_25_1 {a : Int} {n x : Int} (d : decode M.2.1 pc = .ok (.putfield 25, 3)) (ho : RX1 = M.2.2.2.2.1) (hi : M.1.name = "<init>") (hh : h a = (1, n)) (kk : Gx Γ M (pc + 3) ls st (gUp v a 5 x) h t bc bs Q) : Gx Γ M pc ls ((2, x) :: (2, a) :: st) v h t bc bs Q :=
  Gx_putF (k := 1) (f := 5) (C := RX1) (T := TX1) (N := 8) d ho hi hh rfl rfl (by decide) in_X1 tyX1_ok nmX1 q161 rfl rfl rfl rfl rfl rfl kk
theorem pf_X1_34_21 {a : Int} {n x : Int} (d : decode M.2.1 pc = .ok (.putfield 34, 3)) (ho : RX1 = M.2.2.2.2.1) (hh : h a = (21, n)) (kk : Gx Γ M (pc + 3) ls st (gUp v a 2 x) h t bc bs Q) : Gx Γ M pc ls ((0, x) :: (2, a) :: st) v h t bc bs Q :=
  Gx_put (k := 21) (f := 2) (C := RX1) (T := TX1) (N := 8) d ho hh rfl rfl (by decide) in_X1 tyX1_ok nmX1 q155 rfl rfl rfl rfl rfl kk
theorem pf_X1_34_1 {a : Int} {n x : Int} (d : decode M.2.1 pc = .ok (.putfield 34, 3)) (ho : RX1 = M.2.2.2.2.1) (hh : h a = (1, n)) (kk : Gx Γ M (pc + 3) ls st (gUp v a 2 x) h t bc bs Q) : Gx Γ M pc ls ((0, x) :: (2, a) :: st) v h t bc bs Q :=
  Gx_put (k := 1) (f := 2) (C := RX1) (T := TX1) (N := 8) d ho hh rfl rfl (by decide) in_X1 tyX1_ok nmX1 q155 rfl rfl rfl rfl rfl kk
theorem gf_X2_7_22 {n : Int} (d : decode M.2.1 pc = .ok (.getfield 7, 3)) (ho : RX2 = M.2.2.2.2.1) (hh : h 38 = (22, n)) (kk : Gx Γ M (pc + 3) ls ((2, 39) :: st) v h t bc bs Q) : Gx Γ M pc ls ((2, 38) :: st) v h t bc bs Q :=
  Gx_get (k := 22) (f := 1) (C := RX2) (T := TX2) (N := 61) d ho hh rfl rfl (by decide) in_X2 q1194 rfl rfl rfl kk
theorem gf_X2_7_2 {a : Int} {n : Int} (d : decode M.2.1 pc = .ok (.getfield 7, 3)) (ho : RX2 = M.2.2.2.2.1) (hh : h a = (2, n)) (kk : Gx Γ M (pc + 3) ls ((2, v a 1) :: st) v h t bc bs Q) : Gx Γ M pc ls ((2, a) :: st) v h t bc bs Q :=
  Gx_get (k := 2) (f := 1) (C := RX2) (T := TX2) (N := 61) d ho hh rfl rfl (by decide) in_X2 q1194 rfl rfl rfl kk
theorem gf_X2_13_22 {n : Int} (d : decode M.2.1 pc = .ok (.getfield 13, 3)) (ho : RX2 = M.2.2.2.2.1) (hh : h 38 = (22, n)) (kk : Gx Γ M (pc + 3) ls ((2, 40) :: st) v h t bc bs Q) : Gx Γ M pc ls ((2, 38) :: st) v h t bc bs Q :=
  Gx_get (k := 22) (f := 5) (C := RX2) (T := TX2) (N := 61) d ho hh rfl rfl (by decide) in_X2 q1198 rfl rfl rfl kk
theorem gf_X2_13_2 {a : Int} {n : Int} (d : decode M.2.1 pc = .ok (.getfield 13, 3)) (ho : RX2 = M.2.2.2.2.1) (hh : h a = (2, n)) (kk : Gx Γ M (pc + 3) ls ((2, v a 5) :: st) v h t bc bs Q) : Gx Γ M pc ls ((2, a) :: st) v h t bc bs Q :=
  Gx_get (k := 2) (f := 5) (C := RX2) (T := TX2) (N := 61) d ho hh rfl rfl (by decide) in_X2 q1198 rfl rfl rfl kk
theorem gf_X2_16_22 {n : Int} (d : decode M.2.1 pc = .ok (.getfield 16, 3)) (ho : RX2 = M.2.2.2.2.1) (hh : h 38 = (22, n)) (kk : Gx Γ M (pc + 3) ls ((2, 41) :: st) v h t bc bs Q) : Gx Γ M pc ls ((2, 38) :: st) v h t bc bs Q :=
  Gx_get (k := 22) (f := 6) (C := RX2) (T := TX2) (N := 61) d ho hh rfl rfl (by decide) in_X2 q1199 rfl rfl rfl kk
theorem gf_X2_16_2 {a : Int} {n : Int} (d : decode M.2.1 pc = .ok (.getfield 16, 3)) (ho : RX2 = M.2.2.2.2.1) (hh : h a = (2, n)) (kk : Gx Γ M (pc + 3) ls ((2, v a 6) :: st) v h t bc bs Q) : Gx Γ M pc ls ((2, a) :: st) v h t bc bs Q :=
  Gx_get (k := 2) (f := 6) (C := RX2) (T := TX2) (N := 61) d ho hh rfl rfl (by decide) in_X2 q1199 rfl rfl rfl kk
theorem gf_X2_19_22 {n : Int} (d : decode M.2.1 pc = .ok (.getfield 19, 3)) (ho : RX2 = M.2.2.2.2.1) (hh : h 38 = (22, n)) (kk : Gx Γ M (pc + 3) ls ((2, 42) :: st) v h t bc bs Q) : Gx Γ M pc ls ((2, 38) :: st) v h t bc bs Q :=
  Gx_get (k := 22) (f := 7) (C := RX2) (T := TX2) (N := 61) d ho hh rfl rfl (by decide) in_X2 q1200 rfl rfl rfl kk
theorem gf_X2_19_2 {a : Int} {n : Int} (d : decode M.2.1 pc = .ok (.getfield 19, 3)) (ho : RX2 = M.2.2.2.2.1) (hh : h a = (2, n)) (kk : Gx Γ M (pc + 3) ls ((2, v a 7) :: st) v h t bc bs Q) : Gx Γ M pc ls ((2, a) :: st) v h t bc bs Q :=
  Gx_get (k := 2) (f := 7) (C := RX2) (T := TX2) (N := 61) d ho hh rfl rfl (by decide) in_X2 q1200 rfl rfl rfl kk
theorem gf_X2_22_22 {n : Int} (d : decode M.2.1 pc = .ok (.getfield 22, 3)) (ho : RX2 = M.2.2.2.2.1) (hh : h 38 = (22, n)) (kk : Gx Γ M (pc + 3) ls ((2, 43) :: st) v h t bc bs Q) : Gx Γ M pc ls ((2, 38) :: st) v h t bc bs Q :=
  Gx_get (k := 22) (f := 8) (C := RX2) (T := TX2) (N := 61) d ho hh rfl rfl (by decide) in_X2 q1201 rfl rfl rfl kk
theorem gf_X2_22_2 {a : Int} {n : Int} (d : decode M.2.1 pc = .ok (.getfield 22, 3)) (ho : RX2 = M.2.2.2.2.1) (hh : h a = (2, n)) (kk : Gx Γ M (pc + 3) ls ((2, v a 8) :: st) v h t bc bs Q) : Gx Γ M pc ls ((2, a) :: st) v h t bc bs Q :=
  Gx_get (k := 2) (f := 8) (C := RX2) (T := TX2) (N := 61) d ho hh rfl rfl (by decide) in_X2 q1201 rfl rfl rfl kk
theorem gf_X2_25_22 {n : Int} (d : decode M.2.1 pc = .ok (.getfield 25, 3)) (ho : RX2 = M.2.2.2.2.1) (hh : h 38 = (22, n)) (kk : Gx Γ M (pc + 3) ls ((2, 44) :: st) v h t bc bs Q) : Gx Γ M pc ls ((2, 38) :: st) v h t bc bs Q :=
  Gx_get (k := 22) (f := 9) (C := RX2) (T := TX2) (N := 61) d ho hh rfl rfl (by decide) in_X2 q1202 rfl rfl rfl kk
theorem gf_X2_25_2 {a : Int} {n : Int} (d : decode M.2.1 pc = .ok (.getfield 25, 3)) (ho : RX2 = M.2.2.2.2.1) (hh : h a = (2, n)) (kk : Gx Γ M (pc + 3) ls ((2, v a 9) :: st) v h t bc bs Q) : Gx Γ M pc ls ((2, a) :: st) v h t bc bs Q :=
  Gx_get (k := 2) (f := 9) (C := RX2) (T := TX2) (N := 61) d ho hh rfl rfl (by decide) in_X2 q1202 rfl rfl rfl kk
theorem gf_X2_29_22 {n : Int} (d : decode M.2.1 pc = .ok (.getfield 29, 3)) (ho : RX2 = M.2.2.2.2.1) (hh : h 38 = (22, n)) (kk : Gx Γ M (pc + 3) ls ((2, 45) :: st) v h t bc bs Q) : Gx Γ M pc ls ((2, 38) :: st) v h t bc bs Q :=
  Gx_get (k := 22) (f := 13) (C := RX2) (T := TX2) (N := 61) d ho hh rfl rfl (by decide) in_X2 q1206 rfl rfl rfl kk
theorem gf_X2_29_2 {a : Int} {n : Int} (d : decode M.2.1 pc = .ok (.getfield 29, 3)) (ho : RX2 = M.2.2.2.2.1) (hh : h a = (2, n)) (kk : Gx Γ M (pc + 3) ls ((2, v a 13) :: st) v h t bc bs Q) : Gx Γ M pc ls ((2, a) :: st) v h t bc bs Q :=
  Gx_get (k := 2) (f := 13) (C := RX2) (T := TX2) (N := 61) d ho hh rfl rfl (by decide) in_X2 q1206 rfl rfl rfl kk
theorem gf_X2_32_22 {n : Int} (d : decode M.2.1 pc = .ok (.getfield 32, 3)) (ho : RX2 = M.2.2.2.2.1) (hh : h 38 = (22, n)) (kk : Gx Γ M (pc + 3) ls ((2, 46) :: st) v h t bc bs Q) : Gx Γ M pc ls ((2, 38) :: st) v h t bc bs Q :=
  Gx_get (k := 22) (f := 15) (C := RX2) (T := TX2) (N := 61) d ho hh rfl rfl (by decide) in_X2 q1208 rfl rfl rfl kk
theorem gf_X2_32_2 {a : Int} {n : Int} (d : decode M.2.1 pc = .ok (.getfield 32, 3)) (ho : RX2 = M.2.2.2.2.1) (hh : h a = (2, n)) (kk : Gx Γ M (pc + 3) ls ((2, v a 15) :: st) v h t bc bs Q) : Gx Γ M pc ls ((2, a) :: st) v h t bc bs Q :=
  Gx_get (k := 2) (f := 15) (C := RX2) (T := TX2) (N := 61) d ho hh rfl rfl (by decide) in_X2 q1208 rfl rfl rfl kk
theorem gf_X2_35_22 {n : Int} (d : decode M.2.1 pc = .ok (.getfield 35, 3)) (ho : RX2 = M.2.2.2.2.1) (hh : h 38 = (22, n)) (kk : Gx Γ M (pc + 3) ls ((2, 47) :: st) v h t bc bs Q) : Gx Γ M pc ls ((2, 38) :: st) v h t bc bs Q :=
  Gx_get (k := 22) (f := 16) (C := RX2) (T := TX2) (N := 61) d ho hh rfl rfl (by decide) in_X2 q1209 rfl rfl rfl kk
theorem gf_X2_35_2 {a : Int} {n : Int} (d : decode M.2.1 pc = .ok (.getfield 35, 3)) (ho : RX2 = M.2.2.2.2.1) (hh : h a = (2, n)) (kk : Gx Γ M (pc + 3) ls ((2, v a 16) :: st) v h t bc bs Q) : Gx Γ M pc ls ((2, a) :: st) v h t bc bs Q :=
  Gx_get (k := 2) (f := 16) (C := RX2) (T := TX2) (N := 61) d ho hh rfl rfl (by decide) in_X2 q1209 rfl rfl rfl kk
theorem gf_X2_38_22 {n : Int} (d : decode M.2.1 pc = .ok (.getfield 38, 3)) (ho : RX2 = M.2.2.2.2.1) (hh : h 38 = (22, n)) (kk : Gx Γ M (pc + 3) ls ((2, 48) :: st) v h t bc bs Q) : Gx Γ M pc ls ((2, 38) :: st) v h t bc bs Q :=
  Gx_get (k := 22) (f := 18) (C := RX2) (T := TX2) (N := 61) d ho hh rfl rfl (by decide) in_X2 q1211 rfl rfl rfl kk
theorem gf_X2_38_2 {a : Int} {n : Int} (d : decode M.2.1 pc = .ok (.getfield 38, 3)) (ho : RX2 = M.2.2.2.2.1) (hh : h a = (2, n)) (kk : Gx Γ M (pc + 3) ls ((2, v a 18) :: st) v h t bc bs Q) : Gx Γ M pc ls ((2, a) :: st) v h t bc bs Q :=
  Gx_get (k := 2) (f := 18) (C := RX2) (T := TX2) (N := 61) d ho hh rfl rfl (by decide) in_X2 q1211 rfl rfl rfl kk
theorem gf_X2_41_22 {n : Int} (d : decode M.2.1 pc = .ok (.getfield 41, 3)) (ho : RX2 = M.2.2.2.2.1) (hh : h 38 = (22, n)) (kk : Gx Γ M (pc + 3) ls ((2, 49) :: st) v h t bc bs Q) : Gx Γ M pc ls ((2, 38) :: st) v h t bc bs Q :=
  Gx_get (k := 22) (f := 19) (C := RX2) (T := TX2) (N := 61) d ho hh rfl rfl (by decide) in_X2 q1212 rfl rfl rfl kk
theorem gf_X2_41_2 {a : Int} {n : Int} (d : decode M.2.1 pc = .ok (.getfield 41, 3)) (ho : RX2 = M.2.2.2.2.1) (hh : h a = (2, n)) (kk : Gx Γ M (pc + 3) ls ((2, v a 19) :: st) v h t bc bs Q) : Gx Γ M pc ls ((2, a) :: st) v h t bc bs Q :=
  Gx_get (k := 2) (f := 19) (C := RX2) (T := TX2) (N := 61) d ho hh rfl rfl (by decide) in_X2 q1212 rfl rfl rfl kk
theorem gf_X2_44_22 {n : Int} (d : decode M.2.1 pc = .ok (.getfield 44, 3)) (ho : RX2 = M.2.2.2.2.1) (hh : h 38 = (22, n)) (kk : Gx Γ M (pc + 3) ls ((2, 50) :: st) v h t bc bs Q) : Gx Γ M pc ls ((2, 38) :: st) v h t bc bs Q :=
  Gx_get (k := 22) (f := 21) (C := RX2) (T := TX2) (N := 61) d ho hh rfl rfl (by decide) in_X2 q1214 rfl rfl rfl kk
theorem gf_X2_44_2 {a : Int} {n : Int} (d : decode M.2.1 pc = .ok (.getfield 44, 3)) (ho : RX2 = M.2.2.2.2.1) (hh : h a = (2, n)) (kk : Gx Γ M (pc + 3) ls ((2, v a 21) :: st) v h t bc bs Q) : Gx Γ M pc ls ((2, a) :: st) v h t bc bs Q :=
  Gx_get (k := 2) (f := 21) (C := RX2) (T := TX2) (N := 61) d ho hh rfl rfl (by decide) in_X2 q1214 rfl rfl rfl kk
theorem gf_X2_47_22 {n : Int} (d : decode M.2.1 pc = .ok (.getfield 47, 3)) (ho : RX2 = M.2.2.2.2.1) (hh : h 38 = (22, n)) (kk : Gx Γ M (pc + 3) ls ((2, 51) :: st) v h t bc bs Q) : Gx Γ M pc ls ((2, 38) :: st) v h t bc bs Q :=
  Gx_get (k := 22) (f := 23) (C := RX2) (T := TX2) (N := 61) d ho hh rfl rfl (by decide) in_X2 q1216 rfl rfl rfl kk
theorem gf_X2_47_2 {a : Int} {n : Int} (d : decode M.2.1 pc = .ok (.getfield 47, 3)) (ho : RX2 = M.2.2.2.2.1) (hh : h a = (2, n)) (kk : Gx Γ M (pc + 3) ls ((2, v a 23) :: st) v h t bc bs Q) : Gx Γ M pc ls ((2, a) :: st) v h t bc bs Q :=
  Gx_get (k := 2) (f := 23) (C := RX2) (T := TX2) (N := 61) d ho hh rfl rfl (by decide) in_X2 q1216 rfl rfl rfl kk
theorem gf_X2_50_22 {n : Int} (d : decode M.2.1 pc = .ok (.getfield 50, 3)) (ho : RX2 = M.2.2.2.2.1) (hh : h 38 = (22, n)) (kk : Gx Γ M (pc + 3) ls ((2, 52) :: st) v h t bc bs Q) : Gx Γ M pc ls ((2, 38) :: st) v h t bc bs Q :=
  Gx_get (k := 22) (f := 24) (C := RX2) (T := TX2) (N := 61) d ho hh rfl rfl (by decide) in_X2 q1217 rfl rfl rfl kk
theorem gf_X2_50_2 {a : Int} {n : Int} (d : decode M.2.1 pc = .ok (.getfield 50, 3)) (ho : RX2 = M.2.2.2.2.1) (hh : h a = (2, n)) (kk : Gx Γ M (pc + 3) ls ((2, v a 24) :: st) v h t bc bs Q) : Gx Γ M pc ls ((2, a) :: st) v h t bc bs Q :=
  Gx_get (k := 2) (f := 24) (C := RX2) (T := TX2) (N := 61) d ho hh rfl rfl (by decide) in_X2 q1217 rfl rfl rfl kk
theorem gf_X2_53_22 {n : Int} (d : decode M.2.1 pc = .ok (.getfield 53, 3)) (ho : RX2 = M.2.2.2.2.1) (hh : h 38 = (22, n)) (kk : Gx Γ M (pc + 3) ls ((2, 53) :: st) v h t bc bs Q) : Gx Γ M pc ls ((2, 38) :: st) v h t bc bs Q :=
  Gx_get (k := 22) (f := 25) (C := RX2) (T := TX2) (N := 61) d ho hh rfl rfl (by decide) in_X2 q1218 rfl rfl rfl kk
theorem gf_X2_53_2 {a : Int} {n : Int} (d : decode M.2.1 pc = .ok (.getfield 53, 3)) (ho : RX2 = M.2.2.2.2.1) (hh : h a = (2, n)) (kk : Gx Γ M (pc + 3) ls ((2, v a 25) :: st) v h t bc bs Q) : Gx Γ M pc ls ((2, a) :: st) v h t bc bs Q :=
  Gx_get (k := 2) (f := 25) (C := RX2) (T := TX2) (N := 61) d ho hh rfl rfl (by decide) in_X2 q1218 rfl rfl rfl kk
theorem gf_X2_56_22 {n : Int} (d : decode M.2.1 pc = .ok (.getfield 56, 3)) (ho : RX2 = M.2.2.2.2.1) (hh : h 38 = (22, n)) (kk : Gx Γ M (pc + 3) ls ((2, 54) :: st) v h t bc bs Q) : Gx Γ M pc ls ((2, 38) :: st) v h t bc bs Q :=
  Gx_get (k := 22) (f := 29) (C := RX2) (T := TX2) (N := 61) d ho hh rfl rfl (by decide) in_X2 q1222 rfl rfl rfl kk
theorem gf_X2_56_2 {a : Int} {n : Int} (d : decode M.2.1 pc = .ok (.getfield 56, 3)) (ho : RX2 = M.2.2.2.2.1) (hh : h a = (2, n)) (kk : Gx Γ M (pc + 3) ls ((2, v a 29) :: st) v h t bc bs Q) : Gx Γ M pc ls ((2, a) :: st) v h t bc bs Q :=
  Gx_get (k := 2) (f := 29) (C := RX2) (T := TX2) (N := 61) d ho hh rfl rfl (by decide) in_X2 q1222 rfl rfl rfl kk
theorem gf_X2_59_22 {n : Int} (d : decode M.2.1 pc = .ok (.getfield 59, 3)) (ho : RX2 = M.2.2.2.2.1) (hh : h 38 = (22, n)) (kk : Gx Γ M (pc + 3) ls ((2, 55) :: st) v h t bc bs Q) : Gx Γ M pc ls ((2, 38) :: st) v h t bc bs Q :=
  Gx_get (k := 22) (f := 30) (C := RX2) (T := TX2) (N := 61) d ho hh rfl rfl (by decide) in_X2 q1223 rfl rfl rfl kk
theorem gf_X2_59_2 {a : Int} {n : Int} (d : decode M.2.1 pc = .ok (.getfield 59, 3)) (ho : RX2 = M.2.2.2.2.1) (hh : h a = (2, n)) (kk : Gx Γ M (pc + 3) ls ((2, v a 30) :: st) v h t bc bs Q) : Gx Γ M pc ls ((2, a) :: st) v h t bc bs Q :=
  Gx_get (k := 2) (f := 30) (C := RX2) (T := TX2) (N := 61) d ho hh rfl rfl (by decide) in_X2 q1223 rfl rfl rfl kk
theorem gf_X2_62_22 {n : Int} (d : decode M.2.1 pc = .ok (.getfield 62, 3)) (ho : RX2 = M.2.2.2.2.1) (hh : h 38 = (22, n)) (kk : Gx Γ M (pc + 3) ls ((2, 56) :: st) v h t bc bs Q) : Gx Γ M pc ls ((2, 38) :: st) v h t bc bs Q :=
  Gx_get (k := 22) (f := 32) (C := RX2) (T := TX2) (N := 61) d ho hh rfl rfl (by decide) in_X2 q1225 rfl rfl rfl kk
theorem gf_X2_62_2 {a : Int} {n : Int} (d : decode M.2.1 pc = .ok (.getfield 62, 3)) (ho : RX2 = M.2.2.2.2.1) (hh : h a = (2, n)) (kk : Gx Γ M (pc + 3) ls ((2, v a 32) :: st) v h t bc bs Q) : Gx Γ M pc ls ((2, a) :: st) v h t bc bs Q :=
  Gx_get (k := 2) (f := 32) (C := RX2) (T := TX2) (N := 61) d ho hh rfl rfl (by decide) in_X2 q1225 rfl rfl rfl kk
theorem gf_X2_65_22 {n : Int} (d : decode M.2.1 pc = .ok (.getfield 65, 3)) (ho : RX2 = M.2.2.2.2.1) (hh : h 38 = (22, n)) (kk : Gx Γ M (pc + 3) ls ((2, 57) :: st) v h t bc bs Q) : Gx Γ M pc ls ((2, 38) :: st) v h t bc bs Q :=
  Gx_get (k := 22) (f := 34) (C := RX2) (T := TX2) (N := 61) d ho hh rfl rfl (by decide) in_X2 q1227 rfl rfl rfl kk
theorem gf_X2_65_2 {a : Int} {n : Int} (d : decode M.2.1 pc = .ok (.getfield 65, 3)) (ho : RX2 = M.2.2.2.2.1) (hh : h a = (2, n)) (kk : Gx Γ M (pc + 3) ls ((2, v a 34) :: st) v h t bc bs Q) : Gx Γ M pc ls ((2, a) :: st) v h t bc bs Q :=
  Gx_get (k := 2) (f := 34) (C := RX2) (T := TX2) (N := 61) d ho hh rfl rfl (by decide) in_X2 q1227 rfl rfl rfl kk
theorem gf_X2_68_22 {n : Int} (d : decode M.2.1 pc = .ok (.getfield 68, 3)) (ho : RX2 = M.2.2.2.2.1) (hh : h 38 = (22, n)) (kk : Gx Γ M (pc + 3) ls ((2, 58) :: st) v h t bc bs Q) : Gx Γ M pc ls ((2, 38) :: st) v h t bc bs Q :=
  Gx_get (k := 22) (f := 35) (C := RX2) (T := TX2) (N := 61) d ho hh rfl rfl (by decide) in_X2 q1228 rfl rfl rfl kk
theorem gf_X2_68_2 {a : Int} {n : Int} (d : decode M.2.1 pc = .ok (.getfield 68, 3)) (ho : RX2 = M.2.2.2.2.1) (hh : h a = (2, n)) (kk : Gx Γ M (pc + 3) ls ((2, v a 35) :: st) v h t bc bs Q) : Gx Γ M pc ls ((2, a) :: st) v h t bc bs Q :=
  Gx_get (k := 2) (f := 35) (C := RX2) (T := TX2) (N := 61) d ho hh rfl rfl (by decide) in_X2 q1228 rfl rfl rfl kk
theorem gf_X2_71_22 {n : Int} (d : decode M.2.1 pc = .ok (.getfield 71, 3)) (ho : RX2 = M.2.2.2.2.1) (hh : h 38 = (22, n)) (kk : Gx Γ M (pc + 3) ls ((2, 59) :: st) v h t bc bs Q) : Gx Γ M pc ls ((2, 38) :: st) v h t bc bs Q :=
  Gx_get (k := 22) (f := 36) (C := RX2) (T := TX2) (N := 61) d ho hh rfl rfl (by decide) in_X2 q1229 rfl rfl rfl kk
theorem gf_X2_71_2 {a : Int} {n : Int} (d : decode M.2.1 pc = .ok (.getfield 71, 3)) (ho : RX2 = M.2.2.2.2.1) (hh : h a = (2, n)) (kk : Gx Γ M (pc + 3) ls ((2, v a 36) :: st) v h t bc bs Q) : Gx Γ M pc ls ((2, a) :: st) v h t bc bs Q :=
  Gx_get (k := 2) (f := 36) (C := RX2) (T := TX2) (N := 61) d ho hh rfl rfl (by decide) in_X2 q1229 rfl rfl rfl kk
theorem gf_X2_74_22 {n : Int} (d : decode M.2.1 pc = .ok (.getfield 74, 3)) (ho : RX2 = M.2.2.2.2.1) (hh : h 38 = (22, n)) (kk : Gx Γ M (pc + 3) ls ((2, 60) :: st) v h t bc bs Q) : Gx Γ M pc ls ((2, 38) :: st) v h t bc bs Q :=
  Gx_get (k := 22) (f := 37) (C := RX2) (T := TX2) (N := 61) d ho hh rfl rfl (by decide) in_X2 q1230 rfl rfl rfl kk
theorem gf_X2_74_2 {a : Int} {n : Int} (d : decode M.2.1 pc = .ok (.getfield 74, 3)) (ho : RX2 = M.2.2.2.2.1) (hh : h a = (2, n)) (kk : Gx Γ M (pc + 3) ls ((2, v a 37) :: st) v h t bc bs Q) : Gx Γ M pc ls ((2, a) :: st) v h t bc bs Q :=
  Gx_get (k := 2) (f := 37) (C := RX2) (T := TX2) (N := 61) d ho hh rfl rfl (by decide) in_X2 q1230 rfl rfl rfl kk
theorem gf_X2_77_22 {n : Int} (d : decode M.2.1 pc = .ok (.getfield 77, 3)) (ho : RX2 = M.2.2.2.2.1) (hh : h 38 = (22, n)) (kk : Gx Γ M (pc + 3) ls ((2, 61) :: st) v h t bc bs Q) : Gx Γ M pc ls ((2, 38) :: st) v h t bc bs Q :=
  Gx_get (k := 22) (f := 42) (C := RX2) (T := TX2) (N := 61) d ho hh rfl rfl (by decide) in_X2 q1235 rfl rfl rfl kk
theorem gf_X2_77_2 {a : Int} {n : Int} (d : decode M.2.1 pc = .ok (.getfield 77, 3)) (ho : RX2 = M.2.2.2.2.1) (hh : h a = (2, n)) (kk : Gx Γ M (pc + 3) ls ((2, v a 42) :: st) v h t bc bs Q) : Gx Γ M pc ls ((2, a) :: st) v h t bc bs Q :=
  Gx_get (k := 2) (f := 42) (C := RX2) (T := TX2) (N := 61) d ho hh rfl rfl (by decide) in_X2 q1235 rfl rfl rfl kk
theorem gf_X2_80_22 {n : Int} (d : decode M.2.1 pc = .ok (.getfield 80, 3)) (ho : RX2 = M.2.2.2.2.1) (hh : h 38 = (22, n)) (kk : Gx Γ M (pc + 3) ls ((2, 62) :: st) v h t bc bs Q) : Gx Γ M pc ls ((2, 38) :: st) v h t bc bs Q :=
  Gx_get (k := 22) (f := 43) (C := RX2) (T := TX2) (N := 61) d ho hh rfl rfl (by decide) in_X2 q1236 rfl rfl rfl kk
theorem gf_X2_80_2 {a : Int} {n : Int} (d : decode M.2.1 pc = .ok (.getfield 80, 3)) (ho : RX2 = M.2.2.2.2.1) (hh : h a = (2, n)) (kk : Gx Γ M (pc + 3) ls ((2, v a 43) :: st) v h t bc bs Q) : Gx Γ M pc ls ((2, a) :: st) v h t bc bs Q :=
  Gx_get (k := 2) (f := 43) (C := RX2) (T := TX2) (N := 61) d ho hh rfl rfl (by decide) in_X2 q1236 rfl rfl rfl kk
theorem gf_X2_84_22 {n : Int} (d : decode M.2.1 pc = .ok (.getfield 84, 3)) (ho : RX2 = M.2.2.2.2.1) (hh : h 38 = (22, n)) (kk : Gx Γ M (pc + 3) ls ((2, 63) :: st) v h t bc bs Q) : Gx Γ M pc ls ((2, 38) :: st) v h t bc bs Q :=
  Gx_get (k := 22) (f := 44) (C := RX2) (T := TX2) (N := 61) d ho hh rfl rfl (by decide) in_X2 q1237 rfl rfl rfl kk
theorem gf_X2_84_2 {a : Int} {n : Int} (d : decode M.2.1 pc = .ok (.getfield 84, 3)) (ho : RX2 = M.2.2.2.2.1) (hh : h a = (2, n)) (kk : Gx Γ M (pc + 3) ls ((2, v a 44) :: st) v h t bc bs Q) : Gx Γ M pc ls ((2, a) :: st) v h t bc bs Q :=
  Gx_get (k := 2) (f := 44) (C := RX2) (T := TX2) (N := 61) d ho hh rfl rfl (by decide) in_X2 q1237 rfl rfl rfl kk
theorem gf_X2_87_22 {n : Int} (d : decode M.2.1 pc = .ok (.getfield 87, 3)) (ho : RX2 = M.2.2.2.2.1) (hh : h 38 = (22, n)) (kk : Gx Γ M (pc + 3) ls ((2, 64) :: st) v h t bc bs Q) : Gx Γ M pc ls ((2, 38) :: st) v h t bc bs Q :=
  Gx_get (k := 22) (f := 45) (C := RX2) (T := TX2) (N := 61) d ho hh rfl rfl (by decide) in_X2 q1238 rfl rfl rfl kk
theorem gf_X2_87_2 {a : Int} {n : Int} (d : decode M.2.1 pc = .ok (.getfield 87, 3)) (ho : RX2 = M.2.2.2.2.1) (hh : h a = (2, n)) (kk : Gx Γ M (pc + 3) ls ((2, v a 45) :: st) v h t bc bs Q) : Gx Γ M pc ls ((2, a) :: st) v h t bc bs Q :=
  Gx_get (k := 2) (f := 45) (C := RX2) (T := TX2) (N := 61) d ho hh rfl rfl (by decide) in_X2 q1238 rfl rfl rfl kk
theorem gf_X2_90_22 {n : Int} (d : decode M.2.1 pc = .ok (.getfield 90, 3)) (ho : RX2 = M.2.2.2.2.1) (hh : h 38 = (22, n)) (kk : Gx Γ M (pc + 3) ls ((2, 65) :: st) v h t bc bs Q) : Gx Γ M pc ls ((2, 38) :: st) v h t bc bs Q :=
  Gx_get (k := 22) (f := 57) (C := RX2) (T := TX2) (N := 61) d ho hh rfl rfl (by decide) in_X2 q1250 rfl rfl rfl kk
theorem gf_X2_90_2 {a : Int} {n : Int} (d : decode M.2.1 pc = .ok (.getfield 90, 3)) (ho : RX2 = M.2.2.2.2.1) (hh : h a = (2, n)) (kk : Gx Γ M (pc + 3) ls ((2, v a 57) :: st) v h t bc bs Q) : Gx Γ M pc ls ((2, a) :: st) v h t bc bs Q :=
  Gx_get (k := 2) (f := 57) (C := RX2) (T := TX2) (N := 61) d ho hh rfl rfl (by decide) in_X2 q1250 rfl rfl rfl kk
theorem gf_X2_93_22 {n : Int} (d : decode M.2.1 pc = .ok (.getfield 93, 3)) (ho : RX2 = M.2.2.2.2.1) (hh : h 38 = (22, n)) (kk : Gx Γ M (pc + 3) ls ((1, v 38 4) :: st) v h t bc bs Q) : Gx Γ M pc ls ((2, 38) :: st) v h t bc bs Q :=
  Gx_get (k := 22) (f := 4) (C := RX2) (T := TX2) (N := 61) d ho hh rfl rfl (by decide) in_X2 q1197 rfl rfl rfl kk
theorem gf_X2_93_2 {a : Int} {n : Int} (d : decode M.2.1 pc = .ok (.getfield 93, 3)) (ho : RX2 = M.2.2.2.2.1) (hh : h a = (2, n)) (kk : Gx Γ M (pc + 3) ls ((1, v a 4) :: st) v h t bc bs Q) : Gx Γ M pc ls ((2, a) :: st) v h t bc bs Q :=
  Gx_get (k := 2) (f := 4) (C := RX2) (T := TX2) (N := 61) d ho hh rfl rfl (by decide) in_X2 q1197 rfl rfl rfl kk
theorem gf_X2_97_22 {n : Int} (d : decode M.2.1 pc = .ok (.getfield 97, 3)) (ho : RX2 = M.2.2.2.2.1) (hh : h 38 = (22, n)) (kk : Gx Γ M (pc + 3) ls ((0, v 38 28) :: st) v h t bc bs Q) : Gx Γ M pc ls ((2, 38) :: st) v h t bc bs Q :=
  Gx_get (k := 22) (f := 28) (C := RX2) (T := TX2) (N := 61) d ho hh rfl rfl (by decide) in_X2 q1221 rfl rfl rfl kk
theorem gf_X2_97_2 {a : Int} {n : Int} (d : decode M.2.1 pc = .ok (.getfield 97, 3)) (ho : RX2 = M.2.2.2.2.1) (hh : h a = (2, n)) (kk : Gx Γ M (pc + 3) ls ((0, v a 28) :: st) v h t bc bs Q) : Gx Γ M pc ls ((2, a) :: st) v h t bc bs Q :=
  Gx_get (k := 2) (f := 28) (C := RX2) (T := TX2) (N := 61) d ho hh rfl rfl (by decide) in_X2 q1221 rfl rfl rfl kk
theorem gf_X2_101_22 {n : Int} (d : decode M.2.1 pc = .ok (.getfield 101, 3)) (ho : RX2 = M.2.2.2.2.1) (hh : h 38 = (22, n)) (kk : Gx Γ M (pc + 3) ls ((0, v 38 0) :: st) v h t bc bs Q) : Gx Γ M pc ls ((2, 38) :: st) v h t bc bs Q :=
  Gx_get (k := 22) (f := 0) (C := RX2) (T := TX2) (N := 61) d ho hh rfl rfl (by decide) in_X2 q1193 rfl rfl rfl kk
theorem gf_X2_101_2 {a : Int} {n : Int} (d : decode M.2.1 pc = .ok (.getfield 101, 3)) (ho : RX2 = M.2.2.2.2.1) (hh : h a = (2, n)) (kk : Gx Γ M (pc + 3) ls ((0, v a 0) :: st) v h t bc bs Q) : Gx Γ M pc ls ((2, a) :: st) v h t bc bs Q :=
  Gx_get (k := 2) (f := 0) (C := RX2) (T := TX2) (N := 61) d ho hh rfl rfl (by decide) in_X2 q1193 rfl rfl rfl kk
theorem gf_X2_108_22 {n : Int} (d : decode M.2.1 pc = .ok (.getfield 108, 3)) (ho : RX2 = M.2.2.2.2.1) (hh : h 38 = (22, n)) (kk : Gx Γ M (pc + 3) ls ((0, v 38 2) :: st) v h t bc bs Q) : Gx Γ M pc ls ((2, 38) :: st) v h t bc bs Q :=
  Gx_get (k := 22) (f := 2) (C := RX2) (T := TX2) (N := 61) d ho hh rfl rfl (by decide) in_X2 q1195 rfl rfl rfl kk
theorem gf_X2_108_2 {a : Int} {n : Int} (d : decode M.2.1 pc = .ok (.getfield 108, 3)) (ho : RX2 = M.2.2.2.2.1) (hh : h a = (2, n)) (kk : Gx Γ M (pc + 3) ls ((0, v a 2) :: st) v h t bc bs Q) : Gx Γ M pc ls ((2, a) :: st) v h t bc bs Q :=
  Gx_get (k := 2) (f := 2) (C := RX2) (T := TX2) (N := 61) d ho hh rfl rfl (by decide) in_X2 q1195 rfl rfl rfl kk
theorem gf_X2_111_22 {n : Int} (d : decode M.2.1 pc = .ok (.getfield 111, 3)) (ho : RX2 = M.2.2.2.2.1) (hh : h 38 = (22, n)) (kk : Gx Γ M (pc + 3) ls ((1, v 38 3) :: st) v h t bc bs Q) : Gx Γ M pc ls ((2, 38) :: st) v h t bc bs Q :=
  Gx_get (k := 22) (f := 3) (C := RX2) (T := TX2) (N := 61) d ho hh rfl rfl (by decide) in_X2 q1196 rfl rfl rfl kk
theorem gf_X2_111_2 {a : Int} {n : Int} (d : decode M.2.1 pc = .ok (.getfield 111, 3)) (ho : RX2 = M.2.2.2.2.1) (hh : h a = (2, n)) (kk : Gx Γ M (pc + 3) ls ((1, v a 3) :: st) v h t bc bs Q) : Gx Γ M pc ls ((2, a) :: st) v h t bc bs Q :=
  Gx_get (k := 2) (f := 3) (C := RX2) (T := TX2) (N := 61) d ho hh rfl rfl (by decide) in_X2 q1196 rfl rfl rfl kk
theorem gf_X2_132_22 {n : Int} (d : decode M.2.1 pc = .ok (.getfield 132, 3)) (ho : RX2 = M.2.2.2.2.1) (hh : h 38 = (22, n)) (kk : Gx Γ M (pc + 3) ls ((0, v 38 10) :: st) v h t bc bs Q) : Gx Γ M pc ls ((2, 38) :: st) v h t bc bs Q :=
  Gx_get (k := 22) (f := 10) (C := RX2) (T := TX2) (N := 61) d ho hh rfl rfl (by decide) in_X2 q1203 rfl rfl rfl kk
theorem gf_X2_132_2 {a : Int} {n : Int} (d : decode M.2.1 pc = .ok (.getfield 132, 3)) (ho : RX2 = M.2.2.2.2.1) (hh : h a = (2, n)) (kk : Gx Γ M (pc + 3) ls ((0, v a 10) :: st) v h t bc bs Q) : Gx Γ M pc ls ((2, a) :: st) v h t bc bs Q :=
  Gx_get (k := 2) (f := 10) (C := RX2) (T := TX2) (N := 61) d ho hh rfl rfl (by decide) in_X2 q1203 rfl rfl rfl kk
theorem gf_X2_138_22 {n : Int} (d : decode M.2.1 pc = .ok (.getfield 138, 3)) (ho : RX2 = M.2.2.2.2.1) (hh : h 38 = (22, n)) (kk : Gx Γ M (pc + 3) ls ((0, v 38 11) :: st) v h t bc bs Q) : Gx Γ M pc ls ((2, 38) :: st) v h t bc bs Q :=
  Gx_get (k := 22) (f := 11) (C := RX2) (T := TX2) (N := 61) d ho hh rfl rfl (by decide) in_X2 q1204 rfl rfl rfl kk
theorem gf_X2_138_2 {a : Int} {n : Int} (d : decode M.2.1 pc = .ok (.getfield 138, 3)) (ho : RX2 = M.2.2.2.2.1) (hh : h a = (2, n)) (kk : Gx Γ M (pc + 3) ls ((0, v a 11) :: st) v h t bc bs Q) : Gx Γ M pc ls ((2, a) :: st) v h t bc bs Q :=
  Gx_get (k := 2) (f := 11) (C := RX2) (T := TX2) (N := 61) d ho hh rfl rfl (by decide) in_X2 q1204 rfl rfl rfl kk
theorem gf_X2_144_22 {n : Int} (d : decode M.2.1 pc = .ok (.getfield 144, 3)) (ho : RX2 = M.2.2.2.2.1) (hh : h 38 = (22, n)) (kk : Gx Γ M (pc + 3) ls ((0, v 38 12) :: st) v h t bc bs Q) : Gx Γ M pc ls ((2, 38) :: st) v h t bc bs Q :=
  Gx_get (k := 22) (f := 12) (C := RX2) (T := TX2) (N := 61) d ho hh rfl rfl (by decide) in_X2 q1205 rfl rfl rfl kk
theorem gf_X2_144_2 {a : Int} {n : Int} (d : decode M.2.1 pc = .ok (.getfield 144, 3)) (ho : RX2 = M.2.2.2.2.1) (hh : h a = (2, n)) (kk : Gx Γ M (pc + 3) ls ((0, v a 12) :: st) v h t bc bs Q) : Gx Γ M pc ls ((2, a) :: st) v h t bc bs Q :=
  Gx_get (k := 2) (f := 12) (C := RX2) (T := TX2) (N := 61) d ho hh rfl rfl (by decide) in_X2 q1205 rfl rfl rfl kk
theorem gf_X2_161_22 {n : Int} (d : decode M.2.1 pc = .ok (.getfield 161, 3)) (ho : RX2 = M.2.2.2.2.1) (hh : h 38 = (22, n)) (kk : Gx Γ M (pc + 3) ls ((0, v 38 14) :: st) v h t bc bs Q) : Gx Γ M pc ls ((2, 38) :: st) v h t bc bs Q :=
  Gx_get (k := 22) (f := 14) (C := RX2) (T := TX2) (N := 61) d ho hh rfl rfl (by decide) in_X2 q1207 rfl rfl rfl kk
theorem gf_X2_161_2 {a : Int} {n : Int} (d : decode M.2.1 pc = .ok (.getfield 161, 3)) (ho : RX2 = M.2.2.2.2.1) (hh : h a = (2, n)) (kk : Gx Γ M (pc + 3) ls ((0, v a 14) :: st) v h t bc bs Q) : Gx Γ M pc ls ((2, a) :: st) v h t bc bs Q :=
  Gx_get (k := 2) (f := 14) (C := RX2) (T := TX2) (N := 61) d ho hh rfl rfl (by decide) in_X2 q1207 rfl rfl rfl kk
theorem gf_X2_164_22 {n : Int} (d : decode M.2.1 pc = .ok (.getfield 164, 3)) (ho : RX2 = M.2.2.2.2.1) (hh : h 38 = (22, n)) (kk : Gx Γ M (pc + 3) ls ((0, v 38 17) :: st) v h t bc bs Q) : Gx Γ M pc ls ((2, 38) :: st) v h t bc bs Q :=
  Gx_get (k := 22) (f := 17) (C := RX2) (T := TX2) (N := 61) d ho hh rfl rfl (by decide) in_X2 q1210 rfl rfl rfl kk
theorem gf_X2_164_2 {a : Int} {n : Int} (d : decode M.2.1 pc = .ok (.getfield 164, 3)) (ho : RX2 = M.2.2.2.2.1) (hh : h a = (2, n)) (kk : Gx Γ M (pc + 3) ls ((0, v a 17) :: st) v h t bc bs Q) : Gx Γ M pc ls ((2, a) :: st) v h t bc bs Q :=
  Gx_get (k := 2) (f := 17) (C := RX2) (T := TX2) (N := 61) d ho hh rfl rfl (by decide) in_X2 q1210 rfl rfl rfl kk
theorem gf_X2_191_22 {n : Int} (d : decode M.2.1 pc = .ok (.getfield 191, 3)) (ho : RX2 = M.2.2.2.2.1) (hh : h 38 = (22, n)) (kk : Gx Γ M (pc + 3) ls ((0, v 38 20) :: st) v h t bc bs Q) : Gx Γ M pc ls ((2, 38) :: st) v h t bc bs Q :=
  Gx_get (k := 22) (f := 20) (C := RX2) (T := TX2) (N := 61) d ho hh rfl rfl (by decide) in_X2 q1213 rfl rfl rfl kk
theorem gf_X2_191_2 {a : Int} {n : Int} (d : decode M.2.1 pc = .ok (.getfield 191, 3)) (ho : RX2 = M.2.2.2.2.1) (hh : h a = (2, n)) (kk : Gx Γ M (pc + 3) ls ((0, v a 20) :: st) v h t bc bs Q) : Gx Γ M pc ls ((2, a) :: st) v h t bc bs Q :=
  Gx_get (k := 2) (f := 20) (C := RX2) (T := TX2) (N := 61) d ho hh rfl rfl (by decide) in_X2 q1213 rfl rfl rfl kk
theorem gf_X2_194_22 {n : Int} (d : decode M.2.1 pc = .ok (.getfield 194, 3)) (ho : RX2 = M.2.2.2.2.1) (hh : h 38 = (22, n)) (kk : Gx Γ M (pc + 3) ls ((0, v 38 22) :: st) v h t bc bs Q) : Gx Γ M pc ls ((2, 38) :: st) v h t bc bs Q :=
  Gx_get (k := 22) (f := 22) (C := RX2) (T := TX2) (N := 61) d ho hh rfl rfl (by decide) in_X2 q1215 rfl rfl rfl kk
theorem gf_X2_194_2 {a : Int} {n : Int} (d : decode M.2.1 pc = .ok (.getfield 194, 3)) (ho : RX2 = M.2.2.2.2.1) (hh : h a = (2, n)) (kk : Gx Γ M (pc + 3) ls ((0, v a 22) :: st) v h t bc bs Q) : Gx Γ M pc ls ((2, a) :: st) v h t bc bs Q :=
  Gx_get (k := 2) (f := 22) (C := RX2) (T := TX2) (N := 61) d ho hh rfl rfl (by decide) in_X2 q1215 rfl rfl rfl kk
theorem gf_X2_197_22 {n : Int} (d : decode M.2.1 pc = .ok (.getfield 197, 3)) (ho : RX2 = M.2.2.2.2.1) (hh : h 38 = (22, n)) (kk : Gx Γ M (pc + 3) ls ((0, v 38 26) :: st) v h t bc bs Q) : Gx Γ M pc ls ((2, 38) :: st) v h t bc bs Q :=
  Gx_get (k := 22) (f := 26) (C := RX2) (T := TX2) (N := 61) d ho hh rfl rfl (by decide) in_X2 q1219 rfl rfl rfl kk
theorem gf_X2_197_2 {a : Int} {n : Int} (d : decode M.2.1 pc = .ok (.getfield 197, 3)) (ho : RX2 = M.2.2.2.2.1) (hh : h a = (2, n)) (kk : Gx Γ M (pc + 3) ls ((0, v a 26) :: st) v h t bc bs Q) : Gx Γ M pc ls ((2, a) :: st) v h t bc bs Q :=
  Gx_get (k := 2) (f := 26) (C := RX2) (T := TX2) (N := 61) d ho hh rfl rfl (by decide) in_X2 q1219 rfl rfl rfl kk
theorem gf_X2_200_22 {n : Int} (d : decode M.2.1 pc = .ok (.getfield 200, 3)) (ho : RX2 = M.2.2.2.2.1) (hh : h 38 = (22, n)) (kk : Gx Γ M (pc + 3) ls ((0, v 38 27) :: st) v h t bc bs Q) : Gx Γ M pc ls ((2, 38) :: st) v h t bc bs Q :=
  Gx_get (k := 22) (f := 27) (C := RX2) (T := TX2) (N := 61) d ho hh rfl rfl (by decide) in_X2 q1220 rfl rfl rfl kk
theorem gf_X2_200_2 {a : Int} {n : Int} (d : decode M.2.1 pc = .ok (.getfield 200, 3)) (ho : RX2 = M.2.2.2.2.1) (hh : h a = (2, n)) (kk : Gx Γ M (pc + 3) ls ((0, v a 27) :: st) v h t bc bs Q) : Gx Γ M pc ls ((2, a) :: st) v h t bc bs Q :=
  Gx_get (k := 2) (f := 27) (C := RX2) (T := TX2) (N := 61) d ho hh rfl rfl (by decide) in_X2 q1220 rfl rfl rfl kk
theorem gf_X2_203_22 {n : Int} (d : decode M.2.1 pc = .ok (.getfield 203, 3)) (ho : RX2 = M.2.2.2.2.1) (hh : h 38 = (22, n)) (kk : Gx Γ M (pc + 3) ls ((0, v 38 33) :: st) v h t bc bs Q) : Gx Γ M pc ls ((2, 38) :: st) v h t bc bs Q :=
  Gx_get (k := 22) (f := 33) (C := RX2) (T := TX2) (N := 61) d ho hh rfl rfl (by decide) in_X2 q1226 rfl rfl rfl kk
theorem gf_X2_203_2 {a : Int} {n : Int} (d : decode M.2.1 pc = .ok (.getfield 203, 3)) (ho : RX2 = M.2.2.2.2.1) (hh : h a = (2, n)) (kk : Gx Γ M (pc + 3) ls ((0, v a 33) :: st) v h t bc bs Q) : Gx Γ M pc ls ((2, a) :: st) v h t bc bs Q :=
  Gx_get (k := 2) (f := 33) (C := RX2) (T := TX2) (N := 61) d ho hh rfl rfl (by decide) in_X2 q1226 rfl rfl rfl kk
theorem gf_X2_206_22 {n : Int} (d : decode M.2.1 pc = .ok (.getfield 206, 3)) (ho : RX2 = M.2.2.2.2.1) (hh : h 38 = (22, n)) (kk : Gx Γ M (pc + 3) ls ((0, v 38 31) :: st) v h t bc bs Q) : Gx Γ M pc ls ((2, 38) :: st) v h t bc bs Q :=
  Gx_get (k := 22) (f := 31) (C := RX2) (T := TX2) (N := 61) d ho hh rfl rfl (by decide) in_X2 q1224 rfl rfl rfl kk
theorem gf_X2_206_2 {a : Int} {n : Int} (d : decode M.2.1 pc = .ok (.getfield 206, 3)) (ho : RX2 = M.2.2.2.2.1) (hh : h a = (2, n)) (kk : Gx Γ M (pc + 3) ls ((0, v a 31) :: st) v h t bc bs Q) : Gx Γ M pc ls ((2, a) :: st) v h t bc bs Q :=
  Gx_get (k := 2) (f := 31) (C := RX2) (T := TX2) (N := 61) d ho hh rfl rfl (by decide) in_X2 q1224 rfl rfl rfl kk
theorem gf_X2_242_22 {n : Int} (d : decode M.2.1 pc = .ok (.getfield 242, 3)) (ho : RX2 = M.2.2.2.2.1) (hh : h 38 = (22, n)) (kk : Gx Γ M (pc + 3) ls ((0, v 38 41) :: st) v h t bc bs Q) : Gx Γ M pc ls ((2, 38) :: st) v h t bc bs Q :=
  Gx_get (k := 22) (f := 41) (C := RX2) (T := TX2) (N := 61) d ho hh rfl rfl (by decide) in_X2 q1234 rfl rfl rfl kk
theorem gf_X2_242_2 {a : Int} {n : Int} (d : decode M.2.1 pc = .ok (.getfield 242, 3)) (ho : RX2 = M.2.2.2.2.1) (hh : h a = (2, n)) (kk : Gx Γ M (pc + 3) ls ((0, v a 41) :: st) v h t bc bs Q) : Gx Γ M pc ls ((2, a) :: st) v h t bc bs Q :=
  Gx_get (k := 2) (f := 41) (C := RX2) (T := TX2) (N := 61) d ho hh rfl rfl (by decide) in_X2 q1234 rfl rfl rfl kk
theorem gf_X2_245_22 {n : Int} (d : decode M.2.1 pc = .ok (.getfield 245, 3)) (ho : RX2 = M.2.2.2.2.1) (hh : h 38 = (22, n)) (kk : Gx Γ M (pc + 3) ls ((0, v 38 40) :: st) v h t bc bs Q) : Gx Γ M pc ls ((2, 38) :: st) v h t bc bs Q :=
  Gx_get (k := 22) (f := 40) (C := RX2) (T := TX2) (N := 61) d ho hh rfl rfl (by decide) in_X2 q1233 rfl rfl rfl kk
theorem gf_X2_245_2 {a : Int} {n : Int} (d : decode M.2.1 pc = .ok (.getfield 245, 3)) (ho : RX2 = M.2.2.2.2.1) (hh : h a = (2, n)) (kk : Gx Γ M (pc + 3) ls ((0, v a 40) :: st) v h t bc bs Q) : Gx Γ M pc ls ((2, a) :: st) v h t bc bs Q :=
  Gx_get (k := 2) (f := 40) (C := RX2) (T := TX2) (N := 61) d ho hh rfl rfl (by decide) in_X2 q1233 rfl rfl rfl kk
theorem gf_X2_251_22 {n : Int} (d : decode M.2.1 pc = .ok (.getfield 251, 3)) (ho : RX2 = M.2.2.2.2.1) (hh : h 38 = (22, n)) (kk : Gx Γ M (pc + 3) ls ((0, v 38 38) :: st) v h t bc bs Q) : Gx Γ M pc ls ((2, 38) :: st) v h t bc bs Q :=
  Gx_get (k := 22) (f := 38) (C := RX2) (T := TX2) (N := 61) d ho hh rfl rfl (by decide) in_X2 q1231 rfl rfl rfl kk
theorem gf_X2_251_2 {a : Int} {n : Int} (d : decode M.2.1 pc = .ok (.getfield 251, 3)) (ho : RX2 = M.2.2.2.2.1) (hh : h a = (2, n)) (kk : Gx Γ M (pc + 3) ls ((0, v a 38) :: st) v h t bc bs Q) : Gx Γ M pc ls ((2, a) :: st) v h t bc bs Q :=
  Gx_get (k := 2) (f := 38) (C := RX2) (T := TX2) (N := 61) d ho hh rfl rfl (by decide) in_X2 q1231 rfl rfl rfl kk
theorem gf_X2_266_22 {n : Int} (d : decode M.2.1 pc = .ok (.getfield 266, 3)) (ho : RX2 = M.2.2.2.2.1) (hh : h 38 = (22, n)) (kk : Gx Γ M (pc + 3) ls ((0, v 38 39) :: st) v h t bc bs Q) : Gx Γ M pc ls ((2, 38) :: st) v h t bc bs Q :=
  Gx_get (k := 22) (f := 39) (C := RX2) (T := TX2) (N := 61) d ho hh rfl rfl (by decide) in_X2 q1232 rfl rfl rfl kk
theorem gf_X2_266_2 {a : Int} {n : Int} (d : decode M.2.1 pc = .ok (.getfield 266, 3)) (ho : RX2 = M.2.2.2.2.1) (hh : h a = (2, n)) (kk : Gx Γ M (pc + 3) ls ((0, v a 39) :: st) v h t bc bs Q) : Gx Γ M pc ls ((2, a) :: st) v h t bc bs Q :=
  Gx_get (k := 2) (f := 39) (C := RX2) (T := TX2) (N := 61) d ho hh rfl rfl (by decide) in_X2 q1232 rfl rfl rfl kk
theorem gf_X2_299_22 {n : Int} (d : decode M.2.1 pc = .ok (.getfield 299, 3)) (ho : RX2 = M.2.2.2.2.1) (hh : h 38 = (22, n)) (kk : Gx Γ M (pc + 3) ls ((0, v 38 46) :: st) v h t bc bs Q) : Gx Γ M pc ls ((2, 38) :: st) v h t bc bs Q :=
  Gx_get (k := 22) (f := 46) (C := RX2) (T := TX2) (N := 61) d ho hh rfl rfl (by decide) in_X2 q1239 rfl rfl rfl kk
theorem gf_X2_299_2 {a : Int} {n : Int} (d : decode M.2.1 pc = .ok (.getfield 299, 3)) (ho : RX2 = M.2.2.2.2.1) (hh : h a = (2, n)) (kk : Gx Γ M (pc + 3) ls ((0, v a 46) :: st) v h t bc bs Q) : Gx Γ M pc ls ((2, a) :: st) v h t bc bs Q :=
  Gx_get (k := 2) (f := 46) (C := RX2) (T := TX2) (N := 61) d ho hh rfl rfl (by decide) in_X2 q1239 rfl rfl rfl kk
theorem gf_X2_302_22 {n : Int} (d : decode M.2.1 pc = .ok (.getfield 302, 3)) (ho : RX2 = M.2.2.2.2.1) (hh : h 38 = (22, n)) (kk : Gx Γ M (pc + 3) ls ((0, v 38 47) :: st) v h t bc bs Q) : Gx Γ M pc ls ((2, 38) :: st) v h t bc bs Q :=
  Gx_get (k := 22) (f := 47) (C := RX2) (T := TX2) (N := 61) d ho hh rfl rfl (by decide) in_X2 q1240 rfl rfl rfl kk
theorem gf_X2_302_2 {a : Int} {n : Int} (d : decode M.2.1 pc = .ok (.getfield 302, 3)) (ho : RX2 = M.2.2.2.2.1) (hh : h a = (2, n)) (kk : Gx Γ M (pc + 3) ls ((0, v a 47) :: st) v h t bc bs Q) : Gx Γ M pc ls ((2, a) :: st) v h t bc bs Q :=
  Gx_get (k := 2) (f := 47) (C := RX2) (T := TX2) (N := 61) d ho hh rfl rfl (by decide) in_X2 q1240 rfl rfl rfl kk
theorem gf_X2_309_22 {n : Int} (d : decode M.2.1 pc = .ok (.getfield 309, 3)) (ho : RX2 = M.2.2.2.2.1) (hh : h 38 = (22, n)) (kk : Gx Γ M (pc + 3) ls ((1, v 38 48) :: st) v h t bc bs Q) : Gx Γ M pc ls ((2, 38) :: st) v h t bc bs Q :=
  Gx_get (k := 22) (f := 48) (C := RX2) (T := TX2) (N := 61) d ho hh rfl rfl (by decide) in_X2 q1241 rfl rfl rfl kk
theorem gf_X2_309_2 {a : Int} {n : Int} (d : decode M.2.1 pc = .ok (.getfield 309, 3)) (ho : RX2 = M.2.2.2.2.1) (hh : h a = (2, n)) (kk : Gx Γ M (pc + 3) ls ((1, v a 48) :: st) v h t bc bs Q) : Gx Γ M pc ls ((2, a) :: st) v h t bc bs Q :=
  Gx_get (k := 2) (f := 48) (C := RX2) (T := TX2) (N := 61) d ho hh rfl rfl (by decide) in_X2 q1241 rfl rfl rfl kk
theorem gf_X2_312_22 {n : Int} (d : decode M.2.1 pc = .ok (.getfield 312, 3)) (ho : RX2 = M.2.2.2.2.1) (hh : h 38 = (22, n)) (kk : Gx Γ M (pc + 3) ls ((0, v 38 49) :: st) v h t bc bs Q) : Gx Γ M pc ls ((2, 38) :: st) v h t bc bs Q :=
  Gx_get (k := 22) (f := 49) (C := RX2) (T := TX2) (N := 61) d ho hh rfl rfl (by decide) in_X2 q1242 rfl rfl rfl kk
theorem gf_X2_312_2 {a : Int} {n : Int} (d : decode M.2.1 pc = .ok (.getfield 312, 3)) (ho : RX2 = M.2.2.2.2.1) (hh : h a = (2, n)) (kk : Gx Γ M (pc + 3) ls ((0, v a 49) :: st) v h t bc bs Q) : Gx Γ M pc ls ((2, a) :: st) v h t bc bs Q :=
  Gx_get (k := 2) (f := 49) (C := RX2) (T := TX2) (N := 61) d ho hh rfl rfl (by decide) in_X2 q1242 rfl rfl rfl kk
theorem gf_X2_315_22 {n : Int} (d : decode M.2.1 pc = .ok (.getfield 315, 3)) (ho : RX2 = M.2.2.2.2.1) (hh : h 38 = (22, n)) (kk : Gx Γ M (pc + 3) ls ((1, v 38 50) :: st) v h t bc bs Q) : Gx Γ M pc ls ((2, 38) :: st) v h t bc bs Q :=
  Gx_get (k := 22) (f := 50) (C := RX2) (T := TX2) (N := 61) d ho hh rfl rfl (by decide) in_X2 q1243 rfl rfl rfl kk
theorem gf_X2_315_2 {a : Int} {n : Int} (d : decode M.2.1 pc = .ok (.getfield 315, 3)) (ho : RX2 = M.2.2.2.2.1) (hh : h a = (2, n)) (kk : Gx Γ M (pc + 3) ls ((1, v a 50) :: st) v h t bc bs Q) : Gx Γ M pc ls ((2, a) :: st) v h t bc bs Q :=
  Gx_get (k := 2) (f := 50) (C := RX2) (T := TX2) (N := 61) d ho hh rfl rfl (by decide) in_X2 q1243 rfl rfl rfl kk
theorem gf_X2_318_22 {n : Int} (d : decode M.2.1 pc = .ok (.getfield 318, 3)) (ho : RX2 = M.2.2.2.2.1) (hh : h 38 = (22, n)) (kk : Gx Γ M (pc + 3) ls ((1, v 38 51) :: st) v h t bc bs Q) : Gx Γ M pc ls ((2, 38) :: st) v h t bc bs Q :=
  Gx_get (k := 22) (f := 51) (C := RX2) (T := TX2) (N := 61) d ho hh rfl rfl (by decide) in_X2 q1244 rfl rfl rfl kk
theorem gf_X2_318_2 {a : Int} {n : Int} (d : decode M.2.1 pc = .ok (.getfield 318, 3)) (ho : RX2 = M.2.2.2.2.1) (hh : h a = (2, n)) (kk : Gx Γ M (pc + 3) ls ((1, v a 51) :: st) v h t bc bs Q) : Gx Γ M pc ls ((2, a) :: st) v h t bc bs Q :=
  Gx_get (k := 2) (f := 51) (C := RX2) (T := TX2) (N := 61) d ho hh rfl rfl (by decide) in_X2 q1244 rfl rfl rfl kk
theorem gf_X2_321_22 {n : Int} (d : decode M.2.1 pc = .ok (.getfield 321, 3)) (ho : RX2 = M.2.2.2.2.1) (hh : h 38 = (22, n)) (kk : Gx Γ M (pc + 3) ls ((1, v 38 52) :: st) v h t bc bs Q) : Gx Γ M pc ls ((2, 38) :: st) v h t bc bs Q :=
  Gx_get (k := 22) (f := 52) (C := RX2) (T := TX2) (N := 61) d ho hh rfl rfl (by decide) in_X2 q1245 rfl rfl rfl kk
theorem gf_X2_321_2 {a : Int} {n : Int} (d : decode M.2.1 pc = .ok (.getfield 321, 3)) (ho : RX2 = M.2.2.2.2.1) (hh : h a = (2, n)) (kk : Gx Γ M (pc + 3) ls ((1, v a 52) :: st) v h t bc bs Q) : Gx Γ M pc ls ((2, a) :: st) v h t bc bs Q :=
  Gx_get (k := 2) (f := 52) (C := RX2) (T := TX2) (N := 61) d ho hh rfl rfl (by decide) in_X2 q1245 rfl rfl rfl kk
theorem gf_X2_324_22 {n : Int} (d : decode M.2.1 pc = .ok (.getfield 324, 3)) (ho : RX2 = M.2.2.2.2.1) (hh : h 38 = (22, n)) (kk : Gx Γ M (pc + 3) ls ((1, v 38 53) :: st) v h t bc bs Q) : Gx Γ M pc ls ((2, 38) :: st) v h t bc bs Q :=
  Gx_get (k := 22) (f := 53) (C := RX2) (T := TX2) (N := 61) d ho hh rfl rfl (by decide) in_X2 q1246 rfl rfl rfl kk
theorem gf_X2_324_2 {a : Int} {n : Int} (d : decode M.2.1 pc = .ok (.getfield 324, 3)) (ho : RX2 = M.2.2.2.2.1) (hh : h a = (2, n)) (kk : Gx Γ M (pc + 3) ls ((1, v a 53) :: st) v h t bc bs Q) : Gx Γ M pc ls ((2, a) :: st) v h t bc bs Q :=
  Gx_get (k := 2) (f := 53) (C := RX2) (T := TX2) (N := 61) d ho hh rfl rfl (by decide) in_X2 q1246 rfl rfl rfl kk
theorem gf_X2_327_22 {n : Int} (d : decode M.2.1 pc = .ok (.getfield 327, 3)) (ho : RX2 = M.2.2.2.2.1) (hh : h 38 = (22, n)) (kk : Gx Γ M (pc + 3) ls ((1, v 38 54) :: st) v h t bc bs Q) : Gx Γ M pc ls ((2, 38) :: st) v h t bc bs Q :=
  Gx_get (k := 22) (f := 54) (C := RX2) (T := TX2) (N := 61) d ho hh rfl rfl (by decide) in_X2 q1247 rfl rfl rfl kk
theorem gf_X2_327_2 {a : Int} {n : Int} (d : decode M.2.1 pc = .ok (.getfield 327, 3)) (ho : RX2 = M.2.2.2.2.1) (hh : h a = (2, n)) (kk : Gx Γ M (pc + 3) ls ((1, v a 54) :: st) v h t bc bs Q) : Gx Γ M pc ls ((2, a) :: st) v h t bc bs Q :=
  Gx_get (k := 2) (f := 54) (C := RX2) (T := TX2) (N := 61) d ho hh rfl rfl (by decide) in_X2 q1247 rfl rfl rfl kk
theorem gf_X2_330_22 {n : Int} (d : decode M.2.1 pc = .ok (.getfield 330, 3)) (ho : RX2 = M.2.2.2.2.1) (hh : h 38 = (22, n)) (kk : Gx Γ M (pc + 3) ls ((1, v 38 55) :: st) v h t bc bs Q) : Gx Γ M pc ls ((2, 38) :: st) v h t bc bs Q :=
  Gx_get (k := 22) (f := 55) (C := RX2) (T := TX2) (N := 61) d ho hh rfl rfl (by decide) in_X2 q1248 rfl rfl rfl kk
theorem gf_X2_330_2 {a : Int} {n : Int} (d : decode M.2.1 pc = .ok (.getfield 330, 3)) (ho : RX2 = M.2.2.2.2.1) (hh : h a = (2, n)) (kk : Gx Γ M (pc + 3) ls ((1, v a 55) :: st) v h t bc bs Q) : Gx Γ M pc ls ((2, a) :: st) v h t bc bs Q :=
  Gx_get (k := 2) (f := 55) (C := RX2) (T := TX2) (N := 61) d ho hh rfl rfl (by decide) in_X2 q1248 rfl rfl rfl kk
theorem gf_X2_333_22 {n : Int} (d : decode M.2.1 pc = .ok (.getfield 333, 3)) (ho : RX2 = M.2.2.2.2.1) (hh : h 38 = (22, n)) (kk : Gx Γ M (pc + 3) ls ((0, v 38 56) :: st) v h t bc bs Q) : Gx Γ M pc ls ((2, 38) :: st) v h t bc bs Q :=
  Gx_get (k := 22) (f := 56) (C := RX2) (T := TX2) (N := 61) d ho hh rfl rfl (by decide) in_X2 q1249 rfl rfl rfl kk
theorem gf_X2_333_2 {a : Int} {n : Int} (d : decode M.2.1 pc = .ok (.getfield 333, 3)) (ho : RX2 = M.2.2.2.2.1) (hh : h a = (2, n)) (kk : Gx Γ M (pc + 3) ls ((0, v a 56) :: st) v h t bc bs Q) : Gx Γ M pc ls ((2, a) :: st) v h t bc bs Q :=
  Gx_get (k := 2) (f := 56) (C := RX2) (T := TX2) (N := 61) d ho hh rfl rfl (by decide) in_X2 q1249 rfl rfl rfl kk
theorem gf_X2_350_22 {n : Int} (d : decode M.2.1 pc = .ok (.getfield 350, 3)) (ho : RX2 = M.2.2.2.2.1) (hh : h 38 = (22, n)) (kk : Gx Γ M (pc + 3) ls ((1, v 38 58) :: st) v h t bc bs Q) : Gx Γ M pc ls ((2, 38) :: st) v h t bc bs Q :=
  Gx_get (k := 22) (f := 58) (C := RX2) (T := TX2) (N := 61) d ho hh rfl rfl (by decide) in_X2 q1251 rfl rfl rfl kk
theorem gf_X2_350_2 {a : Int} {n : Int} (d : decode M.2.1 pc = .ok (.getfield 350, 3)) (ho : RX2 = M.2.2.2.2.1) (hh : h a = (2, n)) (kk : Gx Γ M (pc + 3) ls ((1, v a 58) :: st) v h t bc bs Q) : Gx Γ M pc ls ((2, a) :: st) v h t bc bs Q :=
  Gx_get (k := 2) (f := 58) (C := RX2) (T := TX2) (N := 61) d ho hh rfl rfl (by decide) in_X2 q1251 rfl rfl rfl kk
theorem gf_X2_353_22 {n : Int} (d : decode M.2.1 pc = .ok (.getfield 353, 3)) (ho : RX2 = M.2.2.2.2.1) (hh : h 38 = (22, n)) (kk : Gx Γ M (pc + 3) ls ((0, v 38 59) :: st) v h t bc bs Q) : Gx Γ M pc ls ((2, 38) :: st) v h t bc bs Q :=
  Gx_get (k := 22) (f := 59) (C := RX2) (T := TX2) (N := 61) d ho hh rfl rfl (by decide) in_X2 q1252 rfl rfl rfl kk
theorem gf_X2_353_2 {a : Int} {n : Int} (d : decode M.2.1 pc = .ok (.getfield 353, 3)) (ho : RX2 = M.2.2.2.2.1) (hh : h a = (2, n)) (kk : Gx Γ M (pc + 3) ls ((0, v a 59) :: st) v h t bc bs Q) : Gx Γ M pc ls ((2, a) :: st) v h t bc bs Q :=
  Gx_get (k := 2) (f := 59) (C := RX2) (T := TX2) (N := 61) d ho hh rfl rfl (by decide) in_X2 q1252 rfl rfl rfl kk
theorem gf_X2_381_22 {n : Int} (d : decode M.2.1 pc = .ok (.getfield 381, 3)) (ho : RX2 = M.2.2.2.2.1) (hh : h 38 = (22, n)) (kk : Gx Γ M (pc + 3) ls ((1, v 38 60) :: st) v h t bc bs Q) : Gx Γ M pc ls ((2, 38) :: st) v h t bc bs Q :=
  Gx_get (k := 22) (f := 60) (C := RX2) (T := TX2) (N := 61) d ho hh rfl rfl (by decide) in_X2 q1253 rfl rfl rfl kk
theorem gf_X2_381_2 {a : Int} {n : Int} (d : decode M.2.1 pc = .ok (.getfield 381, 3)) (ho : RX2 = M.2.2.2.2.1) (hh : h a = (2, n)) (kk : Gx Γ M (pc + 3) ls ((1, v a 60) :: st) v h t bc bs Q) : Gx Γ M pc ls ((2, a) :: st) v h t bc bs Q :=
  Gx_get (k := 2) (f := 60) (C := RX2) (T := TX2) (N := 61) d ho hh rfl rfl (by decide) in_X2 q1253 rfl rfl rfl kk
theorem pf_X2_7_2 {a : Int} {n x : Int} (d : decode M.2.1 pc = .ok (.putfield 7, 3)) (ho : RX2 = M.2.2.2.2.1) (hi : M.1.name = "<init>") (hh : h a = (2, n)) (kk : Gx Γ M (pc + 3) ls st (gUp v a 1 x) h t bc bs Q) : Gx Γ M pc ls ((2, x) :: (2, a) :: st) v h t bc bs Q :=
  Gx_putF (k := 2) (f := 1) (C := RX2) (T := TX2) (N := 61) d ho hi hh rfl rfl (by decide) in_X2 tyX2_ok nmX2 q1194 rfl rfl rfl rfl rfl rfl kk
theorem pf_X2_13_2 {a : Int} {n x : Int} (d : decode M.2.1 pc = .ok (.putfield 13, 3)) (ho : RX2 = M.2.2.2.2.1) (hi : M.1.name = "<init>") (hh : h a = (2, n)) (kk : Gx Γ M (pc + 3) ls st (gUp v a 5 x) h t bc bs Q) : Gx Γ M pc ls ((2, x) :: (2, a) :: st) v h t bc bs Q :=
  Gx_putF (k := 2) (f := 5) (C := RX2) (T := TX2) (N := 61) d ho hi hh rfl rfl (by decide) in_X2 tyX2_ok nmX2 q1198 rfl rfl rfl rfl rfl rfl kk
theorem pf_X2_16_2 {a : Int} {n x : Int} (d : decode M.2.1 pc = .ok (.putfield 16, 3)) (ho : RX2 = M.2.2.2.2.1) (hi : M.1.name = "<init>") (hh : h a = (2, n)) (kk : Gx Γ M (pc + 3) ls st (gUp v a 6 x) h t bc bs Q) : Gx Γ M pc ls ((2, x) :: (2, a) :: st) v h t bc bs Q :=
  Gx_putF (k := 2) (f := 6) (C := RX2) (T := TX2) (N := 61) d ho hi hh rfl rfl (by decide) in_X2 tyX2_ok nmX2 q1199 rfl rfl rfl rfl rfl rfl kk
theorem pf_X2_19_2 {a : Int} {n x : Int} (d : decode M.2.1 pc = .ok (.putfield 19, 3)) (ho : RX2 = M.2.2.2.2.1) (hi : M.1.name = "<init>") (hh : h a = (2, n)) (kk : Gx Γ M (pc + 3) ls st (gUp v a 7 x) h t bc bs Q) : Gx Γ M pc ls ((2, x) :: (2, a) :: st) v h t bc bs Q :=
  Gx_putF (k := 2) (f := 7) (C := RX2) (T := TX2) (N := 61) d ho hi hh rfl rfl (by decide) in_X2 tyX2_ok nmX2 q1200 rfl rfl rfl rfl rfl rfl kk
theorem pf_X2_22_2 {a : Int} {n x : Int} (d : decode M.2.1 pc = .ok (.putfield 22, 3)) (ho : RX2 = M.2.2.2.2.1) (hi : M.1.name = "<init>") (hh : h a = (2, n)) (kk : Gx Γ M (pc + 3) ls st (gUp v a 8 x) h t bc bs Q) : Gx Γ M pc ls ((2, x) :: (2, a) :: st) v h t bc bs Q :=
  Gx_putF (k := 2) (f := 8) (C := RX2) (T := TX2) (N := 61) d ho hi hh rfl rfl (by decide) in_X2 tyX2_ok nmX2 q1201 rfl rfl rfl rfl rfl rfl kk
theorem pf_X2_25_2 {a : Int} {n x : Int} (d : decode M.2.1 pc = .ok (.putfield 25, 3)) (ho : RX2 = M.2.2.2.2.1) (hi : M.1.name = "<init>") (hh : h a = (2, n)) (kk : Gx Γ M (pc + 3) ls st (gUp v a 9 x) h t bc bs Q) : Gx Γ M pc ls ((2, x) :: (2, a) :: st) v h t bc bs Q :=
  Gx_putF (k := 2) (f := 9) (C := RX2) (T := TX2) (N := 61) d ho hi hh rfl rfl (by decide) in_X2 tyX2_ok nmX2 q1202 rfl rfl rfl rfl rfl rfl kk
theorem pf_X2_29_2 {a : Int} {n x : Int} (d : decode M.2.1 pc = .ok (.putfield 29, 3)) (ho : RX2 = M.2.2.2.2.1) (hi : M.1.name = "<init>") (hh : h a = (2, n)) (kk : Gx Γ M (pc + 3) ls st (gUp v a 13 x) h t bc bs Q) : Gx Γ M pc ls ((2, x) :: (2, a) :: st) v h t bc bs Q :=
  Gx_putF (k := 2) (f := 13) (C := RX2) (T := TX2) (N := 61) d ho hi hh rfl rfl (by decide) in_X2 tyX2_ok nmX2 q1206 rfl rfl rfl rfl rfl rfl kk
theorem pf_X2_32_2 {a : Int} {n x : Int} (d : decode M.2.1 pc = .ok (.putfield 32, 3)) (ho : RX2 = M.2.2.2.2.1) (hi : M.1.name = "<init>") (hh : h a = (2, n)) (kk : Gx Γ M (pc + 3) ls st (gUp v a 15 x) h t bc bs Q) : Gx Γ M pc ls ((2, x) :: (2, a) :: st) v h t bc bs Q :=
  Gx_putF (k := 2) (f := 15) (C := RX2) (T := TX2) (N := 61) d ho hi hh rfl rfl (by decide) in_X2 tyX2_ok nmX2 q1208 rfl rfl rfl rfl rfl rfl kk
theorem pf_X2_35_2 {a : Int} {n x : Int} (d : decode M.2.1 pc = .ok (.putfield 35, 3)) (ho : RX2 = M.2.2.2.2.1) (hi : M.1.name = "<init>") (hh : h a = (2, n)) (kk : Gx Γ M (pc + 3) ls st (gUp v a 16 x) h t bc bs Q) : Gx Γ M pc ls ((2, x) :: (2, a) :: st) v h t bc bs Q :=
  Gx_putF (k := 2) (f := 16) (C := RX2) (T := TX2) (N := 61) d ho hi hh rfl rfl (by decide) in_X2 tyX2_ok nmX2 q1209 rfl rfl rfl rfl rfl rfl kk
theorem pf_X2_38_2 {a : Int} {n x : Int} (d : decode M.2.1 pc = .ok (.putfield 38, 3)) (ho : RX2 = M.2.2.2.2.1) (hi : M.1.name = "<init>") (hh : h a = (2, n)) (kk : Gx Γ M (pc + 3) ls st (gUp v a 18 x) h t bc bs Q) : Gx Γ M pc ls ((2, x) :: (2, a) :: st) v h t bc bs Q :=
  Gx_putF (k := 2) (f := 18) (C := RX2) (T := TX2) (N := 61) d ho hi hh rfl rfl (by decide) in_X2 tyX2_ok nmX2 q1211 rfl rfl rfl rfl rfl rfl kk
theorem pf_X2_41_2 {a : Int} {n x : Int} (d : decode M.2.1 pc = .ok (.putfield 41, 3)) (ho : RX2 = M.2.2.2.2.1) (hi : M.1.name = "<init>") (hh : h a = (2, n)) (kk : Gx Γ M (pc + 3) ls st (gUp v a 19 x) h t bc bs Q) : Gx Γ M pc ls ((2, x) :: (2, a) :: st) v h t bc bs Q :=
  Gx_putF (k := 2) (f := 19) (C := RX2) (T := TX2) (N := 61) d ho hi hh rfl rfl (by decide) in_X2 tyX2_ok nmX2 q1212 rfl rfl rfl rfl rfl rfl kk
theorem pf_X2_44_2 {a : Int} {n x : Int} (d : decode M.2.1 pc = .ok (.putfield 44, 3)) (ho : RX2 = M.2.2.2.2.1) (hi : M.1.name = "<init>") (hh : h a = (2, n)) (kk : Gx Γ M (pc + 3) ls st (gUp v a 21 x) h t bc bs Q) : Gx Γ M pc ls ((2, x) :: (2, a) :: st) v h t bc bs Q :=
  Gx_putF (k := 2) (f := 21) (C := RX2) (T := TX2) (N := 61) d ho hi hh rfl rfl (by decide) in_X2 tyX2_ok nmX2 q1214 rfl rfl rfl rfl rfl rfl kk
theorem pf_X2_47_2 {a : Int} {n x : Int} (d : decode M.2.1 pc = .ok (.putfield 47, 3)) (ho : RX2 = M.2.2.2.2.1) (hi : M.1.name = "<init>") (hh : h a = (2, n)) (kk : Gx Γ M (pc + 3) ls st (gUp v a 23 x) h t bc bs Q) : Gx Γ M pc ls ((2, x) :: (2, a) :: st) v h t bc bs Q :=
  Gx_putF (k := 2) (f := 23) (C := RX2) (T := TX2) (N := 61) d ho hi hh rfl rfl (by decide) in_X2 tyX2_ok nmX2 q1216 rfl rfl rfl rfl rfl rfl kk
theorem pf_X2_50_2 {a : Int} {n x : Int} (d : decode M.2.1 pc = .ok (.putfield 50, 3)) (ho : RX2 = M.2.2.2.2.1) (hi : M.1.name = "<init>") (hh : h a = (2, n)) (kk : Gx Γ M (pc + 3) ls st (gUp v a 24 x) h t bc bs Q) : Gx Γ M pc ls ((2, x) :: (2, a) :: st) v h t bc bs Q :=
  Gx_putF (k := 2) (f := 24) (C := RX2) (T := TX2) (N := 61) d ho hi hh rfl rfl (by decide) in_X2 tyX2_ok nmX2 q1217 rfl rfl rfl rfl rfl rfl kk
theorem pf_X2_53_2 {a : Int} {n x : Int} (d : decode M.2.1 pc = .ok (.putfield 53, 3)) (ho : RX2 = M.2.2.2.2.1) (hi : M.1.name = "<init>") (hh : h a = (2, n)) (kk : Gx Γ M (pc + 3) ls st (gUp v a 25 x) h t bc bs Q) : Gx Γ M pc ls ((2, x) :: (2, a) :: st) v h t bc bs Q :=
  Gx_putF (k := 2) (f := 25) (C := RX2) (T := TX2) (N := 61) d ho hi hh rfl rfl (by decide) in_X2 tyX2_ok nmX2 q1218 rfl rfl rfl rfl rfl rfl kk
theorem pf_X2_56_2 {a : Int} {n x : Int} (d : decode M.2.1 pc = .ok (.putfield 56, 3)) (ho : RX2 = M.2.2.2.2.1) (hi : M.1.name = "<init>") (hh : h a = (2, n)) (kk : Gx Γ M (pc + 3) ls st (gUp v a 29 x) h t bc bs Q) : Gx Γ M pc ls ((2, x) :: (2, a) :: st) v h t bc bs Q :=
  Gx_putF (k := 2) (f := 29) (C := RX2) (T := TX2) (N := 61) d ho hi hh rfl rfl (by decide) in_X2 tyX2_ok nmX2 q1222 rfl rfl rfl rfl rfl rfl kk
theorem pf_X2_59_2 {a : Int} {n x : Int} (d : decode M.2.1 pc = .ok (.putfield 59, 3)) (ho : RX2 = M.2.2.2.2.1) (hi : M.1.name = "<init>") (hh : h a = (2, n)) (kk : Gx Γ M (pc + 3) ls st (gUp v a 30 x) h t bc bs Q) : Gx Γ M pc ls ((2, x) :: (2, a) :: st) v h t bc bs Q :=
  Gx_putF (k := 2) (f := 30) (C := RX2) (T := TX2) (N := 61) d ho hi hh rfl rfl (by decide) in_X2 tyX2_ok nmX2 q1223 rfl rfl rfl rfl rfl rfl kk
theorem pf_X2_62_2 {a : Int} {n x : Int} (d : decode M.2.1 pc = .ok (.putfield 62, 3)) (ho : RX2 = M.2.2.2.2.1) (hi : M.1.name = "<init>") (hh : h a = (2, n)) (kk : Gx Γ M (pc + 3) ls st (gUp v a 32 x) h t bc bs Q) : Gx Γ M pc ls ((2, x) :: (2, a) :: st) v h t bc bs Q :=
  Gx_putF (k := 2) (f := 32) (C := RX2) (T := TX2) (N := 61) d ho hi hh rfl rfl (by decide) in_X2 tyX2_ok nmX2 q1225 rfl rfl rfl rfl rfl rfl kk
theorem pf_X2_65_2 {a : Int} {n x : Int} (d : decode M.2.1 pc = .ok (.putfield 65, 3)) (ho : RX2 = M.2.2.2.2.1) (hi : M.1.name = "<init>") (hh : h a = (2, n)) (kk : Gx Γ M (pc + 3) ls st (gUp v a 34 x) h t bc bs Q) : Gx Γ M pc ls ((2, x) :: (2, a) :: st) v h t bc bs Q :=
  Gx_putF (k := 2) (f := 34) (C := RX2) (T := TX2) (N := 61) d ho hi hh rfl rfl (by decide) in_X2 tyX2_ok nmX2 q1227 rfl rfl rfl rfl rfl rfl kk
theorem pf_X2_68_2 {a : Int} {n x : Int} (d : decode M.2.1 pc = .ok (.putfield 68, 3)) (ho : RX2 = M.2.2.2.2.1) (hi : M.1.name = "<init>") (hh : h a = (2, n)) (kk : Gx Γ M (pc + 3) ls st (gUp v a 35 x) h t bc bs Q) : Gx Γ M pc ls ((2, x) :: (2, a) :: st) v h t bc bs Q :=
  Gx_putF (k := 2) (f := 35) (C := RX2) (T := TX2) (N := 61) d ho hi hh rfl rfl (by decide) in_X2 tyX2_ok nmX2 q1228 rfl rfl rfl rfl rfl rfl kk
theorem pf_X2_71_2 {a : Int} {n x : Int} (d : decode M.2.1 pc = .ok (.putfield 71, 3)) (ho : RX2 = M.2.2.2.2.1) (hi : M.1.name = "<init>") (hh : h a = (2, n)) (kk : Gx Γ M (pc + 3) ls st (gUp v a 36 x) h t bc bs Q) : Gx Γ M pc ls ((2, x) :: (2, a) :: st) v h t bc bs Q :=
  Gx_putF (k := 2) (f := 36) (C := RX2) (T := TX2) (N := 61) d ho hi hh rfl rfl (by decide) in_X2 tyX2_ok nmX2 q1229 rfl rfl rfl rfl rfl rfl kk
theorem pf_X2_74_2 {a : Int} {n x : Int} (d : decode M.2.1 pc = .ok (.putfield 74, 3)) (ho : RX2 = M.2.2.2.2.1) (hi : M.1.name = "<init>") (hh : h a = (2, n)) (kk : Gx Γ M (pc + 3) ls st (gUp v a 37 x) h t bc bs Q) : Gx Γ M pc ls ((2, x) :: (2, a) :: st) v h t bc bs Q :=
  Gx_putF (k := 2) (f := 37) (C := RX2) (T := TX2) (N := 61) d ho hi hh rfl rfl (by decide) in_X2 tyX2_ok nmX2 q1230 rfl rfl rfl rfl rfl rfl kk
theorem pf_X2_77_2 {a : Int} {n x : Int} (d : decode M.2.1 pc = .ok (.putfield 77, 3)) (ho : RX2 = M.2.2.2.2.1) (hi : M.1.name = "<init>") (hh : h a = (2, n)) (kk : Gx Γ M (pc + 3) ls st (gUp v a 42 x) h t bc bs Q) : Gx Γ M pc ls ((2, x) :: (2, a) :: st) v h t bc bs Q :=
  Gx_putF (k := 2) (f := 42) (C := RX2) (T := TX2) (N := 61) d ho hi hh rfl rfl (by decide) in_X2 tyX2_ok nmX2 q1235 rfl rfl rfl rfl rfl rfl kk
theorem pf_X2_80_2 {a : Int} {n x : Int} (d : decode M.2.1 pc = .ok (.putfield 80, 3)) (ho : RX2 = M.2.2.2.2.1) (hi : M.1.name = "<init>") (hh : h a = (2, n)) (kk : Gx Γ M (pc + 3) ls st (gUp v a 43 x) h t bc bs Q) : Gx Γ M pc ls ((2, x) :: (2, a) :: st) v h t bc bs Q :=
  Gx_putF (k := 2) (f := 43) (C := RX2) (T := TX2) (N := 61) d ho hi hh rfl rfl (by decide) in_X2 tyX2_ok nmX2 q1236 rfl rfl rfl rfl rfl rfl kk
theorem pf_X2_84_2 {a : Int} {n x : Int} (d : decode M.2.1 pc = .ok (.putfield 84, 3)) (ho : RX2 = M.2.2.2.2.1) (hi : M.1.name = "<init>") (hh : h a = (2, n)) (kk : Gx Γ M (pc + 3) ls st (gUp v a 44 x) h t bc bs Q) : Gx Γ M pc ls ((2, x) :: (2, a) :: st) v h t bc bs Q :=
  Gx_putF (k := 2) (f := 44) (C := RX2) (T := TX2) (N := 61) d ho hi hh rfl rfl (by decide) in_X2 tyX2_ok nmX2 q1237 rfl rfl rfl rfl rfl rfl kk
theorem pf_X2_87_2 {a : Int} {n x : Int} (d : decode M.2.1 pc = .ok (.putfield 87, 3)) (ho : RX2 = M.2.2.2.2.1) (hi : M.1.name = "<init>") (hh : h a = (2, n)) (kk : Gx Γ M (pc + 3) ls st (gUp v a 45 x) h t bc bs Q) : Gx Γ M pc ls ((2, x) :: (2, a) :: st) v h t bc bs Q :=
  Gx_putF (k := 2) (f := 45) (C := RX2) (T := TX2) (N := 61) d ho hi hh rfl rfl (by decide) in_X2 tyX2_ok nmX2 q1238 rfl rfl rfl rfl rfl rfl kk
theorem pf_X2_90_2 {a : Int} {n x : Int} (d : decode M.2.1 pc = .ok (.putfield 90, 3)) (ho : RX2 = M.2.2.2.2.1) (hi : M.1.name = "<init>") (hh : h a = (2, n)) (kk : Gx Γ M (pc + 3) ls st (gUp v a 57 x) h t bc bs Q) : Gx Γ M pc ls ((2, x) :: (2, a) :: st) v h t bc bs Q :=
  Gx_putF (k := 2) (f := 57) (C := RX2) (T := TX2) (N := 61) d ho hi hh rfl rfl (by decide) in_X2 tyX2_ok nmX2 q1250 rfl rfl rfl rfl rfl rfl kk
theorem pf_X2_93_22 {n x : Int} (d : decode M.2.1 pc = .ok (.putfield 93, 3)) (ho : RX2 = M.2.2.2.2.1) (hh : h 38 = (22, n)) (kk : Gx Γ M (pc + 3) ls st (gUp v 38 4 x) h t bc bs Q) : Gx Γ M pc ls ((1, x) :: (2, 38) :: st) v h t bc bs Q :=
  Gx_put (k := 22) (f := 4) (C := RX2) (T := TX2) (N := 61) d ho hh rfl rfl (by decide) in_X2 tyX2_ok nmX2 q1197 rfl rfl rfl rfl rfl kk
theorem pf_X2_93_2 {a : Int} {n x : Int} (d : decode M.2.1 pc = .ok (.putfield 93, 3)) (ho : RX2 = M.2.2.2.2.1) (hh : h a = (2, n)) (kk : Gx Γ M (pc + 3) ls st (gUp v a 4 x) h t bc bs Q) : Gx Γ M pc ls ((1, x) :: (2, a) :: st) v h t bc bs Q :=
  Gx_put (k := 2) (f := 4) (C := RX2) (T := TX2) (N := 61) d ho hh rfl rfl (by decide) in_X2 tyX2_ok nmX2 q1197 rfl rfl rfl rfl rfl kk
theorem pf_X2_97_22 {n x : Int} (d : decode M.2.1 pc = .ok (.putfield 97, 3)) (ho : RX2 = M.2.2.2.2.1) (hh : h 38 = (22, n)) (kk : Gx Γ M (pc + 3) ls st (gUp v 38 28 x) h t bc bs Q) : Gx Γ M pc ls ((0, x) :: (2, 38) :: st) v h t bc bs Q :=
  Gx_put (k := 22) (f := 28) (C := RX2) (T := TX2) (N := 61) d ho hh rfl rfl (by decide) in_X2 tyX2_ok nmX2 q1221 rfl rfl rfl rfl rfl kk
theorem pf_X2_97_2 {a : Int} {n x : Int} (d : decode M.2.1 pc = .ok (.putfield 97, 3)) (ho : RX2 = M.2.2.2.2.1) (hh : h a = (2, n)) (kk : Gx Γ M (pc + 3) ls st (gUp v a 28 x) h t bc bs Q) : Gx Γ M pc ls ((0, x) :: (2, a) :: st) v h t bc bs Q :=
  Gx_put (k := 2) (f := 28) (C := RX2) (T := TX2) (N := 61) d ho hh rfl rfl (by decide) in_X2 tyX2_ok nmX2 q1221 rfl rfl rfl rfl rfl kk
theorem pf_X2_101_22 {n x : Int} (d : decode M.2.1 pc = .ok (.putfield 101, 3)) (ho : RX2 = M.2.2.2.2.1) (hh : h 38 = (22, n)) (kk : Gx Γ M (pc + 3) ls st (gUp v 38 0 x) h t bc bs Q) : Gx Γ M pc ls ((0, x) :: (2, 38) :: st) v h t bc bs Q :=
  Gx_put (k := 22) (f := 0) (C := RX2) (T := TX2) (N := 61) d ho hh rfl rfl (by decide) in_X2 tyX2_ok nmX2 q1193 rfl rfl rfl rfl rfl kk
theorem pf_X2_101_2 {a : Int} {n x : Int} (d : decode M.2.1 pc = .ok (.putfield 101, 3)) (ho : RX2 = M.2.2.2.2.1) (hh : h a = (2, n)) (kk : Gx Γ M (pc + 3) ls st (gUp v a 0 x) h t bc bs Q) : Gx Γ M pc ls ((0, x) :: (2, a) :: st) v h t bc bs Q :=
  Gx_put (k := 2) (f := 0) (C := RX2) (T := TX2) (N := 61) d ho hh rfl rfl (by decide) in_X2 tyX2_ok nmX2 q1193 rfl rfl rfl rfl rfl kk
theorem pf_X2_108_22 {n x : Int} (d : decode M.2.1 pc = .ok (.putfield 108, 3)) (ho : RX2 = M.2.2.2.2.1) (hh : h 38 = (22, n)) (kk : Gx Γ M (pc + 3) ls st (gUp v 38 2 x) h t bc bs Q) : Gx Γ M pc ls ((0, x) :: (2, 38) :: st) v h t bc bs Q :=
  Gx_put (k := 22) (f := 2) (C := RX2) (T := TX2) (N := 61) d ho hh rfl rfl (by decide) in_X2 tyX2_ok nmX2 q1195 rfl rfl rfl rfl rfl kk
theorem pf_X2_108_2 {a : Int} {n x : Int} (d : decode M.2.1 pc = .ok (.putfield 108, 3)) (ho : RX2 = M.2.2.2.2.1) (hh : h a = (2, n)) (kk : Gx Γ M (pc + 3) ls st (gUp v a 2 x) h t bc bs Q) : Gx Γ M pc ls ((0, x) :: (2, a) :: st) v h t bc bs Q :=
  Gx_put (k := 2) (f := 2) (C := RX2) (T := TX2) (N := 61) d ho hh rfl rfl (by decide) in_X2 tyX2_ok nmX2 q1195 rfl rfl rfl rfl rfl kk
theorem pf_X2_111_22 {n x : Int} (d : decode M.2.1 pc = .ok (.putfield 111, 3)) (ho : RX2 = M.2.2.2.2.1) (hh : h 38 = (22, n)) (kk : Gx Γ M (pc + 3) ls st (gUp v 38 3 x) h t bc bs Q) : Gx Γ M pc ls ((1, x) :: (2, 38) :: st) v h t bc bs Q :=
  Gx_put (k := 22) (f := 3) (C := RX2) (T := TX2) (N := 61) d ho hh rfl rfl (by decide) in_X2 tyX2_ok nmX2 q1196 rfl rfl rfl rfl rfl kk
theorem pf_X2_111_2 {a : Int} {n x : Int} (d : decode M.2.1 pc = .ok (.putfield 111, 3)) (ho : RX2 = M.2.2.2.2.1) (hh : h a = (2, n)) (kk : Gx Γ M (pc + 3) ls st (gUp v a 3 x) h t bc bs Q) : Gx Γ M pc ls ((1, x) :: (2, a) :: st) v h t bc bs Q :=
  Gx_put (k := 2) (f := 3) (C := RX2) (T := TX2) (N := 61) d ho hh rfl rfl (by decide) in_X2 tyX2_ok nmX2 q1196 rfl rfl rfl rfl rfl kk
theorem pf_X2_132_22 {n x : Int} (d : decode M.2.1 pc = .ok (.putfield 132, 3)) (ho : RX2 = M.2.2.2.2.1) (hh : h 38 = (22, n)) (kk : Gx Γ M (pc + 3) ls st (gUp v 38 10 x) h t bc bs Q) : Gx Γ M pc ls ((0, x) :: (2, 38) :: st) v h t bc bs Q :=
  Gx_put (k := 22) (f := 10) (C := RX2) (T := TX2) (N := 61) d ho hh rfl rfl (by decide) in_X2 tyX2_ok nmX2 q1203 rfl rfl rfl rfl rfl kk
theorem pf_X2_132_2 {a : Int} {n x : Int} (d : decode M.2.1 pc = .ok (.putfield 132, 3)) (ho : RX2 = M.2.2.2.2.1) (hh : h a = (2, n)) (kk : Gx Γ M (pc + 3) ls st (gUp v a 10 x) h t bc bs Q) : Gx Γ M pc ls ((0, x) :: (2, a) :: st) v h t bc bs Q :=
  Gx_put (k := 2) (f := 10) (C := RX2) (T := TX2) (N := 61) d ho hh rfl rfl (by decide) in_X2 tyX2_ok nmX2 q1203 rfl rfl rfl rfl rfl kk
theorem pf_X2_138_22 {n x : Int} (d : decode M.2.1 pc = .ok (.putfield 138, 3)) (ho : RX2 = M.2.2.2.2.1) (hh : h 38 = (22, n)) (kk : Gx Γ M (pc + 3) ls st (gUp v 38 11 x) h t bc bs Q) : Gx Γ M pc ls ((0, x) :: (2, 38) :: st) v h t bc bs Q :=
  Gx_put (k := 22) (f := 11) (C := RX2) (T := TX2) (N := 61) d ho hh rfl rfl (by decide) in_X2 tyX2_ok nmX2 q1204 rfl rfl rfl rfl rfl kk
theorem pf_X2_138_2 {a : Int} {n x : Int} (d : decode M.2.1 pc = .ok (.putfield 138, 3)) (ho : RX2 = M.2.2.2.2.1) (hh : h a = (2, n)) (kk : Gx Γ M (pc + 3) ls st (gUp v a 11 x) h t bc bs Q) : Gx Γ M pc ls ((0, x) :: (2, a) :: st) v h t bc bs Q :=
  Gx_put (k := 2) (f := 11) (C := RX2) (T := TX2) (N := 61) d ho hh rfl rfl (by decide) in_X2 tyX2_ok nmX2 q1204 rfl rfl rfl rfl rfl kk
theorem pf_X2_144_22 {n x : Int} (d : decode M.2.1 pc = .ok (.putfield 144, 3)) (ho : RX2 = M.2.2.2.2.1) (hh : h 38 = (22, n)) (kk : Gx Γ M (pc + 3) ls st (gUp v 38 12 x) h t bc bs Q) : Gx Γ M pc ls ((0, x) :: (2, 38) :: st) v h t bc bs Q :=
  Gx_put (k := 22) (f := 12) (C := RX2) (T := TX2) (N := 61) d ho hh rfl rfl (by decide) in_X2 tyX2_ok nmX2 q1205 rfl rfl rfl rfl rfl kk
theorem pf_X2_144_2 {a : Int} {n x : Int} (d : decode M.2.1 pc = .ok (.putfield 144, 3)) (ho : RX2 = M.2.2.2.2.1) (hh : h a = (2, n)) (kk : Gx Γ M (pc + 3) ls st (gUp v a 12 x) h t bc bs Q) : Gx Γ M pc ls ((0, x) :: (2, a) :: st) v h t bc bs Q :=
  Gx_put (k := 2) (f := 12) (C := RX2) (T := TX2) (N := 61) d ho hh rfl rfl (by decide) in_X2 tyX2_ok nmX2 q1205 rfl rfl rfl rfl rfl kk
theorem pf_X2_161_22 {n x : Int} (d : decode M.2.1 pc = .ok (.putfield 161, 3)) (ho : RX2 = M.2.2.2.2.1) (hh : h 38 = (22, n)) (kk : Gx Γ M (pc + 3) ls st (gUp v 38 14 x) h t bc bs Q) : Gx Γ M pc ls ((0, x) :: (2, 38) :: st) v h t bc bs Q :=
  Gx_put (k := 22) (f := 14) (C := RX2) (T := TX2) (N := 61) d ho hh rfl rfl (by decide) in_X2 tyX2_ok nmX2 q1207 rfl rfl rfl rfl rfl kk
theorem pf_X2_161_2 {a : Int} {n x : Int} (d : decode M.2.1 pc = .ok (.putfield 161, 3)) (ho : RX2 = M.2.2.2.2.1) (hh : h a = (2, n)) (kk : Gx Γ M (pc + 3) ls st (gUp v a 14 x) h t bc bs Q) : Gx Γ M pc ls ((0, x) :: (2, a) :: st) v h t bc bs Q :=
  Gx_put (k := 2) (f := 14) (C := RX2) (T := TX2) (N := 61) d ho hh rfl rfl (by decide) in_X2 tyX2_ok nmX2 q1207 rfl rfl rfl rfl rfl kk
theorem pf_X2_164_22 {n x : Int} (d : decode M.2.1 pc = .ok (.putfield 164, 3)) (ho : RX2 = M.2.2.2.2.1) (hh : h 38 = (22, n)) (kk : Gx Γ M (pc + 3) ls st (gUp v 38 17 x) h t bc bs Q) : Gx Γ M pc ls ((0, x) :: (2, 38) :: st) v h t bc bs Q :=
  Gx_put (k := 22) (f := 17) (C := RX2) (T := TX2) (N := 61) d ho hh rfl rfl (by decide) in_X2 tyX2_ok nmX2 q1210 rfl rfl rfl rfl rfl kk
theorem pf_X2_164_2 {a : Int} {n x : Int} (d : decode M.2.1 pc = .ok (.putfield 164, 3)) (ho : RX2 = M.2.2.2.2.1) (hh : h a = (2, n)) (kk : Gx Γ M (pc + 3) ls st (gUp v a 17 x) h t bc bs Q) : Gx Γ M pc ls ((0, x) :: (2, a) :: st) v h t bc bs Q :=
  Gx_put (k := 2) (f := 17) (C := RX2) (T := TX2) (N := 61) d ho hh rfl rfl (by decide) in_X2 tyX2_ok nmX2 q1210 rfl rfl rfl rfl rfl kk
theorem pf_X2_191_22 {n x : Int} (d : decode M.2.1 pc = .ok (.putfield 191, 3)) (ho : RX2 = M.2.2.2.2.1) (hh : h 38 = (22, n)) (kk : Gx Γ M (pc + 3) ls st (gUp v 38 20 x) h t bc bs Q) : Gx Γ M pc ls ((0, x) :: (2, 38) :: st) v h t bc bs Q :=
  Gx_put (k := 22) (f := 20) (C := RX2) (T := TX2) (N := 61) d ho hh rfl rfl (by decide) in_X2 tyX2_ok nmX2 q1213 rfl rfl rfl rfl rfl kk
theorem pf_X2_191_2 {a : Int} {n x : Int} (d : decode M.2.1 pc = .ok (.putfield 191, 3)) (ho : RX2 = M.2.2.2.2.1) (hh : h a = (2, n)) (kk : Gx Γ M (pc + 3) ls st (gUp v a 20 x) h t bc bs Q) : Gx Γ M pc ls ((0, x) :: (2, a) :: st) v h t bc bs Q :=
  Gx_put (k := 2) (f := 20) (C := RX2) (T := TX2) (N := 61) d ho hh rfl rfl (by decide) in_X2 tyX2_ok nmX2 q1213 rfl rfl rfl rfl rfl kk
theorem pf_X2_194_22 {n x : Int} (d : decode M.2.1 pc = .ok (.putfield 194, 3)) (ho : RX2 = M.2.2.2.2.1) (hh : h 38 = (22, n)) (kk : Gx Γ M (pc + 3) ls st (gUp v 38 22 x) h t bc bs Q) : Gx Γ M pc ls ((0, x) :: (2, 38) :: st) v h t bc bs Q :=
  Gx_put (k := 22) (f := 22) (C := RX2) (T := TX2) (N := 61) d ho hh rfl rfl (by decide) in_X2 tyX2_ok nmX2 q1215 rfl rfl rfl rfl rfl kk
theorem pf_X2_194_2 {a : Int} {n x : Int} (d : decode M.2.1 pc = .ok (.putfield 194, 3)) (ho : RX2 = M.2.2.2.2.1) (hh : h a = (2, n)) (kk : Gx Γ M (pc + 3) ls st (gUp v a 22 x) h t bc bs Q) : Gx Γ M pc ls ((0, x) :: (2, a) :: st) v h t bc bs Q :=
  Gx_put (k := 2) (f := 22) (C := RX2) (T := TX2) (N := 61) d ho hh rfl rfl (by decide) in_X2 tyX2_ok nmX2 q1215 rfl rfl rfl rfl rfl kk
theorem pf_X2_197_22 {n x : Int} (d : decode M.2.1 pc = .ok (.putfield 197, 3)) (ho : RX2 = M.2.2.2.2.1) (hh : h 38 = (22, n)) (kk : Gx Γ M (pc + 3) ls st (gUp v 38 26 x) h t bc bs Q) : Gx Γ M pc ls ((0, x) :: (2, 38) :: st) v h t bc bs Q :=
  Gx_put (k := 22) (f := 26) (C := RX2) (T := TX2) (N := 61) d ho hh rfl rfl (by decide) in_X2 tyX2_ok nmX2 q1219 rfl rfl rfl rfl rfl kk
theorem pf_X2_197_2 {a : Int} {n x : Int} (d : decode M.2.1 pc = .ok (.putfield 197, 3)) (ho : RX2 = M.2.2.2.2.1) (hh : h a = (2, n)) (kk : Gx Γ M (pc + 3) ls st (gUp v a 26 x) h t bc bs Q) : Gx Γ M pc ls ((0, x) :: (2, a) :: st) v h t bc bs Q :=
  Gx_put (k := 2) (f := 26) (C := RX2) (T := TX2) (N := 61) d ho hh rfl rfl (by decide) in_X2 tyX2_ok nmX2 q1219 rfl rfl rfl rfl rfl kk
theorem pf_X2_200_22 {n x : Int} (d : decode M.2.1 pc = .ok (.putfield 200, 3)) (ho : RX2 = M.2.2.2.2.1) (hh : h 38 = (22, n)) (kk : Gx Γ M (pc + 3) ls st (gUp v 38 27 x) h t bc bs Q) : Gx Γ M pc ls ((0, x) :: (2, 38) :: st) v h t bc bs Q :=
  Gx_put (k := 22) (f := 27) (C := RX2) (T := TX2) (N := 61) d ho hh rfl rfl (by decide) in_X2 tyX2_ok nmX2 q1220 rfl rfl rfl rfl rfl kk
theorem pf_X2_200_2 {a : Int} {n x : Int} (d : decode M.2.1 pc = .ok (.putfield 200, 3)) (ho : RX2 = M.2.2.2.2.1) (hh : h a = (2, n)) (kk : Gx Γ M (pc + 3) ls st (gUp v a 27 x) h t bc bs Q) : Gx Γ M pc ls ((0, x) :: (2, a) :: st) v h t bc bs Q :=
  Gx_put (k := 2) (f := 27) (C := RX2) (T := TX2) (N := 61) d ho hh rfl rfl (by decide) in_X2 tyX2_ok nmX2 q1220 rfl rfl rfl rfl rfl kk
theorem pf_X2_203_22 {n x : Int} (d : decode M.2.1 pc = .ok (.putfield 203, 3)) (ho : RX2 = M.2.2.2.2.1) (hh : h 38 = (22, n)) (kk : Gx Γ M (pc + 3) ls st (gUp v 38 33 x) h t bc bs Q) : Gx Γ M pc ls ((0, x) :: (2, 38) :: st) v h t bc bs Q :=
  Gx_put (k := 22) (f := 33) (C := RX2) (T := TX2) (N := 61) d ho hh rfl rfl (by decide) in_X2 tyX2_ok nmX2 q1226 rfl rfl rfl rfl rfl kk
theorem pf_X2_203_2 {a : Int} {n x : Int} (d : decode M.2.1 pc = .ok (.putfield 203, 3)) (ho : RX2 = M.2.2.2.2.1) (hh : h a = (2, n)) (kk : Gx Γ M (pc + 3) ls st (gUp v a 33 x) h t bc bs Q) : Gx Γ M pc ls ((0, x) :: (2, a) :: st) v h t bc bs Q :=
  Gx_put (k := 2) (f := 33) (C := RX2) (T := TX2) (N := 61) d ho hh rfl rfl (by decide) in_X2 tyX2_ok nmX2 q1226 rfl rfl rfl rfl rfl kk
theorem pf_X2_206_22 {n x : Int} (d : decode M.2.1 pc = .ok (.putfield 206, 3)) (ho : RX2 = M.2.2.2.2.1) (hh : h 38 = (22, n)) (kk : Gx Γ M (pc + 3) ls st (gUp v 38 31 x) h t bc bs Q) : Gx Γ M pc ls ((0, x) :: (2, 38) :: st) v h t bc bs Q :=
  Gx_put (k := 22) (f := 31) (C := RX2) (T := TX2) (N := 61) d ho hh rfl rfl (by decide) in_X2 tyX2_ok nmX2 q1224 rfl rfl rfl rfl rfl kk
theorem pf_X2_206_2 {a : Int} {n x : Int} (d : decode M.2.1 pc = .ok (.putfield 206, 3)) (ho : RX2 = M.2.2.2.2.1) (hh : h a = (2, n)) (kk : Gx Γ M (pc + 3) ls st (gUp v a 31 x) h t bc bs Q) : Gx Γ M pc ls ((0, x) :: (2, a) :: st) v h t bc bs Q :=
  Gx_put (k := 2) (f := 31) (C := RX2) (T := TX2) (N := 61) d ho hh rfl rfl (by decide) in_X2 tyX2_ok nmX2 q1224 rfl rfl rfl rfl rfl kk
theorem pf_X2_242_22 {n x : Int} (d : decode M.2.1 pc = .ok (.putfield 242, 3)) (ho : RX2 = M.2.2.2.2.1) (hh : h 38 = (22, n)) (kk : Gx Γ M (pc + 3) ls st (gUp v 38 41 x) h t bc bs Q) : Gx Γ M pc ls ((0, x) :: (2, 38) :: st) v h t bc bs Q :=
  Gx_put (k := 22) (f := 41) (C := RX2) (T := TX2) (N := 61) d ho hh rfl rfl (by decide) in_X2 tyX2_ok nmX2 q1234 rfl rfl rfl rfl rfl kk
theorem pf_X2_242_2 {a : Int} {n x : Int} (d : decode M.2.1 pc = .ok (.putfield 242, 3)) (ho : RX2 = M.2.2.2.2.1) (hh : h a = (2, n)) (kk : Gx Γ M (pc + 3) ls st (gUp v a 41 x) h t bc bs Q) : Gx Γ M pc ls ((0, x) :: (2, a) :: st) v h t bc bs Q :=
  Gx_put (k := 2) (f := 41) (C := RX2) (T := TX2) (N := 61) d ho hh rfl rfl (by decide) in_X2 tyX2_ok nmX2 q1234 rfl rfl rfl rfl rfl kk
theorem pf_X2_245_22 {n x : Int} (d : decode M.2.1 pc = .ok (.putfield 245, 3)) (ho : RX2 = M.2.2.2.2.1) (hh : h 38 = (22, n)) (kk : Gx Γ M (pc + 3) ls st (gUp v 38 40 x) h t bc bs Q) : Gx Γ M pc ls ((0, x) :: (2, 38) :: st) v h t bc bs Q :=
  Gx_put (k := 22) (f := 40) (C := RX2) (T := TX2) (N := 61) d ho hh rfl rfl (by decide) in_X2 tyX2_ok nmX2 q1233 rfl rfl rfl rfl rfl kk
theorem pf_X2_245_2 {a : Int} {n x : Int} (d : decode M.2.1 pc = .ok (.putfield 245, 3)) (ho : RX2 = M.2.2.2.2.1) (hh : h a = (2, n)) (kk : Gx Γ M (pc + 3) ls st (gUp v a 40 x) h t bc bs Q) : Gx Γ M pc ls ((0, x) :: (2, a) :: st) v h t bc bs Q :=
  Gx_put (k := 2) (f := 40) (C := RX2) (T := TX2) (N := 61) d ho hh rfl rfl (by decide) in_X2 tyX2_ok nmX2 q1233 rfl rfl rfl rfl rfl kk
theorem pf_X2_251_22 {n x : Int} (d : decode M.2.1 pc = .ok (.putfield 251, 3)) (ho : RX2 = M.2.2.2.2.1) (hh : h 38 = (22, n)) (kk : Gx Γ M (pc + 3) ls st (gUp v 38 38 x) h t bc bs Q) : Gx Γ M pc ls ((0, x) :: (2, 38) :: st) v h t bc bs Q :=
  Gx_put (k := 22) (f := 38) (C := RX2) (T := TX2) (N := 61) d ho hh rfl rfl (by decide) in_X2 tyX2_ok nmX2 q1231 rfl rfl rfl rfl rfl kk
theorem pf_X2_251_2 {a : Int} {n x : Int} (d : decode M.2.1 pc = .ok (.putfield 251, 3)) (ho : RX2 = M.2.2.2.2.1) (hh : h a = (2, n)) (kk : Gx Γ M (pc + 3) ls st (gUp v a 38 x) h t bc bs Q) : Gx Γ M pc ls ((0, x) :: (2, a) :: st) v h t bc bs Q :=
  Gx_put (k := 2) (f := 38) (C := RX2) (T := TX2) (N := 61) d ho hh rfl rfl (by decide) in_X2 tyX2_ok nmX2 q1231 rfl rfl rfl rfl rfl kk
theorem pf_X2_266_22 {n x : Int} (d : decode M.2.1 pc = .ok (.putfield 266, 3)) (ho : RX2 = M.2.2.2.2.1) (hh : h 38 = (22, n)) (kk : Gx Γ M (pc + 3) ls st (gUp v 38 39 x) h t bc bs Q) : Gx Γ M pc ls ((0, x) :: (2, 38) :: st) v h t bc bs Q :=
  Gx_put (k := 22) (f := 39) (C := RX2) (T := TX2) (N := 61) d ho hh rfl rfl (by decide) in_X2 tyX2_ok nmX2 q1232 rfl rfl rfl rfl rfl kk
theorem pf_X2_266_2 {a : Int} {n x : Int} (d : decode M.2.1 pc = .ok (.putfield 266, 3)) (ho : RX2 = M.2.2.2.2.1) (hh : h a = (2, n)) (kk : Gx Γ M (pc + 3) ls st (gUp v a 39 x) h t bc bs Q) : Gx Γ M pc ls ((0, x) :: (2, a) :: st) v h t bc bs Q :=
  Gx_put (k := 2) (f := 39) (C := RX2) (T := TX2) (N := 61) d ho hh rfl rfl (by decide) in_X2 tyX2_ok nmX2 q1232 rfl rfl rfl rfl rfl kk
theorem pf_X2_299_22 {n x : Int} (d : decode M.2.1 pc = .ok (.putfield 299, 3)) (ho : RX2 = M.2.2.2.2.1) (hh : h 38 = (22, n)) (kk : Gx Γ M (pc + 3) ls st (gUp v 38 46 x) h t bc bs Q) : Gx Γ M pc ls ((0, x) :: (2, 38) :: st) v h t bc bs Q :=
  Gx_put (k := 22) (f := 46) (C := RX2) (T := TX2) (N := 61) d ho hh rfl rfl (by decide) in_X2 tyX2_ok nmX2 q1239 rfl rfl rfl rfl rfl kk
theorem pf_X2_299_2 {a : Int} {n x : Int} (d : decode M.2.1 pc = .ok (.putfield 299, 3)) (ho : RX2 = M.2.2.2.2.1) (hh : h a = (2, n)) (kk : Gx Γ M (pc + 3) ls st (gUp v a 46 x) h t bc bs Q) : Gx Γ M pc ls ((0, x) :: (2, a) :: st) v h t bc bs Q :=
  Gx_put (k := 2) (f := 46) (C := RX2) (T := TX2) (N := 61) d ho hh rfl rfl (by decide) in_X2 tyX2_ok nmX2 q1239 rfl rfl rfl rfl rfl kk
theorem pf_X2_302_22 {n x : Int} (d : decode M.2.1 pc = .ok (.putfield 302, 3)) (ho : RX2 = M.2.2.2.2.1) (hh : h 38 = (22, n)) (kk : Gx Γ M (pc + 3) ls st (gUp v 38 47 x) h t bc bs Q) : Gx Γ M pc ls ((0, x) :: (2, 38) :: st) v h t bc bs Q :=
  Gx_put (k := 22) (f := 47) (C := RX2) (T := TX2) (N := 61) d ho hh rfl rfl (by decide) in_X2 tyX2_ok nmX2 q1240 rfl rfl rfl rfl rfl kk
theorem pf_X2_302_2 {a : Int} {n x : Int} (d : decode M.2.1 pc = .ok (.putfield 302, 3)) (ho : RX2 = M.2.2.2.2.1) (hh : h a = (2, n)) (kk : Gx Γ M (pc + 3) ls st (gUp v a 47 x) h t bc bs Q) : Gx Γ M pc ls ((0, x) :: (2, a) :: st) v h t bc bs Q :=
  Gx_put (k := 2) (f := 47) (C := RX2) (T := TX2) (N := 61) d ho hh rfl rfl (by decide) in_X2 tyX2_ok nmX2 q1240 rfl rfl rfl rfl rfl kk
theorem pf_X2_309_22 {n x : Int} (d : decode M.2.1 pc = .ok (.putfield 309, 3)) (ho : RX2 = M.2.2.2.2.1) (hh : h 38 = (22, n)) (kk : Gx Γ M (pc + 3) ls st (gUp v 38 48 x) h t bc bs Q) : Gx Γ M pc ls ((1, x) :: (2, 38) :: st) v h t bc bs Q :=
  Gx_put (k := 22) (f := 48) (C := RX2) (T := TX2) (N := 61) d ho hh rfl rfl (by decide) in_X2 tyX2_ok nmX2 q1241 rfl rfl rfl rfl rfl kk
theorem pf_X2_309_2 {a : Int} {n x : Int} (d : decode M.2.1 pc = .ok (.putfield 309, 3)) (ho : RX2 = M.2.2.2.2.1) (hh : h a = (2, n)) (kk : Gx Γ M (pc + 3) ls st (gUp v a 48 x) h t bc bs Q) : Gx Γ M pc ls ((1, x) :: (2, a) :: st) v h t bc bs Q :=
  Gx_put (k := 2) (f := 48) (C := RX2) (T := TX2) (N := 61) d ho hh rfl rfl (by decide) in_X2 tyX2_ok nmX2 q1241 rfl rfl rfl rfl rfl kk
theorem pf_X2_312_22 {n x : Int} (d : decode M.2.1 pc = .ok (.putfield 312, 3)) (ho : RX2 = M.2.2.2.2.1) (hh : h 38 = (22, n)) (kk : Gx Γ M (pc + 3) ls st (gUp v 38 49 x) h t bc bs Q) : Gx Γ M pc ls ((0, x) :: (2, 38) :: st) v h t bc bs Q :=
  Gx_put (k := 22) (f := 49) (C := RX2) (T := TX2) (N := 61) d ho hh rfl rfl (by decide) in_X2 tyX2_ok nmX2 q1242 rfl rfl rfl rfl rfl kk
theorem pf_X2_312_2 {a : Int} {n x : Int} (d : decode M.2.1 pc = .ok (.putfield 312, 3)) (ho : RX2 = M.2.2.2.2.1) (hh : h a = (2, n)) (kk : Gx Γ M (pc + 3) ls st (gUp v a 49 x) h t bc bs Q) : Gx Γ M pc ls ((0, x) :: (2, a) :: st) v h t bc bs Q :=
  Gx_put (k := 2) (f := 49) (C := RX2) (T := TX2) (N := 61) d ho hh rfl rfl (by decide) in_X2 tyX2_ok nmX2 q1242 rfl rfl rfl rfl rfl kk
theorem pf_X2_315_22 {n x : Int} (d : decode M.2.1 pc = .ok (.putfield 315, 3)) (ho : RX2 = M.2.2.2.2.1) (hh : h 38 = (22, n)) (kk : Gx Γ M (pc + 3) ls st (gUp v 38 50 x) h t bc bs Q) : Gx Γ M pc ls ((1, x) :: (2, 38) :: st) v h t bc bs Q :=
  Gx_put (k := 22) (f := 50) (C := RX2) (T := TX2) (N := 61) d ho hh rfl rfl (by decide) in_X2 tyX2_ok nmX2 q1243 rfl rfl rfl rfl rfl kk
theorem pf_X2_315_2 {a : Int} {n x : Int} (d : decode M.2.1 pc = .ok (.putfield 315, 3)) (ho : RX2 = M.2.2.2.2.1) (hh : h a = (2, n)) (kk : Gx Γ M (pc + 3) ls st (gUp v a 50 x) h t bc bs Q) : Gx Γ M pc ls ((1, x) :: (2, a) :: st) v h t bc bs Q :=
  Gx_put (k := 2) (f := 50) (C := RX2) (T := TX2) (N := 61) d ho hh rfl rfl (by decide) in_X2 tyX2_ok nmX2 q1243 rfl rfl rfl rfl rfl kk
theorem pf_X2_318_22 {n x : Int} (d : decode M.2.1 pc = .ok (.putfield 318, 3)) (ho : RX2 = M.2.2.2.2.1) (hh : h 38 = (22, n)) (kk : Gx Γ M (pc + 3) ls st (gUp v 38 51 x) h t bc bs Q) : Gx Γ M pc ls ((1, x) :: (2, 38) :: st) v h t bc bs Q :=
  Gx_put (k := 22) (f := 51) (C := RX2) (T := TX2) (N := 61) d ho hh rfl rfl (by decide) in_X2 tyX2_ok nmX2 q1244 rfl rfl rfl rfl rfl kk
theorem pf_X2_318_2 {a : Int} {n x : Int} (d : decode M.2.1 pc = .ok (.putfield 318, 3)) (ho : RX2 = M.2.2.2.2.1) (hh : h a = (2, n)) (kk : Gx Γ M (pc + 3) ls st (gUp v a 51 x) h t bc bs Q) : Gx Γ M pc ls ((1, x) :: (2, a) :: st) v h t bc bs Q :=
  Gx_put (k := 2) (f := 51) (C := RX2) (T := TX2) (N := 61) d ho hh rfl rfl (by decide) in_X2 tyX2_ok nmX2 q1244 rfl rfl rfl rfl rfl kk
theorem pf_X2_321_22 {n x : Int} (d : decode M.2.1 pc = .ok (.putfield 321, 3)) (ho : RX2 = M.2.2.2.2.1) (hh : h 38 = (22, n)) (kk : Gx Γ M (pc + 3) ls st (gUp v 38 52 x) h t bc bs Q) : Gx Γ M pc ls ((1, x) :: (2, 38) :: st) v h t bc bs Q :=
  Gx_put (k := 22) (f := 52) (C := RX2) (T := TX2) (N := 61) d ho hh rfl rfl (by decide) in_X2 tyX2_ok nmX2 q1245 rfl rfl rfl rfl rfl kk
theorem pf_X2_321_2 {a : Int} {n x : Int} (d : decode M.2.1 pc = .ok (.putfield 321, 3)) (ho : RX2 = M.2.2.2.2.1) (hh : h a = (2, n)) (kk : Gx Γ M (pc + 3) ls st (gUp v a 52 x) h t bc bs Q) : Gx Γ M pc ls ((1, x) :: (2, a) :: st) v h t bc bs Q :=
  Gx_put (k := 2) (f := 52) (C := RX2) (T := TX2) (N := 61) d ho hh rfl rfl (by decide) in_X2 tyX2_ok nmX2 q1245 rfl rfl rfl rfl rfl kk
theorem pf_X2_324_22 {n x : Int} (d : decode M.2.1 pc = .ok (.putfield 324, 3)) (ho : RX2 = M.2.2.2.2.1) (hh : h 38 = (22, n)) (kk : Gx Γ M (pc + 3) ls st (gUp v 38 53 x) h t bc bs Q) : Gx Γ M pc ls ((1, x) :: (2, 38) :: st) v h t bc bs Q :=
  Gx_put (k := 22) (f := 53) (C := RX2) (T := TX2) (N := 61) d ho hh rfl rfl (by decide) in_X2 tyX2_ok nmX2 q1246 rfl rfl rfl rfl rfl kk
theorem pf_X2_324_2 {a : Int} {n x : Int} (d : decode M.2.1 pc = .ok (.putfield 324, 3)) (ho : RX2 = M.2.2.2.2.1) (hh : h a = (2, n)) (kk : Gx Γ M (pc + 3) ls st (gUp v a 53 x) h t bc bs Q) : Gx Γ M pc ls ((1, x) :: (2, a) :: st) v h t bc bs Q :=
  Gx_put (k := 2) (f := 53) (C := RX2) (T := TX2) (N := 61) d ho hh rfl rfl (by decide) in_X2 tyX2_ok nmX2 q1246 rfl rfl rfl rfl rfl kk
theorem pf_X2_327_22 {n x : Int} (d : decode M.2.1 pc = .ok (.putfield 327, 3)) (ho : RX2 = M.2.2.2.2.1) (hh : h 38 = (22, n)) (kk : Gx Γ M (pc + 3) ls st (gUp v 38 54 x) h t bc bs Q) : Gx Γ M pc ls ((1, x) :: (2, 38) :: st) v h t bc bs Q :=
  Gx_put (k := 22) (f := 54) (C := RX2) (T := TX2) (N := 61) d ho hh rfl rfl (by decide) in_X2 tyX2_ok nmX2 q1247 rfl rfl rfl rfl rfl kk
theorem pf_X2_327_2 {a : Int} {n x : Int} (d : decode M.2.1 pc = .ok (.putfield 327, 3)) (ho : RX2 = M.2.2.2.2.1) (hh : h a = (2, n)) (kk : Gx Γ M (pc + 3) ls st (gUp v a 54 x) h t bc bs Q) : Gx Γ M pc ls ((1, x) :: (2, a) :: st) v h t bc bs Q :=
  Gx_put (k := 2) (f := 54) (C := RX2) (T := TX2) (N := 61) d ho hh rfl rfl (by decide) in_X2 tyX2_ok nmX2 q1247 rfl rfl rfl rfl rfl kk
theorem pf_X2_330_22 {n x : Int} (d : decode M.2.1 pc = .ok (.putfield 330, 3)) (ho : RX2 = M.2.2.2.2.1) (hh : h 38 = (22, n)) (kk : Gx Γ M (pc + 3) ls st (gUp v 38 55 x) h t bc bs Q) : Gx Γ M pc ls ((1, x) :: (2, 38) :: st) v h t bc bs Q :=
  Gx_put (k := 22) (f := 55) (C := RX2) (T := TX2) (N := 61) d ho hh rfl rfl (by decide) in_X2 tyX2_ok nmX2 q1248 rfl rfl rfl rfl rfl kk
theorem pf_X2_330_2 {a : Int} {n x : Int} (d : decode M.2.1 pc = .ok (.putfield 330, 3)) (ho : RX2 = M.2.2.2.2.1) (hh : h a = (2, n)) (kk : Gx Γ M (pc + 3) ls st (gUp v a 55 x) h t bc bs Q) : Gx Γ M pc ls ((1, x) :: (2, a) :: st) v h t bc bs Q :=
  Gx_put (k := 2) (f := 55) (C := RX2) (T := TX2) (N := 61) d ho hh rfl rfl (by decide) in_X2 tyX2_ok nmX2 q1248 rfl rfl rfl rfl rfl kk
theorem pf_X2_333_22 {n x : Int} (d : decode M.2.1 pc = .ok (.putfield 333, 3)) (ho : RX2 = M.2.2.2.2.1) (hh : h 38 = (22, n)) (kk : Gx Γ M (pc + 3) ls st (gUp v 38 56 x) h t bc bs Q) : Gx Γ M pc ls ((0, x) :: (2, 38) :: st) v h t bc bs Q :=
  Gx_put (k := 22) (f := 56) (C := RX2) (T := TX2) (N := 61) d ho hh rfl rfl (by decide) in_X2 tyX2_ok nmX2 q1249 rfl rfl rfl rfl rfl kk
theorem pf_X2_333_2 {a : Int} {n x : Int} (d : decode M.2.1 pc = .ok (.putfield 333, 3)) (ho : RX2 = M.2.2.2.2.1) (hh : h a = (2, n)) (kk : Gx Γ M (pc + 3) ls st (gUp v a 56 x) h t bc bs Q) : Gx Γ M pc ls ((0, x) :: (2, a) :: st) v h t bc bs Q :=
  Gx_put (k := 2) (f := 56) (C := RX2) (T := TX2) (N := 61) d ho hh rfl rfl (by decide) in_X2 tyX2_ok nmX2 q1249 rfl rfl rfl rfl rfl kk
theorem pf_X2_350_22 {n x : Int} (d : decode M.2.1 pc = .ok (.putfield 350, 3)) (ho : RX2 = M.2.2.2.2.1) (hh : h 38 = (22, n)) (kk : Gx Γ M (pc + 3) ls st (gUp v 38 58 x) h t bc bs Q) : Gx Γ M pc ls ((1, x) :: (2, 38) :: st) v h t bc bs Q :=
  Gx_put (k := 22) (f := 58) (C := RX2) (T := TX2) (N := 61) d ho hh rfl rfl (by decide) in_X2 tyX2_ok nmX2 q1251 rfl rfl rfl rfl rfl kk
theorem pf_X2_350_2 {a : Int} {n x : Int} (d : decode M.2.1 pc = .ok (.putfield 350, 3)) (ho : RX2 = M.2.2.2.2.1) (hh : h a = (2, n)) (kk : Gx Γ M (pc + 3) ls st (gUp v a 58 x) h t bc bs Q) : Gx Γ M pc ls ((1, x) :: (2, a) :: st) v h t bc bs Q :=
  Gx_put (k := 2) (f := 58) (C := RX2) (T := TX2) (N := 61) d ho hh rfl rfl (by decide) in_X2 tyX2_ok nmX2 q1251 rfl rfl rfl rfl rfl kk
theorem pf_X2_353_22 {n x : Int} (d : decode M.2.1 pc = .ok (.putfield 353, 3)) (ho : RX2 = M.2.2.2.2.1) (hh : h 38 = (22, n)) (kk : Gx Γ M (pc + 3) ls st (gUp v 38 59 x) h t bc bs Q) : Gx Γ M pc ls ((0, x) :: (2, 38) :: st) v h t bc bs Q :=
  Gx_put (k := 22) (f := 59) (C := RX2) (T := TX2) (N := 61) d ho hh rfl rfl (by decide) in_X2 tyX2_ok nmX2 q1252 rfl rfl rfl rfl rfl kk
theorem pf_X2_353_2 {a : Int} {n x : Int} (d : decode M.2.1 pc = .ok (.putfield 353, 3)) (ho : RX2 = M.2.2.2.2.1) (hh : h a = (2, n)) (kk : Gx Γ M (pc + 3) ls st (gUp v a 59 x) h t bc bs Q) : Gx Γ M pc ls ((0, x) :: (2, a) :: st) v h t bc bs Q :=
  Gx_put (k := 2) (f := 59) (C := RX2) (T := TX2) (N := 61) d ho hh rfl rfl (by decide) in_X2 tyX2_ok nmX2 q1252 rfl rfl rfl rfl rfl kk
theorem pf_X2_381_22 {n x : Int} (d : decode M.2.1 pc = .ok (.putfield 381, 3)) (ho : RX2 = M.2.2.2.2.1) (hh : h 38 = (22, n)) (kk : Gx Γ M (pc + 3) ls st (gUp v 38 60 x) h t bc bs Q) : Gx Γ M pc ls ((1, x) :: (2, 38) :: st) v h t bc bs Q :=
  Gx_put (k := 22) (f := 60) (C := RX2) (T := TX2) (N := 61) d ho hh rfl rfl (by decide) in_X2 tyX2_ok nmX2 q1253 rfl rfl rfl rfl rfl kk
theorem pf_X2_381_2 {a : Int} {n x : Int} (d : decode M.2.1 pc = .ok (.putfield 381, 3)) (ho : RX2 = M.2.2.2.2.1) (hh : h a = (2, n)) (kk : Gx Γ M (pc + 3) ls st (gUp v a 60 x) h t bc bs Q) : Gx Γ M pc ls ((1, x) :: (2, a) :: st) v h t bc bs Q :=
  Gx_put (k := 2) (f := 60) (C := RX2) (T := TX2) (N := 61) d ho hh rfl rfl (by decide) in_X2 tyX2_ok nmX2 q1253 rfl rfl rfl rfl rfl kk
theorem gf_X3_7_3 {a : Int} {n : Int} (d : decode M.2.1 pc = .ok (.getfield 7, 3)) (ho : RX3 = M.2.2.2.2.1) (hh : h a = (3, n)) (kk : Gx Γ M (pc + 3) ls ((2, v a 0) :: st) v h t bc bs Q) : Gx Γ M pc ls ((2, a) :: st) v h t bc bs Q :=
  Gx_get (k := 3) (f := 0) (C := RX4) (T := TX4) (N := 1) d ho hh rfl rfl (by decide) in_X4 q612 rfl rfl rfl kk
theorem gf_X3_7_4 {a : Int} {n : Int} (d : decode M.2.1 pc = .ok (.getfield 7, 3)) (ho : RX3 = M.2.2.2.2.1) (hh : h a = (4, n)) (kk : Gx Γ M (pc + 3) ls ((2, v a 0) :: st) v h t bc bs Q) : Gx Γ M pc ls ((2, a) :: st) v h t bc bs Q :=
  Gx_get (k := 4) (f := 0) (C := RX5) (T := TX5) (N := 3) d ho hh rfl rfl (by decide) in_X5 q612 rfl rfl rfl kk
theorem gf_X3_7_5 {a : Int} {n : Int} (d : decode M.2.1 pc = .ok (.getfield 7, 3)) (ho : RX3 = M.2.2.2.2.1) (hh : h a = (5, n)) (kk : Gx Γ M (pc + 3) ls ((2, v a 0) :: st) v h t bc bs Q) : Gx Γ M pc ls ((2, a) :: st) v h t bc bs Q :=
  Gx_get (k := 5) (f := 0) (C := RX6) (T := TX6) (N := 3) d ho hh rfl rfl (by decide) in_X6 q612 rfl rfl rfl kk
theorem gf_X3_7_6 {a : Int} {n : Int} (d : decode M.2.1 pc = .ok (.getfield 7, 3)) (ho : RX3 = M.2.2.2.2.1) (hh : h a = (6, n)) (kk : Gx Γ M (pc + 3) ls ((2, v a 0) :: st) v h t bc bs Q) : Gx Γ M pc ls ((2, a) :: st) v h t bc bs Q :=
  Gx_get (k := 6) (f := 0) (C := RX7) (T := TX7) (N := 4) d ho hh rfl rfl (by decide) in_X7 q612 rfl rfl rfl kk
theorem gf_X3_7_7 {a : Int} {n : Int} (d : decode M.2.1 pc = .ok (.getfield 7, 3)) (ho : RX3 = M.2.2.2.2.1) (hh : h a = (7, n)) (kk : Gx Γ M (pc + 3) ls ((2, v a 0) :: st) v h t bc bs Q) : Gx Γ M pc ls ((2, a) :: st) v h t bc bs Q :=
  Gx_get (k := 7) (f := 0) (C := RX8) (T := TX8) (N := 4) d ho hh rfl rfl (by decide) in_X8 q612 rfl rfl rfl kk
theorem pf_X3_7_3 {a : Int} {n x : Int} (d : decode M.2.1 pc = .ok (.putfield 7, 3)) (ho : RX3 = M.2.2.2.2.1) (hi : M.1.name = "<init>") (hh : h a = (3, n)) (kk : Gx Γ M (pc + 3) ls st (gUp v a 0 x) h t bc bs Q) : Gx Γ M pc ls ((2, x) :: (2, a) :: st) v h t bc bs Q :=
  Gx_putF (k := 3) (f := 0) (C := RX4) (T := TX4) (N := 1) d ho hi hh rfl rfl (by decide) in_X4 tyX4_ok nmX4 q612 rfl rfl rfl rfl rfl rfl kk
theorem pf_X3_7_4 {a : Int} {n x : Int} (d : decode M.2.1 pc = .ok (.putfield 7, 3)) (ho : RX3 = M.2.2.2.2.1) (hi : M.1.name = "<init>") (hh : h a = (4, n)) (kk : Gx Γ M (pc + 3) ls st (gUp v a 0 x) h t bc bs Q) : Gx Γ M pc ls ((2, x) :: (2, a) :: st) v h t bc bs Q :=
  Gx_putF (k := 4) (f := 0) (C := RX5) (T := TX5) (N := 3) d ho hi hh rfl rfl (by decide) in_X5 tyX5_ok nmX5 q612 rfl rfl rfl rfl rfl rfl kk
theorem pf_X3_7_5 {a : Int} {n x : Int} (d : decode M.2.1 pc = .ok (.putfield 7, 3)) (ho : RX3 = M.2.2.2.2.1) (hi : M.1.name = "<init>") (hh : h a = (5, n)) (kk : Gx Γ M (pc + 3) ls st (gUp v a 0 x) h t bc bs Q) : Gx Γ M pc ls ((2, x) :: (2, a) :: st) v h t bc bs Q :=
  Gx_putF (k := 5) (f := 0) (C := RX6) (T := TX6) (N := 3) d ho hi hh rfl rfl (by decide) in_X6 tyX6_ok nmX6 q612 rfl rfl rfl rfl rfl rfl kk
theorem pf_X3_7_6 {a : Int} {n x : Int} (d : decode M.2.1 pc = .ok (.putfield 7, 3)) (ho : RX3 = M.2.2.2.2.1) (hi : M.1.name = "<init>") (hh : h a = (6, n)) (kk : Gx Γ M (pc + 3) ls st (gUp v a 0 x) h t bc bs Q) : Gx Γ M pc ls ((2, x) :: (2, a) :: st) v h t bc bs Q :=
  Gx_putF (k := 6) (f := 0) (C := RX7) (T := TX7) (N := 4) d ho hi hh rfl rfl (by decide) in_X7 tyX7_ok nmX7 q612 rfl rfl rfl rfl rfl rfl kk
theorem pf_X3_7_7 {a : Int} {n x : Int} (d : decode M.2.1 pc = .ok (.putfield 7, 3)) (ho : RX3 = M.2.2.2.2.1) (hi : M.1.name = "<init>") (hh : h a = (7, n)) (kk : Gx Γ M (pc + 3) ls st (gUp v a 0 x) h t bc bs Q) : Gx Γ M pc ls ((2, x) :: (2, a) :: st) v h t bc bs Q :=
  Gx_putF (k := 7) (f := 0) (C := RX8) (T := TX8) (N := 4) d ho hi hh rfl rfl (by decide) in_X8 tyX8_ok nmX8 q612 rfl rfl rfl rfl rfl rfl kk
theorem gf_X5_9_4 {a : Int} {n : Int} (d : decode M.2.1 pc = .ok (.getfield 9, 3)) (ho : RX5 = M.2.2.2.2.1) (hh : h a = (4, n)) (kk : Gx Γ M (pc + 3) ls ((0, v a 1) :: st) v h t bc bs Q) : Gx Γ M pc ls ((2, a) :: st) v h t bc bs Q :=
  Gx_get (k := 4) (f := 1) (C := RX5) (T := TX5) (N := 3) d ho hh rfl rfl (by decide) in_X5 q626 rfl rfl rfl kk
theorem gf_X5_15_4 {a : Int} {n : Int} (d : decode M.2.1 pc = .ok (.getfield 15, 3)) (ho : RX5 = M.2.2.2.2.1) (hh : h a = (4, n)) (kk : Gx Γ M (pc + 3) ls ((0, v a 2) :: st) v h t bc bs Q) : Gx Γ M pc ls ((2, a) :: st) v h t bc bs Q :=
  Gx_get (k := 4) (f := 2) (C := RX5) (T := TX5) (N := 3) d ho hh rfl rfl (by decide) in_X5 q627 rfl rfl rfl kk
theorem pf_X5_9_4 {a : Int} {n x : Int} (d : decode M.2.1 pc = .ok (.putfield 9, 3)) (ho : RX5 = M.2.2.2.2.1) (hi : M.1.name = "<init>") (hh : h a = (4, n)) (kk : Gx Γ M (pc + 3) ls st (gUp v a 1 x) h t bc bs Q) : Gx Γ M pc ls ((0, x) :: (2, a) :: st) v h t bc bs Q :=
  Gx_putF (k := 4) (f := 1) (C := RX5) (T := TX5) (N := 3) d ho hi hh rfl rfl (by decide) in_X5 tyX5_ok nmX5 q626 rfl rfl rfl rfl rfl rfl kk
theorem pf_X5_15_4 {a : Int} {n x : Int} (d : decode M.2.1 pc = .ok (.putfield 15, 3)) (ho : RX5 = M.2.2.2.2.1) (hi : M.1.name = "<init>") (hh : h a = (4, n)) (kk : Gx Γ M (pc + 3) ls st (gUp v a 2 x) h t bc bs Q) : Gx Γ M pc ls ((0, x) :: (2, a) :: st) v h t bc bs Q :=
  Gx_putF (k := 4) (f := 2) (C := RX5) (T := TX5) (N := 3) d ho hi hh rfl rfl (by decide) in_X5 tyX5_ok nmX5 q627 rfl rfl rfl rfl rfl rfl kk
theorem gf_X6_9_5 {a : Int} {n : Int} (d : decode M.2.1 pc = .ok (.getfield 9, 3)) (ho : RX6 = M.2.2.2.2.1) (hh : h a = (5, n)) (kk : Gx Γ M (pc + 3) ls ((0, v a 1) :: st) v h t bc bs Q) : Gx Γ M pc ls ((2, a) :: st) v h t bc bs Q :=
  Gx_get (k := 5) (f := 1) (C := RX6) (T := TX6) (N := 3) d ho hh rfl rfl (by decide) in_X6 q647 rfl rfl rfl kk
theorem gf_X6_9_6 {a : Int} {n : Int} (d : decode M.2.1 pc = .ok (.getfield 9, 3)) (ho : RX6 = M.2.2.2.2.1) (hh : h a = (6, n)) (kk : Gx Γ M (pc + 3) ls ((0, v a 1) :: st) v h t bc bs Q) : Gx Γ M pc ls ((2, a) :: st) v h t bc bs Q :=
  Gx_get (k := 6) (f := 1) (C := RX7) (T := TX7) (N := 4) d ho hh rfl rfl (by decide) in_X7 q647 rfl rfl rfl kk
theorem gf_X6_9_7 {a : Int} {n : Int} (d : decode M.2.1 pc = .ok (.getfield 9, 3)) (ho : RX6 = M.2.2.2.2.1) (hh : h a = (7, n)) (kk : Gx Γ M (pc + 3) ls ((0, v a 1) :: st) v h t bc bs Q) : Gx Γ M pc ls ((2, a) :: st) v h t bc bs Q :=
  Gx_get (k := 7) (f := 1) (C := RX8) (T := TX8) (N := 4) d ho hh rfl rfl (by decide) in_X8 q647 rfl rfl rfl kk
theorem gf_X6_15_5 {a : Int} {n : Int} (d : decode M.2.1 pc = .ok (.getfield 15, 3)) (ho : RX6 = M.2.2.2.2.1) (hh : h a = (5, n)) (kk : Gx Γ M (pc + 3) ls ((0, v a 2) :: st) v h t bc bs Q) : Gx Γ M pc ls ((2, a) :: st) v h t bc bs Q :=
  Gx_get (k := 5) (f := 2) (C := RX6) (T := TX6) (N := 3) d ho hh rfl rfl (by decide) in_X6 q648 rfl rfl rfl kk
theorem gf_X6_15_6 {a : Int} {n : Int} (d : decode M.2.1 pc = .ok (.getfield 15, 3)) (ho : RX6 = M.2.2.2.2.1) (hh : h a = (6, n)) (kk : Gx Γ M (pc + 3) ls ((0, v a 2) :: st) v h t bc bs Q) : Gx Γ M pc ls ((2, a) :: st) v h t bc bs Q :=
  Gx_get (k := 6) (f := 2) (C := RX7) (T := TX7) (N := 4) d ho hh rfl rfl (by decide) in_X7 q648 rfl rfl rfl kk
theorem gf_X6_15_7 {a : Int} {n : Int} (d : decode M.2.1 pc = .ok (.getfield 15, 3)) (ho : RX6 = M.2.2.2.2.1) (hh : h a = (7, n)) (kk : Gx Γ M (pc + 3) ls ((0, v a 2) :: st) v h t bc bs Q) : Gx Γ M pc ls ((2, a) :: st) v h t bc bs Q :=
  Gx_get (k := 7) (f := 2) (C := RX8) (T := TX8) (N := 4) d ho hh rfl rfl (by decide) in_X8 q648 rfl rfl rfl kk
theorem pf_X6_9_5 {a : Int} {n x : Int} (d : decode M.2.1 pc = .ok (.putfield 9, 3)) (ho : RX6 = M.2.2.2.2.1) (hi : M.1.name = "<init>") (hh : h a = (5, n)) (kk : Gx Γ M (pc + 3) ls st (gUp v a 1 x) h t bc bs Q) : Gx Γ M pc ls ((0, x) :: (2, a) :: st) v h t bc bs Q :=
  Gx_putF (k := 5) (f := 1) (C := RX6) (T := TX6) (N := 3) d ho hi hh rfl rfl (by decide) in_X6 tyX6_ok nmX6 q647 rfl rfl rfl rfl rfl rfl kk
theorem pf_X6_9_6 {a : Int} {n x : Int} (d : decode M.2.1 pc = .ok (.putfield 9, 3)) (ho : RX6 = M.2.2.2.2.1) (hi : M.1.name = "<init>") (hh : h a = (6, n)) (kk : Gx Γ M (pc + 3) ls st (gUp v a 1 x) h t bc bs Q) : Gx Γ M pc ls ((0, x) :: (2, a) :: st) v h t bc bs Q :=
  Gx_putF (k := 6) (f := 1) (C := RX7) (T := TX7) (N := 4) d ho hi hh rfl rfl (by decide) in_X7 tyX7_ok nmX7 q647 rfl rfl rfl rfl rfl rfl kk
theorem pf_X6_9_7 {a : Int} {n x : Int} (d : decode M.2.1 pc = .ok (.putfield 9, 3)) (ho : RX6 = M.2.2.2.2.1) (hi : M.1.name = "<init>") (hh : h a = (7, n)) (kk : Gx Γ M (pc + 3) ls st (gUp v a 1 x) h t bc bs Q) : Gx Γ M pc ls ((0, x) :: (2, a) :: st) v h t bc bs Q :=
  Gx_putF (k := 7) (f := 1) (C := RX8) (T := TX8) (N := 4) d ho hi hh rfl rfl (by decide) in_X8 tyX8_ok nmX8 q647 rfl rfl rfl rfl rfl rfl kk
theorem pf_X6_15_5 {a : Int} {n x : Int} (d : decode M.2.1 pc = .ok (.putfield 15, 3)) (ho : RX6 = M.2.2.2.2.1) (hi : M.1.name = "<init>") (hh : h a = (5, n)) (kk : Gx Γ M (pc + 3) ls st (gUp v a 2 x) h t bc bs Q) : Gx Γ M pc ls ((0, x) :: (2, a) :: st) v h t bc bs Q :=
  Gx_putF (k := 5) (f := 2) (C := RX6) (T := TX6) (N := 3) d ho hi hh rfl rfl (by decide) in_X6 tyX6_ok nmX6 q648 rfl rfl rfl rfl rfl rfl kk
theorem pf_X6_15_6 {a : Int} {n x : Int} (d : decode M.2.1 pc = .ok (.putfield 15, 3)) (ho : RX6 = M.2.2.2.2.1) (hi : M.1.name = "<init>") (hh : h a = (6, n)) (kk : Gx Γ M (pc + 3) ls st (gUp v a 2 x) h t bc bs Q) : Gx Γ M pc ls ((0, x) :: (2, a) :: st) v h t bc bs Q :=
  Gx_putF (k := 6) (f := 2) (C := RX7) (T := TX7) (N := 4) d ho hi hh rfl rfl (by decide) in_X7 tyX7_ok nmX7 q648 rfl rfl rfl rfl rfl rfl kk
theorem pf_X6_15_7 {a : Int} {n x : Int} (d : decode M.2.1 pc = .ok (.putfield 15, 3)) (ho : RX6 = M.2.2.2.2.1) (hi : M.1.name = "<init>") (hh : h a = (7, n)) (kk : Gx Γ M (pc + 3) ls st (gUp v a 2 x) h t bc bs Q) : Gx Γ M pc ls ((0, x) :: (2, a) :: st) v h t bc bs Q :=
  Gx_putF (k := 7) (f := 2) (C := RX8) (T := TX8) (N := 4) d ho hi hh rfl rfl (by decide) in_X8 tyX8_ok nmX8 q648 rfl rfl rfl rfl rfl rfl kk
theorem gf_X7_9_6 {a : Int} {n : Int} (d : decode M.2.1 pc = .ok (.getfield 9, 3)) (ho : RX7 = M.2.2.2.2.1) (hh : h a = (6, n)) (kk : Gx Γ M (pc + 3) ls ((0, v a 3) :: st) v h t bc bs Q) : Gx Γ M pc ls ((2, a) :: st) v h t bc bs Q :=
  Gx_get (k := 6) (f := 3) (C := RX7) (T := TX7) (N := 4) d ho hh rfl rfl (by decide) in_X7 q661 rfl rfl rfl kk
theorem pf_X7_9_6 {a : Int} {n x : Int} (d : decode M.2.1 pc = .ok (.putfield 9, 3)) (ho : RX7 = M.2.2.2.2.1) (hi : M.1.name = "<init>") (hh : h a = (6, n)) (kk : Gx Γ M (pc + 3) ls st (gUp v a 3 x) h t bc bs Q) : Gx Γ M pc ls ((0, x) :: (2, a) :: st) v h t bc bs Q :=
  Gx_putF (k := 6) (f := 3) (C := RX7) (T := TX7) (N := 4) d ho hi hh rfl rfl (by decide) in_X7 tyX7_ok nmX7 q661 rfl rfl rfl rfl rfl rfl kk
theorem gf_X8_9_7 {a : Int} {n : Int} (d : decode M.2.1 pc = .ok (.getfield 9, 3)) (ho : RX8 = M.2.2.2.2.1) (hh : h a = (7, n)) (kk : Gx Γ M (pc + 3) ls ((0, v a 3) :: st) v h t bc bs Q) : Gx Γ M pc ls ((2, a) :: st) v h t bc bs Q :=
  Gx_get (k := 7) (f := 3) (C := RX8) (T := TX8) (N := 4) d ho hh rfl rfl (by decide) in_X8 q675 rfl rfl rfl kk
theorem pf_X8_9_7 {a : Int} {n x : Int} (d : decode M.2.1 pc = .ok (.putfield 9, 3)) (ho : RX8 = M.2.2.2.2.1) (hi : M.1.name = "<init>") (hh : h a = (7, n)) (kk : Gx Γ M (pc + 3) ls st (gUp v a 3 x) h t bc bs Q) : Gx Γ M pc ls ((0, x) :: (2, a) :: st) v h t bc bs Q :=
  Gx_putF (k := 7) (f := 3) (C := RX8) (T := TX8) (N := 4) d ho hi hh rfl rfl (by decide) in_X8 tyX8_ok nmX8 q675 rfl rfl rfl rfl rfl rfl kk
theorem pf_X9_9_8 {a : Int} {n x : Int} (d : decode M.2.1 pc = .ok (.putfield 9, 3)) (ho : RX9 = M.2.2.2.2.1) (hh : h a = (8, n)) (kk : Gx Γ M (pc + 3) ls st (gUp v a 2 x) h t bc bs Q) : Gx Γ M pc ls ((0, x) :: (2, a) :: st) v h t bc bs Q :=
  Gx_put (k := 8) (f := 2) (C := RX9) (T := TX9) (N := 3) d ho hh rfl rfl (by decide) in_X9 tyX9_ok nmX9 q707 rfl rfl rfl rfl rfl kk
theorem pf_X9_15_8 {a : Int} {n x : Int} (d : decode M.2.1 pc = .ok (.putfield 15, 3)) (ho : RX9 = M.2.2.2.2.1) (hh : h a = (8, n)) (kk : Gx Γ M (pc + 3) ls st (gUp v a 0 x) h t bc bs Q) : Gx Γ M pc ls ((0, x) :: (2, a) :: st) v h t bc bs Q :=
  Gx_put (k := 8) (f := 0) (C := RX9) (T := TX9) (N := 3) d ho hh rfl rfl (by decide) in_X9 tyX9_ok nmX9 q704 rfl rfl rfl rfl rfl kk
end
