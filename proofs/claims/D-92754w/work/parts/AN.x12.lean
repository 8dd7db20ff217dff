/-! Exceptions that are caught, 12: the rule of a failing cast -/
section XL
variable {Γ : gC} {M : gI} {pc : Nat} {ls st : List gV} {v : gM} {h : gH} {t bc bs : Nat} {Q : gQ}
theorem Gx_cast_no {o n : Int} {k idx hp bc' bs' N : Nat} {C D : String} {T : u_T} (hfl : Γ.1.stackTraces = false) (hmo : modulesRight_1 Γ.2.1 = true) (d : decode M.2.1 pc = .ok (.checkcast idx, 3)) (hh : h o = (k, n)) (hk : gO k = true) (hr : gCl[gCi k]? = some (C, T, N)) (hl : xLand M pc "java/lang/ClassCastException" hp = true) (hq : (xOk (.classLink M.2.2.2.2.1 idx D) && (xOk (.not (.castable C D)) && (xNmOk C && xNmOk D))) = true) (hrm : xRm M ((2, o) :: st) = true) (hb1 : bc' + 3 ≤ bc) (hb2 : 430 + bs' ≤ bs) (kk : Gx Γ M hp ls [(2, ((t + 2 : Nat) : Int))] v h (t + 3) bc' bs' Q) : Gx Γ M pc ls ((2, o) :: st) v h t bc bs Q := by
  simp only [Bool.and_eq_true] at hq
  obtain ⟨q1, q2, q3, q4⟩ := hq
  refine Gx_throwE (st' := (2, o) :: st) (k := 3) (N := 430) hl (fun p e s m args below meth c T' locs cells slots lsa hx hb hml hown hws hK X hR hrs hlocs hst hsz hc hs => ?_) (by omega) hb1 hb2 kk
  have ha := gR_in hR hh (by rintro rfl; revert hk; decide)
  have hA := hR.2.2.2 o ha.1 ha.2
  unfold gAt at hA
  rw [hh] at hA
  obtain ⟨r', e1, e2, -⟩ := hA.1 hk
  have : r' = (C, T, N) := Option.some.inj (e1.symm.trans hr)
  subst this
  obtain ⟨cell, z1, z2, z3, -⟩ := e2
  have hcls : s.vm.findClass C = some cell.cls := by rw [z2]; exact (hK.1.1 (gCi k) _ hr).2.1
  obtain ⟨cB, hB, hasg⟩ := xNCast (hws _ q2) hcls
  obtain ⟨ks, hks⟩ := Vm.classAt_of_findClass hcls
  have e9 : gCv Γ (2, o) = .ref (gB Γ + o.toNat) := by
    show gRv _ _ = _
    rw [gRv_ref ha.1]
  rw [List.map_cons, e9]
  obtain ⟨vm', ks', kt', XV, hWv, hks', hkt', hstp⟩ := xCastNo X hx hown (hws _ q1) (a := gB Γ + o.toNat) (cell := cell) z1 (fun z hz => by rw [z3] at hz; cases hz) hks hB hasg (g := F0 m pc lsa (.ref (gB Γ + o.toNat) :: st.map (gCv Γ))) rfl rfl (by rw [hb]; exact d)
  have hmod : (vm'.modules.all fun m => m.loader.isSome || m.name == "java.base" || !(castPackages_1.any fun p => m.packages.contains p)) = true := by
    have f1 : vm'.modules = s.vm.modules := by rw [hWv.alike.1]
    have f2 : s.vm.modules = Γ.2.1.vm.modules := by rw [hK.2.2.2.1.alike.1]
    rw [f1, f2]
    exact hmo
  have hok := xTOk_by (xText hmod (xCls (by rw [hWv.alike.findClass]; exact hcls) hks') (xCls (by rw [hWv.alike.findClass]; exact hB) hkt') q3 q4)
  obtain ⟨U, L, a1, a2, a3, a4, a5, a6⟩ := xMadeM (Γ := Γ) (M := M) (st := (2, o) :: st) (names := ["java/lang/RuntimeException", "java/lang/Exception"]) hfl hrm xCceIn (by decide +kernel) (by decide +kernel) (by decide +kernel) (by decide +kernel) hok.1 hok.2 p e s m args below meth c (T'.setVm vm') locs cells slots (F0 m pc lsa (.ref (gB Γ + o.toNat) :: st.map (gCv Γ))) hx hws XV hlocs hst rfl hsz (by have hg := gCs_sum (Γ := Γ) ((2, o) :: st); rw [List.map_cons (f := gCv Γ), e9] at hg; rw [← hg]; simp) hc (by omega)
  exact ⟨_, by omega, U, L, a1, a2, fun target ht => hstp target (a3 target ht), a4, a5, a6⟩
end XL
