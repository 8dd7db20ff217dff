/-! Exceptions that are caught, 7: the instructions that throw -/
section XG
variable {Γ : gC} {M : gI} {pc : Nat} {ls st : List gV} {v : gM} {h : gH} {t bc bs : Nat} {Q : gQ}
abbrev xNm (j : Nat) : String := match j with
  | 137 => "java/lang/NegativeArraySizeException"
  | 150 => "java/lang/NullPointerException"
  | 152 => "java/lang/ArrayIndexOutOfBoundsException"
  | 160 => "java/lang/IndexOutOfBoundsException"
  | 162 => "java/lang/ArithmeticException"
  | _ => "java/lang/ClassCastException"
/-- the room a throw asks of its method -/
def xRm (M : gI) (st : List gV) : Bool := decide (8 < M.2.2.2.2.2.frames) && decide (gCs st + 10240 ≤ M.2.2.2.2.2.locals)
theorem gRv_null {B : Nat} {o : Int} (ho : o < 0) : gRv B o = .null := by
  unfold gRv
  rw [if_pos ho]
theorem xMadeN (hfl : Γ.1.stackTraces = false) (hrm : xRm M st = true) (p : Program) (e : Env) (s : State) (m : MethodId) (args : Array Value) (below : List Frame) (meth : Method) (c : Code) (T : State) (locs : List Loc) (cells slots : Nat) (g : JFrame) (hx : p.tables.exec = Jvm.exec) (hws : ∀ w, xOk w = true → w.before args s = true) (X : Stand p Γ.1 e M.2.2.2.2.2 s m args below meth c T locs cells slots) (hlocs : ∀ x ∈ locs, gB Γ ≤ x.base) (hst : ∀ (c : ClassId) (k : Class) (i : Nat) (f : Field) (a : Addr), s.fieldFound? Bundle.tN "UNASSIGNED_STACK" Bundle.steD = some (c, k, i, f) → k.statics = some a → a < gB Γ) (hg : g.method = m) (hsz : g.locals.size = c.maxLocals) (hcs : 2 * g.monitorRoom + (g.stack.map fun v => v.category).sum = gCs st) (hc : cells + 1 ≤ M.2.2.2.2.2.cells) (hs : slots + 8 ≤ M.2.2.2.2.2.slots) : xMade p Γ.1 e M.2.2.2.2.2 s m args below meth c T locs cells slots g (.throwNew "java/lang/NullPointerException" none none) "java/lang/NullPointerException" 1 8 := by
  obtain ⟨r1, r2⟩ := Bool.and_eq_true_iff.mp hrm
  have r1 := of_decide_eq_true r1
  have r2 := of_decide_eq_true r2
  exact xNpe X hx (by rw [X.admits.platform]; exact hfl) (fun a ha => hws a (List.all_eq_true.mp xNpeIn a ha)) hlocs hst hg hsz (by omega) (by omega) hc hs
theorem xMadeM {cls text : String} {names : List String} (hfl : Γ.1.stackTraces = false) (hrm : xRm M st = true) (hin : (Bundle.messageArmAtoms cls names).all xOk = true) (hcls : Bundle.fit cls = true) (hnames : (names.all Bundle.fit && decide (names.length < 4)) = true) (hsoe : (cls == "java/lang/StackOverflowError") = false) (hoom : (cls == "java/lang/OutOfMemoryError") = false) (htx : (text == notModelled) = false) (hby : (stringBytes (stringToUtf16 text)).size ≤ 420) (p : Program) (e : Env) (s : State) (m : MethodId) (args : Array Value) (below : List Frame) (meth : Method) (c : Code) (T : State) (locs : List Loc) (cells slots : Nat) (g : JFrame) (hx : p.tables.exec = Jvm.exec) (hws : ∀ w, xOk w = true → w.before args s = true) (X : Stand p Γ.1 e M.2.2.2.2.2 s m args below meth c T locs cells slots) (hlocs : ∀ x ∈ locs, gB Γ ≤ x.base) (hst : ∀ (c : ClassId) (k : Class) (i : Nat) (f : Field) (a : Addr), s.fieldFound? Bundle.tN "UNASSIGNED_STACK" Bundle.steD = some (c, k, i, f) → k.statics = some a → a < gB Γ) (hg : g.method = m) (hsz : g.locals.size = c.maxLocals) (hcs : 2 * g.monitorRoom + (g.stack.map fun v => v.category).sum = gCs st) (hc : cells + 3 ≤ M.2.2.2.2.2.cells) (hs : slots + ((stringBytes (stringToUtf16 text)).size + 4 + 6) ≤ M.2.2.2.2.2.slots) : xMade p Γ.1 e M.2.2.2.2.2 s m args below meth c T locs cells slots g (.throwNew cls (some text) none) cls 3 ((stringBytes (stringToUtf16 text)).size + 4 + 6) := by
  obtain ⟨r1, r2⟩ := Bool.and_eq_true_iff.mp hrm
  have r1 := of_decide_eq_true r1
  have r2 := of_decide_eq_true r2
  obtain ⟨n1, n2⟩ := Bool.and_eq_true_iff.mp hnames
  have n2 := of_decide_eq_true n2
  exact xMsg X hx (by rw [X.admits.platform]; exact hfl) hcls (fun n hn => List.all_eq_true.mp n1 n hn) hsoe hoom (fun a ha => hws a (List.all_eq_true.mp hin a ha)) hlocs hst htx (by rw [Launch.admits_arrayLengthLimit X.admits]; omega) (by rw [X.admits.platform]; show ¬ _ * 1 > 536870912; omega) hg hsz (by omega) (by omega) (by omega) hc hs
end XG
