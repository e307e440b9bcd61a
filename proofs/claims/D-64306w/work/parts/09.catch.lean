section XK
variable {p : Program} {l : Launch} {e : Env} {R : Room} {s : State} {m : MethodId} {args : Array Value} {below : List Frame} {meth : Method} {c : Code} {H : Heap} {locs : List Loc} {cells slots : Nat} {Q : State → Prop}
variable {cc : ByteArray} {pc : Nat} {ls : Array Slot} {rest st As : List Value} {g : x_G} {Y : x_Y} {L : x_L} {I : x_I} {t i j k0 n0 k n : Nat} {P : x_P}
/-- one row of the table, its class resolved now or before -/
theorem x_goC {E : CtlPost} {d : Bool} {acts : List Action} {V : State} {f : JFrame} {a : Addr} {Qh : Handler → Pre} {x : ExceptionTableEntry} {tl : List ExceptionTableEntry} {cX : ClassId} {cell : Cell} {vm' : Vm} (hx : covers x f.pc = true) (h0 : x.catchType ≠ 0)
    (hg : (Jvm.resolveClass f.method.cls x.catchType).Gives e.toSetting V.vm (.ok cX) vm') (hsz : vm'.classes.size ≤ V.vm.classes.size) (hcell : V.heap[a]? = some cell) (hobj : ∀ k, cell.vm ≠ .statics k) (hk : ∃ k, vm'.classes[cell.cls]? = some k) (hc : ∃ k, vm'.classes[cX]? = some k) :
    wp (findHandler.go f a (x :: tl)) Qh E e d acts V ↔ if vm'.assignable cell.cls cX = true then Qh (.found x.handlerPc) d acts (V.setVm vm') else wp (findHandler.go f a tl) Qh E e d acts (V.setVm vm') := by
  simp only [covers] at hx
  obtain ⟨ha, ht⟩ := hg.op (op := VmOp.resolveClass f.method.cls x.catchType) rfl
  cases hfit : vm'.assignable cell.cls cX <;>
    simp [findHandler.go, hx, h0, ha, ht, hsz, hcell, hobj, hk, hc, hfit, VmOp.dirties, VmOp.acts]
theorem x_stepC {V V' : State} {a : Addr} {f : JFrame} {r : List Frame} {h : Nat} (hfind : ∀ (Qh : Handler → Pre) (E : CtlPost) (d : Bool) (acts : List Action), wp (findHandler f a) Qh E e d acts V ↔ Qh (.found h) d acts V') :
    (stepThrowing e V a (.java f :: r)).Is (V'.setFrames (.java { f with pc := h, stack := [.ref a] } :: r)) [] := by
  simp only [stepThrowing, searchFrame, vmDo]
  generalize hr : Sem.go _ e false [] V = res
  obtain ⟨as, rfl, ha⟩ := Sem.eq_ok_of hr (a := Handler.found h) (s' := V') (acts' := []) (by simp [hfind _ _ _ _])
  exact ⟨rfl, ha⟩
theorem x_caught {T : State} {gf : JFrame} {a : Addr} {h : Nat} {vm' : Vm} (hAt : At T gf.method c below) (hfind : ∀ (Qh : Handler → Pre) (E : CtlPost) (d : Bool) (acts : List Action), wp (findHandler gf a) Qh E e d acts ((T.setTop gf).pushFrame (.throwing a)) ↔ Qh (.found h) d acts (((T.setTop gf).pushFrame (.throwing a)).setVm vm'))
    {tg : State} (hrest : Steps p.tables e below ((T.setVm vm').setTop { gf with pc := h, stack := [.ref a] }) tg) : Steps p.tables e below ((T.setTop gf).pushFrame (.throwing a)) tg := by
  obtain ⟨hgo, hw⟩ := hAt.throwing a
  refine Steps.head hgo hw ?_
  rw [stepThread_throwing (frames_entered hAt.top _), (x_stepC hfind).1]
  obtain ⟨g₀, hg⟩ := Option.isSome_iff_exists.mp hAt.top
  obtain ⟨r, hr⟩ := State.topJava?_eq_some.mp hg
  have hr' : (T.setVm vm').frames = .java g₀ :: r := hr
  rw [State.setTop_of_frames _ hr'] at hrest
  have he : (((T.setTop gf).pushFrame (.throwing a)).setVm vm').setFrames (.java { gf with pc := h, stack := [.ref a] } :: T.frames.tail) = (T.setVm vm').setFrames (.java { gf with pc := h, stack := [.ref a] } :: r) := by
    rw [State.pushFrame, State.setTop_of_frames _ hr, State.setFrames_setFrames, hr]
    exact State.setFrames_setFrames (T.setVm vm') _ _
  rw [he]
  exact hrest
/-- the first row of the table takes it -/
theorem x_catch1 {own C : String} {nL F kx ct h a1 a2 : Nat} {ret : Option FieldType} {tl : List (Nat × Nat × Nat × Nat)} (hE : x_E l g p e R s m meth c own cc nL ret F k0 n0) (hex : c.exceptionTable.toList.map (fun h => (h.startPc, h.endPc, h.handlerPc, h.catchType)) = (a1, a2, h, ct) :: tl) (hcv : a1 ≤ pc ∧ pc < a2) (hct : ct ≠ 0)
    (m1 : Cond.classLink own ct C ∈ lw_tbl) (m2 : Cond.castable (x_xn kx) C ∈ lw_tbl) (kk : ∀ a : Nat, W p l e R s m args below meth c H locs cells slots Q (F0 m h ls [.ref a])) : WT p l e R s m args below meth c H locs cells slots Q (F0 m pc ls rest) kx := by
  intro T a hT X hxx
  obtain ⟨hx, hb, hml, -, hlk, hown, hK, htr, hFR, hLR, hRc, hRs⟩ := hE
  obtain ⟨cell, c1, c2, c3⟩ := hxx
  cases htl : c.exceptionTable.toList with
  | nil => rw [htl] at hex; cases hex
  | cons x xs =>
    rw [htl, List.map_cons] at hex
    obtain ⟨hh1, hh2⟩ := List.cons.inj hex
    simp only [Prod.mk.injEq] at hh1
    obtain ⟨e1, e2, e3, e4⟩ := hh1
    have hpl : e.platform.magicAccessors = ({} : Platform).magicAccessors := by rw [X.admits.platform]
    obtain ⟨cX, hfC, hcl⟩ := Cond.classLink_spec hown (x_wd (args := args) hK m1 rfl) e.platform hpl
    obtain ⟨hg₁, hwarm₁, hready₁⟩ := State.classEntry (e := e) X.warmed hcl
    have hsz : (T.vm.noted m.cls ct (.cls cX)).classes.size ≤ T.vm.classes.size := by rw [Vm.size_noted]; exact Nat.le_refl _
    generalize T.vm.noted m.cls ct (.cls cX) = vm₁ at hg₁ hwarm₁ hready₁ hsz
    obtain ⟨q1, q2, w1, w2, w3⟩ := Cond.castable_spec (x_wdC (args := args) hK m2)
    have hcc : cell.cls = q1 := by
      rw [X.warmed.alike.findClass] at c3
      exact Option.some.inj (c3.symm.trans w1)
    cases hfC.symm.trans w2
    have has : vm₁.assignable cell.cls cX = true := by rw [hwarm₁.alike.assignable, hcc]; exact w3
    have hk1 : ∃ k, vm₁.classes[cell.cls]? = some k := Vm.classAt_of_findClass (name := x_xn kx) (by rw [hwarm₁.alike.findClass, hcc]; exact w1)
    have hk2 : ∃ k, vm₁.classes[cX]? = some k := Vm.classAt_of_findClass (name := C) (by rw [hwarm₁.alike.findClass]; exact w2)
    have hcov : covers x pc = true := by simp [covers, e1, e2, hcv]
    obtain ⟨t2, s1, s2⟩ := kk a (T.setVm vm₁) hT (X.noted hwarm₁)
    refine ⟨t2, x_caught (gf := F0 m pc ls rest) X.here (h := h) (vm' := vm₁) ?_ s1, s2⟩
    intro Qh E d acts
    rw [W.findHandler_eq (s := (T.setTop (F0 m pc ls rest)).pushFrame (.throwing a)) (meth := meth) (code := c) (by exact X.method') X.code, htl, x_goC (f := F0 m pc ls rest) (V := (T.setTop (F0 m pc ls rest)).pushFrame (.throwing a)) (vm' := vm₁) (cell := cell) hcov (by rw [e4]; exact hct) (by rw [e4]; exact hg₁) hsz c1 (VmData.ne_statics_of c2) hk1 hk2, if_pos has, e3]
/-- the first row is of another class, the second takes it -/
theorem x_catch2 {own C D : String} {nL F kx ct cd h hd a1 a2 b1 b2 : Nat} {ret : Option FieldType} {tl : List (Nat × Nat × Nat × Nat)} (hE : x_E l g p e R s m meth c own cc nL ret F k0 n0) (hex : c.exceptionTable.toList.map (fun h => (h.startPc, h.endPc, h.handlerPc, h.catchType)) = (b1, b2, hd, cd) :: (a1, a2, h, ct) :: tl) (hcv : a1 ≤ pc ∧ pc < a2) (hcw : b1 ≤ pc ∧ pc < b2) (hct : ct ≠ 0) (hcd : cd ≠ 0)
    (m1 : Cond.classLink own ct C ∈ lw_tbl) (m2 : Cond.castable (x_xn kx) C ∈ lw_tbl) (m3 : Cond.classLink own cd D ∈ lw_tbl) (m4 : ∀ (s0 : State) (a0 : Array Value), (Jvm.Cond.and given_1 narrow_1).before a0 s0 = true → (Cond.not (.castable (x_xn kx) D)).before a0 s0 = true) (kk : ∀ a : Nat, W p l e R s m args below meth c H locs cells slots Q (F0 m h ls [.ref a])) : WT p l e R s m args below meth c H locs cells slots Q (F0 m pc ls rest) kx := by
  intro T a hT X hxx
  obtain ⟨hx, hb, hml, -, hlk, hown, hK, htr, hFR, hLR, hRc, hRs⟩ := hE
  obtain ⟨cell, c1, c2, c3⟩ := hxx
  cases htl : c.exceptionTable.toList with
  | nil => rw [htl] at hex; cases hex
  | cons y ys =>
    rw [htl, List.map_cons] at hex
    obtain ⟨hy1, hy2⟩ := List.cons.inj hex
    cases ys with
    | nil => cases hy2
    | cons x xs =>
      rw [List.map_cons] at hy2
      obtain ⟨hh1, hh2⟩ := List.cons.inj hy2
      simp only [Prod.mk.injEq] at hh1 hy1
      obtain ⟨e1, e2, e3, e4⟩ := hh1
      obtain ⟨f1, f2, f3, f4⟩ := hy1
      have hpl : e.platform.magicAccessors = ({} : Platform).magicAccessors := by rw [X.admits.platform]
      obtain ⟨cD, hfD, hclD⟩ := Cond.classLink_spec hown (x_wd (args := args) hK m3 rfl) e.platform hpl
      obtain ⟨hgD, hwarmD, hreadyD⟩ := State.classEntry (e := e) X.warmed hclD
      have hszD : (T.vm.noted m.cls cd (.cls cD)).classes.size ≤ T.vm.classes.size := by rw [Vm.size_noted]; exact Nat.le_refl _
      generalize T.vm.noted m.cls cd (.cls cD) = vm₀ at hgD hwarmD hreadyD hszD
      have X0 := X.noted hwarmD
      obtain ⟨cX, hfC, hcl⟩ := Cond.classLink_spec hown (x_wd (args := args) hK m1 rfl) e.platform hpl
      obtain ⟨hg₁, hwarm₁, hready₁⟩ := State.classEntry (e := e) X0.warmed hcl
      have hsz : ((T.setVm vm₀).vm.noted m.cls ct (.cls cX)).classes.size ≤ (T.setVm vm₀).vm.classes.size := by rw [Vm.size_noted]; exact Nat.le_refl _
      generalize (T.setVm vm₀).vm.noted m.cls ct (.cls cX) = vm₁ at hg₁ hwarm₁ hready₁ hsz
      obtain ⟨q1, q2, w1, w2, w3⟩ := Cond.castable_spec (x_wdC (args := args) hK m2)
      have hcc : cell.cls = q1 := by
        rw [X.warmed.alike.findClass] at c3
        exact Option.some.inj (c3.symm.trans w1)
      cases hfC.symm.trans w2
      have hno : s.vm.assignable q1 cD = false := by
        obtain ⟨s0, a0, h1, h2, h3, h4, h5⟩ := hK
        have hn := m4 s0 a0 h1
        have z1 : s0.vm.findClass (x_xn kx) = some q1 := by rw [← h4.alike.findClass]; exact w1
        have z2 : s0.vm.findClass D = some cD := by rw [← h4.alike.findClass]; exact hfD
        rw [h4.alike.assignable]
        simpa [Cond.before, Cond.holds, Cond.value, z1, z2] using hn
      have has : vm₁.assignable cell.cls cX = true := by rw [hwarm₁.alike.assignable, hcc]; exact w3
      have hns : ¬ vm₀.assignable cell.cls cD = true := by rw [hwarmD.alike.assignable, hcc, hno]; decide
      have hk1 : ∃ k, vm₁.classes[cell.cls]? = some k := Vm.classAt_of_findClass (name := x_xn kx) (by rw [hwarm₁.alike.findClass, hcc]; exact w1)
      have hk2 : ∃ k, vm₁.classes[cX]? = some k := Vm.classAt_of_findClass (name := C) (by rw [hwarm₁.alike.findClass]; exact w2)
      have hj1 : ∃ k, vm₀.classes[cell.cls]? = some k := Vm.classAt_of_findClass (name := x_xn kx) (by rw [hwarmD.alike.findClass, hcc]; exact w1)
      have hj2 : ∃ k, vm₀.classes[cD]? = some k := Vm.classAt_of_findClass (name := D) (by rw [hwarmD.alike.findClass]; exact hfD)
      have hcov : covers x pc = true := by simp [covers, e1, e2, hcv]
      have hcow : covers y pc = true := by simp [covers, f1, f2, hcw]
      obtain ⟨t2, s1, s2⟩ := kk a (T.setVm vm₁) hT (X.noted hwarm₁)
      refine ⟨t2, x_caught (gf := F0 m pc ls rest) X.here (h := h) (vm' := vm₁) ?_ s1, s2⟩
      intro Qh E d acts
      rw [W.findHandler_eq (s := (T.setTop (F0 m pc ls rest)).pushFrame (.throwing a)) (meth := meth) (code := c) (by exact X.method') X.code, htl, x_goC (f := F0 m pc ls rest) (V := (T.setTop (F0 m pc ls rest)).pushFrame (.throwing a)) (vm' := vm₀) (cell := cell) hcow (by rw [f4]; exact hcd) (by rw [f4]; exact hgD) hszD c1 (VmData.ne_statics_of c2) hj1 hj2, if_neg hns,
        x_goC (f := F0 m pc ls rest) (V := ((T.setTop (F0 m pc ls rest)).pushFrame (.throwing a)).setVm vm₀) (cell := cell) (vm' := vm₁) hcov (by rw [e4]; exact hct) (by rw [e4]; exact hg₁) hsz c1 (VmData.ne_statics_of c2) hk1 hk2, if_pos has, e3]
      rfl
end XK
