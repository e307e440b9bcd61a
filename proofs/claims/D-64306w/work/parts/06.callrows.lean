def x_has (s : State) (y : MethodName) (mL : Nat) : Prop := ∃ (mk : MethodId) (methk : Method) (ck : Code), s.methodNamed? y = some mk ∧ s.vm.method? mk = some methk ∧ methk.code = some ck ∧ methk.locks = false ∧ ck.maxLocals = mL ∧ parseMethodDescriptor y.desc = some methk.sig
theorem x_cd {g : x_G} {s : State} {y : MethodName} {b : ByteArray} {mL : Nat} {rt : Option FieldType} (hK : x_K g s) (h : Cond.code y b mL rt ∈ lw_tbl) : x_has s y mL := by
  have hc := x_wd (args := #[]) hK h rfl
  obtain ⟨mk, hn⟩ := Cond.code_named hc
  obtain ⟨meth, c, h1, h2, -, h4, -, h6, -, h8⟩ := Cond.code_spec hn hc
  exact ⟨mk, meth, c, hn, h1, h2, h6, h4, h8⟩
theorem x_cdW {g : x_G} {s : State} {y : MethodName} {b : ByteArray} {mL : Nat} {rt : Option FieldType} {hh : List (Nat × Nat × Nat × Nat)} (hK : x_K g s) (h : Cond.codeWith y b mL rt hh ∈ lw_tbl) : x_has s y mL := by
  obtain ⟨m9, meth', c', hn9, h1, h2, h3, h4, h7, h5, h6, h8⟩ := Cond.codeWith_spec (x_wd (args := #[]) hK h rfl)
  exact ⟨m9, meth', c', hn9, h1, h2, h6, h4, h8⟩
/-- what a name of a method is good for: it can be called with so many arguments -/
def x_yok (y : MethodName) (n : Nat) : Prop := (y.cls ≠ "java/lang/invoke/MethodHandle" ∧ y.cls ≠ "java/lang/invoke/VarHandle") ∧ plainFor y = true ∧ (parseMethodDescriptor y.desc).map (fun d => d.parameters.length) = some n
theorem x_yok.len {y : MethodName} {n : Nat} (h : x_yok y n) : ∀ sig, parseMethodDescriptor y.desc = some sig → n = sig.parameters.length := by
  intro sig hs
  have h2 := h.2.2
  rw [hs] at h2
  exact (Option.some.inj h2).symm
def x_rcv (s : State) (H : Heap) (C : String) (b : Nat) : Prop := ∃ cell : Cell, H[b]? = some cell ∧ cell.vm.isStatics = false ∧ s.vm.findClass C = some cell.cls
def x_bd (k0 n0 k n : Nat) : Prop := k0 ≤ k ∧ k ≤ 600288 ∧ n0 ≤ n ∧ n ≤ 7292554
theorem x_bd.tr {k0 n0 k n k' n' : Nat} (h : x_bd k0 n0 k n) (h' : x_bd k n k' n') : x_bd k0 n0 k' n' := ⟨Nat.le_trans h.1 h'.1, h'.2.1, Nat.le_trans h.2.2.1 h'.2.2.1, h'.2.2.2⟩
section XD
variable {p : Program} {l : Launch} {e : Env} {R : Room} {s : State} {m : MethodId} {args : Array Value} {below : List Frame} {meth : Method} {c : Code} {H : Heap} {locs : List Loc} {cells slots : Nat} {Q : State → Prop}
variable {cc : ByteArray} {pc : Nat} {ls : Array Slot} {rest st As : List Value} {g : x_G} {Y : x_Y} {L : x_L} {I : x_I} {t i j : Nat}
theorem x_recv (hK : x_K g s) (hw : x_WL g Y L I H locs) (hok : x_ok Y t i) {c0 : Nat} (hk : x_kd t = (0, c0)) (hc : c0 < 9) : x_rcv s H (x_cn c0) (x_ad Y t i) := by
  obtain ⟨cell, q1, q2, q3, q4⟩ := hw.1.obj hok hk
  exact ⟨cell, q1, by rw [q3]; rfl, by rw [q2]; exact (hK.cls hc).2.1⟩
/-- from the callee's entry on -/
theorem x_go {own : String} {nL nA F' F k0 n0 k n mL len : Nat} {ret : Option FieldType} (hE : x_E l g p e R s m meth c own cc nL ret F k0 n0) (hw : x_WL g Y L I H locs) {y : MethodName} {av : List Value} {P : x_P} (hC : x_C l y F' g av Y L I k n P) (hh : x_has s y mL) (hy : x_yok y nA) (hF : F' + 1 ≤ F) (hL : 8 + (mL + 11) + 64 * F' ≤ 64 * F)
    (hls : ls.size = nL) (hr : (rest.map fun v => v.category).sum ≤ 8) (hkk : x_bd k0 n0 k n) {ig : Instr} (hdg : decode cc pc = .ok (ig, len))
    (ht : ∀ T : State, T.heap = H → Stand p l e R s m args below meth c T locs (k - k0) (n - n0) → ∃ (mk : MethodId) (vm₁ : Vm), s.methodNamed? y = some mk ∧ Stand p l e R s m args below meth c (T.setVm vm₁) locs (k - k0) (n - n0) ∧
      ∀ tg, Steps p.tables e below (doInvoke e ((T.setVm vm₁).setTop (F0 m pc ls rest)) [] mk av.toArray).1 tg → Steps p.tables e below (T.setTop (F0 m pc ls st)) tg)
    (kr : ∀ (v : Option Value) (Y' : x_Y) (L' : x_L) (I' : x_I) (k' n' : Nat) (H' : Heap) (locs' : List Loc), P (.inl v) Y' L' I' k' n' → x_WL g Y' L' I' H' locs' → x_bd k n k' n' → W p l e R s m args below meth c H' locs' (k' - k0) (n' - n0) Q (F0 m (pc + len) ls (v.toList ++ rest)))
    (kt : ∀ (kx : Nat) (Y' : x_Y) (L' : x_L) (I' : x_I) (k' n' : Nat) (H' : Heap) (locs' : List Loc), P (.inr kx) Y' L' I' k' n' → x_WL g Y' L' I' H' locs' → x_bd k n k' n' → WT p l e R s m args below meth c H' locs' (k' - k0) (n' - n0) Q (F0 m pc ls rest) kx) :
    W p l e R s m args below meth c H locs (k - k0) (n - n0) Q (F0 m pc ls st) := by
  intro T hT X
  obtain ⟨hx, hb, hml, -, -, hown, hK, htr, hFR, hLR, hRc, hRs⟩ := hE
  obtain ⟨mk, vm₁, hn, X₁, hstep⟩ := ht T hT X
  obtain ⟨mk', methk, ck, hn', hmk, hck, hlk, hcm, -⟩ := hh
  cases hn.symm.trans hn'
  obtain ⟨r, Y', L', I', k', n', T', locs', hP, hw', X', hb', hs'⟩ := x_enter (gf := F0 m pc ls rest) X₁ hx htr hK (by rw [show (T.setVm vm₁).heap = H from hT]; exact hw) hC hn hy.2.1 hmk hck hlk hcm rfl (hls.trans hml.symm) (by rw [hb]; exact hdg) (lv_room hr) (Nat.le_trans hF hFR) (Nat.le_trans hL hLR) hRc hRs rfl rfl hkk
  cases r with
  | inl v =>
    obtain ⟨t2, a1, b1⟩ := kr v Y' L' I' k' n' T'.heap locs' hP hw' hb' T' rfl X'
    exact ⟨t2, hstep t2 (Steps.trans hs' a1), b1⟩
  | inr kx =>
    obtain ⟨a, hex, hs'⟩ := hs'
    obtain ⟨t2, a1, b1⟩ := kt kx Y' L' I' k' n' T'.heap locs' hP hw' hb' T' a rfl X' hex
    exact ⟨t2, hstep t2 (Steps.trans hs' a1), b1⟩
theorem x_toV {own C : String} {b idx nA : Nat} {y : MethodName} (hx : p.tables.exec = Jvm.exec) (hb : c.code = cc) (hown : s.vm.findClass own = some m.cls) (hK : x_K g s) (hrc : x_rcv s H C b) (m1 : Cond.methodLink own idx y ∈ lw_tbl) (m2 : Cond.instanceMethod y ∈ lw_tbl) (m3 : Cond.selects C y y ∈ lw_tbl) (hh : ∃ mL, x_has s y mL) (hy : x_yok y nA)
    (hn : As.length = nA) (hst : st = As.reverse ++ .ref b :: rest) (hdg : decode cc pc = .ok (.invokevirtual idx, 3)) :
    ∀ T : State, T.heap = H → Stand p l e R s m args below meth c T locs cells slots → ∃ (mk : MethodId) (vm₁ : Vm), s.methodNamed? y = some mk ∧ Stand p l e R s m args below meth c (T.setVm vm₁) locs cells slots ∧
      ∀ tg, Steps p.tables e below (doInvoke e ((T.setVm vm₁).setTop (F0 m pc ls rest)) [] mk (Value.ref b :: As).toArray).1 tg → Steps p.tables e below (T.setTop (F0 m pc ls st)) tg := by
  intro T hT X
  obtain ⟨cellB, hcell, hobj, hcls⟩ := hrc
  obtain ⟨mL, mk', methk, ck, hn', hmk, hck, hlk, hcm, hsig⟩ := hh
  obtain ⟨mk, methM, hnamed, hmethM, hstM, habM⟩ := Cond.instanceMethod_spec (x_wd (args := args) hK m2 rfl)
  cases hn'.symm.trans hnamed
  cases hmk.symm.trans hmethM
  obtain ⟨c2, r2, m9, q1, q2, q3, q4, kP, hkP, hkPi⟩ := Cond.selects_spec (x_wd (args := args) hK m3 rfl)
  cases hcls.symm.trans q1
  cases (State.methodFound?_of_named hnamed hy.1).symm.trans q2
  cases hnamed.symm.trans q3
  have hselP : selectMethod e.platform s.vm cellB.cls mk' = .method mk' := by rw [Launch.admits_selectMethod X.admits]; exact q4
  obtain ⟨vm₁, X₁, hstep₁⟩ := X.invokevirtual hx hown (x_wd (args := args) hK m1 rfl) hnamed hmethM hstM hkP hkPi hy.1 (a := b) (cell := cellB) (by rw [hT]; exact hcell)
    (fun z h => by rw [h] at hobj; cases hobj) hselP hmethM habM hkP hkPi (g := F0 m pc ls st) rfl (argsL := As) (rest := rest) (hn.trans (hy.len _ hsig)) hst (by rw [hb]; exact hdg)
  exact ⟨mk', vm₁, hnamed, X₁, fun tg h => hstep₁ _ fun acts => by rw [doInvoke_state]; exact h⟩
theorem x_toS {own : String} {idx nA : Nat} {y : MethodName} (hx : p.tables.exec = Jvm.exec) (hb : c.code = cc) (hown : s.vm.findClass own = some m.cls) (hK : x_K g s) (m1 : Cond.methodLink own idx y ∈ lw_tbl) (m2 : Cond.static y ∈ lw_tbl) (m3 : Cond.initialized y.cls ∈ lw_tbl) (hh : ∃ mL, x_has s y mL) (hy : x_yok y nA)
    (hn : As.length = nA) (hst : st = As.reverse ++ rest) (hdg : decode cc pc = .ok (.invokestatic idx, 3)) :
    ∀ T : State, T.heap = H → Stand p l e R s m args below meth c T locs cells slots → ∃ (mk : MethodId) (vm₁ : Vm), s.methodNamed? y = some mk ∧ Stand p l e R s m args below meth c (T.setVm vm₁) locs cells slots ∧
      ∀ tg, Steps p.tables e below (doInvoke e ((T.setVm vm₁).setTop (F0 m pc ls rest)) [] mk As.toArray).1 tg → Steps p.tables e below (T.setTop (F0 m pc ls st)) tg := by
  intro T hT X
  obtain ⟨mL, mk, methM, ck, hnamed, hmethM, hck, hlk, hcm, hsig⟩ := hh
  have hstatic : methM.isStatic = true := Cond.static_spec hnamed hmethM (x_wd (args := args) hK m2 rfl)
  obtain ⟨kP, hkP, -⟩ := className_of_methodNamed hnamed
  have hinitP : kP.init = .initialized := Cond.initialized_spec (findClass_of_methodNamed hnamed) hkP (x_wd (args := args) hK m3 rfl)
  obtain ⟨vm₁, X₁, hstep₁⟩ := X.invokestatic hx hown (x_wd (args := args) hK m1 rfl) hnamed hmethM hstatic hkP hinitP hy.1 (g := F0 m pc ls st) rfl (argsL := As) (rest := rest) (hn.trans (hy.len _ hsig)) hst (by rw [hb]; exact hdg)
  exact ⟨mk, vm₁, hnamed, X₁, fun tg h => hstep₁ _ fun acts => by rw [doInvoke_state]; exact h⟩
theorem x_toI {own : String} {b idx nA : Nat} {y : MethodName} {bytes : ByteArray} {mL : Nat} (hx : p.tables.exec = Jvm.exec) (hb : c.code = cc) (hown : s.vm.findClass own = some m.cls) (hK : x_K g s) (hy1 : y.name = "<init>") (m1 : Cond.methodLink own idx y ∈ lw_tbl) (m2 : Cond.instanceMethod y ∈ lw_tbl) (m3 : Cond.code y bytes mL none ∈ lw_tbl) (hy : x_yok y nA)
    (hn : As.length = nA) (hst : st = As.reverse ++ .ref b :: rest) (hdg : decode cc pc = .ok (.invokespecial idx, 3)) :
    ∀ T : State, T.heap = H → Stand p l e R s m args below meth c T locs cells slots → ∃ (mk : MethodId) (vm₁ : Vm), s.methodNamed? y = some mk ∧ Stand p l e R s m args below meth c (T.setVm vm₁) locs cells slots ∧
      ∀ tg, Steps p.tables e below (doInvoke e ((T.setVm vm₁).setTop (F0 m pc ls rest)) [] mk (Value.ref b :: As).toArray).1 tg → Steps p.tables e below (T.setTop (F0 m pc ls st)) tg := by
  intro T hT X
  have hpl : e.platform.magicAccessors = ({} : Platform).magicAccessors := by rw [X.admits.platform]
  obtain ⟨mk, methM, cM, kP, vm₁, hnamed, hmethM, hcodeM, -, hlocalsM, -, hkP, -, hW₁, hstep₁⟩ := Steps.initColdArgs (e := e) X.here hx X.warmed hpl hown hy1 hy.1 (x_wd (args := args) hK m1 rfl) (x_wd (args := args) hK m2 rfl) (x_wd (args := args) hK m3 rfl) (f := F0 m pc ls st) rfl (argsL := As) (rest := rest) (fun sig h => hn.trans (hy.len sig h)) hst (by rw [hb]; exact hdg)
  exact ⟨mk, vm₁, hnamed, X.noted hW₁, fun tg h => hstep₁ _ fun acts => by rw [doInvoke_state]; exact h⟩
theorem x_toIN {own host : String} {b idx nA : Nat} {y : MethodName} {bytes : ByteArray} {mL : Nat} (hx : p.tables.exec = Jvm.exec) (hb : c.code = cc) (hown : s.vm.findClass own = some m.cls) (hK : x_K g s) (hy1 : y.name = "<init>") (m1 : Cond.methodLinkNest own idx y host ∈ lw_tbl) (m2 : Cond.instanceMethod y ∈ lw_tbl) (m3 : Cond.code y bytes mL none ∈ lw_tbl) (hy : x_yok y nA)
    (hn : As.length = nA) (hst : st = As.reverse ++ .ref b :: rest) (hdg : decode cc pc = .ok (.invokespecial idx, 3)) :
    ∀ T : State, T.heap = H → Stand p l e R s m args below meth c T locs cells slots → ∃ (mk : MethodId) (vm₁ : Vm), s.methodNamed? y = some mk ∧ Stand p l e R s m args below meth c (T.setVm vm₁) locs cells slots ∧
      ∀ tg, Steps p.tables e below (doInvoke e ((T.setVm vm₁).setTop (F0 m pc ls rest)) [] mk (Value.ref b :: As).toArray).1 tg → Steps p.tables e below (T.setTop (F0 m pc ls st)) tg := by
  intro T hT X
  have hpl : e.platform.magicAccessors = ({} : Platform).magicAccessors := by rw [X.admits.platform]
  obtain ⟨mk, methM, cM, kP, vm₁, hnamed, hmethM, hcodeM, -, hlocalsM, -, hkP, -, hW₁, hstep₁⟩ := Steps.initColdArgsNest (e := e) X.here hx X.warmed hpl hown hy1 hy.1 (x_wdM (args := args) hK m1) (x_wd (args := args) hK m2 rfl) (x_wd (args := args) hK m3 rfl) (f := F0 m pc ls st) rfl (argsL := As) (rest := rest) (fun sig h => hn.trans (hy.len sig h)) hst (by rw [hb]; exact hdg)
  exact ⟨mk, vm₁, hnamed, X.noted hW₁, fun tg h => hstep₁ _ fun acts => by rw [doInvoke_state]; exact h⟩
theorem x_toF {own C : String} {b idx nA count : Nat} {cC : ClassId} {x y : MethodName} (hx : p.tables.exec = Jvm.exec) (hb : c.code = cc) (hown : s.vm.findClass own = some m.cls) (hK : x_K g s) (hat : ClassAt s C cC) (hrc : x_rcv s H C b) (m1 : Cond.methodLink own idx x ∈ lw_tbl) (m2 : Cond.instanceMethod y ∈ lw_tbl) (m3 : Cond.selects C x y ∈ lw_tbl) (hF : va_Fw C x y s) (hy : x_yok x nA)
    (hn : As.length = nA) (hst : st = As.reverse ++ .ref b :: rest) (hdg : decode cc pc = .ok (.invokeinterface idx count, 5)) :
    ∀ T : State, T.heap = H → Stand p l e R s m args below meth c T locs cells slots → ∃ (mk : MethodId) (vm₁ : Vm), s.methodNamed? y = some mk ∧ Stand p l e R s m args below meth c (T.setVm vm₁) locs cells slots ∧
      ∀ tg, Steps p.tables e below (doInvoke e ((T.setVm vm₁).setTop (F0 m pc ls rest)) [] mk (Value.ref b :: As).toArray).1 tg → Steps p.tables e below (T.setTop (F0 m pc ls st)) tg := by
  intro T hT X
  obtain ⟨cellB, hcell, hobj, hcls⟩ := hrc
  obtain ⟨hfc, kB, hkB, -⟩ := hat
  cases hfc.symm.trans hcls
  obtain ⟨f1, f2, f3, f4, f5⟩ := hF
  obtain ⟨r0, r, hn0, hrm, hstR, hsigR⟩ := Cond.declares_spec f1
  obtain ⟨cL, kL, r1, hcL, hkL, hiL, hfoundL, hn1⟩ := Cond.interfaceMethod_spec f2
  cases hn0.symm.trans hn1
  have hr0cls : r0.cls = cL := Option.some.inj ((findClass_of_methodNamed hn0).symm.trans hcL)
  obtain ⟨hnameR, hdescR⟩ := name_of_methodNamed hn0 hrm
  obtain ⟨mk, methM, hnamed, hmethM, -, habM⟩ := Cond.instanceMethod_spec (x_wd (args := args) hK m2 rfl)
  obtain ⟨c2, r2, m9, q1, q2, q3, q4, -⟩ := Cond.selects_spec (x_wd (args := args) hK m3 rfl)
  cases hcls.symm.trans q1
  cases hfoundL.symm.trans q2
  cases hnamed.symm.trans q3
  have hselP : selectMethod e.platform s.vm cellB.cls r0 = .method mk := by rw [Launch.admits_selectMethod X.admits]; exact q4
  have hpubM : hasFlag methM.accessFlags Acc.public_ = true := Cond.publicMethod_spec hnamed hmethM f3
  have hway : ((cellB.cls :: s.vm.superclasses cellB.cls).any fun k => (declaredIn s.vm r.name r.desc k).any fun (_, z) => z.isPrivate || z.isStatic) = false := by
    rw [hnameR, hdescR]; exact Cond.unhidden_spec hcls f4
  obtain ⟨c3, t3, w1, w2, w3⟩ := Cond.castable_spec f5
  cases hcls.symm.trans w1
  cases hcL.symm.trans w2
  obtain ⟨vm₁, X₁, hstep₁⟩ := X.invokeinterface hx hown (x_wd (args := args) hK m1 rfl) hn0 hrm hstR (by rw [hr0cls]; exact hkL) hiL hy.1 (a := b) (cell := cellB) (kcell := kB) (by rw [hT]; exact hcell)
    (fun z h => by rw [h] at hobj; cases hobj) hkB (by rw [hr0cls]; exact w3) hselP hmethM hway hpubM habM (g := F0 m pc ls st) rfl (argsL := As) (rest := rest) (hn.trans (hy.len _ hsigR)) hst (by rw [hb]; exact hdg)
  exact ⟨mk, vm₁, hnamed, X₁, fun tg h => hstep₁ _ fun acts => by rw [doInvoke_state]; exact h⟩
end XD
