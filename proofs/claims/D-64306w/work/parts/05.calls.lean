/-! CONTRACTS. How a method ends: what it returned, or which kind of exception it threw. Cells and slots are counted from the law's entry on. -/
abbrev x_R : Type := Option Value ⊕ Nat
def x_xn (k : Nat) : String := match k with
  | 0 => "java/lang/IllegalArgumentException"
  | 1 => "java/lang/IndexOutOfBoundsException"
  | _ => "java/lang/IllegalStateException"
abbrev x_P : Type := x_R → x_Y → x_L → x_I → Nat → Nat → Prop
def x_ex (k : Nat) (a : Addr) (H : Heap) (vm : Vm) : Prop := ∃ cell : Cell, H[a]? = some cell ∧ cell.vm.isStatics = false ∧ vm.findClass (x_xn k) = some cell.cls
def x_out (r : x_R) (o : Outcome) (t : State) : Prop := match r with
  | .inl v => o = .returned v
  | .inr k => ∃ a : Addr, o = .threw a ∧ x_ex k a t.heap t.vm
def x_Q (g : x_G) (below : List Frame) (s : State) (k0 n0 : Nat) (P : x_P) : State → Prop := fun t =>
  ∃ (o : Outcome) (r : x_R) (Y : x_Y) (L : x_L) (I : x_I) (k n : Nat) (Lc : List Loc), t.status = .running ∧ Ended t below o ∧ x_out r o t ∧ P r Y L I k n ∧ x_W g Y L I t.heap ∧ s.WarmedH t.vm ∧
    s.sameButNew ({ t with vm := s.vm } : State) Lc (k - k0) (n - n0) ∧ (∀ q ∈ Lc, x_z g ≤ q.base) ∧ (k0 ≤ k ∧ k ≤ 600288 ∧ n0 ≤ n ∧ n ≤ 7292554)
def x_C (l : Launch) (y : MethodName) (F : Nat) (g : x_G) (av : List Value) (Y : x_Y) (L : x_L) (I : x_I) (k n : Nat) (P : x_P) : Prop :=
  ∀ (p : Program) (e : Env) (R : Room) (s : State) (m : MethodId) (below : List Frame) (meth : Method) (c : Code) (T : State), Stand p l e R s m av.toArray below meth c T [] 0 0 → p.tables.exec = Jvm.exec → e.platform.stackTraces = false → s.methodNamed? y = some m →
    x_K g s → x_W g Y L I s.heap → T.heap = s.heap → F ≤ R.frames → 64 * F ≤ R.locals → R.cells = 600288 - k → R.slots = 7292554 - n → k ≤ 600288 → n ≤ 7292554 →
    ∃ t, Steps p.tables e below (T.setTop (entryFrame m av.toArray c.maxLocals)) t ∧ x_Q g below s k n P t
/-- what is at hand in a method's body -/
def x_E (l : Launch) (g : x_G) (p : Program) (e : Env) (R : Room) (s : State) (m : MethodId) (meth : Method) (c : Code) (own : String) (cc : ByteArray) (nL : Nat) (ret : Option FieldType) (F k n : Nat) : Prop :=
  p.tables.exec = Jvm.exec ∧ c.code = cc ∧ c.maxLocals = nL ∧ meth.sig.returnType = ret ∧ meth.locks = false ∧ s.vm.findClass own = some m.cls ∧ x_K g s ∧ e.platform.stackTraces = false ∧ F ≤ R.frames ∧ 64 * F ≤ R.locals ∧ R.cells = 600288 - k ∧ R.slots = 7292554 - n
theorem x_mth {l : Launch} {y : MethodName} {F : Nat} {g : x_G} {av : List Value} {Y : x_Y} {L : x_L} {I : x_I} {k n : Nat} {P : x_P} {cc : ByteArray} {nL : Nat} {ret : Option FieldType} (hcd : Cond.code y cc nL ret ∈ lw_tbl)
    (body : ∀ (p : Program) (e : Env) (R : Room) (s : State) (m : MethodId) (below : List Frame) (meth : Method) (c : Code), x_E l g p e R s m meth c y.cls cc nL ret F k n → meth.name = y.name → c.exceptionTable.toList = [] → x_WL g Y L I s.heap [] → k ≤ 600288 → n ≤ 7292554 →
      W p l e R s m av.toArray below meth c s.heap [] (k - k) (n - n) (x_Q g below s k n P) (F0 m 0 ((lg_sl av ++ List.replicate (nL - (lg_sl av).length) Slot.unset).toArray) [])) : x_C l y F g av Y L I k n P := by
  intro p e R s m below meth c T X hx htr hn hK hw hT hF hL hRc hRs hk hn'
  obtain ⟨meth', c', h1, h2, h3, h4, h5, h6, h7, -⟩ := Cond.code_spec hn (x_wd (args := #[]) hK hcd rfl)
  cases X.method.symm.trans h1
  cases X.code.symm.trans h2
  have hb := body p e R s m below meth c ⟨hx, h3, h4, h5, h6, findClass_of_methodNamed hn, hK, htr, hF, hL, hRc, hRs⟩ (name_of_methodNamed hn h1).1 (by simpa using h7) ⟨hw, fun q h => by cases h⟩ hk hn'
  rw [h4, lg_entry_eq]
  rw [Nat.sub_self, Nat.sub_self] at hb
  exact hb T hT X
theorem x_mthW {l : Launch} {y : MethodName} {F : Nat} {g : x_G} {av : List Value} {Y : x_Y} {L : x_L} {I : x_I} {k n : Nat} {P : x_P} {cc : ByteArray} {nL : Nat} {ret : Option FieldType} {hh : List (Nat × Nat × Nat × Nat)} (hcd : Cond.codeWith y cc nL ret hh ∈ lw_tbl)
    (body : ∀ (p : Program) (e : Env) (R : Room) (s : State) (m : MethodId) (below : List Frame) (meth : Method) (c : Code), x_E l g p e R s m meth c y.cls cc nL ret F k n → meth.name = y.name → c.exceptionTable.toList.map (fun h => (h.startPc, h.endPc, h.handlerPc, h.catchType)) = hh → x_WL g Y L I s.heap [] → k ≤ 600288 → n ≤ 7292554 →
      W p l e R s m av.toArray below meth c s.heap [] (k - k) (n - n) (x_Q g below s k n P) (F0 m 0 ((lg_sl av ++ List.replicate (nL - (lg_sl av).length) Slot.unset).toArray) [])) : x_C l y F g av Y L I k n P := by
  intro p e R s m below meth c T X hx htr hn hK hw hT hF hL hRc hRs hk hn'
  obtain ⟨m9, meth', c', hn9, h1, h2, h3, h4, h7, h5, h6, -⟩ := Cond.codeWith_spec (x_wd (args := #[]) hK hcd rfl)
  cases hn.symm.trans hn9
  cases X.method.symm.trans h1
  cases X.code.symm.trans h2
  have hb := body p e R s m below meth c ⟨hx, h3, h4, h5, h6, findClass_of_methodNamed hn, hK, htr, hF, hL, hRc, hRs⟩ (name_of_methodNamed hn h1).1 h7 ⟨hw, fun q h => by cases h⟩ hk hn'
  rw [h4, lg_entry_eq]
  rw [Nat.sub_self, Nat.sub_self] at hb
  exact hb T hT X
section XC
variable {p : Program} {l : Launch} {e : Env} {R : Room} {s : State} {m : MethodId} {args : Array Value} {below : List Frame} {meth : Method} {c : Code} {H : Heap} {locs : List Loc} {cells slots : Nat} {Q : State → Prop}
variable {cc : ByteArray} {pc : Nat} {ls : Array Slot} {rest : List Value} {g : x_G} {Y : x_Y} {L : x_L} {I : x_I} {t i j : Nat}
/-- an exception goes up from the frame gf -/
def WT (p : Program) (l : Launch) (e : Env) (R : Room) (s : State) (m : MethodId) (args : Array Value) (below : List Frame) (meth : Method) (c : Code) (H : Heap) (locs : List Loc) (cells slots : Nat) (Q : State → Prop) (gf : JFrame) (kx : Nat) : Prop :=
  ∀ (T : State) (a : Addr), T.heap = H → Stand p l e R s m args below meth c T locs cells slots → x_ex kx a T.heap T.vm → ∃ t, Steps p.tables e below ((T.setTop gf).pushFrame (.throwing a)) t ∧ Q t
theorem x_enter {T : State} (X : Stand p l e R s m args below meth c T locs (cells) (slots)) (hx : p.tables.exec = Jvm.exec) (htr : e.platform.stackTraces = false) (hK : x_K g s) (hw : x_WL g Y L I T.heap locs) {y : MethodName} {mk : MethodId} {F k0 n0 k n maxL : Nat} {av : List Value} {P : x_P} (hC : x_C l y F g av Y L I k n P)
    (hn : s.methodNamed? y = some mk) (hpl : plainFor y = true) {methk : Method} {ck : Code} (hmk : s.vm.method? mk = some methk) (hck : methk.code = some ck) (hlk : methk.locks = false) (hml : ck.maxLocals = maxL) {gf : JFrame} (hg : gf.method = m) (hsize : gf.locals.size = c.maxLocals) {ig : Instr} {len : Nat} (hdg : decode c.code gf.pc = .ok (ig, len))
    (hst : 2 * gf.monitorRoom + (gf.stack.map fun v => v.category).sum ≤ 8) (hF : F + 1 ≤ R.frames) (hL : 8 + (maxL + 11) + 64 * F ≤ R.locals) (hRc : R.cells = 600288 - k0) (hRs : R.slots = 7292554 - n0) (hce : cells = k - k0) (hsl : slots = n - n0) (hkk : k0 ≤ k ∧ k ≤ 600288 ∧ n0 ≤ n ∧ n ≤ 7292554) :
    ∃ (r : x_R) (Y' : x_Y) (L' : x_L) (I' : x_I) (k' n' : Nat) (T' : State) (locs' : List Loc), P r Y' L' I' k' n' ∧ x_WL g Y' L' I' T'.heap locs' ∧ Stand p l e R s m args below meth c T' locs' (k' - k0) (n' - n0) ∧ (k ≤ k' ∧ k' ≤ 600288 ∧ n ≤ n' ∧ n' ≤ 7292554) ∧
      match r with
      | .inl v => Steps p.tables e below (doInvoke e (T.setTop gf) [] mk av.toArray).1 (T'.setTop { gf with pc := gf.pc + len, stack := v.toList ++ gf.stack })
      | .inr kx => ∃ a : Addr, x_ex kx a T'.heap T'.vm ∧ Steps p.tables e below (doInvoke e (T.setTop gf) [] mk av.toArray).1 ((T'.setTop gf).pushFrame (.throwing a)) := by
  have hal := X.warmed.alike
  have hnT : T.methodNamed? y = some mk := X.named hn
  have hmT : T.vm.method? mk = some methk := by rw [hal.method?]; exact hmk
  obtain ⟨Xk, hinv⟩ := X.into hg hsize hdg av.toArray (R' := { frames := F, cells := 600288 - k, slots := 7292554 - n, locals := 64 * F }) hmT hck hlk (State.plainMethod.of_named hpl hnT hmT) hF (by rw [hml]; show _ + 64 * F ≤ _; omega) (by show cells + (600288 - k) ≤ _; omega) (by show slots + (7292554 - n) ≤ _; omega)
  have hKk : x_K g (T.calling gf mk av.toArray) := hK.moved (U := T.calling gf mk av.toArray) X.warmed
  obtain ⟨t, hst1, o, r, Y', L', I', k', n', Lc, hrun, hend, hout, hP, hw', hW, hsame, hLc, hb⟩ := hC p e _ (T.calling gf mk av.toArray) mk (.java gf :: below) methk ck _ Xk hx htr hnT hKk hw.1 rfl (Nat.le_refl _) (Nat.le_refl _) rfl rfl hkk.2.1 hkk.2.2.2
  rw [hinv [], hml] at *
  cases r with
  | inl v =>
    obtain rfl : o = .returned v := hout
    obtain ⟨T', X', hW2, hs2, rfl⟩ := X.outOf hg hdg hend hW hsame
    refine ⟨.inl v, Y', L', I', k', n', T', locs ++ Lc, hP, ⟨hw', fun q hq => ?_⟩, ?_, hb, ?_⟩
    · rcases List.mem_append.mp hq with h | h
      · exact hw.2 q h
      · exact hLc q h
    · rw [show k' - k0 = cells + (k' - k) by omega, show n' - n0 = slots + (n' - n) by omega]
      exact X'
    · exact Steps.weaken (mid := [.java gf]) hst1
  | inr kx =>
    obtain ⟨a, rfl, hex⟩ := hout
    obtain ⟨T', X', hW2, hs2, rfl⟩ := X.outOfThrown hg hend hW hsame
    refine ⟨.inr kx, Y', L', I', k', n', T', locs ++ Lc, hP, ⟨hw', fun q hq => ?_⟩, ?_, hb, a, hex, ?_⟩
    · rcases List.mem_append.mp hq with h | h
      · exact hw.2 q h
      · exact hLc q h
    · rw [show k' - k0 = cells + (k' - k) by omega, show n' - n0 = slots + (n' - n) by omega]
      exact X'
    · exact Steps.weaken (mid := [.java gf]) hst1
end XC
