def R_law : String := "CallLedgerLaw"
def lw_P (b : Addr) (xs : List Int32) (args : Array Value) (s : State) : Prop := args = #[.ref b] ∧ s.IntsAt b xs ∧ xs.length ≤ 240 ∧ (Jvm.Cond.and given_1 narrow_1).before args s = true
def lw_Q (_ : Array Value) (s : State) (o : Outcome) (t : State) : Prop := o = .returned (some (.int 1)) ∧ Framed s o t [] 600288 7292554
def lw_Z (below : List Frame) (a : Array Value) (s : State) : State → Prop := fun t => ∃ o, t.status = .running ∧ Ended t below o ∧ lw_Q a s o t
/-- the law's own end, with 1 on the stack, nothing written that was there before, its room as the claim has it -/
theorem lw_ret {p : Program} {l : Launch} {e : Env} {s : State} {m : MethodId} {below : List Frame} {meth : Method} {c : Code} {b : Nat} (hx : p.tables.exec = Jvm.exec) (hb : c.code = code) (hr : meth.sig.returnType = ret) (hlocks : meth.locks = false) {pc : Nat} {H : Heap} {ls : Array Slot} (hdg : decode code pc = .ok (.ireturn, 1)) : W p l e room_1 s m #[Value.ref b] below meth c H [] 600288 7292554 (lw_Z below #[Value.ref b] s) (F0 m pc ls [.int 1]) := by
  intro T hT X
  obtain ⟨fs, hret, hrun, hended, hW, hframe⟩ := X.leave (v := some (.int 1)) (hlocks := hlocks) (fun h => by rw [hr] at h; cases h)
  have hmeth' : T.vm.method? m = some meth := X.method'
  refine ⟨T.setFrames fs, ?_, .returned (some (.int 1)), hrun, hended, rfl, ⟨_, rfl⟩, hW, hframe⟩
  jvm_step X.here [X.here.top, hx, hb, hdg, hmeth', hr, ret, narrow_b1]
  (try refine ⟨rfl, ?_⟩); (try refine ⟨rfl, ?_⟩)
  first | (intro acts; rw [hret _ acts rfl rfl rfl]) | rw [hret _ _ rfl rfl rfl]
  exact Steps.refl _
/-- what holds at the law's entry: the machine, the code, the tables' words (any of lw_tbl by 'hts w (by decide +kernel)'), the script of L ints xs at the cell b, what the Statement gives of the start (any of its parts by flat_of_before) -/
def lw_At (p : Program) (s : State) (m : MethodId) (meth : Method) (c : Code) (b L : Nat) (xs : Nat → Int32) : Prop :=
  p.tables.exec = Jvm.exec ∧ c.code = code ∧ meth.sig.returnType = ret ∧ c.maxLocals = 7 ∧ s.vm.findClass R_law = some m.cls ∧ (∀ w ∈ lw_tbl, w.before #[Value.ref b] s = true) ∧ va_X b L xs s s.heap ∧ b < s.heap.size ∧ meth.locks = false ∧ (Jvm.Cond.and given_1 narrow_1).before #[Value.ref b] s = true
section XLW
variable {p : Program} {l : Launch} {e : Env} {R : Room} {s : State} {m : MethodId} {args : Array Value} {below : List Frame} {meth : Method} {c : Code} {H : Heap} {locs : List Loc} {cells slots : Nat} {Q : State → Prop}
variable {cc : ByteArray} {pc : Nat} {ls : Array Slot} {rest st As : List Value} {g : x_G} {Y : x_Y} {L : x_L} {I : x_I} {t i j k0 n0 k n b Lx : Nat} {xs : Nat → Int32}
theorem x_sld (hx : p.tables.exec = Jvm.exec) (hb : c.code = cc) (hX : va_X b Lx xs s s.heap) (hgs : s.heap = g.2.2.2.1) (hw : x_WL g Y L I H locs) {x : Int32} (hin : vp_in x Lx) (hdg : decode cc pc = .ok (.iaload, 1))
    (kk : W p l e R s m args below meth c H locs cells slots Q (F0 m (pc + 1) ls (.int (xs x.toNatClampNeg) :: rest))) : W p l e R s m args below meth c H locs cells slots Q (F0 m pc ls (.int x :: .ref b :: rest)) := by
  obtain ⟨scr, h1, h2, h3, h4, h5⟩ := hX
  have hlt : x.toNatClampNeg < Lx := Nat.not_le.mp fun q => hin (Or.inr q)
  have hbl : b < x_z g := by
    have := (Array.getElem?_eq_some_iff.mp h1).1
    rw [hgs] at this
    exact this
  exact W.iald (v := .int (xs x.toNatClampNeg)) hx hb (by rw [hw.1.2.1 b hbl, ← hgs]; exact h1) h2 h3 (by rw [h4]; exact hin) (h5 _ hlt) rfl rfl hdg kk
theorem x_slen (hx : p.tables.exec = Jvm.exec) (hb : c.code = cc) (hX : va_X b Lx xs s s.heap) (hgs : s.heap = g.2.2.2.1) (hw : x_WL g Y L I H locs) (hdg : decode cc pc = .ok (.arraylength, 1))
    (kk : W p l e R s m args below meth c H locs cells slots Q (F0 m (pc + 1) ls (.int (nI Lx) :: rest))) : W p l e R s m args below meth c H locs cells slots Q (F0 m pc ls (.ref b :: rest)) := by
  obtain ⟨scr, h1, h2, h3, h4, h5⟩ := hX
  have hbl : b < x_z g := by
    have := (Array.getElem?_eq_some_iff.mp h1).1
    rw [hgs] at this
    exact this
  exact W.alen (n := nI Lx) hx hb (by rw [hw.1.2.1 b hbl, ← hgs]; exact h1) h2 (by rw [h4] <;> rfl) rfl rfl hdg kk
theorem x_lald1 {a : Nat} (hx : p.tables.exec = Jvm.exec) (hb : c.code = cc) (hK : x_K g s) (hw : x_WL g Y L I H locs) (ho : x_ok Y t i ∧ x_ad Y t i = a) (hk : x_kd t = (1, 1)) {x : Int32} (hin : vp_in x (x_n Y t i)) (hdg : decode cc pc = .ok (.laload, 1))
    (kk : W p l e R s m args below meth c H locs cells slots Q (F0 m (pc + 1) ls (.long (L t i x.toNatClampNeg) :: rest))) : W p l e R s m args below meth c H locs cells slots Q (F0 m pc ls (.int x :: .ref a :: rest)) := by
  obtain ⟨hok, rfl⟩ := ho
  exact x_lald hx hb hK hw hok hk rfl hin hdg kk
theorem x_lwEnd {F : Nat} (hE : x_E l g p e room_1 s m meth c "CallLedgerLaw" code 7 ret F 0 0) (hgs : s.heap = g.2.2.2.1) (hw : x_WL g Y L I H locs) (hbd : x_bd 0 0 k n) (hdg : decode code pc = .ok (.ireturn, 1)) : W p l e room_1 s m #[Value.ref b] below meth c H locs (k - 0) (n - 0) (lw_Z below #[Value.ref b] s) (F0 m pc ls [.int 1]) := by
  obtain ⟨hx, hb, hml, hr, hlk, hown, hK, htr, hF, hLo, hRc, hRs⟩ := hE
  obtain ⟨b1, b2, b3, b4⟩ := hbd
  refine va_forget (fun q hq => ?_) ?_
  · have := hw.2 q hq
    unfold x_z at this
    rw [← hgs] at this
    exact this
  · exact W.widen (by omega) (by omega) (lw_ret hx hb hr hlk hdg)
end XLW
theorem x_Cav {l : Launch} {y : MethodName} {F : Nat} {g : x_G} {av av' : List Value} {Y : x_Y} {L : x_L} {I : x_I} {k n : Nat} {P : x_P} (e : av = av') (h : x_C l y F g av Y L I k n P) : x_C l y F g av' Y L I k n P := e ▸ h
