section XE
variable {p : Program} {l : Launch} {e : Env} {R : Room} {s : State} {m : MethodId} {args : Array Value} {below : List Frame} {meth : Method} {c : Code} {H : Heap} {locs : List Loc} {cells slots : Nat} {Q : State → Prop}
variable {cc : ByteArray} {pc : Nat} {ls : Array Slot} {rest st As : List Value} {g : x_G} {Y : x_Y} {L : x_L} {I : x_I} {t i j k0 n0 k n : Nat} {P : x_P}
theorem x_iret {v : Int32} (hx : p.tables.exec = Jvm.exec) (hb : c.code = cc) (hr : meth.sig.returnType = some .int) (hlk : meth.locks = false) (hw : x_WL g Y L I H locs) (hP : P (.inl (some (.int v))) Y L I k n) (hkk : x_bd k0 n0 k n) (hdg : decode cc pc = .ok (.ireturn, 1)) :
    W p l e R s m args below meth c H locs (k - k0) (n - n0) (x_Q g below s k0 n0 P) (F0 m pc ls [.int v]) := by
  intro T hT X
  have hlocks : meth.locks = false := hlk
  obtain ⟨fs, hret, hrun, hended, hW, hframe⟩ := X.leave (v := some (.int v)) (fun h => by rw [hr] at h; cases h)
  have hmeth' : T.vm.method? m = some meth := X.method'
  refine ⟨T.setFrames fs, ?_, .returned (some (.int v)), .inl (some (.int v)), Y, L, I, k, n, locs, hrun, hended, rfl, hP, by rw [show (T.setFrames fs).heap = H from hT]; exact hw.1, hW, hframe, hw.2, hkk⟩
  jvm_step X.here [X.here.top, hx, hb, hdg, hmeth', hr, narrow]
  (try refine ⟨rfl, ?_⟩); (try refine ⟨rfl, ?_⟩)
  first | (intro acts; rw [hret _ acts rfl rfl rfl]) | rw [hret _ _ rfl rfl rfl]
  exact Steps.refl _
theorem x_zret {v : Int32} (hx : p.tables.exec = Jvm.exec) (hb : c.code = cc) (hr : meth.sig.returnType = some .boolean) (hlk : meth.locks = false) (hw : x_WL g Y L I H locs) (hv : v = 0 ∨ v = 1) (hP : P (.inl (some (.int v))) Y L I k n) (hkk : x_bd k0 n0 k n) (hdg : decode cc pc = .ok (.ireturn, 1)) :
    W p l e R s m args below meth c H locs (k - k0) (n - n0) (x_Q g below s k0 n0 P) (F0 m pc ls [.int v]) := by
  intro T hT X
  have hlocks : meth.locks = false := hlk
  have hn : narrow .boolean (.int v) = .int v := by rcases hv with rfl | rfl <;> decide
  obtain ⟨fs, hret, hrun, hended, hW, hframe⟩ := X.leave (v := some (.int v)) (fun h => by rw [hr] at h; cases h)
  have hmeth' : T.vm.method? m = some meth := X.method'
  refine ⟨T.setFrames fs, ?_, .returned (some (.int v)), .inl (some (.int v)), Y, L, I, k, n, locs, hrun, hended, rfl, hP, by rw [show (T.setFrames fs).heap = H from hT]; exact hw.1, hW, hframe, hw.2, hkk⟩
  jvm_step X.here [X.here.top, hx, hb, hdg, hmeth', hr, hn]
  (try refine ⟨rfl, ?_⟩); (try refine ⟨rfl, ?_⟩)
  first | (intro acts; rw [hret _ acts rfl rfl rfl]) | rw [hret _ _ rfl rfl rfl]
  exact Steps.refl _
theorem x_lret {v : Int64} (hx : p.tables.exec = Jvm.exec) (hb : c.code = cc) (hr : meth.sig.returnType = some .long) (hlk : meth.locks = false) (hw : x_WL g Y L I H locs) (hP : P (.inl (some (.long v))) Y L I k n) (hkk : x_bd k0 n0 k n) (hdg : decode cc pc = .ok (.lreturn, 1)) :
    W p l e R s m args below meth c H locs (k - k0) (n - n0) (x_Q g below s k0 n0 P) (F0 m pc ls [.long v]) := by
  intro T hT X
  have hlocks : meth.locks = false := hlk
  obtain ⟨fs, hret, hrun, hended, hW, hframe⟩ := X.leave (v := some (.long v)) (fun h => by rw [hr] at h; cases h)
  have hmeth' : T.vm.method? m = some meth := X.method'
  refine ⟨T.setFrames fs, ?_, .returned (some (.long v)), .inl (some (.long v)), Y, L, I, k, n, locs, hrun, hended, rfl, hP, by rw [show (T.setFrames fs).heap = H from hT]; exact hw.1, hW, hframe, hw.2, hkk⟩
  jvm_step X.here [X.here.top, hx, hb, hdg, hmeth', hr]
  (try refine ⟨rfl, ?_⟩); (try refine ⟨rfl, ?_⟩)
  first | (intro acts; rw [hret _ acts rfl rfl rfl]) | rw [hret _ _ rfl rfl rfl]
  exact Steps.refl _
theorem x_vret (hx : p.tables.exec = Jvm.exec) (hb : c.code = cc) (hr : meth.sig.returnType = none) (hlk : meth.locks = false) (hw : x_WL g Y L I H locs) (hP : P (.inl none) Y L I k n) (hkk : x_bd k0 n0 k n) (hdg : decode cc pc = .ok (.return_, 1)) :
    W p l e R s m args below meth c H locs (k - k0) (n - n0) (x_Q g below s k0 n0 P) (F0 m pc ls []) := by
  intro T hT X
  have hlocks : meth.locks = false := hlk
  obtain ⟨fs, hret, hrun, hended, hW, hframe⟩ := X.leave (v := none) (fun _ => rfl)
  have hmeth' : T.vm.method? m = some meth := X.method'
  refine ⟨T.setFrames fs, ?_, .returned none, .inl none, Y, L, I, k, n, locs, hrun, hended, rfl, hP, by rw [show (T.setFrames fs).heap = H from hT]; exact hw.1, hW, hframe, hw.2, hkk⟩
  jvm_step X.here [X.here.top, hx, hb, hdg, hmeth', hr]
  (try refine ⟨rfl, ?_⟩); (try refine ⟨rfl, ?_⟩)
  first | (intro acts; rw [hret _ acts rfl rfl rfl]) | rw [hret _ _ rfl rfl rfl]
  exact Steps.refl _
theorem x_aret {a : Nat} {rt : FieldType} (hx : p.tables.exec = Jvm.exec) (hb : c.code = cc) (hr : meth.sig.returnType = some rt) (hrt : (∃ n, rt = .object n) ∨ ∃ t, rt = .array t) (hlk : meth.locks = false) (hw : x_WL g Y L I H locs) (hP : P (.inl (some (.ref a))) Y L I k n) (hkk : x_bd k0 n0 k n) (hdg : decode cc pc = .ok (.areturn, 1)) :
    W p l e R s m args below meth c H locs (k - k0) (n - n0) (x_Q g below s k0 n0 P) (F0 m pc ls [.ref a]) := by
  intro T hT X
  have hlocks : meth.locks = false := hlk
  obtain ⟨fs, hret, hrun, hended, hW, hframe⟩ := X.leave (v := some (.ref a)) (fun h => by rw [hr] at h; cases h)
  have hmeth' : T.vm.method? m = some meth := X.method'
  refine ⟨T.setFrames fs, ?_, .returned (some (.ref a)), .inl (some (.ref a)), Y, L, I, k, n, locs, hrun, hended, rfl, hP, by rw [show (T.setFrames fs).heap = H from hT]; exact hw.1, hW, hframe, hw.2, hkk⟩
  rcases hrt with ⟨n, rfl⟩ | ⟨t, rfl⟩ <;>
    (jvm_step X.here [X.here.top, hx, hb, hdg, hmeth', hr]
     (try refine ⟨rfl, ?_⟩); (try refine ⟨rfl, ?_⟩)
     first | (intro acts; rw [hret _ acts rfl rfl rfl]) | rw [hret _ _ rfl rfl rfl]
     exact Steps.refl _)
/-- an exception that this method doesn't catch -/
theorem x_thr {kx : Nat} (hlk : meth.locks = false) (hex : ∀ x ∈ c.exceptionTable.toList, covers x pc = false) (hw : x_WL g Y L I H locs) (hP : P (.inr kx) Y L I k n) (hkk : x_bd k0 n0 k n) :
    WT p l e R s m args below meth c H locs (k - k0) (n - n0) (x_Q g below s k0 n0 P) (F0 m pc ls rest) kx := by
  intro T a hT X hxx
  obtain ⟨h1, h2, h3, h4, h5⟩ := X.leaveThrown a (g := F0 m pc ls rest) rfl rfl rfl hex hlk
  exact ⟨_, h1, .threw a, .inr kx, Y, L, I, k, n, locs, h2, h3, ⟨a, rfl, hxx⟩, hP, by rw [show (T.setFrames (.throwing a :: below)).heap = H from hT]; exact hw.1, h4, h5, hw.2, hkk⟩
/-- the same point of the same method, as if it had been entered with the heap as it is now -/
theorem x_rebase {T : State} (X : Stand p l e R s m args below meth c T locs cells slots) {R' : Room} (hf : R'.frames ≤ R.frames) (hl : R'.locals ≤ R.locals) (hc : cells + R'.cells ≤ R.cells) (hs : slots + R'.slots ≤ R.slots) :
    Stand p l e R' (T.setFrames s.frames) m args below meth c T [] 0 0 := by
  obtain ⟨g₀, hfr⟩ := X.frames_eq
  have hcur : T.cur < T.threads.size := State.cur_lt_of_frames hfr
  have hF : (T.setFrames s.frames).frames = s.frames := State.frames_setFrames _ hcur
  obtain ⟨th, hth, -⟩ := State.frames_cons hfr
  have hr := X.room
  simp only [State.hasRoom, Bool.and_eq_true, decide_eq_true_eq] at hr
  have hli : (T.setFrames s.frames).localsInUse = s.localsInUse := by
    rw [State.localsInUse_invoking X.frames X.method X.code, State.localsInUse_invoking (s := T.setFrames s.frames) (hF.trans X.frames) X.method' X.code]
  have hhs := X.heapSize
  have hus := X.used
  have hlim : e.platform.stackLimits (T.setFrames s.frames).me = e.platform.stackLimits s.me := by rw [State.stackLimits_setFrames]; exact X.limits
  have hby : (T.setFrames s.frames).me.stackBytes = s.me.stackBytes := by rw [State.stackBytes_setFrames]; exact X.bytes
  refine ⟨X.admits, X.cas, X.clock, hF.trans X.frames, ?_, ?_, X.method', X.code, X.here, X.tail, State.WarmedH.refl (T.setFrames s.frames), by rw [State.stackLimits_setFrames], by rw [State.stackBytes_setFrames], ?_⟩
  · simp only [State.hasRoom, Bool.and_eq_true, decide_eq_true_eq]
    rw [hli, hF, hlim, hby]
    refine ⟨⟨⟨⟨by omega, by omega, by omega, by omega, by omega, hr.1.1.1.2.2.2.2.2⟩, ?_⟩, ?_⟩, X.book⟩
    · show T.heap.size + _ ≤ _
      have := hr.1.1.2
      omega
    · show T.slotsUsed + _ ≤ _
      have := hr.1.2
      omega
  · have h0 := X.hears
    have hcd : ∀ q, (T.setFrames s.frames).code? q = s.code? q := by
      intro q
      rw [State.code?_eq, State.code?_eq]
      show (T.vm.method? q).bind _ = _
      rw [X.warmed.alike.method?]
    rcases below with _ | ⟨y, r⟩
    · simp only [State.hears] at h0 ⊢
      rw [show (T.setFrames s.frames).vm.method? m = s.vm.method? m from X.warmed.alike.method? _]
      exact h0
    · cases y <;> first
        | rfl
        | (simp only [State.hears, hcd] at h0 ⊢; exact h0)
        | (simp only [State.hears] at h0 ⊢; rw [show (T.setFrames s.frames).vm.method? m = s.vm.method? m from X.warmed.alike.method? _]; exact h0)
  · have hz : T.heap.toList.drop T.heap.size = [] := List.drop_eq_nil_of_le (by simp)
    refine ⟨?_, Nat.le_refl _, Nat.le_refl _, ?_, ?_, fun a c h => ⟨c, h, rfl, rfl, fun _ _ => rfl⟩⟩
    rotate_left
    · show T.slotsUsed = T.slotsUsed + ((T.heap.toList.drop T.heap.size).map _).sum
      rw [hz]; rfl
    · show ((T.heap.toList.drop T.heap.size).map _).sum ≤ 0
      rw [hz]; exact Nat.le_refl 0
    show T = { ((T.setFrames s.frames).setFrames T.frames) with heap := T.heap, slotsUsed := T.slotsUsed }
    rw [State.setFrames_setFrames, State.setFrames_self hth]
theorem x_rebased {T U : State} (X : Stand p l e R s m args below meth c T locs cells slots) {Lc : List Loc} {a b : Nat} (h : (T.setFrames s.frames).sameButNew ({ U with vm := T.vm } : State) Lc a b) : s.sameButNew ({ U with vm := s.vm } : State) (locs ++ Lc) (cells + a) (slots + b) := by
  have h' : T.sameButNew ({ U with vm := T.vm } : State) Lc a b := by
    obtain ⟨h1, h2⟩ := h
    refine ⟨?_, h2⟩
    rw [State.setFrames_setFrames] at h1
    exact h1
  exact X.same.trans (h'.setVm s.vm)
end XE
