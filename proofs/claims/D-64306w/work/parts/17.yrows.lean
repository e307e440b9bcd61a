/-! ROWS THAT CHANGE THE WORLD'S SHAPE: new cells, references stored. Addresses are given by name. -/
def x_yr (Y : x_Y) (t i j : Nat) (r : Option Nat) : x_Y := fun t' i' => if t' = t ∧ i' = i then (x_ok Y t i, x_ad Y t i, x_n Y t i, fun c => if c = j then r else x_r Y t i c) else Y t' i'
theorem x_yr_same (Y : x_Y) (t i j : Nat) (r : Option Nat) : ∀ a b, x_ok (x_yr Y t i j r) a b = x_ok Y a b ∧ x_ad (x_yr Y t i j r) a b = x_ad Y a b ∧ x_n (x_yr Y t i j r) a b = x_n Y a b := by
  intro a b
  by_cases h : a = t ∧ b = i
  · obtain ⟨rfl, rfl⟩ := h
    simp [x_yr, x_ok, x_ad, x_n]
  · simp [x_yr, x_ok, x_ad, x_n, h]
theorem x_yr_r (Y : x_Y) (t i j : Nat) (r : Option Nat) (a b c : Nat) : x_r (x_yr Y t i j r) a b c = if a = t ∧ b = i ∧ c = j then r else x_r Y a b c := by
  by_cases h : a = t ∧ b = i
  · obtain ⟨rfl, rfl⟩ := h
    simp [x_yr, x_r]
  · have : ¬ (a = t ∧ b = i ∧ c = j) := fun z => h ⟨z.1, z.2.1⟩
    simp [x_yr, x_r, h, this]
theorem x_Vyr (Y : x_Y) (L : x_L) (I : x_I) (t i j : Nat) (r : Option Nat) (hs : x_sk t j = 2) : x_V (x_yr Y t i j r) L I t i = updV (x_V Y L I t i) j (va_rf r) := by
  funext k
  by_cases hk : k = j
  · subst hk
    simp [x_V, updV, hs, x_yr_r, x_vl]
  · simp [x_V, updV, hk, x_yr_r]
theorem x_Vyn (Y : x_Y) (L : x_L) (I : x_I) {t i j a b : Nat} (r : Option Nat) (h : ¬ (a = t ∧ b = i)) : x_V (x_yr Y t i j r) L I a b = x_V Y L I a b := by
  funext k
  have : ¬ (a = t ∧ b = i ∧ k = j) := fun z => h ⟨z.1, z.2.1⟩
  simp [x_V, x_yr_r, this]
theorem x_rk : ∀ c, c < 9 → ∀ k, k < x_nf c → x_dk (x_F c k).2.2.1 = 2 → refKind (x_dt (x_F c k).2.2.1) = true := by decide +kernel
theorem x_narR {ty : FieldType} (h : refKind ty = true) (b : Nat) : narrow ty (.ref b) = .ref b ∧ fits ty (.ref b) = true := by
  cases ty <;> first | exact ⟨rfl, rfl⟩ | cases h
theorem x_dv : ∀ c, c < 9 → ∀ k, k < x_nf c → (x_dt (x_F c k).2.2.1 = .int ∧ x_dk (x_F c k).2.2.1 = 0) ∨ (x_dt (x_F c k).2.2.1 = .boolean ∧ x_dk (x_F c k).2.2.1 = 0) ∨ (refKind (x_dt (x_F c k).2.2.1) = true ∧ x_dk (x_F c k).2.2.1 = 2) := by decide +kernel
theorem x_dvR {ty : FieldType} (h : refKind ty = true) : defaultValue ty = .null := by
  cases ty <;> first | rfl | cases h
section XY
variable {p : Program} {l : Launch} {e : Env} {R : Room} {s : State} {m : MethodId} {args : Array Value} {below : List Frame} {meth : Method} {c : Code} {H : Heap} {locs : List Loc} {cells slots : Nat} {Q : State → Prop}
variable {cc : ByteArray} {pc : Nat} {ls : Array Slot} {rest : List Value} {g : x_G} {Y : x_Y} {L : x_L} {I : x_I} {t i j k0 n0 k n : Nat}
/-- a final field, in a constructor of its class -/
theorem x_putF (hx : p.tables.exec = Jvm.exec) (hb : c.code = cc) (hK : x_K g s) (hw : x_WL g Y L I H locs) {own ref : String} (hown : s.vm.findClass own = some m.cls) (hok : x_ok Y t i) {c0 idx : Nat} (hk : x_kd t = (0, c0)) (hc : c0 < 9) (hj : j < x_nf c0)
    (hlink : (Cond.fieldLink own idx ref (x_F c0 j).2.1 (x_F c0 j).2.2.1).before args s = true) (hsame : ∀ x, s.fieldFound? (x_F c0 j).1 (x_F c0 j).2.1 (x_F c0 j).2.2.1 = some x → s.fieldFound? ref (x_F c0 j).2.1 (x_F c0 j).2.2.1 = some x) (hfin : (x_F c0 j).2.2.2 = true) (hin : meth.name = "<init>") (hdecl : (x_F c0 j).1 = own)
    {v : Value} (hn : narrow (x_dt (x_F c0 j).2.2.1) v = v) (hfit : fits (x_dt (x_F c0 j).2.2.1) v = true) (hdg : decode cc pc = .ok (.putfield idx, 3)) {Y' : x_Y} {L' : x_L} {I' : x_I}
    (hY : ∀ a b, x_ok Y' a b = x_ok Y a b ∧ x_ad Y' a b = x_ad Y a b ∧ x_n Y' a b = x_n Y a b) (hself : x_V Y' L' I' t i = updV (x_V Y L I t i) j v) (hrest : ∀ a b, ¬ (a = t ∧ b = i) → x_V Y' L' I' a b = x_V Y L I a b)
    (kk : ∀ (H' : Heap) (locs' : List Loc), x_WL g Y' L' I' H' locs' → W p l e R s m args below meth c H' locs' cells slots Q (F0 m (pc + 3) ls rest)) : W p l e R s m args below meth c H locs cells slots Q (F0 m pc ls (v :: .ref (x_ad Y t i) :: rest)) := by
  have hap := x_apart hK hc
  obtain ⟨cell, q1, q2, q3, q4⟩ := hw.1.obj hok hk
  obtain ⟨hS, hfc, kC, hkC, hkind⟩ := hK.cls hc
  obtain ⟨cf, kf, fi, f, hi, hsl⟩ := hS j hj
  have hlay := x_lay hK hc (args := args) _ (u_in_lay hj)
  unfold u_lay at hlay
  rw [if_pos hfin] at hlay
  have hst := (u_facts hfc hkC (u_lays (args := args) (x_lay hK hc) (fun w h => h) hj) hi).1
  have hcf : m.cls = cf := by
    obtain ⟨_, _, c', _, _, _, -, -, hf', -, -, -, hown2, -⟩ := Cond.laysFinal_spec hlay
    have e1 : c' = cf := by have := hi.symm.trans hf'; simp at this; exact this.1.symm
    rw [hdecl] at hown2
    rw [← e1]; exact Option.some.inj (hown.symm.trans hown2)
  have h6 := u_fits hfc hkC hkind (Or.inr hlay) hi (x_ty c0 hc j hj) hn hfit
  refine W.putFinK hx hb hown hlink (hsame _ hi) hst hcf hin (by rw [q2]; exact h6) q1 q3 (by rw [hsl]; exact k2_hasslot (q4 j hj)) rfl rfl hdg fun H' e1 e2 e3 => ?_
  rw [hsl] at e1
  refine kk H' _ (hw.lc (hw.1.put hok e2 e3 hY ?_ hrest) hok _)
  unfold x_at
  rw [hk, if_pos rfl, hself]
  exact ⟨_, e1, q2, q3, t_set q4 hap hj v⟩
theorem x_pRF (hx : p.tables.exec = Jvm.exec) (hb : c.code = cc) (hK : x_K g s) (hw : x_WL g Y L I H locs) {own ref : String} (hown : s.vm.findClass own = some m.cls) {a b : Nat} (ho : x_ok Y t i ∧ x_ad Y t i = a) {c0 idx : Nat} (hk : x_kd t = (0, c0)) (hc : c0 < 9) (hj : j < x_nf c0)
    (hlink : (Cond.fieldLink own idx ref (x_F c0 j).2.1 (x_F c0 j).2.2.1).before args s = true) (hsame : ∀ x, s.fieldFound? (x_F c0 j).1 (x_F c0 j).2.1 (x_F c0 j).2.2.1 = some x → s.fieldFound? ref (x_F c0 j).2.1 (x_F c0 j).2.2.1 = some x) (hfin : (x_F c0 j).2.2.2 = true) (hin : meth.name = "<init>") (hdecl : (x_F c0 j).1 = own) (hs : x_dk (x_F c0 j).2.2.1 = 2)
    (hdg : decode cc pc = .ok (.putfield idx, 3)) (kk : ∀ (Y' : x_Y) (H' : Heap) (locs' : List Loc), Y' = x_yr Y t i j (some b) → x_WL g Y' L I H' locs' → W p l e R s m args below meth c H' locs' cells slots Q (F0 m (pc + 3) ls rest)) : W p l e R s m args below meth c H locs cells slots Q (F0 m pc ls (.ref b :: .ref a :: rest)) := by
  obtain ⟨hok, rfl⟩ := ho
  have hr := x_narR (x_rk c0 hc j hj hs) b
  exact x_putF hx hb hK hw hown hok hk hc hj hlink hsame hfin hin hdecl hr.1 hr.2 hdg (x_yr_same Y t i j (some b)) (x_Vyr Y L I t i j (some b) ((x_skf hk).trans hs)) (fun a b h => x_Vyn Y L I _ h) (fun H' locs' h => kk _ H' locs' rfl h)
theorem x_pIF (hx : p.tables.exec = Jvm.exec) (hb : c.code = cc) (hK : x_K g s) (hw : x_WL g Y L I H locs) {own ref : String} (hown : s.vm.findClass own = some m.cls) {a : Nat} {v : Int32} (ho : x_ok Y t i ∧ x_ad Y t i = a) {c0 idx : Nat} (hk : x_kd t = (0, c0)) (hc : c0 < 9) (hj : j < x_nf c0)
    (hlink : (Cond.fieldLink own idx ref (x_F c0 j).2.1 (x_F c0 j).2.2.1).before args s = true) (hsame : ∀ x, s.fieldFound? (x_F c0 j).1 (x_F c0 j).2.1 (x_F c0 j).2.2.1 = some x → s.fieldFound? ref (x_F c0 j).2.1 (x_F c0 j).2.2.1 = some x) (hfin : (x_F c0 j).2.2.2 = true) (hin : meth.name = "<init>") (hdecl : (x_F c0 j).1 = own) (hs : (x_F c0 j).2.2.1 = "I")
    (hdg : decode cc pc = .ok (.putfield idx, 3)) (kk : ∀ (I' : x_I) (H' : Heap) (locs' : List Loc), I' = x_u I t i j v → x_WL g Y L I' H' locs' → W p l e R s m args below meth c H' locs' cells slots Q (F0 m (pc + 3) ls rest)) : W p l e R s m args below meth c H locs cells slots Q (F0 m pc ls (.int v :: .ref a :: rest)) := by
  obtain ⟨hok, rfl⟩ := ho
  exact x_putF hx hb hK hw hown hok hk hc hj hlink hsame hfin hin hdecl (by rw [(x_dI hs).2]; rfl) (by rw [(x_dI hs).2]; rfl) hdg (x_same Y) (x_Vu Y L I t i j v ((x_skf hk).trans (x_dI hs).1)) (fun a b h => x_Vn Y L I v h) (fun H' locs' h => kk _ H' locs' rfl h)
theorem x_pR1 (hx : p.tables.exec = Jvm.exec) (hb : c.code = cc) (hK : x_K g s) (hw : x_WL g Y L I H locs) {own ref : String} (hown : s.vm.findClass own = some m.cls) {a b : Nat} (ho : x_ok Y t i ∧ x_ad Y t i = a) {c0 idx : Nat} (hk : x_kd t = (0, c0)) (hc : c0 < 9) (hj : j < x_nf c0)
    (hlink : (Cond.fieldLink own idx ref (x_F c0 j).2.1 (x_F c0 j).2.2.1).before args s = true) (hsame : ∀ x, s.fieldFound? (x_F c0 j).1 (x_F c0 j).2.1 (x_F c0 j).2.2.1 = some x → s.fieldFound? ref (x_F c0 j).2.1 (x_F c0 j).2.2.1 = some x) (hfin : (x_F c0 j).2.2.2 = false) (hs : x_dk (x_F c0 j).2.2.1 = 2)
    (hdg : decode cc pc = .ok (.putfield idx, 3)) (kk : ∀ (Y' : x_Y) (H' : Heap) (locs' : List Loc), Y' = x_yr Y t i j (some b) → x_WL g Y' L I H' locs' → W p l e R s m args below meth c H' locs' cells slots Q (F0 m (pc + 3) ls rest)) : W p l e R s m args below meth c H locs cells slots Q (F0 m pc ls (.ref b :: .ref a :: rest)) := by
  obtain ⟨hok, rfl⟩ := ho
  have hr := x_narR (x_rk c0 hc j hj hs) b
  exact x_put hx hb hK hw hown hok hk hc hj hlink hsame hfin hr.1 hr.2 hdg (x_yr_same Y t i j (some b)) (x_Vyr Y L I t i j (some b) ((x_skf hk).trans hs)) (fun a b h => x_Vyn Y L I _ h) (fun H' locs' h => kk _ H' locs' rfl h)
theorem x_pI1 (hx : p.tables.exec = Jvm.exec) (hb : c.code = cc) (hK : x_K g s) (hw : x_WL g Y L I H locs) {own ref : String} (hown : s.vm.findClass own = some m.cls) {a : Nat} {v : Int32} (ho : x_ok Y t i ∧ x_ad Y t i = a) {c0 idx : Nat} (hk : x_kd t = (0, c0)) (hc : c0 < 9) (hj : j < x_nf c0)
    (hlink : (Cond.fieldLink own idx ref (x_F c0 j).2.1 (x_F c0 j).2.2.1).before args s = true) (hsame : ∀ x, s.fieldFound? (x_F c0 j).1 (x_F c0 j).2.1 (x_F c0 j).2.2.1 = some x → s.fieldFound? ref (x_F c0 j).2.1 (x_F c0 j).2.2.1 = some x) (hfin : (x_F c0 j).2.2.2 = false) (hs : (x_F c0 j).2.2.1 = "I")
    (hdg : decode cc pc = .ok (.putfield idx, 3)) (kk : ∀ (I' : x_I) (H' : Heap) (locs' : List Loc), I' = x_u I t i j v → x_WL g Y L I' H' locs' → W p l e R s m args below meth c H' locs' cells slots Q (F0 m (pc + 3) ls rest)) : W p l e R s m args below meth c H locs cells slots Q (F0 m pc ls (.int v :: .ref a :: rest)) := by
  obtain ⟨hok, rfl⟩ := ho
  exact x_putI hx hb hK hw hown hok hk hc hj hlink hsame hfin hs hdg kk
theorem x_gI1 (hx : p.tables.exec = Jvm.exec) (hb : c.code = cc) (hK : x_K g s) (hw : x_WL g Y L I H locs) {own ref : String} (hown : s.vm.findClass own = some m.cls) {a : Nat} (ho : x_ok Y t i ∧ x_ad Y t i = a) {c0 idx : Nat} (hk : x_kd t = (0, c0)) (hc : c0 < 9) (hj : j < x_nf c0)
    (hlink : (Cond.fieldLink own idx ref (x_F c0 j).2.1 (x_F c0 j).2.2.1).before args s = true) (hsame : ∀ x, s.fieldFound? (x_F c0 j).1 (x_F c0 j).2.1 (x_F c0 j).2.2.1 = some x → s.fieldFound? ref (x_F c0 j).2.1 (x_F c0 j).2.2.1 = some x) (hs : x_dk (x_F c0 j).2.2.1 = 0) (hdg : decode cc pc = .ok (.getfield idx, 3))
    (kk : W p l e R s m args below meth c H locs cells slots Q (F0 m (pc + 3) ls (.int (I t i j) :: rest))) : W p l e R s m args below meth c H locs cells slots Q (F0 m pc ls (.ref a :: rest)) := by
  obtain ⟨hok, rfl⟩ := ho
  exact x_getI hx hb hK hw hown hok hk hc hj hlink hsame hs hdg kk
theorem x_gI1N (hx : p.tables.exec = Jvm.exec) (hb : c.code = cc) (hK : x_K g s) (hw : x_WL g Y L I H locs) {own ref host : String} (hown : s.vm.findClass own = some m.cls) {a : Nat} (ho : x_ok Y t i ∧ x_ad Y t i = a) {c0 idx : Nat} (hk : x_kd t = (0, c0)) (hc : c0 < 9) (hj : j < x_nf c0)
    (hlink : (Cond.fieldLinkNest own idx ref (x_F c0 j).2.1 (x_F c0 j).2.2.1 host).before args s = true) (hsame : ∀ x, s.fieldFound? (x_F c0 j).1 (x_F c0 j).2.1 (x_F c0 j).2.2.1 = some x → s.fieldFound? ref (x_F c0 j).2.1 (x_F c0 j).2.2.1 = some x) (hs : x_dk (x_F c0 j).2.2.1 = 0) (hdg : decode cc pc = .ok (.getfield idx, 3))
    (kk : W p l e R s m args below meth c H locs cells slots Q (F0 m (pc + 3) ls (.int (I t i j) :: rest))) : W p l e R s m args below meth c H locs cells slots Q (F0 m pc ls (.ref a :: rest)) := by
  obtain ⟨hok, rfl⟩ := ho
  exact x_getIN hx hb hK hw hown hok hk hc hj hlink hsame hs hdg kk
theorem x_gR1 (hx : p.tables.exec = Jvm.exec) (hb : c.code = cc) (hK : x_K g s) (hw : x_WL g Y L I H locs) {own ref : String} (hown : s.vm.findClass own = some m.cls) {a b : Nat} (ho : (x_ok Y t i ∧ x_ad Y t i = a) ∧ x_r Y t i j = some b) {c0 idx : Nat} (hk : x_kd t = (0, c0)) (hc : c0 < 9) (hj : j < x_nf c0)
    (hlink : (Cond.fieldLink own idx ref (x_F c0 j).2.1 (x_F c0 j).2.2.1).before args s = true) (hsame : ∀ x, s.fieldFound? (x_F c0 j).1 (x_F c0 j).2.1 (x_F c0 j).2.2.1 = some x → s.fieldFound? ref (x_F c0 j).2.1 (x_F c0 j).2.2.1 = some x) (hs : x_dk (x_F c0 j).2.2.1 = 2) (hdg : decode cc pc = .ok (.getfield idx, 3))
    (kk : W p l e R s m args below meth c H locs cells slots Q (F0 m (pc + 3) ls (.ref b :: rest))) : W p l e R s m args below meth c H locs cells slots Q (F0 m pc ls (.ref a :: rest)) := by
  obtain ⟨⟨hok, rfl⟩, hr⟩ := ho
  exact x_getR hx hb hK hw hown hok hk hc hj hlink hsame hs hr hdg kk
theorem x_gR1N (hx : p.tables.exec = Jvm.exec) (hb : c.code = cc) (hK : x_K g s) (hw : x_WL g Y L I H locs) {own ref host : String} (hown : s.vm.findClass own = some m.cls) {a b : Nat} (ho : (x_ok Y t i ∧ x_ad Y t i = a) ∧ x_r Y t i j = some b) {c0 idx : Nat} (hk : x_kd t = (0, c0)) (hc : c0 < 9) (hj : j < x_nf c0)
    (hlink : (Cond.fieldLinkNest own idx ref (x_F c0 j).2.1 (x_F c0 j).2.2.1 host).before args s = true) (hsame : ∀ x, s.fieldFound? (x_F c0 j).1 (x_F c0 j).2.1 (x_F c0 j).2.2.1 = some x → s.fieldFound? ref (x_F c0 j).2.1 (x_F c0 j).2.2.1 = some x) (hs : x_dk (x_F c0 j).2.2.1 = 2) (hdg : decode cc pc = .ok (.getfield idx, 3))
    (kk : W p l e R s m args below meth c H locs cells slots Q (F0 m (pc + 3) ls (.ref b :: rest))) : W p l e R s m args below meth c H locs cells slots Q (F0 m pc ls (.ref a :: rest)) := by
  obtain ⟨⟨hok, rfl⟩, hr⟩ := ho
  exact x_getRN hx hb hK hw hown hok hk hc hj hlink hsame hs hr hdg kk
/-- new C -/
theorem x_newO (hx : p.tables.exec = Jvm.exec) (hb : c.code = cc) (hK : x_K g s) (hw : x_WL g Y L I H locs) {own : String} (hown : s.vm.findClass own = some m.cls) {c0 idx : Nat} (hk : x_kd t = (0, c0)) (hc : c0 < 9) (m1 : Cond.classLink own idx (x_cn c0) ∈ lw_tbl) (m2 : Cond.instantiable (x_cn c0) (x_nf c0) ∈ lw_tbl) (m3 : Cond.initialized (x_cn c0) ∈ lw_tbl)
    (hRc : R.cells = 600288 - k0) (hRs : R.slots = 7292554 - n0) (hbd : x_bd k0 n0 k n) (h1 : k + 1 ≤ 600288) (h2 : n + x_nf c0 ≤ 7292554) (hdg : decode cc pc = .ok (.new idx, 3))
    (kk : ∀ (a k' n' : Nat) (Y' : x_Y) (L' : x_L) (I' : x_I) (H' : Heap), Y' = x_yn Y t i a (x_nf c0) (fun _ => none) → L' = x_zl L t i → I' = x_zi I t i → k' = k + 1 → n' = n + x_nf c0 → x_WL g Y' L' I' H' locs → x_bd k0 n0 k' n' → W p l e R s m args below meth c H' locs (k' - k0) (n' - n0) Q (F0 m (pc + 3) ls (.ref a :: rest))) :
    W p l e R s m args below meth c H locs (k - k0) (n - n0) Q (F0 m pc ls rest) := by
  obtain ⟨b1, b2, b3, b4⟩ := hbd
  have hKn := hK.cls hc
  refine W.newcK hx hb hown (x_wd hK m1 rfl) (x_wd hK m2 rfl) (x_wd hK m3 rfl) rfl hdg (by omega) (by omega) hKn.2.1 rfl fun H1 kC hkC e1 z1 o1 => ?_
  have hob := u_born (args := args) (fun j => x_dt (x_F c0 j).2.2.1) (x_lay hK hc) (fun w h => h) hKn hkC e1 (x_ty c0 hc)
  have := kk _ _ _ _ _ _ H1 rfl rfl rfl rfl rfl ⟨hw.1.new (n := x_nf c0) z1 o1 (by
    unfold x_at
    rw [hk, if_pos rfl]
    refine hob.to fun j hj => ?_
    rw [x_skf hk]
    rcases x_dv c0 hc j hj with ⟨d1, d2⟩ | ⟨d1, d2⟩ | ⟨d1, d2⟩
    · rw [d1, d2]; rfl
    · rw [d1, d2]; rfl
    · rw [x_dvR d1, d2]; rfl), hw.2⟩ ⟨by omega, by omega, by omega, by omega⟩
  rw [show k + 1 - k0 = k - k0 + 1 by omega, show n + x_nf c0 - n0 = n - n0 + x_nf c0 by omega] at this
  exact this
theorem x_newA1 (hx : p.tables.exec = Jvm.exec) (hb : c.code = cc) (hK : x_K g s) (hw : x_WL g Y L I H locs) {e0 : Nat} (hk : x_kd t = (1, e0)) (he : e0 < 4) {at0 : ArrayType} (hty : newarray.typeOf at0 = x_et e0) (ma : Cond.arrayClass (newarray.typeOf at0) ∈ lw_tbl) {v : Int32} {N : Nat} (hv : ¬ v < 0) (hN : v.toNatClampNeg = N)
    (hRc : R.cells = 600288 - k0) (hRs : R.slots = 7292554 - n0) (hbd : x_bd k0 n0 k n) (h1 : k + 1 ≤ 600288) (h2 : n + N ≤ 7292554) (hdg : decode cc pc = .ok (.newarray at0, 2))
    (kk : ∀ (a k' n' : Nat) (Y' : x_Y) (L' : x_L) (I' : x_I) (H' : Heap), Y' = x_yn Y t i a N (fun _ => none) → L' = x_zl L t i → I' = x_zi I t i → k' = k + 1 → n' = n + N → x_WL g Y' L' I' H' locs → x_bd k0 n0 k' n' → W p l e R s m args below meth c H' locs (k' - k0) (n' - n0) Q (F0 m (pc + 2) ls (.ref a :: rest))) :
    W p l e R s m args below meth c H locs (k - k0) (n - n0) Q (F0 m pc ls (.int v :: rest)) :=
  x_newA hx hb hK hw hk he hty ma hv hN hRc hRs hbd h1 h2 hdg fun H' h9 h10 => kk _ _ _ _ _ _ H' rfl rfl rfl rfl rfl h9 h10
/-- new C[] -/
theorem x_newQ (hx : p.tables.exec = Jvm.exec) (hb : c.code = cc) (hK : x_K g s) (hw : x_WL g Y L I H locs) {own C : String} (hown : s.vm.findClass own = some m.cls) {e0 idx : Nat} (hk : x_kd t = (1, e0)) (he : 4 ≤ e0 ∧ e0 < 7) (hC : x_et e0 = .object C) (m1 : Cond.classLink own idx C ∈ lw_tbl) (m2 : Cond.arrayOver (.object C) ∈ lw_tbl) {v : Int32} {N : Nat} (hv : ¬ v < 0) (hN : v.toNatClampNeg = N)
    (hRc : R.cells = 600288 - k0) (hRs : R.slots = 7292554 - n0) (hbd : x_bd k0 n0 k n) (h1 : k + 1 ≤ 600288) (h2 : n + N ≤ 7292554) (hdg : decode cc pc = .ok (.anewarray idx, 3))
    (kk : ∀ (a k' n' : Nat) (Y' : x_Y) (L' : x_L) (I' : x_I) (H' : Heap), Y' = x_yn Y t i a N (fun _ => none) → L' = x_zl L t i → I' = x_zi I t i → k' = k + 1 → n' = n + N → x_WL g Y' L' I' H' locs → x_bd k0 n0 k' n' → W p l e R s m args below meth c H' locs (k' - k0) (n' - n0) Q (F0 m (pc + 3) ls (.ref a :: rest))) :
    W p l e R s m args below meth c H locs (k - k0) (n - n0) Q (F0 m pc ls (.int v :: rest)) := by
  obtain ⟨b1, b2, b3, b4⟩ := hbd
  subst hN
  have hover : va_AO C s := by
    obtain ⟨s0, a0, q1, q2, q3, q4, q5⟩ := hK
    exact (va_AO.of (q2 _ m2)).moved q4.alike
  refine W.anew hx hb hown (x_wd hK m1 rfl) (va_AO.use hover) rfl hdg rfl hv (by omega) (by omega) (by omega) fun cA kA comp f1 f2 f3 f4 => ?_
  have hcA : cA = g.2.2.1 e0 := by
    have h9 := (hK.arr he.2).2
    rw [hC] at h9
    obtain ⟨kA', comp', g1, g2, g3, g4⟩ := h9
    exact Option.some.inj (f1.symm.trans g4)
  generalize hH1 : H.push ({ cls := cA, slots := Array.replicate v.toNatClampNeg .null, vm := .none } : Cell) = H1
  have z1 : H1.size = H.size + 1 := by rw [← hH1, Array.size_push]
  have e1 : H1[H.size]? = some (arrV cA v.toNatClampNeg (fun _ => .null)) := by rw [← hH1, Array.getElem?_push_size, ← arrV_new]
  have o1 : ∀ q : Nat, q < H.size → H1[q]? = H[q]? := fun q hq => by rw [← hH1, Array.getElem?_push, if_neg (Nat.ne_of_lt hq)]
  have := kk _ _ _ _ _ _ H1 rfl rfl rfl rfl rfl ⟨hw.1.new (n := v.toNatClampNeg) z1 o1 (by
    unfold x_at
    rw [hk, if_neg Nat.one_ne_zero, e1, hcA]
    congr 2
    funext j
    rw [x_ska hk]
    rcases (by omega : e0 = 4 ∨ e0 = 5 ∨ e0 = 6) with rfl | rfl | rfl <;> rfl), hw.2⟩ ⟨by omega, by omega, by omega, by omega⟩
  rw [show k + 1 - k0 = k - k0 + 1 by omega, show n + v.toNatClampNeg - n0 = n - n0 + v.toNatClampNeg by omega] at this
  exact this
/-- an object goes into an array of references -/
theorem x_aast (hx : p.tables.exec = Jvm.exec) (hb : c.code = cc) (hK : x_K g s) (hw : x_WL g Y L I H locs) {a b t1 i1 c1 e0 N : Nat} {C : String} (ho : (x_ok Y t i ∧ x_ad Y t i = a) ∧ x_n Y t i = N) (ho1 : x_ok Y t1 i1 ∧ x_ad Y t1 i1 = b) (hk : x_kd t = (1, e0)) (he : 4 ≤ e0 ∧ e0 < 7) (hC : x_et e0 = .object C) (hk1 : x_kd t1 = (0, c1)) (hc1 : c1 < 9)
    (hca : (Cond.castable (x_cn c1) C).before args s = true) {v : Int32} (hin : vp_in v N) (hdg : decode cc pc = .ok (.aastore, 1))
    (kk : ∀ (Y' : x_Y) (H' : Heap) (locs' : List Loc), Y' = x_yr Y t i v.toNatClampNeg (some b) → x_WL g Y' L I H' locs' → W p l e R s m args below meth c H' locs' cells slots Q (F0 m (pc + 1) ls rest)) : W p l e R s m args below meth c H locs cells slots Q (F0 m pc ls (.ref b :: .int v :: .ref a :: rest)) := by
  obtain ⟨⟨hok, rfl⟩, rfl⟩ := ho
  obtain ⟨hok1, rfl⟩ := ho1
  have hlt : v.toNatClampNeg < x_n Y t i := Nat.not_le.mp fun q => hin (Or.inr q)
  have h0 : ¬ v < 0 := fun q => hin (Or.inl q)
  obtain ⟨cellV, g1, g2, g3, -⟩ := hw.1.obj hok1 hk1
  have hcls := (hK.cls hc1).2
  have h9 := (hK.arr he.2).2
  rw [hC] at h9
  obtain ⟨kA, comp, k1, k2, k3, -⟩ := h9
  obtain ⟨kE, hkE, -⟩ := Vm.findClass_spec k3
  obtain ⟨c0, t1', f1, f2, f3⟩ := Cond.castable_spec hca
  cases hcls.1.symm.trans f1
  cases k3.symm.trans f2
  obtain ⟨kC, hkC, -⟩ := hcls.2
  have har := hw.1.ar hok hk
  refine W.aast hx hb har (fun q h => by cases h) (fun h => by cases h) k1 k2 rfl hkE ⟨h0, by show _ < (arrV _ _ _).slots.size; rw [arrV_size]; exact hlt⟩ g1 (fun q h => by rw [g3] at h; cases h) (by rw [g2]; exact hkC) (by rw [g2]; exact f3) rfl rfl hdg fun H1 e1 z oq => ?_
  have hsk : x_sk t v.toNatClampNeg = 2 := by
    rw [x_ska hk]
    rcases (by omega : e0 = 4 ∨ e0 = 5 ∨ e0 = 6) with rfl | rfl | rfl <;> rfl
  refine kk _ H1 _ rfl (hw.lc (hw.1.put hok z oq (x_yr_same Y t i _ _) ?_ (fun a b h => x_Vyn Y L I _ h)) hok _)
  unfold x_at
  rw [hk, if_neg Nat.one_ne_zero, e1, arrV_store, x_Vyr Y L I t i _ _ hsk]
  rfl
theorem x_alen1 (hx : p.tables.exec = Jvm.exec) (hb : c.code = cc) (hK : x_K g s) (hw : x_WL g Y L I H locs) {a e0 N : Nat} (ho : (x_ok Y t i ∧ x_ad Y t i = a) ∧ x_n Y t i = N) (hk : x_kd t = (1, e0)) (he : e0 < 7) (hdg : decode cc pc = .ok (.arraylength, 1))
    (kk : W p l e R s m args below meth c H locs cells slots Q (F0 m (pc + 1) ls (.int (nI N) :: rest))) : W p l e R s m args below meth c H locs cells slots Q (F0 m pc ls (.ref a :: rest)) := by
  obtain ⟨⟨hok, rfl⟩, rfl⟩ := ho
  exact x_alen hx hb hK hw hok hk he rfl hdg kk
/-- Object.<init> -/
theorem x_objI {own : String} {nL F idx : Nat} {ret : Option FieldType} {a : Nat} (hE : x_E l g p e R s m meth c own cc nL ret F k0 n0) (hls : ls.size = nL) (m1 : Cond.methodLink own idx Lib.objectInit ∈ lw_tbl) (m2 : Cond.instanceMethod Lib.objectInit ∈ lw_tbl) (m3 : Cond.code Lib.objectInit object_method_1_code 1 none ∈ lw_tbl) (hF : 1 ≤ F) (hr : (rest.map fun v => v.category).sum ≤ 8) (hdg : decode cc pc = .ok (.invokespecial idx, 3))
    (kk : W p l e R s m args below meth c H locs cells slots Q (F0 m (pc + 3) ls rest)) : W p l e R s m args below meth c H locs cells slots Q (F0 m pc ls (.ref a :: rest)) := by
  obtain ⟨hx, hb, hml, -, hlk, hown, hK, htr, hFR, hLR, hRc, hRs⟩ := hE
  refine W.objInit hx hb hown (x_wd hK m1 rfl) (x_wd hK m2 rfl) (x_wd (w := Cond.code Lib.objectInit object_method_1_code 1 none) hK m3 rfl) rfl (by rw [hml]; exact hls) rfl hdg (by omega) ?_ kk
  show 2 * 0 + _ + 12 ≤ _
  omega
end XY
