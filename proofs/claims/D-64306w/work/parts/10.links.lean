/-! THE NORMAL WORLD: who points to whom, how long the arrays are -/
def x_lk (t i j : Nat) : Option (Nat × Nat) := match t with
  | 0 => (match j with | 0 => some (1, 0) | 1 => some (14, 0) | 2 => some (15, 0) | 3 => some (16, 0) | _ => none)
  | 1 => (match j with | 0 => some (2, 0) | 1 => some (4, 0) | 2 => some (8, 0) | 3 => some (13, 0) | _ => none)
  | 4 => (match j with | 0 => some (5, 0) | 1 => some (6, 0) | 2 => some (7, 0) | _ => none)
  | 8 => (match j with | 0 => some (9, 0) | 1 => some (10, 0) | 2 => some (11, 0) | 3 => some (12, 0) | _ => none)
  | 15 => if j < 8 then some (20, j) else none
  | 20 => (match j with | 0 => some (1, 0) | 1 => some (14, 0) | 2 => some (15, 0) | 7 => some (21, i) | 8 => some (22, i) | _ => none)
  | 23 => (match j with | 1 => some (24, i) | _ => none)
  | 30 => if x_dk (x_F 8 j).2.2.1 = 2 then some (40 + j, 0) else none
  | _ => none
def x_ln (t : Nat) : Option Nat := match t with
  | 5 => some 4096
  | 6 => some 4096
  | 7 => some 4096
  | 9 => some 2048
  | 10 => some 2048
  | 11 => some 2048
  | 12 => some 2048
  | 13 => some 300
  | 14 => some 30
  | 15 => some 8
  | 16 => some 8
  | 21 => some 8
  | 22 => some 32
  | 24 => some 160
  | 25 => some 1
  | 42 => some 24
  | 43 => some 3840
  | 44 => some 24
  | 45 => some 24
  | 46 => some 500
  | 47 => some 500
  | 48 => some 500
  | 50 => some 300
  | 52 => some 192
  | 53 => some 4000
  | 54 => some 4000
  | 55 => some 4000
  | 56 => some 8
  | 57 => some 8
  | 59 => some 256
  | 60 => some 8
  | 61 => some 8
  | 62 => some 64
  | 63 => some 8
  | 64 => some 8
  | 65 => some 8
  | 66 => some 8
  | 67 => some 8
  | 68 => some 8
  | _ => none
def x_Y0 (g : x_G) (Y : x_Y) : Prop := (∀ t i j t' i', x_ok Y t i → x_lk t i j = some (t', i') → x_r Y t i j = some (x_ad Y t' i') ∧ x_ok Y t' i') ∧ (∀ t i n, x_ok Y t i → x_ln t = some n → x_n Y t i = n) ∧ (x_ok Y 14 0 → ∀ j, j < 30 → x_r Y 14 0 j = some (g.2.2.2.2 j))
theorem x_Y0.ok {g : x_G} {Y : x_Y} (h : x_Y0 g Y) {t i : Nat} (j : Nat) {t' i' : Nat} (hok : x_ok Y t i) (hl : x_lk t i j = some (t', i')) : x_ok Y t' i' := (h.1 t i j t' i' hok hl).2
theorem x_Y0.r {g : x_G} {Y : x_Y} (h : x_Y0 g Y) {t i j t' i' : Nat} (hok : x_ok Y t i) (hl : x_lk t i j = some (t', i')) : x_r Y t i j = some (x_ad Y t' i') := (h.1 t i j t' i' hok hl).1
theorem x_Y0.n {g : x_G} {Y : x_Y} (h : x_Y0 g Y) {t i n : Nat} (hok : x_ok Y t i) (hl : x_ln t = some n) : x_n Y t i = n := h.2.1 t i n hok hl
/-- the accounts' list: nA of them -/
def x_Ls (Y : x_Y) (nA : Nat) : Prop := 0 < nA → x_r Y 2 0 0 = some (x_ad Y 3 0) ∧ x_ok Y 3 0 ∧ nA ≤ x_n Y 3 0 ∧ x_n Y 3 0 < 2 ^ 31 ∧ ∀ a, a < nA → x_r Y 3 0 a = some (x_ad Y 23 a) ∧ x_ok Y 23 a
abbrev x_XT : Type := Nat → x_L → x_I → Nat → Nat → Prop
def x_nx : x_XT := fun _ _ _ _ _ => False
/-- ends: an int, nothing, a long, a cell -/
def x_pI (Y : x_Y) (Q : Int32 → x_L → x_I → Nat → Nat → Prop) (X : x_XT) : x_P := fun r Y' L I k n => Y' = Y ∧ ((∃ v, r = .inl (some (.int v)) ∧ Q v L I k n) ∨ ∃ kx, r = .inr kx ∧ X kx L I k n)
def x_pV (Y : x_Y) (Q : x_L → x_I → Nat → Nat → Prop) (X : x_XT) : x_P := fun r Y' L I k n => Y' = Y ∧ ((r = .inl none ∧ Q L I k n) ∨ ∃ kx, r = .inr kx ∧ X kx L I k n)
def x_pL (Y : x_Y) (Q : Int64 → x_L → x_I → Nat → Nat → Prop) (X : x_XT) : x_P := fun r Y' L I k n => Y' = Y ∧ ((∃ v, r = .inl (some (.long v)) ∧ Q v L I k n) ∨ ∃ kx, r = .inr kx ∧ X kx L I k n)
def x_pR (Y : x_Y) (t : Nat) (Q : Nat → x_L → x_I → Nat → Nat → Prop) (X : x_XT) : x_P := fun r Y' L I k n => Y' = Y ∧ ((∃ a, r = .inl (some (.ref (x_ad Y t a))) ∧ x_ok Y t a ∧ Q a L I k n) ∨ ∃ kx, r = .inr kx ∧ X kx L I k n)
section XG
variable {p : Program} {l : Launch} {e : Env} {R : Room} {s : State} {m : MethodId} {args : Array Value} {below : List Frame} {meth : Method} {c : Code} {H : Heap} {locs : List Loc} {cells slots : Nat} {Q : State → Prop}
variable {cc : ByteArray} {pc : Nat} {ls : Array Slot} {rest st As : List Value} {g : x_G} {Y : x_Y} {L : x_L} {I : x_I} {t i j : Nat}
theorem x_goI {own : String} {nL nA F' F k0 n0 k n mL len : Nat} {ret : Option FieldType} (hE : x_E l g p e R s m meth c own cc nL ret F k0 n0) (hw : x_WL g Y L I H locs) {y : MethodName} {av : List Value} {Qc : Int32 → x_L → x_I → Nat → Nat → Prop} {Xc : x_XT} (hC : x_C l y F' g av Y L I k n (x_pI Y Qc Xc)) (hh : x_has s y mL) (hy : x_yok y nA) (hF : F' + 1 ≤ F) (hL : 8 + (mL + 11) + 64 * F' ≤ 64 * F)
    (hls : ls.size = nL) (hr : (rest.map fun v => v.category).sum ≤ 8) (hkk : x_bd k0 n0 k n) {ig : Instr} (hdg : decode cc pc = .ok (ig, len))
    (ht : ∀ T : State, T.heap = H → Stand p l e R s m args below meth c T locs (k - k0) (n - n0) → ∃ (mk : MethodId) (vm₁ : Vm), s.methodNamed? y = some mk ∧ Stand p l e R s m args below meth c (T.setVm vm₁) locs (k - k0) (n - n0) ∧
      ∀ tg, Steps p.tables e below (doInvoke e ((T.setVm vm₁).setTop (F0 m pc ls rest)) [] mk av.toArray).1 tg → Steps p.tables e below (T.setTop (F0 m pc ls st)) tg)
    (kr : ∀ (v : Int32) (L' : x_L) (I' : x_I) (k' n' : Nat) (H' : Heap) (locs' : List Loc), Qc v L' I' k' n' → x_WL g Y L' I' H' locs' → x_bd k n k' n' → W p l e R s m args below meth c H' locs' (k' - k0) (n' - n0) Q (F0 m (pc + len) ls (.int v :: rest)))
    (kt : ∀ (kx : Nat) (L' : x_L) (I' : x_I) (k' n' : Nat) (H' : Heap) (locs' : List Loc), Xc kx L' I' k' n' → x_WL g Y L' I' H' locs' → x_bd k n k' n' → WT p l e R s m args below meth c H' locs' (k' - k0) (n' - n0) Q (F0 m pc ls rest) kx) :
    W p l e R s m args below meth c H locs (k - k0) (n - n0) Q (F0 m pc ls st) :=
  x_go hE hw hC hh hy hF hL hls hr hkk hdg ht (fun v Y' L' I' k' n' H' locs' hP hw' hb => by
    obtain ⟨rfl, ⟨v', e1, hq⟩ | ⟨kx, e1, hq⟩⟩ := hP
    · cases e1
      exact kr v' L' I' k' n' H' locs' hq hw' hb
    · cases e1) (fun kx Y' L' I' k' n' H' locs' hP hw' hb => by
    obtain ⟨rfl, ⟨v', e1, hq⟩ | ⟨kx', e1, hq⟩⟩ := hP
    · cases e1
    · cases e1
      exact kt kx L' I' k' n' H' locs' hq hw' hb)
theorem x_goV {own : String} {nL nA F' F k0 n0 k n mL len : Nat} {ret : Option FieldType} (hE : x_E l g p e R s m meth c own cc nL ret F k0 n0) (hw : x_WL g Y L I H locs) {y : MethodName} {av : List Value} {Qc : x_L → x_I → Nat → Nat → Prop} {Xc : x_XT} (hC : x_C l y F' g av Y L I k n (x_pV Y Qc Xc)) (hh : x_has s y mL) (hy : x_yok y nA) (hF : F' + 1 ≤ F) (hL : 8 + (mL + 11) + 64 * F' ≤ 64 * F)
    (hls : ls.size = nL) (hr : (rest.map fun v => v.category).sum ≤ 8) (hkk : x_bd k0 n0 k n) {ig : Instr} (hdg : decode cc pc = .ok (ig, len))
    (ht : ∀ T : State, T.heap = H → Stand p l e R s m args below meth c T locs (k - k0) (n - n0) → ∃ (mk : MethodId) (vm₁ : Vm), s.methodNamed? y = some mk ∧ Stand p l e R s m args below meth c (T.setVm vm₁) locs (k - k0) (n - n0) ∧
      ∀ tg, Steps p.tables e below (doInvoke e ((T.setVm vm₁).setTop (F0 m pc ls rest)) [] mk av.toArray).1 tg → Steps p.tables e below (T.setTop (F0 m pc ls st)) tg)
    (kr : ∀ (L' : x_L) (I' : x_I) (k' n' : Nat) (H' : Heap) (locs' : List Loc), Qc L' I' k' n' → x_WL g Y L' I' H' locs' → x_bd k n k' n' → W p l e R s m args below meth c H' locs' (k' - k0) (n' - n0) Q (F0 m (pc + len) ls rest))
    (kt : ∀ (kx : Nat) (L' : x_L) (I' : x_I) (k' n' : Nat) (H' : Heap) (locs' : List Loc), Xc kx L' I' k' n' → x_WL g Y L' I' H' locs' → x_bd k n k' n' → WT p l e R s m args below meth c H' locs' (k' - k0) (n' - n0) Q (F0 m pc ls rest) kx) :
    W p l e R s m args below meth c H locs (k - k0) (n - n0) Q (F0 m pc ls st) :=
  x_go hE hw hC hh hy hF hL hls hr hkk hdg ht (fun v Y' L' I' k' n' H' locs' hP hw' hb => by
    obtain ⟨rfl, ⟨e1, hq⟩ | ⟨kx, e1, hq⟩⟩ := hP
    · cases e1
      exact kr L' I' k' n' H' locs' hq hw' hb
    · cases e1) (fun kx Y' L' I' k' n' H' locs' hP hw' hb => by
    obtain ⟨rfl, ⟨e1, hq⟩ | ⟨kx', e1, hq⟩⟩ := hP
    · cases e1
    · cases e1
      exact kt kx L' I' k' n' H' locs' hq hw' hb)
theorem x_goL {own : String} {nL nA F' F k0 n0 k n mL len : Nat} {ret : Option FieldType} (hE : x_E l g p e R s m meth c own cc nL ret F k0 n0) (hw : x_WL g Y L I H locs) {y : MethodName} {av : List Value} {Qc : Int64 → x_L → x_I → Nat → Nat → Prop} {Xc : x_XT} (hC : x_C l y F' g av Y L I k n (x_pL Y Qc Xc)) (hh : x_has s y mL) (hy : x_yok y nA) (hF : F' + 1 ≤ F) (hL : 8 + (mL + 11) + 64 * F' ≤ 64 * F)
    (hls : ls.size = nL) (hr : (rest.map fun v => v.category).sum ≤ 8) (hkk : x_bd k0 n0 k n) {ig : Instr} (hdg : decode cc pc = .ok (ig, len))
    (ht : ∀ T : State, T.heap = H → Stand p l e R s m args below meth c T locs (k - k0) (n - n0) → ∃ (mk : MethodId) (vm₁ : Vm), s.methodNamed? y = some mk ∧ Stand p l e R s m args below meth c (T.setVm vm₁) locs (k - k0) (n - n0) ∧
      ∀ tg, Steps p.tables e below (doInvoke e ((T.setVm vm₁).setTop (F0 m pc ls rest)) [] mk av.toArray).1 tg → Steps p.tables e below (T.setTop (F0 m pc ls st)) tg)
    (kr : ∀ (v : Int64) (L' : x_L) (I' : x_I) (k' n' : Nat) (H' : Heap) (locs' : List Loc), Qc v L' I' k' n' → x_WL g Y L' I' H' locs' → x_bd k n k' n' → W p l e R s m args below meth c H' locs' (k' - k0) (n' - n0) Q (F0 m (pc + len) ls (.long v :: rest)))
    (kt : ∀ (kx : Nat) (L' : x_L) (I' : x_I) (k' n' : Nat) (H' : Heap) (locs' : List Loc), Xc kx L' I' k' n' → x_WL g Y L' I' H' locs' → x_bd k n k' n' → WT p l e R s m args below meth c H' locs' (k' - k0) (n' - n0) Q (F0 m pc ls rest) kx) :
    W p l e R s m args below meth c H locs (k - k0) (n - n0) Q (F0 m pc ls st) :=
  x_go hE hw hC hh hy hF hL hls hr hkk hdg ht (fun v Y' L' I' k' n' H' locs' hP hw' hb => by
    obtain ⟨rfl, ⟨v', e1, hq⟩ | ⟨kx, e1, hq⟩⟩ := hP
    · cases e1
      exact kr v' L' I' k' n' H' locs' hq hw' hb
    · cases e1) (fun kx Y' L' I' k' n' H' locs' hP hw' hb => by
    obtain ⟨rfl, ⟨v', e1, hq⟩ | ⟨kx', e1, hq⟩⟩ := hP
    · cases e1
    · cases e1
      exact kt kx L' I' k' n' H' locs' hq hw' hb)
theorem x_goR {own : String} {nL nA F' F k0 n0 k n mL len tR : Nat} {ret : Option FieldType} (hE : x_E l g p e R s m meth c own cc nL ret F k0 n0) (hw : x_WL g Y L I H locs) {y : MethodName} {av : List Value} {Qc : Nat → x_L → x_I → Nat → Nat → Prop} {Xc : x_XT} (hC : x_C l y F' g av Y L I k n (x_pR Y tR Qc Xc)) (hh : x_has s y mL) (hy : x_yok y nA) (hF : F' + 1 ≤ F) (hL : 8 + (mL + 11) + 64 * F' ≤ 64 * F)
    (hls : ls.size = nL) (hr : (rest.map fun v => v.category).sum ≤ 8) (hkk : x_bd k0 n0 k n) {ig : Instr} (hdg : decode cc pc = .ok (ig, len))
    (ht : ∀ T : State, T.heap = H → Stand p l e R s m args below meth c T locs (k - k0) (n - n0) → ∃ (mk : MethodId) (vm₁ : Vm), s.methodNamed? y = some mk ∧ Stand p l e R s m args below meth c (T.setVm vm₁) locs (k - k0) (n - n0) ∧
      ∀ tg, Steps p.tables e below (doInvoke e ((T.setVm vm₁).setTop (F0 m pc ls rest)) [] mk av.toArray).1 tg → Steps p.tables e below (T.setTop (F0 m pc ls st)) tg)
    (kr : ∀ (v : Nat) (L' : x_L) (I' : x_I) (k' n' : Nat) (H' : Heap) (locs' : List Loc), x_ok Y tR v → Qc v L' I' k' n' → x_WL g Y L' I' H' locs' → x_bd k n k' n' → W p l e R s m args below meth c H' locs' (k' - k0) (n' - n0) Q (F0 m (pc + len) ls (.ref (x_ad Y tR v) :: rest)))
    (kt : ∀ (kx : Nat) (L' : x_L) (I' : x_I) (k' n' : Nat) (H' : Heap) (locs' : List Loc), Xc kx L' I' k' n' → x_WL g Y L' I' H' locs' → x_bd k n k' n' → WT p l e R s m args below meth c H' locs' (k' - k0) (n' - n0) Q (F0 m pc ls rest) kx) :
    W p l e R s m args below meth c H locs (k - k0) (n - n0) Q (F0 m pc ls st) :=
  x_go hE hw hC hh hy hF hL hls hr hkk hdg ht (fun v Y' L' I' k' n' H' locs' hP hw' hb => by
    obtain ⟨rfl, ⟨v', e1, h1, hq⟩ | ⟨kx, e1, hq⟩⟩ := hP
    · cases e1
      exact kr v' L' I' k' n' H' locs' h1 hq hw' hb
    · cases e1) (fun kx Y' L' I' k' n' H' locs' hP hw' hb => by
    obtain ⟨rfl, ⟨v', e1, h1, hq⟩ | ⟨kx', e1, hq⟩⟩ := hP
    · cases e1
    · cases e1
      exact kt kx L' I' k' n' H' locs' hq hw' hb)
end XG
