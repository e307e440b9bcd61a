section XA
variable {p : Program} {l : Launch} {e : Env} {R : Room} {s : State} {m : MethodId} {args : Array Value} {below : List Frame} {meth : Method} {c : Code} {H : Heap} {locs : List Loc} {cells slots : Nat} {Q : State → Prop}
variable {cc : ByteArray} {pc : Nat} {ls : Array Slot} {rest : List Value} {g : x_G} {Y : x_Y} {L : x_L} {I : x_I} {t i j : Nat}
theorem x_V0 (hs : x_sk t j = 0) : x_V Y L I t i j = .int (I t i j) := by unfold x_V; rw [hs]; rfl
theorem x_V1 (hs : x_sk t j = 1) : x_V Y L I t i j = .long (L t i j) := by unfold x_V; rw [hs]; rfl
theorem x_V2 (hs : x_sk t j = 2) : x_V Y L I t i j = va_rf (x_r Y t i j) := by unfold x_V; rw [hs]; rfl
theorem x_ska {e0 : Nat} (hk : x_kd t = (1, e0)) : x_sk t j = x_ek e0 := by unfold x_sk; rw [hk, if_neg Nat.one_ne_zero]
theorem x_skf {c0 : Nat} (hk : x_kd t = (0, c0)) : x_sk t j = x_dk (x_F c0 j).2.2.1 := by unfold x_sk; rw [hk, if_pos rfl]
theorem x_dI {d : String} (h : d = "I") : x_dk d = 0 ∧ x_dt d = .int := by subst h; decide
theorem x_dZ {d : String} (h : d = "Z") : x_dk d = 0 ∧ x_dt d = .boolean := by subst h; decide
theorem x_getI (hx : p.tables.exec = Jvm.exec) (hb : c.code = cc) (hK : x_K g s) (hw : x_WL g Y L I H locs) {own ref : String} (hown : s.vm.findClass own = some m.cls) (hok : x_ok Y t i) {c0 idx : Nat} (hk : x_kd t = (0, c0)) (hc : c0 < 9) (hj : j < x_nf c0)
    (hlink : (Cond.fieldLink own idx ref (x_F c0 j).2.1 (x_F c0 j).2.2.1).before args s = true) (hsame : ∀ x, s.fieldFound? (x_F c0 j).1 (x_F c0 j).2.1 (x_F c0 j).2.2.1 = some x → s.fieldFound? ref (x_F c0 j).2.1 (x_F c0 j).2.2.1 = some x) (hs : x_dk (x_F c0 j).2.2.1 = 0) (hdg : decode cc pc = .ok (.getfield idx, 3))
    (kk : W p l e R s m args below meth c H locs cells slots Q (F0 m (pc + 3) ls (.int (I t i j) :: rest))) : W p l e R s m args below meth c H locs cells slots Q (F0 m pc ls (.ref (x_ad Y t i) :: rest)) :=
  x_getv hx hb hK hw hown hok hk hc hj hlink hsame hdg (by rw [x_V0 ((x_skf hk).trans hs)]; exact kk)
theorem x_getR (hx : p.tables.exec = Jvm.exec) (hb : c.code = cc) (hK : x_K g s) (hw : x_WL g Y L I H locs) {own ref : String} (hown : s.vm.findClass own = some m.cls) (hok : x_ok Y t i) {c0 idx : Nat} (hk : x_kd t = (0, c0)) (hc : c0 < 9) (hj : j < x_nf c0)
    (hlink : (Cond.fieldLink own idx ref (x_F c0 j).2.1 (x_F c0 j).2.2.1).before args s = true) (hsame : ∀ x, s.fieldFound? (x_F c0 j).1 (x_F c0 j).2.1 (x_F c0 j).2.2.1 = some x → s.fieldFound? ref (x_F c0 j).2.1 (x_F c0 j).2.2.1 = some x) (hs : x_dk (x_F c0 j).2.2.1 = 2) {a : Nat} (hR : x_r Y t i j = some a) (hdg : decode cc pc = .ok (.getfield idx, 3))
    (kk : W p l e R s m args below meth c H locs cells slots Q (F0 m (pc + 3) ls (.ref a :: rest))) : W p l e R s m args below meth c H locs cells slots Q (F0 m pc ls (.ref (x_ad Y t i) :: rest)) :=
  x_getv hx hb hK hw hown hok hk hc hj hlink hsame hdg (by rw [x_V2 ((x_skf hk).trans hs), hR]; exact kk)
theorem x_putI (hx : p.tables.exec = Jvm.exec) (hb : c.code = cc) (hK : x_K g s) (hw : x_WL g Y L I H locs) {own ref : String} (hown : s.vm.findClass own = some m.cls) (hok : x_ok Y t i) {c0 idx : Nat} (hk : x_kd t = (0, c0)) (hc : c0 < 9) (hj : j < x_nf c0)
    (hlink : (Cond.fieldLink own idx ref (x_F c0 j).2.1 (x_F c0 j).2.2.1).before args s = true) (hsame : ∀ x, s.fieldFound? (x_F c0 j).1 (x_F c0 j).2.1 (x_F c0 j).2.2.1 = some x → s.fieldFound? ref (x_F c0 j).2.1 (x_F c0 j).2.2.1 = some x) (hfin : (x_F c0 j).2.2.2 = false) (hs : (x_F c0 j).2.2.1 = "I") {v : Int32} (hdg : decode cc pc = .ok (.putfield idx, 3))
    (kk : ∀ (I' : x_I) (H' : Heap) (locs' : List Loc), I' = x_u I t i j v → x_WL g Y L I' H' locs' → W p l e R s m args below meth c H' locs' cells slots Q (F0 m (pc + 3) ls rest)) : W p l e R s m args below meth c H locs cells slots Q (F0 m pc ls (.int v :: .ref (x_ad Y t i) :: rest)) :=
  x_put hx hb hK hw hown hok hk hc hj hlink hsame hfin (by rw [(x_dI hs).2]; rfl) (by rw [(x_dI hs).2]; rfl) hdg (x_same Y) (x_Vu Y L I t i j v ((x_skf hk).trans (x_dI hs).1)) (fun a b h => x_Vn Y L I v h) (fun H' locs' h => kk _ H' locs' rfl h)
theorem x_putZ (hx : p.tables.exec = Jvm.exec) (hb : c.code = cc) (hK : x_K g s) (hw : x_WL g Y L I H locs) {own ref : String} (hown : s.vm.findClass own = some m.cls) (hok : x_ok Y t i) {c0 idx : Nat} (hk : x_kd t = (0, c0)) (hc : c0 < 9) (hj : j < x_nf c0)
    (hlink : (Cond.fieldLink own idx ref (x_F c0 j).2.1 (x_F c0 j).2.2.1).before args s = true) (hsame : ∀ x, s.fieldFound? (x_F c0 j).1 (x_F c0 j).2.1 (x_F c0 j).2.2.1 = some x → s.fieldFound? ref (x_F c0 j).2.1 (x_F c0 j).2.2.1 = some x) (hfin : (x_F c0 j).2.2.2 = false) (hs : (x_F c0 j).2.2.1 = "Z") {v : Int32} (hv : v = 0 ∨ v = 1) (hdg : decode cc pc = .ok (.putfield idx, 3))
    (kk : ∀ (I' : x_I) (H' : Heap) (locs' : List Loc), I' = x_u I t i j v → x_WL g Y L I' H' locs' → W p l e R s m args below meth c H' locs' cells slots Q (F0 m (pc + 3) ls rest)) : W p l e R s m args below meth c H locs cells slots Q (F0 m pc ls (.int v :: .ref (x_ad Y t i) :: rest)) :=
  x_put hx hb hK hw hown hok hk hc hj hlink hsame hfin (by rw [(x_dZ hs).2]; rcases hv with rfl | rfl <;> decide) (by rw [(x_dZ hs).2]; rcases hv with rfl | rfl <;> decide) hdg (x_same Y) (x_Vu Y L I t i j v ((x_skf hk).trans (x_dZ hs).1)) (fun a b h => x_Vn Y L I v h) (fun H' locs' h => kk _ H' locs' rfl h)
theorem x_getIN (hx : p.tables.exec = Jvm.exec) (hb : c.code = cc) (hK : x_K g s) (hw : x_WL g Y L I H locs) {own ref host : String} (hown : s.vm.findClass own = some m.cls) (hok : x_ok Y t i) {c0 idx : Nat} (hk : x_kd t = (0, c0)) (hc : c0 < 9) (hj : j < x_nf c0)
    (hlink : (Cond.fieldLinkNest own idx ref (x_F c0 j).2.1 (x_F c0 j).2.2.1 host).before args s = true) (hsame : ∀ x, s.fieldFound? (x_F c0 j).1 (x_F c0 j).2.1 (x_F c0 j).2.2.1 = some x → s.fieldFound? ref (x_F c0 j).2.1 (x_F c0 j).2.2.1 = some x) (hs : x_dk (x_F c0 j).2.2.1 = 0) (hdg : decode cc pc = .ok (.getfield idx, 3))
    (kk : W p l e R s m args below meth c H locs cells slots Q (F0 m (pc + 3) ls (.int (I t i j) :: rest))) : W p l e R s m args below meth c H locs cells slots Q (F0 m pc ls (.ref (x_ad Y t i) :: rest)) :=
  x_getvN hx hb hK hw hown hok hk hc hj hlink hsame hdg (by rw [x_V0 ((x_skf hk).trans hs)]; exact kk)
theorem x_getRN (hx : p.tables.exec = Jvm.exec) (hb : c.code = cc) (hK : x_K g s) (hw : x_WL g Y L I H locs) {own ref host : String} (hown : s.vm.findClass own = some m.cls) (hok : x_ok Y t i) {c0 idx : Nat} (hk : x_kd t = (0, c0)) (hc : c0 < 9) (hj : j < x_nf c0)
    (hlink : (Cond.fieldLinkNest own idx ref (x_F c0 j).2.1 (x_F c0 j).2.2.1 host).before args s = true) (hsame : ∀ x, s.fieldFound? (x_F c0 j).1 (x_F c0 j).2.1 (x_F c0 j).2.2.1 = some x → s.fieldFound? ref (x_F c0 j).2.1 (x_F c0 j).2.2.1 = some x) (hs : x_dk (x_F c0 j).2.2.1 = 2) {a : Nat} (hR : x_r Y t i j = some a) (hdg : decode cc pc = .ok (.getfield idx, 3))
    (kk : W p l e R s m args below meth c H locs cells slots Q (F0 m (pc + 3) ls (.ref a :: rest))) : W p l e R s m args below meth c H locs cells slots Q (F0 m pc ls (.ref (x_ad Y t i) :: rest)) :=
  x_getvN hx hb hK hw hown hok hk hc hj hlink hsame hdg (by rw [x_V2 ((x_skf hk).trans hs), hR]; exact kk)
theorem x_putIN (hx : p.tables.exec = Jvm.exec) (hb : c.code = cc) (hK : x_K g s) (hw : x_WL g Y L I H locs) {own ref host : String} (hown : s.vm.findClass own = some m.cls) (hok : x_ok Y t i) {c0 idx : Nat} (hk : x_kd t = (0, c0)) (hc : c0 < 9) (hj : j < x_nf c0)
    (hlink : (Cond.fieldLinkNest own idx ref (x_F c0 j).2.1 (x_F c0 j).2.2.1 host).before args s = true) (hsame : ∀ x, s.fieldFound? (x_F c0 j).1 (x_F c0 j).2.1 (x_F c0 j).2.2.1 = some x → s.fieldFound? ref (x_F c0 j).2.1 (x_F c0 j).2.2.1 = some x) (hfin : (x_F c0 j).2.2.2 = false) (hs : (x_F c0 j).2.2.1 = "I") {v : Int32} (hdg : decode cc pc = .ok (.putfield idx, 3))
    (kk : ∀ (I' : x_I) (H' : Heap) (locs' : List Loc), I' = x_u I t i j v → x_WL g Y L I' H' locs' → W p l e R s m args below meth c H' locs' cells slots Q (F0 m (pc + 3) ls rest)) : W p l e R s m args below meth c H locs cells slots Q (F0 m pc ls (.int v :: .ref (x_ad Y t i) :: rest)) :=
  x_putN hx hb hK hw hown hok hk hc hj hlink hsame hfin (by rw [(x_dI hs).2]; rfl) (by rw [(x_dI hs).2]; rfl) hdg (x_same Y) (x_Vu Y L I t i j v ((x_skf hk).trans (x_dI hs).1)) (fun a b h => x_Vn Y L I v h) (fun H' locs' h => kk _ H' locs' rfl h)
theorem x_putZN (hx : p.tables.exec = Jvm.exec) (hb : c.code = cc) (hK : x_K g s) (hw : x_WL g Y L I H locs) {own ref host : String} (hown : s.vm.findClass own = some m.cls) (hok : x_ok Y t i) {c0 idx : Nat} (hk : x_kd t = (0, c0)) (hc : c0 < 9) (hj : j < x_nf c0)
    (hlink : (Cond.fieldLinkNest own idx ref (x_F c0 j).2.1 (x_F c0 j).2.2.1 host).before args s = true) (hsame : ∀ x, s.fieldFound? (x_F c0 j).1 (x_F c0 j).2.1 (x_F c0 j).2.2.1 = some x → s.fieldFound? ref (x_F c0 j).2.1 (x_F c0 j).2.2.1 = some x) (hfin : (x_F c0 j).2.2.2 = false) (hs : (x_F c0 j).2.2.1 = "Z") {v : Int32} (hv : v = 0 ∨ v = 1) (hdg : decode cc pc = .ok (.putfield idx, 3))
    (kk : ∀ (I' : x_I) (H' : Heap) (locs' : List Loc), I' = x_u I t i j v → x_WL g Y L I' H' locs' → W p l e R s m args below meth c H' locs' cells slots Q (F0 m (pc + 3) ls rest)) : W p l e R s m args below meth c H locs cells slots Q (F0 m pc ls (.int v :: .ref (x_ad Y t i) :: rest)) :=
  x_putN hx hb hK hw hown hok hk hc hj hlink hsame hfin (by rw [(x_dZ hs).2]; rcases hv with rfl | rfl <;> decide) (by rw [(x_dZ hs).2]; rcases hv with rfl | rfl <;> decide) hdg (x_same Y) (x_Vu Y L I t i j v ((x_skf hk).trans (x_dZ hs).1)) (fun a b h => x_Vn Y L I v h) (fun H' locs' h => kk _ H' locs' rfl h)
theorem x_iald (hx : p.tables.exec = Jvm.exec) (hb : c.code = cc) (hK : x_K g s) (hw : x_WL g Y L I H locs) (hok : x_ok Y t i) (hk : x_kd t = (1, 0)) {x : Int32} {n : Nat} (hn : x_n Y t i = n) (hin : vp_in x n) (hdg : decode cc pc = .ok (.iaload, 1))
    (kk : W p l e R s m args below meth c H locs cells slots Q (F0 m (pc + 1) ls (.int (I t i x.toNatClampNeg) :: rest))) : W p l e R s m args below meth c H locs cells slots Q (F0 m pc ls (.int x :: .ref (x_ad Y t i) :: rest)) := by
  subst hn
  have hlt : x.toNatClampNeg < x_n Y t i := Nat.not_le.mp fun q => hin (Or.inr q)
  exact W.iald (v := .int (I t i x.toNatClampNeg)) hx hb (hw.1.ar hok hk) ((hK.arr (by decide)).1 _ _) (fun q => by cases q) (by rw [arrV_size]; exact hin) (by rw [arrV_read _ _ hlt, x_V0 (x_ska hk)]) rfl rfl hdg kk
theorem x_lald (hx : p.tables.exec = Jvm.exec) (hb : c.code = cc) (hK : x_K g s) (hw : x_WL g Y L I H locs) (hok : x_ok Y t i) (hk : x_kd t = (1, 1)) {x : Int32} {n : Nat} (hn : x_n Y t i = n) (hin : vp_in x n) (hdg : decode cc pc = .ok (.laload, 1))
    (kk : W p l e R s m args below meth c H locs cells slots Q (F0 m (pc + 1) ls (.long (L t i x.toNatClampNeg) :: rest))) : W p l e R s m args below meth c H locs cells slots Q (F0 m pc ls (.int x :: .ref (x_ad Y t i) :: rest)) := by
  subst hn
  have hlt : x.toNatClampNeg < x_n Y t i := Nat.not_le.mp fun q => hin (Or.inr q)
  exact W.lald (v := .long (L t i x.toNatClampNeg)) hx hb (hw.1.ar hok hk) ((hK.arr (by decide)).1 _ _) (fun q => by cases q) (by rw [arrV_size]; exact hin) (by rw [arrV_read _ _ hlt, x_V1 (x_ska hk)]) rfl rfl hdg kk
theorem x_bald (hx : p.tables.exec = Jvm.exec) (hb : c.code = cc) (hK : x_K g s) (hw : x_WL g Y L I H locs) (hok : x_ok Y t i) (hk : x_kd t = (1, 2)) {x : Int32} {n : Nat} (hn : x_n Y t i = n) (hin : vp_in x n) (hdg : decode cc pc = .ok (.baload, 1))
    (kk : W p l e R s m args below meth c H locs cells slots Q (F0 m (pc + 1) ls (.int (I t i x.toNatClampNeg) :: rest))) : W p l e R s m args below meth c H locs cells slots Q (F0 m pc ls (.int x :: .ref (x_ad Y t i) :: rest)) := by
  subst hn
  have hlt : x.toNatClampNeg < x_n Y t i := Nat.not_le.mp fun q => hin (Or.inr q)
  exact W.bald (v := .int (I t i x.toNatClampNeg)) hx hb (hw.1.ar hok hk) ((hK.arr (by decide)).1 _ _) (fun q => by cases q) (by rw [arrV_size]; exact hin) (by rw [arrV_read _ _ hlt, x_V0 (x_ska hk)]) rfl rfl hdg kk
theorem x_zald (hx : p.tables.exec = Jvm.exec) (hb : c.code = cc) (hK : x_K g s) (hw : x_WL g Y L I H locs) (hok : x_ok Y t i) (hk : x_kd t = (1, 3)) {x : Int32} {n : Nat} (hn : x_n Y t i = n) (hin : vp_in x n) (hdg : decode cc pc = .ok (.baload, 1))
    (kk : W p l e R s m args below meth c H locs cells slots Q (F0 m (pc + 1) ls (.int (I t i x.toNatClampNeg) :: rest))) : W p l e R s m args below meth c H locs cells slots Q (F0 m pc ls (.int x :: .ref (x_ad Y t i) :: rest)) := by
  subst hn
  have hlt : x.toNatClampNeg < x_n Y t i := Nat.not_le.mp fun q => hin (Or.inr q)
  exact W.zald (v := .int (I t i x.toNatClampNeg)) hx hb (hw.1.ar hok hk) ((hK.arr (by decide)).1 _ _) (fun q => by cases q) (by rw [arrV_size]; exact hin) (by rw [arrV_read _ _ hlt, x_V0 (x_ska hk)]) rfl rfl hdg kk
theorem x_aald (hx : p.tables.exec = Jvm.exec) (hb : c.code = cc) (hK : x_K g s) (hw : x_WL g Y L I H locs) (hok : x_ok Y t i) {e0 : Nat} (hk : x_kd t = (1, e0)) (he : e0 < 7) (h4 : 4 ≤ e0) {x : Int32} {n a : Nat} (hn : x_n Y t i = n) (hin : vp_in x n) (hR : x_r Y t i x.toNatClampNeg = some a) (hdg : decode cc pc = .ok (.aaload, 1))
    (kk : W p l e R s m args below meth c H locs cells slots Q (F0 m (pc + 1) ls (.ref a :: rest))) : W p l e R s m args below meth c H locs cells slots Q (F0 m pc ls (.int x :: .ref (x_ad Y t i) :: rest)) := by
  subst hn
  have hlt : x.toNatClampNeg < x_n Y t i := Nat.not_le.mp fun q => hin (Or.inr q)
  have hek : x_ek e0 = 2 := by rcases (show e0 = 4 ∨ e0 = 5 ∨ e0 = 6 by omega) with rfl | rfl | rfl <;> rfl
  have hrf : (x_et e0).isReference = true := by rcases (show e0 = 4 ∨ e0 = 5 ∨ e0 = 6 by omega) with rfl | rfl | rfl <;> rfl
  exact W.aald (v := .ref a) hx hb (hw.1.ar hok hk) ((hK.arr he).1 _ _) hrf (fun q => by cases q) (by rw [arrV_size]; exact hin) (by rw [arrV_read _ _ hlt, x_V2 ((x_ska hk).trans hek), hR]; rfl) rfl rfl hdg kk
theorem x_alen (hx : p.tables.exec = Jvm.exec) (hb : c.code = cc) (hK : x_K g s) (hw : x_WL g Y L I H locs) (hok : x_ok Y t i) {e0 : Nat} (hk : x_kd t = (1, e0)) (he : e0 < 7) {n : Nat} (hn : x_n Y t i = n) (hdg : decode cc pc = .ok (.arraylength, 1))
    (kk : W p l e R s m args below meth c H locs cells slots Q (F0 m (pc + 1) ls (.int (nI n) :: rest))) : W p l e R s m args below meth c H locs cells slots Q (F0 m pc ls (.ref (x_ad Y t i) :: rest)) := by
  subst hn
  exact W.alen (n := nI (x_n Y t i)) hx hb (hw.1.ar hok hk) ((hK.arr he).1 _ _) (by rw [arrV_size]; rfl) rfl rfl hdg kk
theorem x_W.puta (h : x_W g Y L I H) (hok : x_ok Y t i) {e0 : Nat} (hk : x_kd t = (1, e0)) {L' : x_L} {I' : x_I} {H' : Heap} {v : Value} (e1 : H'[x_ad Y t i]? = some ((arrV (g.2.2.1 e0) (x_n Y t i) (x_V Y L I t i)).setSlot j v)) (hsz : H'.size = H.size) (hoth : ∀ q, q ≠ x_ad Y t i → H'[q]? = H[q]?)
    (hself : x_V Y L' I' t i = updV (x_V Y L I t i) j v) (hrest : ∀ a b, ¬ (a = t ∧ b = i) → x_V Y L' I' a b = x_V Y L I a b) : x_W g Y L' I' H' := by
  refine h.put hok hsz hoth (x_same Y) ?_ hrest
  unfold x_at
  rw [hk, if_neg Nat.one_ne_zero, hself, e1, arrV_store]
theorem x_iast (hx : p.tables.exec = Jvm.exec) (hb : c.code = cc) (hK : x_K g s) (hw : x_WL g Y L I H locs) (hok : x_ok Y t i) (hk : x_kd t = (1, 0)) {x : Int32} {v : Int32} {n : Nat} (hn : x_n Y t i = n) (hin : vp_in x n) (hdg : decode cc pc = .ok (.iastore, 1))
    (kk : ∀ (I' : x_I) (H' : Heap) (locs' : List Loc), I' = x_u I t i x.toNatClampNeg v → x_WL g Y L I' H' locs' → W p l e R s m args below meth c H' locs' cells slots Q (F0 m (pc + 1) ls rest)) : W p l e R s m args below meth c H locs cells slots Q (F0 m pc ls (.int v :: .int x :: .ref (x_ad Y t i) :: rest)) := by
  subst hn
  refine W.iast hx hb (hw.1.ar hok hk) ((hK.arr (by decide)).1 _ _) (fun q => by cases q) (by rw [arrV_size]; exact hin) rfl rfl hdg fun H1 e1 z oq => ?_
  exact kk _ H1 _ rfl (hw.lc (hw.1.puta (v := .int v) hok hk e1 z oq (x_Vu Y L I t i _ _ (x_ska hk)) (fun a b h => x_Vn Y L I _ h)) hok _)
theorem x_bast (hx : p.tables.exec = Jvm.exec) (hb : c.code = cc) (hK : x_K g s) (hw : x_WL g Y L I H locs) (hok : x_ok Y t i) (hk : x_kd t = (1, 2)) {x : Int32} {v : Int32} {n : Nat} (hn : x_n Y t i = n) (hin : vp_in x n) (hdg : decode cc pc = .ok (.bastore, 1))
    (kk : ∀ (I' : x_I) (H' : Heap) (locs' : List Loc), I' = x_u I t i x.toNatClampNeg (vp_nar .byte v) → x_WL g Y L I' H' locs' → W p l e R s m args below meth c H' locs' cells slots Q (F0 m (pc + 1) ls rest)) : W p l e R s m args below meth c H locs cells slots Q (F0 m pc ls (.int v :: .int x :: .ref (x_ad Y t i) :: rest)) := by
  subst hn
  refine W.bast hx hb (hw.1.ar hok hk) ((hK.arr (by decide)).1 _ _) (fun q => by cases q) (by rw [arrV_size]; exact hin) rfl rfl hdg fun H1 e1 z oq => ?_
  exact kk _ H1 _ rfl (hw.lc (hw.1.puta (v := .int (vp_nar .byte v)) hok hk e1 z oq (x_Vu Y L I t i _ _ (x_ska hk)) (fun a b h => x_Vn Y L I _ h)) hok _)
theorem x_zast (hx : p.tables.exec = Jvm.exec) (hb : c.code = cc) (hK : x_K g s) (hw : x_WL g Y L I H locs) (hok : x_ok Y t i) (hk : x_kd t = (1, 3)) {x : Int32} {v : Int32} {n : Nat} (hn : x_n Y t i = n) (hin : vp_in x n) (hdg : decode cc pc = .ok (.bastore, 1))
    (kk : ∀ (I' : x_I) (H' : Heap) (locs' : List Loc), I' = x_u I t i x.toNatClampNeg (vp_nar .boolean v) → x_WL g Y L I' H' locs' → W p l e R s m args below meth c H' locs' cells slots Q (F0 m (pc + 1) ls rest)) : W p l e R s m args below meth c H locs cells slots Q (F0 m pc ls (.int v :: .int x :: .ref (x_ad Y t i) :: rest)) := by
  subst hn
  refine W.zast hx hb (hw.1.ar hok hk) ((hK.arr (by decide)).1 _ _) (fun q => by cases q) (by rw [arrV_size]; exact hin) rfl rfl hdg fun H1 e1 z oq => ?_
  exact kk _ H1 _ rfl (hw.lc (hw.1.puta (v := .int (vp_nar .boolean v)) hok hk e1 z oq (x_Vu Y L I t i _ _ (x_ska hk)) (fun a b h => x_Vn Y L I _ h)) hok _)
theorem x_last (hx : p.tables.exec = Jvm.exec) (hb : c.code = cc) (hK : x_K g s) (hw : x_WL g Y L I H locs) (hok : x_ok Y t i) (hk : x_kd t = (1, 1)) {x : Int32} {v : Int64} {n : Nat} (hn : x_n Y t i = n) (hin : vp_in x n) (hdg : decode cc pc = .ok (.lastore, 1))
    (kk : ∀ (L' : x_L) (H' : Heap) (locs' : List Loc), L' = x_ul L t i x.toNatClampNeg v → x_WL g Y L' I H' locs' → W p l e R s m args below meth c H' locs' cells slots Q (F0 m (pc + 1) ls rest)) : W p l e R s m args below meth c H locs cells slots Q (F0 m pc ls (.long v :: .int x :: .ref (x_ad Y t i) :: rest)) := by
  subst hn
  refine W.last hx hb (hw.1.ar hok hk) ((hK.arr (by decide)).1 _ _) (fun q => by cases q) (by rw [arrV_size]; exact hin) rfl rfl hdg fun H1 e1 z oq => ?_
  exact kk _ H1 _ rfl (hw.lc (hw.1.puta (v := .long v) hok hk e1 z oq (x_Vul Y L I t i _ _ (x_ska hk)) (fun a b h => x_Vnl Y L I _ h)) hok _)
end XA
