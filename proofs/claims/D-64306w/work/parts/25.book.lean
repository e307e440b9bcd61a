def w_Book_has (Q : Int32 → Prop) (p1 : Int32) (I : x_I) : Prop :=
  ((p1 < 0 →
    Q (0 : Int32)) ∧
  (¬ p1 < 0 →
    (((I 2 0 1) ≤ p1 →
      Q (0 : Int32)) ∧
    (¬ (I 2 0 1) ≤ p1 →
      Q (1 : Int32)))))
set_option maxRecDepth 100000 in
set_option maxHeartbeats 4000000 in
theorem c_Book_has {l : Launch} {g : x_G} {Y : x_Y} (hY : x_Y0 g Y) {p1 : Int32} (ok0_ : x_ok Y 1 0) {Q : Int32 → Prop} {L : x_L} {I : x_I} {k n : Nat} (h : w_Book_has Q p1 I) : x_C l y_Book_has 5 g [.ref (x_ad Y 1 0), .int p1] Y L I k n (x_pI Y (fun v L' I' k' n' => L' = L ∧ I' = I ∧ k' = k ∧ n' = n ∧ Q v) x_nx) := by
  refine x_mth k_538 ?_
  intro p e R s m below meth c hE hnm hexn hw hk1 hn1
  obtain ⟨hx, hb, hml, hr, hlk, hown, hK, htr, hF, hLo, hRc, hRs⟩ := id hE
  have hbd : x_bd k n k n := ⟨Nat.le_refl _, hk1, Nat.le_refl _, hn1⟩
  have hl := lv_entry ([.ref (x_ad Y 1 0), .int p1]) (n := 2) (Nat.le_of_ble_eq_true rfl)
  generalize (lg_sl [.ref (x_ad Y 1 0), .int p1] ++ List.replicate (2 - (lg_sl [.ref (x_ad Y 1 0), .int p1]).length) Slot.unset).toArray = ls at hl ⊢
  have hl : lv_has ls 2 [(0, .ref (x_ad Y 1 0)), (1, .int p1)] := hl
  generalize s.heap = H at hw ⊢
  generalize ([] : List Loc) = locs at hw ⊢
  unfold w_Book_has at h
  refine lv_iload_n hx hb d_Book_has_0 rfl (lv_at hl 1 rfl) ?_
  refine lv_if_lt (tgt := 21) hx hb d_Book_has_1 (by decide) (fun c1 => ?_) (fun c1 => ?_)
  · replace h := h.1 c1
    refine lv_iconst (v := 0) hx hb d_Book_has_21 (by decide) ?_
    exact x_zret hx hb hr hlk hw (Or.inl rfl) ⟨rfl, Or.inl ⟨_, rfl, ⟨rfl, rfl, rfl, rfl, h⟩⟩⟩ hbd d_Book_has_22
  · replace h := h.2 c1
    refine lv_iload_n hx hb d_Book_has_4 rfl (lv_at hl 1 rfl) ?_
    refine lv_aload_n hx hb d_Book_has_5 rfl (lv_at hl 0 rfl) ?_
    refine x_getR (t := 1) (i := 0) (j := 0) hx hb hK hw hown ok0_ rfl (by decide) (by decide) (x_wd hK k_128 rfl) (fun _ h => h) fk_1_0 (hY.r ok0_ rfl) d_Book_has_6 ?_
    have ok2 := hY.ok 0 ok0_ (t' := 2) (i' := 0) rfl
    refine x_lsize (rest := [.int p1]) hE hw ok2 k_540 (by decide) hl.1 (Nat.le_of_ble_eq_true rfl) hbd d_Book_has_9 (fun H locs hw => ?_)
    refine lv_icmp_ge (tgt := 21) hx hb d_Book_has_14 (by decide) (fun c3 => ?_) (fun c3 => ?_)
    · replace h := h.1 c3
      refine lv_iconst (v := 0) hx hb d_Book_has_21 (by decide) ?_
      exact x_zret hx hb hr hlk hw (Or.inl rfl) ⟨rfl, Or.inl ⟨_, rfl, ⟨rfl, rfl, rfl, rfl, h⟩⟩⟩ hbd d_Book_has_22
    · replace h := h.2 c3
      refine lv_iconst (v := 1) hx hb d_Book_has_17 (by decide) ?_
      refine lv_goto (tgt := 22) hx hb d_Book_has_18 (by decide) ?_
      exact x_zret hx hb hr hlk hw (Or.inr rfl) ⟨rfl, Or.inl ⟨_, rfl, ⟨rfl, rfl, rfl, rfl, h⟩⟩⟩ hbd d_Book_has_22
def w_Book_balance (Q : Int32 → Prop) (nA : Nat) (p1 : Int32) (I : x_I) : Prop :=
  w_Book_has (fun r1 =>
    ((r1 = 0 →
      Q (-1 : Int32)) ∧
    (¬ r1 = 0 →
      ∃ a4 : Nat, a4 < nA ∧ p1 = nI a4 ∧ I 2 0 1 = nI nA ∧
      Q (I 23 a4 0)))) p1 I
set_option maxRecDepth 100000 in
set_option maxHeartbeats 4000000 in
theorem c_Book_balance {l : Launch} {g : x_G} {Y : x_Y} (hY : x_Y0 g Y) {nA : Nat} (hLs : x_Ls Y nA) {p1 : Int32} (ok0_ : x_ok Y 1 0) {Q : Int32 → Prop} {L : x_L} {I : x_I} {k n : Nat} (h : w_Book_balance Q nA p1 I) : x_C l y_Book_balance 6 g [.ref (x_ad Y 1 0), .int p1] Y L I k n (x_pI Y (fun v L' I' k' n' => L' = L ∧ I' = I ∧ k' = k ∧ n' = n ∧ Q v) x_nx) := by
  refine x_mth k_747 ?_
  intro p e R s m below meth c hE hnm hexn hw hk1 hn1
  obtain ⟨hx, hb, hml, hr, hlk, hown, hK, htr, hF, hLo, hRc, hRs⟩ := id hE
  have hbd : x_bd k n k n := ⟨Nat.le_refl _, hk1, Nat.le_refl _, hn1⟩
  have hl := lv_entry ([.ref (x_ad Y 1 0), .int p1]) (n := 2) (Nat.le_of_ble_eq_true rfl)
  generalize (lg_sl [.ref (x_ad Y 1 0), .int p1] ++ List.replicate (2 - (lg_sl [.ref (x_ad Y 1 0), .int p1]).length) Slot.unset).toArray = ls at hl ⊢
  have hl : lv_has ls 2 [(0, .ref (x_ad Y 1 0)), (1, .int p1)] := hl
  generalize s.heap = H at hw ⊢
  generalize ([] : List Loc) = locs at hw ⊢
  unfold w_Book_balance at h
  refine lv_aload_n hx hb d_Book_balance_0 rfl (lv_at hl 0 rfl) ?_
  refine lv_iload_n hx hb d_Book_balance_1 rfl (lv_at hl 1 rfl) ?_
  refine x_goI (ls := ls) (rest := []) hE hw (c_Book_has hY ok0_ h) (x_cd hK k_538) q_Book_has (by decide) (by decide) hl.1 (Nat.le_of_ble_eq_true rfl) hbd d_Book_balance_2 (x_toV (As := [.int p1]) (b := (x_ad Y 1 0)) hx hb hown hK (x_recv hK hw ok0_ rfl (by decide)) k_748 k_536 k_537 ⟨_, x_cd hK k_538⟩ q_Book_has rfl rfl d_Book_balance_2) (fun r1 L9 I9 k9 n9 H locs h hw hb9 => ?_) (fun _ _ _ _ _ _ _ h9 => h9.elim)
  obtain ⟨e1, e2, e3, e4, h⟩ := h
  rw [e1, e2] at hw
  rw [e3, e4]
  refine lv_if_eq (tgt := 27) hx hb d_Book_balance_5 (by decide) (fun c2 => ?_) (fun c2 => ?_)
  · replace h := h.1 c2
    refine lv_iconst (v := (-1)) hx hb d_Book_balance_27 (by decide) ?_
    exact x_iret hx hb hr hlk hw ⟨rfl, Or.inl ⟨_, rfl, ⟨rfl, rfl, rfl, rfl, h⟩⟩⟩ hbd d_Book_balance_28
  · replace h := h.2 c2
    refine lv_aload_n hx hb d_Book_balance_8 rfl (lv_at hl 0 rfl) ?_
    refine x_getR (t := 1) (i := 0) (j := 0) hx hb hK hw hown ok0_ rfl (by decide) (by decide) (x_wd hK k_128 rfl) (fun _ h => h) fk_1_0 (hY.r ok0_ rfl) d_Book_balance_9 ?_
    have ok3 := hY.ok 0 ok0_ (t' := 2) (i' := 0) rfl
    refine lv_iload_n hx hb d_Book_balance_12 rfl (lv_at hl 1 rfl) ?_
    obtain ⟨a4, l_a4, e_a4, hsz, h⟩ := h
    refine x_lget (a := a4) (rest := []) hE hw hLs ok3 k_635 (by decide) hl.1 (Nat.le_of_ble_eq_true rfl) hbd l_a4 e_a4 hsz k_636 d_Book_balance_13 d_Book_balance_18 (fun H locs hw => ?_)
    have ok5 := (hLs (Nat.lt_of_le_of_lt (Nat.zero_le _) l_a4)).2.2.2.2 a4 l_a4 |>.2
    refine x_getIN (t := 23) (i := a4) (j := 0) hx hb hK hw hown ok5 rfl (by decide) (by decide) (x_wdF hK k_415) (fun _ h => h) fk_7_0 d_Book_balance_21 ?_
    refine lv_goto (tgt := 28) hx hb d_Book_balance_24 (by decide) ?_
    exact x_iret hx hb hr hlk hw ⟨rfl, Or.inl ⟨_, rfl, ⟨rfl, rfl, rfl, rfl, h⟩⟩⟩ hbd d_Book_balance_28
def w_Book_stored (Q : Int32 → Prop) (p1 : Int32) (p2 : Int32) (L : x_L) (I : x_I) : Prop :=
  w_Book_place (fun r2 =>
    w_Tab_get (fun r3 =>
      Q r3) r2 L I) p1 p2
set_option maxRecDepth 100000 in
set_option maxHeartbeats 4000000 in
theorem c_Book_stored {l : Launch} {g : x_G} {Y : x_Y} (hY : x_Y0 g Y) {p1 : Int32} {p2 : Int32} (ok0_ : x_ok Y 1 0) {Q : Int32 → Prop} {L : x_L} {I : x_I} {k n : Nat} (h : w_Book_stored Q p1 p2 L I) : x_C l y_Book_stored 3 g [.ref (x_ad Y 1 0), .int p1, .int p2] Y L I k n (x_pI Y (fun v L' I' k' n' => L' = L ∧ I' = I ∧ k' = k ∧ n' = n ∧ Q v) x_nx) := by
  refine x_mth k_675 ?_
  intro p e R s m below meth c hE hnm hexn hw hk1 hn1
  obtain ⟨hx, hb, hml, hr, hlk, hown, hK, htr, hF, hLo, hRc, hRs⟩ := id hE
  have hbd : x_bd k n k n := ⟨Nat.le_refl _, hk1, Nat.le_refl _, hn1⟩
  have hl := lv_entry ([.ref (x_ad Y 1 0), .int p1, .int p2]) (n := 3) (Nat.le_of_ble_eq_true rfl)
  generalize (lg_sl [.ref (x_ad Y 1 0), .int p1, .int p2] ++ List.replicate (3 - (lg_sl [.ref (x_ad Y 1 0), .int p1, .int p2]).length) Slot.unset).toArray = ls at hl ⊢
  have hl : lv_has ls 3 [(0, .ref (x_ad Y 1 0)), (1, .int p1), (2, .int p2)] := hl
  generalize s.heap = H at hw ⊢
  generalize ([] : List Loc) = locs at hw ⊢
  unfold w_Book_stored at h
  refine lv_aload_n hx hb d_Book_stored_0 rfl (lv_at hl 0 rfl) ?_
  refine x_getR (t := 1) (i := 0) (j := 1) hx hb hK hw hown ok0_ rfl (by decide) (by decide) (x_wd hK k_131 rfl) (fun _ h => h) fk_1_1 (hY.r ok0_ rfl) d_Book_stored_1 ?_
  have ok1 := hY.ok 1 ok0_ (t' := 4) (i' := 0) rfl
  refine lv_iload_n hx hb d_Book_stored_4 rfl (lv_at hl 1 rfl) ?_
  refine lv_iload_n hx hb d_Book_stored_5 rfl (lv_at hl 2 rfl) ?_
  refine x_goL (ls := ls) (rest := [.ref (x_ad Y 4 0)]) hE hw (c_Book_place hY h) (x_cd hK k_678) q_Book_place (by decide) (by decide) hl.1 (Nat.le_of_ble_eq_true rfl) hbd d_Book_stored_6 (x_toS (As := [.int p1, .int p2]) hx hb hown hK k_676 k_677 k_2 ⟨_, x_cd hK k_678⟩ q_Book_place rfl rfl d_Book_stored_6) (fun r2 L9 I9 k9 n9 H locs h hw hb9 => ?_) (fun _ _ _ _ _ _ _ h9 => h9.elim)
  obtain ⟨e1, e2, e3, e4, h⟩ := h
  rw [e1, e2] at hw
  rw [e3, e4]
  refine x_goI (ls := ls) (rest := []) hE hw (c_Tab_get hY ok1 h) (x_cd hK k_683) q_Tab_get (by decide) (by decide) hl.1 (Nat.le_of_ble_eq_true rfl) hbd d_Book_stored_9 (x_toV (As := [.long r2]) (b := (x_ad Y 4 0)) hx hb hown hK (x_recv hK hw ok1 rfl (by decide)) k_680 k_681 k_682 ⟨_, x_cd hK k_683⟩ q_Tab_get rfl rfl d_Book_stored_9) (fun r3 L9 I9 k9 n9 H locs h hw hb9 => ?_) (fun _ _ _ _ _ _ _ h9 => h9.elim)
  obtain ⟨e1, e2, e3, e4, h⟩ := h
  rw [e1, e2] at hw
  rw [e3, e4]
  exact x_iret hx hb hr hlk hw ⟨rfl, Or.inl ⟨_, rfl, ⟨rfl, rfl, rfl, rfl, h⟩⟩⟩ hbd d_Book_stored_12
def w_Book_set (Q : x_L → x_I → Nat → Nat → Prop) (p1 : Int32) (p2 : Int32) (p3 : Int32) (L : x_L) (I : x_I) (k n : Nat) : Prop :=
  w_Book_place (fun r2 =>
    w_Tab_set (fun L3 I4 k5 n5 =>
      Q L3 I4 k5 n5) r2 p3 L I k n) p1 p2
set_option maxRecDepth 100000 in
set_option maxHeartbeats 4000000 in
theorem c_Book_set {l : Launch} {g : x_G} {Y : x_Y} (hY : x_Y0 g Y) (hT18 : ¬ x_ok Y 18 0) (hT19 : ¬ x_ok Y 19 0) {p1 : Int32} {p2 : Int32} {p3 : Int32} (ok0_ : x_ok Y 1 0) {Q : x_L → x_I → Nat → Nat → Prop} {L : x_L} {I : x_I} {k n : Nat} (h : w_Book_set Q p1 p2 p3 L I k n) : x_C l y_Book_set 4 g [.ref (x_ad Y 1 0), .int p1, .int p2, .int p3] Y L I k n (x_pV Y (fun L' I' k' n' => Q L' I' k' n') x_nx) := by
  refine x_mth k_731 ?_
  intro p e R s m below meth c hE hnm hexn hw hk1 hn1
  obtain ⟨hx, hb, hml, hr, hlk, hown, hK, htr, hF, hLo, hRc, hRs⟩ := id hE
  have hbd : x_bd k n k n := ⟨Nat.le_refl _, hk1, Nat.le_refl _, hn1⟩
  have hl := lv_entry ([.ref (x_ad Y 1 0), .int p1, .int p2, .int p3]) (n := 4) (Nat.le_of_ble_eq_true rfl)
  generalize (lg_sl [.ref (x_ad Y 1 0), .int p1, .int p2, .int p3] ++ List.replicate (4 - (lg_sl [.ref (x_ad Y 1 0), .int p1, .int p2, .int p3]).length) Slot.unset).toArray = ls at hl ⊢
  have hl : lv_has ls 4 [(0, .ref (x_ad Y 1 0)), (1, .int p1), (2, .int p2), (3, .int p3)] := hl
  generalize s.heap = H at hw ⊢
  generalize ([] : List Loc) = locs at hw ⊢
  unfold w_Book_set at h
  refine lv_aload_n hx hb d_Book_set_0 rfl (lv_at hl 0 rfl) ?_
  refine x_getR (t := 1) (i := 0) (j := 1) hx hb hK hw hown ok0_ rfl (by decide) (by decide) (x_wd hK k_131 rfl) (fun _ h => h) fk_1_1 (hY.r ok0_ rfl) d_Book_set_1 ?_
  have ok1 := hY.ok 1 ok0_ (t' := 4) (i' := 0) rfl
  refine lv_iload_n hx hb d_Book_set_4 rfl (lv_at hl 1 rfl) ?_
  refine lv_iload_n hx hb d_Book_set_5 rfl (lv_at hl 2 rfl) ?_
  refine x_goL (ls := ls) (rest := [.ref (x_ad Y 4 0)]) hE hw (c_Book_place hY h) (x_cd hK k_678) q_Book_place (by decide) (by decide) hl.1 (Nat.le_of_ble_eq_true rfl) hbd d_Book_set_6 (x_toS (As := [.int p1, .int p2]) hx hb hown hK k_676 k_677 k_2 ⟨_, x_cd hK k_678⟩ q_Book_place rfl rfl d_Book_set_6) (fun r2 L9 I9 k9 n9 H locs h hw hb9 => ?_) (fun _ _ _ _ _ _ _ h9 => h9.elim)
  obtain ⟨e1, e2, e3, e4, h⟩ := h
  rw [e1, e2] at hw
  rw [e3, e4]
  refine lv_iload_n hx hb d_Book_set_9 rfl (lv_at hl 3 rfl) ?_
  refine x_goV (ls := ls) (rest := []) hE hw (c_Tab_set hY hT18 hT19 ok1 h) (x_cd hK k_735) q_Tab_set (by decide) (by decide) hl.1 (Nat.le_of_ble_eq_true rfl) hbd d_Book_set_10 (x_toV (As := [.long r2, .int p3]) (b := (x_ad Y 4 0)) hx hb hown hK (x_recv hK hw ok1 rfl (by decide)) k_732 k_733 k_734 ⟨_, x_cd hK k_735⟩ q_Tab_set rfl rfl d_Book_set_10) (fun L3 I4 k5 n5 H locs h hw hb9 => ?_) (fun _ _ _ _ _ _ _ h9 => h9.elim)
  replace hbd := hbd.tr hb9
  try dsimp only at h
  exact x_vret hx hb hr hlk hw ⟨rfl, Or.inl ⟨rfl, h⟩⟩ hbd d_Book_set_13
def w_Book_store (Q : x_L → x_I → Nat → Nat → Prop) (p1 : Int32) (p2 : Int32) (p3 : Int32) (L : x_L) (I : x_I) (k n : Nat) : Prop :=
  w_Book_stored (fun r2 =>
    w_Jou_add (fun I3 =>
      w_Book_set (fun L4 I5 k6 n6 =>
        Q L4 I5 k6 n6) p1 p2 p3 L I3 k n) p1 (1 : Int32) p2 r2 I) p1 p2 L I
set_option maxRecDepth 100000 in
set_option maxHeartbeats 4000000 in
theorem c_Book_store {l : Launch} {g : x_G} {Y : x_Y} (hY : x_Y0 g Y) (hT18 : ¬ x_ok Y 18 0) (hT19 : ¬ x_ok Y 19 0) {p1 : Int32} {p2 : Int32} {p3 : Int32} (ok0_ : x_ok Y 1 0) {Q : x_L → x_I → Nat → Nat → Prop} {L : x_L} {I : x_I} {k n : Nat} (h : w_Book_store Q p1 p2 p3 L I k n) : x_C l y_Book_store 5 g [.ref (x_ad Y 1 0), .int p1, .int p2, .int p3] Y L I k n (x_pV Y (fun L' I' k' n' => Q L' I' k' n') x_nx) := by
  refine x_mth k_726 ?_
  intro p e R s m below meth c hE hnm hexn hw hk1 hn1
  obtain ⟨hx, hb, hml, hr, hlk, hown, hK, htr, hF, hLo, hRc, hRs⟩ := id hE
  have hbd : x_bd k n k n := ⟨Nat.le_refl _, hk1, Nat.le_refl _, hn1⟩
  have hl := lv_entry ([.ref (x_ad Y 1 0), .int p1, .int p2, .int p3]) (n := 4) (Nat.le_of_ble_eq_true rfl)
  generalize (lg_sl [.ref (x_ad Y 1 0), .int p1, .int p2, .int p3] ++ List.replicate (4 - (lg_sl [.ref (x_ad Y 1 0), .int p1, .int p2, .int p3]).length) Slot.unset).toArray = ls at hl ⊢
  have hl : lv_has ls 4 [(0, .ref (x_ad Y 1 0)), (1, .int p1), (2, .int p2), (3, .int p3)] := hl
  generalize s.heap = H at hw ⊢
  generalize ([] : List Loc) = locs at hw ⊢
  unfold w_Book_store at h
  refine lv_aload_n hx hb d_Book_store_0 rfl (lv_at hl 0 rfl) ?_
  refine x_getR (t := 1) (i := 0) (j := 2) hx hb hK hw hown ok0_ rfl (by decide) (by decide) (x_wd hK k_134 rfl) (fun _ h => h) fk_1_2 (hY.r ok0_ rfl) d_Book_store_1 ?_
  have ok1 := hY.ok 2 ok0_ (t' := 8) (i' := 0) rfl
  refine lv_iload_n hx hb d_Book_store_4 rfl (lv_at hl 1 rfl) ?_
  refine lv_iconst (v := 1) hx hb d_Book_store_5 (by decide) ?_
  refine lv_iload_n hx hb d_Book_store_6 rfl (lv_at hl 2 rfl) ?_
  refine lv_aload_n hx hb d_Book_store_7 rfl (lv_at hl 0 rfl) ?_
  refine lv_iload_n hx hb d_Book_store_8 rfl (lv_at hl 1 rfl) ?_
  refine lv_iload_n hx hb d_Book_store_9 rfl (lv_at hl 2 rfl) ?_
  refine x_goI (ls := ls) (rest := [.int p2, .int (1 : Int32), .int p1, .ref (x_ad Y 8 0)]) hE hw (c_Book_stored hY ok0_ h) (x_cd hK k_675) q_Book_stored (by decide) (by decide) hl.1 (Nat.le_of_ble_eq_true rfl) hbd d_Book_store_10 (x_toV (As := [.int p1, .int p2]) (b := (x_ad Y 1 0)) hx hb hown hK (x_recv hK hw ok0_ rfl (by decide)) k_727 k_673 k_674 ⟨_, x_cd hK k_675⟩ q_Book_stored rfl rfl d_Book_store_10) (fun r2 L9 I9 k9 n9 H locs h hw hb9 => ?_) (fun _ _ _ _ _ _ _ h9 => h9.elim)
  obtain ⟨e1, e2, e3, e4, h⟩ := h
  rw [e1, e2] at hw
  rw [e3, e4]
  refine x_goV (ls := ls) (rest := []) hE hw (c_Jou_add hY ok1 h) (x_cd hK k_640) q_Jou_add (by decide) (by decide) hl.1 (Nat.le_of_ble_eq_true rfl) hbd d_Book_store_13 (x_toV (As := [.int p1, .int (1 : Int32), .int p2, .int r2]) (b := (x_ad Y 8 0)) hx hb hown hK (x_recv hK hw ok1 rfl (by decide)) k_637 k_638 k_639 ⟨_, x_cd hK k_640⟩ q_Jou_add rfl rfl d_Book_store_13) (fun L9 I3 k9 n9 H locs h hw hb9 => ?_) (fun _ _ _ _ _ _ _ h9 => h9.elim)
  obtain ⟨e1, e3, e4, h⟩ := h
  rw [e1] at hw
  rw [e3, e4]
  refine lv_aload_n hx hb d_Book_store_16 rfl (lv_at hl 0 rfl) ?_
  refine lv_iload_n hx hb d_Book_store_17 rfl (lv_at hl 1 rfl) ?_
  refine lv_iload_n hx hb d_Book_store_18 rfl (lv_at hl 2 rfl) ?_
  refine lv_iload_n hx hb d_Book_store_19 rfl (lv_at hl 3 rfl) ?_
  refine x_goV (ls := ls) (rest := []) hE hw (c_Book_set hY hT18 hT19 ok0_ h) (x_cd hK k_731) q_Book_set (by decide) (by decide) hl.1 (Nat.le_of_ble_eq_true rfl) hbd d_Book_store_20 (x_toV (As := [.int p1, .int p2, .int p3]) (b := (x_ad Y 1 0)) hx hb hown hK (x_recv hK hw ok0_ rfl (by decide)) k_728 k_730 ks_17 ⟨_, x_cd hK k_731⟩ q_Book_set rfl rfl d_Book_store_20) (fun L4 I5 k6 n6 H locs h hw hb9 => ?_) (fun _ _ _ _ _ _ _ h9 => h9.elim)
  replace hbd := hbd.tr hb9
  try dsimp only at h
  exact x_vret hx hb hr hlk hw ⟨rfl, Or.inl ⟨rfl, h⟩⟩ hbd d_Book_store_23
def w_Book_pay (Q : x_I → Prop) (nA : Nat) (p1 : Int32) (p2 : Int32) (I : x_I) : Prop :=
  ∃ a2 : Nat, a2 < nA ∧ p1 = nI a2 ∧ I 2 0 1 = nI nA ∧
  w_Jou_add (fun I5 =>
    ∀ I6 : x_I, I6 = x_u I5 23 a2 0 ((I5 23 a2 0) + p2) →
    Q I6) p1 (0 : Int32) (0 : Int32) (I 23 a2 0) I
set_option maxRecDepth 100000 in
set_option maxHeartbeats 4000000 in
theorem c_Book_pay {l : Launch} {g : x_G} {Y : x_Y} (hY : x_Y0 g Y) {nA : Nat} (hLs : x_Ls Y nA) {p1 : Int32} {p2 : Int32} (ok0_ : x_ok Y 1 0) {Q : x_I → Prop} {L : x_L} {I : x_I} {k n : Nat} (h : w_Book_pay Q nA p1 p2 I) : x_C l y_Book_pay 5 g [.ref (x_ad Y 1 0), .int p1, .int p2] Y L I k n (x_pV Y (fun L' I' k' n' => L' = L ∧ k' = k ∧ n' = n ∧ Q I') x_nx) := by
  refine x_mth k_633 ?_
  intro p e R s m below meth c hE hnm hexn hw hk1 hn1
  obtain ⟨hx, hb, hml, hr, hlk, hown, hK, htr, hF, hLo, hRc, hRs⟩ := id hE
  have hbd : x_bd k n k n := ⟨Nat.le_refl _, hk1, Nat.le_refl _, hn1⟩
  have hl := lv_entry ([.ref (x_ad Y 1 0), .int p1, .int p2]) (n := 4) (Nat.le_of_ble_eq_true rfl)
  generalize (lg_sl [.ref (x_ad Y 1 0), .int p1, .int p2] ++ List.replicate (4 - (lg_sl [.ref (x_ad Y 1 0), .int p1, .int p2]).length) Slot.unset).toArray = ls at hl ⊢
  have hl : lv_has ls 4 [(0, .ref (x_ad Y 1 0)), (1, .int p1), (2, .int p2)] := hl
  generalize s.heap = H at hw ⊢
  generalize ([] : List Loc) = locs at hw ⊢
  unfold w_Book_pay at h
  refine lv_aload_n hx hb d_Book_pay_0 rfl (lv_at hl 0 rfl) ?_
  refine x_getR (t := 1) (i := 0) (j := 0) hx hb hK hw hown ok0_ rfl (by decide) (by decide) (x_wd hK k_128 rfl) (fun _ h => h) fk_1_0 (hY.r ok0_ rfl) d_Book_pay_1 ?_
  have ok1 := hY.ok 0 ok0_ (t' := 2) (i' := 0) rfl
  refine lv_iload_n hx hb d_Book_pay_4 rfl (lv_at hl 1 rfl) ?_
  obtain ⟨a2, l_a2, e_a2, hsz, h⟩ := h
  refine x_lget (a := a2) (rest := []) hE hw hLs ok1 k_635 (by decide) hl.1 (Nat.le_of_ble_eq_true rfl) hbd l_a2 e_a2 hsz k_636 d_Book_pay_5 d_Book_pay_10 (fun H locs hw => ?_)
  have ok3 := (hLs (Nat.lt_of_le_of_lt (Nat.zero_le _) l_a2)).2.2.2.2 a2 l_a2 |>.2
  refine lv_astore_n (lv' := [(3, .ref (x_ad Y 23 a2)), (0, .ref (x_ad Y 1 0)), (1, .int p1), (2, .int p2)]) hx hb d_Book_pay_13 rfl hl (by decide) rfl (fun ls hl => ?_)
  refine lv_aload_n hx hb d_Book_pay_14 rfl (lv_at hl 1 rfl) ?_
  refine x_getR (t := 1) (i := 0) (j := 2) hx hb hK hw hown ok0_ rfl (by decide) (by decide) (x_wd hK k_134 rfl) (fun _ h => h) fk_1_2 (hY.r ok0_ rfl) d_Book_pay_15 ?_
  have ok4 := hY.ok 2 ok0_ (t' := 8) (i' := 0) rfl
  refine lv_iload_n hx hb d_Book_pay_18 rfl (lv_at hl 2 rfl) ?_
  refine lv_iconst (v := 0) hx hb d_Book_pay_19 (by decide) ?_
  refine lv_iconst (v := 0) hx hb d_Book_pay_20 (by decide) ?_
  refine lv_aload_n hx hb d_Book_pay_21 rfl (lv_at hl 0 rfl) ?_
  refine x_getIN (t := 23) (i := a2) (j := 0) hx hb hK hw hown ok3 rfl (by decide) (by decide) (x_wdF hK k_415) (fun _ h => h) fk_7_0 d_Book_pay_22 ?_
  refine x_goV (ls := ls) (rest := []) hE hw (c_Jou_add hY ok4 h) (x_cd hK k_640) q_Jou_add (by decide) (by decide) hl.1 (Nat.le_of_ble_eq_true rfl) hbd d_Book_pay_25 (x_toV (As := [.int p1, .int (0 : Int32), .int (0 : Int32), .int (I 23 a2 0)]) (b := (x_ad Y 8 0)) hx hb hown hK (x_recv hK hw ok4 rfl (by decide)) k_637 k_638 k_639 ⟨_, x_cd hK k_640⟩ q_Jou_add rfl rfl d_Book_pay_25) (fun L9 I5 k9 n9 H locs h hw hb9 => ?_) (fun _ _ _ _ _ _ _ h9 => h9.elim)
  obtain ⟨e1, e3, e4, h⟩ := h
  rw [e1] at hw
  rw [e3, e4]
  refine lv_aload_n hx hb d_Book_pay_28 rfl (lv_at hl 0 rfl) ?_
  refine lv_dup hx hb d_Book_pay_29 rfl ?_
  refine x_getIN (t := 23) (i := a2) (j := 0) hx hb hK hw hown ok3 rfl (by decide) (by decide) (x_wdF hK k_415) (fun _ h => h) fk_7_0 d_Book_pay_30 ?_
  refine lv_iload_n hx hb d_Book_pay_33 rfl (lv_at hl 3 rfl) ?_
  refine lv_iadd hx hb d_Book_pay_34 ?_
  refine x_putIN (t := 23) (i := a2) (j := 0) hx hb hK hw hown ok3 rfl (by decide) (by decide) (x_wdF hK k_415) (fun _ h => h) rfl rfl d_Book_pay_35 (fun I6 H locs e_I6 hw => ?_)
  replace h := h I6 e_I6
  exact x_vret hx hb hr hlk hw ⟨rfl, Or.inl ⟨rfl, ⟨rfl, rfl, rfl, h⟩⟩⟩ hbd d_Book_pay_38
def w_Book_move (Q : x_I → Prop) (nA : Nat) (p1 : Int32) (p2 : Int32) (p3 : Int32) (I : x_I) : Prop :=
  w_Book_pay (fun I1 =>
    w_Book_pay (fun I2 =>
      Q I2) nA p2 p3 I1) nA p1 (-p3) I
set_option maxRecDepth 100000 in
set_option maxHeartbeats 4000000 in
theorem c_Book_move {l : Launch} {g : x_G} {Y : x_Y} (hY : x_Y0 g Y) {nA : Nat} (hLs : x_Ls Y nA) {p1 : Int32} {p2 : Int32} {p3 : Int32} (ok0_ : x_ok Y 1 0) {Q : x_I → Prop} {L : x_L} {I : x_I} {k n : Nat} (h : w_Book_move Q nA p1 p2 p3 I) : x_C l y_Book_move 6 g [.ref (x_ad Y 1 0), .int p1, .int p2, .int p3] Y L I k n (x_pV Y (fun L' I' k' n' => L' = L ∧ k' = k ∧ n' = n ∧ Q I') x_nx) := by
  refine x_mth k_629 ?_
  intro p e R s m below meth c hE hnm hexn hw hk1 hn1
  obtain ⟨hx, hb, hml, hr, hlk, hown, hK, htr, hF, hLo, hRc, hRs⟩ := id hE
  have hbd : x_bd k n k n := ⟨Nat.le_refl _, hk1, Nat.le_refl _, hn1⟩
  have hl := lv_entry ([.ref (x_ad Y 1 0), .int p1, .int p2, .int p3]) (n := 4) (Nat.le_of_ble_eq_true rfl)
  generalize (lg_sl [.ref (x_ad Y 1 0), .int p1, .int p2, .int p3] ++ List.replicate (4 - (lg_sl [.ref (x_ad Y 1 0), .int p1, .int p2, .int p3]).length) Slot.unset).toArray = ls at hl ⊢
  have hl : lv_has ls 4 [(0, .ref (x_ad Y 1 0)), (1, .int p1), (2, .int p2), (3, .int p3)] := hl
  generalize s.heap = H at hw ⊢
  generalize ([] : List Loc) = locs at hw ⊢
  unfold w_Book_move at h
  refine lv_aload_n hx hb d_Book_move_0 rfl (lv_at hl 0 rfl) ?_
  refine lv_iload_n hx hb d_Book_move_1 rfl (lv_at hl 1 rfl) ?_
  refine lv_iload_n hx hb d_Book_move_2 rfl (lv_at hl 3 rfl) ?_
  refine lv_ineg hx hb d_Book_move_3 ?_
  refine x_goV (ls := ls) (rest := []) hE hw (c_Book_pay hY hLs ok0_ h) (x_cd hK k_633) q_Book_pay (by decide) (by decide) hl.1 (Nat.le_of_ble_eq_true rfl) hbd d_Book_move_4 (x_toV (As := [.int p1, .int (-p3)]) (b := (x_ad Y 1 0)) hx hb hown hK (x_recv hK hw ok0_ rfl (by decide)) k_630 k_631 k_632 ⟨_, x_cd hK k_633⟩ q_Book_pay rfl rfl d_Book_move_4) (fun L9 I1 k9 n9 H locs h hw hb9 => ?_) (fun _ _ _ _ _ _ _ h9 => h9.elim)
  obtain ⟨e1, e3, e4, h⟩ := h
  rw [e1] at hw
  rw [e3, e4]
  refine lv_aload_n hx hb d_Book_move_7 rfl (lv_at hl 0 rfl) ?_
  refine lv_iload_n hx hb d_Book_move_8 rfl (lv_at hl 2 rfl) ?_
  refine lv_iload_n hx hb d_Book_move_9 rfl (lv_at hl 3 rfl) ?_
  refine x_goV (ls := ls) (rest := []) hE hw (c_Book_pay hY hLs ok0_ h) (x_cd hK k_633) q_Book_pay (by decide) (by decide) hl.1 (Nat.le_of_ble_eq_true rfl) hbd d_Book_move_10 (x_toV (As := [.int p2, .int p3]) (b := (x_ad Y 1 0)) hx hb hown hK (x_recv hK hw ok0_ rfl (by decide)) k_630 k_631 k_632 ⟨_, x_cd hK k_633⟩ q_Book_pay rfl rfl d_Book_move_10) (fun L9 I2 k9 n9 H locs h hw hb9 => ?_) (fun _ _ _ _ _ _ _ h9 => h9.elim)
  obtain ⟨e1, e3, e4, h⟩ := h
  rw [e1] at hw
  rw [e3, e4]
  exact x_vret hx hb hr hlk hw ⟨rfl, Or.inl ⟨rfl, ⟨rfl, rfl, rfl, h⟩⟩⟩ hbd d_Book_move_13
def w_Book_undo_0 (Q : x_L → x_I → Nat → Nat → Prop) (nA : Nat) : Nat → Int32 → Int32 → x_L → x_I → Nat → Nat → Prop
  | 0, _, _, _, _, _, _ => False
  | fu + 1, v1, v2, L, I, ka, na =>
    (((I 8 0 4) ≤ v1 →
      ∀ I3 : x_I, I3 = x_u I 1 0 4 v2 →
      Q L I3 ka na) ∧
    (¬ (I 8 0 4) ≤ v1 →
      ∀ I4 : x_I, I4 = x_u I 8 0 4 ((I 8 0 4) - (1 : Int32)) →
      ∀ x5 : Int32, x5 = (I4 8 0 4) →
      vp_in x5 2048 ∧
      (((I4 10 0 x5.toNatClampNeg) = 0 →
        vp_in x5 2048 ∧
        ∃ a10 : Nat, a10 < nA ∧ (I4 9 0 x5.toNatClampNeg) = nI a10 ∧ I4 2 0 1 = nI nA ∧
        vp_in x5 2048 ∧
        ∀ I13 : x_I, I13 = x_u I4 23 a10 0 (I4 12 0 x5.toNatClampNeg) →
        w_Book_undo_0 Q nA fu v1 v2 L I13 ka na) ∧
      (¬ (I4 10 0 x5.toNatClampNeg) = 0 →
        vp_in x5 2048 ∧
        vp_in x5 2048 ∧
        vp_in x5 2048 ∧
        w_Book_set (fun L17 I18 k19 n19 =>
          w_Book_undo_0 Q nA fu v1 v2 L17 I18 k19 n19) (I4 9 0 x5.toNatClampNeg) (I4 11 0 x5.toNatClampNeg) (I4 12 0 x5.toNatClampNeg) L I4 ka na))))
def w_Book_undo (Q : x_L → x_I → Nat → Nat → Prop) (nA : Nat) (p1 : Int32) (p2 : Int32) (L : x_L) (I : x_I) (k n : Nat) : Prop :=
  ∃ fu : Nat, w_Book_undo_0 Q nA fu p1 p2 L I k n
set_option maxRecDepth 100000 in
set_option maxHeartbeats 4000000 in
theorem c_Book_undo_0 {l : Launch} {g : x_G} {Y : x_Y} {p : Program} {e : Env} {R : Room} {s : State} {m : MethodId} {args : Array Value} {below : List Frame} {meth : Method} {c : Code} {k n : Nat} (hE : x_E l g p e R s m meth c "CallLedger$Book" prog_3_method_11_code 4 none 5 k n) (hexn : c.exceptionTable.toList = []) (hY : x_Y0 g Y) {nA : Nat} (hLs : x_Ls Y nA) (hT18 : ¬ x_ok Y 18 0) (hT19 : ¬ x_ok Y 19 0) (ok0_ : x_ok Y 1 0) {Q : x_L → x_I → Nat → Nat → Prop} :
    ∀ (fu : Nat) (v1 : Int32) (v2 : Int32) (L : x_L) (I : x_I) (ka na : Nat) (H : Heap) (locs : List Loc) (ls : Array Slot), w_Book_undo_0 Q nA fu v1 v2 L I ka na → x_WL g Y L I H locs → x_bd k n ka na → lv_has ls 4 [(0, .ref (x_ad Y 1 0)), (1, .int v1), (2, .int v2)] → W p l e R s m args below meth c H locs (ka - k) (na - n) (x_Q g below s k n (x_pV Y (fun L' I' k' n' => Q L' I' k' n') x_nx)) (F0 m 0 ls []) := by
  obtain ⟨hx, hb, hml, hr, hlk, hown, hK, htr, hF, hLo, hRc, hRs⟩ := id hE
  intro fu
  induction fu with
  | zero =>
    intro v1 v2 L I ka na H locs ls h
    exact h.elim
  | succ fu ih =>
    intro v1 v2 L I ka na H locs ls h hw hbd hl
    unfold w_Book_undo_0 at h
    refine lv_aload_n hx hb d_Book_undo_0 rfl (lv_at hl 0 rfl) ?_
    refine x_getR (t := 1) (i := 0) (j := 2) hx hb hK hw hown ok0_ rfl (by decide) (by decide) (x_wd hK k_134 rfl) (fun _ h => h) fk_1_2 (hY.r ok0_ rfl) d_Book_undo_1 ?_
    have ok1 := hY.ok 2 ok0_ (t' := 8) (i' := 0) rfl
    refine x_getIN (t := 8) (i := 0) (j := 4) hx hb hK hw hown ok1 rfl (by decide) (by decide) (x_wdF hK k_114) (fun _ h => h) fk_4_4 d_Book_undo_4 ?_
    refine lv_iload_n hx hb d_Book_undo_7 rfl (lv_at hl 1 rfl) ?_
    refine lv_icmp_le (tgt := 114) hx hb d_Book_undo_8 (by decide) (fun c2 => ?_) (fun c2 => ?_)
    · replace h := h.1 c2
      refine lv_aload_n hx hb d_Book_undo_114 rfl (lv_at hl 0 rfl) ?_
      refine lv_iload_n hx hb d_Book_undo_115 rfl (lv_at hl 2 rfl) ?_
      refine x_putI (t := 1) (i := 0) (j := 4) hx hb hK hw hown ok0_ rfl (by decide) (by decide) (x_wd hK k_139 rfl) (fun _ h => h) rfl rfl d_Book_undo_116 (fun I3 H locs e_I3 hw => ?_)
      replace h := h I3 e_I3
      exact x_vret hx hb hr hlk hw ⟨rfl, Or.inl ⟨rfl, h⟩⟩ hbd d_Book_undo_119
    · replace h := h.2 c2
      refine lv_aload_n hx hb d_Book_undo_11 rfl (lv_at hl 0 rfl) ?_
      refine x_getR (t := 1) (i := 0) (j := 2) hx hb hK hw hown ok0_ rfl (by decide) (by decide) (x_wd hK k_134 rfl) (fun _ h => h) fk_1_2 (hY.r ok0_ rfl) d_Book_undo_12 ?_
      refine lv_dup hx hb d_Book_undo_15 rfl ?_
      refine x_getIN (t := 8) (i := 0) (j := 4) hx hb hK hw hown ok1 rfl (by decide) (by decide) (x_wdF hK k_114) (fun _ h => h) fk_4_4 d_Book_undo_16 ?_
      refine lv_iconst (v := 1) hx hb d_Book_undo_19 (by decide) ?_
      refine lv_isub hx hb d_Book_undo_20 ?_
      refine x_putIN (t := 8) (i := 0) (j := 4) hx hb hK hw hown ok1 rfl (by decide) (by decide) (x_wdF hK k_114) (fun _ h => h) rfl rfl d_Book_undo_21 (fun I4 H locs e_I4 hw => ?_)
      replace h := h I4 e_I4
      refine lv_aload_n hx hb d_Book_undo_24 rfl (lv_at hl 0 rfl) ?_
      refine x_getR (t := 1) (i := 0) (j := 2) hx hb hK hw hown ok0_ rfl (by decide) (by decide) (x_wd hK k_134 rfl) (fun _ h => h) fk_1_2 (hY.r ok0_ rfl) d_Book_undo_25 ?_
      refine x_getIN (t := 8) (i := 0) (j := 4) hx hb hK hw hown ok1 rfl (by decide) (by decide) (x_wdF hK k_114) (fun _ h => h) fk_4_4 d_Book_undo_28 ?_
      refine lv_topi (fun x5 e_x5 => ?_)
      replace h := h x5 e_x5
      refine lv_istore_n (lv' := [(3, .int x5), (0, .ref (x_ad Y 1 0)), (1, .int v1), (2, .int v2)]) hx hb d_Book_undo_31 rfl hl (by decide) rfl (fun ls hl => ?_)
      refine lv_aload_n hx hb d_Book_undo_32 rfl (lv_at hl 1 rfl) ?_
      refine x_getR (t := 1) (i := 0) (j := 2) hx hb hK hw hown ok0_ rfl (by decide) (by decide) (x_wd hK k_134 rfl) (fun _ h => h) fk_1_2 (hY.r ok0_ rfl) d_Book_undo_33 ?_
      refine x_getRN (t := 8) (i := 0) (j := 1) hx hb hK hw hown ok1 rfl (by decide) (by decide) (x_wdF hK k_107) (fun _ h => h) fk_4_1 (hY.r ok1 rfl) d_Book_undo_36 ?_
      have ok6 := hY.ok 1 ok1 (t' := 10) (i' := 0) rfl
      refine lv_iload_n hx hb d_Book_undo_39 rfl (lv_at hl 0 rfl) ?_
      refine x_zald (t := 10) (i := 0) hx hb hK hw ok6 rfl (hY.n ok6 rfl) h.1 d_Book_undo_40 ?_
      replace h := h.2
      refine lv_if_eq (tgt := 78) hx hb d_Book_undo_41 (by decide) (fun c7 => ?_) (fun c7 => ?_)
      · replace h := h.1 c7
        refine lv_aload_n hx hb d_Book_undo_78 rfl (lv_at hl 1 rfl) ?_
        refine x_getR (t := 1) (i := 0) (j := 0) hx hb hK hw hown ok0_ rfl (by decide) (by decide) (x_wd hK k_128 rfl) (fun _ h => h) fk_1_0 (hY.r ok0_ rfl) d_Book_undo_79 ?_
        have ok8 := hY.ok 0 ok0_ (t' := 2) (i' := 0) rfl
        refine lv_aload_n hx hb d_Book_undo_82 rfl (lv_at hl 1 rfl) ?_
        refine x_getR (t := 1) (i := 0) (j := 2) hx hb hK hw hown ok0_ rfl (by decide) (by decide) (x_wd hK k_134 rfl) (fun _ h => h) fk_1_2 (hY.r ok0_ rfl) d_Book_undo_83 ?_
        refine x_getRN (t := 8) (i := 0) (j := 0) hx hb hK hw hown ok1 rfl (by decide) (by decide) (x_wdF hK k_105) (fun _ h => h) fk_4_0 (hY.r ok1 rfl) d_Book_undo_86 ?_
        have ok9 := hY.ok 0 ok1 (t' := 9) (i' := 0) rfl
        refine lv_iload_n hx hb d_Book_undo_89 rfl (lv_at hl 0 rfl) ?_
        refine x_bald (t := 9) (i := 0) hx hb hK hw ok9 rfl (hY.n ok9 rfl) h.1 d_Book_undo_90 ?_
        replace h := h.2
        obtain ⟨a10, l_a10, e_a10, hsz, h⟩ := h
        refine x_lget (a := a10) (rest := []) hE hw hLs ok8 k_635 (by decide) hl.1 (Nat.le_of_ble_eq_true rfl) hbd l_a10 e_a10 hsz k_636 d_Book_undo_91 d_Book_undo_96 (fun H locs hw => ?_)
        have ok11 := (hLs (Nat.lt_of_le_of_lt (Nat.zero_le _) l_a10)).2.2.2.2 a10 l_a10 |>.2
        refine lv_aload_n hx hb d_Book_undo_99 rfl (lv_at hl 1 rfl) ?_
        refine x_getR (t := 1) (i := 0) (j := 2) hx hb hK hw hown ok0_ rfl (by decide) (by decide) (x_wd hK k_134 rfl) (fun _ h => h) fk_1_2 (hY.r ok0_ rfl) d_Book_undo_100 ?_
        refine x_getRN (t := 8) (i := 0) (j := 3) hx hb hK hw hown ok1 rfl (by decide) (by decide) (x_wdF hK k_111) (fun _ h => h) fk_4_3 (hY.r ok1 rfl) d_Book_undo_103 ?_
        have ok12 := hY.ok 3 ok1 (t' := 12) (i' := 0) rfl
        refine lv_iload_n hx hb d_Book_undo_106 rfl (lv_at hl 0 rfl) ?_
        refine x_iald (t := 12) (i := 0) hx hb hK hw ok12 rfl (hY.n ok12 rfl) h.1 d_Book_undo_107 ?_
        replace h := h.2
        refine x_putIN (t := 23) (i := a10) (j := 0) hx hb hK hw hown ok11 rfl (by decide) (by decide) (x_wdF hK k_415) (fun _ h => h) rfl rfl d_Book_undo_108 (fun I13 H locs e_I13 hw => ?_)
        replace h := h I13 e_I13
        refine lv_goto (tgt := 0) hx hb d_Book_undo_111 (by decide) ?_
        exact ih v1 v2 L I13 ka na H locs ls h hw hbd (lv_sub hl [1, 2, 3] rfl)
      · replace h := h.2 c7
        refine lv_aload_n hx hb d_Book_undo_44 rfl (lv_at hl 1 rfl) ?_
        refine lv_aload_n hx hb d_Book_undo_45 rfl (lv_at hl 1 rfl) ?_
        refine x_getR (t := 1) (i := 0) (j := 2) hx hb hK hw hown ok0_ rfl (by decide) (by decide) (x_wd hK k_134 rfl) (fun _ h => h) fk_1_2 (hY.r ok0_ rfl) d_Book_undo_46 ?_
        refine x_getRN (t := 8) (i := 0) (j := 0) hx hb hK hw hown ok1 rfl (by decide) (by decide) (x_wdF hK k_105) (fun _ h => h) fk_4_0 (hY.r ok1 rfl) d_Book_undo_49 ?_
        have ok14 := hY.ok 0 ok1 (t' := 9) (i' := 0) rfl
        refine lv_iload_n hx hb d_Book_undo_52 rfl (lv_at hl 0 rfl) ?_
        refine x_bald (t := 9) (i := 0) hx hb hK hw ok14 rfl (hY.n ok14 rfl) h.1 d_Book_undo_53 ?_
        replace h := h.2
        refine lv_aload_n hx hb d_Book_undo_54 rfl (lv_at hl 1 rfl) ?_
        refine x_getR (t := 1) (i := 0) (j := 2) hx hb hK hw hown ok0_ rfl (by decide) (by decide) (x_wd hK k_134 rfl) (fun _ h => h) fk_1_2 (hY.r ok0_ rfl) d_Book_undo_55 ?_
        refine x_getRN (t := 8) (i := 0) (j := 2) hx hb hK hw hown ok1 rfl (by decide) (by decide) (x_wdF hK k_109) (fun _ h => h) fk_4_2 (hY.r ok1 rfl) d_Book_undo_58 ?_
        have ok15 := hY.ok 2 ok1 (t' := 11) (i' := 0) rfl
        refine lv_iload_n hx hb d_Book_undo_61 rfl (lv_at hl 0 rfl) ?_
        refine x_iald (t := 11) (i := 0) hx hb hK hw ok15 rfl (hY.n ok15 rfl) h.1 d_Book_undo_62 ?_
        replace h := h.2
        refine lv_aload_n hx hb d_Book_undo_63 rfl (lv_at hl 1 rfl) ?_
        refine x_getR (t := 1) (i := 0) (j := 2) hx hb hK hw hown ok0_ rfl (by decide) (by decide) (x_wd hK k_134 rfl) (fun _ h => h) fk_1_2 (hY.r ok0_ rfl) d_Book_undo_64 ?_
        refine x_getRN (t := 8) (i := 0) (j := 3) hx hb hK hw hown ok1 rfl (by decide) (by decide) (x_wdF hK k_111) (fun _ h => h) fk_4_3 (hY.r ok1 rfl) d_Book_undo_67 ?_
        have ok16 := hY.ok 3 ok1 (t' := 12) (i' := 0) rfl
        refine lv_iload_n hx hb d_Book_undo_70 rfl (lv_at hl 0 rfl) ?_
        refine x_iald (t := 12) (i := 0) hx hb hK hw ok16 rfl (hY.n ok16 rfl) h.1 d_Book_undo_71 ?_
        replace h := h.2
        refine x_goV (ls := ls) (rest := []) hE hw (c_Book_set hY hT18 hT19 ok0_ h) (x_cd hK k_731) q_Book_set (by decide) (by decide) hl.1 (Nat.le_of_ble_eq_true rfl) hbd d_Book_undo_72 (x_toV (As := [.int (I4 9 0 x5.toNatClampNeg), .int (I4 11 0 x5.toNatClampNeg), .int (I4 12 0 x5.toNatClampNeg)]) (b := (x_ad Y 1 0)) hx hb hown hK (x_recv hK hw ok0_ rfl (by decide)) k_728 k_730 ks_17 ⟨_, x_cd hK k_731⟩ q_Book_set rfl rfl d_Book_undo_72) (fun L17 I18 k19 n19 H locs h hw hb9 => ?_) (fun _ _ _ _ _ _ _ h9 => h9.elim)
        replace hbd := hbd.tr hb9
        try dsimp only at h
        refine lv_goto (tgt := 111) hx hb d_Book_undo_75 (by decide) ?_
        refine lv_goto (tgt := 0) hx hb d_Book_undo_111 (by decide) ?_
        exact ih v1 v2 L17 I18 k19 n19 H locs ls h hw hbd (lv_sub hl [1, 2, 3] rfl)
set_option maxRecDepth 100000 in
set_option maxHeartbeats 4000000 in
theorem c_Book_undo {l : Launch} {g : x_G} {Y : x_Y} (hY : x_Y0 g Y) {nA : Nat} (hLs : x_Ls Y nA) (hT18 : ¬ x_ok Y 18 0) (hT19 : ¬ x_ok Y 19 0) {p1 : Int32} {p2 : Int32} (ok0_ : x_ok Y 1 0) {Q : x_L → x_I → Nat → Nat → Prop} {L : x_L} {I : x_I} {k n : Nat} (h : w_Book_undo Q nA p1 p2 L I k n) : x_C l y_Book_undo 5 g [.ref (x_ad Y 1 0), .int p1, .int p2] Y L I k n (x_pV Y (fun L' I' k' n' => Q L' I' k' n') x_nx) := by
  refine x_mth k_768 ?_
  intro p e R s m below meth c hE hnm hexn hw hk1 hn1
  obtain ⟨hx, hb, hml, hr, hlk, hown, hK, htr, hF, hLo, hRc, hRs⟩ := id hE
  have hbd : x_bd k n k n := ⟨Nat.le_refl _, hk1, Nat.le_refl _, hn1⟩
  have hl := lv_entry ([.ref (x_ad Y 1 0), .int p1, .int p2]) (n := 4) (Nat.le_of_ble_eq_true rfl)
  generalize (lg_sl [.ref (x_ad Y 1 0), .int p1, .int p2] ++ List.replicate (4 - (lg_sl [.ref (x_ad Y 1 0), .int p1, .int p2]).length) Slot.unset).toArray = ls at hl ⊢
  have hl : lv_has ls 4 [(0, .ref (x_ad Y 1 0)), (1, .int p1), (2, .int p2)] := hl
  generalize s.heap = H at hw ⊢
  generalize ([] : List Loc) = locs at hw ⊢
  unfold w_Book_undo at h
  obtain ⟨fu, h⟩ := h
  exact c_Book_undo_0 hE hexn hY hLs hT18 hT19 ok0_ fu p1 p2 L I k n H locs ls h hw hbd (lv_sub hl [0, 1, 2] rfl)
def w_Run_trap (Q : x_I → Nat → Nat → Prop) (X : x_XT) (d : Nat) (p1 : Int32) (L : x_L) (I : x_I) (k n : Nat) : Prop :=
  ∀ I1 : x_I, I1 = x_u I 20 d 13 p1 →
  ∀ I2 : x_I, I2 = x_u I1 20 d 11 (0 : Int32) →
  ∀ I3 : x_I, I3 = x_u I2 20 d 12 (0 : Int32) →
  k + 1 ≤ 600288 ∧ n + 6 ≤ 7292554 ∧ X 2 L I3 (k + 1) (n + 6)
set_option maxRecDepth 100000 in
set_option maxHeartbeats 4000000 in
theorem c_Run_trap {l : Launch} {g : x_G} {Y : x_Y} (hY : x_Y0 g Y) {d : Nat} {p1 : Int32} (ok0_ : x_ok Y 20 d) {Q : x_I → Nat → Nat → Prop} {X : x_XT} {L : x_L} {I : x_I} {k n : Nat} (h : w_Run_trap Q X d p1 L I k n) : x_C l y_Run_trap 6 g [.ref (x_ad Y 20 d), .int p1] Y L I k n (x_pV Y (fun L' I' k' n' => L' = L ∧ Q I' k' n') X) := by
  refine x_mth k_695 ?_
  intro p e R s m below meth c hE hnm hexn hw hk1 hn1
  obtain ⟨hx, hb, hml, hr, hlk, hown, hK, htr, hF, hLo, hRc, hRs⟩ := id hE
  have hbd : x_bd k n k n := ⟨Nat.le_refl _, hk1, Nat.le_refl _, hn1⟩
  have hl := lv_entry ([.ref (x_ad Y 20 d), .int p1]) (n := 2) (Nat.le_of_ble_eq_true rfl)
  generalize (lg_sl [.ref (x_ad Y 20 d), .int p1] ++ List.replicate (2 - (lg_sl [.ref (x_ad Y 20 d), .int p1]).length) Slot.unset).toArray = ls at hl ⊢
  have hl : lv_has ls 2 [(0, .ref (x_ad Y 20 d)), (1, .int p1)] := hl
  generalize s.heap = H at hw ⊢
  generalize ([] : List Loc) = locs at hw ⊢
  unfold w_Run_trap at h
  refine lv_aload_n hx hb d_Run_trap_0 rfl (lv_at hl 0 rfl) ?_
  refine lv_iload_n hx hb d_Run_trap_1 rfl (lv_at hl 1 rfl) ?_
  refine x_putI (t := 20) (i := d) (j := 13) hx hb hK hw hown ok0_ rfl (by decide) (by decide) (x_wd hK k_189 rfl) (fun _ h => h) rfl rfl d_Run_trap_2 (fun I1 H locs e_I1 hw => ?_)
  replace h := h I1 e_I1
  refine lv_aload_n hx hb d_Run_trap_5 rfl (lv_at hl 0 rfl) ?_
  refine lv_iconst (v := 0) hx hb d_Run_trap_6 (by decide) ?_
  refine x_putI (t := 20) (i := d) (j := 11) hx hb hK hw hown ok0_ rfl (by decide) (by decide) (x_wd hK k_185 rfl) (fun _ h => h) rfl rfl d_Run_trap_7 (fun I2 H locs e_I2 hw => ?_)
  replace h := h I2 e_I2
  refine lv_aload_n hx hb d_Run_trap_10 rfl (lv_at hl 0 rfl) ?_
  refine lv_iconst (v := 0) hx hb d_Run_trap_11 (by decide) ?_
  refine x_putI (t := 20) (i := d) (j := 12) hx hb hK hw hown ok0_ rfl (by decide) (by decide) (x_wd hK k_187 rfl) (fun _ h => h) rfl rfl d_Run_trap_12 (fun I3 H locs e_I3 hw => ?_)
  replace h := h I3 e_I3
  exact x_throw (kx := 2) hE hexn hw x_xk_Run (by decide) k_625 k_577 k_27 k_696 (by decide) (Nat.le_of_ble_eq_true rfl) hl.1 h.1 h.2.1 hbd d_Run_trap_15 d_Run_trap_18 d_Run_trap_19 d_Run_trap_21 d_Run_trap_24 ⟨rfl, Or.inr ⟨_, rfl, h.2.2⟩⟩
def w_Run_price (Q : Int32 → Prop) (d : Nat) (i : Nat) (L : x_L) (I : x_I) : Prop :=
  ((¬ i = 27 →
    ((¬ i = 19 →
      Q (x_efv 3 i)) ∧
    (i = 19 →
      (((2 : Int32) ≤ (I 20 d 9) →
        w_Run_peek (fun r5 =>
          w_Book_stored (fun r6 =>
            w_Run_peek (fun r7 =>
              ((¬ r6 = r7 →
                ((¬ r6 = 0 →
                  Q (20 : Int32)) ∧
                (r6 = 0 →
                  Q (40 : Int32)))) ∧
              (r6 = r7 →
                Q (x_efv 3 i)))) d (0 : Int32) I) (I 20 d 4) r5 L I) d (1 : Int32) I) ∧
      (¬ (2 : Int32) ≤ (I 20 d 9) →
        Q (x_efv 3 i)))))) ∧
  (i = 27 →
    (((I 20 d 9) ≤ (1 : Int32) →
      Q (x_efv 3 i)) ∧
    (¬ (I 20 d 9) ≤ (1 : Int32) →
      w_Run_peek (fun r11 =>
        ((r11 = 0 →
          Q (x_efv 3 i)) ∧
        (¬ r11 = 0 →
          Q ((x_efv 3 i) + (15 : Int32))))) d (1 : Int32) I))))
set_option maxRecDepth 100000 in
set_option maxHeartbeats 4000000 in
theorem c_Run_price {l : Launch} {g : x_G} {Y : x_Y} (hY : x_Y0 g Y) {d : Nat} {i : Nat} (ok0_ : x_ok Y 20 d) (e_i : i < 30) {Q : Int32 → Prop} {L : x_L} {I : x_I} {k n : Nat} (h : w_Run_price Q d i L I) : x_C l y_Run_price 4 g [.ref (x_ad Y 20 d), .ref (g.2.2.2.2 i)] Y L I k n (x_pI Y (fun v L' I' k' n' => L' = L ∧ I' = I ∧ k' = k ∧ n' = n ∧ Q v) x_nx) := by
  refine x_mth k_663 ?_
  intro p e R s m below meth c hE hnm hexn hw hk1 hn1
  obtain ⟨hx, hb, hml, hr, hlk, hown, hK, htr, hF, hLo, hRc, hRs⟩ := id hE
  have hbd : x_bd k n k n := ⟨Nat.le_refl _, hk1, Nat.le_refl _, hn1⟩
  have hl := lv_entry ([.ref (x_ad Y 20 d), .ref (g.2.2.2.2 i)]) (n := 3) (Nat.le_of_ble_eq_true rfl)
  generalize (lg_sl [.ref (x_ad Y 20 d), .ref (g.2.2.2.2 i)] ++ List.replicate (3 - (lg_sl [.ref (x_ad Y 20 d), .ref (g.2.2.2.2 i)]).length) Slot.unset).toArray = ls at hl ⊢
  have hl : lv_has ls 3 [(0, .ref (x_ad Y 20 d)), (1, .ref (g.2.2.2.2 i))] := hl
  generalize s.heap = H at hw ⊢
  generalize ([] : List Loc) = locs at hw ⊢
  unfold w_Run_price at h
  refine lv_aload_n hx hb d_Run_price_0 rfl (lv_at hl 1 rfl) ?_
  refine x_egs (i := 27) hx hb hK hw hown (by decide) (x_wd hK k_664 rfl) rfl d_Run_price_1 ?_
  refine x_eacmp (i := i) (j := 27) (tgt := 38) hx hb hK hw e_i (by decide) d_Run_price_4 (by decide) (fun c1 => ?_) (fun c1 => ?_)
  · replace h := h.1 c1
    refine lv_aload_n hx hb d_Run_price_38 rfl (lv_at hl 1 rfl) ?_
    refine x_egs (i := 19) hx hb hK hw hown (by decide) (x_wd hK k_670 rfl) rfl d_Run_price_39 ?_
    refine x_eacmp (i := i) (j := 19) (tgt := 53) hx hb hK hw e_i (by decide) d_Run_price_42 (by decide) (fun c2 => ?_) (fun c2 => ?_)
    · replace h := h.1 c2
      refine lv_aload_n hx hb d_Run_price_53 rfl (lv_at hl 1 rfl) ?_
      refine x_egfN0 (i := i) 3 hx hb hK hw hown e_i (x_wdF hK k_1054) d_Run_price_54 ?_
      exact x_iret hx hb hr hlk hw ⟨rfl, Or.inl ⟨_, rfl, ⟨rfl, rfl, rfl, rfl, h⟩⟩⟩ hbd d_Run_price_57
    · replace h := h.2 c2
      refine lv_aload_n hx hb d_Run_price_45 rfl (lv_at hl 0 rfl) ?_
      refine x_getI (t := 20) (i := d) (j := 9) hx hb hK hw hown ok0_ rfl (by decide) (by decide) (x_wd hK k_183 rfl) (fun _ h => h) fk_5_9 d_Run_price_46 ?_
      refine lv_iconst (v := 2) hx hb d_Run_price_49 (by decide) ?_
      refine lv_icmp_ge (tgt := 58) hx hb d_Run_price_50 (by decide) (fun c3 => ?_) (fun c3 => ?_)
      · replace h := h.1 c3
        refine lv_aload_n hx hb d_Run_price_58 rfl (lv_at hl 0 rfl) ?_
        refine x_getR (t := 20) (i := d) (j := 0) hx hb hK hw hown ok0_ rfl (by decide) (by decide) (x_wd hK k_173 rfl) (fun _ h => h) fk_5_0 (hY.r ok0_ rfl) d_Run_price_59 ?_
        have ok4 := hY.ok 0 ok0_ (t' := 1) (i' := 0) rfl
        refine lv_aload_n hx hb d_Run_price_62 rfl (lv_at hl 0 rfl) ?_
        refine x_getI (t := 20) (i := d) (j := 4) hx hb hK hw hown ok0_ rfl (by decide) (by decide) (x_wd hK k_177 rfl) (fun _ h => h) fk_5_4 d_Run_price_63 ?_
        refine lv_aload_n hx hb d_Run_price_66 rfl (lv_at hl 0 rfl) ?_
        refine lv_iconst (v := 1) hx hb d_Run_price_67 (by decide) ?_
        refine x_goI (ls := ls) (rest := [.int (I 20 d 4), .ref (x_ad Y 1 0)]) hE hw (c_Run_peek hY ok0_ h) (x_cd hK k_669) q_Run_peek (by decide) (by decide) hl.1 (Nat.le_of_ble_eq_true rfl) hbd d_Run_price_68 (x_toV (As := [.int (1 : Int32)]) (b := (x_ad Y 20 d)) hx hb hown hK (x_recv hK hw ok0_ rfl (by decide)) k_666 k_668 ks_9 ⟨_, x_cd hK k_669⟩ q_Run_peek rfl rfl d_Run_price_68) (fun r5 L9 I9 k9 n9 H locs h hw hb9 => ?_) (fun _ _ _ _ _ _ _ h9 => h9.elim)
        obtain ⟨e1, e2, e3, e4, h⟩ := h
        rw [e1, e2] at hw
        rw [e3, e4]
        refine x_goI (ls := ls) (rest := []) hE hw (c_Book_stored hY ok4 h) (x_cd hK k_675) q_Book_stored (by decide) (by decide) hl.1 (Nat.le_of_ble_eq_true rfl) hbd d_Run_price_71 (x_toV (As := [.int (I 20 d 4), .int r5]) (b := (x_ad Y 1 0)) hx hb hown hK (x_recv hK hw ok4 rfl (by decide)) k_672 k_673 k_674 ⟨_, x_cd hK k_675⟩ q_Book_stored rfl rfl d_Run_price_71) (fun r6 L9 I9 k9 n9 H locs h hw hb9 => ?_) (fun _ _ _ _ _ _ _ h9 => h9.elim)
        obtain ⟨e1, e2, e3, e4, h⟩ := h
        rw [e1, e2] at hw
        rw [e3, e4]
        refine lv_istore_n (lv' := [(2, .int r6), (0, .ref (x_ad Y 20 d)), (1, .ref (g.2.2.2.2 i))]) hx hb d_Run_price_74 rfl hl (by decide) rfl (fun ls hl => ?_)
        refine lv_iload_n hx hb d_Run_price_75 rfl (lv_at hl 0 rfl) ?_
        refine lv_aload_n hx hb d_Run_price_76 rfl (lv_at hl 1 rfl) ?_
        refine lv_iconst (v := 0) hx hb d_Run_price_77 (by decide) ?_
        refine x_goI (ls := ls) (rest := [.int r6]) hE hw (c_Run_peek hY ok0_ h) (x_cd hK k_669) q_Run_peek (by decide) (by decide) hl.1 (Nat.le_of_ble_eq_true rfl) hbd d_Run_price_78 (x_toV (As := [.int (0 : Int32)]) (b := (x_ad Y 20 d)) hx hb hown hK (x_recv hK hw ok0_ rfl (by decide)) k_666 k_668 ks_9 ⟨_, x_cd hK k_669⟩ q_Run_peek rfl rfl d_Run_price_78) (fun r7 L9 I9 k9 n9 H locs h hw hb9 => ?_) (fun _ _ _ _ _ _ _ h9 => h9.elim)
        obtain ⟨e1, e2, e3, e4, h⟩ := h
        rw [e1, e2] at hw
        rw [e3, e4]
        refine lv_icmp_ne (tgt := 91) hx hb d_Run_price_81 (by decide) (fun c8 => ?_) (fun c8 => ?_)
        · replace h := h.1 c8
          refine lv_iload_n hx hb d_Run_price_91 rfl (lv_at hl 0 rfl) ?_
          refine lv_if_ne (tgt := 100) hx hb d_Run_price_92 (by decide) (fun c9 => ?_) (fun c9 => ?_)
          · replace h := h.1 c9
            refine lv_bipush (v := 20) hx hb d_Run_price_100 (by decide) ?_
            exact x_iret hx hb hr hlk hw ⟨rfl, Or.inl ⟨_, rfl, ⟨rfl, rfl, rfl, rfl, h⟩⟩⟩ hbd d_Run_price_102
          · replace h := h.2 c9
            refine lv_bipush (v := 40) hx hb d_Run_price_95 (by decide) ?_
            refine lv_goto (tgt := 102) hx hb d_Run_price_97 (by decide) ?_
            exact x_iret hx hb hr hlk hw ⟨rfl, Or.inl ⟨_, rfl, ⟨rfl, rfl, rfl, rfl, h⟩⟩⟩ hbd d_Run_price_102
        · replace h := h.2 c8
          refine lv_aload_n hx hb d_Run_price_84 rfl (lv_at hl 2 rfl) ?_
          refine x_egfN0 (i := i) 3 hx hb hK hw hown e_i (x_wdF hK k_1054) d_Run_price_85 ?_
          refine lv_goto (tgt := 102) hx hb d_Run_price_88 (by decide) ?_
          exact x_iret hx hb hr hlk hw ⟨rfl, Or.inl ⟨_, rfl, ⟨rfl, rfl, rfl, rfl, h⟩⟩⟩ hbd d_Run_price_102
      · replace h := h.2 c3
        refine lv_aload_n hx hb d_Run_price_53 rfl (lv_at hl 1 rfl) ?_
        refine x_egfN0 (i := i) 3 hx hb hK hw hown e_i (x_wdF hK k_1054) d_Run_price_54 ?_
        exact x_iret hx hb hr hlk hw ⟨rfl, Or.inl ⟨_, rfl, ⟨rfl, rfl, rfl, rfl, h⟩⟩⟩ hbd d_Run_price_57
  · replace h := h.2 c1
    refine lv_aload_n hx hb d_Run_price_7 rfl (lv_at hl 0 rfl) ?_
    refine x_getI (t := 20) (i := d) (j := 9) hx hb hK hw hown ok0_ rfl (by decide) (by decide) (x_wd hK k_183 rfl) (fun _ h => h) fk_5_9 d_Run_price_8 ?_
    refine lv_iconst (v := 1) hx hb d_Run_price_11 (by decide) ?_
    refine lv_icmp_le (tgt := 33) hx hb d_Run_price_12 (by decide) (fun c10 => ?_) (fun c10 => ?_)
    · replace h := h.1 c10
      refine lv_aload_n hx hb d_Run_price_33 rfl (lv_at hl 1 rfl) ?_
      refine x_egfN0 (i := i) 3 hx hb hK hw hown e_i (x_wdF hK k_1054) d_Run_price_34 ?_
      exact x_iret hx hb hr hlk hw ⟨rfl, Or.inl ⟨_, rfl, ⟨rfl, rfl, rfl, rfl, h⟩⟩⟩ hbd d_Run_price_37
    · replace h := h.2 c10
      refine lv_aload_n hx hb d_Run_price_15 rfl (lv_at hl 0 rfl) ?_
      refine lv_iconst (v := 1) hx hb d_Run_price_16 (by decide) ?_
      refine x_goI (ls := ls) (rest := []) hE hw (c_Run_peek hY ok0_ h) (x_cd hK k_669) q_Run_peek (by decide) (by decide) hl.1 (Nat.le_of_ble_eq_true rfl) hbd d_Run_price_17 (x_toV (As := [.int (1 : Int32)]) (b := (x_ad Y 20 d)) hx hb hown hK (x_recv hK hw ok0_ rfl (by decide)) k_666 k_668 ks_9 ⟨_, x_cd hK k_669⟩ q_Run_peek rfl rfl d_Run_price_17) (fun r11 L9 I9 k9 n9 H locs h hw hb9 => ?_) (fun _ _ _ _ _ _ _ h9 => h9.elim)
      obtain ⟨e1, e2, e3, e4, h⟩ := h
      rw [e1, e2] at hw
      rw [e3, e4]
      refine lv_if_eq (tgt := 33) hx hb d_Run_price_20 (by decide) (fun c12 => ?_) (fun c12 => ?_)
      · replace h := h.1 c12
        refine lv_aload_n hx hb d_Run_price_33 rfl (lv_at hl 1 rfl) ?_
        refine x_egfN0 (i := i) 3 hx hb hK hw hown e_i (x_wdF hK k_1054) d_Run_price_34 ?_
        exact x_iret hx hb hr hlk hw ⟨rfl, Or.inl ⟨_, rfl, ⟨rfl, rfl, rfl, rfl, h⟩⟩⟩ hbd d_Run_price_37
      · replace h := h.2 c12
        refine lv_aload_n hx hb d_Run_price_23 rfl (lv_at hl 1 rfl) ?_
        refine x_egfN0 (i := i) 3 hx hb hK hw hown e_i (x_wdF hK k_1054) d_Run_price_24 ?_
        refine lv_bipush (v := 15) hx hb d_Run_price_27 (by decide) ?_
        refine lv_iadd hx hb d_Run_price_29 ?_
        refine lv_goto (tgt := 37) hx hb d_Run_price_30 (by decide) ?_
        exact x_iret hx hb hr hlk hw ⟨rfl, Or.inl ⟨_, rfl, ⟨rfl, rfl, rfl, rfl, h⟩⟩⟩ hbd d_Run_price_37
def w_Run_store (Q : x_L → x_I → Nat → Nat → Prop) (X : x_XT) (d : Nat) (L : x_L) (I : x_I) (k n : Nat) : Prop :=
  w_Run_peek (fun r1 =>
    w_Run_peek (fun r2 =>
      ((r1 = 0 →
        ∀ I4 : x_I, I4 = x_u I 20 d 9 ((I 20 d 9) - (2 : Int32)) →
        w_Book_stored (fun r6 =>
          ((r6 = r1 →
            Q L I4 k n) ∧
          (¬ r6 = r1 →
            w_Book_store (fun L8 I9 k10 n10 =>
              Q L8 I9 k10 n10) (I4 20 d 4) r2 r1 L I4 k n))) (I4 20 d 4) r2 L I4) ∧
      (¬ r1 = 0 →
        w_Book_stored (fun r12 =>
          ((¬ r12 = 0 →
            ∀ I14 : x_I, I14 = x_u I 20 d 9 ((I 20 d 9) - (2 : Int32)) →
            w_Book_stored (fun r15 =>
              ((r15 = r1 →
                Q L I14 k n) ∧
              (¬ r15 = r1 →
                w_Book_store (fun L17 I18 k19 n19 =>
                  Q L17 I18 k19 n19) (I14 20 d 4) r2 r1 L I14 k n))) (I14 20 d 4) r2 L I14) ∧
          (r12 = 0 →
            ((¬ (I 4 0 3) = (500 : Int32) →
              ∀ I22 : x_I, I22 = x_u I 20 d 9 ((I 20 d 9) - (2 : Int32)) →
              w_Book_stored (fun r23 =>
                ((r23 = r1 →
                  Q L I22 k n) ∧
                (¬ r23 = r1 →
                  w_Book_store (fun L25 I26 k27 n27 =>
                    Q L25 I26 k27 n27) (I22 20 d 4) r2 r1 L I22 k n))) (I22 20 d 4) r2 L I22) ∧
            ((I 4 0 3) = (500 : Int32) →
              w_Run_trap (fun I28 k29 n29 =>
                ∀ I30 : x_I, I30 = x_u I28 20 d 9 ((I28 20 d 9) - (2 : Int32)) →
                w_Book_stored (fun r31 =>
                  ((r31 = r1 →
                    Q L I30 k29 n29) ∧
                  (¬ r31 = r1 →
                    w_Book_store (fun L33 I34 k35 n35 =>
                      Q L33 I34 k35 n35) (I30 20 d 4) r2 r1 L I30 k29 n29))) (I30 20 d 4) r2 L I30) X d (6 : Int32) L I k n))))) (I 20 d 4) r2 L I))) d (1 : Int32) I) d (0 : Int32) I
set_option maxRecDepth 100000 in
set_option maxHeartbeats 4000000 in
theorem c_Run_store {l : Launch} {g : x_G} {Y : x_Y} (hY : x_Y0 g Y) (hT18 : ¬ x_ok Y 18 0) (hT19 : ¬ x_ok Y 19 0) {d : Nat} (ok0_ : x_ok Y 20 d) {Q : x_L → x_I → Nat → Nat → Prop} {X : x_XT} {L : x_L} {I : x_I} {k n : Nat} (h : w_Run_store Q X d L I k n) : x_C l y_Run_store 7 g [.ref (x_ad Y 20 d)] Y L I k n (x_pV Y (fun L' I' k' n' => Q L' I' k' n') X) := by
  refine x_mth k_722 ?_
  intro p e R s m below meth c hE hnm hexn hw hk1 hn1
  obtain ⟨hx, hb, hml, hr, hlk, hown, hK, htr, hF, hLo, hRc, hRs⟩ := id hE
  have hbd : x_bd k n k n := ⟨Nat.le_refl _, hk1, Nat.le_refl _, hn1⟩
  have hl := lv_entry ([.ref (x_ad Y 20 d)]) (n := 3) (Nat.le_of_ble_eq_true rfl)
  generalize (lg_sl [.ref (x_ad Y 20 d)] ++ List.replicate (3 - (lg_sl [.ref (x_ad Y 20 d)]).length) Slot.unset).toArray = ls at hl ⊢
  have hl : lv_has ls 3 [(0, .ref (x_ad Y 20 d))] := hl
  generalize s.heap = H at hw ⊢
  generalize ([] : List Loc) = locs at hw ⊢
  unfold w_Run_store at h
  refine lv_aload_n hx hb d_Run_store_0 rfl (lv_at hl 0 rfl) ?_
  refine lv_iconst (v := 0) hx hb d_Run_store_1 (by decide) ?_
  refine x_goI (ls := ls) (rest := []) hE hw (c_Run_peek hY ok0_ h) (x_cd hK k_669) q_Run_peek (by decide) (by decide) hl.1 (Nat.le_of_ble_eq_true rfl) hbd d_Run_store_2 (x_toV (As := [.int (0 : Int32)]) (b := (x_ad Y 20 d)) hx hb hown hK (x_recv hK hw ok0_ rfl (by decide)) k_666 k_668 ks_9 ⟨_, x_cd hK k_669⟩ q_Run_peek rfl rfl d_Run_store_2) (fun r1 L9 I9 k9 n9 H locs h hw hb9 => ?_) (fun _ _ _ _ _ _ _ h9 => h9.elim)
  obtain ⟨e1, e2, e3, e4, h⟩ := h
  rw [e1, e2] at hw
  rw [e3, e4]
  refine lv_istore_n (lv' := [(1, .int r1), (0, .ref (x_ad Y 20 d))]) hx hb d_Run_store_5 rfl hl (by decide) rfl (fun ls hl => ?_)
  refine lv_aload_n hx hb d_Run_store_6 rfl (lv_at hl 1 rfl) ?_
  refine lv_iconst (v := 1) hx hb d_Run_store_7 (by decide) ?_
  refine x_goI (ls := ls) (rest := []) hE hw (c_Run_peek hY ok0_ h) (x_cd hK k_669) q_Run_peek (by decide) (by decide) hl.1 (Nat.le_of_ble_eq_true rfl) hbd d_Run_store_8 (x_toV (As := [.int (1 : Int32)]) (b := (x_ad Y 20 d)) hx hb hown hK (x_recv hK hw ok0_ rfl (by decide)) k_666 k_668 ks_9 ⟨_, x_cd hK k_669⟩ q_Run_peek rfl rfl d_Run_store_8) (fun r2 L9 I9 k9 n9 H locs h hw hb9 => ?_) (fun _ _ _ _ _ _ _ h9 => h9.elim)
  obtain ⟨e1, e2, e3, e4, h⟩ := h
  rw [e1, e2] at hw
  rw [e3, e4]
  refine lv_istore_n (lv' := [(2, .int r2), (1, .int r1), (0, .ref (x_ad Y 20 d))]) hx hb d_Run_store_11 rfl hl (by decide) rfl (fun ls hl => ?_)
  refine lv_iload_n hx hb d_Run_store_12 rfl (lv_at hl 1 rfl) ?_
  refine lv_if_eq (tgt := 53) hx hb d_Run_store_13 (by decide) (fun c3 => ?_) (fun c3 => ?_)
  · replace h := h.1 c3
    refine lv_aload_n hx hb d_Run_store_53 rfl (lv_at hl 2 rfl) ?_
    refine lv_dup hx hb d_Run_store_54 rfl ?_
    refine x_getI (t := 20) (i := d) (j := 9) hx hb hK hw hown ok0_ rfl (by decide) (by decide) (x_wd hK k_183 rfl) (fun _ h => h) fk_5_9 d_Run_store_55 ?_
    refine lv_iconst (v := 2) hx hb d_Run_store_58 (by decide) ?_
    refine lv_isub hx hb d_Run_store_59 ?_
    refine x_putI (t := 20) (i := d) (j := 9) hx hb hK hw hown ok0_ rfl (by decide) (by decide) (x_wd hK k_183 rfl) (fun _ h => h) rfl rfl d_Run_store_60 (fun I4 H locs e_I4 hw => ?_)
    replace h := h I4 e_I4
    refine lv_aload_n hx hb d_Run_store_63 rfl (lv_at hl 2 rfl) ?_
    refine x_getR (t := 20) (i := d) (j := 0) hx hb hK hw hown ok0_ rfl (by decide) (by decide) (x_wd hK k_173 rfl) (fun _ h => h) fk_5_0 (hY.r ok0_ rfl) d_Run_store_64 ?_
    have ok5 := hY.ok 0 ok0_ (t' := 1) (i' := 0) rfl
    refine lv_aload_n hx hb d_Run_store_67 rfl (lv_at hl 2 rfl) ?_
    refine x_getI (t := 20) (i := d) (j := 4) hx hb hK hw hown ok0_ rfl (by decide) (by decide) (x_wd hK k_177 rfl) (fun _ h => h) fk_5_4 d_Run_store_68 ?_
    refine lv_iload_n hx hb d_Run_store_71 rfl (lv_at hl 0 rfl) ?_
    refine x_goI (ls := ls) (rest := []) hE hw (c_Book_stored hY ok5 h) (x_cd hK k_675) q_Book_stored (by decide) (by decide) hl.1 (Nat.le_of_ble_eq_true rfl) hbd d_Run_store_72 (x_toV (As := [.int (I4 20 d 4), .int r2]) (b := (x_ad Y 1 0)) hx hb hown hK (x_recv hK hw ok5 rfl (by decide)) k_672 k_673 k_674 ⟨_, x_cd hK k_675⟩ q_Book_stored rfl rfl d_Run_store_72) (fun r6 L9 I9 k9 n9 H locs h hw hb9 => ?_) (fun _ _ _ _ _ _ _ h9 => h9.elim)
    obtain ⟨e1, e2, e3, e4, h⟩ := h
    rw [e1, e2] at hw
    rw [e3, e4]
    refine lv_iload_n hx hb d_Run_store_75 rfl (lv_at hl 1 rfl) ?_
    refine lv_icmp_eq (tgt := 92) hx hb d_Run_store_76 (by decide) (fun c7 => ?_) (fun c7 => ?_)
    · replace h := h.1 c7
      exact x_vret hx hb hr hlk hw ⟨rfl, Or.inl ⟨rfl, h⟩⟩ hbd d_Run_store_92
    · replace h := h.2 c7
      refine lv_aload_n hx hb d_Run_store_79 rfl (lv_at hl 2 rfl) ?_
      refine x_getR (t := 20) (i := d) (j := 0) hx hb hK hw hown ok0_ rfl (by decide) (by decide) (x_wd hK k_173 rfl) (fun _ h => h) fk_5_0 (hY.r ok0_ rfl) d_Run_store_80 ?_
      refine lv_aload_n hx hb d_Run_store_83 rfl (lv_at hl 2 rfl) ?_
      refine x_getI (t := 20) (i := d) (j := 4) hx hb hK hw hown ok0_ rfl (by decide) (by decide) (x_wd hK k_177 rfl) (fun _ h => h) fk_5_4 d_Run_store_84 ?_
      refine lv_iload_n hx hb d_Run_store_87 rfl (lv_at hl 0 rfl) ?_
      refine lv_iload_n hx hb d_Run_store_88 rfl (lv_at hl 1 rfl) ?_
      refine x_goV (ls := ls) (rest := []) hE hw (c_Book_store hY hT18 hT19 ok5 h) (x_cd hK k_726) q_Book_store (by decide) (by decide) hl.1 (Nat.le_of_ble_eq_true rfl) hbd d_Run_store_89 (x_toV (As := [.int (I4 20 d 4), .int r2, .int r1]) (b := (x_ad Y 1 0)) hx hb hown hK (x_recv hK hw ok5 rfl (by decide)) k_723 k_724 k_725 ⟨_, x_cd hK k_726⟩ q_Book_store rfl rfl d_Run_store_89) (fun L8 I9 k10 n10 H locs h hw hb9 => ?_) (fun _ _ _ _ _ _ _ h9 => h9.elim)
      replace hbd := hbd.tr hb9
      try dsimp only at h
      exact x_vret hx hb hr hlk hw ⟨rfl, Or.inl ⟨rfl, h⟩⟩ hbd d_Run_store_92
  · replace h := h.2 c3
    refine lv_aload_n hx hb d_Run_store_16 rfl (lv_at hl 2 rfl) ?_
    refine x_getR (t := 20) (i := d) (j := 0) hx hb hK hw hown ok0_ rfl (by decide) (by decide) (x_wd hK k_173 rfl) (fun _ h => h) fk_5_0 (hY.r ok0_ rfl) d_Run_store_17 ?_
    have ok11 := hY.ok 0 ok0_ (t' := 1) (i' := 0) rfl
    refine lv_aload_n hx hb d_Run_store_20 rfl (lv_at hl 2 rfl) ?_
    refine x_getI (t := 20) (i := d) (j := 4) hx hb hK hw hown ok0_ rfl (by decide) (by decide) (x_wd hK k_177 rfl) (fun _ h => h) fk_5_4 d_Run_store_21 ?_
    refine lv_iload_n hx hb d_Run_store_24 rfl (lv_at hl 0 rfl) ?_
    refine x_goI (ls := ls) (rest := []) hE hw (c_Book_stored hY ok11 h) (x_cd hK k_675) q_Book_stored (by decide) (by decide) hl.1 (Nat.le_of_ble_eq_true rfl) hbd d_Run_store_25 (x_toV (As := [.int (I 20 d 4), .int r2]) (b := (x_ad Y 1 0)) hx hb hown hK (x_recv hK hw ok11 rfl (by decide)) k_672 k_673 k_674 ⟨_, x_cd hK k_675⟩ q_Book_stored rfl rfl d_Run_store_25) (fun r12 L9 I9 k9 n9 H locs h hw hb9 => ?_) (fun _ _ _ _ _ _ _ h9 => h9.elim)
    obtain ⟨e1, e2, e3, e4, h⟩ := h
    rw [e1, e2] at hw
    rw [e3, e4]
    refine lv_if_ne (tgt := 53) hx hb d_Run_store_28 (by decide) (fun c13 => ?_) (fun c13 => ?_)
    · replace h := h.1 c13
      refine lv_aload_n hx hb d_Run_store_53 rfl (lv_at hl 2 rfl) ?_
      refine lv_dup hx hb d_Run_store_54 rfl ?_
      refine x_getI (t := 20) (i := d) (j := 9) hx hb hK hw hown ok0_ rfl (by decide) (by decide) (x_wd hK k_183 rfl) (fun _ h => h) fk_5_9 d_Run_store_55 ?_
      refine lv_iconst (v := 2) hx hb d_Run_store_58 (by decide) ?_
      refine lv_isub hx hb d_Run_store_59 ?_
      refine x_putI (t := 20) (i := d) (j := 9) hx hb hK hw hown ok0_ rfl (by decide) (by decide) (x_wd hK k_183 rfl) (fun _ h => h) rfl rfl d_Run_store_60 (fun I14 H locs e_I14 hw => ?_)
      replace h := h I14 e_I14
      refine lv_aload_n hx hb d_Run_store_63 rfl (lv_at hl 2 rfl) ?_
      refine x_getR (t := 20) (i := d) (j := 0) hx hb hK hw hown ok0_ rfl (by decide) (by decide) (x_wd hK k_173 rfl) (fun _ h => h) fk_5_0 (hY.r ok0_ rfl) d_Run_store_64 ?_
      refine lv_aload_n hx hb d_Run_store_67 rfl (lv_at hl 2 rfl) ?_
      refine x_getI (t := 20) (i := d) (j := 4) hx hb hK hw hown ok0_ rfl (by decide) (by decide) (x_wd hK k_177 rfl) (fun _ h => h) fk_5_4 d_Run_store_68 ?_
      refine lv_iload_n hx hb d_Run_store_71 rfl (lv_at hl 0 rfl) ?_
      refine x_goI (ls := ls) (rest := []) hE hw (c_Book_stored hY ok11 h) (x_cd hK k_675) q_Book_stored (by decide) (by decide) hl.1 (Nat.le_of_ble_eq_true rfl) hbd d_Run_store_72 (x_toV (As := [.int (I14 20 d 4), .int r2]) (b := (x_ad Y 1 0)) hx hb hown hK (x_recv hK hw ok11 rfl (by decide)) k_672 k_673 k_674 ⟨_, x_cd hK k_675⟩ q_Book_stored rfl rfl d_Run_store_72) (fun r15 L9 I9 k9 n9 H locs h hw hb9 => ?_) (fun _ _ _ _ _ _ _ h9 => h9.elim)
      obtain ⟨e1, e2, e3, e4, h⟩ := h
      rw [e1, e2] at hw
      rw [e3, e4]
      refine lv_iload_n hx hb d_Run_store_75 rfl (lv_at hl 1 rfl) ?_
      refine lv_icmp_eq (tgt := 92) hx hb d_Run_store_76 (by decide) (fun c16 => ?_) (fun c16 => ?_)
      · replace h := h.1 c16
        exact x_vret hx hb hr hlk hw ⟨rfl, Or.inl ⟨rfl, h⟩⟩ hbd d_Run_store_92
      · replace h := h.2 c16
        refine lv_aload_n hx hb d_Run_store_79 rfl (lv_at hl 2 rfl) ?_
        refine x_getR (t := 20) (i := d) (j := 0) hx hb hK hw hown ok0_ rfl (by decide) (by decide) (x_wd hK k_173 rfl) (fun _ h => h) fk_5_0 (hY.r ok0_ rfl) d_Run_store_80 ?_
        refine lv_aload_n hx hb d_Run_store_83 rfl (lv_at hl 2 rfl) ?_
        refine x_getI (t := 20) (i := d) (j := 4) hx hb hK hw hown ok0_ rfl (by decide) (by decide) (x_wd hK k_177 rfl) (fun _ h => h) fk_5_4 d_Run_store_84 ?_
        refine lv_iload_n hx hb d_Run_store_87 rfl (lv_at hl 0 rfl) ?_
        refine lv_iload_n hx hb d_Run_store_88 rfl (lv_at hl 1 rfl) ?_
        refine x_goV (ls := ls) (rest := []) hE hw (c_Book_store hY hT18 hT19 ok11 h) (x_cd hK k_726) q_Book_store (by decide) (by decide) hl.1 (Nat.le_of_ble_eq_true rfl) hbd d_Run_store_89 (x_toV (As := [.int (I14 20 d 4), .int r2, .int r1]) (b := (x_ad Y 1 0)) hx hb hown hK (x_recv hK hw ok11 rfl (by decide)) k_723 k_724 k_725 ⟨_, x_cd hK k_726⟩ q_Book_store rfl rfl d_Run_store_89) (fun L17 I18 k19 n19 H locs h hw hb9 => ?_) (fun _ _ _ _ _ _ _ h9 => h9.elim)
        replace hbd := hbd.tr hb9
        try dsimp only at h
        exact x_vret hx hb hr hlk hw ⟨rfl, Or.inl ⟨rfl, h⟩⟩ hbd d_Run_store_92
    · replace h := h.2 c13
      refine lv_aload_n hx hb d_Run_store_31 rfl (lv_at hl 2 rfl) ?_
      refine x_getR (t := 20) (i := d) (j := 0) hx hb hK hw hown ok0_ rfl (by decide) (by decide) (x_wd hK k_173 rfl) (fun _ h => h) fk_5_0 (hY.r ok0_ rfl) d_Run_store_32 ?_
      refine x_getRN (t := 1) (i := 0) (j := 1) hx hb hK hw hown ok11 rfl (by decide) (by decide) (x_wdF hK k_132) (fun _ h => h) fk_1_1 (hY.r ok11 rfl) d_Run_store_35 ?_
      have ok20 := hY.ok 1 ok11 (t' := 4) (i' := 0) rfl
      refine x_getIN (t := 4) (i := 0) (j := 3) hx hb hK hw hown ok20 rfl (by decide) (by decide) (x_wdF hK k_81) (fun _ h => h) fk_3_3 d_Run_store_38 ?_
      refine lv_sipush (v := 500) hx hb d_Run_store_41 (by decide) ?_
      refine lv_icmp_ne (tgt := 53) hx hb d_Run_store_44 (by decide) (fun c21 => ?_) (fun c21 => ?_)
      · replace h := h.1 c21
        refine lv_aload_n hx hb d_Run_store_53 rfl (lv_at hl 2 rfl) ?_
        refine lv_dup hx hb d_Run_store_54 rfl ?_
        refine x_getI (t := 20) (i := d) (j := 9) hx hb hK hw hown ok0_ rfl (by decide) (by decide) (x_wd hK k_183 rfl) (fun _ h => h) fk_5_9 d_Run_store_55 ?_
        refine lv_iconst (v := 2) hx hb d_Run_store_58 (by decide) ?_
        refine lv_isub hx hb d_Run_store_59 ?_
        refine x_putI (t := 20) (i := d) (j := 9) hx hb hK hw hown ok0_ rfl (by decide) (by decide) (x_wd hK k_183 rfl) (fun _ h => h) rfl rfl d_Run_store_60 (fun I22 H locs e_I22 hw => ?_)
        replace h := h I22 e_I22
        refine lv_aload_n hx hb d_Run_store_63 rfl (lv_at hl 2 rfl) ?_
        refine x_getR (t := 20) (i := d) (j := 0) hx hb hK hw hown ok0_ rfl (by decide) (by decide) (x_wd hK k_173 rfl) (fun _ h => h) fk_5_0 (hY.r ok0_ rfl) d_Run_store_64 ?_
        refine lv_aload_n hx hb d_Run_store_67 rfl (lv_at hl 2 rfl) ?_
        refine x_getI (t := 20) (i := d) (j := 4) hx hb hK hw hown ok0_ rfl (by decide) (by decide) (x_wd hK k_177 rfl) (fun _ h => h) fk_5_4 d_Run_store_68 ?_
        refine lv_iload_n hx hb d_Run_store_71 rfl (lv_at hl 0 rfl) ?_
        refine x_goI (ls := ls) (rest := []) hE hw (c_Book_stored hY ok11 h) (x_cd hK k_675) q_Book_stored (by decide) (by decide) hl.1 (Nat.le_of_ble_eq_true rfl) hbd d_Run_store_72 (x_toV (As := [.int (I22 20 d 4), .int r2]) (b := (x_ad Y 1 0)) hx hb hown hK (x_recv hK hw ok11 rfl (by decide)) k_672 k_673 k_674 ⟨_, x_cd hK k_675⟩ q_Book_stored rfl rfl d_Run_store_72) (fun r23 L9 I9 k9 n9 H locs h hw hb9 => ?_) (fun _ _ _ _ _ _ _ h9 => h9.elim)
        obtain ⟨e1, e2, e3, e4, h⟩ := h
        rw [e1, e2] at hw
        rw [e3, e4]
        refine lv_iload_n hx hb d_Run_store_75 rfl (lv_at hl 1 rfl) ?_
        refine lv_icmp_eq (tgt := 92) hx hb d_Run_store_76 (by decide) (fun c24 => ?_) (fun c24 => ?_)
        · replace h := h.1 c24
          exact x_vret hx hb hr hlk hw ⟨rfl, Or.inl ⟨rfl, h⟩⟩ hbd d_Run_store_92
        · replace h := h.2 c24
          refine lv_aload_n hx hb d_Run_store_79 rfl (lv_at hl 2 rfl) ?_
          refine x_getR (t := 20) (i := d) (j := 0) hx hb hK hw hown ok0_ rfl (by decide) (by decide) (x_wd hK k_173 rfl) (fun _ h => h) fk_5_0 (hY.r ok0_ rfl) d_Run_store_80 ?_
          refine lv_aload_n hx hb d_Run_store_83 rfl (lv_at hl 2 rfl) ?_
          refine x_getI (t := 20) (i := d) (j := 4) hx hb hK hw hown ok0_ rfl (by decide) (by decide) (x_wd hK k_177 rfl) (fun _ h => h) fk_5_4 d_Run_store_84 ?_
          refine lv_iload_n hx hb d_Run_store_87 rfl (lv_at hl 0 rfl) ?_
          refine lv_iload_n hx hb d_Run_store_88 rfl (lv_at hl 1 rfl) ?_
          refine x_goV (ls := ls) (rest := []) hE hw (c_Book_store hY hT18 hT19 ok11 h) (x_cd hK k_726) q_Book_store (by decide) (by decide) hl.1 (Nat.le_of_ble_eq_true rfl) hbd d_Run_store_89 (x_toV (As := [.int (I22 20 d 4), .int r2, .int r1]) (b := (x_ad Y 1 0)) hx hb hown hK (x_recv hK hw ok11 rfl (by decide)) k_723 k_724 k_725 ⟨_, x_cd hK k_726⟩ q_Book_store rfl rfl d_Run_store_89) (fun L25 I26 k27 n27 H locs h hw hb9 => ?_) (fun _ _ _ _ _ _ _ h9 => h9.elim)
          replace hbd := hbd.tr hb9
          try dsimp only at h
          exact x_vret hx hb hr hlk hw ⟨rfl, Or.inl ⟨rfl, h⟩⟩ hbd d_Run_store_92
      · replace h := h.2 c21
        refine lv_aload_n hx hb d_Run_store_47 rfl (lv_at hl 2 rfl) ?_
        refine lv_bipush (v := 6) hx hb d_Run_store_48 (by decide) ?_
        refine x_goV (ls := ls) (rest := []) hE hw (c_Run_trap hY ok0_ h) (x_cd hK k_695) q_Run_trap (by decide) (by decide) hl.1 (Nat.le_of_ble_eq_true rfl) hbd d_Run_store_50 (x_toV (As := [.int (6 : Int32)]) (b := (x_ad Y 20 d)) hx hb hown hK (x_recv hK hw ok0_ rfl (by decide)) k_692 k_694 ks_11 ⟨_, x_cd hK k_695⟩ q_Run_trap rfl rfl d_Run_store_50) (fun L9 I28 k29 n29 H locs h hw hb9 => ?_) (fun kx L9 I9 k9 n9 H locs h hw hb9 => x_thr hlk (fun x h9 => by rw [hexn] at h9; cases h9) hw ⟨rfl, Or.inr ⟨kx, rfl, h⟩⟩ (hbd.tr hb9))
        obtain ⟨e1, h⟩ := h
        rw [e1] at hw
        replace hbd := hbd.tr hb9
        refine lv_aload_n hx hb d_Run_store_53 rfl (lv_at hl 2 rfl) ?_
        refine lv_dup hx hb d_Run_store_54 rfl ?_
        refine x_getI (t := 20) (i := d) (j := 9) hx hb hK hw hown ok0_ rfl (by decide) (by decide) (x_wd hK k_183 rfl) (fun _ h => h) fk_5_9 d_Run_store_55 ?_
        refine lv_iconst (v := 2) hx hb d_Run_store_58 (by decide) ?_
        refine lv_isub hx hb d_Run_store_59 ?_
        refine x_putI (t := 20) (i := d) (j := 9) hx hb hK hw hown ok0_ rfl (by decide) (by decide) (x_wd hK k_183 rfl) (fun _ h => h) rfl rfl d_Run_store_60 (fun I30 H locs e_I30 hw => ?_)
        replace h := h I30 e_I30
        refine lv_aload_n hx hb d_Run_store_63 rfl (lv_at hl 2 rfl) ?_
        refine x_getR (t := 20) (i := d) (j := 0) hx hb hK hw hown ok0_ rfl (by decide) (by decide) (x_wd hK k_173 rfl) (fun _ h => h) fk_5_0 (hY.r ok0_ rfl) d_Run_store_64 ?_
        refine lv_aload_n hx hb d_Run_store_67 rfl (lv_at hl 2 rfl) ?_
        refine x_getI (t := 20) (i := d) (j := 4) hx hb hK hw hown ok0_ rfl (by decide) (by decide) (x_wd hK k_177 rfl) (fun _ h => h) fk_5_4 d_Run_store_68 ?_
        refine lv_iload_n hx hb d_Run_store_71 rfl (lv_at hl 0 rfl) ?_
        refine x_goI (ls := ls) (rest := []) hE hw (c_Book_stored hY ok11 h) (x_cd hK k_675) q_Book_stored (by decide) (by decide) hl.1 (Nat.le_of_ble_eq_true rfl) hbd d_Run_store_72 (x_toV (As := [.int (I30 20 d 4), .int r2]) (b := (x_ad Y 1 0)) hx hb hown hK (x_recv hK hw ok11 rfl (by decide)) k_672 k_673 k_674 ⟨_, x_cd hK k_675⟩ q_Book_stored rfl rfl d_Run_store_72) (fun r31 L9 I9 k9 n9 H locs h hw hb9 => ?_) (fun _ _ _ _ _ _ _ h9 => h9.elim)
        obtain ⟨e1, e2, e3, e4, h⟩ := h
        rw [e1, e2] at hw
        rw [e3, e4]
        refine lv_iload_n hx hb d_Run_store_75 rfl (lv_at hl 1 rfl) ?_
        refine lv_icmp_eq (tgt := 92) hx hb d_Run_store_76 (by decide) (fun c32 => ?_) (fun c32 => ?_)
        · replace h := h.1 c32
          exact x_vret hx hb hr hlk hw ⟨rfl, Or.inl ⟨rfl, h⟩⟩ hbd d_Run_store_92
        · replace h := h.2 c32
          refine lv_aload_n hx hb d_Run_store_79 rfl (lv_at hl 2 rfl) ?_
          refine x_getR (t := 20) (i := d) (j := 0) hx hb hK hw hown ok0_ rfl (by decide) (by decide) (x_wd hK k_173 rfl) (fun _ h => h) fk_5_0 (hY.r ok0_ rfl) d_Run_store_80 ?_
          refine lv_aload_n hx hb d_Run_store_83 rfl (lv_at hl 2 rfl) ?_
          refine x_getI (t := 20) (i := d) (j := 4) hx hb hK hw hown ok0_ rfl (by decide) (by decide) (x_wd hK k_177 rfl) (fun _ h => h) fk_5_4 d_Run_store_84 ?_
          refine lv_iload_n hx hb d_Run_store_87 rfl (lv_at hl 0 rfl) ?_
          refine lv_iload_n hx hb d_Run_store_88 rfl (lv_at hl 1 rfl) ?_
          refine x_goV (ls := ls) (rest := []) hE hw (c_Book_store hY hT18 hT19 ok11 h) (x_cd hK k_726) q_Book_store (by decide) (by decide) hl.1 (Nat.le_of_ble_eq_true rfl) hbd d_Run_store_89 (x_toV (As := [.int (I30 20 d 4), .int r2, .int r1]) (b := (x_ad Y 1 0)) hx hb hown hK (x_recv hK hw ok11 rfl (by decide)) k_723 k_724 k_725 ⟨_, x_cd hK k_726⟩ q_Book_store rfl rfl d_Run_store_89) (fun L33 I34 k35 n35 H locs h hw hb9 => ?_) (fun _ _ _ _ _ _ _ h9 => h9.elim)
          replace hbd := hbd.tr hb9
          try dsimp only at h
          exact x_vret hx hb hr hlk hw ⟨rfl, Or.inl ⟨rfl, h⟩⟩ hbd d_Run_store_92
