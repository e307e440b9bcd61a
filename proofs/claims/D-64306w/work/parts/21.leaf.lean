def w_Math_min (Q : Int32 → Prop) (p1 : Int32) (p2 : Int32) : Prop :=
  ((p2 < p1 →
    Q p2) ∧
  (¬ p2 < p1 →
    Q p1))
set_option maxRecDepth 100000 in
set_option maxHeartbeats 4000000 in
theorem c_Math_min {l : Launch} {g : x_G} {Y : x_Y} (hY : x_Y0 g Y) {p1 : Int32} {p2 : Int32} {Q : Int32 → Prop} {L : x_L} {I : x_I} {k n : Nat} (h : w_Math_min Q p1 p2) : x_C l y_Math_min 0 g [.int p1, .int p2] Y L I k n (x_pI Y (fun v L' I' k' n' => L' = L ∧ I' = I ∧ k' = k ∧ n' = n ∧ Q v) x_nx) := by
  refine x_mth k_493 ?_
  intro p e R s m below meth c hE hnm hexn hw hk1 hn1
  obtain ⟨hx, hb, hml, hr, hlk, hown, hK, htr, hF, hLo, hRc, hRs⟩ := id hE
  have hbd : x_bd k n k n := ⟨Nat.le_refl _, hk1, Nat.le_refl _, hn1⟩
  have hl := lv_entry ([.int p1, .int p2]) (n := 2) (Nat.le_of_ble_eq_true rfl)
  generalize (lg_sl [.int p1, .int p2] ++ List.replicate (2 - (lg_sl [.int p1, .int p2]).length) Slot.unset).toArray = ls at hl ⊢
  have hl : lv_has ls 2 [(0, .int p1), (1, .int p2)] := hl
  generalize s.heap = H at hw ⊢
  generalize ([] : List Loc) = locs at hw ⊢
  unfold w_Math_min at h
  refine lv_iload_n hx hb d_Math_min_0 rfl (lv_at hl 0 rfl) ?_
  refine lv_iload_n hx hb d_Math_min_1 rfl (lv_at hl 1 rfl) ?_
  refine lv_icmp_gt (tgt := 9) hx hb d_Math_min_2 (by decide) (fun c1 => ?_) (fun c1 => ?_)
  · replace h := h.1 c1
    refine lv_iload_n hx hb d_Math_min_9 rfl (lv_at hl 1 rfl) ?_
    exact x_iret hx hb hr hlk hw ⟨rfl, Or.inl ⟨_, rfl, ⟨rfl, rfl, rfl, rfl, h⟩⟩⟩ hbd d_Math_min_10
  · replace h := h.2 c1
    refine lv_iload_n hx hb d_Math_min_5 rfl (lv_at hl 0 rfl) ?_
    refine lv_goto (tgt := 10) hx hb d_Math_min_6 (by decide) ?_
    exact x_iret hx hb hr hlk hw ⟨rfl, Or.inl ⟨_, rfl, ⟨rfl, rfl, rfl, rfl, h⟩⟩⟩ hbd d_Math_min_10
def w_Tab_place (Q : Int32 → Prop) (p1 : Int64) : Prop :=
  ∀ x1 : Int64, x1 = (p1 * (-7046029254386353131 : Int64)) →
  Q (((x1.toUInt64 >>> ((52 : Int32).toInt64.toUInt64 &&& Int64.toUInt64 63)).toInt64).toInt32)
set_option maxRecDepth 100000 in
set_option maxHeartbeats 4000000 in
theorem c_Tab_place {l : Launch} {g : x_G} {Y : x_Y} (hY : x_Y0 g Y) {p1 : Int64} {Q : Int32 → Prop} {L : x_L} {I : x_I} {k n : Nat} (h : w_Tab_place Q p1) : x_C l y_Tab_place 0 g [.long p1] Y L I k n (x_pI Y (fun v L' I' k' n' => L' = L ∧ I' = I ∧ k' = k ∧ n' = n ∧ Q v) x_nx) := by
  refine x_mth k_690 ?_
  intro p e R s m below meth c hE hnm hexn hw hk1 hn1
  obtain ⟨hx, hb, hml, hr, hlk, hown, hK, htr, hF, hLo, hRc, hRs⟩ := id hE
  have hbd : x_bd k n k n := ⟨Nat.le_refl _, hk1, Nat.le_refl _, hn1⟩
  have hl := lv_entry ([.long p1]) (n := 4) (Nat.le_of_ble_eq_true rfl)
  generalize (lg_sl [.long p1] ++ List.replicate (4 - (lg_sl [.long p1]).length) Slot.unset).toArray = ls at hl ⊢
  have hl : lv_has ls 4 [(0, .long p1)] := hl
  generalize s.heap = H at hw ⊢
  generalize ([] : List Loc) = locs at hw ⊢
  unfold w_Tab_place at h
  refine lv_lload_n hx hb d_Tab_place_0 rfl (lv_at hl 0 rfl) ?_
  refine lv_ldc2 (v := (-7046029254386353131)) hx hb hown (x_wd hK k_691 rfl) d_Tab_place_1 ?_
  refine lv_lmul hx hb d_Tab_place_4 ?_
  refine lv_topl (fun x1 e_x1 => ?_)
  replace h := h x1 e_x1
  refine lv_lstore_n (lv' := [(2, .long x1), (0, .long p1)]) hx hb d_Tab_place_5 rfl hl (by decide) rfl (fun ls hl => ?_)
  refine lv_lload_n hx hb d_Tab_place_6 rfl (lv_at hl 0 rfl) ?_
  refine lv_bipush (v := 52) hx hb d_Tab_place_7 (by decide) ?_
  refine lv_lushr hx hb d_Tab_place_9 rfl ?_
  refine lv_l2i hx hb d_Tab_place_10 rfl ?_
  exact x_iret hx hb hr hlk hw ⟨rfl, Or.inl ⟨_, rfl, ⟨rfl, rfl, rfl, rfl, h⟩⟩⟩ hbd d_Tab_place_11
def w_Book_place (Q : Int64 → Prop) (p1 : Int32) (p2 : Int32) : Prop :=
  Q (((p1.toInt64 <<< ((32 : Int32).toInt64 &&& 63)) ||| (p2.toInt64 &&& (4294967295 : Int64))))
set_option maxRecDepth 100000 in
set_option maxHeartbeats 4000000 in
theorem c_Book_place {l : Launch} {g : x_G} {Y : x_Y} (hY : x_Y0 g Y) {p1 : Int32} {p2 : Int32} {Q : Int64 → Prop} {L : x_L} {I : x_I} {k n : Nat} (h : w_Book_place Q p1 p2) : x_C l y_Book_place 0 g [.int p1, .int p2] Y L I k n (x_pL Y (fun v L' I' k' n' => L' = L ∧ I' = I ∧ k' = k ∧ n' = n ∧ Q v) x_nx) := by
  refine x_mth k_678 ?_
  intro p e R s m below meth c hE hnm hexn hw hk1 hn1
  obtain ⟨hx, hb, hml, hr, hlk, hown, hK, htr, hF, hLo, hRc, hRs⟩ := id hE
  have hbd : x_bd k n k n := ⟨Nat.le_refl _, hk1, Nat.le_refl _, hn1⟩
  have hl := lv_entry ([.int p1, .int p2]) (n := 2) (Nat.le_of_ble_eq_true rfl)
  generalize (lg_sl [.int p1, .int p2] ++ List.replicate (2 - (lg_sl [.int p1, .int p2]).length) Slot.unset).toArray = ls at hl ⊢
  have hl : lv_has ls 2 [(0, .int p1), (1, .int p2)] := hl
  generalize s.heap = H at hw ⊢
  generalize ([] : List Loc) = locs at hw ⊢
  unfold w_Book_place at h
  refine lv_iload_n hx hb d_Book_place_0 rfl (lv_at hl 0 rfl) ?_
  refine lv_i2l hx hb d_Book_place_1 rfl ?_
  refine lv_bipush (v := 32) hx hb d_Book_place_2 (by decide) ?_
  refine lv_lshl hx hb d_Book_place_4 rfl ?_
  refine lv_iload_n hx hb d_Book_place_5 rfl (lv_at hl 1 rfl) ?_
  refine lv_i2l hx hb d_Book_place_6 rfl ?_
  refine lv_ldc2 (v := 4294967295) hx hb hown (x_wd hK k_679 rfl) d_Book_place_7 ?_
  refine lv_land hx hb d_Book_place_10 ?_
  refine lv_lor hx hb d_Book_place_11 ?_
  exact x_lret hx hb hr hlk hw ⟨rfl, Or.inl ⟨_, rfl, ⟨rfl, rfl, rfl, rfl, h⟩⟩⟩ hbd d_Book_place_12
def w_Run_pop (Q : Int32 → x_I → Prop) (d : Nat) (I : x_I) : Prop :=
  ∀ I1 : x_I, I1 = x_u I 20 d 9 ((I 20 d 9) - (1 : Int32)) →
  vp_in (I1 20 d 9) 32 ∧
  Q (I1 22 d (I1 20 d 9).toNatClampNeg) I1
set_option maxRecDepth 100000 in
set_option maxHeartbeats 4000000 in
theorem c_Run_pop {l : Launch} {g : x_G} {Y : x_Y} (hY : x_Y0 g Y) {d : Nat} (ok0_ : x_ok Y 20 d) {Q : Int32 → x_I → Prop} {L : x_L} {I : x_I} {k n : Nat} (h : w_Run_pop Q d I) : x_C l y_Run_pop 0 g [.ref (x_ad Y 20 d)] Y L I k n (x_pI Y (fun v L' I' k' n' => L' = L ∧ k' = k ∧ n' = n ∧ Q v I') x_nx) := by
  refine x_mth k_718 ?_
  intro p e R s m below meth c hE hnm hexn hw hk1 hn1
  obtain ⟨hx, hb, hml, hr, hlk, hown, hK, htr, hF, hLo, hRc, hRs⟩ := id hE
  have hbd : x_bd k n k n := ⟨Nat.le_refl _, hk1, Nat.le_refl _, hn1⟩
  have hl := lv_entry ([.ref (x_ad Y 20 d)]) (n := 1) (Nat.le_of_ble_eq_true rfl)
  generalize (lg_sl [.ref (x_ad Y 20 d)] ++ List.replicate (1 - (lg_sl [.ref (x_ad Y 20 d)]).length) Slot.unset).toArray = ls at hl ⊢
  have hl : lv_has ls 1 [(0, .ref (x_ad Y 20 d))] := hl
  generalize s.heap = H at hw ⊢
  generalize ([] : List Loc) = locs at hw ⊢
  unfold w_Run_pop at h
  refine lv_aload_n hx hb d_Run_pop_0 rfl (lv_at hl 0 rfl) ?_
  refine lv_dup hx hb d_Run_pop_1 rfl ?_
  refine x_getI (t := 20) (i := d) (j := 9) hx hb hK hw hown ok0_ rfl (by decide) (by decide) (x_wd hK k_183 rfl) (fun _ h => h) fk_5_9 d_Run_pop_2 ?_
  refine lv_iconst (v := 1) hx hb d_Run_pop_5 (by decide) ?_
  refine lv_isub hx hb d_Run_pop_6 ?_
  refine x_putI (t := 20) (i := d) (j := 9) hx hb hK hw hown ok0_ rfl (by decide) (by decide) (x_wd hK k_183 rfl) (fun _ h => h) rfl rfl d_Run_pop_7 (fun I1 H locs e_I1 hw => ?_)
  replace h := h I1 e_I1
  refine lv_aload_n hx hb d_Run_pop_10 rfl (lv_at hl 0 rfl) ?_
  refine x_getR (t := 20) (i := d) (j := 8) hx hb hK hw hown ok0_ rfl (by decide) (by decide) (x_wd hK k_182 rfl) (fun _ h => h) fk_5_8 (hY.r ok0_ rfl) d_Run_pop_11 ?_
  have ok2 := hY.ok 8 ok0_ (t' := 22) (i' := d) rfl
  refine lv_aload_n hx hb d_Run_pop_14 rfl (lv_at hl 0 rfl) ?_
  refine x_getI (t := 20) (i := d) (j := 9) hx hb hK hw hown ok0_ rfl (by decide) (by decide) (x_wd hK k_183 rfl) (fun _ h => h) fk_5_9 d_Run_pop_15 ?_
  refine x_iald (t := 22) (i := d) hx hb hK hw ok2 rfl (hY.n ok2 rfl) h.1 d_Run_pop_18 ?_
  replace h := h.2
  exact x_iret hx hb hr hlk hw ⟨rfl, Or.inl ⟨_, rfl, ⟨rfl, rfl, rfl, h⟩⟩⟩ hbd d_Run_pop_19
def w_Run_push (Q : x_I → Prop) (d : Nat) (p1 : Int32) (I : x_I) : Prop :=
  vp_in (I 20 d 9) 32 ∧
  ∀ I2 : x_I, I2 = x_u I 22 d (I 20 d 9).toNatClampNeg p1 →
  ∀ I3 : x_I, I3 = x_u I2 20 d 9 ((I2 20 d 9) + (1 : Int32)) →
  Q I3
set_option maxRecDepth 100000 in
set_option maxHeartbeats 4000000 in
theorem c_Run_push {l : Launch} {g : x_G} {Y : x_Y} (hY : x_Y0 g Y) {d : Nat} {p1 : Int32} (ok0_ : x_ok Y 20 d) {Q : x_I → Prop} {L : x_L} {I : x_I} {k n : Nat} (h : w_Run_push Q d p1 I) : x_C l y_Run_push 0 g [.ref (x_ad Y 20 d), .int p1] Y L I k n (x_pV Y (fun L' I' k' n' => L' = L ∧ k' = k ∧ n' = n ∧ Q I') x_nx) := by
  refine x_mth k_710 ?_
  intro p e R s m below meth c hE hnm hexn hw hk1 hn1
  obtain ⟨hx, hb, hml, hr, hlk, hown, hK, htr, hF, hLo, hRc, hRs⟩ := id hE
  have hbd : x_bd k n k n := ⟨Nat.le_refl _, hk1, Nat.le_refl _, hn1⟩
  have hl := lv_entry ([.ref (x_ad Y 20 d), .int p1]) (n := 2) (Nat.le_of_ble_eq_true rfl)
  generalize (lg_sl [.ref (x_ad Y 20 d), .int p1] ++ List.replicate (2 - (lg_sl [.ref (x_ad Y 20 d), .int p1]).length) Slot.unset).toArray = ls at hl ⊢
  have hl : lv_has ls 2 [(0, .ref (x_ad Y 20 d)), (1, .int p1)] := hl
  generalize s.heap = H at hw ⊢
  generalize ([] : List Loc) = locs at hw ⊢
  unfold w_Run_push at h
  refine lv_aload_n hx hb d_Run_push_0 rfl (lv_at hl 0 rfl) ?_
  refine x_getR (t := 20) (i := d) (j := 8) hx hb hK hw hown ok0_ rfl (by decide) (by decide) (x_wd hK k_182 rfl) (fun _ h => h) fk_5_8 (hY.r ok0_ rfl) d_Run_push_1 ?_
  have ok1 := hY.ok 8 ok0_ (t' := 22) (i' := d) rfl
  refine lv_aload_n hx hb d_Run_push_4 rfl (lv_at hl 0 rfl) ?_
  refine x_getI (t := 20) (i := d) (j := 9) hx hb hK hw hown ok0_ rfl (by decide) (by decide) (x_wd hK k_183 rfl) (fun _ h => h) fk_5_9 d_Run_push_5 ?_
  refine lv_iload_n hx hb d_Run_push_8 rfl (lv_at hl 1 rfl) ?_
  refine x_iast (t := 22) (i := d) hx hb hK hw ok1 rfl (hY.n ok1 rfl) h.1 d_Run_push_9 (fun I2 H locs e_I2 hw => ?_)
  replace h := h.2 I2 e_I2
  refine lv_aload_n hx hb d_Run_push_10 rfl (lv_at hl 0 rfl) ?_
  refine lv_dup hx hb d_Run_push_11 rfl ?_
  refine x_getI (t := 20) (i := d) (j := 9) hx hb hK hw hown ok0_ rfl (by decide) (by decide) (x_wd hK k_183 rfl) (fun _ h => h) fk_5_9 d_Run_push_12 ?_
  refine lv_iconst (v := 1) hx hb d_Run_push_15 (by decide) ?_
  refine lv_iadd hx hb d_Run_push_16 ?_
  refine x_putI (t := 20) (i := d) (j := 9) hx hb hK hw hown ok0_ rfl (by decide) (by decide) (x_wd hK k_183 rfl) (fun _ h => h) rfl rfl d_Run_push_17 (fun I3 H locs e_I3 hw => ?_)
  replace h := h I3 e_I3
  exact x_vret hx hb hr hlk hw ⟨rfl, Or.inl ⟨rfl, ⟨rfl, rfl, rfl, h⟩⟩⟩ hbd d_Run_push_20
def w_Run_peek (Q : Int32 → Prop) (d : Nat) (p1 : Int32) (I : x_I) : Prop :=
  vp_in ((((I 20 d 9) - (1 : Int32)) - p1)) 32 ∧
  Q ((I 22 d ((((I 20 d 9) - (1 : Int32)) - p1)).toNatClampNeg))
set_option maxRecDepth 100000 in
set_option maxHeartbeats 4000000 in
theorem c_Run_peek {l : Launch} {g : x_G} {Y : x_Y} (hY : x_Y0 g Y) {d : Nat} {p1 : Int32} (ok0_ : x_ok Y 20 d) {Q : Int32 → Prop} {L : x_L} {I : x_I} {k n : Nat} (h : w_Run_peek Q d p1 I) : x_C l y_Run_peek 0 g [.ref (x_ad Y 20 d), .int p1] Y L I k n (x_pI Y (fun v L' I' k' n' => L' = L ∧ I' = I ∧ k' = k ∧ n' = n ∧ Q v) x_nx) := by
  refine x_mth k_669 ?_
  intro p e R s m below meth c hE hnm hexn hw hk1 hn1
  obtain ⟨hx, hb, hml, hr, hlk, hown, hK, htr, hF, hLo, hRc, hRs⟩ := id hE
  have hbd : x_bd k n k n := ⟨Nat.le_refl _, hk1, Nat.le_refl _, hn1⟩
  have hl := lv_entry ([.ref (x_ad Y 20 d), .int p1]) (n := 2) (Nat.le_of_ble_eq_true rfl)
  generalize (lg_sl [.ref (x_ad Y 20 d), .int p1] ++ List.replicate (2 - (lg_sl [.ref (x_ad Y 20 d), .int p1]).length) Slot.unset).toArray = ls at hl ⊢
  have hl : lv_has ls 2 [(0, .ref (x_ad Y 20 d)), (1, .int p1)] := hl
  generalize s.heap = H at hw ⊢
  generalize ([] : List Loc) = locs at hw ⊢
  unfold w_Run_peek at h
  refine lv_aload_n hx hb d_Run_peek_0 rfl (lv_at hl 0 rfl) ?_
  refine x_getR (t := 20) (i := d) (j := 8) hx hb hK hw hown ok0_ rfl (by decide) (by decide) (x_wd hK k_182 rfl) (fun _ h => h) fk_5_8 (hY.r ok0_ rfl) d_Run_peek_1 ?_
  have ok1 := hY.ok 8 ok0_ (t' := 22) (i' := d) rfl
  refine lv_aload_n hx hb d_Run_peek_4 rfl (lv_at hl 0 rfl) ?_
  refine x_getI (t := 20) (i := d) (j := 9) hx hb hK hw hown ok0_ rfl (by decide) (by decide) (x_wd hK k_183 rfl) (fun _ h => h) fk_5_9 d_Run_peek_5 ?_
  refine lv_iconst (v := 1) hx hb d_Run_peek_8 (by decide) ?_
  refine lv_isub hx hb d_Run_peek_9 ?_
  refine lv_iload_n hx hb d_Run_peek_10 rfl (lv_at hl 1 rfl) ?_
  refine lv_isub hx hb d_Run_peek_11 ?_
  refine x_iald (t := 22) (i := d) hx hb hK hw ok1 rfl (hY.n ok1 rfl) h.1 d_Run_peek_12 ?_
  replace h := h.2
  exact x_iret hx hb hr hlk hw ⟨rfl, Or.inl ⟨_, rfl, ⟨rfl, rfl, rfl, rfl, h⟩⟩⟩ hbd d_Run_peek_13
def w_Run_ends (Q : x_I → Prop) (d : Nat) (p1 : Int32) (p2 : Int32) (I : x_I) : Prop :=
  ∀ I1 : x_I, I1 = x_u I 20 d 13 p1 →
  ∀ I2 : x_I, I2 = x_u I1 20 d 12 p2 →
  Q I2
set_option maxRecDepth 100000 in
set_option maxHeartbeats 4000000 in
theorem c_Run_ends {l : Launch} {g : x_G} {Y : x_Y} (hY : x_Y0 g Y) {d : Nat} {p1 : Int32} {p2 : Int32} (ok0_ : x_ok Y 20 d) {Q : x_I → Prop} {L : x_L} {I : x_I} {k n : Nat} (h : w_Run_ends Q d p1 p2 I) : x_C l y_Run_ends 0 g [.ref (x_ad Y 20 d), .int p1, .int p2] Y L I k n (x_pV Y (fun L' I' k' n' => L' = L ∧ k' = k ∧ n' = n ∧ Q I') x_nx) := by
  refine x_mth k_655 ?_
  intro p e R s m below meth c hE hnm hexn hw hk1 hn1
  obtain ⟨hx, hb, hml, hr, hlk, hown, hK, htr, hF, hLo, hRc, hRs⟩ := id hE
  have hbd : x_bd k n k n := ⟨Nat.le_refl _, hk1, Nat.le_refl _, hn1⟩
  have hl := lv_entry ([.ref (x_ad Y 20 d), .int p1, .int p2]) (n := 3) (Nat.le_of_ble_eq_true rfl)
  generalize (lg_sl [.ref (x_ad Y 20 d), .int p1, .int p2] ++ List.replicate (3 - (lg_sl [.ref (x_ad Y 20 d), .int p1, .int p2]).length) Slot.unset).toArray = ls at hl ⊢
  have hl : lv_has ls 3 [(0, .ref (x_ad Y 20 d)), (1, .int p1), (2, .int p2)] := hl
  generalize s.heap = H at hw ⊢
  generalize ([] : List Loc) = locs at hw ⊢
  unfold w_Run_ends at h
  refine lv_aload_n hx hb d_Run_ends_0 rfl (lv_at hl 0 rfl) ?_
  refine lv_iload_n hx hb d_Run_ends_1 rfl (lv_at hl 1 rfl) ?_
  refine x_putI (t := 20) (i := d) (j := 13) hx hb hK hw hown ok0_ rfl (by decide) (by decide) (x_wd hK k_189 rfl) (fun _ h => h) rfl rfl d_Run_ends_2 (fun I1 H locs e_I1 hw => ?_)
  replace h := h I1 e_I1
  refine lv_aload_n hx hb d_Run_ends_5 rfl (lv_at hl 0 rfl) ?_
  refine lv_iload_n hx hb d_Run_ends_6 rfl (lv_at hl 2 rfl) ?_
  refine x_putI (t := 20) (i := d) (j := 12) hx hb hK hw hown ok0_ rfl (by decide) (by decide) (x_wd hK k_187 rfl) (fun _ h => h) rfl rfl d_Run_ends_7 (fun I2 H locs e_I2 hw => ?_)
  replace h := h I2 e_I2
  exact x_vret hx hb hr hlk hw ⟨rfl, Or.inl ⟨rfl, ⟨rfl, rfl, rfl, h⟩⟩⟩ hbd d_Run_ends_10
def w_Run_begin_18 (Q : x_I → Prop) (d : Nat) : Nat → Int32 → x_I → Prop
  | 0, _, _ => False
  | fu + 1, v4, I =>
    (((8 : Int32) ≤ v4 →
      ∀ I6 : x_I, I6 = x_u I 20 d 9 (0 : Int32) →
      ∀ I7 : x_I, I7 = x_u I6 20 d 10 (0 : Int32) →
      ∀ I8 : x_I, I8 = x_u I7 20 d 11 (0 : Int32) →
      ∀ I9 : x_I, I9 = x_u I8 20 d 12 (0 : Int32) →
      ∀ I10 : x_I, I10 = x_u I9 20 d 13 (-1 : Int32) →
      Q I10) ∧
    (¬ (8 : Int32) ≤ v4 →
      vp_in v4 8 ∧
      ∀ I12 : x_I, I12 = x_u I 21 d v4.toNatClampNeg (0 : Int32) →
      ∀ x13 : Int32, x13 = v4 + (1 : Int32) →
      w_Run_begin_18 Q d fu x13 I12))
def w_Run_begin (Q : x_I → Prop) (d : Nat) (p1 : Int32) (p2 : Int32) (p3 : Int32) (I : x_I) : Prop :=
  ∀ I1 : x_I, I1 = x_u I 20 d 4 p1 →
  ∀ I2 : x_I, I2 = x_u I1 20 d 5 p2 →
  ∀ I3 : x_I, I3 = x_u I2 20 d 6 p3 →
  ∀ x4 : Int32, x4 = (0 : Int32) →
  ∃ fu : Nat, w_Run_begin_18 Q d fu x4 I3
set_option maxRecDepth 100000 in
set_option maxHeartbeats 4000000 in
theorem c_Run_begin_18 {l : Launch} {g : x_G} {Y : x_Y} {p : Program} {e : Env} {R : Room} {s : State} {m : MethodId} {args : Array Value} {below : List Frame} {meth : Method} {c : Code} {k n : Nat} (hE : x_E l g p e R s m meth c "CallLedger$Run" prog_6_method_2_code 5 none 0 k n) (hexn : c.exceptionTable.toList = []) (hY : x_Y0 g Y) {d : Nat} (ok0_ : x_ok Y 20 d) {Q : x_I → Prop} {L : x_L} :
    ∀ (fu : Nat) (v4 : Int32) (I : x_I) (H : Heap) (locs : List Loc) (ls : Array Slot), w_Run_begin_18 Q d fu v4 I → x_WL g Y L I H locs → x_bd k n k n → lv_has ls 5 [(0, .ref (x_ad Y 20 d)), (4, .int v4)] → W p l e R s m args below meth c H locs (k - k) (n - n) (x_Q g below s k n (x_pV Y (fun L' I' k' n' => L' = L ∧ k' = k ∧ n' = n ∧ Q I') x_nx)) (F0 m 18 ls []) := by
  obtain ⟨hx, hb, hml, hr, hlk, hown, hK, htr, hF, hLo, hRc, hRs⟩ := id hE
  intro fu
  induction fu with
  | zero =>
    intro v4 I H locs ls h
    exact h.elim
  | succ fu ih =>
    intro v4 I H locs ls h hw hbd hl
    unfold w_Run_begin_18 at h
    refine lv_iload hx hb d_Run_begin_18 (lv_at hl 1 rfl) ?_
    refine lv_bipush (v := 8) hx hb d_Run_begin_20 (by decide) ?_
    refine lv_icmp_ge (tgt := 39) hx hb d_Run_begin_22 (by decide) (fun c5 => ?_) (fun c5 => ?_)
    · replace h := h.1 c5
      refine lv_aload_n hx hb d_Run_begin_39 rfl (lv_at hl 0 rfl) ?_
      refine lv_iconst (v := 0) hx hb d_Run_begin_40 (by decide) ?_
      refine x_putI (t := 20) (i := d) (j := 9) hx hb hK hw hown ok0_ rfl (by decide) (by decide) (x_wd hK k_183 rfl) (fun _ h => h) rfl rfl d_Run_begin_41 (fun I6 H locs e_I6 hw => ?_)
      replace h := h I6 e_I6
      refine lv_aload_n hx hb d_Run_begin_44 rfl (lv_at hl 0 rfl) ?_
      refine lv_iconst (v := 0) hx hb d_Run_begin_45 (by decide) ?_
      refine x_putI (t := 20) (i := d) (j := 10) hx hb hK hw hown ok0_ rfl (by decide) (by decide) (x_wd hK k_184 rfl) (fun _ h => h) rfl rfl d_Run_begin_46 (fun I7 H locs e_I7 hw => ?_)
      replace h := h I7 e_I7
      refine lv_aload_n hx hb d_Run_begin_49 rfl (lv_at hl 0 rfl) ?_
      refine lv_iconst (v := 0) hx hb d_Run_begin_50 (by decide) ?_
      refine x_putI (t := 20) (i := d) (j := 11) hx hb hK hw hown ok0_ rfl (by decide) (by decide) (x_wd hK k_185 rfl) (fun _ h => h) rfl rfl d_Run_begin_51 (fun I8 H locs e_I8 hw => ?_)
      replace h := h I8 e_I8
      refine lv_aload_n hx hb d_Run_begin_54 rfl (lv_at hl 0 rfl) ?_
      refine lv_iconst (v := 0) hx hb d_Run_begin_55 (by decide) ?_
      refine x_putI (t := 20) (i := d) (j := 12) hx hb hK hw hown ok0_ rfl (by decide) (by decide) (x_wd hK k_187 rfl) (fun _ h => h) rfl rfl d_Run_begin_56 (fun I9 H locs e_I9 hw => ?_)
      replace h := h I9 e_I9
      refine lv_aload_n hx hb d_Run_begin_59 rfl (lv_at hl 0 rfl) ?_
      refine lv_iconst (v := (-1)) hx hb d_Run_begin_60 (by decide) ?_
      refine x_putI (t := 20) (i := d) (j := 13) hx hb hK hw hown ok0_ rfl (by decide) (by decide) (x_wd hK k_189 rfl) (fun _ h => h) rfl rfl d_Run_begin_61 (fun I10 H locs e_I10 hw => ?_)
      replace h := h I10 e_I10
      exact x_vret hx hb hr hlk hw ⟨rfl, Or.inl ⟨rfl, ⟨rfl, rfl, rfl, h⟩⟩⟩ hbd d_Run_begin_64
    · replace h := h.2 c5
      refine lv_aload_n hx hb d_Run_begin_25 rfl (lv_at hl 0 rfl) ?_
      refine x_getR (t := 20) (i := d) (j := 7) hx hb hK hw hown ok0_ rfl (by decide) (by decide) (x_wd hK k_180 rfl) (fun _ h => h) fk_5_7 (hY.r ok0_ rfl) d_Run_begin_26 ?_
      have ok11 := hY.ok 7 ok0_ (t' := 21) (i' := d) rfl
      refine lv_iload hx hb d_Run_begin_29 (lv_at hl 1 rfl) ?_
      refine lv_iconst (v := 0) hx hb d_Run_begin_31 (by decide) ?_
      refine x_iast (t := 21) (i := d) hx hb hK hw ok11 rfl (hY.n ok11 rfl) h.1 d_Run_begin_32 (fun I12 H locs e_I12 hw => ?_)
      replace h := h.2 I12 e_I12
      obtain ⟨x13, e_x13⟩ : ∃ z : Int32, z = v4 + (1 : Int32) := ⟨_, rfl⟩
      replace h := h x13 e_x13
      refine lv_iinc (v := x13) (lv' := [(4, .int x13), (0, .ref (x_ad Y 20 d))]) hx hb d_Run_begin_33 hl (k := 1) rfl (by rw [e_x13]; rfl) (by decide) rfl (fun ls hl => ?_)
      refine lv_goto (tgt := 18) hx hb d_Run_begin_36 (by decide) ?_
      exact ih x13 I12 H locs ls h hw hbd (lv_sub hl [1, 0] rfl)
set_option maxRecDepth 100000 in
set_option maxHeartbeats 4000000 in
theorem c_Run_begin {l : Launch} {g : x_G} {Y : x_Y} (hY : x_Y0 g Y) {d : Nat} {p1 : Int32} {p2 : Int32} {p3 : Int32} (ok0_ : x_ok Y 20 d) {Q : x_I → Prop} {L : x_L} {I : x_I} {k n : Nat} (h : w_Run_begin Q d p1 p2 p3 I) : x_C l y_Run_begin 0 g [.ref (x_ad Y 20 d), .int p1, .int p2, .int p3] Y L I k n (x_pV Y (fun L' I' k' n' => L' = L ∧ k' = k ∧ n' = n ∧ Q I') x_nx) := by
  refine x_mth k_619 ?_
  intro p e R s m below meth c hE hnm hexn hw hk1 hn1
  obtain ⟨hx, hb, hml, hr, hlk, hown, hK, htr, hF, hLo, hRc, hRs⟩ := id hE
  have hbd : x_bd k n k n := ⟨Nat.le_refl _, hk1, Nat.le_refl _, hn1⟩
  have hl := lv_entry ([.ref (x_ad Y 20 d), .int p1, .int p2, .int p3]) (n := 5) (Nat.le_of_ble_eq_true rfl)
  generalize (lg_sl [.ref (x_ad Y 20 d), .int p1, .int p2, .int p3] ++ List.replicate (5 - (lg_sl [.ref (x_ad Y 20 d), .int p1, .int p2, .int p3]).length) Slot.unset).toArray = ls at hl ⊢
  have hl : lv_has ls 5 [(0, .ref (x_ad Y 20 d)), (1, .int p1), (2, .int p2), (3, .int p3)] := hl
  generalize s.heap = H at hw ⊢
  generalize ([] : List Loc) = locs at hw ⊢
  unfold w_Run_begin at h
  refine lv_aload_n hx hb d_Run_begin_0 rfl (lv_at hl 0 rfl) ?_
  refine lv_iload_n hx hb d_Run_begin_1 rfl (lv_at hl 1 rfl) ?_
  refine x_putI (t := 20) (i := d) (j := 4) hx hb hK hw hown ok0_ rfl (by decide) (by decide) (x_wd hK k_177 rfl) (fun _ h => h) rfl rfl d_Run_begin_2 (fun I1 H locs e_I1 hw => ?_)
  replace h := h I1 e_I1
  refine lv_aload_n hx hb d_Run_begin_5 rfl (lv_at hl 0 rfl) ?_
  refine lv_iload_n hx hb d_Run_begin_6 rfl (lv_at hl 2 rfl) ?_
  refine x_putI (t := 20) (i := d) (j := 5) hx hb hK hw hown ok0_ rfl (by decide) (by decide) (x_wd hK k_178 rfl) (fun _ h => h) rfl rfl d_Run_begin_7 (fun I2 H locs e_I2 hw => ?_)
  replace h := h I2 e_I2
  refine lv_aload_n hx hb d_Run_begin_10 rfl (lv_at hl 0 rfl) ?_
  refine lv_iload_n hx hb d_Run_begin_11 rfl (lv_at hl 3 rfl) ?_
  refine x_putI (t := 20) (i := d) (j := 6) hx hb hK hw hown ok0_ rfl (by decide) (by decide) (x_wd hK k_179 rfl) (fun _ h => h) rfl rfl d_Run_begin_12 (fun I3 H locs e_I3 hw => ?_)
  replace h := h I3 e_I3
  refine lv_iconst (v := 0) hx hb d_Run_begin_15 (by decide) ?_
  refine lv_topi (fun x4 e_x4 => ?_)
  replace h := h x4 e_x4
  refine lv_istore (lv' := [(4, .int x4), (0, .ref (x_ad Y 20 d)), (1, .int p1), (2, .int p2), (3, .int p3)]) hx hb d_Run_begin_16 hl (by decide) rfl (fun ls hl => ?_)
  obtain ⟨fu, h⟩ := h
  exact c_Run_begin_18 hE hexn hY ok0_ fu x4 I3 H locs ls h hw hbd (lv_sub hl [1, 0] rfl)
def w_Run_swap (Q : x_I → Prop) (d : Nat) (p1 : Int32) (I : x_I) : Prop :=
  w_Run_peek (fun r1 =>
    w_Run_peek (fun r3 =>
      vp_in ((I 20 d 9) - (1 : Int32)) 32 ∧
      ∀ I4 : x_I, I4 = x_u I 22 d ((I 20 d 9) - (1 : Int32)).toNatClampNeg r3 →
      vp_in ((((I4 20 d 9) - (1 : Int32)) - p1)) 32 ∧
      ∀ I5 : x_I, I5 = x_u I4 22 d ((((I4 20 d 9) - (1 : Int32)) - p1)).toNatClampNeg r1 →
      Q I5) d p1 I) d (0 : Int32) I
set_option maxRecDepth 100000 in
set_option maxHeartbeats 4000000 in
theorem c_Run_swap {l : Launch} {g : x_G} {Y : x_Y} (hY : x_Y0 g Y) {d : Nat} {p1 : Int32} (ok0_ : x_ok Y 20 d) {Q : x_I → Prop} {L : x_L} {I : x_I} {k n : Nat} (h : w_Run_swap Q d p1 I) : x_C l y_Run_swap 1 g [.ref (x_ad Y 20 d), .int p1] Y L I k n (x_pV Y (fun L' I' k' n' => L' = L ∧ k' = k ∧ n' = n ∧ Q I') x_nx) := by
  refine x_mth k_714 ?_
  intro p e R s m below meth c hE hnm hexn hw hk1 hn1
  obtain ⟨hx, hb, hml, hr, hlk, hown, hK, htr, hF, hLo, hRc, hRs⟩ := id hE
  have hbd : x_bd k n k n := ⟨Nat.le_refl _, hk1, Nat.le_refl _, hn1⟩
  have hl := lv_entry ([.ref (x_ad Y 20 d), .int p1]) (n := 3) (Nat.le_of_ble_eq_true rfl)
  generalize (lg_sl [.ref (x_ad Y 20 d), .int p1] ++ List.replicate (3 - (lg_sl [.ref (x_ad Y 20 d), .int p1]).length) Slot.unset).toArray = ls at hl ⊢
  have hl : lv_has ls 3 [(0, .ref (x_ad Y 20 d)), (1, .int p1)] := hl
  generalize s.heap = H at hw ⊢
  generalize ([] : List Loc) = locs at hw ⊢
  unfold w_Run_swap at h
  refine lv_aload_n hx hb d_Run_swap_0 rfl (lv_at hl 0 rfl) ?_
  refine lv_iconst (v := 0) hx hb d_Run_swap_1 (by decide) ?_
  refine x_goI (ls := ls) (rest := []) hE hw (c_Run_peek hY ok0_ h) (x_cd hK k_669) q_Run_peek (by decide) (by decide) hl.1 (Nat.le_of_ble_eq_true rfl) hbd d_Run_swap_2 (x_toV (As := [.int (0 : Int32)]) (b := (x_ad Y 20 d)) hx hb hown hK (x_recv hK hw ok0_ rfl (by decide)) k_666 k_668 ks_9 ⟨_, x_cd hK k_669⟩ q_Run_peek rfl rfl d_Run_swap_2) (fun r1 L9 I9 k9 n9 H locs h hw hb9 => ?_) (fun _ _ _ _ _ _ _ h9 => h9.elim)
  obtain ⟨e1, e2, e3, e4, h⟩ := h
  rw [e1, e2] at hw
  rw [e3, e4]
  refine lv_istore_n (lv' := [(2, .int r1), (0, .ref (x_ad Y 20 d)), (1, .int p1)]) hx hb d_Run_swap_5 rfl hl (by decide) rfl (fun ls hl => ?_)
  refine lv_aload_n hx hb d_Run_swap_6 rfl (lv_at hl 1 rfl) ?_
  refine x_getR (t := 20) (i := d) (j := 8) hx hb hK hw hown ok0_ rfl (by decide) (by decide) (x_wd hK k_182 rfl) (fun _ h => h) fk_5_8 (hY.r ok0_ rfl) d_Run_swap_7 ?_
  have ok2 := hY.ok 8 ok0_ (t' := 22) (i' := d) rfl
  refine lv_aload_n hx hb d_Run_swap_10 rfl (lv_at hl 1 rfl) ?_
  refine x_getI (t := 20) (i := d) (j := 9) hx hb hK hw hown ok0_ rfl (by decide) (by decide) (x_wd hK k_183 rfl) (fun _ h => h) fk_5_9 d_Run_swap_11 ?_
  refine lv_iconst (v := 1) hx hb d_Run_swap_14 (by decide) ?_
  refine lv_isub hx hb d_Run_swap_15 ?_
  refine lv_aload_n hx hb d_Run_swap_16 rfl (lv_at hl 1 rfl) ?_
  refine lv_iload_n hx hb d_Run_swap_17 rfl (lv_at hl 2 rfl) ?_
  refine x_goI (ls := ls) (rest := [.int ((I 20 d 9) - (1 : Int32)), .ref (x_ad Y 22 d)]) hE hw (c_Run_peek hY ok0_ h) (x_cd hK k_669) q_Run_peek (by decide) (by decide) hl.1 (Nat.le_of_ble_eq_true rfl) hbd d_Run_swap_18 (x_toV (As := [.int p1]) (b := (x_ad Y 20 d)) hx hb hown hK (x_recv hK hw ok0_ rfl (by decide)) k_666 k_668 ks_9 ⟨_, x_cd hK k_669⟩ q_Run_peek rfl rfl d_Run_swap_18) (fun r3 L9 I9 k9 n9 H locs h hw hb9 => ?_) (fun _ _ _ _ _ _ _ h9 => h9.elim)
  obtain ⟨e1, e2, e3, e4, h⟩ := h
  rw [e1, e2] at hw
  rw [e3, e4]
  refine x_iast (t := 22) (i := d) hx hb hK hw ok2 rfl (hY.n ok2 rfl) h.1 d_Run_swap_21 (fun I4 H locs e_I4 hw => ?_)
  replace h := h.2 I4 e_I4
  refine lv_aload_n hx hb d_Run_swap_22 rfl (lv_at hl 1 rfl) ?_
  refine x_getR (t := 20) (i := d) (j := 8) hx hb hK hw hown ok0_ rfl (by decide) (by decide) (x_wd hK k_182 rfl) (fun _ h => h) fk_5_8 (hY.r ok0_ rfl) d_Run_swap_23 ?_
  refine lv_aload_n hx hb d_Run_swap_26 rfl (lv_at hl 1 rfl) ?_
  refine x_getI (t := 20) (i := d) (j := 9) hx hb hK hw hown ok0_ rfl (by decide) (by decide) (x_wd hK k_183 rfl) (fun _ h => h) fk_5_9 d_Run_swap_27 ?_
  refine lv_iconst (v := 1) hx hb d_Run_swap_30 (by decide) ?_
  refine lv_isub hx hb d_Run_swap_31 ?_
  refine lv_iload_n hx hb d_Run_swap_32 rfl (lv_at hl 2 rfl) ?_
  refine lv_isub hx hb d_Run_swap_33 ?_
  refine lv_iload_n hx hb d_Run_swap_34 rfl (lv_at hl 0 rfl) ?_
  refine x_iast (t := 22) (i := d) hx hb hK hw ok2 rfl (hY.n ok2 rfl) h.1 d_Run_swap_35 (fun I5 H locs e_I5 hw => ?_)
  replace h := h.2 I5 e_I5
  exact x_vret hx hb hr hlk hw ⟨rfl, Or.inl ⟨rfl, ⟨rfl, rfl, rfl, h⟩⟩⟩ hbd d_Run_swap_36
def w_Acc_length (Q : Int32 → Prop) (a : Nat) (I : x_I) : Prop :=
  (((I 23 a 3) = 0 →
    Q (0 : Int32)) ∧
  (¬ (I 23 a 3) = 0 →
    Q (I 23 a 2)))
set_option maxRecDepth 100000 in
set_option maxHeartbeats 4000000 in
theorem c_Acc_length {l : Launch} {g : x_G} {Y : x_Y} (hY : x_Y0 g Y) {a : Nat} (ok0_ : x_ok Y 23 a) {Q : Int32 → Prop} {L : x_L} {I : x_I} {k n : Nat} (h : w_Acc_length Q a I) : x_C l y_Acc_length 0 g [.ref (x_ad Y 23 a)] Y L I k n (x_pI Y (fun v L' I' k' n' => L' = L ∧ I' = I ∧ k' = k ∧ n' = n ∧ Q v) x_nx) := by
  refine x_mth k_651 ?_
  intro p e R s m below meth c hE hnm hexn hw hk1 hn1
  obtain ⟨hx, hb, hml, hr, hlk, hown, hK, htr, hF, hLo, hRc, hRs⟩ := id hE
  have hbd : x_bd k n k n := ⟨Nat.le_refl _, hk1, Nat.le_refl _, hn1⟩
  have hl := lv_entry ([.ref (x_ad Y 23 a)]) (n := 1) (Nat.le_of_ble_eq_true rfl)
  generalize (lg_sl [.ref (x_ad Y 23 a)] ++ List.replicate (1 - (lg_sl [.ref (x_ad Y 23 a)]).length) Slot.unset).toArray = ls at hl ⊢
  have hl : lv_has ls 1 [(0, .ref (x_ad Y 23 a))] := hl
  generalize s.heap = H at hw ⊢
  generalize ([] : List Loc) = locs at hw ⊢
  unfold w_Acc_length at h
  refine lv_aload_n hx hb d_Acc_length_0 rfl (lv_at hl 0 rfl) ?_
  refine x_getI (t := 23) (i := a) (j := 3) hx hb hK hw hown ok0_ rfl (by decide) (by decide) (x_wd hK k_422 rfl) (fun _ h => h) fk_7_3 d_Acc_length_1 ?_
  refine lv_if_eq (tgt := 14) hx hb d_Acc_length_4 (by decide) (fun c1 => ?_) (fun c1 => ?_)
  · replace h := h.1 c1
    refine lv_iconst (v := 0) hx hb d_Acc_length_14 (by decide) ?_
    exact x_iret hx hb hr hlk hw ⟨rfl, Or.inl ⟨_, rfl, ⟨rfl, rfl, rfl, rfl, h⟩⟩⟩ hbd d_Acc_length_15
  · replace h := h.2 c1
    refine lv_aload_n hx hb d_Acc_length_7 rfl (lv_at hl 0 rfl) ?_
    refine x_getI (t := 23) (i := a) (j := 2) hx hb hK hw hown ok0_ rfl (by decide) (by decide) (x_wd hK k_420 rfl) (fun _ h => h) fk_7_2 d_Acc_length_8 ?_
    refine lv_goto (tgt := 15) hx hb d_Acc_length_11 (by decide) ?_
    exact x_iret hx hb hr hlk hw ⟨rfl, Or.inl ⟨_, rfl, ⟨rfl, rfl, rfl, rfl, h⟩⟩⟩ hbd d_Acc_length_15
def w_Jou_add (Q : x_I → Prop) (p1 : Int32) (p2 : Int32) (p3 : Int32) (p4 : Int32) (I : x_I) : Prop :=
  vp_in (I 8 0 4) 2048 ∧
  ∀ I2 : x_I, I2 = x_u I 9 0 (I 8 0 4).toNatClampNeg (vp_nar .byte (p1.toInt8.toInt32)) →
  vp_in (I2 8 0 4) 2048 ∧
  ∀ I4 : x_I, I4 = x_u I2 10 0 (I2 8 0 4).toNatClampNeg (vp_nar .boolean p2) →
  vp_in (I4 8 0 4) 2048 ∧
  ∀ I6 : x_I, I6 = x_u I4 11 0 (I4 8 0 4).toNatClampNeg p3 →
  vp_in (I6 8 0 4) 2048 ∧
  ∀ I8 : x_I, I8 = x_u I6 12 0 (I6 8 0 4).toNatClampNeg p4 →
  ∀ I9 : x_I, I9 = x_u I8 8 0 4 ((I8 8 0 4) + (1 : Int32)) →
  Q I9
set_option maxRecDepth 100000 in
set_option maxHeartbeats 4000000 in
theorem c_Jou_add {l : Launch} {g : x_G} {Y : x_Y} (hY : x_Y0 g Y) {p1 : Int32} {p2 : Int32} {p3 : Int32} {p4 : Int32} (ok0_ : x_ok Y 8 0) {Q : x_I → Prop} {L : x_L} {I : x_I} {k n : Nat} (h : w_Jou_add Q p1 p2 p3 p4 I) : x_C l y_Jou_add 0 g [.ref (x_ad Y 8 0), .int p1, .int p2, .int p3, .int p4] Y L I k n (x_pV Y (fun L' I' k' n' => L' = L ∧ k' = k ∧ n' = n ∧ Q I') x_nx) := by
  refine x_mth k_640 ?_
  intro p e R s m below meth c hE hnm hexn hw hk1 hn1
  obtain ⟨hx, hb, hml, hr, hlk, hown, hK, htr, hF, hLo, hRc, hRs⟩ := id hE
  have hbd : x_bd k n k n := ⟨Nat.le_refl _, hk1, Nat.le_refl _, hn1⟩
  have hl := lv_entry ([.ref (x_ad Y 8 0), .int p1, .int p2, .int p3, .int p4]) (n := 5) (Nat.le_of_ble_eq_true rfl)
  generalize (lg_sl [.ref (x_ad Y 8 0), .int p1, .int p2, .int p3, .int p4] ++ List.replicate (5 - (lg_sl [.ref (x_ad Y 8 0), .int p1, .int p2, .int p3, .int p4]).length) Slot.unset).toArray = ls at hl ⊢
  have hl : lv_has ls 5 [(0, .ref (x_ad Y 8 0)), (1, .int p1), (2, .int p2), (3, .int p3), (4, .int p4)] := hl
  generalize s.heap = H at hw ⊢
  generalize ([] : List Loc) = locs at hw ⊢
  unfold w_Jou_add at h
  refine lv_aload_n hx hb d_Jou_add_0 rfl (lv_at hl 0 rfl) ?_
  refine x_getR (t := 8) (i := 0) (j := 0) hx hb hK hw hown ok0_ rfl (by decide) (by decide) (x_wd hK k_104 rfl) (fun _ h => h) fk_4_0 (hY.r ok0_ rfl) d_Jou_add_1 ?_
  have ok1 := hY.ok 0 ok0_ (t' := 9) (i' := 0) rfl
  refine lv_aload_n hx hb d_Jou_add_4 rfl (lv_at hl 0 rfl) ?_
  refine x_getI (t := 8) (i := 0) (j := 4) hx hb hK hw hown ok0_ rfl (by decide) (by decide) (x_wd hK k_112 rfl) (fun _ h => h) fk_4_4 d_Jou_add_5 ?_
  refine lv_iload_n hx hb d_Jou_add_8 rfl (lv_at hl 1 rfl) ?_
  refine lv_i2b hx hb d_Jou_add_9 rfl ?_
  refine x_bast (t := 9) (i := 0) hx hb hK hw ok1 rfl (hY.n ok1 rfl) h.1 d_Jou_add_10 (fun I2 H locs e_I2 hw => ?_)
  replace h := h.2 I2 e_I2
  refine lv_aload_n hx hb d_Jou_add_11 rfl (lv_at hl 0 rfl) ?_
  refine x_getR (t := 8) (i := 0) (j := 1) hx hb hK hw hown ok0_ rfl (by decide) (by decide) (x_wd hK k_106 rfl) (fun _ h => h) fk_4_1 (hY.r ok0_ rfl) d_Jou_add_12 ?_
  have ok3 := hY.ok 1 ok0_ (t' := 10) (i' := 0) rfl
  refine lv_aload_n hx hb d_Jou_add_15 rfl (lv_at hl 0 rfl) ?_
  refine x_getI (t := 8) (i := 0) (j := 4) hx hb hK hw hown ok0_ rfl (by decide) (by decide) (x_wd hK k_112 rfl) (fun _ h => h) fk_4_4 d_Jou_add_16 ?_
  refine lv_iload_n hx hb d_Jou_add_19 rfl (lv_at hl 2 rfl) ?_
  refine x_zast (t := 10) (i := 0) hx hb hK hw ok3 rfl (hY.n ok3 rfl) h.1 d_Jou_add_20 (fun I4 H locs e_I4 hw => ?_)
  replace h := h.2 I4 e_I4
  refine lv_aload_n hx hb d_Jou_add_21 rfl (lv_at hl 0 rfl) ?_
  refine x_getR (t := 8) (i := 0) (j := 2) hx hb hK hw hown ok0_ rfl (by decide) (by decide) (x_wd hK k_108 rfl) (fun _ h => h) fk_4_2 (hY.r ok0_ rfl) d_Jou_add_22 ?_
  have ok5 := hY.ok 2 ok0_ (t' := 11) (i' := 0) rfl
  refine lv_aload_n hx hb d_Jou_add_25 rfl (lv_at hl 0 rfl) ?_
  refine x_getI (t := 8) (i := 0) (j := 4) hx hb hK hw hown ok0_ rfl (by decide) (by decide) (x_wd hK k_112 rfl) (fun _ h => h) fk_4_4 d_Jou_add_26 ?_
  refine lv_iload_n hx hb d_Jou_add_29 rfl (lv_at hl 3 rfl) ?_
  refine x_iast (t := 11) (i := 0) hx hb hK hw ok5 rfl (hY.n ok5 rfl) h.1 d_Jou_add_30 (fun I6 H locs e_I6 hw => ?_)
  replace h := h.2 I6 e_I6
  refine lv_aload_n hx hb d_Jou_add_31 rfl (lv_at hl 0 rfl) ?_
  refine x_getR (t := 8) (i := 0) (j := 3) hx hb hK hw hown ok0_ rfl (by decide) (by decide) (x_wd hK k_110 rfl) (fun _ h => h) fk_4_3 (hY.r ok0_ rfl) d_Jou_add_32 ?_
  have ok7 := hY.ok 3 ok0_ (t' := 12) (i' := 0) rfl
  refine lv_aload_n hx hb d_Jou_add_35 rfl (lv_at hl 0 rfl) ?_
  refine x_getI (t := 8) (i := 0) (j := 4) hx hb hK hw hown ok0_ rfl (by decide) (by decide) (x_wd hK k_112 rfl) (fun _ h => h) fk_4_4 d_Jou_add_36 ?_
  refine lv_iload hx hb d_Jou_add_39 (lv_at hl 4 rfl) ?_
  refine x_iast (t := 12) (i := 0) hx hb hK hw ok7 rfl (hY.n ok7 rfl) h.1 d_Jou_add_41 (fun I8 H locs e_I8 hw => ?_)
  replace h := h.2 I8 e_I8
  refine lv_aload_n hx hb d_Jou_add_42 rfl (lv_at hl 0 rfl) ?_
  refine lv_dup hx hb d_Jou_add_43 rfl ?_
  refine x_getI (t := 8) (i := 0) (j := 4) hx hb hK hw hown ok0_ rfl (by decide) (by decide) (x_wd hK k_112 rfl) (fun _ h => h) fk_4_4 d_Jou_add_44 ?_
  refine lv_iconst (v := 1) hx hb d_Jou_add_47 (by decide) ?_
  refine lv_iadd hx hb d_Jou_add_48 ?_
  refine x_putI (t := 8) (i := 0) (j := 4) hx hb hK hw hown ok0_ rfl (by decide) (by decide) (x_wd hK k_112 rfl) (fun _ h => h) rfl rfl d_Jou_add_49 (fun I9 H locs e_I9 hw => ?_)
  replace h := h I9 e_I9
  exact x_vret hx hb hr hlk hw ⟨rfl, Or.inl ⟨rfl, ⟨rfl, rfl, rfl, h⟩⟩⟩ hbd d_Jou_add_52
def w_Book_write (Q : x_I → Prop) (p1 : Int32) (I : x_I) : Prop :=
  (((300 : Int32) ≤ (I 1 0 4) →
    Q I) ∧
  (¬ (300 : Int32) ≤ (I 1 0 4) →
    vp_in (I 1 0 4) 300 ∧
    ∀ I3 : x_I, I3 = x_u I 13 0 (I 1 0 4).toNatClampNeg p1 →
    ∀ I4 : x_I, I4 = x_u I3 1 0 4 ((I3 1 0 4) + (1 : Int32)) →
    Q I4))
set_option maxRecDepth 100000 in
set_option maxHeartbeats 4000000 in
theorem c_Book_write {l : Launch} {g : x_G} {Y : x_Y} (hY : x_Y0 g Y) {p1 : Int32} (ok0_ : x_ok Y 1 0) {Q : x_I → Prop} {L : x_L} {I : x_I} {k n : Nat} (h : w_Book_write Q p1 I) : x_C l y_Book_write 0 g [.ref (x_ad Y 1 0), .int p1] Y L I k n (x_pV Y (fun L' I' k' n' => L' = L ∧ k' = k ∧ n' = n ∧ Q I') x_nx) := by
  refine x_mth k_752 ?_
  intro p e R s m below meth c hE hnm hexn hw hk1 hn1
  obtain ⟨hx, hb, hml, hr, hlk, hown, hK, htr, hF, hLo, hRc, hRs⟩ := id hE
  have hbd : x_bd k n k n := ⟨Nat.le_refl _, hk1, Nat.le_refl _, hn1⟩
  have hl := lv_entry ([.ref (x_ad Y 1 0), .int p1]) (n := 2) (Nat.le_of_ble_eq_true rfl)
  generalize (lg_sl [.ref (x_ad Y 1 0), .int p1] ++ List.replicate (2 - (lg_sl [.ref (x_ad Y 1 0), .int p1]).length) Slot.unset).toArray = ls at hl ⊢
  have hl : lv_has ls 2 [(0, .ref (x_ad Y 1 0)), (1, .int p1)] := hl
  generalize s.heap = H at hw ⊢
  generalize ([] : List Loc) = locs at hw ⊢
  unfold w_Book_write at h
  refine lv_aload_n hx hb d_Book_write_0 rfl (lv_at hl 0 rfl) ?_
  refine x_getI (t := 1) (i := 0) (j := 4) hx hb hK hw hown ok0_ rfl (by decide) (by decide) (x_wd hK k_139 rfl) (fun _ h => h) fk_1_4 d_Book_write_1 ?_
  refine lv_sipush (v := 300) hx hb d_Book_write_4 (by decide) ?_
  refine lv_icmp_ge (tgt := 30) hx hb d_Book_write_7 (by decide) (fun c1 => ?_) (fun c1 => ?_)
  · replace h := h.1 c1
    exact x_vret hx hb hr hlk hw ⟨rfl, Or.inl ⟨rfl, ⟨rfl, rfl, rfl, h⟩⟩⟩ hbd d_Book_write_30
  · replace h := h.2 c1
    refine lv_aload_n hx hb d_Book_write_10 rfl (lv_at hl 0 rfl) ?_
    refine x_getR (t := 1) (i := 0) (j := 3) hx hb hK hw hown ok0_ rfl (by decide) (by decide) (x_wd hK k_137 rfl) (fun _ h => h) fk_1_3 (hY.r ok0_ rfl) d_Book_write_11 ?_
    have ok2 := hY.ok 3 ok0_ (t' := 13) (i' := 0) rfl
    refine lv_aload_n hx hb d_Book_write_14 rfl (lv_at hl 0 rfl) ?_
    refine x_getI (t := 1) (i := 0) (j := 4) hx hb hK hw hown ok0_ rfl (by decide) (by decide) (x_wd hK k_139 rfl) (fun _ h => h) fk_1_4 d_Book_write_15 ?_
    refine lv_iload_n hx hb d_Book_write_18 rfl (lv_at hl 1 rfl) ?_
    refine x_iast (t := 13) (i := 0) hx hb hK hw ok2 rfl (hY.n ok2 rfl) h.1 d_Book_write_19 (fun I3 H locs e_I3 hw => ?_)
    replace h := h.2 I3 e_I3
    refine lv_aload_n hx hb d_Book_write_20 rfl (lv_at hl 0 rfl) ?_
    refine lv_dup hx hb d_Book_write_21 rfl ?_
    refine x_getI (t := 1) (i := 0) (j := 4) hx hb hK hw hown ok0_ rfl (by decide) (by decide) (x_wd hK k_139 rfl) (fun _ h => h) fk_1_4 d_Book_write_22 ?_
    refine lv_iconst (v := 1) hx hb d_Book_write_25 (by decide) ?_
    refine lv_iadd hx hb d_Book_write_26 ?_
    refine x_putI (t := 1) (i := 0) (j := 4) hx hb hK hw hown ok0_ rfl (by decide) (by decide) (x_wd hK k_139 rfl) (fun _ h => h) rfl rfl d_Book_write_27 (fun I4 H locs e_I4 hw => ?_)
    replace h := h I4 e_I4
    exact x_vret hx hb hr hlk hw ⟨rfl, Or.inl ⟨rfl, ⟨rfl, rfl, rfl, h⟩⟩⟩ hbd d_Book_write_30
def w_Led_used (Q : Int32 → Prop) (I : x_I) : Prop :=
  Q (I 0 0 5)
set_option maxRecDepth 100000 in
set_option maxHeartbeats 4000000 in
theorem c_Led_used {l : Launch} {g : x_G} {Y : x_Y} (hY : x_Y0 g Y) (ok0_ : x_ok Y 0 0) {Q : Int32 → Prop} {L : x_L} {I : x_I} {k n : Nat} (h : w_Led_used Q I) : x_C l y_Led_used 0 g [.ref (x_ad Y 0 0)] Y L I k n (x_pI Y (fun v L' I' k' n' => L' = L ∧ I' = I ∧ k' = k ∧ n' = n ∧ Q v) x_nx) := by
  refine x_mth k_249 ?_
  intro p e R s m below meth c hE hnm hexn hw hk1 hn1
  obtain ⟨hx, hb, hml, hr, hlk, hown, hK, htr, hF, hLo, hRc, hRs⟩ := id hE
  have hbd : x_bd k n k n := ⟨Nat.le_refl _, hk1, Nat.le_refl _, hn1⟩
  have hl := lv_entry ([.ref (x_ad Y 0 0)]) (n := 1) (Nat.le_of_ble_eq_true rfl)
  generalize (lg_sl [.ref (x_ad Y 0 0)] ++ List.replicate (1 - (lg_sl [.ref (x_ad Y 0 0)]).length) Slot.unset).toArray = ls at hl ⊢
  have hl : lv_has ls 1 [(0, .ref (x_ad Y 0 0))] := hl
  generalize s.heap = H at hw ⊢
  generalize ([] : List Loc) = locs at hw ⊢
  unfold w_Led_used at h
  refine lv_aload_n hx hb d_Led_used_0 rfl (lv_at hl 0 rfl) ?_
  refine x_getI (t := 0) (i := 0) (j := 5) hx hb hK hw hown ok0_ rfl (by decide) (by decide) (x_wd hK k_225 rfl) (fun _ h => h) fk_0_5 d_Led_used_1 ?_
  exact x_iret hx hb hr hlk hw ⟨rfl, Or.inl ⟨_, rfl, ⟨rfl, rfl, rfl, rfl, h⟩⟩⟩ hbd d_Led_used_4
def w_Led_result (Q : Int32 → Prop) (I : x_I) : Prop :=
  Q (I 0 0 6)
set_option maxRecDepth 100000 in
set_option maxHeartbeats 4000000 in
theorem c_Led_result {l : Launch} {g : x_G} {Y : x_Y} (hY : x_Y0 g Y) (ok0_ : x_ok Y 0 0) {Q : Int32 → Prop} {L : x_L} {I : x_I} {k n : Nat} (h : w_Led_result Q I) : x_C l y_Led_result 0 g [.ref (x_ad Y 0 0)] Y L I k n (x_pI Y (fun v L' I' k' n' => L' = L ∧ I' = I ∧ k' = k ∧ n' = n ∧ Q v) x_nx) := by
  refine x_mth k_253 ?_
  intro p e R s m below meth c hE hnm hexn hw hk1 hn1
  obtain ⟨hx, hb, hml, hr, hlk, hown, hK, htr, hF, hLo, hRc, hRs⟩ := id hE
  have hbd : x_bd k n k n := ⟨Nat.le_refl _, hk1, Nat.le_refl _, hn1⟩
  have hl := lv_entry ([.ref (x_ad Y 0 0)]) (n := 1) (Nat.le_of_ble_eq_true rfl)
  generalize (lg_sl [.ref (x_ad Y 0 0)] ++ List.replicate (1 - (lg_sl [.ref (x_ad Y 0 0)]).length) Slot.unset).toArray = ls at hl ⊢
  have hl : lv_has ls 1 [(0, .ref (x_ad Y 0 0))] := hl
  generalize s.heap = H at hw ⊢
  generalize ([] : List Loc) = locs at hw ⊢
  unfold w_Led_result at h
  refine lv_aload_n hx hb d_Led_result_0 rfl (lv_at hl 0 rfl) ?_
  refine x_getI (t := 0) (i := 0) (j := 6) hx hb hK hw hown ok0_ rfl (by decide) (by decide) (x_wd hK k_226 rfl) (fun _ h => h) fk_0_6 d_Led_result_1 ?_
  exact x_iret hx hb hr hlk hw ⟨rfl, Or.inl ⟨_, rfl, ⟨rfl, rfl, rfl, rfl, h⟩⟩⟩ hbd d_Led_result_4
def w_Led_keys (Q : Int32 → Prop) (I : x_I) : Prop :=
  Q (I 4 0 3)
set_option maxRecDepth 100000 in
set_option maxHeartbeats 4000000 in
theorem c_Led_keys {l : Launch} {g : x_G} {Y : x_Y} (hY : x_Y0 g Y) (ok0_ : x_ok Y 0 0) {Q : Int32 → Prop} {L : x_L} {I : x_I} {k n : Nat} (h : w_Led_keys Q I) : x_C l y_Led_keys 0 g [.ref (x_ad Y 0 0)] Y L I k n (x_pI Y (fun v L' I' k' n' => L' = L ∧ I' = I ∧ k' = k ∧ n' = n ∧ Q v) x_nx) := by
  refine x_mth k_257 ?_
  intro p e R s m below meth c hE hnm hexn hw hk1 hn1
  obtain ⟨hx, hb, hml, hr, hlk, hown, hK, htr, hF, hLo, hRc, hRs⟩ := id hE
  have hbd : x_bd k n k n := ⟨Nat.le_refl _, hk1, Nat.le_refl _, hn1⟩
  have hl := lv_entry ([.ref (x_ad Y 0 0)]) (n := 1) (Nat.le_of_ble_eq_true rfl)
  generalize (lg_sl [.ref (x_ad Y 0 0)] ++ List.replicate (1 - (lg_sl [.ref (x_ad Y 0 0)]).length) Slot.unset).toArray = ls at hl ⊢
  have hl : lv_has ls 1 [(0, .ref (x_ad Y 0 0))] := hl
  generalize s.heap = H at hw ⊢
  generalize ([] : List Loc) = locs at hw ⊢
  unfold w_Led_keys at h
  refine lv_aload_n hx hb d_Led_keys_0 rfl (lv_at hl 0 rfl) ?_
  refine x_getR (t := 0) (i := 0) (j := 0) hx hb hK hw hown ok0_ rfl (by decide) (by decide) (x_wd hK k_220 rfl) (fun _ h => h) fk_0_0 (hY.r ok0_ rfl) d_Led_keys_1 ?_
  have ok1 := hY.ok 0 ok0_ (t' := 1) (i' := 0) rfl
  refine x_getRN (t := 1) (i := 0) (j := 1) hx hb hK hw hown ok1 rfl (by decide) (by decide) (x_wdF hK k_133) (fun _ h => h) fk_1_1 (hY.r ok1 rfl) d_Led_keys_4 ?_
  have ok2 := hY.ok 1 ok1 (t' := 4) (i' := 0) rfl
  refine x_getIN (t := 4) (i := 0) (j := 3) hx hb hK hw hown ok2 rfl (by decide) (by decide) (x_wdF hK k_82) (fun _ h => h) fk_3_3 d_Led_keys_7 ?_
  exact x_iret hx hb hr hlk hw ⟨rfl, Or.inl ⟨_, rfl, ⟨rfl, rfl, rfl, rfl, h⟩⟩⟩ hbd d_Led_keys_10
def w_Led_logged (Q : Int32 → Prop) (I : x_I) : Prop :=
  Q (I 1 0 4)
set_option maxRecDepth 100000 in
set_option maxHeartbeats 4000000 in
theorem c_Led_logged {l : Launch} {g : x_G} {Y : x_Y} (hY : x_Y0 g Y) (ok0_ : x_ok Y 0 0) {Q : Int32 → Prop} {L : x_L} {I : x_I} {k n : Nat} (h : w_Led_logged Q I) : x_C l y_Led_logged 0 g [.ref (x_ad Y 0 0)] Y L I k n (x_pI Y (fun v L' I' k' n' => L' = L ∧ I' = I ∧ k' = k ∧ n' = n ∧ Q v) x_nx) := by
  refine x_mth k_261 ?_
  intro p e R s m below meth c hE hnm hexn hw hk1 hn1
  obtain ⟨hx, hb, hml, hr, hlk, hown, hK, htr, hF, hLo, hRc, hRs⟩ := id hE
  have hbd : x_bd k n k n := ⟨Nat.le_refl _, hk1, Nat.le_refl _, hn1⟩
  have hl := lv_entry ([.ref (x_ad Y 0 0)]) (n := 1) (Nat.le_of_ble_eq_true rfl)
  generalize (lg_sl [.ref (x_ad Y 0 0)] ++ List.replicate (1 - (lg_sl [.ref (x_ad Y 0 0)]).length) Slot.unset).toArray = ls at hl ⊢
  have hl : lv_has ls 1 [(0, .ref (x_ad Y 0 0))] := hl
  generalize s.heap = H at hw ⊢
  generalize ([] : List Loc) = locs at hw ⊢
  unfold w_Led_logged at h
  refine lv_aload_n hx hb d_Led_logged_0 rfl (lv_at hl 0 rfl) ?_
  refine x_getR (t := 0) (i := 0) (j := 0) hx hb hK hw hown ok0_ rfl (by decide) (by decide) (x_wd hK k_220 rfl) (fun _ h => h) fk_0_0 (hY.r ok0_ rfl) d_Led_logged_1 ?_
  have ok1 := hY.ok 0 ok0_ (t' := 1) (i' := 0) rfl
  refine x_getIN (t := 1) (i := 0) (j := 4) hx hb hK hw hown ok1 rfl (by decide) (by decide) (x_wdF hK k_140) (fun _ h => h) fk_1_4 d_Led_logged_4 ?_
  exact x_iret hx hb hr hlk hw ⟨rfl, Or.inl ⟨_, rfl, ⟨rfl, rfl, rfl, rfl, h⟩⟩⟩ hbd d_Led_logged_7
def w_Led_argument (Q : Int32 → x_I → Prop) (p1 : Int32) (I : x_I) : Prop :=
  ((¬ (I 0 0 4) = (8 : Int32) →
    vp_in (I 0 0 4) 8 ∧
    ∀ I3 : x_I, I3 = x_u I 16 0 (I 0 0 4).toNatClampNeg p1 →
    ∀ I4 : x_I, I4 = x_u I3 0 0 4 ((I3 0 0 4) + (1 : Int32)) →
    Q (I4 0 0 4) I4) ∧
  ((I 0 0 4) = (8 : Int32) →
    Q (-1 : Int32) I))
set_option maxRecDepth 100000 in
set_option maxHeartbeats 4000000 in
theorem c_Led_argument {l : Launch} {g : x_G} {Y : x_Y} (hY : x_Y0 g Y) {p1 : Int32} (ok0_ : x_ok Y 0 0) {Q : Int32 → x_I → Prop} {L : x_L} {I : x_I} {k n : Nat} (h : w_Led_argument Q p1 I) : x_C l y_Led_argument 0 g [.ref (x_ad Y 0 0), .int p1] Y L I k n (x_pI Y (fun v L' I' k' n' => L' = L ∧ k' = k ∧ n' = n ∧ Q v I') x_nx) := by
  refine x_mth k_245 ?_
  intro p e R s m below meth c hE hnm hexn hw hk1 hn1
  obtain ⟨hx, hb, hml, hr, hlk, hown, hK, htr, hF, hLo, hRc, hRs⟩ := id hE
  have hbd : x_bd k n k n := ⟨Nat.le_refl _, hk1, Nat.le_refl _, hn1⟩
  have hl := lv_entry ([.ref (x_ad Y 0 0), .int p1]) (n := 2) (Nat.le_of_ble_eq_true rfl)
  generalize (lg_sl [.ref (x_ad Y 0 0), .int p1] ++ List.replicate (2 - (lg_sl [.ref (x_ad Y 0 0), .int p1]).length) Slot.unset).toArray = ls at hl ⊢
  have hl : lv_has ls 2 [(0, .ref (x_ad Y 0 0)), (1, .int p1)] := hl
  generalize s.heap = H at hw ⊢
  generalize ([] : List Loc) = locs at hw ⊢
  unfold w_Led_argument at h
  refine lv_aload_n hx hb d_Led_argument_0 rfl (lv_at hl 0 rfl) ?_
  refine x_getI (t := 0) (i := 0) (j := 4) hx hb hK hw hown ok0_ rfl (by decide) (by decide) (x_wd hK k_224 rfl) (fun _ h => h) fk_0_4 d_Led_argument_1 ?_
  refine lv_bipush (v := 8) hx hb d_Led_argument_4 (by decide) ?_
  refine lv_icmp_ne (tgt := 11) hx hb d_Led_argument_6 (by decide) (fun c1 => ?_) (fun c1 => ?_)
  · replace h := h.1 c1
    refine lv_aload_n hx hb d_Led_argument_11 rfl (lv_at hl 0 rfl) ?_
    refine x_getR (t := 0) (i := 0) (j := 3) hx hb hK hw hown ok0_ rfl (by decide) (by decide) (x_wd hK k_223 rfl) (fun _ h => h) fk_0_3 (hY.r ok0_ rfl) d_Led_argument_12 ?_
    have ok2 := hY.ok 3 ok0_ (t' := 16) (i' := 0) rfl
    refine lv_aload_n hx hb d_Led_argument_15 rfl (lv_at hl 0 rfl) ?_
    refine x_getI (t := 0) (i := 0) (j := 4) hx hb hK hw hown ok0_ rfl (by decide) (by decide) (x_wd hK k_224 rfl) (fun _ h => h) fk_0_4 d_Led_argument_16 ?_
    refine lv_iload_n hx hb d_Led_argument_19 rfl (lv_at hl 1 rfl) ?_
    refine x_iast (t := 16) (i := 0) hx hb hK hw ok2 rfl (hY.n ok2 rfl) h.1 d_Led_argument_20 (fun I3 H locs e_I3 hw => ?_)
    replace h := h.2 I3 e_I3
    refine lv_aload_n hx hb d_Led_argument_21 rfl (lv_at hl 0 rfl) ?_
    refine lv_dup hx hb d_Led_argument_22 rfl ?_
    refine x_getI (t := 0) (i := 0) (j := 4) hx hb hK hw hown ok0_ rfl (by decide) (by decide) (x_wd hK k_224 rfl) (fun _ h => h) fk_0_4 d_Led_argument_23 ?_
    refine lv_iconst (v := 1) hx hb d_Led_argument_26 (by decide) ?_
    refine lv_iadd hx hb d_Led_argument_27 ?_
    refine x_putI (t := 0) (i := 0) (j := 4) hx hb hK hw hown ok0_ rfl (by decide) (by decide) (x_wd hK k_224 rfl) (fun _ h => h) rfl rfl d_Led_argument_28 (fun I4 H locs e_I4 hw => ?_)
    replace h := h I4 e_I4
    refine lv_aload_n hx hb d_Led_argument_31 rfl (lv_at hl 0 rfl) ?_
    refine x_getI (t := 0) (i := 0) (j := 4) hx hb hK hw hown ok0_ rfl (by decide) (by decide) (x_wd hK k_224 rfl) (fun _ h => h) fk_0_4 d_Led_argument_32 ?_
    exact x_iret hx hb hr hlk hw ⟨rfl, Or.inl ⟨_, rfl, ⟨rfl, rfl, rfl, h⟩⟩⟩ hbd d_Led_argument_35
  · replace h := h.2 c1
    refine lv_iconst (v := (-1)) hx hb d_Led_argument_9 (by decide) ?_
    exact x_iret hx hb hr hlk hw ⟨rfl, Or.inl ⟨_, rfl, ⟨rfl, rfl, rfl, h⟩⟩⟩ hbd d_Led_argument_10
