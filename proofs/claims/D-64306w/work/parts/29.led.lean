def w_Led_account (Q : Nat → Nat → Nat → Prop) (X : x_XT) (nA : Nat) (p1 : Int32) (L : x_L) (I : x_I) (k n : Nat) : Prop :=
  w_Book_has (fun r2 =>
    ((¬ r2 = 0 →
      ∃ a5 : Nat, a5 < nA ∧ p1 = nI a5 ∧ I 2 0 1 = nI nA ∧
      Q a5 k n) ∧
    (r2 = 0 →
      k + 1 ≤ 600288 ∧ n + 6 ≤ 7292554 ∧ X 1 L I (k + 1) (n + 6)))) p1 I
set_option maxRecDepth 100000 in
set_option maxHeartbeats 4000000 in
theorem c_Led_account {l : Launch} {g : x_G} {Y : x_Y} (hY : x_Y0 g Y) {nA : Nat} (hLs : x_Ls Y nA) {p1 : Int32} (ok0_ : x_ok Y 0 0) {Q : Nat → Nat → Nat → Prop} {X : x_XT} {L : x_L} {I : x_I} {k n : Nat} (h : w_Led_account Q X nA p1 L I k n) : x_C l y_Led_account 6 g [.ref (x_ad Y 0 0), .int p1] Y L I k n (x_pR Y 23 (fun v L' I' k' n' => L' = L ∧ I' = I ∧ Q v k' n') X) := by
  refine x_mth k_534 ?_
  intro p e R s m below meth c hE hnm hexn hw hk1 hn1
  obtain ⟨hx, hb, hml, hr, hlk, hown, hK, htr, hF, hLo, hRc, hRs⟩ := id hE
  have hbd : x_bd k n k n := ⟨Nat.le_refl _, hk1, Nat.le_refl _, hn1⟩
  have hl := lv_entry ([.ref (x_ad Y 0 0), .int p1]) (n := 2) (Nat.le_of_ble_eq_true rfl)
  generalize (lg_sl [.ref (x_ad Y 0 0), .int p1] ++ List.replicate (2 - (lg_sl [.ref (x_ad Y 0 0), .int p1]).length) Slot.unset).toArray = ls at hl ⊢
  have hl : lv_has ls 2 [(0, .ref (x_ad Y 0 0)), (1, .int p1)] := hl
  generalize s.heap = H at hw ⊢
  generalize ([] : List Loc) = locs at hw ⊢
  unfold w_Led_account at h
  refine lv_aload_n hx hb d_Led_account_0 rfl (lv_at hl 0 rfl) ?_
  refine x_getR (t := 0) (i := 0) (j := 0) hx hb hK hw hown ok0_ rfl (by decide) (by decide) (x_wd hK k_220 rfl) (fun _ h => h) fk_0_0 (hY.r ok0_ rfl) d_Led_account_1 ?_
  have ok1 := hY.ok 0 ok0_ (t' := 1) (i' := 0) rfl
  refine lv_iload_n hx hb d_Led_account_4 rfl (lv_at hl 1 rfl) ?_
  refine x_goI (ls := ls) (rest := []) hE hw (c_Book_has hY ok1 h) (x_cd hK k_538) q_Book_has (by decide) (by decide) hl.1 (Nat.le_of_ble_eq_true rfl) hbd d_Led_account_5 (x_toV (As := [.int p1]) (b := (x_ad Y 1 0)) hx hb hown hK (x_recv hK hw ok1 rfl (by decide)) k_535 k_536 k_537 ⟨_, x_cd hK k_538⟩ q_Book_has rfl rfl d_Led_account_5) (fun r2 L9 I9 k9 n9 H locs h hw hb9 => ?_) (fun _ _ _ _ _ _ _ h9 => h9.elim)
  obtain ⟨e1, e2, e3, e4, h⟩ := h
  rw [e1, e2] at hw
  rw [e3, e4]
  refine lv_if_ne (tgt := 21) hx hb d_Led_account_8 (by decide) (fun c3 => ?_) (fun c3 => ?_)
  · replace h := h.1 c3
    refine lv_aload_n hx hb d_Led_account_21 rfl (lv_at hl 0 rfl) ?_
    refine x_getR (t := 0) (i := 0) (j := 0) hx hb hK hw hown ok0_ rfl (by decide) (by decide) (x_wd hK k_220 rfl) (fun _ h => h) fk_0_0 (hY.r ok0_ rfl) d_Led_account_22 ?_
    refine x_getRN (t := 1) (i := 0) (j := 0) hx hb hK hw hown ok1 rfl (by decide) (by decide) (x_wdF hK k_129) (fun _ h => h) fk_1_0 (hY.r ok1 rfl) d_Led_account_25 ?_
    have ok4 := hY.ok 0 ok1 (t' := 2) (i' := 0) rfl
    refine lv_iload_n hx hb d_Led_account_28 rfl (lv_at hl 1 rfl) ?_
    obtain ⟨a5, l_a5, e_a5, hsz, h⟩ := h
    refine x_lget (a := a5) (rest := []) hE hw hLs ok4 k_555 (by decide) hl.1 (Nat.le_of_ble_eq_true rfl) hbd l_a5 e_a5 hsz k_318 d_Led_account_29 d_Led_account_34 (fun H locs hw => ?_)
    have ok6 := (hLs (Nat.lt_of_le_of_lt (Nat.zero_le _) l_a5)).2.2.2.2 a5 l_a5 |>.2
    exact x_aret hx hb hr (Or.inl ⟨_, rfl⟩) hlk hw ⟨rfl, Or.inl ⟨_, rfl, ok6, ⟨rfl, rfl, h⟩⟩⟩ hbd d_Led_account_37
  · replace h := h.2 c3
    exact x_throw (kx := 1) hE hexn hw x_xk_1 (by decide) k_541 k_542 k_22 k_550 (by decide) (Nat.le_of_ble_eq_true rfl) hl.1 h.1 h.2.1 hbd d_Led_account_11 d_Led_account_14 d_Led_account_15 d_Led_account_17 d_Led_account_20 ⟨rfl, Or.inr ⟨_, rfl, h.2.2⟩⟩
def w_Led_fits (Q : Nat → Nat → Prop) (X : x_XT) (p1 : Int32) (L : x_L) (I : x_I) (k n : Nat) : Prop :=
  ((¬ p1 = 0 →
    Q k n) ∧
  (p1 = 0 →
    k + 1 ≤ 600288 ∧ n + 6 ≤ 7292554 ∧ X 0 L I (k + 1) (n + 6)))
set_option maxRecDepth 100000 in
set_option maxHeartbeats 4000000 in
theorem c_Led_fits {l : Launch} {g : x_G} {Y : x_Y} (hY : x_Y0 g Y) {p1 : Int32} {Q : Nat → Nat → Prop} {X : x_XT} {L : x_L} {I : x_I} {k n : Nat} (h : w_Led_fits Q X p1 L I k n) : x_C l y_Led_fits 6 g [.int p1] Y L I k n (x_pV Y (fun L' I' k' n' => L' = L ∧ I' = I ∧ Q k' n') X) := by
  refine x_mth k_329 ?_
  intro p e R s m below meth c hE hnm hexn hw hk1 hn1
  obtain ⟨hx, hb, hml, hr, hlk, hown, hK, htr, hF, hLo, hRc, hRs⟩ := id hE
  have hbd : x_bd k n k n := ⟨Nat.le_refl _, hk1, Nat.le_refl _, hn1⟩
  have hl := lv_entry ([.int p1]) (n := 1) (Nat.le_of_ble_eq_true rfl)
  generalize (lg_sl [.int p1] ++ List.replicate (1 - (lg_sl [.int p1]).length) Slot.unset).toArray = ls at hl ⊢
  have hl : lv_has ls 1 [(0, .int p1)] := hl
  generalize s.heap = H at hw ⊢
  generalize ([] : List Loc) = locs at hw ⊢
  unfold w_Led_fits at h
  refine lv_iload_n hx hb d_Led_fits_0 rfl (lv_at hl 0 rfl) ?_
  refine lv_if_ne (tgt := 14) hx hb d_Led_fits_1 (by decide) (fun c1 => ?_) (fun c1 => ?_)
  · replace h := h.1 c1
    exact x_vret hx hb hr hlk hw ⟨rfl, Or.inl ⟨rfl, ⟨rfl, rfl, h⟩⟩⟩ hbd d_Led_fits_14
  · replace h := h.2 c1
    exact x_throw (kx := 0) hE hexn hw x_xk_0 (by decide) k_330 k_331 k_15 k_372 (by decide) (Nat.le_of_ble_eq_true rfl) hl.1 h.1 h.2.1 hbd d_Led_fits_4 d_Led_fits_7 d_Led_fits_8 d_Led_fits_10 d_Led_fits_13 ⟨rfl, Or.inr ⟨_, rfl, h.2.2⟩⟩
def w_Led_isOpen (Q : Nat → Nat → Prop) (X : x_XT) (a : Nat) (L : x_L) (I : x_I) (k n : Nat) : Prop :=
  (((I 23 a 3) = 0 →
    Q k n) ∧
  (¬ (I 23 a 3) = 0 →
    k + 1 ≤ 600288 ∧ n + 6 ≤ 7292554 ∧ X 2 L I (k + 1) (n + 6)))
set_option maxRecDepth 100000 in
set_option maxHeartbeats 4000000 in
theorem c_Led_isOpen {l : Launch} {g : x_G} {Y : x_Y} (hY : x_Y0 g Y) {a : Nat} (ok0_ : x_ok Y 23 a) {Q : Nat → Nat → Prop} {X : x_XT} {L : x_L} {I : x_I} {k n : Nat} (h : w_Led_isOpen Q X a L I k n) : x_C l y_Led_isOpen 6 g [.ref (x_ad Y 23 a)] Y L I k n (x_pV Y (fun L' I' k' n' => L' = L ∧ I' = I ∧ Q k' n') X) := by
  refine x_mth k_575 ?_
  intro p e R s m below meth c hE hnm hexn hw hk1 hn1
  obtain ⟨hx, hb, hml, hr, hlk, hown, hK, htr, hF, hLo, hRc, hRs⟩ := id hE
  have hbd : x_bd k n k n := ⟨Nat.le_refl _, hk1, Nat.le_refl _, hn1⟩
  have hl := lv_entry ([.ref (x_ad Y 23 a)]) (n := 1) (Nat.le_of_ble_eq_true rfl)
  generalize (lg_sl [.ref (x_ad Y 23 a)] ++ List.replicate (1 - (lg_sl [.ref (x_ad Y 23 a)]).length) Slot.unset).toArray = ls at hl ⊢
  have hl : lv_has ls 1 [(0, .ref (x_ad Y 23 a))] := hl
  generalize s.heap = H at hw ⊢
  generalize ([] : List Loc) = locs at hw ⊢
  unfold w_Led_isOpen at h
  refine lv_aload_n hx hb d_Led_isOpen_0 rfl (lv_at hl 0 rfl) ?_
  refine x_getIN (t := 23) (i := a) (j := 3) hx hb hK hw hown ok0_ rfl (by decide) (by decide) (x_wdF hK k_423) (fun _ h => h) fk_7_3 d_Led_isOpen_1 ?_
  refine lv_if_eq (tgt := 17) hx hb d_Led_isOpen_4 (by decide) (fun c1 => ?_) (fun c1 => ?_)
  · replace h := h.1 c1
    exact x_vret hx hb hr hlk hw ⟨rfl, Or.inl ⟨rfl, ⟨rfl, rfl, h⟩⟩⟩ hbd d_Led_isOpen_17
  · replace h := h.2 c1
    exact x_throw (kx := 2) hE hexn hw x_xk_2 (by decide) k_576 k_577 k_27 k_585 (by decide) (Nat.le_of_ble_eq_true rfl) hl.1 h.1 h.2.1 hbd d_Led_isOpen_7 d_Led_isOpen_10 d_Led_isOpen_11 d_Led_isOpen_13 d_Led_isOpen_16 ⟨rfl, Or.inr ⟨_, rfl, h.2.2⟩⟩
def w_Led_code (Q : Int32 → x_I → Nat → Nat → Prop) (X : x_XT) (nA : Nat) (p1 : Int32) (p2 : Int32) (L : x_L) (I : x_I) (k n : Nat) : Prop :=
  w_Led_account (fun a1 k2 n2 =>
    w_Led_isOpen (fun k4 n4 =>
      ((¬ (I 23 a1 2) = (160 : Int32) →
        vp_in (I 23 a1 2) 160 ∧
        ∀ I7 : x_I, I7 = x_u I 24 a1 (I 23 a1 2).toNatClampNeg p2 →
        ∀ I8 : x_I, I8 = x_u I7 23 a1 2 ((I7 23 a1 2) + (1 : Int32)) →
        Q (I8 23 a1 2) I8 k4 n4) ∧
      ((I 23 a1 2) = (160 : Int32) →
        Q (-1 : Int32) I k4 n4))) X a1 L I k2 n2) X nA p1 L I k n
set_option maxRecDepth 100000 in
set_option maxHeartbeats 4000000 in
theorem c_Led_code {l : Launch} {g : x_G} {Y : x_Y} (hY : x_Y0 g Y) {nA : Nat} (hLs : x_Ls Y nA) {p1 : Int32} {p2 : Int32} (ok0_ : x_ok Y 0 0) {Q : Int32 → x_I → Nat → Nat → Prop} {X : x_XT} {L : x_L} {I : x_I} {k n : Nat} (h : w_Led_code Q X nA p1 p2 L I k n) : x_C l y_Led_code 7 g [.ref (x_ad Y 0 0), .int p1, .int p2] Y L I k n (x_pI Y (fun v L' I' k' n' => L' = L ∧ Q v I' k' n') X) := by
  refine x_mth k_530 ?_
  intro p e R s m below meth c hE hnm hexn hw hk1 hn1
  obtain ⟨hx, hb, hml, hr, hlk, hown, hK, htr, hF, hLo, hRc, hRs⟩ := id hE
  have hbd : x_bd k n k n := ⟨Nat.le_refl _, hk1, Nat.le_refl _, hn1⟩
  have hl := lv_entry ([.ref (x_ad Y 0 0), .int p1, .int p2]) (n := 4) (Nat.le_of_ble_eq_true rfl)
  generalize (lg_sl [.ref (x_ad Y 0 0), .int p1, .int p2] ++ List.replicate (4 - (lg_sl [.ref (x_ad Y 0 0), .int p1, .int p2]).length) Slot.unset).toArray = ls at hl ⊢
  have hl : lv_has ls 4 [(0, .ref (x_ad Y 0 0)), (1, .int p1), (2, .int p2)] := hl
  generalize s.heap = H at hw ⊢
  generalize ([] : List Loc) = locs at hw ⊢
  unfold w_Led_code at h
  refine lv_aload_n hx hb d_Led_code_0 rfl (lv_at hl 0 rfl) ?_
  refine lv_iload_n hx hb d_Led_code_1 rfl (lv_at hl 1 rfl) ?_
  refine x_goR (ls := ls) (rest := []) hE hw (c_Led_account hY hLs ok0_ h) (x_cd hK k_534) q_Led_account (by decide) (by decide) hl.1 (Nat.le_of_ble_eq_true rfl) hbd d_Led_code_2 (x_toV (As := [.int p1]) (b := (x_ad Y 0 0)) hx hb hown hK (x_recv hK hw ok0_ rfl (by decide)) k_531 k_533 ks_4 ⟨_, x_cd hK k_534⟩ q_Led_account rfl rfl d_Led_code_2) (fun a1 L9 I9 k2 n2 H locs ok3 h hw hb9 => ?_) (fun kx L9 I9 k9 n9 H locs h hw hb9 => x_thr hlk (fun x h9 => by rw [hexn] at h9; cases h9) hw ⟨rfl, Or.inr ⟨kx, rfl, h⟩⟩ (hbd.tr hb9))
  obtain ⟨e1, e2, h⟩ := h
  rw [e1, e2] at hw
  replace hbd := hbd.tr hb9
  refine lv_astore_n (lv' := [(3, .ref (x_ad Y 23 a1)), (0, .ref (x_ad Y 0 0)), (1, .int p1), (2, .int p2)]) hx hb d_Led_code_5 rfl hl (by decide) rfl (fun ls hl => ?_)
  refine lv_aload_n hx hb d_Led_code_6 rfl (lv_at hl 0 rfl) ?_
  refine x_goV (ls := ls) (rest := []) hE hw (c_Led_isOpen hY ok3 h) (x_cd hK k_575) q_Led_isOpen (by decide) (by decide) hl.1 (Nat.le_of_ble_eq_true rfl) hbd d_Led_code_7 (x_toS (As := [.ref (x_ad Y 23 a1)]) hx hb hown hK k_573 k_574 k_1 ⟨_, x_cd hK k_575⟩ q_Led_isOpen rfl rfl d_Led_code_7) (fun L9 I9 k4 n4 H locs h hw hb9 => ?_) (fun kx L9 I9 k9 n9 H locs h hw hb9 => x_thr hlk (fun x h9 => by rw [hexn] at h9; cases h9) hw ⟨rfl, Or.inr ⟨kx, rfl, h⟩⟩ (hbd.tr hb9))
  obtain ⟨e1, e2, h⟩ := h
  rw [e1, e2] at hw
  replace hbd := hbd.tr hb9
  refine lv_aload_n hx hb d_Led_code_10 rfl (lv_at hl 0 rfl) ?_
  refine x_getIN (t := 23) (i := a1) (j := 2) hx hb hK hw hown ok3 rfl (by decide) (by decide) (x_wdF hK k_421) (fun _ h => h) fk_7_2 d_Led_code_11 ?_
  refine lv_sipush (v := 160) hx hb d_Led_code_14 (by decide) ?_
  refine lv_icmp_ne (tgt := 22) hx hb d_Led_code_17 (by decide) (fun c5 => ?_) (fun c5 => ?_)
  · replace h := h.1 c5
    refine lv_aload_n hx hb d_Led_code_22 rfl (lv_at hl 0 rfl) ?_
    refine x_getRN (t := 23) (i := a1) (j := 1) hx hb hK hw hown ok3 rfl (by decide) (by decide) (x_wdF hK k_418) (fun _ h => h) fk_7_1 (hY.r ok3 rfl) d_Led_code_23 ?_
    have ok6 := hY.ok 1 ok3 (t' := 24) (i' := a1) rfl
    refine lv_aload_n hx hb d_Led_code_26 rfl (lv_at hl 0 rfl) ?_
    refine x_getIN (t := 23) (i := a1) (j := 2) hx hb hK hw hown ok3 rfl (by decide) (by decide) (x_wdF hK k_421) (fun _ h => h) fk_7_2 d_Led_code_27 ?_
    refine lv_iload_n hx hb d_Led_code_30 rfl (lv_at hl 3 rfl) ?_
    refine x_iast (t := 24) (i := a1) hx hb hK hw ok6 rfl (hY.n ok6 rfl) h.1 d_Led_code_31 (fun I7 H locs e_I7 hw => ?_)
    replace h := h.2 I7 e_I7
    refine lv_aload_n hx hb d_Led_code_32 rfl (lv_at hl 0 rfl) ?_
    refine lv_dup hx hb d_Led_code_33 rfl ?_
    refine x_getIN (t := 23) (i := a1) (j := 2) hx hb hK hw hown ok3 rfl (by decide) (by decide) (x_wdF hK k_421) (fun _ h => h) fk_7_2 d_Led_code_34 ?_
    refine lv_iconst (v := 1) hx hb d_Led_code_37 (by decide) ?_
    refine lv_iadd hx hb d_Led_code_38 ?_
    refine x_putIN (t := 23) (i := a1) (j := 2) hx hb hK hw hown ok3 rfl (by decide) (by decide) (x_wdF hK k_421) (fun _ h => h) rfl rfl d_Led_code_39 (fun I8 H locs e_I8 hw => ?_)
    replace h := h I8 e_I8
    refine lv_aload_n hx hb d_Led_code_42 rfl (lv_at hl 0 rfl) ?_
    refine x_getIN (t := 23) (i := a1) (j := 2) hx hb hK hw hown ok3 rfl (by decide) (by decide) (x_wdF hK k_421) (fun _ h => h) fk_7_2 d_Led_code_43 ?_
    exact x_iret hx hb hr hlk hw ⟨rfl, Or.inl ⟨_, rfl, ⟨rfl, h⟩⟩⟩ hbd d_Led_code_46
  · replace h := h.2 c5
    refine lv_iconst (v := (-1)) hx hb d_Led_code_20 (by decide) ?_
    exact x_iret hx hb hr hlk hw ⟨rfl, Or.inl ⟨_, rfl, ⟨rfl, h⟩⟩⟩ hbd d_Led_code_21
def w_Led_seal_12 (Q : Int32 → x_I → Nat → Nat → Prop) (X : x_XT) (nA : Nat) (a1 : Nat) : Nat → Int32 → Int32 → x_L → x_I → Nat → Nat → Prop
  | 0, _, _, _, _, _, _ => False
  | fu + 1, v1, v3, L, I, ka, na =>
    (((I 23 a1 2) ≤ v3 →
      ∀ I7 : x_I, I7 = x_u I 23 a1 3 (1 : Int32) →
      Q (-1 : Int32) I7 ka na) ∧
    (¬ (I 23 a1 2) ≤ v3 →
      vp_in v3 160 ∧
      ∀ x9 : Int32, x9 = ((I 24 a1 v3.toNatClampNeg) &&& (255 : Int32)) →
      (((nI 30) ≤ x9 →
        ∀ I12 : x_I, I12 = x_u I 23 a1 2 (0 : Int32) →
        Q v3 I12 ka na) ∧
      (¬ (nI 30) ≤ x9 →
        vp_in x9 30 ∧
        ∀ i13 : Nat, i13 = x9.toNatClampNeg →
        vp_in v3 160 ∧
        w_Ins_takes (fun r14 =>
          ((¬ r14 = 0 →
            ∀ x16 : Int32, x16 = v3 + (1 : Int32) →
            w_Led_seal_12 Q X nA a1 fu v1 x16 L I ka na) ∧
          (r14 = 0 →
            ∀ I17 : x_I, I17 = x_u I 23 a1 2 (0 : Int32) →
            Q v3 I17 ka na))) i13 (((I 24 a1 v3.toNatClampNeg) >>> ((8 : Int32) &&& 31))) (I 23 a1 2)))))
def w_Led_seal (Q : Int32 → x_I → Nat → Nat → Prop) (X : x_XT) (nA : Nat) (p1 : Int32) (L : x_L) (I : x_I) (k n : Nat) : Prop :=
  w_Led_account (fun a1 k2 n2 =>
    w_Led_isOpen (fun k4 n4 =>
      ∀ x5 : Int32, x5 = (0 : Int32) →
      ∃ fu : Nat, w_Led_seal_12 Q X nA a1 fu p1 x5 L I k4 n4) X a1 L I k2 n2) X nA p1 L I k n
set_option maxRecDepth 100000 in
set_option maxHeartbeats 4000000 in
theorem c_Led_seal_12 {l : Launch} {g : x_G} {Y : x_Y} {p : Program} {e : Env} {R : Room} {s : State} {m : MethodId} {args : Array Value} {below : List Frame} {meth : Method} {c : Code} {k n : Nat} (hE : x_E l g p e R s m meth c "CallLedger" prog_1_method_7_code 5 (some .int) 7 k n) (hexn : c.exceptionTable.toList = []) (hY : x_Y0 g Y) {nA : Nat} (hLs : x_Ls Y nA) (ok0_ : x_ok Y 0 0) {a1 : Nat} (okx_23_a1 : x_ok Y 23 a1) {Q : Int32 → x_I → Nat → Nat → Prop} {X : x_XT} {L : x_L} :
    ∀ (fu : Nat) (v1 : Int32) (v3 : Int32) (I : x_I) (ka na : Nat) (H : Heap) (locs : List Loc) (ls : Array Slot), w_Led_seal_12 Q X nA a1 fu v1 v3 L I ka na → x_WL g Y L I H locs → x_bd k n ka na → lv_has ls 5 [(0, .ref (x_ad Y 0 0)), (1, .int v1), (2, .ref (x_ad Y 23 a1)), (3, .int v3)] → W p l e R s m args below meth c H locs (ka - k) (na - n) (x_Q g below s k n (x_pI Y (fun v L' I' k' n' => L' = L ∧ Q v I' k' n') X)) (F0 m 12 ls []) := by
  obtain ⟨hx, hb, hml, hr, hlk, hown, hK, htr, hF, hLo, hRc, hRs⟩ := id hE
  intro fu
  induction fu with
  | zero =>
    intro v1 v3 I ka na H locs ls h
    exact h.elim
  | succ fu ih =>
    intro v1 v3 I ka na H locs ls h hw hbd hl
    unfold w_Led_seal_12 at h
    refine lv_iload_n hx hb d_Led_seal_12 rfl (lv_at hl 3 rfl) ?_
    refine lv_aload_n hx hb d_Led_seal_13 rfl (lv_at hl 2 rfl) ?_
    refine x_getIN (t := 23) (i := a1) (j := 2) hx hb hK hw hown okx_23_a1 rfl (by decide) (by decide) (x_wdF hK k_421) (fun _ h => h) fk_7_2 d_Led_seal_14 ?_
    refine lv_icmp_ge (tgt := 81) hx hb d_Led_seal_17 (by decide) (fun c6 => ?_) (fun c6 => ?_)
    · replace h := h.1 c6
      refine lv_aload_n hx hb d_Led_seal_81 rfl (lv_at hl 2 rfl) ?_
      refine lv_iconst (v := 1) hx hb d_Led_seal_82 (by decide) ?_
      refine x_putZN (t := 23) (i := a1) (j := 3) hx hb hK hw hown okx_23_a1 rfl (by decide) (by decide) (x_wdF hK k_423) (fun _ h => h) rfl rfl (Or.inr rfl) d_Led_seal_83 (fun I7 H locs e_I7 hw => ?_)
      replace h := h I7 e_I7
      refine lv_iconst (v := (-1)) hx hb d_Led_seal_86 (by decide) ?_
      exact x_iret hx hb hr hlk hw ⟨rfl, Or.inl ⟨_, rfl, ⟨rfl, h⟩⟩⟩ hbd d_Led_seal_87
    · replace h := h.2 c6
      refine lv_aload_n hx hb d_Led_seal_20 rfl (lv_at hl 2 rfl) ?_
      refine x_getRN (t := 23) (i := a1) (j := 1) hx hb hK hw hown okx_23_a1 rfl (by decide) (by decide) (x_wdF hK k_418) (fun _ h => h) fk_7_1 (hY.r okx_23_a1 rfl) d_Led_seal_21 ?_
      have ok8 := hY.ok 1 okx_23_a1 (t' := 24) (i' := a1) rfl
      refine lv_iload_n hx hb d_Led_seal_24 rfl (lv_at hl 3 rfl) ?_
      refine x_iald (t := 24) (i := a1) hx hb hK hw ok8 rfl (hY.n ok8 rfl) h.1 d_Led_seal_25 ?_
      replace h := h.2
      refine lv_sipush (v := 255) hx hb d_Led_seal_26 (by decide) ?_
      refine lv_iand hx hb d_Led_seal_29 ?_
      refine lv_topi (fun x9 e_x9 => ?_)
      replace h := h x9 e_x9
      refine lv_istore (lv' := [(4, .int x9), (0, .ref (x_ad Y 0 0)), (1, .int v1), (2, .ref (x_ad Y 23 a1)), (3, .int v3)]) hx hb d_Led_seal_30 hl (by decide) rfl (fun ls hl => ?_)
      refine lv_iload hx hb d_Led_seal_32 (lv_at hl 0 rfl) ?_
      refine lv_aload_n hx hb d_Led_seal_34 rfl (lv_at hl 1 rfl) ?_
      refine x_getR (t := 0) (i := 0) (j := 1) hx hb hK hw hown ok0_ rfl (by decide) (by decide) (x_wd hK k_221 rfl) (fun _ h => h) fk_0_1 (hY.r ok0_ rfl) d_Led_seal_35 ?_
      have ok10 := hY.ok 1 ok0_ (t' := 14) (i' := 0) rfl
      refine x_alen (t := 14) (i := 0) hx hb hK hw ok10 rfl (by decide) (hY.n ok10 rfl) d_Led_seal_38 ?_
      refine lv_icmp_ge (tgt := 68) hx hb d_Led_seal_39 (by decide) (fun c11 => ?_) (fun c11 => ?_)
      · replace h := h.1 c11
        refine lv_aload_n hx hb d_Led_seal_68 rfl (lv_at hl 3 rfl) ?_
        refine lv_iconst (v := 0) hx hb d_Led_seal_69 (by decide) ?_
        refine x_putIN (t := 23) (i := a1) (j := 2) hx hb hK hw hown okx_23_a1 rfl (by decide) (by decide) (x_wdF hK k_421) (fun _ h => h) rfl rfl d_Led_seal_70 (fun I12 H locs e_I12 hw => ?_)
        replace h := h I12 e_I12
        refine lv_iload_n hx hb d_Led_seal_73 rfl (lv_at hl 4 rfl) ?_
        exact x_iret hx hb hr hlk hw ⟨rfl, Or.inl ⟨_, rfl, ⟨rfl, h⟩⟩⟩ hbd d_Led_seal_74
      · replace h := h.2 c11
        refine lv_aload_n hx hb d_Led_seal_42 rfl (lv_at hl 1 rfl) ?_
        refine x_getR (t := 0) (i := 0) (j := 1) hx hb hK hw hown ok0_ rfl (by decide) (by decide) (x_wd hK k_221 rfl) (fun _ h => h) fk_0_1 (hY.r ok0_ rfl) d_Led_seal_43 ?_
        refine lv_iload hx hb d_Led_seal_46 (lv_at hl 0 rfl) ?_
        obtain ⟨i13, e_i13⟩ : ∃ z : Nat, z = x9.toNatClampNeg := ⟨_, rfl⟩
        have l_i13 : i13 < 30 := by rw [e_i13]; exact Nat.not_le.mp fun z => h.1 (Or.inr z)
        refine x_aald (t := 14) (i := 0) (a := g.2.2.2.2 i13) hx hb hK hw ok10 rfl (by decide) (by decide) (hY.n ok10 rfl) h.1 (by rw [← e_i13]; exact hY.2.2 ok10 i13 l_i13) d_Led_seal_48 ?_
        replace h := h.2 i13 e_i13
        refine lv_aload_n hx hb d_Led_seal_49 rfl (lv_at hl 3 rfl) ?_
        refine x_getRN (t := 23) (i := a1) (j := 1) hx hb hK hw hown okx_23_a1 rfl (by decide) (by decide) (x_wdF hK k_418) (fun _ h => h) fk_7_1 (hY.r okx_23_a1 rfl) d_Led_seal_50 ?_
        refine lv_iload_n hx hb d_Led_seal_53 rfl (lv_at hl 4 rfl) ?_
        refine x_iald (t := 24) (i := a1) hx hb hK hw ok8 rfl (hY.n ok8 rfl) h.1 d_Led_seal_54 ?_
        replace h := h.2
        refine lv_bipush (v := 8) hx hb d_Led_seal_55 (by decide) ?_
        refine lv_ishr hx hb d_Led_seal_57 ?_
        refine lv_aload_n hx hb d_Led_seal_58 rfl (lv_at hl 3 rfl) ?_
        refine x_getIN (t := 23) (i := a1) (j := 2) hx hb hK hw hown okx_23_a1 rfl (by decide) (by decide) (x_wdF hK k_421) (fun _ h => h) fk_7_2 d_Led_seal_59 ?_
        refine x_goI (ls := ls) (rest := []) hE hw (c_Ins_takes hY l_i13 h) (x_cd hK k_602) q_Ins_takes (by decide) (by decide) hl.1 (Nat.le_of_ble_eq_true rfl) hbd d_Led_seal_62 (x_toV (As := [.int (((I 24 a1 v3.toNatClampNeg) >>> ((8 : Int32) &&& 31))), .int (I 23 a1 2)]) (b := (g.2.2.2.2 i13)) hx hb hown hK (x_erecv hK hw l_i13) k_599 k_600 k_601 ⟨_, x_cd hK k_602⟩ q_Ins_takes rfl rfl d_Led_seal_62) (fun r14 L9 I9 k9 n9 H locs h hw hb9 => ?_) (fun _ _ _ _ _ _ _ h9 => h9.elim)
        obtain ⟨e1, e2, e3, e4, h⟩ := h
        rw [e1, e2] at hw
        rw [e3, e4]
        refine lv_if_ne (tgt := 75) hx hb d_Led_seal_65 (by decide) (fun c15 => ?_) (fun c15 => ?_)
        · replace h := h.1 c15
          obtain ⟨x16, e_x16⟩ : ∃ z : Int32, z = v3 + (1 : Int32) := ⟨_, rfl⟩
          replace h := h x16 e_x16
          refine lv_iinc (v := x16) (lv' := [(3, .int x16), (4, .int x9), (0, .ref (x_ad Y 0 0)), (1, .int v1), (2, .ref (x_ad Y 23 a1))]) hx hb d_Led_seal_75 hl (k := 4) rfl (by rw [e_x16]; rfl) (by decide) rfl (fun ls hl => ?_)
          refine lv_goto (tgt := 12) hx hb d_Led_seal_78 (by decide) ?_
          exact ih v1 x16 I ka na H locs ls h hw hbd (lv_sub hl [2, 3, 4, 0] rfl)
        · replace h := h.2 c15
          refine lv_aload_n hx hb d_Led_seal_68 rfl (lv_at hl 3 rfl) ?_
          refine lv_iconst (v := 0) hx hb d_Led_seal_69 (by decide) ?_
          refine x_putIN (t := 23) (i := a1) (j := 2) hx hb hK hw hown okx_23_a1 rfl (by decide) (by decide) (x_wdF hK k_421) (fun _ h => h) rfl rfl d_Led_seal_70 (fun I17 H locs e_I17 hw => ?_)
          replace h := h I17 e_I17
          refine lv_iload_n hx hb d_Led_seal_73 rfl (lv_at hl 4 rfl) ?_
          exact x_iret hx hb hr hlk hw ⟨rfl, Or.inl ⟨_, rfl, ⟨rfl, h⟩⟩⟩ hbd d_Led_seal_74
set_option maxRecDepth 100000 in
set_option maxHeartbeats 4000000 in
theorem c_Led_seal {l : Launch} {g : x_G} {Y : x_Y} (hY : x_Y0 g Y) {nA : Nat} (hLs : x_Ls Y nA) {p1 : Int32} (ok0_ : x_ok Y 0 0) {Q : Int32 → x_I → Nat → Nat → Prop} {X : x_XT} {L : x_L} {I : x_I} {k n : Nat} (h : w_Led_seal Q X nA p1 L I k n) : x_C l y_Led_seal 7 g [.ref (x_ad Y 0 0), .int p1] Y L I k n (x_pI Y (fun v L' I' k' n' => L' = L ∧ Q v I' k' n') X) := by
  refine x_mth k_598 ?_
  intro p e R s m below meth c hE hnm hexn hw hk1 hn1
  obtain ⟨hx, hb, hml, hr, hlk, hown, hK, htr, hF, hLo, hRc, hRs⟩ := id hE
  have hbd : x_bd k n k n := ⟨Nat.le_refl _, hk1, Nat.le_refl _, hn1⟩
  have hl := lv_entry ([.ref (x_ad Y 0 0), .int p1]) (n := 5) (Nat.le_of_ble_eq_true rfl)
  generalize (lg_sl [.ref (x_ad Y 0 0), .int p1] ++ List.replicate (5 - (lg_sl [.ref (x_ad Y 0 0), .int p1]).length) Slot.unset).toArray = ls at hl ⊢
  have hl : lv_has ls 5 [(0, .ref (x_ad Y 0 0)), (1, .int p1)] := hl
  generalize s.heap = H at hw ⊢
  generalize ([] : List Loc) = locs at hw ⊢
  unfold w_Led_seal at h
  refine lv_aload_n hx hb d_Led_seal_0 rfl (lv_at hl 0 rfl) ?_
  refine lv_iload_n hx hb d_Led_seal_1 rfl (lv_at hl 1 rfl) ?_
  refine x_goR (ls := ls) (rest := []) hE hw (c_Led_account hY hLs ok0_ h) (x_cd hK k_534) q_Led_account (by decide) (by decide) hl.1 (Nat.le_of_ble_eq_true rfl) hbd d_Led_seal_2 (x_toV (As := [.int p1]) (b := (x_ad Y 0 0)) hx hb hown hK (x_recv hK hw ok0_ rfl (by decide)) k_531 k_533 ks_4 ⟨_, x_cd hK k_534⟩ q_Led_account rfl rfl d_Led_seal_2) (fun a1 L9 I9 k2 n2 H locs ok3 h hw hb9 => ?_) (fun kx L9 I9 k9 n9 H locs h hw hb9 => x_thr hlk (fun x h9 => by rw [hexn] at h9; cases h9) hw ⟨rfl, Or.inr ⟨kx, rfl, h⟩⟩ (hbd.tr hb9))
  obtain ⟨e1, e2, h⟩ := h
  rw [e1, e2] at hw
  replace hbd := hbd.tr hb9
  refine lv_astore_n (lv' := [(2, .ref (x_ad Y 23 a1)), (0, .ref (x_ad Y 0 0)), (1, .int p1)]) hx hb d_Led_seal_5 rfl hl (by decide) rfl (fun ls hl => ?_)
  refine lv_aload_n hx hb d_Led_seal_6 rfl (lv_at hl 0 rfl) ?_
  refine x_goV (ls := ls) (rest := []) hE hw (c_Led_isOpen hY ok3 h) (x_cd hK k_575) q_Led_isOpen (by decide) (by decide) hl.1 (Nat.le_of_ble_eq_true rfl) hbd d_Led_seal_7 (x_toS (As := [.ref (x_ad Y 23 a1)]) hx hb hown hK k_573 k_574 k_1 ⟨_, x_cd hK k_575⟩ q_Led_isOpen rfl rfl d_Led_seal_7) (fun L9 I9 k4 n4 H locs h hw hb9 => ?_) (fun kx L9 I9 k9 n9 H locs h hw hb9 => x_thr hlk (fun x h9 => by rw [hexn] at h9; cases h9) hw ⟨rfl, Or.inr ⟨kx, rfl, h⟩⟩ (hbd.tr hb9))
  obtain ⟨e1, e2, h⟩ := h
  rw [e1, e2] at hw
  replace hbd := hbd.tr hb9
  refine lv_iconst (v := 0) hx hb d_Led_seal_10 (by decide) ?_
  refine lv_topi (fun x5 e_x5 => ?_)
  replace h := h x5 e_x5
  refine lv_istore_n (lv' := [(3, .int x5), (2, .ref (x_ad Y 23 a1)), (0, .ref (x_ad Y 0 0)), (1, .int p1)]) hx hb d_Led_seal_11 rfl hl (by decide) rfl (fun ls hl => ?_)
  obtain ⟨fu, h⟩ := h
  exact c_Led_seal_12 hE hexn hY hLs ok0_ ok3 fu p1 x5 I k4 n4 H locs ls h hw hbd (lv_sub hl [2, 3, 1, 0] rfl)
def w_Led_balance (Q : Int32 → Nat → Nat → Prop) (X : x_XT) (nA : Nat) (p1 : Int32) (L : x_L) (I : x_I) (k n : Nat) : Prop :=
  w_Led_account (fun a1 k2 n2 =>
    Q (I 23 a1 0) k2 n2) X nA p1 L I k n
set_option maxRecDepth 100000 in
set_option maxHeartbeats 4000000 in
theorem c_Led_balance {l : Launch} {g : x_G} {Y : x_Y} (hY : x_Y0 g Y) {nA : Nat} (hLs : x_Ls Y nA) {p1 : Int32} (ok0_ : x_ok Y 0 0) {Q : Int32 → Nat → Nat → Prop} {X : x_XT} {L : x_L} {I : x_I} {k n : Nat} (h : w_Led_balance Q X nA p1 L I k n) : x_C l y_Led_balance 7 g [.ref (x_ad Y 0 0), .int p1] Y L I k n (x_pI Y (fun v L' I' k' n' => L' = L ∧ I' = I ∧ Q v k' n') X) := by
  refine x_mth k_775 ?_
  intro p e R s m below meth c hE hnm hexn hw hk1 hn1
  obtain ⟨hx, hb, hml, hr, hlk, hown, hK, htr, hF, hLo, hRc, hRs⟩ := id hE
  have hbd : x_bd k n k n := ⟨Nat.le_refl _, hk1, Nat.le_refl _, hn1⟩
  have hl := lv_entry ([.ref (x_ad Y 0 0), .int p1]) (n := 2) (Nat.le_of_ble_eq_true rfl)
  generalize (lg_sl [.ref (x_ad Y 0 0), .int p1] ++ List.replicate (2 - (lg_sl [.ref (x_ad Y 0 0), .int p1]).length) Slot.unset).toArray = ls at hl ⊢
  have hl : lv_has ls 2 [(0, .ref (x_ad Y 0 0)), (1, .int p1)] := hl
  generalize s.heap = H at hw ⊢
  generalize ([] : List Loc) = locs at hw ⊢
  unfold w_Led_balance at h
  refine lv_aload_n hx hb d_Led_balance_0 rfl (lv_at hl 0 rfl) ?_
  refine lv_iload_n hx hb d_Led_balance_1 rfl (lv_at hl 1 rfl) ?_
  refine x_goR (ls := ls) (rest := []) hE hw (c_Led_account hY hLs ok0_ h) (x_cd hK k_534) q_Led_account (by decide) (by decide) hl.1 (Nat.le_of_ble_eq_true rfl) hbd d_Led_balance_2 (x_toV (As := [.int p1]) (b := (x_ad Y 0 0)) hx hb hown hK (x_recv hK hw ok0_ rfl (by decide)) k_531 k_533 ks_4 ⟨_, x_cd hK k_534⟩ q_Led_account rfl rfl d_Led_balance_2) (fun a1 L9 I9 k2 n2 H locs ok3 h hw hb9 => ?_) (fun kx L9 I9 k9 n9 H locs h hw hb9 => x_thr hlk (fun x h9 => by rw [hexn] at h9; cases h9) hw ⟨rfl, Or.inr ⟨kx, rfl, h⟩⟩ (hbd.tr hb9))
  obtain ⟨e1, e2, h⟩ := h
  rw [e1, e2] at hw
  replace hbd := hbd.tr hb9
  refine x_getIN (t := 23) (i := a1) (j := 0) hx hb hK hw hown ok3 rfl (by decide) (by decide) (x_wdF hK k_416) (fun _ h => h) fk_7_0 d_Led_balance_5 ?_
  exact x_iret hx hb hr hlk hw ⟨rfl, Or.inl ⟨_, rfl, ⟨rfl, rfl, h⟩⟩⟩ hbd d_Led_balance_8
def w_Led_storage (Q : Int32 → Nat → Nat → Prop) (X : x_XT) (nA : Nat) (p1 : Int32) (p2 : Int32) (L : x_L) (I : x_I) (k n : Nat) : Prop :=
  w_Led_account (fun a1 k2 n2 =>
    w_Book_stored (fun r5 =>
      Q r5 k2 n2) p1 p2 L I) X nA p1 L I k n
set_option maxRecDepth 100000 in
set_option maxHeartbeats 4000000 in
theorem c_Led_storage {l : Launch} {g : x_G} {Y : x_Y} (hY : x_Y0 g Y) {nA : Nat} (hLs : x_Ls Y nA) {p1 : Int32} {p2 : Int32} (ok0_ : x_ok Y 0 0) {Q : Int32 → Nat → Nat → Prop} {X : x_XT} {L : x_L} {I : x_I} {k n : Nat} (h : w_Led_storage Q X nA p1 p2 L I k n) : x_C l y_Led_storage 7 g [.ref (x_ad Y 0 0), .int p1, .int p2] Y L I k n (x_pI Y (fun v L' I' k' n' => L' = L ∧ I' = I ∧ Q v k' n') X) := by
  refine x_mth k_782 ?_
  intro p e R s m below meth c hE hnm hexn hw hk1 hn1
  obtain ⟨hx, hb, hml, hr, hlk, hown, hK, htr, hF, hLo, hRc, hRs⟩ := id hE
  have hbd : x_bd k n k n := ⟨Nat.le_refl _, hk1, Nat.le_refl _, hn1⟩
  have hl := lv_entry ([.ref (x_ad Y 0 0), .int p1, .int p2]) (n := 3) (Nat.le_of_ble_eq_true rfl)
  generalize (lg_sl [.ref (x_ad Y 0 0), .int p1, .int p2] ++ List.replicate (3 - (lg_sl [.ref (x_ad Y 0 0), .int p1, .int p2]).length) Slot.unset).toArray = ls at hl ⊢
  have hl : lv_has ls 3 [(0, .ref (x_ad Y 0 0)), (1, .int p1), (2, .int p2)] := hl
  generalize s.heap = H at hw ⊢
  generalize ([] : List Loc) = locs at hw ⊢
  unfold w_Led_storage at h
  refine lv_aload_n hx hb d_Led_storage_0 rfl (lv_at hl 0 rfl) ?_
  refine lv_iload_n hx hb d_Led_storage_1 rfl (lv_at hl 1 rfl) ?_
  refine x_goR (ls := ls) (rest := []) hE hw (c_Led_account hY hLs ok0_ h) (x_cd hK k_534) q_Led_account (by decide) (by decide) hl.1 (Nat.le_of_ble_eq_true rfl) hbd d_Led_storage_2 (x_toV (As := [.int p1]) (b := (x_ad Y 0 0)) hx hb hown hK (x_recv hK hw ok0_ rfl (by decide)) k_531 k_533 ks_4 ⟨_, x_cd hK k_534⟩ q_Led_account rfl rfl d_Led_storage_2) (fun a1 L9 I9 k2 n2 H locs ok3 h hw hb9 => ?_) (fun kx L9 I9 k9 n9 H locs h hw hb9 => x_thr hlk (fun x h9 => by rw [hexn] at h9; cases h9) hw ⟨rfl, Or.inr ⟨kx, rfl, h⟩⟩ (hbd.tr hb9))
  obtain ⟨e1, e2, h⟩ := h
  rw [e1, e2] at hw
  replace hbd := hbd.tr hb9
  refine lv_pop hx hb d_Led_storage_5 rfl ?_
  refine lv_aload_n hx hb d_Led_storage_6 rfl (lv_at hl 0 rfl) ?_
  refine x_getR (t := 0) (i := 0) (j := 0) hx hb hK hw hown ok0_ rfl (by decide) (by decide) (x_wd hK k_220 rfl) (fun _ h => h) fk_0_0 (hY.r ok0_ rfl) d_Led_storage_7 ?_
  have ok4 := hY.ok 0 ok0_ (t' := 1) (i' := 0) rfl
  refine lv_iload_n hx hb d_Led_storage_10 rfl (lv_at hl 1 rfl) ?_
  refine lv_iload_n hx hb d_Led_storage_11 rfl (lv_at hl 2 rfl) ?_
  refine x_goI (ls := ls) (rest := []) hE hw (c_Book_stored hY ok4 h) (x_cd hK k_675) q_Book_stored (by decide) (by decide) hl.1 (Nat.le_of_ble_eq_true rfl) hbd d_Led_storage_12 (x_toV (As := [.int p1, .int p2]) (b := (x_ad Y 1 0)) hx hb hown hK (x_recv hK hw ok4 rfl (by decide)) k_783 k_673 k_674 ⟨_, x_cd hK k_675⟩ q_Book_stored rfl rfl d_Led_storage_12) (fun r5 L9 I9 k9 n9 H locs h hw hb9 => ?_) (fun _ _ _ _ _ _ _ h9 => h9.elim)
  obtain ⟨e1, e2, e3, e4, h⟩ := h
  rw [e1, e2] at hw
  rw [e3, e4]
  exact x_iret hx hb hr hlk hw ⟨rfl, Or.inl ⟨_, rfl, ⟨rfl, rfl, h⟩⟩⟩ hbd d_Led_storage_15
def w_Led_log (Q : Int32 → Nat → Nat → Prop) (X : x_XT) (p1 : Int32) (L : x_L) (I : x_I) (k n : Nat) : Prop :=
  ((p1 < 0 →
    k + 1 ≤ 600288 ∧ n + 6 ≤ 7292554 ∧ X 1 L I (k + 1) (n + 6)) ∧
  (¬ p1 < 0 →
    ((p1 < (I 1 0 4) →
      vp_in p1 300 ∧
      Q (I 13 0 p1.toNatClampNeg) k n) ∧
    (¬ p1 < (I 1 0 4) →
      k + 1 ≤ 600288 ∧ n + 6 ≤ 7292554 ∧ X 1 L I (k + 1) (n + 6)))))
set_option maxRecDepth 100000 in
set_option maxHeartbeats 4000000 in
theorem c_Led_log {l : Launch} {g : x_G} {Y : x_Y} (hY : x_Y0 g Y) {p1 : Int32} (ok0_ : x_ok Y 0 0) {Q : Int32 → Nat → Nat → Prop} {X : x_XT} {L : x_L} {I : x_I} {k n : Nat} (h : w_Led_log Q X p1 L I k n) : x_C l y_Led_log 6 g [.ref (x_ad Y 0 0), .int p1] Y L I k n (x_pI Y (fun v L' I' k' n' => L' = L ∧ I' = I ∧ Q v k' n') X) := by
  refine x_mth k_790 ?_
  intro p e R s m below meth c hE hnm hexn hw hk1 hn1
  obtain ⟨hx, hb, hml, hr, hlk, hown, hK, htr, hF, hLo, hRc, hRs⟩ := id hE
  have hbd : x_bd k n k n := ⟨Nat.le_refl _, hk1, Nat.le_refl _, hn1⟩
  have hl := lv_entry ([.ref (x_ad Y 0 0), .int p1]) (n := 2) (Nat.le_of_ble_eq_true rfl)
  generalize (lg_sl [.ref (x_ad Y 0 0), .int p1] ++ List.replicate (2 - (lg_sl [.ref (x_ad Y 0 0), .int p1]).length) Slot.unset).toArray = ls at hl ⊢
  have hl : lv_has ls 2 [(0, .ref (x_ad Y 0 0)), (1, .int p1)] := hl
  generalize s.heap = H at hw ⊢
  generalize ([] : List Loc) = locs at hw ⊢
  unfold w_Led_log at h
  refine lv_iload_n hx hb d_Led_log_0 rfl (lv_at hl 1 rfl) ?_
  refine lv_if_lt (tgt := 15) hx hb d_Led_log_1 (by decide) (fun c1 => ?_) (fun c1 => ?_)
  · replace h := h.1 c1
    exact x_throw (kx := 1) hE hexn hw x_xk_1 (by decide) k_541 k_542 k_22 k_791 (by decide) (Nat.le_of_ble_eq_true rfl) hl.1 h.1 h.2.1 hbd d_Led_log_15 d_Led_log_18 d_Led_log_19 d_Led_log_21 d_Led_log_24 ⟨rfl, Or.inr ⟨_, rfl, h.2.2⟩⟩
  · replace h := h.2 c1
    refine lv_iload_n hx hb d_Led_log_4 rfl (lv_at hl 1 rfl) ?_
    refine lv_aload_n hx hb d_Led_log_5 rfl (lv_at hl 0 rfl) ?_
    refine x_getR (t := 0) (i := 0) (j := 0) hx hb hK hw hown ok0_ rfl (by decide) (by decide) (x_wd hK k_220 rfl) (fun _ h => h) fk_0_0 (hY.r ok0_ rfl) d_Led_log_6 ?_
    have ok2 := hY.ok 0 ok0_ (t' := 1) (i' := 0) rfl
    refine x_getIN (t := 1) (i := 0) (j := 4) hx hb hK hw hown ok2 rfl (by decide) (by decide) (x_wdF hK k_140) (fun _ h => h) fk_1_4 d_Led_log_9 ?_
    refine lv_icmp_lt (tgt := 25) hx hb d_Led_log_12 (by decide) (fun c3 => ?_) (fun c3 => ?_)
    · replace h := h.1 c3
      refine lv_aload_n hx hb d_Led_log_25 rfl (lv_at hl 0 rfl) ?_
      refine x_getR (t := 0) (i := 0) (j := 0) hx hb hK hw hown ok0_ rfl (by decide) (by decide) (x_wd hK k_220 rfl) (fun _ h => h) fk_0_0 (hY.r ok0_ rfl) d_Led_log_26 ?_
      refine x_getRN (t := 1) (i := 0) (j := 3) hx hb hK hw hown ok2 rfl (by decide) (by decide) (x_wdF hK k_138) (fun _ h => h) fk_1_3 (hY.r ok2 rfl) d_Led_log_29 ?_
      have ok4 := hY.ok 3 ok2 (t' := 13) (i' := 0) rfl
      refine lv_iload_n hx hb d_Led_log_32 rfl (lv_at hl 1 rfl) ?_
      refine x_iald (t := 13) (i := 0) hx hb hK hw ok4 rfl (hY.n ok4 rfl) h.1 d_Led_log_33 ?_
      replace h := h.2
      exact x_iret hx hb hr hlk hw ⟨rfl, Or.inl ⟨_, rfl, ⟨rfl, rfl, h⟩⟩⟩ hbd d_Led_log_34
    · replace h := h.2 c3
      exact x_throw (kx := 1) hE hexn hw x_xk_1 (by decide) k_541 k_542 k_22 k_791 (by decide) (Nat.le_of_ble_eq_true rfl) hl.1 h.1 h.2.1 hbd d_Led_log_15 d_Led_log_18 d_Led_log_19 d_Led_log_21 d_Led_log_24 ⟨rfl, Or.inr ⟨_, rfl, h.2.2⟩⟩
