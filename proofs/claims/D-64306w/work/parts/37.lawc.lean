def w_Law_code (Q : Int32 → x_L → x_I → Nat → Nat → Prop) (nA : Nat) (p2 : Int32) (p3 : Int32) (L : x_L) (I : x_I) (k n : Nat) : Prop :=
  w_Led_code (fun r1 I2 k3 n3 =>
    vp_in (0 : Int32) 1 ∧
    ∀ L4 : x_L, L4 = x_ul L 25 0 (0 : Int32).toNatClampNeg (r1.toInt64) →
    Q (0 : Int32) L4 I2 k3 n3) 
  (fun kx L9 I9 k9 n9 =>
    (kx = 1 →
      Q (1 : Int32) L9 I9 k9 n9) ∧
    (kx = 2 →
      Q (2 : Int32) L9 I9 k9 n9) ∧
    (¬ kx = 1 → ¬ kx = 2 →  False)) nA p2 p3 L I k n
set_option maxRecDepth 100000 in
set_option maxHeartbeats 4000000 in
theorem c_Law_code {l : Launch} {g : x_G} {Y : x_Y} (hY : x_Y0 g Y) {nA : Nat} (hLs : x_Ls Y nA) {p2 : Int32} {p3 : Int32} (ok0_ : x_ok Y 0 0) (ok1_ : x_ok Y 25 0) {Q : Int32 → x_L → x_I → Nat → Nat → Prop} {L : x_L} {I : x_I} {k n : Nat} (h : w_Law_code Q nA p2 p3 L I k n) : x_C l y_Law_code 8 g [.ref (x_ad Y 0 0), .int p2, .int p3, .ref (x_ad Y 25 0)] Y L I k n (x_pI Y (fun v L' I' k' n' => Q v L' I' k' n') x_nx) := by
  refine x_mthW k_501 ?_
  intro p e R s m below meth c hE hnm hhn hw hk1 hn1
  obtain ⟨hx, hb, hml, hr, hlk, hown, hK, htr, hF, hLo, hRc, hRs⟩ := id hE
  have hbd : x_bd k n k n := ⟨Nat.le_refl _, hk1, Nat.le_refl _, hn1⟩
  have hl := lv_entry ([.ref (x_ad Y 0 0), .int p2, .int p3, .ref (x_ad Y 25 0)]) (n := 5) (Nat.le_of_ble_eq_true rfl)
  generalize (lg_sl [.ref (x_ad Y 0 0), .int p2, .int p3, .ref (x_ad Y 25 0)] ++ List.replicate (5 - (lg_sl [.ref (x_ad Y 0 0), .int p2, .int p3, .ref (x_ad Y 25 0)]).length) Slot.unset).toArray = ls at hl ⊢
  have hl : lv_has ls 5 [(0, .ref (x_ad Y 0 0)), (1, .int p2), (2, .int p3), (3, .ref (x_ad Y 25 0))] := hl
  generalize s.heap = H at hw ⊢
  generalize ([] : List Loc) = locs at hw ⊢
  unfold w_Law_code at h
  refine lv_aload_n hx hb d_Law_code_0 rfl (lv_at hl 3 rfl) ?_
  refine lv_iconst (v := 0) hx hb d_Law_code_1 (by decide) ?_
  refine lv_aload_n hx hb d_Law_code_2 rfl (lv_at hl 0 rfl) ?_
  refine lv_iload_n hx hb d_Law_code_3 rfl (lv_at hl 1 rfl) ?_
  refine lv_iload_n hx hb d_Law_code_4 rfl (lv_at hl 2 rfl) ?_
  refine x_goI (ls := ls) (rest := [.int (0 : Int32), .ref (x_ad Y 25 0)]) hE hw (c_Led_code hY hLs ok0_ h) (x_cd hK k_530) q_Led_code (by decide) (by decide) hl.1 (Nat.le_of_ble_eq_true rfl) hbd d_Law_code_5 (x_toV (As := [.int p2, .int p3]) (b := (x_ad Y 0 0)) hx hb hown hK (x_recv hK hw ok0_ rfl (by decide)) k_527 k_528 k_529 ⟨_, x_cd hK k_530⟩ q_Led_code rfl rfl d_Law_code_5) (fun r1 L9 I2 k3 n3 H locs h hw hb9 => ?_) (fun kx L9 I9 k9 n9 H locs h hw hb9 => ?_)
  · obtain ⟨e1, h⟩ := h
    rw [e1] at hw
    replace hbd := hbd.tr hb9
    refine lv_i2l hx hb d_Law_code_8 rfl ?_
    refine x_last (t := 25) (i := 0) hx hb hK hw ok1_ rfl (hY.n ok1_ rfl) h.1 d_Law_code_9 (fun L4 H locs e_L4 hw => ?_)
    replace h := h.2 L4 e_L4
    refine lv_goto (tgt := 21) hx hb d_Law_code_10 (by decide) ?_
    refine lv_iconst (v := 0) hx hb d_Law_code_21 (by decide) ?_
    exact x_iret hx hb hr hlk hw ⟨rfl, Or.inl ⟨_, rfl, h⟩⟩ hbd d_Law_code_22
  · replace hbd := hbd.tr hb9
    try dsimp only at h
    by_cases c_k1 : kx = 1
    · replace h := h.1 c_k1
      subst c_k1
      refine x_catch1 (kx := 1) hE hhn ⟨by decide, by decide⟩ (by decide) k_502 k_543 (fun ax => ?_)
      refine lv_astore (lv' := [(4, .ref ax), (0, .ref (x_ad Y 0 0)), (1, .int p2), (2, .int p3), (3, .ref (x_ad Y 25 0))]) hx hb d_Law_code_13 hl (by decide) rfl (fun ls hl => ?_)
      refine lv_iconst (v := 1) hx hb d_Law_code_15 (by decide) ?_
      exact x_iret hx hb hr hlk hw ⟨rfl, Or.inl ⟨_, rfl, h⟩⟩ hbd d_Law_code_16
    · replace h := h.2
      by_cases c_k2 : kx = 2
      · replace h := h.1 c_k2
        subst c_k2
        refine x_catch2 (kx := 2) hE hhn ⟨by decide, by decide⟩ ⟨by decide, by decide⟩ (by decide) (by decide) k_526 k_578 k_502 x_nc_Law_code_2 (fun ax => ?_)
        refine lv_astore (lv' := [(4, .ref ax), (0, .ref (x_ad Y 0 0)), (1, .int p2), (2, .int p3), (3, .ref (x_ad Y 25 0))]) hx hb d_Law_code_17 hl (by decide) rfl (fun ls hl => ?_)
        refine lv_iconst (v := 2) hx hb d_Law_code_19 (by decide) ?_
        exact x_iret hx hb hr hlk hw ⟨rfl, Or.inl ⟨_, rfl, h⟩⟩ hbd d_Law_code_20
      · replace h := h.2
        exact (h c_k1 c_k2).elim
def w_Law_seal (Q : Int32 → x_L → x_I → Nat → Nat → Prop) (nA : Nat) (p2 : Int32) (L : x_L) (I : x_I) (k n : Nat) : Prop :=
  w_Led_seal (fun r1 I2 k3 n3 =>
    vp_in (0 : Int32) 1 ∧
    ∀ L4 : x_L, L4 = x_ul L 25 0 (0 : Int32).toNatClampNeg (r1.toInt64) →
    Q (0 : Int32) L4 I2 k3 n3) 
  (fun kx L9 I9 k9 n9 =>
    (kx = 1 →
      Q (1 : Int32) L9 I9 k9 n9) ∧
    (kx = 2 →
      Q (2 : Int32) L9 I9 k9 n9) ∧
    (¬ kx = 1 → ¬ kx = 2 →  False)) nA p2 L I k n
set_option maxRecDepth 100000 in
set_option maxHeartbeats 4000000 in
theorem c_Law_seal {l : Launch} {g : x_G} {Y : x_Y} (hY : x_Y0 g Y) {nA : Nat} (hLs : x_Ls Y nA) {p2 : Int32} (ok0_ : x_ok Y 0 0) (ok1_ : x_ok Y 25 0) {Q : Int32 → x_L → x_I → Nat → Nat → Prop} {L : x_L} {I : x_I} {k n : Nat} (h : w_Law_seal Q nA p2 L I k n) : x_C l y_Law_seal 8 g [.ref (x_ad Y 0 0), .int p2, .ref (x_ad Y 25 0)] Y L I k n (x_pI Y (fun v L' I' k' n' => Q v L' I' k' n') x_nx) := by
  refine x_mthW k_594 ?_
  intro p e R s m below meth c hE hnm hhn hw hk1 hn1
  obtain ⟨hx, hb, hml, hr, hlk, hown, hK, htr, hF, hLo, hRc, hRs⟩ := id hE
  have hbd : x_bd k n k n := ⟨Nat.le_refl _, hk1, Nat.le_refl _, hn1⟩
  have hl := lv_entry ([.ref (x_ad Y 0 0), .int p2, .ref (x_ad Y 25 0)]) (n := 4) (Nat.le_of_ble_eq_true rfl)
  generalize (lg_sl [.ref (x_ad Y 0 0), .int p2, .ref (x_ad Y 25 0)] ++ List.replicate (4 - (lg_sl [.ref (x_ad Y 0 0), .int p2, .ref (x_ad Y 25 0)]).length) Slot.unset).toArray = ls at hl ⊢
  have hl : lv_has ls 4 [(0, .ref (x_ad Y 0 0)), (1, .int p2), (2, .ref (x_ad Y 25 0))] := hl
  generalize s.heap = H at hw ⊢
  generalize ([] : List Loc) = locs at hw ⊢
  unfold w_Law_seal at h
  refine lv_aload_n hx hb d_Law_seal_0 rfl (lv_at hl 2 rfl) ?_
  refine lv_iconst (v := 0) hx hb d_Law_seal_1 (by decide) ?_
  refine lv_aload_n hx hb d_Law_seal_2 rfl (lv_at hl 0 rfl) ?_
  refine lv_iload_n hx hb d_Law_seal_3 rfl (lv_at hl 1 rfl) ?_
  refine x_goI (ls := ls) (rest := [.int (0 : Int32), .ref (x_ad Y 25 0)]) hE hw (c_Led_seal hY hLs ok0_ h) (x_cd hK k_598) q_Led_seal (by decide) (by decide) hl.1 (Nat.le_of_ble_eq_true rfl) hbd d_Law_seal_4 (x_toV (As := [.int p2]) (b := (x_ad Y 0 0)) hx hb hown hK (x_recv hK hw ok0_ rfl (by decide)) k_595 k_596 k_597 ⟨_, x_cd hK k_598⟩ q_Led_seal rfl rfl d_Law_seal_4) (fun r1 L9 I2 k3 n3 H locs h hw hb9 => ?_) (fun kx L9 I9 k9 n9 H locs h hw hb9 => ?_)
  · obtain ⟨e1, h⟩ := h
    rw [e1] at hw
    replace hbd := hbd.tr hb9
    refine lv_i2l hx hb d_Law_seal_7 rfl ?_
    refine x_last (t := 25) (i := 0) hx hb hK hw ok1_ rfl (hY.n ok1_ rfl) h.1 d_Law_seal_8 (fun L4 H locs e_L4 hw => ?_)
    replace h := h.2 L4 e_L4
    refine lv_goto (tgt := 18) hx hb d_Law_seal_9 (by decide) ?_
    refine lv_iconst (v := 0) hx hb d_Law_seal_18 (by decide) ?_
    exact x_iret hx hb hr hlk hw ⟨rfl, Or.inl ⟨_, rfl, h⟩⟩ hbd d_Law_seal_19
  · replace hbd := hbd.tr hb9
    try dsimp only at h
    by_cases c_k1 : kx = 1
    · replace h := h.1 c_k1
      subst c_k1
      refine x_catch1 (kx := 1) hE hhn ⟨by decide, by decide⟩ (by decide) k_502 k_543 (fun ax => ?_)
      refine lv_astore_n (lv' := [(3, .ref ax), (0, .ref (x_ad Y 0 0)), (1, .int p2), (2, .ref (x_ad Y 25 0))]) hx hb d_Law_seal_12 rfl hl (by decide) rfl (fun ls hl => ?_)
      refine lv_iconst (v := 1) hx hb d_Law_seal_13 (by decide) ?_
      exact x_iret hx hb hr hlk hw ⟨rfl, Or.inl ⟨_, rfl, h⟩⟩ hbd d_Law_seal_14
    · replace h := h.2
      by_cases c_k2 : kx = 2
      · replace h := h.1 c_k2
        subst c_k2
        refine x_catch2 (kx := 2) hE hhn ⟨by decide, by decide⟩ ⟨by decide, by decide⟩ (by decide) (by decide) k_526 k_578 k_502 x_nc_Law_seal_2 (fun ax => ?_)
        refine lv_astore_n (lv' := [(3, .ref ax), (0, .ref (x_ad Y 0 0)), (1, .int p2), (2, .ref (x_ad Y 25 0))]) hx hb d_Law_seal_15 rfl hl (by decide) rfl (fun ls hl => ?_)
        refine lv_iconst (v := 2) hx hb d_Law_seal_16 (by decide) ?_
        exact x_iret hx hb hr hlk hw ⟨rfl, Or.inl ⟨_, rfl, h⟩⟩ hbd d_Law_seal_17
      · replace h := h.2
        exact (h c_k1 c_k2).elim
def w_Law_transact (Q : Int32 → x_L → x_I → Nat → Nat → Prop) (PL : (Int32 → x_L → x_I → Nat → Nat → Prop) → Nat → Nat → Int32 → x_L → x_I → Nat → Nat → Prop) (nA : Nat) (p2 : Int32) (p3 : Int32) (p4 : Int32) (p5 : Int32) (L : x_L) (I : x_I) (k n : Nat) : Prop :=
  w_Led_transact (fun r1 L2 I3 k4 n4 =>
    vp_in (0 : Int32) 1 ∧
    ∀ L5 : x_L, L5 = x_ul L2 25 0 (0 : Int32).toNatClampNeg (r1.toInt64) →
    Q (0 : Int32) L5 I3 k4 n4) 
  (fun kx L9 I9 k9 n9 =>
    (kx = 1 →
      Q (1 : Int32) L9 I9 k9 n9) ∧
    (kx = 0 →
      Q (2 : Int32) L9 I9 k9 n9) ∧
    (¬ kx = 1 → ¬ kx = 0 →  False)) PL nA p2 p3 p4 p5 L I k n
set_option maxRecDepth 100000 in
set_option maxHeartbeats 4000000 in
theorem c_Law_transact {l : Launch} {g : x_G} {Y : x_Y} (hY : x_Y0 g Y) {nA : Nat} (hLs : x_Ls Y nA) (hT18 : ¬ x_ok Y 18 0) (hT19 : ¬ x_ok Y 19 0) {Fp : Nat} {PL : (Int32 → x_L → x_I → Nat → Nat → Prop) → Nat → Nat → Int32 → x_L → x_I → Nat → Nat → Prop} (hPL : ∀ {Q' : Int32 → x_L → x_I → Nat → Nat → Prop} {d' : Nat} {q1 : Int32} {L' : x_L} {I' : x_I} {k' n' : Nat}, x_ok Y 20 d' → PL Q' nA d' q1 L' I' k' n' → x_C l y_Run_plays Fp g [.ref (x_ad Y 20 d'), .int q1] Y L' I' k' n' (x_pI Y Q' x_nx)) {p2 : Int32} {p3 : Int32} {p4 : Int32} {p5 : Int32} (ok0_ : x_ok Y 0 0) (ok1_ : x_ok Y 25 0) {Q : Int32 → x_L → x_I → Nat → Nat → Prop} {L : x_L} {I : x_I} {k n : Nat} (h : w_Law_transact Q PL nA p2 p3 p4 p5 L I k n) : x_C l y_Law_transact (Fp + 8) g [.ref (x_ad Y 0 0), .int p2, .int p3, .int p4, .int p5, .ref (x_ad Y 25 0)] Y L I k n (x_pI Y (fun v L' I' k' n' => Q v L' I' k' n') x_nx) := by
  refine x_mthW k_611 ?_
  intro p e R s m below meth c hE hnm hhn hw hk1 hn1
  obtain ⟨hx, hb, hml, hr, hlk, hown, hK, htr, hF, hLo, hRc, hRs⟩ := id hE
  have hbd : x_bd k n k n := ⟨Nat.le_refl _, hk1, Nat.le_refl _, hn1⟩
  have hl := lv_entry ([.ref (x_ad Y 0 0), .int p2, .int p3, .int p4, .int p5, .ref (x_ad Y 25 0)]) (n := 7) (Nat.le_of_ble_eq_true rfl)
  generalize (lg_sl [.ref (x_ad Y 0 0), .int p2, .int p3, .int p4, .int p5, .ref (x_ad Y 25 0)] ++ List.replicate (7 - (lg_sl [.ref (x_ad Y 0 0), .int p2, .int p3, .int p4, .int p5, .ref (x_ad Y 25 0)]).length) Slot.unset).toArray = ls at hl ⊢
  have hl : lv_has ls 7 [(0, .ref (x_ad Y 0 0)), (1, .int p2), (2, .int p3), (3, .int p4), (4, .int p5), (5, .ref (x_ad Y 25 0))] := hl
  generalize s.heap = H at hw ⊢
  generalize ([] : List Loc) = locs at hw ⊢
  unfold w_Law_transact at h
  refine lv_aload hx hb d_Law_transact_0 (lv_at hl 5 rfl) ?_
  refine lv_iconst (v := 0) hx hb d_Law_transact_2 (by decide) ?_
  refine lv_aload_n hx hb d_Law_transact_3 rfl (lv_at hl 0 rfl) ?_
  refine lv_iload_n hx hb d_Law_transact_4 rfl (lv_at hl 1 rfl) ?_
  refine lv_iload_n hx hb d_Law_transact_5 rfl (lv_at hl 2 rfl) ?_
  refine lv_iload_n hx hb d_Law_transact_6 rfl (lv_at hl 3 rfl) ?_
  refine lv_iload hx hb d_Law_transact_7 (lv_at hl 4 rfl) ?_
  refine x_goI (ls := ls) (rest := [.int (0 : Int32), .ref (x_ad Y 25 0)]) hE hw (c_Led_transact hY hLs hT18 hT19 hPL ok0_ h) (x_cd hK k_615) q_Led_transact (by omega) (by omega) hl.1 (Nat.le_of_ble_eq_true rfl) hbd d_Law_transact_9 (x_toV (As := [.int p2, .int p3, .int p4, .int p5]) (b := (x_ad Y 0 0)) hx hb hown hK (x_recv hK hw ok0_ rfl (by decide)) k_612 k_613 k_614 ⟨_, x_cd hK k_615⟩ q_Led_transact rfl rfl d_Law_transact_9) (fun r1 L2 I3 k4 n4 H locs h hw hb9 => ?_) (fun kx L9 I9 k9 n9 H locs h hw hb9 => ?_)
  · replace hbd := hbd.tr hb9
    try dsimp only at h
    refine lv_i2l hx hb d_Law_transact_12 rfl ?_
    refine x_last (t := 25) (i := 0) hx hb hK hw ok1_ rfl (hY.n ok1_ rfl) h.1 d_Law_transact_13 (fun L5 H locs e_L5 hw => ?_)
    replace h := h.2 L5 e_L5
    refine lv_goto (tgt := 25) hx hb d_Law_transact_14 (by decide) ?_
    refine lv_iconst (v := 0) hx hb d_Law_transact_25 (by decide) ?_
    exact x_iret hx hb hr hlk hw ⟨rfl, Or.inl ⟨_, rfl, h⟩⟩ hbd d_Law_transact_26
  · replace hbd := hbd.tr hb9
    try dsimp only at h
    by_cases c_k1 : kx = 1
    · replace h := h.1 c_k1
      subst c_k1
      refine x_catch1 (kx := 1) hE hhn ⟨by decide, by decide⟩ (by decide) k_502 k_543 (fun ax => ?_)
      refine lv_astore (lv' := [(6, .ref ax), (0, .ref (x_ad Y 0 0)), (1, .int p2), (2, .int p3), (3, .int p4), (4, .int p5), (5, .ref (x_ad Y 25 0))]) hx hb d_Law_transact_17 hl (by decide) rfl (fun ls hl => ?_)
      refine lv_iconst (v := 1) hx hb d_Law_transact_19 (by decide) ?_
      exact x_iret hx hb hr hlk hw ⟨rfl, Or.inl ⟨_, rfl, h⟩⟩ hbd d_Law_transact_20
    · replace h := h.2
      by_cases c_k0 : kx = 0
      · replace h := h.1 c_k0
        subst c_k0
        refine x_catch2 (kx := 0) hE hhn ⟨by decide, by decide⟩ ⟨by decide, by decide⟩ (by decide) (by decide) k_322 k_332 k_502 x_nc_Law_transact_0 (fun ax => ?_)
        refine lv_astore (lv' := [(6, .ref ax), (0, .ref (x_ad Y 0 0)), (1, .int p2), (2, .int p3), (3, .int p4), (4, .int p5), (5, .ref (x_ad Y 25 0))]) hx hb d_Law_transact_21 hl (by decide) rfl (fun ls hl => ?_)
        refine lv_iconst (v := 2) hx hb d_Law_transact_23 (by decide) ?_
        exact x_iret hx hb hr hlk hw ⟨rfl, Or.inl ⟨_, rfl, h⟩⟩ hbd d_Law_transact_24
      · replace h := h.2
        exact (h c_k1 c_k0).elim
def w_Law_balance (Q : Int32 → x_L → x_I → Nat → Nat → Prop) (nA : Nat) (p2 : Int32) (L : x_L) (I : x_I) (k n : Nat) : Prop :=
  w_Led_balance (fun r1 k2 n2 =>
    vp_in (0 : Int32) 1 ∧
    ∀ L3 : x_L, L3 = x_ul L 25 0 (0 : Int32).toNatClampNeg (r1.toInt64) →
    Q (0 : Int32) L3 I k2 n2) 
  (fun kx L9 I9 k9 n9 =>
    (kx = 1 →
      Q (1 : Int32) L9 I9 k9 n9) ∧
    (¬ kx = 1 →  False)) nA p2 L I k n
set_option maxRecDepth 100000 in
set_option maxHeartbeats 4000000 in
theorem c_Law_balance {l : Launch} {g : x_G} {Y : x_Y} (hY : x_Y0 g Y) {nA : Nat} (hLs : x_Ls Y nA) {p2 : Int32} (ok0_ : x_ok Y 0 0) (ok1_ : x_ok Y 25 0) {Q : Int32 → x_L → x_I → Nat → Nat → Prop} {L : x_L} {I : x_I} {k n : Nat} (h : w_Law_balance Q nA p2 L I k n) : x_C l y_Law_balance 8 g [.ref (x_ad Y 0 0), .int p2, .ref (x_ad Y 25 0)] Y L I k n (x_pI Y (fun v L' I' k' n' => Q v L' I' k' n') x_nx) := by
  refine x_mthW k_771 ?_
  intro p e R s m below meth c hE hnm hhn hw hk1 hn1
  obtain ⟨hx, hb, hml, hr, hlk, hown, hK, htr, hF, hLo, hRc, hRs⟩ := id hE
  have hbd : x_bd k n k n := ⟨Nat.le_refl _, hk1, Nat.le_refl _, hn1⟩
  have hl := lv_entry ([.ref (x_ad Y 0 0), .int p2, .ref (x_ad Y 25 0)]) (n := 4) (Nat.le_of_ble_eq_true rfl)
  generalize (lg_sl [.ref (x_ad Y 0 0), .int p2, .ref (x_ad Y 25 0)] ++ List.replicate (4 - (lg_sl [.ref (x_ad Y 0 0), .int p2, .ref (x_ad Y 25 0)]).length) Slot.unset).toArray = ls at hl ⊢
  have hl : lv_has ls 4 [(0, .ref (x_ad Y 0 0)), (1, .int p2), (2, .ref (x_ad Y 25 0))] := hl
  generalize s.heap = H at hw ⊢
  generalize ([] : List Loc) = locs at hw ⊢
  unfold w_Law_balance at h
  refine lv_aload_n hx hb d_Law_balance_0 rfl (lv_at hl 2 rfl) ?_
  refine lv_iconst (v := 0) hx hb d_Law_balance_1 (by decide) ?_
  refine lv_aload_n hx hb d_Law_balance_2 rfl (lv_at hl 0 rfl) ?_
  refine lv_iload_n hx hb d_Law_balance_3 rfl (lv_at hl 1 rfl) ?_
  refine x_goI (ls := ls) (rest := [.int (0 : Int32), .ref (x_ad Y 25 0)]) hE hw (c_Led_balance hY hLs ok0_ h) (x_cd hK k_775) q_Led_balance (by decide) (by decide) hl.1 (Nat.le_of_ble_eq_true rfl) hbd d_Law_balance_4 (x_toV (As := [.int p2]) (b := (x_ad Y 0 0)) hx hb hown hK (x_recv hK hw ok0_ rfl (by decide)) k_772 k_773 k_774 ⟨_, x_cd hK k_775⟩ q_Led_balance rfl rfl d_Law_balance_4) (fun r1 L9 I9 k2 n2 H locs h hw hb9 => ?_) (fun kx L9 I9 k9 n9 H locs h hw hb9 => ?_)
  · obtain ⟨e1, e2, h⟩ := h
    rw [e1, e2] at hw
    replace hbd := hbd.tr hb9
    refine lv_i2l hx hb d_Law_balance_7 rfl ?_
    refine x_last (t := 25) (i := 0) hx hb hK hw ok1_ rfl (hY.n ok1_ rfl) h.1 d_Law_balance_8 (fun L3 H locs e_L3 hw => ?_)
    replace h := h.2 L3 e_L3
    refine lv_goto (tgt := 15) hx hb d_Law_balance_9 (by decide) ?_
    refine lv_iconst (v := 0) hx hb d_Law_balance_15 (by decide) ?_
    exact x_iret hx hb hr hlk hw ⟨rfl, Or.inl ⟨_, rfl, h⟩⟩ hbd d_Law_balance_16
  · replace hbd := hbd.tr hb9
    try dsimp only at h
    by_cases c_k1 : kx = 1
    · replace h := h.1 c_k1
      subst c_k1
      refine x_catch1 (kx := 1) hE hhn ⟨by decide, by decide⟩ (by decide) k_502 k_543 (fun ax => ?_)
      refine lv_astore_n (lv' := [(3, .ref ax), (0, .ref (x_ad Y 0 0)), (1, .int p2), (2, .ref (x_ad Y 25 0))]) hx hb d_Law_balance_12 rfl hl (by decide) rfl (fun ls hl => ?_)
      refine lv_iconst (v := 1) hx hb d_Law_balance_13 (by decide) ?_
      exact x_iret hx hb hr hlk hw ⟨rfl, Or.inl ⟨_, rfl, h⟩⟩ hbd d_Law_balance_14
    · replace h := h.2
      exact (h c_k1).elim
def w_Law_storage (Q : Int32 → x_L → x_I → Nat → Nat → Prop) (nA : Nat) (p2 : Int32) (p3 : Int32) (L : x_L) (I : x_I) (k n : Nat) : Prop :=
  w_Led_storage (fun r1 k2 n2 =>
    vp_in (0 : Int32) 1 ∧
    ∀ L3 : x_L, L3 = x_ul L 25 0 (0 : Int32).toNatClampNeg (r1.toInt64) →
    Q (0 : Int32) L3 I k2 n2) 
  (fun kx L9 I9 k9 n9 =>
    (kx = 1 →
      Q (1 : Int32) L9 I9 k9 n9) ∧
    (¬ kx = 1 →  False)) nA p2 p3 L I k n
set_option maxRecDepth 100000 in
set_option maxHeartbeats 4000000 in
theorem c_Law_storage {l : Launch} {g : x_G} {Y : x_Y} (hY : x_Y0 g Y) {nA : Nat} (hLs : x_Ls Y nA) {p2 : Int32} {p3 : Int32} (ok0_ : x_ok Y 0 0) (ok1_ : x_ok Y 25 0) {Q : Int32 → x_L → x_I → Nat → Nat → Prop} {L : x_L} {I : x_I} {k n : Nat} (h : w_Law_storage Q nA p2 p3 L I k n) : x_C l y_Law_storage 8 g [.ref (x_ad Y 0 0), .int p2, .int p3, .ref (x_ad Y 25 0)] Y L I k n (x_pI Y (fun v L' I' k' n' => Q v L' I' k' n') x_nx) := by
  refine x_mthW k_778 ?_
  intro p e R s m below meth c hE hnm hhn hw hk1 hn1
  obtain ⟨hx, hb, hml, hr, hlk, hown, hK, htr, hF, hLo, hRc, hRs⟩ := id hE
  have hbd : x_bd k n k n := ⟨Nat.le_refl _, hk1, Nat.le_refl _, hn1⟩
  have hl := lv_entry ([.ref (x_ad Y 0 0), .int p2, .int p3, .ref (x_ad Y 25 0)]) (n := 5) (Nat.le_of_ble_eq_true rfl)
  generalize (lg_sl [.ref (x_ad Y 0 0), .int p2, .int p3, .ref (x_ad Y 25 0)] ++ List.replicate (5 - (lg_sl [.ref (x_ad Y 0 0), .int p2, .int p3, .ref (x_ad Y 25 0)]).length) Slot.unset).toArray = ls at hl ⊢
  have hl : lv_has ls 5 [(0, .ref (x_ad Y 0 0)), (1, .int p2), (2, .int p3), (3, .ref (x_ad Y 25 0))] := hl
  generalize s.heap = H at hw ⊢
  generalize ([] : List Loc) = locs at hw ⊢
  unfold w_Law_storage at h
  refine lv_aload_n hx hb d_Law_storage_0 rfl (lv_at hl 3 rfl) ?_
  refine lv_iconst (v := 0) hx hb d_Law_storage_1 (by decide) ?_
  refine lv_aload_n hx hb d_Law_storage_2 rfl (lv_at hl 0 rfl) ?_
  refine lv_iload_n hx hb d_Law_storage_3 rfl (lv_at hl 1 rfl) ?_
  refine lv_iload_n hx hb d_Law_storage_4 rfl (lv_at hl 2 rfl) ?_
  refine x_goI (ls := ls) (rest := [.int (0 : Int32), .ref (x_ad Y 25 0)]) hE hw (c_Led_storage hY hLs ok0_ h) (x_cd hK k_782) q_Led_storage (by decide) (by decide) hl.1 (Nat.le_of_ble_eq_true rfl) hbd d_Law_storage_5 (x_toV (As := [.int p2, .int p3]) (b := (x_ad Y 0 0)) hx hb hown hK (x_recv hK hw ok0_ rfl (by decide)) k_779 k_780 k_781 ⟨_, x_cd hK k_782⟩ q_Led_storage rfl rfl d_Law_storage_5) (fun r1 L9 I9 k2 n2 H locs h hw hb9 => ?_) (fun kx L9 I9 k9 n9 H locs h hw hb9 => ?_)
  · obtain ⟨e1, e2, h⟩ := h
    rw [e1, e2] at hw
    replace hbd := hbd.tr hb9
    refine lv_i2l hx hb d_Law_storage_8 rfl ?_
    refine x_last (t := 25) (i := 0) hx hb hK hw ok1_ rfl (hY.n ok1_ rfl) h.1 d_Law_storage_9 (fun L3 H locs e_L3 hw => ?_)
    replace h := h.2 L3 e_L3
    refine lv_goto (tgt := 17) hx hb d_Law_storage_10 (by decide) ?_
    refine lv_iconst (v := 0) hx hb d_Law_storage_17 (by decide) ?_
    exact x_iret hx hb hr hlk hw ⟨rfl, Or.inl ⟨_, rfl, h⟩⟩ hbd d_Law_storage_18
  · replace hbd := hbd.tr hb9
    try dsimp only at h
    by_cases c_k1 : kx = 1
    · replace h := h.1 c_k1
      subst c_k1
      refine x_catch1 (kx := 1) hE hhn ⟨by decide, by decide⟩ (by decide) k_502 k_543 (fun ax => ?_)
      refine lv_astore (lv' := [(4, .ref ax), (0, .ref (x_ad Y 0 0)), (1, .int p2), (2, .int p3), (3, .ref (x_ad Y 25 0))]) hx hb d_Law_storage_13 hl (by decide) rfl (fun ls hl => ?_)
      refine lv_iconst (v := 1) hx hb d_Law_storage_15 (by decide) ?_
      exact x_iret hx hb hr hlk hw ⟨rfl, Or.inl ⟨_, rfl, h⟩⟩ hbd d_Law_storage_16
    · replace h := h.2
      exact (h c_k1).elim
def w_Law_log (Q : Int32 → x_L → x_I → Nat → Nat → Prop) (p2 : Int32) (L : x_L) (I : x_I) (k n : Nat) : Prop :=
  w_Led_log (fun r1 k2 n2 =>
    vp_in (0 : Int32) 1 ∧
    ∀ L3 : x_L, L3 = x_ul L 25 0 (0 : Int32).toNatClampNeg (r1.toInt64) →
    Q (0 : Int32) L3 I k2 n2) 
  (fun kx L9 I9 k9 n9 =>
    (kx = 1 →
      Q (1 : Int32) L9 I9 k9 n9) ∧
    (¬ kx = 1 →  False)) p2 L I k n
set_option maxRecDepth 100000 in
set_option maxHeartbeats 4000000 in
theorem c_Law_log {l : Launch} {g : x_G} {Y : x_Y} (hY : x_Y0 g Y) {p2 : Int32} (ok0_ : x_ok Y 0 0) (ok1_ : x_ok Y 25 0) {Q : Int32 → x_L → x_I → Nat → Nat → Prop} {L : x_L} {I : x_I} {k n : Nat} (h : w_Law_log Q p2 L I k n) : x_C l y_Law_log 7 g [.ref (x_ad Y 0 0), .int p2, .ref (x_ad Y 25 0)] Y L I k n (x_pI Y (fun v L' I' k' n' => Q v L' I' k' n') x_nx) := by
  refine x_mthW k_786 ?_
  intro p e R s m below meth c hE hnm hhn hw hk1 hn1
  obtain ⟨hx, hb, hml, hr, hlk, hown, hK, htr, hF, hLo, hRc, hRs⟩ := id hE
  have hbd : x_bd k n k n := ⟨Nat.le_refl _, hk1, Nat.le_refl _, hn1⟩
  have hl := lv_entry ([.ref (x_ad Y 0 0), .int p2, .ref (x_ad Y 25 0)]) (n := 4) (Nat.le_of_ble_eq_true rfl)
  generalize (lg_sl [.ref (x_ad Y 0 0), .int p2, .ref (x_ad Y 25 0)] ++ List.replicate (4 - (lg_sl [.ref (x_ad Y 0 0), .int p2, .ref (x_ad Y 25 0)]).length) Slot.unset).toArray = ls at hl ⊢
  have hl : lv_has ls 4 [(0, .ref (x_ad Y 0 0)), (1, .int p2), (2, .ref (x_ad Y 25 0))] := hl
  generalize s.heap = H at hw ⊢
  generalize ([] : List Loc) = locs at hw ⊢
  unfold w_Law_log at h
  refine lv_aload_n hx hb d_Law_log_0 rfl (lv_at hl 2 rfl) ?_
  refine lv_iconst (v := 0) hx hb d_Law_log_1 (by decide) ?_
  refine lv_aload_n hx hb d_Law_log_2 rfl (lv_at hl 0 rfl) ?_
  refine lv_iload_n hx hb d_Law_log_3 rfl (lv_at hl 1 rfl) ?_
  refine x_goI (ls := ls) (rest := [.int (0 : Int32), .ref (x_ad Y 25 0)]) hE hw (c_Led_log hY ok0_ h) (x_cd hK k_790) q_Led_log (by decide) (by decide) hl.1 (Nat.le_of_ble_eq_true rfl) hbd d_Law_log_4 (x_toV (As := [.int p2]) (b := (x_ad Y 0 0)) hx hb hown hK (x_recv hK hw ok0_ rfl (by decide)) k_787 k_788 k_789 ⟨_, x_cd hK k_790⟩ q_Led_log rfl rfl d_Law_log_4) (fun r1 L9 I9 k2 n2 H locs h hw hb9 => ?_) (fun kx L9 I9 k9 n9 H locs h hw hb9 => ?_)
  · obtain ⟨e1, e2, h⟩ := h
    rw [e1, e2] at hw
    replace hbd := hbd.tr hb9
    refine lv_i2l hx hb d_Law_log_7 rfl ?_
    refine x_last (t := 25) (i := 0) hx hb hK hw ok1_ rfl (hY.n ok1_ rfl) h.1 d_Law_log_8 (fun L3 H locs e_L3 hw => ?_)
    replace h := h.2 L3 e_L3
    refine lv_goto (tgt := 15) hx hb d_Law_log_9 (by decide) ?_
    refine lv_iconst (v := 0) hx hb d_Law_log_15 (by decide) ?_
    exact x_iret hx hb hr hlk hw ⟨rfl, Or.inl ⟨_, rfl, h⟩⟩ hbd d_Law_log_16
  · replace hbd := hbd.tr hb9
    try dsimp only at h
    by_cases c_k1 : kx = 1
    · replace h := h.1 c_k1
      subst c_k1
      refine x_catch1 (kx := 1) hE hhn ⟨by decide, by decide⟩ (by decide) k_502 k_543 (fun ax => ?_)
      refine lv_astore_n (lv' := [(3, .ref ax), (0, .ref (x_ad Y 0 0)), (1, .int p2), (2, .ref (x_ad Y 25 0))]) hx hb d_Law_log_12 rfl hl (by decide) rfl (fun ls hl => ?_)
      refine lv_iconst (v := 1) hx hb d_Law_log_13 (by decide) ?_
      exact x_iret hx hb hr hlk hw ⟨rfl, Or.inl ⟨_, rfl, h⟩⟩ hbd d_Law_log_14
    · replace h := h.2
      exact (h c_k1).elim
