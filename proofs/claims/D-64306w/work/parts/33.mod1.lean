def w_Mod_thrown (Q : Int32 → Prop) (I : x_I) : Prop :=
  Q (I 30 0 0)
set_option maxRecDepth 100000 in
set_option maxHeartbeats 4000000 in
theorem c_Mod_thrown {l : Launch} {g : x_G} {Y : x_Y} (hY : x_Y0 g Y) (ok0_ : x_ok Y 30 0) {Q : Int32 → Prop} {L : x_L} {I : x_I} {k n : Nat} (h : w_Mod_thrown Q I) : x_C l y_Mod_thrown 0 g [.ref (x_ad Y 30 0)] Y L I k n (x_pI Y (fun v L' I' k' n' => L' = L ∧ I' = I ∧ k' = k ∧ n' = n ∧ Q v) x_nx) := by
  refine x_mth k_904 ?_
  intro p e R s m below meth c hE hnm hexn hw hk1 hn1
  obtain ⟨hx, hb, hml, hr, hlk, hown, hK, htr, hF, hLo, hRc, hRs⟩ := id hE
  have hbd : x_bd k n k n := ⟨Nat.le_refl _, hk1, Nat.le_refl _, hn1⟩
  have hl := lv_entry ([.ref (x_ad Y 30 0)]) (n := 1) (Nat.le_of_ble_eq_true rfl)
  generalize (lg_sl [.ref (x_ad Y 30 0)] ++ List.replicate (1 - (lg_sl [.ref (x_ad Y 30 0)]).length) Slot.unset).toArray = ls at hl ⊢
  have hl : lv_has ls 1 [(0, .ref (x_ad Y 30 0))] := hl
  generalize s.heap = H at hw ⊢
  generalize ([] : List Loc) = locs at hw ⊢
  unfold w_Mod_thrown at h
  refine lv_aload_n hx hb d_Mod_thrown_0 rfl (lv_at hl 0 rfl) ?_
  refine x_getI (t := 30) (i := 0) (j := 0) hx hb hK hw hown ok0_ rfl (by decide) (by decide) (x_wd hK k_798 rfl) (fun _ h => h) fk_8_0 d_Mod_thrown_1 ?_
  exact x_iret hx hb hr hlk hw ⟨rfl, Or.inl ⟨_, rfl, ⟨rfl, rfl, rfl, rfl, h⟩⟩⟩ hbd d_Mod_thrown_4
def w_Mod_noAccount (Q : Int32 → Prop) (p1 : Int32) (I : x_I) : Prop :=
  ((p1 < 0 →
    Q (1 : Int32)) ∧
  (¬ p1 < 0 →
    ((p1 < (I 30 0 1) →
      Q (0 : Int32)) ∧
    (¬ p1 < (I 30 0 1) →
      Q (1 : Int32)))))
set_option maxRecDepth 100000 in
set_option maxHeartbeats 4000000 in
theorem c_Mod_noAccount {l : Launch} {g : x_G} {Y : x_Y} (hY : x_Y0 g Y) {p1 : Int32} (ok0_ : x_ok Y 30 0) {Q : Int32 → Prop} {L : x_L} {I : x_I} {k n : Nat} (h : w_Mod_noAccount Q p1 I) : x_C l y_Mod_noAccount 0 g [.ref (x_ad Y 30 0), .int p1] Y L I k n (x_pI Y (fun v L' I' k' n' => L' = L ∧ I' = I ∧ k' = k ∧ n' = n ∧ Q v) x_nx) := by
  refine x_mth k_922 ?_
  intro p e R s m below meth c hE hnm hexn hw hk1 hn1
  obtain ⟨hx, hb, hml, hr, hlk, hown, hK, htr, hF, hLo, hRc, hRs⟩ := id hE
  have hbd : x_bd k n k n := ⟨Nat.le_refl _, hk1, Nat.le_refl _, hn1⟩
  have hl := lv_entry ([.ref (x_ad Y 30 0), .int p1]) (n := 2) (Nat.le_of_ble_eq_true rfl)
  generalize (lg_sl [.ref (x_ad Y 30 0), .int p1] ++ List.replicate (2 - (lg_sl [.ref (x_ad Y 30 0), .int p1]).length) Slot.unset).toArray = ls at hl ⊢
  have hl : lv_has ls 2 [(0, .ref (x_ad Y 30 0)), (1, .int p1)] := hl
  generalize s.heap = H at hw ⊢
  generalize ([] : List Loc) = locs at hw ⊢
  unfold w_Mod_noAccount at h
  refine lv_iload_n hx hb d_Mod_noAccount_0 rfl (lv_at hl 1 rfl) ?_
  refine lv_if_lt (tgt := 12) hx hb d_Mod_noAccount_1 (by decide) (fun c1 => ?_) (fun c1 => ?_)
  · replace h := h.1 c1
    refine lv_iconst (v := 1) hx hb d_Mod_noAccount_12 (by decide) ?_
    refine lv_goto (tgt := 17) hx hb d_Mod_noAccount_13 (by decide) ?_
    exact x_zret hx hb hr hlk hw (Or.inr rfl) ⟨rfl, Or.inl ⟨_, rfl, ⟨rfl, rfl, rfl, rfl, h⟩⟩⟩ hbd d_Mod_noAccount_17
  · replace h := h.2 c1
    refine lv_iload_n hx hb d_Mod_noAccount_4 rfl (lv_at hl 1 rfl) ?_
    refine lv_aload_n hx hb d_Mod_noAccount_5 rfl (lv_at hl 0 rfl) ?_
    refine x_getI (t := 30) (i := 0) (j := 1) hx hb hK hw hown ok0_ rfl (by decide) (by decide) (x_wd hK k_799 rfl) (fun _ h => h) fk_8_1 d_Mod_noAccount_6 ?_
    refine lv_icmp_lt (tgt := 16) hx hb d_Mod_noAccount_9 (by decide) (fun c2 => ?_) (fun c2 => ?_)
    · replace h := h.1 c2
      refine lv_iconst (v := 0) hx hb d_Mod_noAccount_16 (by decide) ?_
      exact x_zret hx hb hr hlk hw (Or.inl rfl) ⟨rfl, Or.inl ⟨_, rfl, ⟨rfl, rfl, rfl, rfl, h⟩⟩⟩ hbd d_Mod_noAccount_17
    · replace h := h.2 c2
      refine lv_iconst (v := 1) hx hb d_Mod_noAccount_12 (by decide) ?_
      refine lv_goto (tgt := 17) hx hb d_Mod_noAccount_13 (by decide) ?_
      exact x_zret hx hb hr hlk hw (Or.inr rfl) ⟨rfl, Or.inl ⟨_, rfl, ⟨rfl, rfl, rfl, rfl, h⟩⟩⟩ hbd d_Mod_noAccount_17
def w_Mod_supply_9 (Q : Int32 → x_I → Prop) : Nat → Int32 → Int32 → x_I → Prop
  | 0, _, _, _ => False
  | fu + 1, v1, v2, I =>
    (((I 30 0 1) ≤ v2 →
      Q v1 I) ∧
    (¬ (I 30 0 1) ≤ v2 →
      vp_in v2 24 ∧
      ∀ x6 : Int32, x6 = (v1 + (I 42 0 v2.toNatClampNeg)) →
      ∀ x7 : Int32, x7 = v2 + (1 : Int32) →
      w_Mod_supply_9 Q fu x6 x7 I))
def w_Mod_supply (Q : Int32 → x_I → Prop) (I : x_I) : Prop :=
  ∀ I1 : x_I, I1 = x_u I 30 0 0 (0 : Int32) →
  ∀ x2 : Int32, x2 = (0 : Int32) →
  ∀ x3 : Int32, x3 = (0 : Int32) →
  ∃ fu : Nat, w_Mod_supply_9 Q fu x2 x3 I1
set_option maxRecDepth 100000 in
set_option maxHeartbeats 4000000 in
theorem c_Mod_supply_9 {l : Launch} {g : x_G} {Y : x_Y} {p : Program} {e : Env} {R : Room} {s : State} {m : MethodId} {args : Array Value} {below : List Frame} {meth : Method} {c : Code} {k n : Nat} (hE : x_E l g p e R s m meth c "CallLedgerModel" prog_9_method_4_code 3 (some .int) 0 k n) (hexn : c.exceptionTable.toList = []) (hY : x_Y0 g Y) (ok0_ : x_ok Y 30 0) {Q : Int32 → x_I → Prop} {L : x_L} :
    ∀ (fu : Nat) (v1 : Int32) (v2 : Int32) (I : x_I) (H : Heap) (locs : List Loc) (ls : Array Slot), w_Mod_supply_9 Q fu v1 v2 I → x_WL g Y L I H locs → x_bd k n k n → lv_has ls 3 [(0, .ref (x_ad Y 30 0)), (1, .int v1), (2, .int v2)] → W p l e R s m args below meth c H locs (k - k) (n - n) (x_Q g below s k n (x_pI Y (fun v L' I' k' n' => L' = L ∧ k' = k ∧ n' = n ∧ Q v I') x_nx)) (F0 m 9 ls []) := by
  obtain ⟨hx, hb, hml, hr, hlk, hown, hK, htr, hF, hLo, hRc, hRs⟩ := id hE
  intro fu
  induction fu with
  | zero =>
    intro v1 v2 I H locs ls h
    exact h.elim
  | succ fu ih =>
    intro v1 v2 I H locs ls h hw hbd hl
    unfold w_Mod_supply_9 at h
    refine lv_iload_n hx hb d_Mod_supply_9 rfl (lv_at hl 2 rfl) ?_
    refine lv_aload_n hx hb d_Mod_supply_10 rfl (lv_at hl 0 rfl) ?_
    refine x_getI (t := 30) (i := 0) (j := 1) hx hb hK hw hown ok0_ rfl (by decide) (by decide) (x_wd hK k_799 rfl) (fun _ h => h) fk_8_1 d_Mod_supply_11 ?_
    refine lv_icmp_ge (tgt := 32) hx hb d_Mod_supply_14 (by decide) (fun c4 => ?_) (fun c4 => ?_)
    · replace h := h.1 c4
      refine lv_iload_n hx hb d_Mod_supply_32 rfl (lv_at hl 1 rfl) ?_
      exact x_iret hx hb hr hlk hw ⟨rfl, Or.inl ⟨_, rfl, ⟨rfl, rfl, rfl, h⟩⟩⟩ hbd d_Mod_supply_33
    · replace h := h.2 c4
      refine lv_iload_n hx hb d_Mod_supply_17 rfl (lv_at hl 1 rfl) ?_
      refine lv_aload_n hx hb d_Mod_supply_18 rfl (lv_at hl 0 rfl) ?_
      refine x_getR (t := 30) (i := 0) (j := 2) hx hb hK hw hown ok0_ rfl (by decide) (by decide) (x_wd hK k_800 rfl) (fun _ h => h) fk_8_2 (hY.r ok0_ rfl) d_Mod_supply_19 ?_
      have ok5 := hY.ok 2 ok0_ (t' := 42) (i' := 0) rfl
      refine lv_iload_n hx hb d_Mod_supply_22 rfl (lv_at hl 2 rfl) ?_
      refine x_iald (t := 42) (i := 0) hx hb hK hw ok5 rfl (hY.n ok5 rfl) h.1 d_Mod_supply_23 ?_
      replace h := h.2
      refine lv_iadd hx hb d_Mod_supply_24 ?_
      refine lv_topi (fun x6 e_x6 => ?_)
      replace h := h x6 e_x6
      refine lv_istore_n (lv' := [(1, .int x6), (0, .ref (x_ad Y 30 0)), (2, .int v2)]) hx hb d_Mod_supply_25 rfl hl (by decide) rfl (fun ls hl => ?_)
      obtain ⟨x7, e_x7⟩ : ∃ z : Int32, z = v2 + (1 : Int32) := ⟨_, rfl⟩
      replace h := h x7 e_x7
      refine lv_iinc (v := x7) (lv' := [(2, .int x7), (1, .int x6), (0, .ref (x_ad Y 30 0))]) hx hb d_Mod_supply_26 hl (k := 2) rfl (by rw [e_x7]; rfl) (by decide) rfl (fun ls hl => ?_)
      refine lv_goto (tgt := 9) hx hb d_Mod_supply_29 (by decide) ?_
      exact ih x6 x7 I H locs ls h hw hbd (lv_sub hl [2, 1, 0] rfl)
set_option maxRecDepth 100000 in
set_option maxHeartbeats 4000000 in
theorem c_Mod_supply {l : Launch} {g : x_G} {Y : x_Y} (hY : x_Y0 g Y) (ok0_ : x_ok Y 30 0) {Q : Int32 → x_I → Prop} {L : x_L} {I : x_I} {k n : Nat} (h : w_Mod_supply Q I) : x_C l y_Mod_supply 0 g [.ref (x_ad Y 30 0)] Y L I k n (x_pI Y (fun v L' I' k' n' => L' = L ∧ k' = k ∧ n' = n ∧ Q v I') x_nx) := by
  refine x_mth k_908 ?_
  intro p e R s m below meth c hE hnm hexn hw hk1 hn1
  obtain ⟨hx, hb, hml, hr, hlk, hown, hK, htr, hF, hLo, hRc, hRs⟩ := id hE
  have hbd : x_bd k n k n := ⟨Nat.le_refl _, hk1, Nat.le_refl _, hn1⟩
  have hl := lv_entry ([.ref (x_ad Y 30 0)]) (n := 3) (Nat.le_of_ble_eq_true rfl)
  generalize (lg_sl [.ref (x_ad Y 30 0)] ++ List.replicate (3 - (lg_sl [.ref (x_ad Y 30 0)]).length) Slot.unset).toArray = ls at hl ⊢
  have hl : lv_has ls 3 [(0, .ref (x_ad Y 30 0))] := hl
  generalize s.heap = H at hw ⊢
  generalize ([] : List Loc) = locs at hw ⊢
  unfold w_Mod_supply at h
  refine lv_aload_n hx hb d_Mod_supply_0 rfl (lv_at hl 0 rfl) ?_
  refine lv_iconst (v := 0) hx hb d_Mod_supply_1 (by decide) ?_
  refine x_putI (t := 30) (i := 0) (j := 0) hx hb hK hw hown ok0_ rfl (by decide) (by decide) (x_wd hK k_798 rfl) (fun _ h => h) rfl rfl d_Mod_supply_2 (fun I1 H locs e_I1 hw => ?_)
  replace h := h I1 e_I1
  refine lv_iconst (v := 0) hx hb d_Mod_supply_5 (by decide) ?_
  refine lv_topi (fun x2 e_x2 => ?_)
  replace h := h x2 e_x2
  refine lv_istore_n (lv' := [(1, .int x2), (0, .ref (x_ad Y 30 0))]) hx hb d_Mod_supply_6 rfl hl (by decide) rfl (fun ls hl => ?_)
  refine lv_iconst (v := 0) hx hb d_Mod_supply_7 (by decide) ?_
  refine lv_topi (fun x3 e_x3 => ?_)
  replace h := h x3 e_x3
  refine lv_istore_n (lv' := [(2, .int x3), (1, .int x2), (0, .ref (x_ad Y 30 0))]) hx hb d_Mod_supply_8 rfl hl (by decide) rfl (fun ls hl => ?_)
  obtain ⟨fu, h⟩ := h
  exact c_Mod_supply_9 hE hexn hY ok0_ fu x2 x3 I1 H locs ls h hw hbd (lv_sub hl [2, 1, 0] rfl)
def w_Mod_open (Q : Int32 → x_I → Prop) (p1 : Int32) (I : x_I) : Prop :=
  w_Mod_supply (fun r1 I2 =>
    ((0 ≤ p1 →
      ∀ I4 : x_I, I4 = x_u I2 30 0 0 (0 : Int32) →
      (((I4 30 0 0) ≤ 0 →
        (((I4 30 0 1) = (24 : Int32) →
          Q (-1 : Int32) I4) ∧
        (¬ (I4 30 0 1) = (24 : Int32) →
          (((lg_cmp (r1.toInt64 + p1.toInt64) (2147483647 : Int64)) ≤ 0 →
            vp_in (I4 30 0 1) 24 ∧
            ∀ I9 : x_I, I9 = x_u I4 42 0 (I4 30 0 1).toNatClampNeg p1 →
            vp_in (I9 30 0 1) 24 ∧
            ∀ I11 : x_I, I11 = x_u I9 44 0 (I9 30 0 1).toNatClampNeg (0 : Int32) →
            vp_in (I11 30 0 1) 24 ∧
            ∀ I13 : x_I, I13 = x_u I11 45 0 (I11 30 0 1).toNatClampNeg (vp_nar .boolean (0 : Int32)) →
            ∀ I14 : x_I, I14 = x_u I13 30 0 1 ((I13 30 0 1) + (1 : Int32)) →
            Q ((I14 30 0 1) - (1 : Int32)) I14) ∧
          (¬ (lg_cmp (r1.toInt64 + p1.toInt64) (2147483647 : Int64)) ≤ 0 →
            Q (-1 : Int32) I4))))) ∧
      (¬ (I4 30 0 0) ≤ 0 →
        Q (0 : Int32) I4))) ∧
    (¬ 0 ≤ p1 →
      ∀ I15 : x_I, I15 = x_u I2 30 0 0 (1 : Int32) →
      (((I15 30 0 0) ≤ 0 →
        (((I15 30 0 1) = (24 : Int32) →
          Q (-1 : Int32) I15) ∧
        (¬ (I15 30 0 1) = (24 : Int32) →
          (((lg_cmp (r1.toInt64 + p1.toInt64) (2147483647 : Int64)) ≤ 0 →
            vp_in (I15 30 0 1) 24 ∧
            ∀ I20 : x_I, I20 = x_u I15 42 0 (I15 30 0 1).toNatClampNeg p1 →
            vp_in (I20 30 0 1) 24 ∧
            ∀ I22 : x_I, I22 = x_u I20 44 0 (I20 30 0 1).toNatClampNeg (0 : Int32) →
            vp_in (I22 30 0 1) 24 ∧
            ∀ I24 : x_I, I24 = x_u I22 45 0 (I22 30 0 1).toNatClampNeg (vp_nar .boolean (0 : Int32)) →
            ∀ I25 : x_I, I25 = x_u I24 30 0 1 ((I24 30 0 1) + (1 : Int32)) →
            Q ((I25 30 0 1) - (1 : Int32)) I25) ∧
          (¬ (lg_cmp (r1.toInt64 + p1.toInt64) (2147483647 : Int64)) ≤ 0 →
            Q (-1 : Int32) I15))))) ∧
      (¬ (I15 30 0 0) ≤ 0 →
        Q (0 : Int32) I15))))) I
set_option maxRecDepth 100000 in
set_option maxHeartbeats 4000000 in
theorem c_Mod_open {l : Launch} {g : x_G} {Y : x_Y} (hY : x_Y0 g Y) {p1 : Int32} (ok0_ : x_ok Y 30 0) {Q : Int32 → x_I → Prop} {L : x_L} {I : x_I} {k n : Nat} (h : w_Mod_open Q p1 I) : x_C l y_Mod_open 1 g [.ref (x_ad Y 30 0), .int p1] Y L I k n (x_pI Y (fun v L' I' k' n' => L' = L ∧ k' = k ∧ n' = n ∧ Q v I') x_nx) := by
  refine x_mth k_912 ?_
  intro p e R s m below meth c hE hnm hexn hw hk1 hn1
  obtain ⟨hx, hb, hml, hr, hlk, hown, hK, htr, hF, hLo, hRc, hRs⟩ := id hE
  have hbd : x_bd k n k n := ⟨Nat.le_refl _, hk1, Nat.le_refl _, hn1⟩
  have hl := lv_entry ([.ref (x_ad Y 30 0), .int p1]) (n := 3) (Nat.le_of_ble_eq_true rfl)
  generalize (lg_sl [.ref (x_ad Y 30 0), .int p1] ++ List.replicate (3 - (lg_sl [.ref (x_ad Y 30 0), .int p1]).length) Slot.unset).toArray = ls at hl ⊢
  have hl : lv_has ls 3 [(0, .ref (x_ad Y 30 0)), (1, .int p1)] := hl
  generalize s.heap = H at hw ⊢
  generalize ([] : List Loc) = locs at hw ⊢
  unfold w_Mod_open at h
  refine lv_aload_n hx hb d_Mod_open_0 rfl (lv_at hl 0 rfl) ?_
  refine x_goI (ls := ls) (rest := []) hE hw (c_Mod_supply hY ok0_ h) (x_cd hK k_908) q_Mod_supply (by decide) (by decide) hl.1 (Nat.le_of_ble_eq_true rfl) hbd d_Mod_open_1 (x_toV (As := []) (b := (x_ad Y 30 0)) hx hb hown hK (x_recv hK hw ok0_ rfl (by decide)) k_913 k_906 k_907 ⟨_, x_cd hK k_908⟩ q_Mod_supply rfl rfl d_Mod_open_1) (fun r1 L9 I2 k9 n9 H locs h hw hb9 => ?_) (fun _ _ _ _ _ _ _ h9 => h9.elim)
  obtain ⟨e1, e3, e4, h⟩ := h
  rw [e1] at hw
  rw [e3, e4]
  refine lv_istore_n (lv' := [(2, .int r1), (0, .ref (x_ad Y 30 0)), (1, .int p1)]) hx hb d_Mod_open_4 rfl hl (by decide) rfl (fun ls hl => ?_)
  refine lv_aload_n hx hb d_Mod_open_5 rfl (lv_at hl 1 rfl) ?_
  refine lv_iload_n hx hb d_Mod_open_6 rfl (lv_at hl 2 rfl) ?_
  refine lv_if_ge (tgt := 14) hx hb d_Mod_open_7 (by decide) (fun c3 => ?_) (fun c3 => ?_)
  · replace h := h.1 c3
    refine lv_iconst (v := 0) hx hb d_Mod_open_14 (by decide) ?_
    refine x_putI (t := 30) (i := 0) (j := 0) hx hb hK hw hown ok0_ rfl (by decide) (by decide) (x_wd hK k_798 rfl) (fun _ h => h) rfl rfl d_Mod_open_15 (fun I4 H locs e_I4 hw => ?_)
    replace h := h I4 e_I4
    refine lv_aload_n hx hb d_Mod_open_18 rfl (lv_at hl 1 rfl) ?_
    refine x_getI (t := 30) (i := 0) (j := 0) hx hb hK hw hown ok0_ rfl (by decide) (by decide) (x_wd hK k_798 rfl) (fun _ h => h) fk_8_0 d_Mod_open_19 ?_
    refine lv_if_le (tgt := 27) hx hb d_Mod_open_22 (by decide) (fun c5 => ?_) (fun c5 => ?_)
    · replace h := h.1 c5
      refine lv_aload_n hx hb d_Mod_open_27 rfl (lv_at hl 1 rfl) ?_
      refine x_getI (t := 30) (i := 0) (j := 1) hx hb hK hw hown ok0_ rfl (by decide) (by decide) (x_wd hK k_799 rfl) (fun _ h => h) fk_8_1 d_Mod_open_28 ?_
      refine lv_bipush (v := 24) hx hb d_Mod_open_31 (by decide) ?_
      refine lv_icmp_eq (tgt := 48) hx hb d_Mod_open_33 (by decide) (fun c6 => ?_) (fun c6 => ?_)
      · replace h := h.1 c6
        refine lv_iconst (v := (-1)) hx hb d_Mod_open_48 (by decide) ?_
        exact x_iret hx hb hr hlk hw ⟨rfl, Or.inl ⟨_, rfl, ⟨rfl, rfl, rfl, h⟩⟩⟩ hbd d_Mod_open_49
      · replace h := h.2 c6
        refine lv_iload_n hx hb d_Mod_open_36 rfl (lv_at hl 0 rfl) ?_
        refine lv_i2l hx hb d_Mod_open_37 rfl ?_
        refine lv_iload_n hx hb d_Mod_open_38 rfl (lv_at hl 2 rfl) ?_
        refine lv_i2l hx hb d_Mod_open_39 rfl ?_
        refine lv_ladd hx hb d_Mod_open_40 ?_
        refine lv_ldc2 (v := 2147483647) hx hb hown (x_wd hK k_914 rfl) d_Mod_open_41 ?_
        refine W.lcmp hx hb d_Mod_open_44 ?_
        refine lv_if_le (tgt := 50) hx hb d_Mod_open_45 (by decide) (fun c7 => ?_) (fun c7 => ?_)
        · replace h := h.1 c7
          refine lv_aload_n hx hb d_Mod_open_50 rfl (lv_at hl 1 rfl) ?_
          refine x_getR (t := 30) (i := 0) (j := 2) hx hb hK hw hown ok0_ rfl (by decide) (by decide) (x_wd hK k_800 rfl) (fun _ h => h) fk_8_2 (hY.r ok0_ rfl) d_Mod_open_51 ?_
          have ok8 := hY.ok 2 ok0_ (t' := 42) (i' := 0) rfl
          refine lv_aload_n hx hb d_Mod_open_54 rfl (lv_at hl 1 rfl) ?_
          refine x_getI (t := 30) (i := 0) (j := 1) hx hb hK hw hown ok0_ rfl (by decide) (by decide) (x_wd hK k_799 rfl) (fun _ h => h) fk_8_1 d_Mod_open_55 ?_
          refine lv_iload_n hx hb d_Mod_open_58 rfl (lv_at hl 2 rfl) ?_
          refine x_iast (t := 42) (i := 0) hx hb hK hw ok8 rfl (hY.n ok8 rfl) h.1 d_Mod_open_59 (fun I9 H locs e_I9 hw => ?_)
          replace h := h.2 I9 e_I9
          refine lv_aload_n hx hb d_Mod_open_60 rfl (lv_at hl 1 rfl) ?_
          refine x_getR (t := 30) (i := 0) (j := 4) hx hb hK hw hown ok0_ rfl (by decide) (by decide) (x_wd hK k_802 rfl) (fun _ h => h) fk_8_4 (hY.r ok0_ rfl) d_Mod_open_61 ?_
          have ok10 := hY.ok 4 ok0_ (t' := 44) (i' := 0) rfl
          refine lv_aload_n hx hb d_Mod_open_64 rfl (lv_at hl 1 rfl) ?_
          refine x_getI (t := 30) (i := 0) (j := 1) hx hb hK hw hown ok0_ rfl (by decide) (by decide) (x_wd hK k_799 rfl) (fun _ h => h) fk_8_1 d_Mod_open_65 ?_
          refine lv_iconst (v := 0) hx hb d_Mod_open_68 (by decide) ?_
          refine x_iast (t := 44) (i := 0) hx hb hK hw ok10 rfl (hY.n ok10 rfl) h.1 d_Mod_open_69 (fun I11 H locs e_I11 hw => ?_)
          replace h := h.2 I11 e_I11
          refine lv_aload_n hx hb d_Mod_open_70 rfl (lv_at hl 1 rfl) ?_
          refine x_getR (t := 30) (i := 0) (j := 5) hx hb hK hw hown ok0_ rfl (by decide) (by decide) (x_wd hK k_803 rfl) (fun _ h => h) fk_8_5 (hY.r ok0_ rfl) d_Mod_open_71 ?_
          have ok12 := hY.ok 5 ok0_ (t' := 45) (i' := 0) rfl
          refine lv_aload_n hx hb d_Mod_open_74 rfl (lv_at hl 1 rfl) ?_
          refine x_getI (t := 30) (i := 0) (j := 1) hx hb hK hw hown ok0_ rfl (by decide) (by decide) (x_wd hK k_799 rfl) (fun _ h => h) fk_8_1 d_Mod_open_75 ?_
          refine lv_iconst (v := 0) hx hb d_Mod_open_78 (by decide) ?_
          refine x_zast (t := 45) (i := 0) hx hb hK hw ok12 rfl (hY.n ok12 rfl) h.1 d_Mod_open_79 (fun I13 H locs e_I13 hw => ?_)
          replace h := h.2 I13 e_I13
          refine lv_aload_n hx hb d_Mod_open_80 rfl (lv_at hl 1 rfl) ?_
          refine lv_dup hx hb d_Mod_open_81 rfl ?_
          refine x_getI (t := 30) (i := 0) (j := 1) hx hb hK hw hown ok0_ rfl (by decide) (by decide) (x_wd hK k_799 rfl) (fun _ h => h) fk_8_1 d_Mod_open_82 ?_
          refine lv_iconst (v := 1) hx hb d_Mod_open_85 (by decide) ?_
          refine lv_iadd hx hb d_Mod_open_86 ?_
          refine x_putI (t := 30) (i := 0) (j := 1) hx hb hK hw hown ok0_ rfl (by decide) (by decide) (x_wd hK k_799 rfl) (fun _ h => h) rfl rfl d_Mod_open_87 (fun I14 H locs e_I14 hw => ?_)
          replace h := h I14 e_I14
          refine lv_aload_n hx hb d_Mod_open_90 rfl (lv_at hl 1 rfl) ?_
          refine x_getI (t := 30) (i := 0) (j := 1) hx hb hK hw hown ok0_ rfl (by decide) (by decide) (x_wd hK k_799 rfl) (fun _ h => h) fk_8_1 d_Mod_open_91 ?_
          refine lv_iconst (v := 1) hx hb d_Mod_open_94 (by decide) ?_
          refine lv_isub hx hb d_Mod_open_95 ?_
          exact x_iret hx hb hr hlk hw ⟨rfl, Or.inl ⟨_, rfl, ⟨rfl, rfl, rfl, h⟩⟩⟩ hbd d_Mod_open_96
        · replace h := h.2 c7
          refine lv_iconst (v := (-1)) hx hb d_Mod_open_48 (by decide) ?_
          exact x_iret hx hb hr hlk hw ⟨rfl, Or.inl ⟨_, rfl, ⟨rfl, rfl, rfl, h⟩⟩⟩ hbd d_Mod_open_49
    · replace h := h.2 c5
      refine lv_iconst (v := 0) hx hb d_Mod_open_25 (by decide) ?_
      exact x_iret hx hb hr hlk hw ⟨rfl, Or.inl ⟨_, rfl, ⟨rfl, rfl, rfl, h⟩⟩⟩ hbd d_Mod_open_26
  · replace h := h.2 c3
    refine lv_iconst (v := 1) hx hb d_Mod_open_10 (by decide) ?_
    refine lv_goto (tgt := 15) hx hb d_Mod_open_11 (by decide) ?_
    refine x_putI (t := 30) (i := 0) (j := 0) hx hb hK hw hown ok0_ rfl (by decide) (by decide) (x_wd hK k_798 rfl) (fun _ h => h) rfl rfl d_Mod_open_15 (fun I15 H locs e_I15 hw => ?_)
    replace h := h I15 e_I15
    refine lv_aload_n hx hb d_Mod_open_18 rfl (lv_at hl 1 rfl) ?_
    refine x_getI (t := 30) (i := 0) (j := 0) hx hb hK hw hown ok0_ rfl (by decide) (by decide) (x_wd hK k_798 rfl) (fun _ h => h) fk_8_0 d_Mod_open_19 ?_
    refine lv_if_le (tgt := 27) hx hb d_Mod_open_22 (by decide) (fun c16 => ?_) (fun c16 => ?_)
    · replace h := h.1 c16
      refine lv_aload_n hx hb d_Mod_open_27 rfl (lv_at hl 1 rfl) ?_
      refine x_getI (t := 30) (i := 0) (j := 1) hx hb hK hw hown ok0_ rfl (by decide) (by decide) (x_wd hK k_799 rfl) (fun _ h => h) fk_8_1 d_Mod_open_28 ?_
      refine lv_bipush (v := 24) hx hb d_Mod_open_31 (by decide) ?_
      refine lv_icmp_eq (tgt := 48) hx hb d_Mod_open_33 (by decide) (fun c17 => ?_) (fun c17 => ?_)
      · replace h := h.1 c17
        refine lv_iconst (v := (-1)) hx hb d_Mod_open_48 (by decide) ?_
        exact x_iret hx hb hr hlk hw ⟨rfl, Or.inl ⟨_, rfl, ⟨rfl, rfl, rfl, h⟩⟩⟩ hbd d_Mod_open_49
      · replace h := h.2 c17
        refine lv_iload_n hx hb d_Mod_open_36 rfl (lv_at hl 0 rfl) ?_
        refine lv_i2l hx hb d_Mod_open_37 rfl ?_
        refine lv_iload_n hx hb d_Mod_open_38 rfl (lv_at hl 2 rfl) ?_
        refine lv_i2l hx hb d_Mod_open_39 rfl ?_
        refine lv_ladd hx hb d_Mod_open_40 ?_
        refine lv_ldc2 (v := 2147483647) hx hb hown (x_wd hK k_914 rfl) d_Mod_open_41 ?_
        refine W.lcmp hx hb d_Mod_open_44 ?_
        refine lv_if_le (tgt := 50) hx hb d_Mod_open_45 (by decide) (fun c18 => ?_) (fun c18 => ?_)
        · replace h := h.1 c18
          refine lv_aload_n hx hb d_Mod_open_50 rfl (lv_at hl 1 rfl) ?_
          refine x_getR (t := 30) (i := 0) (j := 2) hx hb hK hw hown ok0_ rfl (by decide) (by decide) (x_wd hK k_800 rfl) (fun _ h => h) fk_8_2 (hY.r ok0_ rfl) d_Mod_open_51 ?_
          have ok19 := hY.ok 2 ok0_ (t' := 42) (i' := 0) rfl
          refine lv_aload_n hx hb d_Mod_open_54 rfl (lv_at hl 1 rfl) ?_
          refine x_getI (t := 30) (i := 0) (j := 1) hx hb hK hw hown ok0_ rfl (by decide) (by decide) (x_wd hK k_799 rfl) (fun _ h => h) fk_8_1 d_Mod_open_55 ?_
          refine lv_iload_n hx hb d_Mod_open_58 rfl (lv_at hl 2 rfl) ?_
          refine x_iast (t := 42) (i := 0) hx hb hK hw ok19 rfl (hY.n ok19 rfl) h.1 d_Mod_open_59 (fun I20 H locs e_I20 hw => ?_)
          replace h := h.2 I20 e_I20
          refine lv_aload_n hx hb d_Mod_open_60 rfl (lv_at hl 1 rfl) ?_
          refine x_getR (t := 30) (i := 0) (j := 4) hx hb hK hw hown ok0_ rfl (by decide) (by decide) (x_wd hK k_802 rfl) (fun _ h => h) fk_8_4 (hY.r ok0_ rfl) d_Mod_open_61 ?_
          have ok21 := hY.ok 4 ok0_ (t' := 44) (i' := 0) rfl
          refine lv_aload_n hx hb d_Mod_open_64 rfl (lv_at hl 1 rfl) ?_
          refine x_getI (t := 30) (i := 0) (j := 1) hx hb hK hw hown ok0_ rfl (by decide) (by decide) (x_wd hK k_799 rfl) (fun _ h => h) fk_8_1 d_Mod_open_65 ?_
          refine lv_iconst (v := 0) hx hb d_Mod_open_68 (by decide) ?_
          refine x_iast (t := 44) (i := 0) hx hb hK hw ok21 rfl (hY.n ok21 rfl) h.1 d_Mod_open_69 (fun I22 H locs e_I22 hw => ?_)
          replace h := h.2 I22 e_I22
          refine lv_aload_n hx hb d_Mod_open_70 rfl (lv_at hl 1 rfl) ?_
          refine x_getR (t := 30) (i := 0) (j := 5) hx hb hK hw hown ok0_ rfl (by decide) (by decide) (x_wd hK k_803 rfl) (fun _ h => h) fk_8_5 (hY.r ok0_ rfl) d_Mod_open_71 ?_
          have ok23 := hY.ok 5 ok0_ (t' := 45) (i' := 0) rfl
          refine lv_aload_n hx hb d_Mod_open_74 rfl (lv_at hl 1 rfl) ?_
          refine x_getI (t := 30) (i := 0) (j := 1) hx hb hK hw hown ok0_ rfl (by decide) (by decide) (x_wd hK k_799 rfl) (fun _ h => h) fk_8_1 d_Mod_open_75 ?_
          refine lv_iconst (v := 0) hx hb d_Mod_open_78 (by decide) ?_
          refine x_zast (t := 45) (i := 0) hx hb hK hw ok23 rfl (hY.n ok23 rfl) h.1 d_Mod_open_79 (fun I24 H locs e_I24 hw => ?_)
          replace h := h.2 I24 e_I24
          refine lv_aload_n hx hb d_Mod_open_80 rfl (lv_at hl 1 rfl) ?_
          refine lv_dup hx hb d_Mod_open_81 rfl ?_
          refine x_getI (t := 30) (i := 0) (j := 1) hx hb hK hw hown ok0_ rfl (by decide) (by decide) (x_wd hK k_799 rfl) (fun _ h => h) fk_8_1 d_Mod_open_82 ?_
          refine lv_iconst (v := 1) hx hb d_Mod_open_85 (by decide) ?_
          refine lv_iadd hx hb d_Mod_open_86 ?_
          refine x_putI (t := 30) (i := 0) (j := 1) hx hb hK hw hown ok0_ rfl (by decide) (by decide) (x_wd hK k_799 rfl) (fun _ h => h) rfl rfl d_Mod_open_87 (fun I25 H locs e_I25 hw => ?_)
          replace h := h I25 e_I25
          refine lv_aload_n hx hb d_Mod_open_90 rfl (lv_at hl 1 rfl) ?_
          refine x_getI (t := 30) (i := 0) (j := 1) hx hb hK hw hown ok0_ rfl (by decide) (by decide) (x_wd hK k_799 rfl) (fun _ h => h) fk_8_1 d_Mod_open_91 ?_
          refine lv_iconst (v := 1) hx hb d_Mod_open_94 (by decide) ?_
          refine lv_isub hx hb d_Mod_open_95 ?_
          exact x_iret hx hb hr hlk hw ⟨rfl, Or.inl ⟨_, rfl, ⟨rfl, rfl, rfl, h⟩⟩⟩ hbd d_Mod_open_96
        · replace h := h.2 c18
          refine lv_iconst (v := (-1)) hx hb d_Mod_open_48 (by decide) ?_
          exact x_iret hx hb hr hlk hw ⟨rfl, Or.inl ⟨_, rfl, ⟨rfl, rfl, rfl, h⟩⟩⟩ hbd d_Mod_open_49
    · replace h := h.2 c16
      refine lv_iconst (v := 0) hx hb d_Mod_open_25 (by decide) ?_
      exact x_iret hx hb hr hlk hw ⟨rfl, Or.inl ⟨_, rfl, ⟨rfl, rfl, rfl, h⟩⟩⟩ hbd d_Mod_open_26
def w_Mod_code (Q : Int32 → x_I → Prop) (p1 : Int32) (p2 : Int32) (I : x_I) : Prop :=
  w_Mod_noAccount (fun r1 =>
    ((r1 = 0 →
      vp_in p1 24 ∧
      (((I 45 0 p1.toNatClampNeg) = 0 →
        ∀ I5 : x_I, I5 = x_u I 30 0 0 (0 : Int32) →
        (((I5 30 0 0) ≤ 0 →
          vp_in p1 24 ∧
          ((¬ (I5 44 0 p1.toNatClampNeg) = (160 : Int32) →
            vp_in p1 24 ∧
            vp_in ((((160 : Int32) * p1) + (I5 44 0 p1.toNatClampNeg))) 3840 ∧
            ∀ I10 : x_I, I10 = x_u I5 43 0 ((((160 : Int32) * p1) + (I5 44 0 p1.toNatClampNeg))).toNatClampNeg p2 →
            vp_in p1 24 ∧
            vp_in p1 24 ∧
            ∀ I11 : x_I, I11 = x_u I10 44 0 p1.toNatClampNeg ((I10 44 0 p1.toNatClampNeg) + (1 : Int32)) →
            vp_in p1 24 ∧
            Q (I11 44 0 p1.toNatClampNeg) I11) ∧
          ((I5 44 0 p1.toNatClampNeg) = (160 : Int32) →
            Q (-1 : Int32) I5))) ∧
        (¬ (I5 30 0 0) ≤ 0 →
          Q (0 : Int32) I5))) ∧
      (¬ (I 45 0 p1.toNatClampNeg) = 0 →
        ∀ I12 : x_I, I12 = x_u I 30 0 0 (2 : Int32) →
        (((I12 30 0 0) ≤ 0 →
          vp_in p1 24 ∧
          ((¬ (I12 44 0 p1.toNatClampNeg) = (160 : Int32) →
            vp_in p1 24 ∧
            vp_in ((((160 : Int32) * p1) + (I12 44 0 p1.toNatClampNeg))) 3840 ∧
            ∀ I17 : x_I, I17 = x_u I12 43 0 ((((160 : Int32) * p1) + (I12 44 0 p1.toNatClampNeg))).toNatClampNeg p2 →
            vp_in p1 24 ∧
            vp_in p1 24 ∧
            ∀ I18 : x_I, I18 = x_u I17 44 0 p1.toNatClampNeg ((I17 44 0 p1.toNatClampNeg) + (1 : Int32)) →
            vp_in p1 24 ∧
            Q (I18 44 0 p1.toNatClampNeg) I18) ∧
          ((I12 44 0 p1.toNatClampNeg) = (160 : Int32) →
            Q (-1 : Int32) I12))) ∧
        (¬ (I12 30 0 0) ≤ 0 →
          Q (0 : Int32) I12))))) ∧
    (¬ r1 = 0 →
      ∀ I19 : x_I, I19 = x_u I 30 0 0 (1 : Int32) →
      (((I19 30 0 0) ≤ 0 →
        vp_in p1 24 ∧
        ((¬ (I19 44 0 p1.toNatClampNeg) = (160 : Int32) →
          vp_in p1 24 ∧
          vp_in ((((160 : Int32) * p1) + (I19 44 0 p1.toNatClampNeg))) 3840 ∧
          ∀ I24 : x_I, I24 = x_u I19 43 0 ((((160 : Int32) * p1) + (I19 44 0 p1.toNatClampNeg))).toNatClampNeg p2 →
          vp_in p1 24 ∧
          vp_in p1 24 ∧
          ∀ I25 : x_I, I25 = x_u I24 44 0 p1.toNatClampNeg ((I24 44 0 p1.toNatClampNeg) + (1 : Int32)) →
          vp_in p1 24 ∧
          Q (I25 44 0 p1.toNatClampNeg) I25) ∧
        ((I19 44 0 p1.toNatClampNeg) = (160 : Int32) →
          Q (-1 : Int32) I19))) ∧
      (¬ (I19 30 0 0) ≤ 0 →
        Q (0 : Int32) I19))))) p1 I
set_option maxRecDepth 100000 in
set_option maxHeartbeats 4000000 in
theorem c_Mod_code {l : Launch} {g : x_G} {Y : x_Y} (hY : x_Y0 g Y) {p1 : Int32} {p2 : Int32} (ok0_ : x_ok Y 30 0) {Q : Int32 → x_I → Prop} {L : x_L} {I : x_I} {k n : Nat} (h : w_Mod_code Q p1 p2 I) : x_C l y_Mod_code 1 g [.ref (x_ad Y 30 0), .int p1, .int p2] Y L I k n (x_pI Y (fun v L' I' k' n' => L' = L ∧ k' = k ∧ n' = n ∧ Q v I') x_nx) := by
  refine x_mth k_918 ?_
  intro p e R s m below meth c hE hnm hexn hw hk1 hn1
  obtain ⟨hx, hb, hml, hr, hlk, hown, hK, htr, hF, hLo, hRc, hRs⟩ := id hE
  have hbd : x_bd k n k n := ⟨Nat.le_refl _, hk1, Nat.le_refl _, hn1⟩
  have hl := lv_entry ([.ref (x_ad Y 30 0), .int p1, .int p2]) (n := 3) (Nat.le_of_ble_eq_true rfl)
  generalize (lg_sl [.ref (x_ad Y 30 0), .int p1, .int p2] ++ List.replicate (3 - (lg_sl [.ref (x_ad Y 30 0), .int p1, .int p2]).length) Slot.unset).toArray = ls at hl ⊢
  have hl : lv_has ls 3 [(0, .ref (x_ad Y 30 0)), (1, .int p1), (2, .int p2)] := hl
  generalize s.heap = H at hw ⊢
  generalize ([] : List Loc) = locs at hw ⊢
  unfold w_Mod_code at h
  refine lv_aload_n hx hb d_Mod_code_0 rfl (lv_at hl 0 rfl) ?_
  refine lv_aload_n hx hb d_Mod_code_1 rfl (lv_at hl 0 rfl) ?_
  refine lv_iload_n hx hb d_Mod_code_2 rfl (lv_at hl 1 rfl) ?_
  refine x_goI (ls := ls) (rest := [.ref (x_ad Y 30 0)]) hE hw (c_Mod_noAccount hY ok0_ h) (x_cd hK k_922) q_Mod_noAccount (by decide) (by decide) hl.1 (Nat.le_of_ble_eq_true rfl) hbd d_Mod_code_3 (x_toV (As := [.int p1]) (b := (x_ad Y 30 0)) hx hb hown hK (x_recv hK hw ok0_ rfl (by decide)) k_919 k_921 ks_21 ⟨_, x_cd hK k_922⟩ q_Mod_noAccount rfl rfl d_Mod_code_3) (fun r1 L9 I9 k9 n9 H locs h hw hb9 => ?_) (fun _ _ _ _ _ _ _ h9 => h9.elim)
  obtain ⟨e1, e2, e3, e4, h⟩ := h
  rw [e1, e2] at hw
  rw [e3, e4]
  refine lv_if_eq (tgt := 13) hx hb d_Mod_code_6 (by decide) (fun c2 => ?_) (fun c2 => ?_)
  · replace h := h.1 c2
    refine lv_aload_n hx hb d_Mod_code_13 rfl (lv_at hl 0 rfl) ?_
    refine x_getR (t := 30) (i := 0) (j := 5) hx hb hK hw hown ok0_ rfl (by decide) (by decide) (x_wd hK k_803 rfl) (fun _ h => h) fk_8_5 (hY.r ok0_ rfl) d_Mod_code_14 ?_
    have ok3 := hY.ok 5 ok0_ (t' := 45) (i' := 0) rfl
    refine lv_iload_n hx hb d_Mod_code_17 rfl (lv_at hl 1 rfl) ?_
    refine x_zald (t := 45) (i := 0) hx hb hK hw ok3 rfl (hY.n ok3 rfl) h.1 d_Mod_code_18 ?_
    replace h := h.2
    refine lv_if_eq (tgt := 26) hx hb d_Mod_code_19 (by decide) (fun c4 => ?_) (fun c4 => ?_)
    · replace h := h.1 c4
      refine lv_iconst (v := 0) hx hb d_Mod_code_26 (by decide) ?_
      refine x_putI (t := 30) (i := 0) (j := 0) hx hb hK hw hown ok0_ rfl (by decide) (by decide) (x_wd hK k_798 rfl) (fun _ h => h) rfl rfl d_Mod_code_27 (fun I5 H locs e_I5 hw => ?_)
      replace h := h I5 e_I5
      refine lv_aload_n hx hb d_Mod_code_30 rfl (lv_at hl 0 rfl) ?_
      refine x_getI (t := 30) (i := 0) (j := 0) hx hb hK hw hown ok0_ rfl (by decide) (by decide) (x_wd hK k_798 rfl) (fun _ h => h) fk_8_0 d_Mod_code_31 ?_
      refine lv_if_le (tgt := 39) hx hb d_Mod_code_34 (by decide) (fun c6 => ?_) (fun c6 => ?_)
      · replace h := h.1 c6
        refine lv_aload_n hx hb d_Mod_code_39 rfl (lv_at hl 0 rfl) ?_
        refine x_getR (t := 30) (i := 0) (j := 4) hx hb hK hw hown ok0_ rfl (by decide) (by decide) (x_wd hK k_802 rfl) (fun _ h => h) fk_8_4 (hY.r ok0_ rfl) d_Mod_code_40 ?_
        have ok7 := hY.ok 4 ok0_ (t' := 44) (i' := 0) rfl
        refine lv_iload_n hx hb d_Mod_code_43 rfl (lv_at hl 1 rfl) ?_
        refine x_iald (t := 44) (i := 0) hx hb hK hw ok7 rfl (hY.n ok7 rfl) h.1 d_Mod_code_44 ?_
        replace h := h.2
        refine lv_sipush (v := 160) hx hb d_Mod_code_45 (by decide) ?_
        refine lv_icmp_ne (tgt := 53) hx hb d_Mod_code_48 (by decide) (fun c8 => ?_) (fun c8 => ?_)
        · replace h := h.1 c8
          refine lv_aload_n hx hb d_Mod_code_53 rfl (lv_at hl 0 rfl) ?_
          refine x_getR (t := 30) (i := 0) (j := 3) hx hb hK hw hown ok0_ rfl (by decide) (by decide) (x_wd hK k_801 rfl) (fun _ h => h) fk_8_3 (hY.r ok0_ rfl) d_Mod_code_54 ?_
          have ok9 := hY.ok 3 ok0_ (t' := 43) (i' := 0) rfl
          refine lv_sipush (v := 160) hx hb d_Mod_code_57 (by decide) ?_
          refine lv_iload_n hx hb d_Mod_code_60 rfl (lv_at hl 1 rfl) ?_
          refine lv_imul hx hb d_Mod_code_61 ?_
          refine lv_aload_n hx hb d_Mod_code_62 rfl (lv_at hl 0 rfl) ?_
          refine x_getR (t := 30) (i := 0) (j := 4) hx hb hK hw hown ok0_ rfl (by decide) (by decide) (x_wd hK k_802 rfl) (fun _ h => h) fk_8_4 (hY.r ok0_ rfl) d_Mod_code_63 ?_
          refine lv_iload_n hx hb d_Mod_code_66 rfl (lv_at hl 1 rfl) ?_
          refine x_iald (t := 44) (i := 0) hx hb hK hw ok7 rfl (hY.n ok7 rfl) h.1 d_Mod_code_67 ?_
          replace h := h.2
          refine lv_iadd hx hb d_Mod_code_68 ?_
          refine lv_iload_n hx hb d_Mod_code_69 rfl (lv_at hl 2 rfl) ?_
          refine x_iast (t := 43) (i := 0) hx hb hK hw ok9 rfl (hY.n ok9 rfl) h.1 d_Mod_code_70 (fun I10 H locs e_I10 hw => ?_)
          replace h := h.2 I10 e_I10
          refine lv_aload_n hx hb d_Mod_code_71 rfl (lv_at hl 0 rfl) ?_
          refine x_getR (t := 30) (i := 0) (j := 4) hx hb hK hw hown ok0_ rfl (by decide) (by decide) (x_wd hK k_802 rfl) (fun _ h => h) fk_8_4 (hY.r ok0_ rfl) d_Mod_code_72 ?_
          refine lv_iload_n hx hb d_Mod_code_75 rfl (lv_at hl 1 rfl) ?_
          refine lv_dup2_11 hx hb d_Mod_code_76 rfl rfl ?_
          refine x_iald (t := 44) (i := 0) hx hb hK hw ok7 rfl (hY.n ok7 rfl) h.1 d_Mod_code_77 ?_
          replace h := h.2
          refine lv_iconst (v := 1) hx hb d_Mod_code_78 (by decide) ?_
          refine lv_iadd hx hb d_Mod_code_79 ?_
          refine x_iast (t := 44) (i := 0) hx hb hK hw ok7 rfl (hY.n ok7 rfl) h.1 d_Mod_code_80 (fun I11 H locs e_I11 hw => ?_)
          replace h := h.2 I11 e_I11
          refine lv_aload_n hx hb d_Mod_code_81 rfl (lv_at hl 0 rfl) ?_
          refine x_getR (t := 30) (i := 0) (j := 4) hx hb hK hw hown ok0_ rfl (by decide) (by decide) (x_wd hK k_802 rfl) (fun _ h => h) fk_8_4 (hY.r ok0_ rfl) d_Mod_code_82 ?_
          refine lv_iload_n hx hb d_Mod_code_85 rfl (lv_at hl 1 rfl) ?_
          refine x_iald (t := 44) (i := 0) hx hb hK hw ok7 rfl (hY.n ok7 rfl) h.1 d_Mod_code_86 ?_
          replace h := h.2
          exact x_iret hx hb hr hlk hw ⟨rfl, Or.inl ⟨_, rfl, ⟨rfl, rfl, rfl, h⟩⟩⟩ hbd d_Mod_code_87
        · replace h := h.2 c8
          refine lv_iconst (v := (-1)) hx hb d_Mod_code_51 (by decide) ?_
          exact x_iret hx hb hr hlk hw ⟨rfl, Or.inl ⟨_, rfl, ⟨rfl, rfl, rfl, h⟩⟩⟩ hbd d_Mod_code_52
      · replace h := h.2 c6
        refine lv_iconst (v := 0) hx hb d_Mod_code_37 (by decide) ?_
        exact x_iret hx hb hr hlk hw ⟨rfl, Or.inl ⟨_, rfl, ⟨rfl, rfl, rfl, h⟩⟩⟩ hbd d_Mod_code_38
    · replace h := h.2 c4
      refine lv_iconst (v := 2) hx hb d_Mod_code_22 (by decide) ?_
      refine lv_goto (tgt := 27) hx hb d_Mod_code_23 (by decide) ?_
      refine x_putI (t := 30) (i := 0) (j := 0) hx hb hK hw hown ok0_ rfl (by decide) (by decide) (x_wd hK k_798 rfl) (fun _ h => h) rfl rfl d_Mod_code_27 (fun I12 H locs e_I12 hw => ?_)
      replace h := h I12 e_I12
      refine lv_aload_n hx hb d_Mod_code_30 rfl (lv_at hl 0 rfl) ?_
      refine x_getI (t := 30) (i := 0) (j := 0) hx hb hK hw hown ok0_ rfl (by decide) (by decide) (x_wd hK k_798 rfl) (fun _ h => h) fk_8_0 d_Mod_code_31 ?_
      refine lv_if_le (tgt := 39) hx hb d_Mod_code_34 (by decide) (fun c13 => ?_) (fun c13 => ?_)
      · replace h := h.1 c13
        refine lv_aload_n hx hb d_Mod_code_39 rfl (lv_at hl 0 rfl) ?_
        refine x_getR (t := 30) (i := 0) (j := 4) hx hb hK hw hown ok0_ rfl (by decide) (by decide) (x_wd hK k_802 rfl) (fun _ h => h) fk_8_4 (hY.r ok0_ rfl) d_Mod_code_40 ?_
        have ok14 := hY.ok 4 ok0_ (t' := 44) (i' := 0) rfl
        refine lv_iload_n hx hb d_Mod_code_43 rfl (lv_at hl 1 rfl) ?_
        refine x_iald (t := 44) (i := 0) hx hb hK hw ok14 rfl (hY.n ok14 rfl) h.1 d_Mod_code_44 ?_
        replace h := h.2
        refine lv_sipush (v := 160) hx hb d_Mod_code_45 (by decide) ?_
        refine lv_icmp_ne (tgt := 53) hx hb d_Mod_code_48 (by decide) (fun c15 => ?_) (fun c15 => ?_)
        · replace h := h.1 c15
          refine lv_aload_n hx hb d_Mod_code_53 rfl (lv_at hl 0 rfl) ?_
          refine x_getR (t := 30) (i := 0) (j := 3) hx hb hK hw hown ok0_ rfl (by decide) (by decide) (x_wd hK k_801 rfl) (fun _ h => h) fk_8_3 (hY.r ok0_ rfl) d_Mod_code_54 ?_
          have ok16 := hY.ok 3 ok0_ (t' := 43) (i' := 0) rfl
          refine lv_sipush (v := 160) hx hb d_Mod_code_57 (by decide) ?_
          refine lv_iload_n hx hb d_Mod_code_60 rfl (lv_at hl 1 rfl) ?_
          refine lv_imul hx hb d_Mod_code_61 ?_
          refine lv_aload_n hx hb d_Mod_code_62 rfl (lv_at hl 0 rfl) ?_
          refine x_getR (t := 30) (i := 0) (j := 4) hx hb hK hw hown ok0_ rfl (by decide) (by decide) (x_wd hK k_802 rfl) (fun _ h => h) fk_8_4 (hY.r ok0_ rfl) d_Mod_code_63 ?_
          refine lv_iload_n hx hb d_Mod_code_66 rfl (lv_at hl 1 rfl) ?_
          refine x_iald (t := 44) (i := 0) hx hb hK hw ok14 rfl (hY.n ok14 rfl) h.1 d_Mod_code_67 ?_
          replace h := h.2
          refine lv_iadd hx hb d_Mod_code_68 ?_
          refine lv_iload_n hx hb d_Mod_code_69 rfl (lv_at hl 2 rfl) ?_
          refine x_iast (t := 43) (i := 0) hx hb hK hw ok16 rfl (hY.n ok16 rfl) h.1 d_Mod_code_70 (fun I17 H locs e_I17 hw => ?_)
          replace h := h.2 I17 e_I17
          refine lv_aload_n hx hb d_Mod_code_71 rfl (lv_at hl 0 rfl) ?_
          refine x_getR (t := 30) (i := 0) (j := 4) hx hb hK hw hown ok0_ rfl (by decide) (by decide) (x_wd hK k_802 rfl) (fun _ h => h) fk_8_4 (hY.r ok0_ rfl) d_Mod_code_72 ?_
          refine lv_iload_n hx hb d_Mod_code_75 rfl (lv_at hl 1 rfl) ?_
          refine lv_dup2_11 hx hb d_Mod_code_76 rfl rfl ?_
          refine x_iald (t := 44) (i := 0) hx hb hK hw ok14 rfl (hY.n ok14 rfl) h.1 d_Mod_code_77 ?_
          replace h := h.2
          refine lv_iconst (v := 1) hx hb d_Mod_code_78 (by decide) ?_
          refine lv_iadd hx hb d_Mod_code_79 ?_
          refine x_iast (t := 44) (i := 0) hx hb hK hw ok14 rfl (hY.n ok14 rfl) h.1 d_Mod_code_80 (fun I18 H locs e_I18 hw => ?_)
          replace h := h.2 I18 e_I18
          refine lv_aload_n hx hb d_Mod_code_81 rfl (lv_at hl 0 rfl) ?_
          refine x_getR (t := 30) (i := 0) (j := 4) hx hb hK hw hown ok0_ rfl (by decide) (by decide) (x_wd hK k_802 rfl) (fun _ h => h) fk_8_4 (hY.r ok0_ rfl) d_Mod_code_82 ?_
          refine lv_iload_n hx hb d_Mod_code_85 rfl (lv_at hl 1 rfl) ?_
          refine x_iald (t := 44) (i := 0) hx hb hK hw ok14 rfl (hY.n ok14 rfl) h.1 d_Mod_code_86 ?_
          replace h := h.2
          exact x_iret hx hb hr hlk hw ⟨rfl, Or.inl ⟨_, rfl, ⟨rfl, rfl, rfl, h⟩⟩⟩ hbd d_Mod_code_87
        · replace h := h.2 c15
          refine lv_iconst (v := (-1)) hx hb d_Mod_code_51 (by decide) ?_
          exact x_iret hx hb hr hlk hw ⟨rfl, Or.inl ⟨_, rfl, ⟨rfl, rfl, rfl, h⟩⟩⟩ hbd d_Mod_code_52
      · replace h := h.2 c13
        refine lv_iconst (v := 0) hx hb d_Mod_code_37 (by decide) ?_
        exact x_iret hx hb hr hlk hw ⟨rfl, Or.inl ⟨_, rfl, ⟨rfl, rfl, rfl, h⟩⟩⟩ hbd d_Mod_code_38
  · replace h := h.2 c2
    refine lv_iconst (v := 1) hx hb d_Mod_code_9 (by decide) ?_
    refine lv_goto (tgt := 27) hx hb d_Mod_code_10 (by decide) ?_
    refine x_putI (t := 30) (i := 0) (j := 0) hx hb hK hw hown ok0_ rfl (by decide) (by decide) (x_wd hK k_798 rfl) (fun _ h => h) rfl rfl d_Mod_code_27 (fun I19 H locs e_I19 hw => ?_)
    replace h := h I19 e_I19
    refine lv_aload_n hx hb d_Mod_code_30 rfl (lv_at hl 0 rfl) ?_
    refine x_getI (t := 30) (i := 0) (j := 0) hx hb hK hw hown ok0_ rfl (by decide) (by decide) (x_wd hK k_798 rfl) (fun _ h => h) fk_8_0 d_Mod_code_31 ?_
    refine lv_if_le (tgt := 39) hx hb d_Mod_code_34 (by decide) (fun c20 => ?_) (fun c20 => ?_)
    · replace h := h.1 c20
      refine lv_aload_n hx hb d_Mod_code_39 rfl (lv_at hl 0 rfl) ?_
      refine x_getR (t := 30) (i := 0) (j := 4) hx hb hK hw hown ok0_ rfl (by decide) (by decide) (x_wd hK k_802 rfl) (fun _ h => h) fk_8_4 (hY.r ok0_ rfl) d_Mod_code_40 ?_
      have ok21 := hY.ok 4 ok0_ (t' := 44) (i' := 0) rfl
      refine lv_iload_n hx hb d_Mod_code_43 rfl (lv_at hl 1 rfl) ?_
      refine x_iald (t := 44) (i := 0) hx hb hK hw ok21 rfl (hY.n ok21 rfl) h.1 d_Mod_code_44 ?_
      replace h := h.2
      refine lv_sipush (v := 160) hx hb d_Mod_code_45 (by decide) ?_
      refine lv_icmp_ne (tgt := 53) hx hb d_Mod_code_48 (by decide) (fun c22 => ?_) (fun c22 => ?_)
      · replace h := h.1 c22
        refine lv_aload_n hx hb d_Mod_code_53 rfl (lv_at hl 0 rfl) ?_
        refine x_getR (t := 30) (i := 0) (j := 3) hx hb hK hw hown ok0_ rfl (by decide) (by decide) (x_wd hK k_801 rfl) (fun _ h => h) fk_8_3 (hY.r ok0_ rfl) d_Mod_code_54 ?_
        have ok23 := hY.ok 3 ok0_ (t' := 43) (i' := 0) rfl
        refine lv_sipush (v := 160) hx hb d_Mod_code_57 (by decide) ?_
        refine lv_iload_n hx hb d_Mod_code_60 rfl (lv_at hl 1 rfl) ?_
        refine lv_imul hx hb d_Mod_code_61 ?_
        refine lv_aload_n hx hb d_Mod_code_62 rfl (lv_at hl 0 rfl) ?_
        refine x_getR (t := 30) (i := 0) (j := 4) hx hb hK hw hown ok0_ rfl (by decide) (by decide) (x_wd hK k_802 rfl) (fun _ h => h) fk_8_4 (hY.r ok0_ rfl) d_Mod_code_63 ?_
        refine lv_iload_n hx hb d_Mod_code_66 rfl (lv_at hl 1 rfl) ?_
        refine x_iald (t := 44) (i := 0) hx hb hK hw ok21 rfl (hY.n ok21 rfl) h.1 d_Mod_code_67 ?_
        replace h := h.2
        refine lv_iadd hx hb d_Mod_code_68 ?_
        refine lv_iload_n hx hb d_Mod_code_69 rfl (lv_at hl 2 rfl) ?_
        refine x_iast (t := 43) (i := 0) hx hb hK hw ok23 rfl (hY.n ok23 rfl) h.1 d_Mod_code_70 (fun I24 H locs e_I24 hw => ?_)
        replace h := h.2 I24 e_I24
        refine lv_aload_n hx hb d_Mod_code_71 rfl (lv_at hl 0 rfl) ?_
        refine x_getR (t := 30) (i := 0) (j := 4) hx hb hK hw hown ok0_ rfl (by decide) (by decide) (x_wd hK k_802 rfl) (fun _ h => h) fk_8_4 (hY.r ok0_ rfl) d_Mod_code_72 ?_
        refine lv_iload_n hx hb d_Mod_code_75 rfl (lv_at hl 1 rfl) ?_
        refine lv_dup2_11 hx hb d_Mod_code_76 rfl rfl ?_
        refine x_iald (t := 44) (i := 0) hx hb hK hw ok21 rfl (hY.n ok21 rfl) h.1 d_Mod_code_77 ?_
        replace h := h.2
        refine lv_iconst (v := 1) hx hb d_Mod_code_78 (by decide) ?_
        refine lv_iadd hx hb d_Mod_code_79 ?_
        refine x_iast (t := 44) (i := 0) hx hb hK hw ok21 rfl (hY.n ok21 rfl) h.1 d_Mod_code_80 (fun I25 H locs e_I25 hw => ?_)
        replace h := h.2 I25 e_I25
        refine lv_aload_n hx hb d_Mod_code_81 rfl (lv_at hl 0 rfl) ?_
        refine x_getR (t := 30) (i := 0) (j := 4) hx hb hK hw hown ok0_ rfl (by decide) (by decide) (x_wd hK k_802 rfl) (fun _ h => h) fk_8_4 (hY.r ok0_ rfl) d_Mod_code_82 ?_
        refine lv_iload_n hx hb d_Mod_code_85 rfl (lv_at hl 1 rfl) ?_
        refine x_iald (t := 44) (i := 0) hx hb hK hw ok21 rfl (hY.n ok21 rfl) h.1 d_Mod_code_86 ?_
        replace h := h.2
        exact x_iret hx hb hr hlk hw ⟨rfl, Or.inl ⟨_, rfl, ⟨rfl, rfl, rfl, h⟩⟩⟩ hbd d_Mod_code_87
      · replace h := h.2 c22
        refine lv_iconst (v := (-1)) hx hb d_Mod_code_51 (by decide) ?_
        exact x_iret hx hb hr hlk hw ⟨rfl, Or.inl ⟨_, rfl, ⟨rfl, rfl, rfl, h⟩⟩⟩ hbd d_Mod_code_52
    · replace h := h.2 c20
      refine lv_iconst (v := 0) hx hb d_Mod_code_37 (by decide) ?_
      exact x_iret hx hb hr hlk hw ⟨rfl, Or.inl ⟨_, rfl, ⟨rfl, rfl, rfl, h⟩⟩⟩ hbd d_Mod_code_38
def w_Mod_isGood (Q : Int32 → Prop) (p1 : Int32) (p2 : Int32) : Prop :=
  ∀ x1 : Int32, x1 = (p1 &&& (255 : Int32)) →
  ∀ x2 : Int32, x2 = (p1 >>> ((8 : Int32) &&& 31)) →
  (x1 = 3 →
    ((x2 < 0 →
      Q (0 : Int32)) ∧
    (¬ x2 < 0 →
      (((15 : Int32) < x2 →
        Q (0 : Int32)) ∧
      (¬ (15 : Int32) < x2 →
        Q (1 : Int32)))))) ∧
  (x1 = 4 →
    ((x2 < (1 : Int32) →
      Q (0 : Int32)) ∧
    (¬ x2 < (1 : Int32) →
      (((15 : Int32) < x2 →
        Q (0 : Int32)) ∧
      (¬ (15 : Int32) < x2 →
        Q (1 : Int32)))))) ∧
  (x1 = 16 →
    ((x2 < 0 →
      Q (0 : Int32)) ∧
    (¬ x2 < 0 →
      ((p2 < x2 →
        Q (0 : Int32)) ∧
      (¬ p2 < x2 →
        Q (1 : Int32)))))) ∧
  (x1 = 17 →
    ((x2 < 0 →
      Q (0 : Int32)) ∧
    (¬ x2 < 0 →
      ((p2 < x2 →
        Q (0 : Int32)) ∧
      (¬ p2 < x2 →
        Q (1 : Int32)))))) ∧
  (x1 = 27 →
    ((x2 < 0 →
      Q (0 : Int32)) ∧
    (¬ x2 < 0 →
      (((8 : Int32) < x2 →
        Q (0 : Int32)) ∧
      (¬ (8 : Int32) < x2 →
        Q (1 : Int32)))))) ∧
  (¬ x1 = 3 → ¬ x1 = 4 → ¬ x1 = 16 → ¬ x1 = 17 → ¬ x1 = 27 → 
    (((30 : Int32) ≤ x1 →
      Q (0 : Int32)) ∧
    (¬ (30 : Int32) ≤ x1 →
      Q (1 : Int32))))
set_option maxRecDepth 100000 in
set_option maxHeartbeats 4000000 in
theorem c_Mod_isGood {l : Launch} {g : x_G} {Y : x_Y} (hY : x_Y0 g Y) {p1 : Int32} {p2 : Int32} {Q : Int32 → Prop} {L : x_L} {I : x_I} {k n : Nat} (h : w_Mod_isGood Q p1 p2) : x_C l y_Mod_isGood 0 g [.int p1, .int p2] Y L I k n (x_pI Y (fun v L' I' k' n' => L' = L ∧ I' = I ∧ k' = k ∧ n' = n ∧ Q v) x_nx) := by
  refine x_mth k_929 ?_
  intro p e R s m below meth c hE hnm hexn hw hk1 hn1
  obtain ⟨hx, hb, hml, hr, hlk, hown, hK, htr, hF, hLo, hRc, hRs⟩ := id hE
  have hbd : x_bd k n k n := ⟨Nat.le_refl _, hk1, Nat.le_refl _, hn1⟩
  have hl := lv_entry ([.int p1, .int p2]) (n := 4) (Nat.le_of_ble_eq_true rfl)
  generalize (lg_sl [.int p1, .int p2] ++ List.replicate (4 - (lg_sl [.int p1, .int p2]).length) Slot.unset).toArray = ls at hl ⊢
  have hl : lv_has ls 4 [(0, .int p1), (1, .int p2)] := hl
  generalize s.heap = H at hw ⊢
  generalize ([] : List Loc) = locs at hw ⊢
  unfold w_Mod_isGood at h
  refine lv_iload_n hx hb d_Mod_isGood_0 rfl (lv_at hl 0 rfl) ?_
  refine lv_sipush (v := 255) hx hb d_Mod_isGood_1 (by decide) ?_
  refine lv_iand hx hb d_Mod_isGood_4 ?_
  refine lv_topi (fun x1 e_x1 => ?_)
  replace h := h x1 e_x1
  refine lv_istore_n (lv' := [(2, .int x1), (0, .int p1), (1, .int p2)]) hx hb d_Mod_isGood_5 rfl hl (by decide) rfl (fun ls hl => ?_)
  refine lv_iload_n hx hb d_Mod_isGood_6 rfl (lv_at hl 1 rfl) ?_
  refine lv_bipush (v := 8) hx hb d_Mod_isGood_7 (by decide) ?_
  refine lv_ishr hx hb d_Mod_isGood_9 ?_
  refine lv_topi (fun x2 e_x2 => ?_)
  replace h := h x2 e_x2
  refine lv_istore_n (lv' := [(3, .int x2), (2, .int x1), (0, .int p1), (1, .int p2)]) hx hb d_Mod_isGood_10 rfl hl (by decide) rfl (fun ls hl => ?_)
  refine lv_iload_n hx hb d_Mod_isGood_11 rfl (lv_at hl 1 rfl) ?_
  by_cases c3 : x1 = 3
  · replace h := h.1 c3
    refine lv_lookup (off := 52) (tgt := 64) hx hb d_Mod_isGood_12 (by decide) (by rw [c3]; rfl) (by decide) ?_
    refine lv_iload_n hx hb d_Mod_isGood_64 rfl (lv_at hl 0 rfl) ?_
    refine lv_if_lt (tgt := 78) hx hb d_Mod_isGood_65 (by decide) (fun c4 => ?_) (fun c4 => ?_)
    · replace h := h.1 c4
      refine lv_iconst (v := 0) hx hb d_Mod_isGood_78 (by decide) ?_
      exact x_zret hx hb hr hlk hw (Or.inl rfl) ⟨rfl, Or.inl ⟨_, rfl, ⟨rfl, rfl, rfl, rfl, h⟩⟩⟩ hbd d_Mod_isGood_79
    · replace h := h.2 c4
      refine lv_iload_n hx hb d_Mod_isGood_68 rfl (lv_at hl 0 rfl) ?_
      refine lv_bipush (v := 15) hx hb d_Mod_isGood_69 (by decide) ?_
      refine lv_icmp_gt (tgt := 78) hx hb d_Mod_isGood_71 (by decide) (fun c5 => ?_) (fun c5 => ?_)
      · replace h := h.1 c5
        refine lv_iconst (v := 0) hx hb d_Mod_isGood_78 (by decide) ?_
        exact x_zret hx hb hr hlk hw (Or.inl rfl) ⟨rfl, Or.inl ⟨_, rfl, ⟨rfl, rfl, rfl, rfl, h⟩⟩⟩ hbd d_Mod_isGood_79
      · replace h := h.2 c5
        refine lv_iconst (v := 1) hx hb d_Mod_isGood_74 (by decide) ?_
        refine lv_goto (tgt := 79) hx hb d_Mod_isGood_75 (by decide) ?_
        exact x_zret hx hb hr hlk hw (Or.inr rfl) ⟨rfl, Or.inl ⟨_, rfl, ⟨rfl, rfl, rfl, rfl, h⟩⟩⟩ hbd d_Mod_isGood_79
  · replace h := h.2
    by_cases c6 : x1 = 4
    · replace h := h.1 c6
      refine lv_lookup (off := 68) (tgt := 80) hx hb d_Mod_isGood_12 (by decide) (by rw [c6]; rfl) (by decide) ?_
      refine lv_iload_n hx hb d_Mod_isGood_80 rfl (lv_at hl 0 rfl) ?_
      refine lv_iconst (v := 1) hx hb d_Mod_isGood_81 (by decide) ?_
      refine lv_icmp_lt (tgt := 95) hx hb d_Mod_isGood_82 (by decide) (fun c7 => ?_) (fun c7 => ?_)
      · replace h := h.1 c7
        refine lv_iconst (v := 0) hx hb d_Mod_isGood_95 (by decide) ?_
        exact x_zret hx hb hr hlk hw (Or.inl rfl) ⟨rfl, Or.inl ⟨_, rfl, ⟨rfl, rfl, rfl, rfl, h⟩⟩⟩ hbd d_Mod_isGood_96
      · replace h := h.2 c7
        refine lv_iload_n hx hb d_Mod_isGood_85 rfl (lv_at hl 0 rfl) ?_
        refine lv_bipush (v := 15) hx hb d_Mod_isGood_86 (by decide) ?_
        refine lv_icmp_gt (tgt := 95) hx hb d_Mod_isGood_88 (by decide) (fun c8 => ?_) (fun c8 => ?_)
        · replace h := h.1 c8
          refine lv_iconst (v := 0) hx hb d_Mod_isGood_95 (by decide) ?_
          exact x_zret hx hb hr hlk hw (Or.inl rfl) ⟨rfl, Or.inl ⟨_, rfl, ⟨rfl, rfl, rfl, rfl, h⟩⟩⟩ hbd d_Mod_isGood_96
        · replace h := h.2 c8
          refine lv_iconst (v := 1) hx hb d_Mod_isGood_91 (by decide) ?_
          refine lv_goto (tgt := 96) hx hb d_Mod_isGood_92 (by decide) ?_
          exact x_zret hx hb hr hlk hw (Or.inr rfl) ⟨rfl, Or.inl ⟨_, rfl, ⟨rfl, rfl, rfl, rfl, h⟩⟩⟩ hbd d_Mod_isGood_96
    · replace h := h.2
      by_cases c9 : x1 = 16
      · replace h := h.1 c9
        refine lv_lookup (off := 85) (tgt := 97) hx hb d_Mod_isGood_12 (by decide) (by rw [c9]; rfl) (by decide) ?_
        refine lv_iload_n hx hb d_Mod_isGood_97 rfl (lv_at hl 0 rfl) ?_
        refine lv_if_lt (tgt := 110) hx hb d_Mod_isGood_98 (by decide) (fun c10 => ?_) (fun c10 => ?_)
        · replace h := h.1 c10
          refine lv_iconst (v := 0) hx hb d_Mod_isGood_110 (by decide) ?_
          exact x_zret hx hb hr hlk hw (Or.inl rfl) ⟨rfl, Or.inl ⟨_, rfl, ⟨rfl, rfl, rfl, rfl, h⟩⟩⟩ hbd d_Mod_isGood_111
        · replace h := h.2 c10
          refine lv_iload_n hx hb d_Mod_isGood_101 rfl (lv_at hl 0 rfl) ?_
          refine lv_iload_n hx hb d_Mod_isGood_102 rfl (lv_at hl 3 rfl) ?_
          refine lv_icmp_gt (tgt := 110) hx hb d_Mod_isGood_103 (by decide) (fun c11 => ?_) (fun c11 => ?_)
          · replace h := h.1 c11
            refine lv_iconst (v := 0) hx hb d_Mod_isGood_110 (by decide) ?_
            exact x_zret hx hb hr hlk hw (Or.inl rfl) ⟨rfl, Or.inl ⟨_, rfl, ⟨rfl, rfl, rfl, rfl, h⟩⟩⟩ hbd d_Mod_isGood_111
          · replace h := h.2 c11
            refine lv_iconst (v := 1) hx hb d_Mod_isGood_106 (by decide) ?_
            refine lv_goto (tgt := 111) hx hb d_Mod_isGood_107 (by decide) ?_
            exact x_zret hx hb hr hlk hw (Or.inr rfl) ⟨rfl, Or.inl ⟨_, rfl, ⟨rfl, rfl, rfl, rfl, h⟩⟩⟩ hbd d_Mod_isGood_111
      · replace h := h.2
        by_cases c12 : x1 = 17
        · replace h := h.1 c12
          refine lv_lookup (off := 85) (tgt := 97) hx hb d_Mod_isGood_12 (by decide) (by rw [c12]; rfl) (by decide) ?_
          refine lv_iload_n hx hb d_Mod_isGood_97 rfl (lv_at hl 0 rfl) ?_
          refine lv_if_lt (tgt := 110) hx hb d_Mod_isGood_98 (by decide) (fun c13 => ?_) (fun c13 => ?_)
          · replace h := h.1 c13
            refine lv_iconst (v := 0) hx hb d_Mod_isGood_110 (by decide) ?_
            exact x_zret hx hb hr hlk hw (Or.inl rfl) ⟨rfl, Or.inl ⟨_, rfl, ⟨rfl, rfl, rfl, rfl, h⟩⟩⟩ hbd d_Mod_isGood_111
          · replace h := h.2 c13
            refine lv_iload_n hx hb d_Mod_isGood_101 rfl (lv_at hl 0 rfl) ?_
            refine lv_iload_n hx hb d_Mod_isGood_102 rfl (lv_at hl 3 rfl) ?_
            refine lv_icmp_gt (tgt := 110) hx hb d_Mod_isGood_103 (by decide) (fun c14 => ?_) (fun c14 => ?_)
            · replace h := h.1 c14
              refine lv_iconst (v := 0) hx hb d_Mod_isGood_110 (by decide) ?_
              exact x_zret hx hb hr hlk hw (Or.inl rfl) ⟨rfl, Or.inl ⟨_, rfl, ⟨rfl, rfl, rfl, rfl, h⟩⟩⟩ hbd d_Mod_isGood_111
            · replace h := h.2 c14
              refine lv_iconst (v := 1) hx hb d_Mod_isGood_106 (by decide) ?_
              refine lv_goto (tgt := 111) hx hb d_Mod_isGood_107 (by decide) ?_
              exact x_zret hx hb hr hlk hw (Or.inr rfl) ⟨rfl, Or.inl ⟨_, rfl, ⟨rfl, rfl, rfl, rfl, h⟩⟩⟩ hbd d_Mod_isGood_111
        · replace h := h.2
          by_cases c15 : x1 = 27
          · replace h := h.1 c15
            refine lv_lookup (off := 100) (tgt := 112) hx hb d_Mod_isGood_12 (by decide) (by rw [c15]; rfl) (by decide) ?_
            refine lv_iload_n hx hb d_Mod_isGood_112 rfl (lv_at hl 0 rfl) ?_
            refine lv_if_lt (tgt := 126) hx hb d_Mod_isGood_113 (by decide) (fun c16 => ?_) (fun c16 => ?_)
            · replace h := h.1 c16
              refine lv_iconst (v := 0) hx hb d_Mod_isGood_126 (by decide) ?_
              exact x_zret hx hb hr hlk hw (Or.inl rfl) ⟨rfl, Or.inl ⟨_, rfl, ⟨rfl, rfl, rfl, rfl, h⟩⟩⟩ hbd d_Mod_isGood_127
            · replace h := h.2 c16
              refine lv_iload_n hx hb d_Mod_isGood_116 rfl (lv_at hl 0 rfl) ?_
              refine lv_bipush (v := 8) hx hb d_Mod_isGood_117 (by decide) ?_
              refine lv_icmp_gt (tgt := 126) hx hb d_Mod_isGood_119 (by decide) (fun c17 => ?_) (fun c17 => ?_)
              · replace h := h.1 c17
                refine lv_iconst (v := 0) hx hb d_Mod_isGood_126 (by decide) ?_
                exact x_zret hx hb hr hlk hw (Or.inl rfl) ⟨rfl, Or.inl ⟨_, rfl, ⟨rfl, rfl, rfl, rfl, h⟩⟩⟩ hbd d_Mod_isGood_127
              · replace h := h.2 c17
                refine lv_iconst (v := 1) hx hb d_Mod_isGood_122 (by decide) ?_
                refine lv_goto (tgt := 127) hx hb d_Mod_isGood_123 (by decide) ?_
                exact x_zret hx hb hr hlk hw (Or.inr rfl) ⟨rfl, Or.inl ⟨_, rfl, ⟨rfl, rfl, rfl, rfl, h⟩⟩⟩ hbd d_Mod_isGood_127
          · replace h := h.2
            replace h := h c3 c6 c9 c12 c15
            refine lv_lookup (off := 116) (tgt := 128) hx hb d_Mod_isGood_12 (by decide) (by rw [lv_osw c3 (by decide), lv_osw c6 (by decide), lv_osw c9 (by decide), lv_osw c12 (by decide), lv_osw c15 (by decide)]; rfl) (by decide) ?_
            refine lv_iload_n hx hb d_Mod_isGood_128 rfl (lv_at hl 1 rfl) ?_
            refine lv_bipush (v := 30) hx hb d_Mod_isGood_129 (by decide) ?_
            refine lv_icmp_ge (tgt := 138) hx hb d_Mod_isGood_131 (by decide) (fun c18 => ?_) (fun c18 => ?_)
            · replace h := h.1 c18
              refine lv_iconst (v := 0) hx hb d_Mod_isGood_138 (by decide) ?_
              exact x_zret hx hb hr hlk hw (Or.inl rfl) ⟨rfl, Or.inl ⟨_, rfl, ⟨rfl, rfl, rfl, rfl, h⟩⟩⟩ hbd d_Mod_isGood_139
            · replace h := h.2 c18
              refine lv_iconst (v := 1) hx hb d_Mod_isGood_134 (by decide) ?_
              refine lv_goto (tgt := 139) hx hb d_Mod_isGood_135 (by decide) ?_
              exact x_zret hx hb hr hlk hw (Or.inr rfl) ⟨rfl, Or.inl ⟨_, rfl, ⟨rfl, rfl, rfl, rfl, h⟩⟩⟩ hbd d_Mod_isGood_139
def w_Mod_seal_41 (Q : Int32 → x_I → Prop) : Nat → Int32 → Int32 → x_I → Prop
  | 0, _, _, _ => False
  | fu + 1, v1, v2, I =>
    vp_in v1 24 ∧
    (((I 44 0 v1.toNatClampNeg) ≤ v2 →
      vp_in v1 24 ∧
      ∀ I11 : x_I, I11 = x_u I 45 0 v1.toNatClampNeg (vp_nar .boolean (1 : Int32)) →
      Q (-1 : Int32) I11) ∧
    (¬ (I 44 0 v1.toNatClampNeg) ≤ v2 →
      vp_in ((((160 : Int32) * v1) + v2)) 3840 ∧
      vp_in v1 24 ∧
      w_Mod_isGood (fun r13 =>
        ((¬ r13 = 0 →
          ∀ x15 : Int32, x15 = v2 + (1 : Int32) →
          w_Mod_seal_41 Q fu v1 x15 I) ∧
        (r13 = 0 →
          vp_in v1 24 ∧
          ∀ I16 : x_I, I16 = x_u I 44 0 v1.toNatClampNeg (0 : Int32) →
          Q v2 I16))) ((I 43 0 ((((160 : Int32) * v1) + v2)).toNatClampNeg)) (I 44 0 v1.toNatClampNeg)))
def w_Mod_seal (Q : Int32 → x_I → Prop) (p1 : Int32) (I : x_I) : Prop :=
  w_Mod_noAccount (fun r1 =>
    ((r1 = 0 →
      vp_in p1 24 ∧
      (((I 45 0 p1.toNatClampNeg) = 0 →
        ∀ I5 : x_I, I5 = x_u I 30 0 0 (0 : Int32) →
        (((I5 30 0 0) ≤ 0 →
          ∀ x7 : Int32, x7 = (0 : Int32) →
          ∃ fu : Nat, w_Mod_seal_41 Q fu p1 x7 I5) ∧
        (¬ (I5 30 0 0) ≤ 0 →
          Q (0 : Int32) I5))) ∧
      (¬ (I 45 0 p1.toNatClampNeg) = 0 →
        ∀ I17 : x_I, I17 = x_u I 30 0 0 (2 : Int32) →
        (((I17 30 0 0) ≤ 0 →
          ∀ x19 : Int32, x19 = (0 : Int32) →
          ∃ fu : Nat, w_Mod_seal_41 Q fu p1 x19 I17) ∧
        (¬ (I17 30 0 0) ≤ 0 →
          Q (0 : Int32) I17))))) ∧
    (¬ r1 = 0 →
      ∀ I20 : x_I, I20 = x_u I 30 0 0 (1 : Int32) →
      (((I20 30 0 0) ≤ 0 →
        ∀ x22 : Int32, x22 = (0 : Int32) →
        ∃ fu : Nat, w_Mod_seal_41 Q fu p1 x22 I20) ∧
      (¬ (I20 30 0 0) ≤ 0 →
        Q (0 : Int32) I20))))) p1 I
set_option maxRecDepth 100000 in
set_option maxHeartbeats 4000000 in
theorem c_Mod_seal_41 {l : Launch} {g : x_G} {Y : x_Y} {p : Program} {e : Env} {R : Room} {s : State} {m : MethodId} {args : Array Value} {below : List Frame} {meth : Method} {c : Code} {k n : Nat} (hE : x_E l g p e R s m meth c "CallLedgerModel" prog_9_method_8_code 3 (some .int) 1 k n) (hexn : c.exceptionTable.toList = []) (hY : x_Y0 g Y) (ok0_ : x_ok Y 30 0) {Q : Int32 → x_I → Prop} {L : x_L} :
    ∀ (fu : Nat) (v1 : Int32) (v2 : Int32) (I : x_I) (H : Heap) (locs : List Loc) (ls : Array Slot), w_Mod_seal_41 Q fu v1 v2 I → x_WL g Y L I H locs → x_bd k n k n → lv_has ls 3 [(0, .ref (x_ad Y 30 0)), (1, .int v1), (2, .int v2)] → W p l e R s m args below meth c H locs (k - k) (n - n) (x_Q g below s k n (x_pI Y (fun v L' I' k' n' => L' = L ∧ k' = k ∧ n' = n ∧ Q v I') x_nx)) (F0 m 41 ls []) := by
  obtain ⟨hx, hb, hml, hr, hlk, hown, hK, htr, hF, hLo, hRc, hRs⟩ := id hE
  intro fu
  induction fu with
  | zero =>
    intro v1 v2 I H locs ls h
    exact h.elim
  | succ fu ih =>
    intro v1 v2 I H locs ls h hw hbd hl
    unfold w_Mod_seal_41 at h
    refine lv_iload_n hx hb d_Mod_seal_41 rfl (lv_at hl 2 rfl) ?_
    refine lv_aload_n hx hb d_Mod_seal_42 rfl (lv_at hl 0 rfl) ?_
    refine x_getR (t := 30) (i := 0) (j := 4) hx hb hK hw hown ok0_ rfl (by decide) (by decide) (x_wd hK k_802 rfl) (fun _ h => h) fk_8_4 (hY.r ok0_ rfl) d_Mod_seal_43 ?_
    have ok8 := hY.ok 4 ok0_ (t' := 44) (i' := 0) rfl
    refine lv_iload_n hx hb d_Mod_seal_46 rfl (lv_at hl 1 rfl) ?_
    refine x_iald (t := 44) (i := 0) hx hb hK hw ok8 rfl (hY.n ok8 rfl) h.1 d_Mod_seal_47 ?_
    replace h := h.2
    refine lv_icmp_ge (tgt := 90) hx hb d_Mod_seal_48 (by decide) (fun c9 => ?_) (fun c9 => ?_)
    · replace h := h.1 c9
      refine lv_aload_n hx hb d_Mod_seal_90 rfl (lv_at hl 0 rfl) ?_
      refine x_getR (t := 30) (i := 0) (j := 5) hx hb hK hw hown ok0_ rfl (by decide) (by decide) (x_wd hK k_803 rfl) (fun _ h => h) fk_8_5 (hY.r ok0_ rfl) d_Mod_seal_91 ?_
      have ok10 := hY.ok 5 ok0_ (t' := 45) (i' := 0) rfl
      refine lv_iload_n hx hb d_Mod_seal_94 rfl (lv_at hl 1 rfl) ?_
      refine lv_iconst (v := 1) hx hb d_Mod_seal_95 (by decide) ?_
      refine x_zast (t := 45) (i := 0) hx hb hK hw ok10 rfl (hY.n ok10 rfl) h.1 d_Mod_seal_96 (fun I11 H locs e_I11 hw => ?_)
      replace h := h.2 I11 e_I11
      refine lv_iconst (v := (-1)) hx hb d_Mod_seal_97 (by decide) ?_
      exact x_iret hx hb hr hlk hw ⟨rfl, Or.inl ⟨_, rfl, ⟨rfl, rfl, rfl, h⟩⟩⟩ hbd d_Mod_seal_98
    · replace h := h.2 c9
      refine lv_aload_n hx hb d_Mod_seal_51 rfl (lv_at hl 0 rfl) ?_
      refine x_getR (t := 30) (i := 0) (j := 3) hx hb hK hw hown ok0_ rfl (by decide) (by decide) (x_wd hK k_801 rfl) (fun _ h => h) fk_8_3 (hY.r ok0_ rfl) d_Mod_seal_52 ?_
      have ok12 := hY.ok 3 ok0_ (t' := 43) (i' := 0) rfl
      refine lv_sipush (v := 160) hx hb d_Mod_seal_55 (by decide) ?_
      refine lv_iload_n hx hb d_Mod_seal_58 rfl (lv_at hl 1 rfl) ?_
      refine lv_imul hx hb d_Mod_seal_59 ?_
      refine lv_iload_n hx hb d_Mod_seal_60 rfl (lv_at hl 2 rfl) ?_
      refine lv_iadd hx hb d_Mod_seal_61 ?_
      refine x_iald (t := 43) (i := 0) hx hb hK hw ok12 rfl (hY.n ok12 rfl) h.1 d_Mod_seal_62 ?_
      replace h := h.2
      refine lv_aload_n hx hb d_Mod_seal_63 rfl (lv_at hl 0 rfl) ?_
      refine x_getR (t := 30) (i := 0) (j := 4) hx hb hK hw hown ok0_ rfl (by decide) (by decide) (x_wd hK k_802 rfl) (fun _ h => h) fk_8_4 (hY.r ok0_ rfl) d_Mod_seal_64 ?_
      refine lv_iload_n hx hb d_Mod_seal_67 rfl (lv_at hl 1 rfl) ?_
      refine x_iald (t := 44) (i := 0) hx hb hK hw ok8 rfl (hY.n ok8 rfl) h.1 d_Mod_seal_68 ?_
      replace h := h.2
      refine x_goI (ls := ls) (rest := []) hE hw (c_Mod_isGood hY h) (x_cd hK k_929) q_Mod_isGood (by decide) (by decide) hl.1 (Nat.le_of_ble_eq_true rfl) hbd d_Mod_seal_69 (x_toS (As := [.int ((I 43 0 ((((160 : Int32) * v1) + v2)).toNatClampNeg)), .int (I 44 0 v1.toNatClampNeg)]) hx hb hown hK k_927 k_928 k_11 ⟨_, x_cd hK k_929⟩ q_Mod_isGood rfl rfl d_Mod_seal_69) (fun r13 L9 I9 k9 n9 H locs h hw hb9 => ?_) (fun _ _ _ _ _ _ _ h9 => h9.elim)
      obtain ⟨e1, e2, e3, e4, h⟩ := h
      rw [e1, e2] at hw
      rw [e3, e4]
      refine lv_if_ne (tgt := 84) hx hb d_Mod_seal_72 (by decide) (fun c14 => ?_) (fun c14 => ?_)
      · replace h := h.1 c14
        obtain ⟨x15, e_x15⟩ : ∃ z : Int32, z = v2 + (1 : Int32) := ⟨_, rfl⟩
        replace h := h x15 e_x15
        refine lv_iinc (v := x15) (lv' := [(2, .int x15), (0, .ref (x_ad Y 30 0)), (1, .int v1)]) hx hb d_Mod_seal_84 hl (k := 2) rfl (by rw [e_x15]; rfl) (by decide) rfl (fun ls hl => ?_)
        refine lv_goto (tgt := 41) hx hb d_Mod_seal_87 (by decide) ?_
        exact ih v1 x15 I H locs ls h hw hbd (lv_sub hl [1, 2, 0] rfl)
      · replace h := h.2 c14
        refine lv_aload_n hx hb d_Mod_seal_75 rfl (lv_at hl 0 rfl) ?_
        refine x_getR (t := 30) (i := 0) (j := 4) hx hb hK hw hown ok0_ rfl (by decide) (by decide) (x_wd hK k_802 rfl) (fun _ h => h) fk_8_4 (hY.r ok0_ rfl) d_Mod_seal_76 ?_
        refine lv_iload_n hx hb d_Mod_seal_79 rfl (lv_at hl 1 rfl) ?_
        refine lv_iconst (v := 0) hx hb d_Mod_seal_80 (by decide) ?_
        refine x_iast (t := 44) (i := 0) hx hb hK hw ok8 rfl (hY.n ok8 rfl) h.1 d_Mod_seal_81 (fun I16 H locs e_I16 hw => ?_)
        replace h := h.2 I16 e_I16
        refine lv_iload_n hx hb d_Mod_seal_82 rfl (lv_at hl 2 rfl) ?_
        exact x_iret hx hb hr hlk hw ⟨rfl, Or.inl ⟨_, rfl, ⟨rfl, rfl, rfl, h⟩⟩⟩ hbd d_Mod_seal_83
set_option maxRecDepth 100000 in
set_option maxHeartbeats 4000000 in
theorem c_Mod_seal {l : Launch} {g : x_G} {Y : x_Y} (hY : x_Y0 g Y) {p1 : Int32} (ok0_ : x_ok Y 30 0) {Q : Int32 → x_I → Prop} {L : x_L} {I : x_I} {k n : Nat} (h : w_Mod_seal Q p1 I) : x_C l y_Mod_seal 1 g [.ref (x_ad Y 30 0), .int p1] Y L I k n (x_pI Y (fun v L' I' k' n' => L' = L ∧ k' = k ∧ n' = n ∧ Q v I') x_nx) := by
  refine x_mth k_926 ?_
  intro p e R s m below meth c hE hnm hexn hw hk1 hn1
  obtain ⟨hx, hb, hml, hr, hlk, hown, hK, htr, hF, hLo, hRc, hRs⟩ := id hE
  have hbd : x_bd k n k n := ⟨Nat.le_refl _, hk1, Nat.le_refl _, hn1⟩
  have hl := lv_entry ([.ref (x_ad Y 30 0), .int p1]) (n := 3) (Nat.le_of_ble_eq_true rfl)
  generalize (lg_sl [.ref (x_ad Y 30 0), .int p1] ++ List.replicate (3 - (lg_sl [.ref (x_ad Y 30 0), .int p1]).length) Slot.unset).toArray = ls at hl ⊢
  have hl : lv_has ls 3 [(0, .ref (x_ad Y 30 0)), (1, .int p1)] := hl
  generalize s.heap = H at hw ⊢
  generalize ([] : List Loc) = locs at hw ⊢
  unfold w_Mod_seal at h
  refine lv_aload_n hx hb d_Mod_seal_0 rfl (lv_at hl 0 rfl) ?_
  refine lv_aload_n hx hb d_Mod_seal_1 rfl (lv_at hl 0 rfl) ?_
  refine lv_iload_n hx hb d_Mod_seal_2 rfl (lv_at hl 1 rfl) ?_
  refine x_goI (ls := ls) (rest := [.ref (x_ad Y 30 0)]) hE hw (c_Mod_noAccount hY ok0_ h) (x_cd hK k_922) q_Mod_noAccount (by decide) (by decide) hl.1 (Nat.le_of_ble_eq_true rfl) hbd d_Mod_seal_3 (x_toV (As := [.int p1]) (b := (x_ad Y 30 0)) hx hb hown hK (x_recv hK hw ok0_ rfl (by decide)) k_919 k_921 ks_21 ⟨_, x_cd hK k_922⟩ q_Mod_noAccount rfl rfl d_Mod_seal_3) (fun r1 L9 I9 k9 n9 H locs h hw hb9 => ?_) (fun _ _ _ _ _ _ _ h9 => h9.elim)
  obtain ⟨e1, e2, e3, e4, h⟩ := h
  rw [e1, e2] at hw
  rw [e3, e4]
  refine lv_if_eq (tgt := 13) hx hb d_Mod_seal_6 (by decide) (fun c2 => ?_) (fun c2 => ?_)
  · replace h := h.1 c2
    refine lv_aload_n hx hb d_Mod_seal_13 rfl (lv_at hl 0 rfl) ?_
    refine x_getR (t := 30) (i := 0) (j := 5) hx hb hK hw hown ok0_ rfl (by decide) (by decide) (x_wd hK k_803 rfl) (fun _ h => h) fk_8_5 (hY.r ok0_ rfl) d_Mod_seal_14 ?_
    have ok3 := hY.ok 5 ok0_ (t' := 45) (i' := 0) rfl
    refine lv_iload_n hx hb d_Mod_seal_17 rfl (lv_at hl 1 rfl) ?_
    refine x_zald (t := 45) (i := 0) hx hb hK hw ok3 rfl (hY.n ok3 rfl) h.1 d_Mod_seal_18 ?_
    replace h := h.2
    refine lv_if_eq (tgt := 26) hx hb d_Mod_seal_19 (by decide) (fun c4 => ?_) (fun c4 => ?_)
    · replace h := h.1 c4
      refine lv_iconst (v := 0) hx hb d_Mod_seal_26 (by decide) ?_
      refine x_putI (t := 30) (i := 0) (j := 0) hx hb hK hw hown ok0_ rfl (by decide) (by decide) (x_wd hK k_798 rfl) (fun _ h => h) rfl rfl d_Mod_seal_27 (fun I5 H locs e_I5 hw => ?_)
      replace h := h I5 e_I5
      refine lv_aload_n hx hb d_Mod_seal_30 rfl (lv_at hl 0 rfl) ?_
      refine x_getI (t := 30) (i := 0) (j := 0) hx hb hK hw hown ok0_ rfl (by decide) (by decide) (x_wd hK k_798 rfl) (fun _ h => h) fk_8_0 d_Mod_seal_31 ?_
      refine lv_if_le (tgt := 39) hx hb d_Mod_seal_34 (by decide) (fun c6 => ?_) (fun c6 => ?_)
      · replace h := h.1 c6
        refine lv_iconst (v := 0) hx hb d_Mod_seal_39 (by decide) ?_
        refine lv_topi (fun x7 e_x7 => ?_)
        replace h := h x7 e_x7
        refine lv_istore_n (lv' := [(2, .int x7), (0, .ref (x_ad Y 30 0)), (1, .int p1)]) hx hb d_Mod_seal_40 rfl hl (by decide) rfl (fun ls hl => ?_)
        obtain ⟨fu, h⟩ := h
        exact c_Mod_seal_41 hE hexn hY ok0_ fu p1 x7 I5 H locs ls h hw hbd (lv_sub hl [1, 2, 0] rfl)
      · replace h := h.2 c6
        refine lv_iconst (v := 0) hx hb d_Mod_seal_37 (by decide) ?_
        exact x_iret hx hb hr hlk hw ⟨rfl, Or.inl ⟨_, rfl, ⟨rfl, rfl, rfl, h⟩⟩⟩ hbd d_Mod_seal_38
    · replace h := h.2 c4
      refine lv_iconst (v := 2) hx hb d_Mod_seal_22 (by decide) ?_
      refine lv_goto (tgt := 27) hx hb d_Mod_seal_23 (by decide) ?_
      refine x_putI (t := 30) (i := 0) (j := 0) hx hb hK hw hown ok0_ rfl (by decide) (by decide) (x_wd hK k_798 rfl) (fun _ h => h) rfl rfl d_Mod_seal_27 (fun I17 H locs e_I17 hw => ?_)
      replace h := h I17 e_I17
      refine lv_aload_n hx hb d_Mod_seal_30 rfl (lv_at hl 0 rfl) ?_
      refine x_getI (t := 30) (i := 0) (j := 0) hx hb hK hw hown ok0_ rfl (by decide) (by decide) (x_wd hK k_798 rfl) (fun _ h => h) fk_8_0 d_Mod_seal_31 ?_
      refine lv_if_le (tgt := 39) hx hb d_Mod_seal_34 (by decide) (fun c18 => ?_) (fun c18 => ?_)
      · replace h := h.1 c18
        refine lv_iconst (v := 0) hx hb d_Mod_seal_39 (by decide) ?_
        refine lv_topi (fun x19 e_x19 => ?_)
        replace h := h x19 e_x19
        refine lv_istore_n (lv' := [(2, .int x19), (0, .ref (x_ad Y 30 0)), (1, .int p1)]) hx hb d_Mod_seal_40 rfl hl (by decide) rfl (fun ls hl => ?_)
        obtain ⟨fu, h⟩ := h
        exact c_Mod_seal_41 hE hexn hY ok0_ fu p1 x19 I17 H locs ls h hw hbd (lv_sub hl [1, 2, 0] rfl)
      · replace h := h.2 c18
        refine lv_iconst (v := 0) hx hb d_Mod_seal_37 (by decide) ?_
        exact x_iret hx hb hr hlk hw ⟨rfl, Or.inl ⟨_, rfl, ⟨rfl, rfl, rfl, h⟩⟩⟩ hbd d_Mod_seal_38
  · replace h := h.2 c2
    refine lv_iconst (v := 1) hx hb d_Mod_seal_9 (by decide) ?_
    refine lv_goto (tgt := 27) hx hb d_Mod_seal_10 (by decide) ?_
    refine x_putI (t := 30) (i := 0) (j := 0) hx hb hK hw hown ok0_ rfl (by decide) (by decide) (x_wd hK k_798 rfl) (fun _ h => h) rfl rfl d_Mod_seal_27 (fun I20 H locs e_I20 hw => ?_)
    replace h := h I20 e_I20
    refine lv_aload_n hx hb d_Mod_seal_30 rfl (lv_at hl 0 rfl) ?_
    refine x_getI (t := 30) (i := 0) (j := 0) hx hb hK hw hown ok0_ rfl (by decide) (by decide) (x_wd hK k_798 rfl) (fun _ h => h) fk_8_0 d_Mod_seal_31 ?_
    refine lv_if_le (tgt := 39) hx hb d_Mod_seal_34 (by decide) (fun c21 => ?_) (fun c21 => ?_)
    · replace h := h.1 c21
      refine lv_iconst (v := 0) hx hb d_Mod_seal_39 (by decide) ?_
      refine lv_topi (fun x22 e_x22 => ?_)
      replace h := h x22 e_x22
      refine lv_istore_n (lv' := [(2, .int x22), (0, .ref (x_ad Y 30 0)), (1, .int p1)]) hx hb d_Mod_seal_40 rfl hl (by decide) rfl (fun ls hl => ?_)
      obtain ⟨fu, h⟩ := h
      exact c_Mod_seal_41 hE hexn hY ok0_ fu p1 x22 I20 H locs ls h hw hbd (lv_sub hl [1, 2, 0] rfl)
    · replace h := h.2 c21
      refine lv_iconst (v := 0) hx hb d_Mod_seal_37 (by decide) ?_
      exact x_iret hx hb hr hlk hw ⟨rfl, Or.inl ⟨_, rfl, ⟨rfl, rfl, rfl, h⟩⟩⟩ hbd d_Mod_seal_38
def w_Mod_argument (Q : Int32 → x_I → Prop) (p1 : Int32) (I : x_I) : Prop :=
  ∀ I1 : x_I, I1 = x_u I 30 0 0 (0 : Int32) →
  ((¬ (I1 30 0 29) = (8 : Int32) →
    vp_in (I1 30 0 29) 8 ∧
    ∀ I4 : x_I, I4 = x_u I1 68 0 (I1 30 0 29).toNatClampNeg p1 →
    ∀ I5 : x_I, I5 = x_u I4 30 0 29 ((I4 30 0 29) + (1 : Int32)) →
    Q (I5 30 0 29) I5) ∧
  ((I1 30 0 29) = (8 : Int32) →
    Q (-1 : Int32) I1))
set_option maxRecDepth 100000 in
set_option maxHeartbeats 4000000 in
theorem c_Mod_argument {l : Launch} {g : x_G} {Y : x_Y} (hY : x_Y0 g Y) {p1 : Int32} (ok0_ : x_ok Y 30 0) {Q : Int32 → x_I → Prop} {L : x_L} {I : x_I} {k n : Nat} (h : w_Mod_argument Q p1 I) : x_C l y_Mod_argument 0 g [.ref (x_ad Y 30 0), .int p1] Y L I k n (x_pI Y (fun v L' I' k' n' => L' = L ∧ k' = k ∧ n' = n ∧ Q v I') x_nx) := by
  refine x_mth k_933 ?_
  intro p e R s m below meth c hE hnm hexn hw hk1 hn1
  obtain ⟨hx, hb, hml, hr, hlk, hown, hK, htr, hF, hLo, hRc, hRs⟩ := id hE
  have hbd : x_bd k n k n := ⟨Nat.le_refl _, hk1, Nat.le_refl _, hn1⟩
  have hl := lv_entry ([.ref (x_ad Y 30 0), .int p1]) (n := 2) (Nat.le_of_ble_eq_true rfl)
  generalize (lg_sl [.ref (x_ad Y 30 0), .int p1] ++ List.replicate (2 - (lg_sl [.ref (x_ad Y 30 0), .int p1]).length) Slot.unset).toArray = ls at hl ⊢
  have hl : lv_has ls 2 [(0, .ref (x_ad Y 30 0)), (1, .int p1)] := hl
  generalize s.heap = H at hw ⊢
  generalize ([] : List Loc) = locs at hw ⊢
  unfold w_Mod_argument at h
  refine lv_aload_n hx hb d_Mod_argument_0 rfl (lv_at hl 0 rfl) ?_
  refine lv_iconst (v := 0) hx hb d_Mod_argument_1 (by decide) ?_
  refine x_putI (t := 30) (i := 0) (j := 0) hx hb hK hw hown ok0_ rfl (by decide) (by decide) (x_wd hK k_798 rfl) (fun _ h => h) rfl rfl d_Mod_argument_2 (fun I1 H locs e_I1 hw => ?_)
  replace h := h I1 e_I1
  refine lv_aload_n hx hb d_Mod_argument_5 rfl (lv_at hl 0 rfl) ?_
  refine x_getI (t := 30) (i := 0) (j := 29) hx hb hK hw hown ok0_ rfl (by decide) (by decide) (x_wd hK k_827 rfl) (fun _ h => h) fk_8_29 d_Mod_argument_6 ?_
  refine lv_bipush (v := 8) hx hb d_Mod_argument_9 (by decide) ?_
  refine lv_icmp_ne (tgt := 16) hx hb d_Mod_argument_11 (by decide) (fun c2 => ?_) (fun c2 => ?_)
  · replace h := h.1 c2
    refine lv_aload_n hx hb d_Mod_argument_16 rfl (lv_at hl 0 rfl) ?_
    refine x_getR (t := 30) (i := 0) (j := 28) hx hb hK hw hown ok0_ rfl (by decide) (by decide) (x_wd hK k_826 rfl) (fun _ h => h) fk_8_28 (hY.r ok0_ rfl) d_Mod_argument_17 ?_
    have ok3 := hY.ok 28 ok0_ (t' := 68) (i' := 0) rfl
    refine lv_aload_n hx hb d_Mod_argument_20 rfl (lv_at hl 0 rfl) ?_
    refine x_getI (t := 30) (i := 0) (j := 29) hx hb hK hw hown ok0_ rfl (by decide) (by decide) (x_wd hK k_827 rfl) (fun _ h => h) fk_8_29 d_Mod_argument_21 ?_
    refine lv_iload_n hx hb d_Mod_argument_24 rfl (lv_at hl 1 rfl) ?_
    refine x_iast (t := 68) (i := 0) hx hb hK hw ok3 rfl (hY.n ok3 rfl) h.1 d_Mod_argument_25 (fun I4 H locs e_I4 hw => ?_)
    replace h := h.2 I4 e_I4
    refine lv_aload_n hx hb d_Mod_argument_26 rfl (lv_at hl 0 rfl) ?_
    refine lv_dup hx hb d_Mod_argument_27 rfl ?_
    refine x_getI (t := 30) (i := 0) (j := 29) hx hb hK hw hown ok0_ rfl (by decide) (by decide) (x_wd hK k_827 rfl) (fun _ h => h) fk_8_29 d_Mod_argument_28 ?_
    refine lv_iconst (v := 1) hx hb d_Mod_argument_31 (by decide) ?_
    refine lv_iadd hx hb d_Mod_argument_32 ?_
    refine x_putI (t := 30) (i := 0) (j := 29) hx hb hK hw hown ok0_ rfl (by decide) (by decide) (x_wd hK k_827 rfl) (fun _ h => h) rfl rfl d_Mod_argument_33 (fun I5 H locs e_I5 hw => ?_)
    replace h := h I5 e_I5
    refine lv_aload_n hx hb d_Mod_argument_36 rfl (lv_at hl 0 rfl) ?_
    refine x_getI (t := 30) (i := 0) (j := 29) hx hb hK hw hown ok0_ rfl (by decide) (by decide) (x_wd hK k_827 rfl) (fun _ h => h) fk_8_29 d_Mod_argument_37 ?_
    exact x_iret hx hb hr hlk hw ⟨rfl, Or.inl ⟨_, rfl, ⟨rfl, rfl, rfl, h⟩⟩⟩ hbd d_Mod_argument_40
  · replace h := h.2 c2
    refine lv_iconst (v := (-1)) hx hb d_Mod_argument_14 (by decide) ?_
    exact x_iret hx hb hr hlk hw ⟨rfl, Or.inl ⟨_, rfl, ⟨rfl, rfl, rfl, h⟩⟩⟩ hbd d_Mod_argument_15
def w_Mod_balance (Q : Int32 → x_I → Prop) (p1 : Int32) (I : x_I) : Prop :=
  w_Mod_noAccount (fun r1 =>
    ((r1 = 0 →
      ∀ I3 : x_I, I3 = x_u I 30 0 0 (0 : Int32) →
      (((I3 30 0 0) ≤ 0 →
        vp_in p1 24 ∧
        Q (I3 42 0 p1.toNatClampNeg) I3) ∧
      (¬ (I3 30 0 0) ≤ 0 →
        Q (0 : Int32) I3))) ∧
    (¬ r1 = 0 →
      ∀ I6 : x_I, I6 = x_u I 30 0 0 (1 : Int32) →
      (((I6 30 0 0) ≤ 0 →
        vp_in p1 24 ∧
        Q (I6 42 0 p1.toNatClampNeg) I6) ∧
      (¬ (I6 30 0 0) ≤ 0 →
        Q (0 : Int32) I6))))) p1 I
set_option maxRecDepth 100000 in
set_option maxHeartbeats 4000000 in
theorem c_Mod_balance {l : Launch} {g : x_G} {Y : x_Y} (hY : x_Y0 g Y) {p1 : Int32} (ok0_ : x_ok Y 30 0) {Q : Int32 → x_I → Prop} {L : x_L} {I : x_I} {k n : Nat} (h : w_Mod_balance Q p1 I) : x_C l y_Mod_balance 1 g [.ref (x_ad Y 30 0), .int p1] Y L I k n (x_pI Y (fun v L' I' k' n' => L' = L ∧ k' = k ∧ n' = n ∧ Q v I') x_nx) := by
  refine x_mth k_937 ?_
  intro p e R s m below meth c hE hnm hexn hw hk1 hn1
  obtain ⟨hx, hb, hml, hr, hlk, hown, hK, htr, hF, hLo, hRc, hRs⟩ := id hE
  have hbd : x_bd k n k n := ⟨Nat.le_refl _, hk1, Nat.le_refl _, hn1⟩
  have hl := lv_entry ([.ref (x_ad Y 30 0), .int p1]) (n := 2) (Nat.le_of_ble_eq_true rfl)
  generalize (lg_sl [.ref (x_ad Y 30 0), .int p1] ++ List.replicate (2 - (lg_sl [.ref (x_ad Y 30 0), .int p1]).length) Slot.unset).toArray = ls at hl ⊢
  have hl : lv_has ls 2 [(0, .ref (x_ad Y 30 0)), (1, .int p1)] := hl
  generalize s.heap = H at hw ⊢
  generalize ([] : List Loc) = locs at hw ⊢
  unfold w_Mod_balance at h
  refine lv_aload_n hx hb d_Mod_balance_0 rfl (lv_at hl 0 rfl) ?_
  refine lv_aload_n hx hb d_Mod_balance_1 rfl (lv_at hl 0 rfl) ?_
  refine lv_iload_n hx hb d_Mod_balance_2 rfl (lv_at hl 1 rfl) ?_
  refine x_goI (ls := ls) (rest := [.ref (x_ad Y 30 0)]) hE hw (c_Mod_noAccount hY ok0_ h) (x_cd hK k_922) q_Mod_noAccount (by decide) (by decide) hl.1 (Nat.le_of_ble_eq_true rfl) hbd d_Mod_balance_3 (x_toV (As := [.int p1]) (b := (x_ad Y 30 0)) hx hb hown hK (x_recv hK hw ok0_ rfl (by decide)) k_919 k_921 ks_21 ⟨_, x_cd hK k_922⟩ q_Mod_noAccount rfl rfl d_Mod_balance_3) (fun r1 L9 I9 k9 n9 H locs h hw hb9 => ?_) (fun _ _ _ _ _ _ _ h9 => h9.elim)
  obtain ⟨e1, e2, e3, e4, h⟩ := h
  rw [e1, e2] at hw
  rw [e3, e4]
  refine lv_if_eq (tgt := 13) hx hb d_Mod_balance_6 (by decide) (fun c2 => ?_) (fun c2 => ?_)
  · replace h := h.1 c2
    refine lv_iconst (v := 0) hx hb d_Mod_balance_13 (by decide) ?_
    refine x_putI (t := 30) (i := 0) (j := 0) hx hb hK hw hown ok0_ rfl (by decide) (by decide) (x_wd hK k_798 rfl) (fun _ h => h) rfl rfl d_Mod_balance_14 (fun I3 H locs e_I3 hw => ?_)
    replace h := h I3 e_I3
    refine lv_aload_n hx hb d_Mod_balance_17 rfl (lv_at hl 0 rfl) ?_
    refine x_getI (t := 30) (i := 0) (j := 0) hx hb hK hw hown ok0_ rfl (by decide) (by decide) (x_wd hK k_798 rfl) (fun _ h => h) fk_8_0 d_Mod_balance_18 ?_
    refine lv_if_le (tgt := 28) hx hb d_Mod_balance_21 (by decide) (fun c4 => ?_) (fun c4 => ?_)
    · replace h := h.1 c4
      refine lv_aload_n hx hb d_Mod_balance_28 rfl (lv_at hl 0 rfl) ?_
      refine x_getR (t := 30) (i := 0) (j := 2) hx hb hK hw hown ok0_ rfl (by decide) (by decide) (x_wd hK k_800 rfl) (fun _ h => h) fk_8_2 (hY.r ok0_ rfl) d_Mod_balance_29 ?_
      have ok5 := hY.ok 2 ok0_ (t' := 42) (i' := 0) rfl
      refine lv_iload_n hx hb d_Mod_balance_32 rfl (lv_at hl 1 rfl) ?_
      refine x_iald (t := 42) (i := 0) hx hb hK hw ok5 rfl (hY.n ok5 rfl) h.1 d_Mod_balance_33 ?_
      replace h := h.2
      exact x_iret hx hb hr hlk hw ⟨rfl, Or.inl ⟨_, rfl, ⟨rfl, rfl, rfl, h⟩⟩⟩ hbd d_Mod_balance_34
    · replace h := h.2 c4
      refine lv_iconst (v := 0) hx hb d_Mod_balance_24 (by decide) ?_
      refine lv_goto (tgt := 34) hx hb d_Mod_balance_25 (by decide) ?_
      exact x_iret hx hb hr hlk hw ⟨rfl, Or.inl ⟨_, rfl, ⟨rfl, rfl, rfl, h⟩⟩⟩ hbd d_Mod_balance_34
  · replace h := h.2 c2
    refine lv_iconst (v := 1) hx hb d_Mod_balance_9 (by decide) ?_
    refine lv_goto (tgt := 14) hx hb d_Mod_balance_10 (by decide) ?_
    refine x_putI (t := 30) (i := 0) (j := 0) hx hb hK hw hown ok0_ rfl (by decide) (by decide) (x_wd hK k_798 rfl) (fun _ h => h) rfl rfl d_Mod_balance_14 (fun I6 H locs e_I6 hw => ?_)
    replace h := h I6 e_I6
    refine lv_aload_n hx hb d_Mod_balance_17 rfl (lv_at hl 0 rfl) ?_
    refine x_getI (t := 30) (i := 0) (j := 0) hx hb hK hw hown ok0_ rfl (by decide) (by decide) (x_wd hK k_798 rfl) (fun _ h => h) fk_8_0 d_Mod_balance_18 ?_
    refine lv_if_le (tgt := 28) hx hb d_Mod_balance_21 (by decide) (fun c7 => ?_) (fun c7 => ?_)
    · replace h := h.1 c7
      refine lv_aload_n hx hb d_Mod_balance_28 rfl (lv_at hl 0 rfl) ?_
      refine x_getR (t := 30) (i := 0) (j := 2) hx hb hK hw hown ok0_ rfl (by decide) (by decide) (x_wd hK k_800 rfl) (fun _ h => h) fk_8_2 (hY.r ok0_ rfl) d_Mod_balance_29 ?_
      have ok8 := hY.ok 2 ok0_ (t' := 42) (i' := 0) rfl
      refine lv_iload_n hx hb d_Mod_balance_32 rfl (lv_at hl 1 rfl) ?_
      refine x_iald (t := 42) (i := 0) hx hb hK hw ok8 rfl (hY.n ok8 rfl) h.1 d_Mod_balance_33 ?_
      replace h := h.2
      exact x_iret hx hb hr hlk hw ⟨rfl, Or.inl ⟨_, rfl, ⟨rfl, rfl, rfl, h⟩⟩⟩ hbd d_Mod_balance_34
    · replace h := h.2 c7
      refine lv_iconst (v := 0) hx hb d_Mod_balance_24 (by decide) ?_
      refine lv_goto (tgt := 34) hx hb d_Mod_balance_25 (by decide) ?_
      exact x_iret hx hb hr hlk hw ⟨rfl, Or.inl ⟨_, rfl, ⟨rfl, rfl, rfl, h⟩⟩⟩ hbd d_Mod_balance_34
def w_Mod_keyOf_2 (Q : Int32 → Prop) : Nat → Int32 → Int32 → Int32 → x_I → Prop
  | 0, _, _, _, _ => False
  | fu + 1, v1, v2, v3, I =>
    (((I 30 0 9) ≤ v3 →
      Q (-1 : Int32)) ∧
    (¬ (I 30 0 9) ≤ v3 →
      vp_in v3 500 ∧
      ((¬ (I 46 0 v3.toNatClampNeg) = v1 →
        ∀ x5 : Int32, x5 = v3 + (1 : Int32) →
        w_Mod_keyOf_2 Q fu v1 v2 x5 I) ∧
      ((I 46 0 v3.toNatClampNeg) = v1 →
        vp_in v3 500 ∧
        ((¬ (I 47 0 v3.toNatClampNeg) = v2 →
          ∀ x8 : Int32, x8 = v3 + (1 : Int32) →
          w_Mod_keyOf_2 Q fu v1 v2 x8 I) ∧
        ((I 47 0 v3.toNatClampNeg) = v2 →
          Q v3))))))
def w_Mod_keyOf (Q : Int32 → Prop) (p1 : Int32) (p2 : Int32) (I : x_I) : Prop :=
  ∀ x1 : Int32, x1 = (0 : Int32) →
  ∃ fu : Nat, w_Mod_keyOf_2 Q fu p1 p2 x1 I
set_option maxRecDepth 100000 in
set_option maxHeartbeats 4000000 in
theorem c_Mod_keyOf_2 {l : Launch} {g : x_G} {Y : x_Y} {p : Program} {e : Env} {R : Room} {s : State} {m : MethodId} {args : Array Value} {below : List Frame} {meth : Method} {c : Code} {k n : Nat} (hE : x_E l g p e R s m meth c "CallLedgerModel" prog_9_method_11_code 4 (some .int) 0 k n) (hexn : c.exceptionTable.toList = []) (hY : x_Y0 g Y) (ok0_ : x_ok Y 30 0) {Q : Int32 → Prop} {L : x_L} {I : x_I} :
    ∀ (fu : Nat) (v1 : Int32) (v2 : Int32) (v3 : Int32) (H : Heap) (locs : List Loc) (ls : Array Slot), w_Mod_keyOf_2 Q fu v1 v2 v3 I → x_WL g Y L I H locs → x_bd k n k n → lv_has ls 4 [(0, .ref (x_ad Y 30 0)), (1, .int v1), (2, .int v2), (3, .int v3)] → W p l e R s m args below meth c H locs (k - k) (n - n) (x_Q g below s k n (x_pI Y (fun v L' I' k' n' => L' = L ∧ I' = I ∧ k' = k ∧ n' = n ∧ Q v) x_nx)) (F0 m 2 ls []) := by
  obtain ⟨hx, hb, hml, hr, hlk, hown, hK, htr, hF, hLo, hRc, hRs⟩ := id hE
  intro fu
  induction fu with
  | zero =>
    intro v1 v2 v3 H locs ls h
    exact h.elim
  | succ fu ih =>
    intro v1 v2 v3 H locs ls h hw hbd hl
    unfold w_Mod_keyOf_2 at h
    refine lv_iload_n hx hb d_Mod_keyOf_2 rfl (lv_at hl 3 rfl) ?_
    refine lv_aload_n hx hb d_Mod_keyOf_3 rfl (lv_at hl 0 rfl) ?_
    refine x_getI (t := 30) (i := 0) (j := 9) hx hb hK hw hown ok0_ rfl (by decide) (by decide) (x_wd hK k_807 rfl) (fun _ h => h) fk_8_9 d_Mod_keyOf_4 ?_
    refine lv_icmp_ge (tgt := 38) hx hb d_Mod_keyOf_7 (by decide) (fun c2 => ?_) (fun c2 => ?_)
    · replace h := h.1 c2
      refine lv_iconst (v := (-1)) hx hb d_Mod_keyOf_38 (by decide) ?_
      exact x_iret hx hb hr hlk hw ⟨rfl, Or.inl ⟨_, rfl, ⟨rfl, rfl, rfl, rfl, h⟩⟩⟩ hbd d_Mod_keyOf_39
    · replace h := h.2 c2
      refine lv_aload_n hx hb d_Mod_keyOf_10 rfl (lv_at hl 0 rfl) ?_
      refine x_getR (t := 30) (i := 0) (j := 6) hx hb hK hw hown ok0_ rfl (by decide) (by decide) (x_wd hK k_804 rfl) (fun _ h => h) fk_8_6 (hY.r ok0_ rfl) d_Mod_keyOf_11 ?_
      have ok3 := hY.ok 6 ok0_ (t' := 46) (i' := 0) rfl
      refine lv_iload_n hx hb d_Mod_keyOf_14 rfl (lv_at hl 3 rfl) ?_
      refine x_iald (t := 46) (i := 0) hx hb hK hw ok3 rfl (hY.n ok3 rfl) h.1 d_Mod_keyOf_15 ?_
      replace h := h.2
      refine lv_iload_n hx hb d_Mod_keyOf_16 rfl (lv_at hl 1 rfl) ?_
      refine lv_icmp_ne (tgt := 32) hx hb d_Mod_keyOf_17 (by decide) (fun c4 => ?_) (fun c4 => ?_)
      · replace h := h.1 c4
        obtain ⟨x5, e_x5⟩ : ∃ z : Int32, z = v3 + (1 : Int32) := ⟨_, rfl⟩
        replace h := h x5 e_x5
        refine lv_iinc (v := x5) (lv' := [(3, .int x5), (0, .ref (x_ad Y 30 0)), (1, .int v1), (2, .int v2)]) hx hb d_Mod_keyOf_32 hl (k := 3) rfl (by rw [e_x5]; rfl) (by decide) rfl (fun ls hl => ?_)
        refine lv_goto (tgt := 2) hx hb d_Mod_keyOf_35 (by decide) ?_
        exact ih v1 v2 x5 H locs ls h hw hbd (lv_sub hl [1, 2, 3, 0] rfl)
      · replace h := h.2 c4
        refine lv_aload_n hx hb d_Mod_keyOf_20 rfl (lv_at hl 0 rfl) ?_
        refine x_getR (t := 30) (i := 0) (j := 7) hx hb hK hw hown ok0_ rfl (by decide) (by decide) (x_wd hK k_805 rfl) (fun _ h => h) fk_8_7 (hY.r ok0_ rfl) d_Mod_keyOf_21 ?_
        have ok6 := hY.ok 7 ok0_ (t' := 47) (i' := 0) rfl
        refine lv_iload_n hx hb d_Mod_keyOf_24 rfl (lv_at hl 3 rfl) ?_
        refine x_iald (t := 47) (i := 0) hx hb hK hw ok6 rfl (hY.n ok6 rfl) h.1 d_Mod_keyOf_25 ?_
        replace h := h.2
        refine lv_iload_n hx hb d_Mod_keyOf_26 rfl (lv_at hl 2 rfl) ?_
        refine lv_icmp_ne (tgt := 32) hx hb d_Mod_keyOf_27 (by decide) (fun c7 => ?_) (fun c7 => ?_)
        · replace h := h.1 c7
          obtain ⟨x8, e_x8⟩ : ∃ z : Int32, z = v3 + (1 : Int32) := ⟨_, rfl⟩
          replace h := h x8 e_x8
          refine lv_iinc (v := x8) (lv' := [(3, .int x8), (0, .ref (x_ad Y 30 0)), (1, .int v1), (2, .int v2)]) hx hb d_Mod_keyOf_32 hl (k := 3) rfl (by rw [e_x8]; rfl) (by decide) rfl (fun ls hl => ?_)
          refine lv_goto (tgt := 2) hx hb d_Mod_keyOf_35 (by decide) ?_
          exact ih v1 v2 x8 H locs ls h hw hbd (lv_sub hl [1, 2, 3, 0] rfl)
        · replace h := h.2 c7
          refine lv_iload_n hx hb d_Mod_keyOf_30 rfl (lv_at hl 3 rfl) ?_
          exact x_iret hx hb hr hlk hw ⟨rfl, Or.inl ⟨_, rfl, ⟨rfl, rfl, rfl, rfl, h⟩⟩⟩ hbd d_Mod_keyOf_31
set_option maxRecDepth 100000 in
set_option maxHeartbeats 4000000 in
theorem c_Mod_keyOf {l : Launch} {g : x_G} {Y : x_Y} (hY : x_Y0 g Y) {p1 : Int32} {p2 : Int32} (ok0_ : x_ok Y 30 0) {Q : Int32 → Prop} {L : x_L} {I : x_I} {k n : Nat} (h : w_Mod_keyOf Q p1 p2 I) : x_C l y_Mod_keyOf 0 g [.ref (x_ad Y 30 0), .int p1, .int p2] Y L I k n (x_pI Y (fun v L' I' k' n' => L' = L ∧ I' = I ∧ k' = k ∧ n' = n ∧ Q v) x_nx) := by
  refine x_mth k_949 ?_
  intro p e R s m below meth c hE hnm hexn hw hk1 hn1
  obtain ⟨hx, hb, hml, hr, hlk, hown, hK, htr, hF, hLo, hRc, hRs⟩ := id hE
  have hbd : x_bd k n k n := ⟨Nat.le_refl _, hk1, Nat.le_refl _, hn1⟩
  have hl := lv_entry ([.ref (x_ad Y 30 0), .int p1, .int p2]) (n := 4) (Nat.le_of_ble_eq_true rfl)
  generalize (lg_sl [.ref (x_ad Y 30 0), .int p1, .int p2] ++ List.replicate (4 - (lg_sl [.ref (x_ad Y 30 0), .int p1, .int p2]).length) Slot.unset).toArray = ls at hl ⊢
  have hl : lv_has ls 4 [(0, .ref (x_ad Y 30 0)), (1, .int p1), (2, .int p2)] := hl
  generalize s.heap = H at hw ⊢
  generalize ([] : List Loc) = locs at hw ⊢
  unfold w_Mod_keyOf at h
  refine lv_iconst (v := 0) hx hb d_Mod_keyOf_0 (by decide) ?_
  refine lv_topi (fun x1 e_x1 => ?_)
  replace h := h x1 e_x1
  refine lv_istore_n (lv' := [(3, .int x1), (0, .ref (x_ad Y 30 0)), (1, .int p1), (2, .int p2)]) hx hb d_Mod_keyOf_1 rfl hl (by decide) rfl (fun ls hl => ?_)
  obtain ⟨fu, h⟩ := h
  exact c_Mod_keyOf_2 hE hexn hY ok0_ fu p1 p2 x1 H locs ls h hw hbd (lv_sub hl [1, 2, 3, 0] rfl)
def w_Mod_stored (Q : Int32 → Prop) (p1 : Int32) (p2 : Int32) (I : x_I) : Prop :=
  w_Mod_keyOf (fun r1 =>
    ((0 ≤ r1 →
      vp_in r1 500 ∧
      Q (I 48 0 r1.toNatClampNeg)) ∧
    (¬ 0 ≤ r1 →
      Q (0 : Int32)))) p1 p2 I
set_option maxRecDepth 100000 in
set_option maxHeartbeats 4000000 in
theorem c_Mod_stored {l : Launch} {g : x_G} {Y : x_Y} (hY : x_Y0 g Y) {p1 : Int32} {p2 : Int32} (ok0_ : x_ok Y 30 0) {Q : Int32 → Prop} {L : x_L} {I : x_I} {k n : Nat} (h : w_Mod_stored Q p1 p2 I) : x_C l y_Mod_stored 1 g [.ref (x_ad Y 30 0), .int p1, .int p2] Y L I k n (x_pI Y (fun v L' I' k' n' => L' = L ∧ I' = I ∧ k' = k ∧ n' = n ∧ Q v) x_nx) := by
  refine x_mth k_945 ?_
  intro p e R s m below meth c hE hnm hexn hw hk1 hn1
  obtain ⟨hx, hb, hml, hr, hlk, hown, hK, htr, hF, hLo, hRc, hRs⟩ := id hE
  have hbd : x_bd k n k n := ⟨Nat.le_refl _, hk1, Nat.le_refl _, hn1⟩
  have hl := lv_entry ([.ref (x_ad Y 30 0), .int p1, .int p2]) (n := 4) (Nat.le_of_ble_eq_true rfl)
  generalize (lg_sl [.ref (x_ad Y 30 0), .int p1, .int p2] ++ List.replicate (4 - (lg_sl [.ref (x_ad Y 30 0), .int p1, .int p2]).length) Slot.unset).toArray = ls at hl ⊢
  have hl : lv_has ls 4 [(0, .ref (x_ad Y 30 0)), (1, .int p1), (2, .int p2)] := hl
  generalize s.heap = H at hw ⊢
  generalize ([] : List Loc) = locs at hw ⊢
  unfold w_Mod_stored at h
  refine lv_aload_n hx hb d_Mod_stored_0 rfl (lv_at hl 0 rfl) ?_
  refine lv_iload_n hx hb d_Mod_stored_1 rfl (lv_at hl 1 rfl) ?_
  refine lv_iload_n hx hb d_Mod_stored_2 rfl (lv_at hl 2 rfl) ?_
  refine x_goI (ls := ls) (rest := []) hE hw (c_Mod_keyOf hY ok0_ h) (x_cd hK k_949) q_Mod_keyOf (by decide) (by decide) hl.1 (Nat.le_of_ble_eq_true rfl) hbd d_Mod_stored_3 (x_toV (As := [.int p1, .int p2]) (b := (x_ad Y 30 0)) hx hb hown hK (x_recv hK hw ok0_ rfl (by decide)) k_946 k_948 ks_23 ⟨_, x_cd hK k_949⟩ q_Mod_keyOf rfl rfl d_Mod_stored_3) (fun r1 L9 I9 k9 n9 H locs h hw hb9 => ?_) (fun _ _ _ _ _ _ _ h9 => h9.elim)
  obtain ⟨e1, e2, e3, e4, h⟩ := h
  rw [e1, e2] at hw
  rw [e3, e4]
  refine lv_istore_n (lv' := [(3, .int r1), (0, .ref (x_ad Y 30 0)), (1, .int p1), (2, .int p2)]) hx hb d_Mod_stored_6 rfl hl (by decide) rfl (fun ls hl => ?_)
  refine lv_iload_n hx hb d_Mod_stored_7 rfl (lv_at hl 0 rfl) ?_
  refine lv_if_ge (tgt := 15) hx hb d_Mod_stored_8 (by decide) (fun c2 => ?_) (fun c2 => ?_)
  · replace h := h.1 c2
    refine lv_aload_n hx hb d_Mod_stored_15 rfl (lv_at hl 1 rfl) ?_
    refine x_getR (t := 30) (i := 0) (j := 8) hx hb hK hw hown ok0_ rfl (by decide) (by decide) (x_wd hK k_806 rfl) (fun _ h => h) fk_8_8 (hY.r ok0_ rfl) d_Mod_stored_16 ?_
    have ok3 := hY.ok 8 ok0_ (t' := 48) (i' := 0) rfl
    refine lv_iload_n hx hb d_Mod_stored_19 rfl (lv_at hl 0 rfl) ?_
    refine x_iald (t := 48) (i := 0) hx hb hK hw ok3 rfl (hY.n ok3 rfl) h.1 d_Mod_stored_20 ?_
    replace h := h.2
    exact x_iret hx hb hr hlk hw ⟨rfl, Or.inl ⟨_, rfl, ⟨rfl, rfl, rfl, rfl, h⟩⟩⟩ hbd d_Mod_stored_21
  · replace h := h.2 c2
    refine lv_iconst (v := 0) hx hb d_Mod_stored_11 (by decide) ?_
    refine lv_goto (tgt := 21) hx hb d_Mod_stored_12 (by decide) ?_
    exact x_iret hx hb hr hlk hw ⟨rfl, Or.inl ⟨_, rfl, ⟨rfl, rfl, rfl, rfl, h⟩⟩⟩ hbd d_Mod_stored_21
def w_Mod_store (Q : x_I → Prop) (p1 : Int32) (p2 : Int32) (p3 : Int32) (I : x_I) : Prop :=
  w_Mod_keyOf (fun r1 =>
    ((0 ≤ r1 →
      ((r1 < 0 →
        ((r1 < 0 →
          Q I) ∧
        (¬ r1 < 0 →
          vp_in r1 500 ∧
          ∀ I6 : x_I, I6 = x_u I 48 0 r1.toNatClampNeg p3 →
          Q I6))) ∧
      (¬ r1 < 0 →
        ((¬ p3 = 0 →
          ((r1 < 0 →
            Q I) ∧
          (¬ r1 < 0 →
            vp_in r1 500 ∧
            ∀ I10 : x_I, I10 = x_u I 48 0 r1.toNatClampNeg p3 →
            Q I10))) ∧
        (p3 = 0 →
          ∀ I11 : x_I, I11 = x_u I 30 0 9 ((I 30 0 9) - (1 : Int32)) →
          vp_in (I11 30 0 9) 500 ∧
          vp_in r1 500 ∧
          ∀ I13 : x_I, I13 = x_u I11 46 0 r1.toNatClampNeg (I11 46 0 (I11 30 0 9).toNatClampNeg) →
          vp_in (I13 30 0 9) 500 ∧
          vp_in r1 500 ∧
          ∀ I15 : x_I, I15 = x_u I13 47 0 r1.toNatClampNeg (I13 47 0 (I13 30 0 9).toNatClampNeg) →
          vp_in (I15 30 0 9) 500 ∧
          vp_in r1 500 ∧
          ∀ I17 : x_I, I17 = x_u I15 48 0 r1.toNatClampNeg (I15 48 0 (I15 30 0 9).toNatClampNeg) →
          Q I17))))) ∧
    (¬ 0 ≤ r1 →
      ((p3 = 0 →
        ((r1 < 0 →
          ((r1 < 0 →
            Q I) ∧
          (¬ r1 < 0 →
            vp_in r1 500 ∧
            ∀ I22 : x_I, I22 = x_u I 48 0 r1.toNatClampNeg p3 →
            Q I22))) ∧
        (¬ r1 < 0 →
          ((¬ p3 = 0 →
            ((r1 < 0 →
              Q I) ∧
            (¬ r1 < 0 →
              vp_in r1 500 ∧
              ∀ I26 : x_I, I26 = x_u I 48 0 r1.toNatClampNeg p3 →
              Q I26))) ∧
          (p3 = 0 →
            ∀ I27 : x_I, I27 = x_u I 30 0 9 ((I 30 0 9) - (1 : Int32)) →
            vp_in (I27 30 0 9) 500 ∧
            vp_in r1 500 ∧
            ∀ I29 : x_I, I29 = x_u I27 46 0 r1.toNatClampNeg (I27 46 0 (I27 30 0 9).toNatClampNeg) →
            vp_in (I29 30 0 9) 500 ∧
            vp_in r1 500 ∧
            ∀ I31 : x_I, I31 = x_u I29 47 0 r1.toNatClampNeg (I29 47 0 (I29 30 0 9).toNatClampNeg) →
            vp_in (I31 30 0 9) 500 ∧
            vp_in r1 500 ∧
            ∀ I33 : x_I, I33 = x_u I31 48 0 r1.toNatClampNeg (I31 48 0 (I31 30 0 9).toNatClampNeg) →
            Q I33))))) ∧
      (¬ p3 = 0 →
        vp_in (I 30 0 9) 500 ∧
        ∀ I35 : x_I, I35 = x_u I 46 0 (I 30 0 9).toNatClampNeg p1 →
        vp_in (I35 30 0 9) 500 ∧
        ∀ I37 : x_I, I37 = x_u I35 47 0 (I35 30 0 9).toNatClampNeg p2 →
        vp_in (I37 30 0 9) 500 ∧
        ∀ I39 : x_I, I39 = x_u I37 48 0 (I37 30 0 9).toNatClampNeg p3 →
        ∀ I40 : x_I, I40 = x_u I39 30 0 9 ((I39 30 0 9) + (1 : Int32)) →
        Q I40))))) p1 p2 I
set_option maxRecDepth 100000 in
set_option maxHeartbeats 4000000 in
theorem c_Mod_store {l : Launch} {g : x_G} {Y : x_Y} (hY : x_Y0 g Y) {p1 : Int32} {p2 : Int32} {p3 : Int32} (ok0_ : x_ok Y 30 0) {Q : x_I → Prop} {L : x_L} {I : x_I} {k n : Nat} (h : w_Mod_store Q p1 p2 p3 I) : x_C l y_Mod_store 1 g [.ref (x_ad Y 30 0), .int p1, .int p2, .int p3] Y L I k n (x_pV Y (fun L' I' k' n' => L' = L ∧ k' = k ∧ n' = n ∧ Q I') x_nx) := by
  refine x_mth k_1026 ?_
  intro p e R s m below meth c hE hnm hexn hw hk1 hn1
  obtain ⟨hx, hb, hml, hr, hlk, hown, hK, htr, hF, hLo, hRc, hRs⟩ := id hE
  have hbd : x_bd k n k n := ⟨Nat.le_refl _, hk1, Nat.le_refl _, hn1⟩
  have hl := lv_entry ([.ref (x_ad Y 30 0), .int p1, .int p2, .int p3]) (n := 5) (Nat.le_of_ble_eq_true rfl)
  generalize (lg_sl [.ref (x_ad Y 30 0), .int p1, .int p2, .int p3] ++ List.replicate (5 - (lg_sl [.ref (x_ad Y 30 0), .int p1, .int p2, .int p3]).length) Slot.unset).toArray = ls at hl ⊢
  have hl : lv_has ls 5 [(0, .ref (x_ad Y 30 0)), (1, .int p1), (2, .int p2), (3, .int p3)] := hl
  generalize s.heap = H at hw ⊢
  generalize ([] : List Loc) = locs at hw ⊢
  unfold w_Mod_store at h
  refine lv_aload_n hx hb d_Mod_store_0 rfl (lv_at hl 0 rfl) ?_
  refine lv_iload_n hx hb d_Mod_store_1 rfl (lv_at hl 1 rfl) ?_
  refine lv_iload_n hx hb d_Mod_store_2 rfl (lv_at hl 2 rfl) ?_
  refine x_goI (ls := ls) (rest := []) hE hw (c_Mod_keyOf hY ok0_ h) (x_cd hK k_949) q_Mod_keyOf (by decide) (by decide) hl.1 (Nat.le_of_ble_eq_true rfl) hbd d_Mod_store_3 (x_toV (As := [.int p1, .int p2]) (b := (x_ad Y 30 0)) hx hb hown hK (x_recv hK hw ok0_ rfl (by decide)) k_946 k_948 ks_23 ⟨_, x_cd hK k_949⟩ q_Mod_keyOf rfl rfl d_Mod_store_3) (fun r1 L9 I9 k9 n9 H locs h hw hb9 => ?_) (fun _ _ _ _ _ _ _ h9 => h9.elim)
  obtain ⟨e1, e2, e3, e4, h⟩ := h
  rw [e1, e2] at hw
  rw [e3, e4]
  refine lv_istore (lv' := [(4, .int r1), (0, .ref (x_ad Y 30 0)), (1, .int p1), (2, .int p2), (3, .int p3)]) hx hb d_Mod_store_6 hl (by decide) rfl (fun ls hl => ?_)
  refine lv_iload hx hb d_Mod_store_8 (lv_at hl 0 rfl) ?_
  refine lv_if_ge (tgt := 60) hx hb d_Mod_store_10 (by decide) (fun c2 => ?_) (fun c2 => ?_)
  · replace h := h.1 c2
    refine lv_iload hx hb d_Mod_store_60 (lv_at hl 0 rfl) ?_
    refine lv_if_lt (tgt := 130) hx hb d_Mod_store_62 (by decide) (fun c3 => ?_) (fun c3 => ?_)
    · replace h := h.1 c3
      refine lv_iload hx hb d_Mod_store_130 (lv_at hl 0 rfl) ?_
      refine lv_if_lt (tgt := 143) hx hb d_Mod_store_132 (by decide) (fun c4 => ?_) (fun c4 => ?_)
      · replace h := h.1 c4
        exact x_vret hx hb hr hlk hw ⟨rfl, Or.inl ⟨rfl, ⟨rfl, rfl, rfl, h⟩⟩⟩ hbd d_Mod_store_143
      · replace h := h.2 c4
        refine lv_aload_n hx hb d_Mod_store_135 rfl (lv_at hl 1 rfl) ?_
        refine x_getR (t := 30) (i := 0) (j := 8) hx hb hK hw hown ok0_ rfl (by decide) (by decide) (x_wd hK k_806 rfl) (fun _ h => h) fk_8_8 (hY.r ok0_ rfl) d_Mod_store_136 ?_
        have ok5 := hY.ok 8 ok0_ (t' := 48) (i' := 0) rfl
        refine lv_iload hx hb d_Mod_store_139 (lv_at hl 0 rfl) ?_
        refine lv_iload_n hx hb d_Mod_store_141 rfl (lv_at hl 4 rfl) ?_
        refine x_iast (t := 48) (i := 0) hx hb hK hw ok5 rfl (hY.n ok5 rfl) h.1 d_Mod_store_142 (fun I6 H locs e_I6 hw => ?_)
        replace h := h.2 I6 e_I6
        exact x_vret hx hb hr hlk hw ⟨rfl, Or.inl ⟨rfl, ⟨rfl, rfl, rfl, h⟩⟩⟩ hbd d_Mod_store_143
    · replace h := h.2 c3
      refine lv_iload_n hx hb d_Mod_store_65 rfl (lv_at hl 4 rfl) ?_
      refine lv_if_ne (tgt := 130) hx hb d_Mod_store_66 (by decide) (fun c7 => ?_) (fun c7 => ?_)
      · replace h := h.1 c7
        refine lv_iload hx hb d_Mod_store_130 (lv_at hl 0 rfl) ?_
        refine lv_if_lt (tgt := 143) hx hb d_Mod_store_132 (by decide) (fun c8 => ?_) (fun c8 => ?_)
        · replace h := h.1 c8
          exact x_vret hx hb hr hlk hw ⟨rfl, Or.inl ⟨rfl, ⟨rfl, rfl, rfl, h⟩⟩⟩ hbd d_Mod_store_143
        · replace h := h.2 c8
          refine lv_aload_n hx hb d_Mod_store_135 rfl (lv_at hl 1 rfl) ?_
          refine x_getR (t := 30) (i := 0) (j := 8) hx hb hK hw hown ok0_ rfl (by decide) (by decide) (x_wd hK k_806 rfl) (fun _ h => h) fk_8_8 (hY.r ok0_ rfl) d_Mod_store_136 ?_
          have ok9 := hY.ok 8 ok0_ (t' := 48) (i' := 0) rfl
          refine lv_iload hx hb d_Mod_store_139 (lv_at hl 0 rfl) ?_
          refine lv_iload_n hx hb d_Mod_store_141 rfl (lv_at hl 4 rfl) ?_
          refine x_iast (t := 48) (i := 0) hx hb hK hw ok9 rfl (hY.n ok9 rfl) h.1 d_Mod_store_142 (fun I10 H locs e_I10 hw => ?_)
          replace h := h.2 I10 e_I10
          exact x_vret hx hb hr hlk hw ⟨rfl, Or.inl ⟨rfl, ⟨rfl, rfl, rfl, h⟩⟩⟩ hbd d_Mod_store_143
      · replace h := h.2 c7
        refine lv_aload_n hx hb d_Mod_store_69 rfl (lv_at hl 1 rfl) ?_
        refine lv_dup hx hb d_Mod_store_70 rfl ?_
        refine x_getI (t := 30) (i := 0) (j := 9) hx hb hK hw hown ok0_ rfl (by decide) (by decide) (x_wd hK k_807 rfl) (fun _ h => h) fk_8_9 d_Mod_store_71 ?_
        refine lv_iconst (v := 1) hx hb d_Mod_store_74 (by decide) ?_
        refine lv_isub hx hb d_Mod_store_75 ?_
        refine x_putI (t := 30) (i := 0) (j := 9) hx hb hK hw hown ok0_ rfl (by decide) (by decide) (x_wd hK k_807 rfl) (fun _ h => h) rfl rfl d_Mod_store_76 (fun I11 H locs e_I11 hw => ?_)
        replace h := h I11 e_I11
        refine lv_aload_n hx hb d_Mod_store_79 rfl (lv_at hl 1 rfl) ?_
        refine x_getR (t := 30) (i := 0) (j := 6) hx hb hK hw hown ok0_ rfl (by decide) (by decide) (x_wd hK k_804 rfl) (fun _ h => h) fk_8_6 (hY.r ok0_ rfl) d_Mod_store_80 ?_
        have ok12 := hY.ok 6 ok0_ (t' := 46) (i' := 0) rfl
        refine lv_iload hx hb d_Mod_store_83 (lv_at hl 0 rfl) ?_
        refine lv_aload_n hx hb d_Mod_store_85 rfl (lv_at hl 1 rfl) ?_
        refine x_getR (t := 30) (i := 0) (j := 6) hx hb hK hw hown ok0_ rfl (by decide) (by decide) (x_wd hK k_804 rfl) (fun _ h => h) fk_8_6 (hY.r ok0_ rfl) d_Mod_store_86 ?_
        refine lv_aload_n hx hb d_Mod_store_89 rfl (lv_at hl 1 rfl) ?_
        refine x_getI (t := 30) (i := 0) (j := 9) hx hb hK hw hown ok0_ rfl (by decide) (by decide) (x_wd hK k_807 rfl) (fun _ h => h) fk_8_9 d_Mod_store_90 ?_
        refine x_iald (t := 46) (i := 0) hx hb hK hw ok12 rfl (hY.n ok12 rfl) h.1 d_Mod_store_93 ?_
        replace h := h.2
        refine x_iast (t := 46) (i := 0) hx hb hK hw ok12 rfl (hY.n ok12 rfl) h.1 d_Mod_store_94 (fun I13 H locs e_I13 hw => ?_)
        replace h := h.2 I13 e_I13
        refine lv_aload_n hx hb d_Mod_store_95 rfl (lv_at hl 1 rfl) ?_
        refine x_getR (t := 30) (i := 0) (j := 7) hx hb hK hw hown ok0_ rfl (by decide) (by decide) (x_wd hK k_805 rfl) (fun _ h => h) fk_8_7 (hY.r ok0_ rfl) d_Mod_store_96 ?_
        have ok14 := hY.ok 7 ok0_ (t' := 47) (i' := 0) rfl
        refine lv_iload hx hb d_Mod_store_99 (lv_at hl 0 rfl) ?_
        refine lv_aload_n hx hb d_Mod_store_101 rfl (lv_at hl 1 rfl) ?_
        refine x_getR (t := 30) (i := 0) (j := 7) hx hb hK hw hown ok0_ rfl (by decide) (by decide) (x_wd hK k_805 rfl) (fun _ h => h) fk_8_7 (hY.r ok0_ rfl) d_Mod_store_102 ?_
        refine lv_aload_n hx hb d_Mod_store_105 rfl (lv_at hl 1 rfl) ?_
        refine x_getI (t := 30) (i := 0) (j := 9) hx hb hK hw hown ok0_ rfl (by decide) (by decide) (x_wd hK k_807 rfl) (fun _ h => h) fk_8_9 d_Mod_store_106 ?_
        refine x_iald (t := 47) (i := 0) hx hb hK hw ok14 rfl (hY.n ok14 rfl) h.1 d_Mod_store_109 ?_
        replace h := h.2
        refine x_iast (t := 47) (i := 0) hx hb hK hw ok14 rfl (hY.n ok14 rfl) h.1 d_Mod_store_110 (fun I15 H locs e_I15 hw => ?_)
        replace h := h.2 I15 e_I15
        refine lv_aload_n hx hb d_Mod_store_111 rfl (lv_at hl 1 rfl) ?_
        refine x_getR (t := 30) (i := 0) (j := 8) hx hb hK hw hown ok0_ rfl (by decide) (by decide) (x_wd hK k_806 rfl) (fun _ h => h) fk_8_8 (hY.r ok0_ rfl) d_Mod_store_112 ?_
        have ok16 := hY.ok 8 ok0_ (t' := 48) (i' := 0) rfl
        refine lv_iload hx hb d_Mod_store_115 (lv_at hl 0 rfl) ?_
        refine lv_aload_n hx hb d_Mod_store_117 rfl (lv_at hl 1 rfl) ?_
        refine x_getR (t := 30) (i := 0) (j := 8) hx hb hK hw hown ok0_ rfl (by decide) (by decide) (x_wd hK k_806 rfl) (fun _ h => h) fk_8_8 (hY.r ok0_ rfl) d_Mod_store_118 ?_
        refine lv_aload_n hx hb d_Mod_store_121 rfl (lv_at hl 1 rfl) ?_
        refine x_getI (t := 30) (i := 0) (j := 9) hx hb hK hw hown ok0_ rfl (by decide) (by decide) (x_wd hK k_807 rfl) (fun _ h => h) fk_8_9 d_Mod_store_122 ?_
        refine x_iald (t := 48) (i := 0) hx hb hK hw ok16 rfl (hY.n ok16 rfl) h.1 d_Mod_store_125 ?_
        replace h := h.2
        refine x_iast (t := 48) (i := 0) hx hb hK hw ok16 rfl (hY.n ok16 rfl) h.1 d_Mod_store_126 (fun I17 H locs e_I17 hw => ?_)
        replace h := h.2 I17 e_I17
        refine lv_goto (tgt := 143) hx hb d_Mod_store_127 (by decide) ?_
        exact x_vret hx hb hr hlk hw ⟨rfl, Or.inl ⟨rfl, ⟨rfl, rfl, rfl, h⟩⟩⟩ hbd d_Mod_store_143
  · replace h := h.2 c2
    refine lv_iload_n hx hb d_Mod_store_13 rfl (lv_at hl 4 rfl) ?_
    refine lv_if_eq (tgt := 60) hx hb d_Mod_store_14 (by decide) (fun c18 => ?_) (fun c18 => ?_)
    · replace h := h.1 c18
      refine lv_iload hx hb d_Mod_store_60 (lv_at hl 0 rfl) ?_
      refine lv_if_lt (tgt := 130) hx hb d_Mod_store_62 (by decide) (fun c19 => ?_) (fun c19 => ?_)
      · replace h := h.1 c19
        refine lv_iload hx hb d_Mod_store_130 (lv_at hl 0 rfl) ?_
        refine lv_if_lt (tgt := 143) hx hb d_Mod_store_132 (by decide) (fun c20 => ?_) (fun c20 => ?_)
        · replace h := h.1 c20
          exact x_vret hx hb hr hlk hw ⟨rfl, Or.inl ⟨rfl, ⟨rfl, rfl, rfl, h⟩⟩⟩ hbd d_Mod_store_143
        · replace h := h.2 c20
          refine lv_aload_n hx hb d_Mod_store_135 rfl (lv_at hl 1 rfl) ?_
          refine x_getR (t := 30) (i := 0) (j := 8) hx hb hK hw hown ok0_ rfl (by decide) (by decide) (x_wd hK k_806 rfl) (fun _ h => h) fk_8_8 (hY.r ok0_ rfl) d_Mod_store_136 ?_
          have ok21 := hY.ok 8 ok0_ (t' := 48) (i' := 0) rfl
          refine lv_iload hx hb d_Mod_store_139 (lv_at hl 0 rfl) ?_
          refine lv_iload_n hx hb d_Mod_store_141 rfl (lv_at hl 4 rfl) ?_
          refine x_iast (t := 48) (i := 0) hx hb hK hw ok21 rfl (hY.n ok21 rfl) h.1 d_Mod_store_142 (fun I22 H locs e_I22 hw => ?_)
          replace h := h.2 I22 e_I22
          exact x_vret hx hb hr hlk hw ⟨rfl, Or.inl ⟨rfl, ⟨rfl, rfl, rfl, h⟩⟩⟩ hbd d_Mod_store_143
      · replace h := h.2 c19
        refine lv_iload_n hx hb d_Mod_store_65 rfl (lv_at hl 4 rfl) ?_
        refine lv_if_ne (tgt := 130) hx hb d_Mod_store_66 (by decide) (fun c23 => ?_) (fun c23 => ?_)
        · replace h := h.1 c23
          refine lv_iload hx hb d_Mod_store_130 (lv_at hl 0 rfl) ?_
          refine lv_if_lt (tgt := 143) hx hb d_Mod_store_132 (by decide) (fun c24 => ?_) (fun c24 => ?_)
          · replace h := h.1 c24
            exact x_vret hx hb hr hlk hw ⟨rfl, Or.inl ⟨rfl, ⟨rfl, rfl, rfl, h⟩⟩⟩ hbd d_Mod_store_143
          · replace h := h.2 c24
            refine lv_aload_n hx hb d_Mod_store_135 rfl (lv_at hl 1 rfl) ?_
            refine x_getR (t := 30) (i := 0) (j := 8) hx hb hK hw hown ok0_ rfl (by decide) (by decide) (x_wd hK k_806 rfl) (fun _ h => h) fk_8_8 (hY.r ok0_ rfl) d_Mod_store_136 ?_
            have ok25 := hY.ok 8 ok0_ (t' := 48) (i' := 0) rfl
            refine lv_iload hx hb d_Mod_store_139 (lv_at hl 0 rfl) ?_
            refine lv_iload_n hx hb d_Mod_store_141 rfl (lv_at hl 4 rfl) ?_
            refine x_iast (t := 48) (i := 0) hx hb hK hw ok25 rfl (hY.n ok25 rfl) h.1 d_Mod_store_142 (fun I26 H locs e_I26 hw => ?_)
            replace h := h.2 I26 e_I26
            exact x_vret hx hb hr hlk hw ⟨rfl, Or.inl ⟨rfl, ⟨rfl, rfl, rfl, h⟩⟩⟩ hbd d_Mod_store_143
        · replace h := h.2 c23
          refine lv_aload_n hx hb d_Mod_store_69 rfl (lv_at hl 1 rfl) ?_
          refine lv_dup hx hb d_Mod_store_70 rfl ?_
          refine x_getI (t := 30) (i := 0) (j := 9) hx hb hK hw hown ok0_ rfl (by decide) (by decide) (x_wd hK k_807 rfl) (fun _ h => h) fk_8_9 d_Mod_store_71 ?_
          refine lv_iconst (v := 1) hx hb d_Mod_store_74 (by decide) ?_
          refine lv_isub hx hb d_Mod_store_75 ?_
          refine x_putI (t := 30) (i := 0) (j := 9) hx hb hK hw hown ok0_ rfl (by decide) (by decide) (x_wd hK k_807 rfl) (fun _ h => h) rfl rfl d_Mod_store_76 (fun I27 H locs e_I27 hw => ?_)
          replace h := h I27 e_I27
          refine lv_aload_n hx hb d_Mod_store_79 rfl (lv_at hl 1 rfl) ?_
          refine x_getR (t := 30) (i := 0) (j := 6) hx hb hK hw hown ok0_ rfl (by decide) (by decide) (x_wd hK k_804 rfl) (fun _ h => h) fk_8_6 (hY.r ok0_ rfl) d_Mod_store_80 ?_
          have ok28 := hY.ok 6 ok0_ (t' := 46) (i' := 0) rfl
          refine lv_iload hx hb d_Mod_store_83 (lv_at hl 0 rfl) ?_
          refine lv_aload_n hx hb d_Mod_store_85 rfl (lv_at hl 1 rfl) ?_
          refine x_getR (t := 30) (i := 0) (j := 6) hx hb hK hw hown ok0_ rfl (by decide) (by decide) (x_wd hK k_804 rfl) (fun _ h => h) fk_8_6 (hY.r ok0_ rfl) d_Mod_store_86 ?_
          refine lv_aload_n hx hb d_Mod_store_89 rfl (lv_at hl 1 rfl) ?_
          refine x_getI (t := 30) (i := 0) (j := 9) hx hb hK hw hown ok0_ rfl (by decide) (by decide) (x_wd hK k_807 rfl) (fun _ h => h) fk_8_9 d_Mod_store_90 ?_
          refine x_iald (t := 46) (i := 0) hx hb hK hw ok28 rfl (hY.n ok28 rfl) h.1 d_Mod_store_93 ?_
          replace h := h.2
          refine x_iast (t := 46) (i := 0) hx hb hK hw ok28 rfl (hY.n ok28 rfl) h.1 d_Mod_store_94 (fun I29 H locs e_I29 hw => ?_)
          replace h := h.2 I29 e_I29
          refine lv_aload_n hx hb d_Mod_store_95 rfl (lv_at hl 1 rfl) ?_
          refine x_getR (t := 30) (i := 0) (j := 7) hx hb hK hw hown ok0_ rfl (by decide) (by decide) (x_wd hK k_805 rfl) (fun _ h => h) fk_8_7 (hY.r ok0_ rfl) d_Mod_store_96 ?_
          have ok30 := hY.ok 7 ok0_ (t' := 47) (i' := 0) rfl
          refine lv_iload hx hb d_Mod_store_99 (lv_at hl 0 rfl) ?_
          refine lv_aload_n hx hb d_Mod_store_101 rfl (lv_at hl 1 rfl) ?_
          refine x_getR (t := 30) (i := 0) (j := 7) hx hb hK hw hown ok0_ rfl (by decide) (by decide) (x_wd hK k_805 rfl) (fun _ h => h) fk_8_7 (hY.r ok0_ rfl) d_Mod_store_102 ?_
          refine lv_aload_n hx hb d_Mod_store_105 rfl (lv_at hl 1 rfl) ?_
          refine x_getI (t := 30) (i := 0) (j := 9) hx hb hK hw hown ok0_ rfl (by decide) (by decide) (x_wd hK k_807 rfl) (fun _ h => h) fk_8_9 d_Mod_store_106 ?_
          refine x_iald (t := 47) (i := 0) hx hb hK hw ok30 rfl (hY.n ok30 rfl) h.1 d_Mod_store_109 ?_
          replace h := h.2
          refine x_iast (t := 47) (i := 0) hx hb hK hw ok30 rfl (hY.n ok30 rfl) h.1 d_Mod_store_110 (fun I31 H locs e_I31 hw => ?_)
          replace h := h.2 I31 e_I31
          refine lv_aload_n hx hb d_Mod_store_111 rfl (lv_at hl 1 rfl) ?_
          refine x_getR (t := 30) (i := 0) (j := 8) hx hb hK hw hown ok0_ rfl (by decide) (by decide) (x_wd hK k_806 rfl) (fun _ h => h) fk_8_8 (hY.r ok0_ rfl) d_Mod_store_112 ?_
          have ok32 := hY.ok 8 ok0_ (t' := 48) (i' := 0) rfl
          refine lv_iload hx hb d_Mod_store_115 (lv_at hl 0 rfl) ?_
          refine lv_aload_n hx hb d_Mod_store_117 rfl (lv_at hl 1 rfl) ?_
          refine x_getR (t := 30) (i := 0) (j := 8) hx hb hK hw hown ok0_ rfl (by decide) (by decide) (x_wd hK k_806 rfl) (fun _ h => h) fk_8_8 (hY.r ok0_ rfl) d_Mod_store_118 ?_
          refine lv_aload_n hx hb d_Mod_store_121 rfl (lv_at hl 1 rfl) ?_
          refine x_getI (t := 30) (i := 0) (j := 9) hx hb hK hw hown ok0_ rfl (by decide) (by decide) (x_wd hK k_807 rfl) (fun _ h => h) fk_8_9 d_Mod_store_122 ?_
          refine x_iald (t := 48) (i := 0) hx hb hK hw ok32 rfl (hY.n ok32 rfl) h.1 d_Mod_store_125 ?_
          replace h := h.2
          refine x_iast (t := 48) (i := 0) hx hb hK hw ok32 rfl (hY.n ok32 rfl) h.1 d_Mod_store_126 (fun I33 H locs e_I33 hw => ?_)
          replace h := h.2 I33 e_I33
          refine lv_goto (tgt := 143) hx hb d_Mod_store_127 (by decide) ?_
          exact x_vret hx hb hr hlk hw ⟨rfl, Or.inl ⟨rfl, ⟨rfl, rfl, rfl, h⟩⟩⟩ hbd d_Mod_store_143
    · replace h := h.2 c18
      refine lv_aload_n hx hb d_Mod_store_17 rfl (lv_at hl 1 rfl) ?_
      refine x_getR (t := 30) (i := 0) (j := 6) hx hb hK hw hown ok0_ rfl (by decide) (by decide) (x_wd hK k_804 rfl) (fun _ h => h) fk_8_6 (hY.r ok0_ rfl) d_Mod_store_18 ?_
      have ok34 := hY.ok 6 ok0_ (t' := 46) (i' := 0) rfl
      refine lv_aload_n hx hb d_Mod_store_21 rfl (lv_at hl 1 rfl) ?_
      refine x_getI (t := 30) (i := 0) (j := 9) hx hb hK hw hown ok0_ rfl (by decide) (by decide) (x_wd hK k_807 rfl) (fun _ h => h) fk_8_9 d_Mod_store_22 ?_
      refine lv_iload_n hx hb d_Mod_store_25 rfl (lv_at hl 2 rfl) ?_
      refine x_iast (t := 46) (i := 0) hx hb hK hw ok34 rfl (hY.n ok34 rfl) h.1 d_Mod_store_26 (fun I35 H locs e_I35 hw => ?_)
      replace h := h.2 I35 e_I35
      refine lv_aload_n hx hb d_Mod_store_27 rfl (lv_at hl 1 rfl) ?_
      refine x_getR (t := 30) (i := 0) (j := 7) hx hb hK hw hown ok0_ rfl (by decide) (by decide) (x_wd hK k_805 rfl) (fun _ h => h) fk_8_7 (hY.r ok0_ rfl) d_Mod_store_28 ?_
      have ok36 := hY.ok 7 ok0_ (t' := 47) (i' := 0) rfl
      refine lv_aload_n hx hb d_Mod_store_31 rfl (lv_at hl 1 rfl) ?_
      refine x_getI (t := 30) (i := 0) (j := 9) hx hb hK hw hown ok0_ rfl (by decide) (by decide) (x_wd hK k_807 rfl) (fun _ h => h) fk_8_9 d_Mod_store_32 ?_
      refine lv_iload_n hx hb d_Mod_store_35 rfl (lv_at hl 3 rfl) ?_
      refine x_iast (t := 47) (i := 0) hx hb hK hw ok36 rfl (hY.n ok36 rfl) h.1 d_Mod_store_36 (fun I37 H locs e_I37 hw => ?_)
      replace h := h.2 I37 e_I37
      refine lv_aload_n hx hb d_Mod_store_37 rfl (lv_at hl 1 rfl) ?_
      refine x_getR (t := 30) (i := 0) (j := 8) hx hb hK hw hown ok0_ rfl (by decide) (by decide) (x_wd hK k_806 rfl) (fun _ h => h) fk_8_8 (hY.r ok0_ rfl) d_Mod_store_38 ?_
      have ok38 := hY.ok 8 ok0_ (t' := 48) (i' := 0) rfl
      refine lv_aload_n hx hb d_Mod_store_41 rfl (lv_at hl 1 rfl) ?_
      refine x_getI (t := 30) (i := 0) (j := 9) hx hb hK hw hown ok0_ rfl (by decide) (by decide) (x_wd hK k_807 rfl) (fun _ h => h) fk_8_9 d_Mod_store_42 ?_
      refine lv_iload_n hx hb d_Mod_store_45 rfl (lv_at hl 4 rfl) ?_
      refine x_iast (t := 48) (i := 0) hx hb hK hw ok38 rfl (hY.n ok38 rfl) h.1 d_Mod_store_46 (fun I39 H locs e_I39 hw => ?_)
      replace h := h.2 I39 e_I39
      refine lv_aload_n hx hb d_Mod_store_47 rfl (lv_at hl 1 rfl) ?_
      refine lv_dup hx hb d_Mod_store_48 rfl ?_
      refine x_getI (t := 30) (i := 0) (j := 9) hx hb hK hw hown ok0_ rfl (by decide) (by decide) (x_wd hK k_807 rfl) (fun _ h => h) fk_8_9 d_Mod_store_49 ?_
      refine lv_iconst (v := 1) hx hb d_Mod_store_52 (by decide) ?_
      refine lv_iadd hx hb d_Mod_store_53 ?_
      refine x_putI (t := 30) (i := 0) (j := 9) hx hb hK hw hown ok0_ rfl (by decide) (by decide) (x_wd hK k_807 rfl) (fun _ h => h) rfl rfl d_Mod_store_54 (fun I40 H locs e_I40 hw => ?_)
      replace h := h I40 e_I40
      refine lv_goto (tgt := 143) hx hb d_Mod_store_57 (by decide) ?_
      exact x_vret hx hb hr hlk hw ⟨rfl, Or.inl ⟨rfl, ⟨rfl, rfl, rfl, h⟩⟩⟩ hbd d_Mod_store_143
def w_Mod_storage (Q : Int32 → x_I → Prop) (p1 : Int32) (p2 : Int32) (I : x_I) : Prop :=
  w_Mod_noAccount (fun r1 =>
    ((r1 = 0 →
      ∀ I3 : x_I, I3 = x_u I 30 0 0 (0 : Int32) →
      (((I3 30 0 0) ≤ 0 →
        w_Mod_stored (fun r5 =>
          Q r5 I3) p1 p2 I3) ∧
      (¬ (I3 30 0 0) ≤ 0 →
        Q (0 : Int32) I3))) ∧
    (¬ r1 = 0 →
      ∀ I6 : x_I, I6 = x_u I 30 0 0 (1 : Int32) →
      (((I6 30 0 0) ≤ 0 →
        w_Mod_stored (fun r8 =>
          Q r8 I6) p1 p2 I6) ∧
      (¬ (I6 30 0 0) ≤ 0 →
        Q (0 : Int32) I6))))) p1 I
set_option maxRecDepth 100000 in
set_option maxHeartbeats 4000000 in
theorem c_Mod_storage {l : Launch} {g : x_G} {Y : x_Y} (hY : x_Y0 g Y) {p1 : Int32} {p2 : Int32} (ok0_ : x_ok Y 30 0) {Q : Int32 → x_I → Prop} {L : x_L} {I : x_I} {k n : Nat} (h : w_Mod_storage Q p1 p2 I) : x_C l y_Mod_storage 2 g [.ref (x_ad Y 30 0), .int p1, .int p2] Y L I k n (x_pI Y (fun v L' I' k' n' => L' = L ∧ k' = k ∧ n' = n ∧ Q v I') x_nx) := by
  refine x_mth k_941 ?_
  intro p e R s m below meth c hE hnm hexn hw hk1 hn1
  obtain ⟨hx, hb, hml, hr, hlk, hown, hK, htr, hF, hLo, hRc, hRs⟩ := id hE
  have hbd : x_bd k n k n := ⟨Nat.le_refl _, hk1, Nat.le_refl _, hn1⟩
  have hl := lv_entry ([.ref (x_ad Y 30 0), .int p1, .int p2]) (n := 3) (Nat.le_of_ble_eq_true rfl)
  generalize (lg_sl [.ref (x_ad Y 30 0), .int p1, .int p2] ++ List.replicate (3 - (lg_sl [.ref (x_ad Y 30 0), .int p1, .int p2]).length) Slot.unset).toArray = ls at hl ⊢
  have hl : lv_has ls 3 [(0, .ref (x_ad Y 30 0)), (1, .int p1), (2, .int p2)] := hl
  generalize s.heap = H at hw ⊢
  generalize ([] : List Loc) = locs at hw ⊢
  unfold w_Mod_storage at h
  refine lv_aload_n hx hb d_Mod_storage_0 rfl (lv_at hl 0 rfl) ?_
  refine lv_aload_n hx hb d_Mod_storage_1 rfl (lv_at hl 0 rfl) ?_
  refine lv_iload_n hx hb d_Mod_storage_2 rfl (lv_at hl 1 rfl) ?_
  refine x_goI (ls := ls) (rest := [.ref (x_ad Y 30 0)]) hE hw (c_Mod_noAccount hY ok0_ h) (x_cd hK k_922) q_Mod_noAccount (by decide) (by decide) hl.1 (Nat.le_of_ble_eq_true rfl) hbd d_Mod_storage_3 (x_toV (As := [.int p1]) (b := (x_ad Y 30 0)) hx hb hown hK (x_recv hK hw ok0_ rfl (by decide)) k_919 k_921 ks_21 ⟨_, x_cd hK k_922⟩ q_Mod_noAccount rfl rfl d_Mod_storage_3) (fun r1 L9 I9 k9 n9 H locs h hw hb9 => ?_) (fun _ _ _ _ _ _ _ h9 => h9.elim)
  obtain ⟨e1, e2, e3, e4, h⟩ := h
  rw [e1, e2] at hw
  rw [e3, e4]
  refine lv_if_eq (tgt := 13) hx hb d_Mod_storage_6 (by decide) (fun c2 => ?_) (fun c2 => ?_)
  · replace h := h.1 c2
    refine lv_iconst (v := 0) hx hb d_Mod_storage_13 (by decide) ?_
    refine x_putI (t := 30) (i := 0) (j := 0) hx hb hK hw hown ok0_ rfl (by decide) (by decide) (x_wd hK k_798 rfl) (fun _ h => h) rfl rfl d_Mod_storage_14 (fun I3 H locs e_I3 hw => ?_)
    replace h := h I3 e_I3
    refine lv_aload_n hx hb d_Mod_storage_17 rfl (lv_at hl 0 rfl) ?_
    refine x_getI (t := 30) (i := 0) (j := 0) hx hb hK hw hown ok0_ rfl (by decide) (by decide) (x_wd hK k_798 rfl) (fun _ h => h) fk_8_0 d_Mod_storage_18 ?_
    refine lv_if_le (tgt := 28) hx hb d_Mod_storage_21 (by decide) (fun c4 => ?_) (fun c4 => ?_)
    · replace h := h.1 c4
      refine lv_aload_n hx hb d_Mod_storage_28 rfl (lv_at hl 0 rfl) ?_
      refine lv_iload_n hx hb d_Mod_storage_29 rfl (lv_at hl 1 rfl) ?_
      refine lv_iload_n hx hb d_Mod_storage_30 rfl (lv_at hl 2 rfl) ?_
      refine x_goI (ls := ls) (rest := []) hE hw (c_Mod_stored hY ok0_ h) (x_cd hK k_945) q_Mod_stored (by decide) (by decide) hl.1 (Nat.le_of_ble_eq_true rfl) hbd d_Mod_storage_31 (x_toV (As := [.int p1, .int p2]) (b := (x_ad Y 30 0)) hx hb hown hK (x_recv hK hw ok0_ rfl (by decide)) k_942 k_944 ks_22 ⟨_, x_cd hK k_945⟩ q_Mod_stored rfl rfl d_Mod_storage_31) (fun r5 L9 I9 k9 n9 H locs h hw hb9 => ?_) (fun _ _ _ _ _ _ _ h9 => h9.elim)
      obtain ⟨e1, e2, e3, e4, h⟩ := h
      rw [e1, e2] at hw
      rw [e3, e4]
      exact x_iret hx hb hr hlk hw ⟨rfl, Or.inl ⟨_, rfl, ⟨rfl, rfl, rfl, h⟩⟩⟩ hbd d_Mod_storage_34
    · replace h := h.2 c4
      refine lv_iconst (v := 0) hx hb d_Mod_storage_24 (by decide) ?_
      refine lv_goto (tgt := 34) hx hb d_Mod_storage_25 (by decide) ?_
      exact x_iret hx hb hr hlk hw ⟨rfl, Or.inl ⟨_, rfl, ⟨rfl, rfl, rfl, h⟩⟩⟩ hbd d_Mod_storage_34
  · replace h := h.2 c2
    refine lv_iconst (v := 1) hx hb d_Mod_storage_9 (by decide) ?_
    refine lv_goto (tgt := 14) hx hb d_Mod_storage_10 (by decide) ?_
    refine x_putI (t := 30) (i := 0) (j := 0) hx hb hK hw hown ok0_ rfl (by decide) (by decide) (x_wd hK k_798 rfl) (fun _ h => h) rfl rfl d_Mod_storage_14 (fun I6 H locs e_I6 hw => ?_)
    replace h := h I6 e_I6
    refine lv_aload_n hx hb d_Mod_storage_17 rfl (lv_at hl 0 rfl) ?_
    refine x_getI (t := 30) (i := 0) (j := 0) hx hb hK hw hown ok0_ rfl (by decide) (by decide) (x_wd hK k_798 rfl) (fun _ h => h) fk_8_0 d_Mod_storage_18 ?_
    refine lv_if_le (tgt := 28) hx hb d_Mod_storage_21 (by decide) (fun c7 => ?_) (fun c7 => ?_)
    · replace h := h.1 c7
      refine lv_aload_n hx hb d_Mod_storage_28 rfl (lv_at hl 0 rfl) ?_
      refine lv_iload_n hx hb d_Mod_storage_29 rfl (lv_at hl 1 rfl) ?_
      refine lv_iload_n hx hb d_Mod_storage_30 rfl (lv_at hl 2 rfl) ?_
      refine x_goI (ls := ls) (rest := []) hE hw (c_Mod_stored hY ok0_ h) (x_cd hK k_945) q_Mod_stored (by decide) (by decide) hl.1 (Nat.le_of_ble_eq_true rfl) hbd d_Mod_storage_31 (x_toV (As := [.int p1, .int p2]) (b := (x_ad Y 30 0)) hx hb hown hK (x_recv hK hw ok0_ rfl (by decide)) k_942 k_944 ks_22 ⟨_, x_cd hK k_945⟩ q_Mod_stored rfl rfl d_Mod_storage_31) (fun r8 L9 I9 k9 n9 H locs h hw hb9 => ?_) (fun _ _ _ _ _ _ _ h9 => h9.elim)
      obtain ⟨e1, e2, e3, e4, h⟩ := h
      rw [e1, e2] at hw
      rw [e3, e4]
      exact x_iret hx hb hr hlk hw ⟨rfl, Or.inl ⟨_, rfl, ⟨rfl, rfl, rfl, h⟩⟩⟩ hbd d_Mod_storage_34
    · replace h := h.2 c7
      refine lv_iconst (v := 0) hx hb d_Mod_storage_24 (by decide) ?_
      refine lv_goto (tgt := 34) hx hb d_Mod_storage_25 (by decide) ?_
      exact x_iret hx hb hr hlk hw ⟨rfl, Or.inl ⟨_, rfl, ⟨rfl, rfl, rfl, h⟩⟩⟩ hbd d_Mod_storage_34
def w_Mod_keys (Q : Int32 → x_I → Prop) (I : x_I) : Prop :=
  ∀ I1 : x_I, I1 = x_u I 30 0 0 (0 : Int32) →
  Q (I1 30 0 9) I1
set_option maxRecDepth 100000 in
set_option maxHeartbeats 4000000 in
theorem c_Mod_keys {l : Launch} {g : x_G} {Y : x_Y} (hY : x_Y0 g Y) (ok0_ : x_ok Y 30 0) {Q : Int32 → x_I → Prop} {L : x_L} {I : x_I} {k n : Nat} (h : w_Mod_keys Q I) : x_C l y_Mod_keys 0 g [.ref (x_ad Y 30 0)] Y L I k n (x_pI Y (fun v L' I' k' n' => L' = L ∧ k' = k ∧ n' = n ∧ Q v I') x_nx) := by
  refine x_mth k_953 ?_
  intro p e R s m below meth c hE hnm hexn hw hk1 hn1
  obtain ⟨hx, hb, hml, hr, hlk, hown, hK, htr, hF, hLo, hRc, hRs⟩ := id hE
  have hbd : x_bd k n k n := ⟨Nat.le_refl _, hk1, Nat.le_refl _, hn1⟩
  have hl := lv_entry ([.ref (x_ad Y 30 0)]) (n := 1) (Nat.le_of_ble_eq_true rfl)
  generalize (lg_sl [.ref (x_ad Y 30 0)] ++ List.replicate (1 - (lg_sl [.ref (x_ad Y 30 0)]).length) Slot.unset).toArray = ls at hl ⊢
  have hl : lv_has ls 1 [(0, .ref (x_ad Y 30 0))] := hl
  generalize s.heap = H at hw ⊢
  generalize ([] : List Loc) = locs at hw ⊢
  unfold w_Mod_keys at h
  refine lv_aload_n hx hb d_Mod_keys_0 rfl (lv_at hl 0 rfl) ?_
  refine lv_iconst (v := 0) hx hb d_Mod_keys_1 (by decide) ?_
  refine x_putI (t := 30) (i := 0) (j := 0) hx hb hK hw hown ok0_ rfl (by decide) (by decide) (x_wd hK k_798 rfl) (fun _ h => h) rfl rfl d_Mod_keys_2 (fun I1 H locs e_I1 hw => ?_)
  replace h := h I1 e_I1
  refine lv_aload_n hx hb d_Mod_keys_5 rfl (lv_at hl 0 rfl) ?_
  refine x_getI (t := 30) (i := 0) (j := 9) hx hb hK hw hown ok0_ rfl (by decide) (by decide) (x_wd hK k_807 rfl) (fun _ h => h) fk_8_9 d_Mod_keys_6 ?_
  exact x_iret hx hb hr hlk hw ⟨rfl, Or.inl ⟨_, rfl, ⟨rfl, rfl, rfl, h⟩⟩⟩ hbd d_Mod_keys_9
def w_Mod_logged (Q : Int32 → x_I → Prop) (I : x_I) : Prop :=
  ∀ I1 : x_I, I1 = x_u I 30 0 0 (0 : Int32) →
  Q (I1 30 0 11) I1
set_option maxRecDepth 100000 in
set_option maxHeartbeats 4000000 in
theorem c_Mod_logged {l : Launch} {g : x_G} {Y : x_Y} (hY : x_Y0 g Y) (ok0_ : x_ok Y 30 0) {Q : Int32 → x_I → Prop} {L : x_L} {I : x_I} {k n : Nat} (h : w_Mod_logged Q I) : x_C l y_Mod_logged 0 g [.ref (x_ad Y 30 0)] Y L I k n (x_pI Y (fun v L' I' k' n' => L' = L ∧ k' = k ∧ n' = n ∧ Q v I') x_nx) := by
  refine x_mth k_957 ?_
  intro p e R s m below meth c hE hnm hexn hw hk1 hn1
  obtain ⟨hx, hb, hml, hr, hlk, hown, hK, htr, hF, hLo, hRc, hRs⟩ := id hE
  have hbd : x_bd k n k n := ⟨Nat.le_refl _, hk1, Nat.le_refl _, hn1⟩
  have hl := lv_entry ([.ref (x_ad Y 30 0)]) (n := 1) (Nat.le_of_ble_eq_true rfl)
  generalize (lg_sl [.ref (x_ad Y 30 0)] ++ List.replicate (1 - (lg_sl [.ref (x_ad Y 30 0)]).length) Slot.unset).toArray = ls at hl ⊢
  have hl : lv_has ls 1 [(0, .ref (x_ad Y 30 0))] := hl
  generalize s.heap = H at hw ⊢
  generalize ([] : List Loc) = locs at hw ⊢
  unfold w_Mod_logged at h
  refine lv_aload_n hx hb d_Mod_logged_0 rfl (lv_at hl 0 rfl) ?_
  refine lv_iconst (v := 0) hx hb d_Mod_logged_1 (by decide) ?_
  refine x_putI (t := 30) (i := 0) (j := 0) hx hb hK hw hown ok0_ rfl (by decide) (by decide) (x_wd hK k_798 rfl) (fun _ h => h) rfl rfl d_Mod_logged_2 (fun I1 H locs e_I1 hw => ?_)
  replace h := h I1 e_I1
  refine lv_aload_n hx hb d_Mod_logged_5 rfl (lv_at hl 0 rfl) ?_
  refine x_getI (t := 30) (i := 0) (j := 11) hx hb hK hw hown ok0_ rfl (by decide) (by decide) (x_wd hK k_809 rfl) (fun _ h => h) fk_8_11 d_Mod_logged_6 ?_
  exact x_iret hx hb hr hlk hw ⟨rfl, Or.inl ⟨_, rfl, ⟨rfl, rfl, rfl, h⟩⟩⟩ hbd d_Mod_logged_9
def w_Mod_log (Q : Int32 → x_I → Prop) (p1 : Int32) (I : x_I) : Prop :=
  ((p1 < 0 →
    ∀ I2 : x_I, I2 = x_u I 30 0 0 (1 : Int32) →
    (((I2 30 0 0) ≤ 0 →
      vp_in p1 300 ∧
      Q (I2 50 0 p1.toNatClampNeg) I2) ∧
    (¬ (I2 30 0 0) ≤ 0 →
      Q (0 : Int32) I2))) ∧
  (¬ p1 < 0 →
    ((p1 < (I 30 0 11) →
      ∀ I6 : x_I, I6 = x_u I 30 0 0 (0 : Int32) →
      (((I6 30 0 0) ≤ 0 →
        vp_in p1 300 ∧
        Q (I6 50 0 p1.toNatClampNeg) I6) ∧
      (¬ (I6 30 0 0) ≤ 0 →
        Q (0 : Int32) I6))) ∧
    (¬ p1 < (I 30 0 11) →
      ∀ I9 : x_I, I9 = x_u I 30 0 0 (1 : Int32) →
      (((I9 30 0 0) ≤ 0 →
        vp_in p1 300 ∧
        Q (I9 50 0 p1.toNatClampNeg) I9) ∧
      (¬ (I9 30 0 0) ≤ 0 →
        Q (0 : Int32) I9))))))
set_option maxRecDepth 100000 in
set_option maxHeartbeats 4000000 in
theorem c_Mod_log {l : Launch} {g : x_G} {Y : x_Y} (hY : x_Y0 g Y) {p1 : Int32} (ok0_ : x_ok Y 30 0) {Q : Int32 → x_I → Prop} {L : x_L} {I : x_I} {k n : Nat} (h : w_Mod_log Q p1 I) : x_C l y_Mod_log 0 g [.ref (x_ad Y 30 0), .int p1] Y L I k n (x_pI Y (fun v L' I' k' n' => L' = L ∧ k' = k ∧ n' = n ∧ Q v I') x_nx) := by
  refine x_mth k_961 ?_
  intro p e R s m below meth c hE hnm hexn hw hk1 hn1
  obtain ⟨hx, hb, hml, hr, hlk, hown, hK, htr, hF, hLo, hRc, hRs⟩ := id hE
  have hbd : x_bd k n k n := ⟨Nat.le_refl _, hk1, Nat.le_refl _, hn1⟩
  have hl := lv_entry ([.ref (x_ad Y 30 0), .int p1]) (n := 2) (Nat.le_of_ble_eq_true rfl)
  generalize (lg_sl [.ref (x_ad Y 30 0), .int p1] ++ List.replicate (2 - (lg_sl [.ref (x_ad Y 30 0), .int p1]).length) Slot.unset).toArray = ls at hl ⊢
  have hl : lv_has ls 2 [(0, .ref (x_ad Y 30 0)), (1, .int p1)] := hl
  generalize s.heap = H at hw ⊢
  generalize ([] : List Loc) = locs at hw ⊢
  unfold w_Mod_log at h
  refine lv_aload_n hx hb d_Mod_log_0 rfl (lv_at hl 0 rfl) ?_
  refine lv_iload_n hx hb d_Mod_log_1 rfl (lv_at hl 1 rfl) ?_
  refine lv_if_lt (tgt := 13) hx hb d_Mod_log_2 (by decide) (fun c1 => ?_) (fun c1 => ?_)
  · replace h := h.1 c1
    refine lv_iconst (v := 1) hx hb d_Mod_log_13 (by decide) ?_
    refine lv_goto (tgt := 18) hx hb d_Mod_log_14 (by decide) ?_
    refine x_putI (t := 30) (i := 0) (j := 0) hx hb hK hw hown ok0_ rfl (by decide) (by decide) (x_wd hK k_798 rfl) (fun _ h => h) rfl rfl d_Mod_log_18 (fun I2 H locs e_I2 hw => ?_)
    replace h := h I2 e_I2
    refine lv_aload_n hx hb d_Mod_log_21 rfl (lv_at hl 0 rfl) ?_
    refine x_getI (t := 30) (i := 0) (j := 0) hx hb hK hw hown ok0_ rfl (by decide) (by decide) (x_wd hK k_798 rfl) (fun _ h => h) fk_8_0 d_Mod_log_22 ?_
    refine lv_if_le (tgt := 32) hx hb d_Mod_log_25 (by decide) (fun c3 => ?_) (fun c3 => ?_)
    · replace h := h.1 c3
      refine lv_aload_n hx hb d_Mod_log_32 rfl (lv_at hl 0 rfl) ?_
      refine x_getR (t := 30) (i := 0) (j := 10) hx hb hK hw hown ok0_ rfl (by decide) (by decide) (x_wd hK k_808 rfl) (fun _ h => h) fk_8_10 (hY.r ok0_ rfl) d_Mod_log_33 ?_
      have ok4 := hY.ok 10 ok0_ (t' := 50) (i' := 0) rfl
      refine lv_iload_n hx hb d_Mod_log_36 rfl (lv_at hl 1 rfl) ?_
      refine x_iald (t := 50) (i := 0) hx hb hK hw ok4 rfl (hY.n ok4 rfl) h.1 d_Mod_log_37 ?_
      replace h := h.2
      exact x_iret hx hb hr hlk hw ⟨rfl, Or.inl ⟨_, rfl, ⟨rfl, rfl, rfl, h⟩⟩⟩ hbd d_Mod_log_38
    · replace h := h.2 c3
      refine lv_iconst (v := 0) hx hb d_Mod_log_28 (by decide) ?_
      refine lv_goto (tgt := 38) hx hb d_Mod_log_29 (by decide) ?_
      exact x_iret hx hb hr hlk hw ⟨rfl, Or.inl ⟨_, rfl, ⟨rfl, rfl, rfl, h⟩⟩⟩ hbd d_Mod_log_38
  · replace h := h.2 c1
    refine lv_iload_n hx hb d_Mod_log_5 rfl (lv_at hl 1 rfl) ?_
    refine lv_aload_n hx hb d_Mod_log_6 rfl (lv_at hl 0 rfl) ?_
    refine x_getI (t := 30) (i := 0) (j := 11) hx hb hK hw hown ok0_ rfl (by decide) (by decide) (x_wd hK k_809 rfl) (fun _ h => h) fk_8_11 d_Mod_log_7 ?_
    refine lv_icmp_lt (tgt := 17) hx hb d_Mod_log_10 (by decide) (fun c5 => ?_) (fun c5 => ?_)
    · replace h := h.1 c5
      refine lv_iconst (v := 0) hx hb d_Mod_log_17 (by decide) ?_
      refine x_putI (t := 30) (i := 0) (j := 0) hx hb hK hw hown ok0_ rfl (by decide) (by decide) (x_wd hK k_798 rfl) (fun _ h => h) rfl rfl d_Mod_log_18 (fun I6 H locs e_I6 hw => ?_)
      replace h := h I6 e_I6
      refine lv_aload_n hx hb d_Mod_log_21 rfl (lv_at hl 0 rfl) ?_
      refine x_getI (t := 30) (i := 0) (j := 0) hx hb hK hw hown ok0_ rfl (by decide) (by decide) (x_wd hK k_798 rfl) (fun _ h => h) fk_8_0 d_Mod_log_22 ?_
      refine lv_if_le (tgt := 32) hx hb d_Mod_log_25 (by decide) (fun c7 => ?_) (fun c7 => ?_)
      · replace h := h.1 c7
        refine lv_aload_n hx hb d_Mod_log_32 rfl (lv_at hl 0 rfl) ?_
        refine x_getR (t := 30) (i := 0) (j := 10) hx hb hK hw hown ok0_ rfl (by decide) (by decide) (x_wd hK k_808 rfl) (fun _ h => h) fk_8_10 (hY.r ok0_ rfl) d_Mod_log_33 ?_
        have ok8 := hY.ok 10 ok0_ (t' := 50) (i' := 0) rfl
        refine lv_iload_n hx hb d_Mod_log_36 rfl (lv_at hl 1 rfl) ?_
        refine x_iald (t := 50) (i := 0) hx hb hK hw ok8 rfl (hY.n ok8 rfl) h.1 d_Mod_log_37 ?_
        replace h := h.2
        exact x_iret hx hb hr hlk hw ⟨rfl, Or.inl ⟨_, rfl, ⟨rfl, rfl, rfl, h⟩⟩⟩ hbd d_Mod_log_38
      · replace h := h.2 c7
        refine lv_iconst (v := 0) hx hb d_Mod_log_28 (by decide) ?_
        refine lv_goto (tgt := 38) hx hb d_Mod_log_29 (by decide) ?_
        exact x_iret hx hb hr hlk hw ⟨rfl, Or.inl ⟨_, rfl, ⟨rfl, rfl, rfl, h⟩⟩⟩ hbd d_Mod_log_38
    · replace h := h.2 c5
      refine lv_iconst (v := 1) hx hb d_Mod_log_13 (by decide) ?_
      refine lv_goto (tgt := 18) hx hb d_Mod_log_14 (by decide) ?_
      refine x_putI (t := 30) (i := 0) (j := 0) hx hb hK hw hown ok0_ rfl (by decide) (by decide) (x_wd hK k_798 rfl) (fun _ h => h) rfl rfl d_Mod_log_18 (fun I9 H locs e_I9 hw => ?_)
      replace h := h I9 e_I9
      refine lv_aload_n hx hb d_Mod_log_21 rfl (lv_at hl 0 rfl) ?_
      refine x_getI (t := 30) (i := 0) (j := 0) hx hb hK hw hown ok0_ rfl (by decide) (by decide) (x_wd hK k_798 rfl) (fun _ h => h) fk_8_0 d_Mod_log_22 ?_
      refine lv_if_le (tgt := 32) hx hb d_Mod_log_25 (by decide) (fun c10 => ?_) (fun c10 => ?_)
      · replace h := h.1 c10
        refine lv_aload_n hx hb d_Mod_log_32 rfl (lv_at hl 0 rfl) ?_
        refine x_getR (t := 30) (i := 0) (j := 10) hx hb hK hw hown ok0_ rfl (by decide) (by decide) (x_wd hK k_808 rfl) (fun _ h => h) fk_8_10 (hY.r ok0_ rfl) d_Mod_log_33 ?_
        have ok11 := hY.ok 10 ok0_ (t' := 50) (i' := 0) rfl
        refine lv_iload_n hx hb d_Mod_log_36 rfl (lv_at hl 1 rfl) ?_
        refine x_iald (t := 50) (i := 0) hx hb hK hw ok11 rfl (hY.n ok11 rfl) h.1 d_Mod_log_37 ?_
        replace h := h.2
        exact x_iret hx hb hr hlk hw ⟨rfl, Or.inl ⟨_, rfl, ⟨rfl, rfl, rfl, h⟩⟩⟩ hbd d_Mod_log_38
      · replace h := h.2 c10
        refine lv_iconst (v := 0) hx hb d_Mod_log_28 (by decide) ?_
        refine lv_goto (tgt := 38) hx hb d_Mod_log_29 (by decide) ?_
        exact x_iret hx hb hr hlk hw ⟨rfl, Or.inl ⟨_, rfl, ⟨rfl, rfl, rfl, h⟩⟩⟩ hbd d_Mod_log_38
def w_Mod_used (Q : Int32 → x_I → Prop) (I : x_I) : Prop :=
  ∀ I1 : x_I, I1 = x_u I 30 0 0 (0 : Int32) →
  Q (I1 30 0 33) I1
set_option maxRecDepth 100000 in
set_option maxHeartbeats 4000000 in
theorem c_Mod_used {l : Launch} {g : x_G} {Y : x_Y} (hY : x_Y0 g Y) (ok0_ : x_ok Y 30 0) {Q : Int32 → x_I → Prop} {L : x_L} {I : x_I} {k n : Nat} (h : w_Mod_used Q I) : x_C l y_Mod_used 0 g [.ref (x_ad Y 30 0)] Y L I k n (x_pI Y (fun v L' I' k' n' => L' = L ∧ k' = k ∧ n' = n ∧ Q v I') x_nx) := by
  refine x_mth k_965 ?_
  intro p e R s m below meth c hE hnm hexn hw hk1 hn1
  obtain ⟨hx, hb, hml, hr, hlk, hown, hK, htr, hF, hLo, hRc, hRs⟩ := id hE
  have hbd : x_bd k n k n := ⟨Nat.le_refl _, hk1, Nat.le_refl _, hn1⟩
  have hl := lv_entry ([.ref (x_ad Y 30 0)]) (n := 1) (Nat.le_of_ble_eq_true rfl)
  generalize (lg_sl [.ref (x_ad Y 30 0)] ++ List.replicate (1 - (lg_sl [.ref (x_ad Y 30 0)]).length) Slot.unset).toArray = ls at hl ⊢
  have hl : lv_has ls 1 [(0, .ref (x_ad Y 30 0))] := hl
  generalize s.heap = H at hw ⊢
  generalize ([] : List Loc) = locs at hw ⊢
  unfold w_Mod_used at h
  refine lv_aload_n hx hb d_Mod_used_0 rfl (lv_at hl 0 rfl) ?_
  refine lv_iconst (v := 0) hx hb d_Mod_used_1 (by decide) ?_
  refine x_putI (t := 30) (i := 0) (j := 0) hx hb hK hw hown ok0_ rfl (by decide) (by decide) (x_wd hK k_798 rfl) (fun _ h => h) rfl rfl d_Mod_used_2 (fun I1 H locs e_I1 hw => ?_)
  replace h := h I1 e_I1
  refine lv_aload_n hx hb d_Mod_used_5 rfl (lv_at hl 0 rfl) ?_
  refine x_getI (t := 30) (i := 0) (j := 33) hx hb hK hw hown ok0_ rfl (by decide) (by decide) (x_wd hK k_831 rfl) (fun _ h => h) fk_8_33 d_Mod_used_6 ?_
  exact x_iret hx hb hr hlk hw ⟨rfl, Or.inl ⟨_, rfl, ⟨rfl, rfl, rfl, h⟩⟩⟩ hbd d_Mod_used_9
def w_Mod_result (Q : Int32 → x_I → Prop) (I : x_I) : Prop :=
  ∀ I1 : x_I, I1 = x_u I 30 0 0 (0 : Int32) →
  Q (I1 30 0 31) I1
set_option maxRecDepth 100000 in
set_option maxHeartbeats 4000000 in
theorem c_Mod_result {l : Launch} {g : x_G} {Y : x_Y} (hY : x_Y0 g Y) (ok0_ : x_ok Y 30 0) {Q : Int32 → x_I → Prop} {L : x_L} {I : x_I} {k n : Nat} (h : w_Mod_result Q I) : x_C l y_Mod_result 0 g [.ref (x_ad Y 30 0)] Y L I k n (x_pI Y (fun v L' I' k' n' => L' = L ∧ k' = k ∧ n' = n ∧ Q v I') x_nx) := by
  refine x_mth k_969 ?_
  intro p e R s m below meth c hE hnm hexn hw hk1 hn1
  obtain ⟨hx, hb, hml, hr, hlk, hown, hK, htr, hF, hLo, hRc, hRs⟩ := id hE
  have hbd : x_bd k n k n := ⟨Nat.le_refl _, hk1, Nat.le_refl _, hn1⟩
  have hl := lv_entry ([.ref (x_ad Y 30 0)]) (n := 1) (Nat.le_of_ble_eq_true rfl)
  generalize (lg_sl [.ref (x_ad Y 30 0)] ++ List.replicate (1 - (lg_sl [.ref (x_ad Y 30 0)]).length) Slot.unset).toArray = ls at hl ⊢
  have hl : lv_has ls 1 [(0, .ref (x_ad Y 30 0))] := hl
  generalize s.heap = H at hw ⊢
  generalize ([] : List Loc) = locs at hw ⊢
  unfold w_Mod_result at h
  refine lv_aload_n hx hb d_Mod_result_0 rfl (lv_at hl 0 rfl) ?_
  refine lv_iconst (v := 0) hx hb d_Mod_result_1 (by decide) ?_
  refine x_putI (t := 30) (i := 0) (j := 0) hx hb hK hw hown ok0_ rfl (by decide) (by decide) (x_wd hK k_798 rfl) (fun _ h => h) rfl rfl d_Mod_result_2 (fun I1 H locs e_I1 hw => ?_)
  replace h := h I1 e_I1
  refine lv_aload_n hx hb d_Mod_result_5 rfl (lv_at hl 0 rfl) ?_
  refine x_getI (t := 30) (i := 0) (j := 31) hx hb hK hw hown ok0_ rfl (by decide) (by decide) (x_wd hK k_829 rfl) (fun _ h => h) fk_8_31 d_Mod_result_6 ?_
  exact x_iret hx hb hr hlk hw ⟨rfl, Or.inl ⟨_, rfl, ⟨rfl, rfl, rfl, h⟩⟩⟩ hbd d_Mod_result_9
