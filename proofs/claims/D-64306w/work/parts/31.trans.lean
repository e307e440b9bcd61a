def w_Led_transact (Q : Int32 → x_L → x_I → Nat → Nat → Prop) (X : x_XT) (PL : (Int32 → x_L → x_I → Nat → Nat → Prop) → Nat → Nat → Int32 → x_L → x_I → Nat → Nat → Prop) (nA : Nat) (p1 : Int32) (p2 : Int32) (p3 : Int32) (p4 : Int32) (L : x_L) (I : x_I) (k n : Nat) : Prop :=
  w_Led_account (fun a1 k2 n2 =>
    w_Led_account (fun a4 k5 n5 =>
      ((p3 < 0 →
        w_Led_fits (fun k8 n8 =>
          ∀ I11 : x_I, I11 = x_u I 8 0 4 (0 : Int32) →
          vp_in (0 : Int32) 8 ∧
          ∀ d13 : Nat, d13 = (0 : Int32).toNatClampNeg →
          w_Run_begin (fun I15 =>
            (¬ (0 : Int32) < 0 ∧ ¬ (0 : Int32) < 0 ∧ ¬ (I15 0 0 4) < 0 ∧ (0 : Int32).toNatClampNeg + (I15 0 0 4).toNatClampNeg ≤ 8 ∧ (0 : Int32).toNatClampNeg + (I15 0 0 4).toNatClampNeg ≤ 8) ∧
            ∀ I18 : x_I, I18 = x_cpI I15 16 0 21 d13 (0 : Int32).toNatClampNeg (0 : Int32).toNatClampNeg (I15 0 0 4).toNatClampNeg →
            ∀ I19 : x_I, I19 = x_u I18 0 0 4 (0 : Int32) →
            PL (fun r20 L21 I22 k23 n23 =>
              ∀ I24 : x_I, I24 = x_u I22 0 0 5 (p4 - (I22 20 d13 11)) →
              ∀ I25 : x_I, I25 = x_u I24 0 0 6 (I24 20 d13 12) →
              ((r20 = 0 →
                Q (I25 20 d13 13) L21 I25 k23 n23) ∧
              (¬ r20 = 0 →
                Q (0 : Int32) L21 I25 k23 n23))) nA d13 p4 L I19 k8 n8) d13 p2 p1 p3 I11) X (0 : Int32) L I k5 n5) ∧
      (¬ p3 < 0 →
        (((I 23 a1 0) < p3 →
          w_Led_fits (fun k28 n28 =>
            ∀ I31 : x_I, I31 = x_u I 8 0 4 (0 : Int32) →
            vp_in (0 : Int32) 8 ∧
            ∀ d33 : Nat, d33 = (0 : Int32).toNatClampNeg →
            w_Run_begin (fun I35 =>
              (¬ (0 : Int32) < 0 ∧ ¬ (0 : Int32) < 0 ∧ ¬ (I35 0 0 4) < 0 ∧ (0 : Int32).toNatClampNeg + (I35 0 0 4).toNatClampNeg ≤ 8 ∧ (0 : Int32).toNatClampNeg + (I35 0 0 4).toNatClampNeg ≤ 8) ∧
              ∀ I38 : x_I, I38 = x_cpI I35 16 0 21 d33 (0 : Int32).toNatClampNeg (0 : Int32).toNatClampNeg (I35 0 0 4).toNatClampNeg →
              ∀ I39 : x_I, I39 = x_u I38 0 0 4 (0 : Int32) →
              PL (fun r40 L41 I42 k43 n43 =>
                ∀ I44 : x_I, I44 = x_u I42 0 0 5 (p4 - (I42 20 d33 11)) →
                ∀ I45 : x_I, I45 = x_u I44 0 0 6 (I44 20 d33 12) →
                ((r40 = 0 →
                  Q (I45 20 d33 13) L41 I45 k43 n43) ∧
                (¬ r40 = 0 →
                  Q (0 : Int32) L41 I45 k43 n43))) nA d33 p4 L I39 k28 n28) d33 p2 p1 p3 I31) X (0 : Int32) L I k5 n5) ∧
        (¬ (I 23 a1 0) < p3 →
          ((p4 < 0 →
            w_Led_fits (fun k48 n48 =>
              ∀ I51 : x_I, I51 = x_u I 8 0 4 (0 : Int32) →
              vp_in (0 : Int32) 8 ∧
              ∀ d53 : Nat, d53 = (0 : Int32).toNatClampNeg →
              w_Run_begin (fun I55 =>
                (¬ (0 : Int32) < 0 ∧ ¬ (0 : Int32) < 0 ∧ ¬ (I55 0 0 4) < 0 ∧ (0 : Int32).toNatClampNeg + (I55 0 0 4).toNatClampNeg ≤ 8 ∧ (0 : Int32).toNatClampNeg + (I55 0 0 4).toNatClampNeg ≤ 8) ∧
                ∀ I58 : x_I, I58 = x_cpI I55 16 0 21 d53 (0 : Int32).toNatClampNeg (0 : Int32).toNatClampNeg (I55 0 0 4).toNatClampNeg →
                ∀ I59 : x_I, I59 = x_u I58 0 0 4 (0 : Int32) →
                PL (fun r60 L61 I62 k63 n63 =>
                  ∀ I64 : x_I, I64 = x_u I62 0 0 5 (p4 - (I62 20 d53 11)) →
                  ∀ I65 : x_I, I65 = x_u I64 0 0 6 (I64 20 d53 12) →
                  ((r60 = 0 →
                    Q (I65 20 d53 13) L61 I65 k63 n63) ∧
                  (¬ r60 = 0 →
                    Q (0 : Int32) L61 I65 k63 n63))) nA d53 p4 L I59 k48 n48) d53 p2 p1 p3 I51) X (0 : Int32) L I k5 n5) ∧
          (¬ p4 < 0 →
            (((10000 : Int32) < p4 →
              w_Led_fits (fun k68 n68 =>
                ∀ I71 : x_I, I71 = x_u I 8 0 4 (0 : Int32) →
                vp_in (0 : Int32) 8 ∧
                ∀ d73 : Nat, d73 = (0 : Int32).toNatClampNeg →
                w_Run_begin (fun I75 =>
                  (¬ (0 : Int32) < 0 ∧ ¬ (0 : Int32) < 0 ∧ ¬ (I75 0 0 4) < 0 ∧ (0 : Int32).toNatClampNeg + (I75 0 0 4).toNatClampNeg ≤ 8 ∧ (0 : Int32).toNatClampNeg + (I75 0 0 4).toNatClampNeg ≤ 8) ∧
                  ∀ I78 : x_I, I78 = x_cpI I75 16 0 21 d73 (0 : Int32).toNatClampNeg (0 : Int32).toNatClampNeg (I75 0 0 4).toNatClampNeg →
                  ∀ I79 : x_I, I79 = x_u I78 0 0 4 (0 : Int32) →
                  PL (fun r80 L81 I82 k83 n83 =>
                    ∀ I84 : x_I, I84 = x_u I82 0 0 5 (p4 - (I82 20 d73 11)) →
                    ∀ I85 : x_I, I85 = x_u I84 0 0 6 (I84 20 d73 12) →
                    ((r80 = 0 →
                      Q (I85 20 d73 13) L81 I85 k83 n83) ∧
                    (¬ r80 = 0 →
                      Q (0 : Int32) L81 I85 k83 n83))) nA d73 p4 L I79 k68 n68) d73 p2 p1 p3 I71) X (0 : Int32) L I k5 n5) ∧
            (¬ (10000 : Int32) < p4 →
              w_Led_fits (fun k87 n87 =>
                ∀ I90 : x_I, I90 = x_u I 8 0 4 (0 : Int32) →
                vp_in (0 : Int32) 8 ∧
                ∀ d92 : Nat, d92 = (0 : Int32).toNatClampNeg →
                w_Run_begin (fun I94 =>
                  (¬ (0 : Int32) < 0 ∧ ¬ (0 : Int32) < 0 ∧ ¬ (I94 0 0 4) < 0 ∧ (0 : Int32).toNatClampNeg + (I94 0 0 4).toNatClampNeg ≤ 8 ∧ (0 : Int32).toNatClampNeg + (I94 0 0 4).toNatClampNeg ≤ 8) ∧
                  ∀ I97 : x_I, I97 = x_cpI I94 16 0 21 d92 (0 : Int32).toNatClampNeg (0 : Int32).toNatClampNeg (I94 0 0 4).toNatClampNeg →
                  ∀ I98 : x_I, I98 = x_u I97 0 0 4 (0 : Int32) →
                  PL (fun r99 L100 I101 k102 n102 =>
                    ∀ I103 : x_I, I103 = x_u I101 0 0 5 (p4 - (I101 20 d92 11)) →
                    ∀ I104 : x_I, I104 = x_u I103 0 0 6 (I103 20 d92 12) →
                    ((r99 = 0 →
                      Q (I104 20 d92 13) L100 I104 k102 n102) ∧
                    (¬ r99 = 0 →
                      Q (0 : Int32) L100 I104 k102 n102))) nA d92 p4 L I98 k87 n87) d92 p2 p1 p3 I90) X (1 : Int32) L I k5 n5))))))))) X nA p2 L I k2 n2) X nA p1 L I k n
set_option maxRecDepth 100000 in
set_option maxHeartbeats 4000000 in
theorem c_Led_transact {l : Launch} {g : x_G} {Y : x_Y} (hY : x_Y0 g Y) {nA : Nat} (hLs : x_Ls Y nA) (hT18 : ¬ x_ok Y 18 0) (hT19 : ¬ x_ok Y 19 0) {Fp : Nat} {PL : (Int32 → x_L → x_I → Nat → Nat → Prop) → Nat → Nat → Int32 → x_L → x_I → Nat → Nat → Prop} (hPL : ∀ {Q' : Int32 → x_L → x_I → Nat → Nat → Prop} {d' : Nat} {q1 : Int32} {L' : x_L} {I' : x_I} {k' n' : Nat}, x_ok Y 20 d' → PL Q' nA d' q1 L' I' k' n' → x_C l y_Run_plays Fp g [.ref (x_ad Y 20 d'), .int q1] Y L' I' k' n' (x_pI Y Q' x_nx)) {p1 : Int32} {p2 : Int32} {p3 : Int32} {p4 : Int32} (ok0_ : x_ok Y 0 0) {Q : Int32 → x_L → x_I → Nat → Nat → Prop} {X : x_XT} {L : x_L} {I : x_I} {k n : Nat} (h : w_Led_transact Q X PL nA p1 p2 p3 p4 L I k n) : x_C l y_Led_transact (Fp + 7) g [.ref (x_ad Y 0 0), .int p1, .int p2, .int p3, .int p4] Y L I k n (x_pI Y (fun v L' I' k' n' => Q v L' I' k' n') X) := by
  refine x_mth k_615 ?_
  intro p e R s m below meth c hE hnm hexn hw hk1 hn1
  obtain ⟨hx, hb, hml, hr, hlk, hown, hK, htr, hF, hLo, hRc, hRs⟩ := id hE
  have hbd : x_bd k n k n := ⟨Nat.le_refl _, hk1, Nat.le_refl _, hn1⟩
  have hl := lv_entry ([.ref (x_ad Y 0 0), .int p1, .int p2, .int p3, .int p4]) (n := 8) (Nat.le_of_ble_eq_true rfl)
  generalize (lg_sl [.ref (x_ad Y 0 0), .int p1, .int p2, .int p3, .int p4] ++ List.replicate (8 - (lg_sl [.ref (x_ad Y 0 0), .int p1, .int p2, .int p3, .int p4]).length) Slot.unset).toArray = ls at hl ⊢
  have hl : lv_has ls 8 [(0, .ref (x_ad Y 0 0)), (1, .int p1), (2, .int p2), (3, .int p3), (4, .int p4)] := hl
  generalize s.heap = H at hw ⊢
  generalize ([] : List Loc) = locs at hw ⊢
  unfold w_Led_transact at h
  refine lv_aload_n hx hb d_Led_transact_0 rfl (lv_at hl 0 rfl) ?_
  refine lv_iload_n hx hb d_Led_transact_1 rfl (lv_at hl 1 rfl) ?_
  refine x_goR (ls := ls) (rest := []) hE hw (c_Led_account hY hLs ok0_ h) (x_cd hK k_534) q_Led_account (by omega) (by omega) hl.1 (Nat.le_of_ble_eq_true rfl) hbd d_Led_transact_2 (x_toV (As := [.int p1]) (b := (x_ad Y 0 0)) hx hb hown hK (x_recv hK hw ok0_ rfl (by decide)) k_531 k_533 ks_4 ⟨_, x_cd hK k_534⟩ q_Led_account rfl rfl d_Led_transact_2) (fun a1 L9 I9 k2 n2 H locs ok3 h hw hb9 => ?_) (fun kx L9 I9 k9 n9 H locs h hw hb9 => x_thr hlk (fun x h9 => by rw [hexn] at h9; cases h9) hw ⟨rfl, Or.inr ⟨kx, rfl, h⟩⟩ (hbd.tr hb9))
  obtain ⟨e1, e2, h⟩ := h
  rw [e1, e2] at hw
  replace hbd := hbd.tr hb9
  refine lv_astore (lv' := [(5, .ref (x_ad Y 23 a1)), (0, .ref (x_ad Y 0 0)), (1, .int p1), (2, .int p2), (3, .int p3), (4, .int p4)]) hx hb d_Led_transact_5 hl (by decide) rfl (fun ls hl => ?_)
  refine lv_aload_n hx hb d_Led_transact_7 rfl (lv_at hl 1 rfl) ?_
  refine lv_iload_n hx hb d_Led_transact_8 rfl (lv_at hl 3 rfl) ?_
  refine x_goR (ls := ls) (rest := []) hE hw (c_Led_account hY hLs ok0_ h) (x_cd hK k_534) q_Led_account (by omega) (by omega) hl.1 (Nat.le_of_ble_eq_true rfl) hbd d_Led_transact_9 (x_toV (As := [.int p2]) (b := (x_ad Y 0 0)) hx hb hown hK (x_recv hK hw ok0_ rfl (by decide)) k_531 k_533 ks_4 ⟨_, x_cd hK k_534⟩ q_Led_account rfl rfl d_Led_transact_9) (fun a4 L9 I9 k5 n5 H locs ok6 h hw hb9 => ?_) (fun kx L9 I9 k9 n9 H locs h hw hb9 => x_thr hlk (fun x h9 => by rw [hexn] at h9; cases h9) hw ⟨rfl, Or.inr ⟨kx, rfl, h⟩⟩ (hbd.tr hb9))
  obtain ⟨e1, e2, h⟩ := h
  rw [e1, e2] at hw
  replace hbd := hbd.tr hb9
  refine lv_pop hx hb d_Led_transact_12 rfl ?_
  refine lv_iload_n hx hb d_Led_transact_13 rfl (lv_at hl 4 rfl) ?_
  refine lv_if_lt (tgt := 43) hx hb d_Led_transact_14 (by decide) (fun c7 => ?_) (fun c7 => ?_)
  · replace h := h.1 c7
    refine lv_iconst (v := 0) hx hb d_Led_transact_43 (by decide) ?_
    refine x_goV (ls := ls) (rest := []) hE hw (c_Led_fits hY h) (x_cd hK k_329) q_Led_fits (by omega) (by omega) hl.1 (Nat.le_of_ble_eq_true rfl) hbd d_Led_transact_44 (x_toS (As := [.int (0 : Int32)]) hx hb hown hK k_327 k_328 k_1 ⟨_, x_cd hK k_329⟩ q_Led_fits rfl rfl d_Led_transact_44) (fun L9 I9 k8 n8 H locs h hw hb9 => ?_) (fun kx L9 I9 k9 n9 H locs h hw hb9 => x_thr hlk (fun x h9 => by rw [hexn] at h9; cases h9) hw ⟨rfl, Or.inr ⟨kx, rfl, h⟩⟩ (hbd.tr hb9))
    obtain ⟨e1, e2, h⟩ := h
    rw [e1, e2] at hw
    replace hbd := hbd.tr hb9
    refine lv_aload_n hx hb d_Led_transact_47 rfl (lv_at hl 1 rfl) ?_
    refine x_getR (t := 0) (i := 0) (j := 0) hx hb hK hw hown ok0_ rfl (by decide) (by decide) (x_wd hK k_220 rfl) (fun _ h => h) fk_0_0 (hY.r ok0_ rfl) d_Led_transact_48 ?_
    have ok9 := hY.ok 0 ok0_ (t' := 1) (i' := 0) rfl
    refine x_getRN (t := 1) (i := 0) (j := 2) hx hb hK hw hown ok9 rfl (by decide) (by decide) (x_wdF hK k_135) (fun _ h => h) fk_1_2 (hY.r ok9 rfl) d_Led_transact_51 ?_
    have ok10 := hY.ok 2 ok9 (t' := 8) (i' := 0) rfl
    refine lv_iconst (v := 0) hx hb d_Led_transact_54 (by decide) ?_
    refine x_putIN (t := 8) (i := 0) (j := 4) hx hb hK hw hown ok10 rfl (by decide) (by decide) (x_wdF hK k_113) (fun _ h => h) rfl rfl d_Led_transact_55 (fun I11 H locs e_I11 hw => ?_)
    replace h := h I11 e_I11
    refine lv_aload_n hx hb d_Led_transact_58 rfl (lv_at hl 1 rfl) ?_
    refine x_getR (t := 0) (i := 0) (j := 2) hx hb hK hw hown ok0_ rfl (by decide) (by decide) (x_wd hK k_222 rfl) (fun _ h => h) fk_0_2 (hY.r ok0_ rfl) d_Led_transact_59 ?_
    have ok12 := hY.ok 2 ok0_ (t' := 15) (i' := 0) rfl
    refine lv_iconst (v := 0) hx hb d_Led_transact_62 (by decide) ?_
    obtain ⟨d13, e_d13⟩ : ∃ z : Nat, z = (0 : Int32).toNatClampNeg := ⟨_, rfl⟩
    have l_d13 : d13 < 8 := by rw [e_d13]; exact Nat.not_le.mp fun z => h.1 (Or.inr z)
    refine x_aald (t := 15) (i := 0) (a := x_ad Y 20 d13) hx hb hK hw ok12 rfl (by decide) (by decide) (hY.n ok12 rfl) h.1 (by rw [← e_d13]; exact hY.r ok12 (if_pos l_d13)) d_Led_transact_63 ?_
    have ok14 := hY.ok d13 ok12 (t' := 20) (i' := d13) (if_pos l_d13)
    replace h := h.2 d13 e_d13
    refine lv_astore (lv' := [(6, .ref (x_ad Y 20 d13)), (5, .ref (x_ad Y 23 a1)), (0, .ref (x_ad Y 0 0)), (1, .int p1), (2, .int p2), (3, .int p3), (4, .int p4)]) hx hb d_Led_transact_64 hl (by decide) rfl (fun ls hl => ?_)
    refine lv_aload hx hb d_Led_transact_66 (lv_at hl 0 rfl) ?_
    refine lv_iload_n hx hb d_Led_transact_68 rfl (lv_at hl 4 rfl) ?_
    refine lv_iload_n hx hb d_Led_transact_69 rfl (lv_at hl 3 rfl) ?_
    refine lv_iload_n hx hb d_Led_transact_70 rfl (lv_at hl 5 rfl) ?_
    refine x_goV (ls := ls) (rest := []) hE hw (c_Run_begin hY ok14 h) (x_cd hK k_619) q_Run_begin (by omega) (by omega) hl.1 (Nat.le_of_ble_eq_true rfl) hbd d_Led_transact_71 (x_toV (As := [.int p2, .int p1, .int p3]) (b := (x_ad Y 20 d13)) hx hb hown hK (x_recv hK hw ok14 rfl (by decide)) k_616 k_617 k_618 ⟨_, x_cd hK k_619⟩ q_Run_begin rfl rfl d_Led_transact_71) (fun L9 I15 k9 n9 H locs h hw hb9 => ?_) (fun _ _ _ _ _ _ _ h9 => h9.elim)
    obtain ⟨e1, e3, e4, h⟩ := h
    rw [e1] at hw
    rw [e3, e4]
    refine lv_aload_n hx hb d_Led_transact_74 rfl (lv_at hl 2 rfl) ?_
    refine x_getR (t := 0) (i := 0) (j := 3) hx hb hK hw hown ok0_ rfl (by decide) (by decide) (x_wd hK k_223 rfl) (fun _ h => h) fk_0_3 (hY.r ok0_ rfl) d_Led_transact_75 ?_
    have ok16 := hY.ok 3 ok0_ (t' := 16) (i' := 0) rfl
    refine lv_iconst (v := 0) hx hb d_Led_transact_78 (by decide) ?_
    refine lv_aload hx hb d_Led_transact_79 (lv_at hl 0 rfl) ?_
    refine x_getRN (t := 20) (i := d13) (j := 7) hx hb hK hw hown ok14 rfl (by decide) (by decide) (x_wdF hK k_181) (fun _ h => h) fk_5_7 (hY.r ok14 rfl) d_Led_transact_81 ?_
    have ok17 := hY.ok 7 ok14 (t' := 21) (i' := d13) rfl
    refine lv_iconst (v := 0) hx hb d_Led_transact_84 (by decide) ?_
    refine lv_aload_n hx hb d_Led_transact_85 rfl (lv_at hl 2 rfl) ?_
    refine x_getI (t := 0) (i := 0) (j := 4) hx hb hK hw hown ok0_ rfl (by decide) (by decide) (x_wd hK k_224 rfl) (fun _ h => h) fk_0_4 d_Led_transact_86 ?_
    refine x_copyI (t0 := 16) (i0 := 0) (t1 := 21) (i1 := d13) (rest := []) hx hb (hml.trans hl.1.symm) hK hw hown k_620 k_496 k_495 k_21 ok16 ok17 rfl rfl (hY.n ok16 rfl) (hY.n ok17 rfl) h.1.1 h.1.2.1 h.1.2.2.1 h.1.2.2.2.1 h.1.2.2.2.2 (Nat.le_trans (by omega) hF) (Nat.le_trans (by omega) hLo) (Nat.le_of_ble_eq_true rfl) d_Led_transact_89 (fun I18 H locs e_I18 hw => ?_)
    replace h := h.2 I18 e_I18
    refine lv_aload_n hx hb d_Led_transact_92 rfl (lv_at hl 2 rfl) ?_
    refine lv_iconst (v := 0) hx hb d_Led_transact_93 (by decide) ?_
    refine x_putI (t := 0) (i := 0) (j := 4) hx hb hK hw hown ok0_ rfl (by decide) (by decide) (x_wd hK k_224 rfl) (fun _ h => h) rfl rfl d_Led_transact_94 (fun I19 H locs e_I19 hw => ?_)
    replace h := h I19 e_I19
    refine lv_aload hx hb d_Led_transact_97 (lv_at hl 0 rfl) ?_
    refine lv_iload hx hb d_Led_transact_99 (lv_at hl 6 rfl) ?_
    refine x_goI (ls := ls) (rest := []) hE hw (hPL ok14 h) (x_cdW hK k_624) q_Run_plays (by omega) (by omega) hl.1 (Nat.le_of_ble_eq_true rfl) hbd d_Led_transact_101 (x_toV (As := [.int p4]) (b := (x_ad Y 20 d13)) hx hb hown hK (x_recv hK hw ok14 rfl (by decide)) k_621 k_622 k_623 ⟨_, x_cdW hK k_624⟩ q_Run_plays rfl rfl d_Led_transact_101) (fun r20 L21 I22 k23 n23 H locs h hw hb9 => ?_) (fun _ _ _ _ _ _ _ h9 => h9.elim)
    replace hbd := hbd.tr hb9
    try dsimp only at h
    refine lv_istore (lv' := [(7, .int r20), (6, .ref (x_ad Y 20 d13)), (5, .ref (x_ad Y 23 a1)), (0, .ref (x_ad Y 0 0)), (1, .int p1), (2, .int p2), (3, .int p3), (4, .int p4)]) hx hb d_Led_transact_104 hl (by decide) rfl (fun ls hl => ?_)
    refine lv_aload_n hx hb d_Led_transact_106 rfl (lv_at hl 3 rfl) ?_
    refine lv_iload hx hb d_Led_transact_107 (lv_at hl 7 rfl) ?_
    refine lv_aload hx hb d_Led_transact_109 (lv_at hl 1 rfl) ?_
    refine x_getIN (t := 20) (i := d13) (j := 11) hx hb hK hw hown ok14 rfl (by decide) (by decide) (x_wdF hK k_186) (fun _ h => h) fk_5_11 d_Led_transact_111 ?_
    refine lv_isub hx hb d_Led_transact_114 ?_
    refine x_putI (t := 0) (i := 0) (j := 5) hx hb hK hw hown ok0_ rfl (by decide) (by decide) (x_wd hK k_225 rfl) (fun _ h => h) rfl rfl d_Led_transact_115 (fun I24 H locs e_I24 hw => ?_)
    replace h := h I24 e_I24
    refine lv_aload_n hx hb d_Led_transact_118 rfl (lv_at hl 3 rfl) ?_
    refine lv_aload hx hb d_Led_transact_119 (lv_at hl 1 rfl) ?_
    refine x_getIN (t := 20) (i := d13) (j := 12) hx hb hK hw hown ok14 rfl (by decide) (by decide) (x_wdF hK k_188) (fun _ h => h) fk_5_12 d_Led_transact_121 ?_
    refine x_putI (t := 0) (i := 0) (j := 6) hx hb hK hw hown ok0_ rfl (by decide) (by decide) (x_wd hK k_226 rfl) (fun _ h => h) rfl rfl d_Led_transact_124 (fun I25 H locs e_I25 hw => ?_)
    replace h := h I25 e_I25
    refine lv_iload hx hb d_Led_transact_127 (lv_at hl 0 rfl) ?_
    refine lv_if_eq (tgt := 136) hx hb d_Led_transact_129 (by decide) (fun c26 => ?_) (fun c26 => ?_)
    · replace h := h.1 c26
      refine lv_aload hx hb d_Led_transact_136 (lv_at hl 1 rfl) ?_
      refine x_getIN (t := 20) (i := d13) (j := 13) hx hb hK hw hown ok14 rfl (by decide) (by decide) (x_wdF hK k_190) (fun _ h => h) fk_5_13 d_Led_transact_138 ?_
      exact x_iret hx hb hr hlk hw ⟨rfl, Or.inl ⟨_, rfl, h⟩⟩ hbd d_Led_transact_141
    · replace h := h.2 c26
      refine lv_iconst (v := 0) hx hb d_Led_transact_132 (by decide) ?_
      refine lv_goto (tgt := 141) hx hb d_Led_transact_133 (by decide) ?_
      exact x_iret hx hb hr hlk hw ⟨rfl, Or.inl ⟨_, rfl, h⟩⟩ hbd d_Led_transact_141
  · replace h := h.2 c7
    refine lv_iload_n hx hb d_Led_transact_17 rfl (lv_at hl 4 rfl) ?_
    refine lv_aload hx hb d_Led_transact_18 (lv_at hl 0 rfl) ?_
    refine x_getIN (t := 23) (i := a1) (j := 0) hx hb hK hw hown ok3 rfl (by decide) (by decide) (x_wdF hK k_416) (fun _ h => h) fk_7_0 d_Led_transact_20 ?_
    refine lv_icmp_gt (tgt := 43) hx hb d_Led_transact_23 (by decide) (fun c27 => ?_) (fun c27 => ?_)
    · replace h := h.1 c27
      refine lv_iconst (v := 0) hx hb d_Led_transact_43 (by decide) ?_
      refine x_goV (ls := ls) (rest := []) hE hw (c_Led_fits hY h) (x_cd hK k_329) q_Led_fits (by omega) (by omega) hl.1 (Nat.le_of_ble_eq_true rfl) hbd d_Led_transact_44 (x_toS (As := [.int (0 : Int32)]) hx hb hown hK k_327 k_328 k_1 ⟨_, x_cd hK k_329⟩ q_Led_fits rfl rfl d_Led_transact_44) (fun L9 I9 k28 n28 H locs h hw hb9 => ?_) (fun kx L9 I9 k9 n9 H locs h hw hb9 => x_thr hlk (fun x h9 => by rw [hexn] at h9; cases h9) hw ⟨rfl, Or.inr ⟨kx, rfl, h⟩⟩ (hbd.tr hb9))
      obtain ⟨e1, e2, h⟩ := h
      rw [e1, e2] at hw
      replace hbd := hbd.tr hb9
      refine lv_aload_n hx hb d_Led_transact_47 rfl (lv_at hl 1 rfl) ?_
      refine x_getR (t := 0) (i := 0) (j := 0) hx hb hK hw hown ok0_ rfl (by decide) (by decide) (x_wd hK k_220 rfl) (fun _ h => h) fk_0_0 (hY.r ok0_ rfl) d_Led_transact_48 ?_
      have ok29 := hY.ok 0 ok0_ (t' := 1) (i' := 0) rfl
      refine x_getRN (t := 1) (i := 0) (j := 2) hx hb hK hw hown ok29 rfl (by decide) (by decide) (x_wdF hK k_135) (fun _ h => h) fk_1_2 (hY.r ok29 rfl) d_Led_transact_51 ?_
      have ok30 := hY.ok 2 ok29 (t' := 8) (i' := 0) rfl
      refine lv_iconst (v := 0) hx hb d_Led_transact_54 (by decide) ?_
      refine x_putIN (t := 8) (i := 0) (j := 4) hx hb hK hw hown ok30 rfl (by decide) (by decide) (x_wdF hK k_113) (fun _ h => h) rfl rfl d_Led_transact_55 (fun I31 H locs e_I31 hw => ?_)
      replace h := h I31 e_I31
      refine lv_aload_n hx hb d_Led_transact_58 rfl (lv_at hl 1 rfl) ?_
      refine x_getR (t := 0) (i := 0) (j := 2) hx hb hK hw hown ok0_ rfl (by decide) (by decide) (x_wd hK k_222 rfl) (fun _ h => h) fk_0_2 (hY.r ok0_ rfl) d_Led_transact_59 ?_
      have ok32 := hY.ok 2 ok0_ (t' := 15) (i' := 0) rfl
      refine lv_iconst (v := 0) hx hb d_Led_transact_62 (by decide) ?_
      obtain ⟨d33, e_d33⟩ : ∃ z : Nat, z = (0 : Int32).toNatClampNeg := ⟨_, rfl⟩
      have l_d33 : d33 < 8 := by rw [e_d33]; exact Nat.not_le.mp fun z => h.1 (Or.inr z)
      refine x_aald (t := 15) (i := 0) (a := x_ad Y 20 d33) hx hb hK hw ok32 rfl (by decide) (by decide) (hY.n ok32 rfl) h.1 (by rw [← e_d33]; exact hY.r ok32 (if_pos l_d33)) d_Led_transact_63 ?_
      have ok34 := hY.ok d33 ok32 (t' := 20) (i' := d33) (if_pos l_d33)
      replace h := h.2 d33 e_d33
      refine lv_astore (lv' := [(6, .ref (x_ad Y 20 d33)), (5, .ref (x_ad Y 23 a1)), (0, .ref (x_ad Y 0 0)), (1, .int p1), (2, .int p2), (3, .int p3), (4, .int p4)]) hx hb d_Led_transact_64 hl (by decide) rfl (fun ls hl => ?_)
      refine lv_aload hx hb d_Led_transact_66 (lv_at hl 0 rfl) ?_
      refine lv_iload_n hx hb d_Led_transact_68 rfl (lv_at hl 4 rfl) ?_
      refine lv_iload_n hx hb d_Led_transact_69 rfl (lv_at hl 3 rfl) ?_
      refine lv_iload_n hx hb d_Led_transact_70 rfl (lv_at hl 5 rfl) ?_
      refine x_goV (ls := ls) (rest := []) hE hw (c_Run_begin hY ok34 h) (x_cd hK k_619) q_Run_begin (by omega) (by omega) hl.1 (Nat.le_of_ble_eq_true rfl) hbd d_Led_transact_71 (x_toV (As := [.int p2, .int p1, .int p3]) (b := (x_ad Y 20 d33)) hx hb hown hK (x_recv hK hw ok34 rfl (by decide)) k_616 k_617 k_618 ⟨_, x_cd hK k_619⟩ q_Run_begin rfl rfl d_Led_transact_71) (fun L9 I35 k9 n9 H locs h hw hb9 => ?_) (fun _ _ _ _ _ _ _ h9 => h9.elim)
      obtain ⟨e1, e3, e4, h⟩ := h
      rw [e1] at hw
      rw [e3, e4]
      refine lv_aload_n hx hb d_Led_transact_74 rfl (lv_at hl 2 rfl) ?_
      refine x_getR (t := 0) (i := 0) (j := 3) hx hb hK hw hown ok0_ rfl (by decide) (by decide) (x_wd hK k_223 rfl) (fun _ h => h) fk_0_3 (hY.r ok0_ rfl) d_Led_transact_75 ?_
      have ok36 := hY.ok 3 ok0_ (t' := 16) (i' := 0) rfl
      refine lv_iconst (v := 0) hx hb d_Led_transact_78 (by decide) ?_
      refine lv_aload hx hb d_Led_transact_79 (lv_at hl 0 rfl) ?_
      refine x_getRN (t := 20) (i := d33) (j := 7) hx hb hK hw hown ok34 rfl (by decide) (by decide) (x_wdF hK k_181) (fun _ h => h) fk_5_7 (hY.r ok34 rfl) d_Led_transact_81 ?_
      have ok37 := hY.ok 7 ok34 (t' := 21) (i' := d33) rfl
      refine lv_iconst (v := 0) hx hb d_Led_transact_84 (by decide) ?_
      refine lv_aload_n hx hb d_Led_transact_85 rfl (lv_at hl 2 rfl) ?_
      refine x_getI (t := 0) (i := 0) (j := 4) hx hb hK hw hown ok0_ rfl (by decide) (by decide) (x_wd hK k_224 rfl) (fun _ h => h) fk_0_4 d_Led_transact_86 ?_
      refine x_copyI (t0 := 16) (i0 := 0) (t1 := 21) (i1 := d33) (rest := []) hx hb (hml.trans hl.1.symm) hK hw hown k_620 k_496 k_495 k_21 ok36 ok37 rfl rfl (hY.n ok36 rfl) (hY.n ok37 rfl) h.1.1 h.1.2.1 h.1.2.2.1 h.1.2.2.2.1 h.1.2.2.2.2 (Nat.le_trans (by omega) hF) (Nat.le_trans (by omega) hLo) (Nat.le_of_ble_eq_true rfl) d_Led_transact_89 (fun I38 H locs e_I38 hw => ?_)
      replace h := h.2 I38 e_I38
      refine lv_aload_n hx hb d_Led_transact_92 rfl (lv_at hl 2 rfl) ?_
      refine lv_iconst (v := 0) hx hb d_Led_transact_93 (by decide) ?_
      refine x_putI (t := 0) (i := 0) (j := 4) hx hb hK hw hown ok0_ rfl (by decide) (by decide) (x_wd hK k_224 rfl) (fun _ h => h) rfl rfl d_Led_transact_94 (fun I39 H locs e_I39 hw => ?_)
      replace h := h I39 e_I39
      refine lv_aload hx hb d_Led_transact_97 (lv_at hl 0 rfl) ?_
      refine lv_iload hx hb d_Led_transact_99 (lv_at hl 6 rfl) ?_
      refine x_goI (ls := ls) (rest := []) hE hw (hPL ok34 h) (x_cdW hK k_624) q_Run_plays (by omega) (by omega) hl.1 (Nat.le_of_ble_eq_true rfl) hbd d_Led_transact_101 (x_toV (As := [.int p4]) (b := (x_ad Y 20 d33)) hx hb hown hK (x_recv hK hw ok34 rfl (by decide)) k_621 k_622 k_623 ⟨_, x_cdW hK k_624⟩ q_Run_plays rfl rfl d_Led_transact_101) (fun r40 L41 I42 k43 n43 H locs h hw hb9 => ?_) (fun _ _ _ _ _ _ _ h9 => h9.elim)
      replace hbd := hbd.tr hb9
      try dsimp only at h
      refine lv_istore (lv' := [(7, .int r40), (6, .ref (x_ad Y 20 d33)), (5, .ref (x_ad Y 23 a1)), (0, .ref (x_ad Y 0 0)), (1, .int p1), (2, .int p2), (3, .int p3), (4, .int p4)]) hx hb d_Led_transact_104 hl (by decide) rfl (fun ls hl => ?_)
      refine lv_aload_n hx hb d_Led_transact_106 rfl (lv_at hl 3 rfl) ?_
      refine lv_iload hx hb d_Led_transact_107 (lv_at hl 7 rfl) ?_
      refine lv_aload hx hb d_Led_transact_109 (lv_at hl 1 rfl) ?_
      refine x_getIN (t := 20) (i := d33) (j := 11) hx hb hK hw hown ok34 rfl (by decide) (by decide) (x_wdF hK k_186) (fun _ h => h) fk_5_11 d_Led_transact_111 ?_
      refine lv_isub hx hb d_Led_transact_114 ?_
      refine x_putI (t := 0) (i := 0) (j := 5) hx hb hK hw hown ok0_ rfl (by decide) (by decide) (x_wd hK k_225 rfl) (fun _ h => h) rfl rfl d_Led_transact_115 (fun I44 H locs e_I44 hw => ?_)
      replace h := h I44 e_I44
      refine lv_aload_n hx hb d_Led_transact_118 rfl (lv_at hl 3 rfl) ?_
      refine lv_aload hx hb d_Led_transact_119 (lv_at hl 1 rfl) ?_
      refine x_getIN (t := 20) (i := d33) (j := 12) hx hb hK hw hown ok34 rfl (by decide) (by decide) (x_wdF hK k_188) (fun _ h => h) fk_5_12 d_Led_transact_121 ?_
      refine x_putI (t := 0) (i := 0) (j := 6) hx hb hK hw hown ok0_ rfl (by decide) (by decide) (x_wd hK k_226 rfl) (fun _ h => h) rfl rfl d_Led_transact_124 (fun I45 H locs e_I45 hw => ?_)
      replace h := h I45 e_I45
      refine lv_iload hx hb d_Led_transact_127 (lv_at hl 0 rfl) ?_
      refine lv_if_eq (tgt := 136) hx hb d_Led_transact_129 (by decide) (fun c46 => ?_) (fun c46 => ?_)
      · replace h := h.1 c46
        refine lv_aload hx hb d_Led_transact_136 (lv_at hl 1 rfl) ?_
        refine x_getIN (t := 20) (i := d33) (j := 13) hx hb hK hw hown ok34 rfl (by decide) (by decide) (x_wdF hK k_190) (fun _ h => h) fk_5_13 d_Led_transact_138 ?_
        exact x_iret hx hb hr hlk hw ⟨rfl, Or.inl ⟨_, rfl, h⟩⟩ hbd d_Led_transact_141
      · replace h := h.2 c46
        refine lv_iconst (v := 0) hx hb d_Led_transact_132 (by decide) ?_
        refine lv_goto (tgt := 141) hx hb d_Led_transact_133 (by decide) ?_
        exact x_iret hx hb hr hlk hw ⟨rfl, Or.inl ⟨_, rfl, h⟩⟩ hbd d_Led_transact_141
    · replace h := h.2 c27
      refine lv_iload hx hb d_Led_transact_26 (lv_at hl 5 rfl) ?_
      refine lv_if_lt (tgt := 43) hx hb d_Led_transact_28 (by decide) (fun c47 => ?_) (fun c47 => ?_)
      · replace h := h.1 c47
        refine lv_iconst (v := 0) hx hb d_Led_transact_43 (by decide) ?_
        refine x_goV (ls := ls) (rest := []) hE hw (c_Led_fits hY h) (x_cd hK k_329) q_Led_fits (by omega) (by omega) hl.1 (Nat.le_of_ble_eq_true rfl) hbd d_Led_transact_44 (x_toS (As := [.int (0 : Int32)]) hx hb hown hK k_327 k_328 k_1 ⟨_, x_cd hK k_329⟩ q_Led_fits rfl rfl d_Led_transact_44) (fun L9 I9 k48 n48 H locs h hw hb9 => ?_) (fun kx L9 I9 k9 n9 H locs h hw hb9 => x_thr hlk (fun x h9 => by rw [hexn] at h9; cases h9) hw ⟨rfl, Or.inr ⟨kx, rfl, h⟩⟩ (hbd.tr hb9))
        obtain ⟨e1, e2, h⟩ := h
        rw [e1, e2] at hw
        replace hbd := hbd.tr hb9
        refine lv_aload_n hx hb d_Led_transact_47 rfl (lv_at hl 1 rfl) ?_
        refine x_getR (t := 0) (i := 0) (j := 0) hx hb hK hw hown ok0_ rfl (by decide) (by decide) (x_wd hK k_220 rfl) (fun _ h => h) fk_0_0 (hY.r ok0_ rfl) d_Led_transact_48 ?_
        have ok49 := hY.ok 0 ok0_ (t' := 1) (i' := 0) rfl
        refine x_getRN (t := 1) (i := 0) (j := 2) hx hb hK hw hown ok49 rfl (by decide) (by decide) (x_wdF hK k_135) (fun _ h => h) fk_1_2 (hY.r ok49 rfl) d_Led_transact_51 ?_
        have ok50 := hY.ok 2 ok49 (t' := 8) (i' := 0) rfl
        refine lv_iconst (v := 0) hx hb d_Led_transact_54 (by decide) ?_
        refine x_putIN (t := 8) (i := 0) (j := 4) hx hb hK hw hown ok50 rfl (by decide) (by decide) (x_wdF hK k_113) (fun _ h => h) rfl rfl d_Led_transact_55 (fun I51 H locs e_I51 hw => ?_)
        replace h := h I51 e_I51
        refine lv_aload_n hx hb d_Led_transact_58 rfl (lv_at hl 1 rfl) ?_
        refine x_getR (t := 0) (i := 0) (j := 2) hx hb hK hw hown ok0_ rfl (by decide) (by decide) (x_wd hK k_222 rfl) (fun _ h => h) fk_0_2 (hY.r ok0_ rfl) d_Led_transact_59 ?_
        have ok52 := hY.ok 2 ok0_ (t' := 15) (i' := 0) rfl
        refine lv_iconst (v := 0) hx hb d_Led_transact_62 (by decide) ?_
        obtain ⟨d53, e_d53⟩ : ∃ z : Nat, z = (0 : Int32).toNatClampNeg := ⟨_, rfl⟩
        have l_d53 : d53 < 8 := by rw [e_d53]; exact Nat.not_le.mp fun z => h.1 (Or.inr z)
        refine x_aald (t := 15) (i := 0) (a := x_ad Y 20 d53) hx hb hK hw ok52 rfl (by decide) (by decide) (hY.n ok52 rfl) h.1 (by rw [← e_d53]; exact hY.r ok52 (if_pos l_d53)) d_Led_transact_63 ?_
        have ok54 := hY.ok d53 ok52 (t' := 20) (i' := d53) (if_pos l_d53)
        replace h := h.2 d53 e_d53
        refine lv_astore (lv' := [(6, .ref (x_ad Y 20 d53)), (5, .ref (x_ad Y 23 a1)), (0, .ref (x_ad Y 0 0)), (1, .int p1), (2, .int p2), (3, .int p3), (4, .int p4)]) hx hb d_Led_transact_64 hl (by decide) rfl (fun ls hl => ?_)
        refine lv_aload hx hb d_Led_transact_66 (lv_at hl 0 rfl) ?_
        refine lv_iload_n hx hb d_Led_transact_68 rfl (lv_at hl 4 rfl) ?_
        refine lv_iload_n hx hb d_Led_transact_69 rfl (lv_at hl 3 rfl) ?_
        refine lv_iload_n hx hb d_Led_transact_70 rfl (lv_at hl 5 rfl) ?_
        refine x_goV (ls := ls) (rest := []) hE hw (c_Run_begin hY ok54 h) (x_cd hK k_619) q_Run_begin (by omega) (by omega) hl.1 (Nat.le_of_ble_eq_true rfl) hbd d_Led_transact_71 (x_toV (As := [.int p2, .int p1, .int p3]) (b := (x_ad Y 20 d53)) hx hb hown hK (x_recv hK hw ok54 rfl (by decide)) k_616 k_617 k_618 ⟨_, x_cd hK k_619⟩ q_Run_begin rfl rfl d_Led_transact_71) (fun L9 I55 k9 n9 H locs h hw hb9 => ?_) (fun _ _ _ _ _ _ _ h9 => h9.elim)
        obtain ⟨e1, e3, e4, h⟩ := h
        rw [e1] at hw
        rw [e3, e4]
        refine lv_aload_n hx hb d_Led_transact_74 rfl (lv_at hl 2 rfl) ?_
        refine x_getR (t := 0) (i := 0) (j := 3) hx hb hK hw hown ok0_ rfl (by decide) (by decide) (x_wd hK k_223 rfl) (fun _ h => h) fk_0_3 (hY.r ok0_ rfl) d_Led_transact_75 ?_
        have ok56 := hY.ok 3 ok0_ (t' := 16) (i' := 0) rfl
        refine lv_iconst (v := 0) hx hb d_Led_transact_78 (by decide) ?_
        refine lv_aload hx hb d_Led_transact_79 (lv_at hl 0 rfl) ?_
        refine x_getRN (t := 20) (i := d53) (j := 7) hx hb hK hw hown ok54 rfl (by decide) (by decide) (x_wdF hK k_181) (fun _ h => h) fk_5_7 (hY.r ok54 rfl) d_Led_transact_81 ?_
        have ok57 := hY.ok 7 ok54 (t' := 21) (i' := d53) rfl
        refine lv_iconst (v := 0) hx hb d_Led_transact_84 (by decide) ?_
        refine lv_aload_n hx hb d_Led_transact_85 rfl (lv_at hl 2 rfl) ?_
        refine x_getI (t := 0) (i := 0) (j := 4) hx hb hK hw hown ok0_ rfl (by decide) (by decide) (x_wd hK k_224 rfl) (fun _ h => h) fk_0_4 d_Led_transact_86 ?_
        refine x_copyI (t0 := 16) (i0 := 0) (t1 := 21) (i1 := d53) (rest := []) hx hb (hml.trans hl.1.symm) hK hw hown k_620 k_496 k_495 k_21 ok56 ok57 rfl rfl (hY.n ok56 rfl) (hY.n ok57 rfl) h.1.1 h.1.2.1 h.1.2.2.1 h.1.2.2.2.1 h.1.2.2.2.2 (Nat.le_trans (by omega) hF) (Nat.le_trans (by omega) hLo) (Nat.le_of_ble_eq_true rfl) d_Led_transact_89 (fun I58 H locs e_I58 hw => ?_)
        replace h := h.2 I58 e_I58
        refine lv_aload_n hx hb d_Led_transact_92 rfl (lv_at hl 2 rfl) ?_
        refine lv_iconst (v := 0) hx hb d_Led_transact_93 (by decide) ?_
        refine x_putI (t := 0) (i := 0) (j := 4) hx hb hK hw hown ok0_ rfl (by decide) (by decide) (x_wd hK k_224 rfl) (fun _ h => h) rfl rfl d_Led_transact_94 (fun I59 H locs e_I59 hw => ?_)
        replace h := h I59 e_I59
        refine lv_aload hx hb d_Led_transact_97 (lv_at hl 0 rfl) ?_
        refine lv_iload hx hb d_Led_transact_99 (lv_at hl 6 rfl) ?_
        refine x_goI (ls := ls) (rest := []) hE hw (hPL ok54 h) (x_cdW hK k_624) q_Run_plays (by omega) (by omega) hl.1 (Nat.le_of_ble_eq_true rfl) hbd d_Led_transact_101 (x_toV (As := [.int p4]) (b := (x_ad Y 20 d53)) hx hb hown hK (x_recv hK hw ok54 rfl (by decide)) k_621 k_622 k_623 ⟨_, x_cdW hK k_624⟩ q_Run_plays rfl rfl d_Led_transact_101) (fun r60 L61 I62 k63 n63 H locs h hw hb9 => ?_) (fun _ _ _ _ _ _ _ h9 => h9.elim)
        replace hbd := hbd.tr hb9
        try dsimp only at h
        refine lv_istore (lv' := [(7, .int r60), (6, .ref (x_ad Y 20 d53)), (5, .ref (x_ad Y 23 a1)), (0, .ref (x_ad Y 0 0)), (1, .int p1), (2, .int p2), (3, .int p3), (4, .int p4)]) hx hb d_Led_transact_104 hl (by decide) rfl (fun ls hl => ?_)
        refine lv_aload_n hx hb d_Led_transact_106 rfl (lv_at hl 3 rfl) ?_
        refine lv_iload hx hb d_Led_transact_107 (lv_at hl 7 rfl) ?_
        refine lv_aload hx hb d_Led_transact_109 (lv_at hl 1 rfl) ?_
        refine x_getIN (t := 20) (i := d53) (j := 11) hx hb hK hw hown ok54 rfl (by decide) (by decide) (x_wdF hK k_186) (fun _ h => h) fk_5_11 d_Led_transact_111 ?_
        refine lv_isub hx hb d_Led_transact_114 ?_
        refine x_putI (t := 0) (i := 0) (j := 5) hx hb hK hw hown ok0_ rfl (by decide) (by decide) (x_wd hK k_225 rfl) (fun _ h => h) rfl rfl d_Led_transact_115 (fun I64 H locs e_I64 hw => ?_)
        replace h := h I64 e_I64
        refine lv_aload_n hx hb d_Led_transact_118 rfl (lv_at hl 3 rfl) ?_
        refine lv_aload hx hb d_Led_transact_119 (lv_at hl 1 rfl) ?_
        refine x_getIN (t := 20) (i := d53) (j := 12) hx hb hK hw hown ok54 rfl (by decide) (by decide) (x_wdF hK k_188) (fun _ h => h) fk_5_12 d_Led_transact_121 ?_
        refine x_putI (t := 0) (i := 0) (j := 6) hx hb hK hw hown ok0_ rfl (by decide) (by decide) (x_wd hK k_226 rfl) (fun _ h => h) rfl rfl d_Led_transact_124 (fun I65 H locs e_I65 hw => ?_)
        replace h := h I65 e_I65
        refine lv_iload hx hb d_Led_transact_127 (lv_at hl 0 rfl) ?_
        refine lv_if_eq (tgt := 136) hx hb d_Led_transact_129 (by decide) (fun c66 => ?_) (fun c66 => ?_)
        · replace h := h.1 c66
          refine lv_aload hx hb d_Led_transact_136 (lv_at hl 1 rfl) ?_
          refine x_getIN (t := 20) (i := d53) (j := 13) hx hb hK hw hown ok54 rfl (by decide) (by decide) (x_wdF hK k_190) (fun _ h => h) fk_5_13 d_Led_transact_138 ?_
          exact x_iret hx hb hr hlk hw ⟨rfl, Or.inl ⟨_, rfl, h⟩⟩ hbd d_Led_transact_141
        · replace h := h.2 c66
          refine lv_iconst (v := 0) hx hb d_Led_transact_132 (by decide) ?_
          refine lv_goto (tgt := 141) hx hb d_Led_transact_133 (by decide) ?_
          exact x_iret hx hb hr hlk hw ⟨rfl, Or.inl ⟨_, rfl, h⟩⟩ hbd d_Led_transact_141
      · replace h := h.2 c47
        refine lv_iload hx hb d_Led_transact_31 (lv_at hl 5 rfl) ?_
        refine lv_sipush (v := 10000) hx hb d_Led_transact_33 (by decide) ?_
        refine lv_icmp_gt (tgt := 43) hx hb d_Led_transact_36 (by decide) (fun c67 => ?_) (fun c67 => ?_)
        · replace h := h.1 c67
          refine lv_iconst (v := 0) hx hb d_Led_transact_43 (by decide) ?_
          refine x_goV (ls := ls) (rest := []) hE hw (c_Led_fits hY h) (x_cd hK k_329) q_Led_fits (by omega) (by omega) hl.1 (Nat.le_of_ble_eq_true rfl) hbd d_Led_transact_44 (x_toS (As := [.int (0 : Int32)]) hx hb hown hK k_327 k_328 k_1 ⟨_, x_cd hK k_329⟩ q_Led_fits rfl rfl d_Led_transact_44) (fun L9 I9 k68 n68 H locs h hw hb9 => ?_) (fun kx L9 I9 k9 n9 H locs h hw hb9 => x_thr hlk (fun x h9 => by rw [hexn] at h9; cases h9) hw ⟨rfl, Or.inr ⟨kx, rfl, h⟩⟩ (hbd.tr hb9))
          obtain ⟨e1, e2, h⟩ := h
          rw [e1, e2] at hw
          replace hbd := hbd.tr hb9
          refine lv_aload_n hx hb d_Led_transact_47 rfl (lv_at hl 1 rfl) ?_
          refine x_getR (t := 0) (i := 0) (j := 0) hx hb hK hw hown ok0_ rfl (by decide) (by decide) (x_wd hK k_220 rfl) (fun _ h => h) fk_0_0 (hY.r ok0_ rfl) d_Led_transact_48 ?_
          have ok69 := hY.ok 0 ok0_ (t' := 1) (i' := 0) rfl
          refine x_getRN (t := 1) (i := 0) (j := 2) hx hb hK hw hown ok69 rfl (by decide) (by decide) (x_wdF hK k_135) (fun _ h => h) fk_1_2 (hY.r ok69 rfl) d_Led_transact_51 ?_
          have ok70 := hY.ok 2 ok69 (t' := 8) (i' := 0) rfl
          refine lv_iconst (v := 0) hx hb d_Led_transact_54 (by decide) ?_
          refine x_putIN (t := 8) (i := 0) (j := 4) hx hb hK hw hown ok70 rfl (by decide) (by decide) (x_wdF hK k_113) (fun _ h => h) rfl rfl d_Led_transact_55 (fun I71 H locs e_I71 hw => ?_)
          replace h := h I71 e_I71
          refine lv_aload_n hx hb d_Led_transact_58 rfl (lv_at hl 1 rfl) ?_
          refine x_getR (t := 0) (i := 0) (j := 2) hx hb hK hw hown ok0_ rfl (by decide) (by decide) (x_wd hK k_222 rfl) (fun _ h => h) fk_0_2 (hY.r ok0_ rfl) d_Led_transact_59 ?_
          have ok72 := hY.ok 2 ok0_ (t' := 15) (i' := 0) rfl
          refine lv_iconst (v := 0) hx hb d_Led_transact_62 (by decide) ?_
          obtain ⟨d73, e_d73⟩ : ∃ z : Nat, z = (0 : Int32).toNatClampNeg := ⟨_, rfl⟩
          have l_d73 : d73 < 8 := by rw [e_d73]; exact Nat.not_le.mp fun z => h.1 (Or.inr z)
          refine x_aald (t := 15) (i := 0) (a := x_ad Y 20 d73) hx hb hK hw ok72 rfl (by decide) (by decide) (hY.n ok72 rfl) h.1 (by rw [← e_d73]; exact hY.r ok72 (if_pos l_d73)) d_Led_transact_63 ?_
          have ok74 := hY.ok d73 ok72 (t' := 20) (i' := d73) (if_pos l_d73)
          replace h := h.2 d73 e_d73
          refine lv_astore (lv' := [(6, .ref (x_ad Y 20 d73)), (5, .ref (x_ad Y 23 a1)), (0, .ref (x_ad Y 0 0)), (1, .int p1), (2, .int p2), (3, .int p3), (4, .int p4)]) hx hb d_Led_transact_64 hl (by decide) rfl (fun ls hl => ?_)
          refine lv_aload hx hb d_Led_transact_66 (lv_at hl 0 rfl) ?_
          refine lv_iload_n hx hb d_Led_transact_68 rfl (lv_at hl 4 rfl) ?_
          refine lv_iload_n hx hb d_Led_transact_69 rfl (lv_at hl 3 rfl) ?_
          refine lv_iload_n hx hb d_Led_transact_70 rfl (lv_at hl 5 rfl) ?_
          refine x_goV (ls := ls) (rest := []) hE hw (c_Run_begin hY ok74 h) (x_cd hK k_619) q_Run_begin (by omega) (by omega) hl.1 (Nat.le_of_ble_eq_true rfl) hbd d_Led_transact_71 (x_toV (As := [.int p2, .int p1, .int p3]) (b := (x_ad Y 20 d73)) hx hb hown hK (x_recv hK hw ok74 rfl (by decide)) k_616 k_617 k_618 ⟨_, x_cd hK k_619⟩ q_Run_begin rfl rfl d_Led_transact_71) (fun L9 I75 k9 n9 H locs h hw hb9 => ?_) (fun _ _ _ _ _ _ _ h9 => h9.elim)
          obtain ⟨e1, e3, e4, h⟩ := h
          rw [e1] at hw
          rw [e3, e4]
          refine lv_aload_n hx hb d_Led_transact_74 rfl (lv_at hl 2 rfl) ?_
          refine x_getR (t := 0) (i := 0) (j := 3) hx hb hK hw hown ok0_ rfl (by decide) (by decide) (x_wd hK k_223 rfl) (fun _ h => h) fk_0_3 (hY.r ok0_ rfl) d_Led_transact_75 ?_
          have ok76 := hY.ok 3 ok0_ (t' := 16) (i' := 0) rfl
          refine lv_iconst (v := 0) hx hb d_Led_transact_78 (by decide) ?_
          refine lv_aload hx hb d_Led_transact_79 (lv_at hl 0 rfl) ?_
          refine x_getRN (t := 20) (i := d73) (j := 7) hx hb hK hw hown ok74 rfl (by decide) (by decide) (x_wdF hK k_181) (fun _ h => h) fk_5_7 (hY.r ok74 rfl) d_Led_transact_81 ?_
          have ok77 := hY.ok 7 ok74 (t' := 21) (i' := d73) rfl
          refine lv_iconst (v := 0) hx hb d_Led_transact_84 (by decide) ?_
          refine lv_aload_n hx hb d_Led_transact_85 rfl (lv_at hl 2 rfl) ?_
          refine x_getI (t := 0) (i := 0) (j := 4) hx hb hK hw hown ok0_ rfl (by decide) (by decide) (x_wd hK k_224 rfl) (fun _ h => h) fk_0_4 d_Led_transact_86 ?_
          refine x_copyI (t0 := 16) (i0 := 0) (t1 := 21) (i1 := d73) (rest := []) hx hb (hml.trans hl.1.symm) hK hw hown k_620 k_496 k_495 k_21 ok76 ok77 rfl rfl (hY.n ok76 rfl) (hY.n ok77 rfl) h.1.1 h.1.2.1 h.1.2.2.1 h.1.2.2.2.1 h.1.2.2.2.2 (Nat.le_trans (by omega) hF) (Nat.le_trans (by omega) hLo) (Nat.le_of_ble_eq_true rfl) d_Led_transact_89 (fun I78 H locs e_I78 hw => ?_)
          replace h := h.2 I78 e_I78
          refine lv_aload_n hx hb d_Led_transact_92 rfl (lv_at hl 2 rfl) ?_
          refine lv_iconst (v := 0) hx hb d_Led_transact_93 (by decide) ?_
          refine x_putI (t := 0) (i := 0) (j := 4) hx hb hK hw hown ok0_ rfl (by decide) (by decide) (x_wd hK k_224 rfl) (fun _ h => h) rfl rfl d_Led_transact_94 (fun I79 H locs e_I79 hw => ?_)
          replace h := h I79 e_I79
          refine lv_aload hx hb d_Led_transact_97 (lv_at hl 0 rfl) ?_
          refine lv_iload hx hb d_Led_transact_99 (lv_at hl 6 rfl) ?_
          refine x_goI (ls := ls) (rest := []) hE hw (hPL ok74 h) (x_cdW hK k_624) q_Run_plays (by omega) (by omega) hl.1 (Nat.le_of_ble_eq_true rfl) hbd d_Led_transact_101 (x_toV (As := [.int p4]) (b := (x_ad Y 20 d73)) hx hb hown hK (x_recv hK hw ok74 rfl (by decide)) k_621 k_622 k_623 ⟨_, x_cdW hK k_624⟩ q_Run_plays rfl rfl d_Led_transact_101) (fun r80 L81 I82 k83 n83 H locs h hw hb9 => ?_) (fun _ _ _ _ _ _ _ h9 => h9.elim)
          replace hbd := hbd.tr hb9
          try dsimp only at h
          refine lv_istore (lv' := [(7, .int r80), (6, .ref (x_ad Y 20 d73)), (5, .ref (x_ad Y 23 a1)), (0, .ref (x_ad Y 0 0)), (1, .int p1), (2, .int p2), (3, .int p3), (4, .int p4)]) hx hb d_Led_transact_104 hl (by decide) rfl (fun ls hl => ?_)
          refine lv_aload_n hx hb d_Led_transact_106 rfl (lv_at hl 3 rfl) ?_
          refine lv_iload hx hb d_Led_transact_107 (lv_at hl 7 rfl) ?_
          refine lv_aload hx hb d_Led_transact_109 (lv_at hl 1 rfl) ?_
          refine x_getIN (t := 20) (i := d73) (j := 11) hx hb hK hw hown ok74 rfl (by decide) (by decide) (x_wdF hK k_186) (fun _ h => h) fk_5_11 d_Led_transact_111 ?_
          refine lv_isub hx hb d_Led_transact_114 ?_
          refine x_putI (t := 0) (i := 0) (j := 5) hx hb hK hw hown ok0_ rfl (by decide) (by decide) (x_wd hK k_225 rfl) (fun _ h => h) rfl rfl d_Led_transact_115 (fun I84 H locs e_I84 hw => ?_)
          replace h := h I84 e_I84
          refine lv_aload_n hx hb d_Led_transact_118 rfl (lv_at hl 3 rfl) ?_
          refine lv_aload hx hb d_Led_transact_119 (lv_at hl 1 rfl) ?_
          refine x_getIN (t := 20) (i := d73) (j := 12) hx hb hK hw hown ok74 rfl (by decide) (by decide) (x_wdF hK k_188) (fun _ h => h) fk_5_12 d_Led_transact_121 ?_
          refine x_putI (t := 0) (i := 0) (j := 6) hx hb hK hw hown ok0_ rfl (by decide) (by decide) (x_wd hK k_226 rfl) (fun _ h => h) rfl rfl d_Led_transact_124 (fun I85 H locs e_I85 hw => ?_)
          replace h := h I85 e_I85
          refine lv_iload hx hb d_Led_transact_127 (lv_at hl 0 rfl) ?_
          refine lv_if_eq (tgt := 136) hx hb d_Led_transact_129 (by decide) (fun c86 => ?_) (fun c86 => ?_)
          · replace h := h.1 c86
            refine lv_aload hx hb d_Led_transact_136 (lv_at hl 1 rfl) ?_
            refine x_getIN (t := 20) (i := d73) (j := 13) hx hb hK hw hown ok74 rfl (by decide) (by decide) (x_wdF hK k_190) (fun _ h => h) fk_5_13 d_Led_transact_138 ?_
            exact x_iret hx hb hr hlk hw ⟨rfl, Or.inl ⟨_, rfl, h⟩⟩ hbd d_Led_transact_141
          · replace h := h.2 c86
            refine lv_iconst (v := 0) hx hb d_Led_transact_132 (by decide) ?_
            refine lv_goto (tgt := 141) hx hb d_Led_transact_133 (by decide) ?_
            exact x_iret hx hb hr hlk hw ⟨rfl, Or.inl ⟨_, rfl, h⟩⟩ hbd d_Led_transact_141
        · replace h := h.2 c67
          refine lv_iconst (v := 1) hx hb d_Led_transact_39 (by decide) ?_
          refine lv_goto (tgt := 44) hx hb d_Led_transact_40 (by decide) ?_
          refine x_goV (ls := ls) (rest := []) hE hw (c_Led_fits hY h) (x_cd hK k_329) q_Led_fits (by omega) (by omega) hl.1 (Nat.le_of_ble_eq_true rfl) hbd d_Led_transact_44 (x_toS (As := [.int (1 : Int32)]) hx hb hown hK k_327 k_328 k_1 ⟨_, x_cd hK k_329⟩ q_Led_fits rfl rfl d_Led_transact_44) (fun L9 I9 k87 n87 H locs h hw hb9 => ?_) (fun kx L9 I9 k9 n9 H locs h hw hb9 => x_thr hlk (fun x h9 => by rw [hexn] at h9; cases h9) hw ⟨rfl, Or.inr ⟨kx, rfl, h⟩⟩ (hbd.tr hb9))
          obtain ⟨e1, e2, h⟩ := h
          rw [e1, e2] at hw
          replace hbd := hbd.tr hb9
          refine lv_aload_n hx hb d_Led_transact_47 rfl (lv_at hl 1 rfl) ?_
          refine x_getR (t := 0) (i := 0) (j := 0) hx hb hK hw hown ok0_ rfl (by decide) (by decide) (x_wd hK k_220 rfl) (fun _ h => h) fk_0_0 (hY.r ok0_ rfl) d_Led_transact_48 ?_
          have ok88 := hY.ok 0 ok0_ (t' := 1) (i' := 0) rfl
          refine x_getRN (t := 1) (i := 0) (j := 2) hx hb hK hw hown ok88 rfl (by decide) (by decide) (x_wdF hK k_135) (fun _ h => h) fk_1_2 (hY.r ok88 rfl) d_Led_transact_51 ?_
          have ok89 := hY.ok 2 ok88 (t' := 8) (i' := 0) rfl
          refine lv_iconst (v := 0) hx hb d_Led_transact_54 (by decide) ?_
          refine x_putIN (t := 8) (i := 0) (j := 4) hx hb hK hw hown ok89 rfl (by decide) (by decide) (x_wdF hK k_113) (fun _ h => h) rfl rfl d_Led_transact_55 (fun I90 H locs e_I90 hw => ?_)
          replace h := h I90 e_I90
          refine lv_aload_n hx hb d_Led_transact_58 rfl (lv_at hl 1 rfl) ?_
          refine x_getR (t := 0) (i := 0) (j := 2) hx hb hK hw hown ok0_ rfl (by decide) (by decide) (x_wd hK k_222 rfl) (fun _ h => h) fk_0_2 (hY.r ok0_ rfl) d_Led_transact_59 ?_
          have ok91 := hY.ok 2 ok0_ (t' := 15) (i' := 0) rfl
          refine lv_iconst (v := 0) hx hb d_Led_transact_62 (by decide) ?_
          obtain ⟨d92, e_d92⟩ : ∃ z : Nat, z = (0 : Int32).toNatClampNeg := ⟨_, rfl⟩
          have l_d92 : d92 < 8 := by rw [e_d92]; exact Nat.not_le.mp fun z => h.1 (Or.inr z)
          refine x_aald (t := 15) (i := 0) (a := x_ad Y 20 d92) hx hb hK hw ok91 rfl (by decide) (by decide) (hY.n ok91 rfl) h.1 (by rw [← e_d92]; exact hY.r ok91 (if_pos l_d92)) d_Led_transact_63 ?_
          have ok93 := hY.ok d92 ok91 (t' := 20) (i' := d92) (if_pos l_d92)
          replace h := h.2 d92 e_d92
          refine lv_astore (lv' := [(6, .ref (x_ad Y 20 d92)), (5, .ref (x_ad Y 23 a1)), (0, .ref (x_ad Y 0 0)), (1, .int p1), (2, .int p2), (3, .int p3), (4, .int p4)]) hx hb d_Led_transact_64 hl (by decide) rfl (fun ls hl => ?_)
          refine lv_aload hx hb d_Led_transact_66 (lv_at hl 0 rfl) ?_
          refine lv_iload_n hx hb d_Led_transact_68 rfl (lv_at hl 4 rfl) ?_
          refine lv_iload_n hx hb d_Led_transact_69 rfl (lv_at hl 3 rfl) ?_
          refine lv_iload_n hx hb d_Led_transact_70 rfl (lv_at hl 5 rfl) ?_
          refine x_goV (ls := ls) (rest := []) hE hw (c_Run_begin hY ok93 h) (x_cd hK k_619) q_Run_begin (by omega) (by omega) hl.1 (Nat.le_of_ble_eq_true rfl) hbd d_Led_transact_71 (x_toV (As := [.int p2, .int p1, .int p3]) (b := (x_ad Y 20 d92)) hx hb hown hK (x_recv hK hw ok93 rfl (by decide)) k_616 k_617 k_618 ⟨_, x_cd hK k_619⟩ q_Run_begin rfl rfl d_Led_transact_71) (fun L9 I94 k9 n9 H locs h hw hb9 => ?_) (fun _ _ _ _ _ _ _ h9 => h9.elim)
          obtain ⟨e1, e3, e4, h⟩ := h
          rw [e1] at hw
          rw [e3, e4]
          refine lv_aload_n hx hb d_Led_transact_74 rfl (lv_at hl 2 rfl) ?_
          refine x_getR (t := 0) (i := 0) (j := 3) hx hb hK hw hown ok0_ rfl (by decide) (by decide) (x_wd hK k_223 rfl) (fun _ h => h) fk_0_3 (hY.r ok0_ rfl) d_Led_transact_75 ?_
          have ok95 := hY.ok 3 ok0_ (t' := 16) (i' := 0) rfl
          refine lv_iconst (v := 0) hx hb d_Led_transact_78 (by decide) ?_
          refine lv_aload hx hb d_Led_transact_79 (lv_at hl 0 rfl) ?_
          refine x_getRN (t := 20) (i := d92) (j := 7) hx hb hK hw hown ok93 rfl (by decide) (by decide) (x_wdF hK k_181) (fun _ h => h) fk_5_7 (hY.r ok93 rfl) d_Led_transact_81 ?_
          have ok96 := hY.ok 7 ok93 (t' := 21) (i' := d92) rfl
          refine lv_iconst (v := 0) hx hb d_Led_transact_84 (by decide) ?_
          refine lv_aload_n hx hb d_Led_transact_85 rfl (lv_at hl 2 rfl) ?_
          refine x_getI (t := 0) (i := 0) (j := 4) hx hb hK hw hown ok0_ rfl (by decide) (by decide) (x_wd hK k_224 rfl) (fun _ h => h) fk_0_4 d_Led_transact_86 ?_
          refine x_copyI (t0 := 16) (i0 := 0) (t1 := 21) (i1 := d92) (rest := []) hx hb (hml.trans hl.1.symm) hK hw hown k_620 k_496 k_495 k_21 ok95 ok96 rfl rfl (hY.n ok95 rfl) (hY.n ok96 rfl) h.1.1 h.1.2.1 h.1.2.2.1 h.1.2.2.2.1 h.1.2.2.2.2 (Nat.le_trans (by omega) hF) (Nat.le_trans (by omega) hLo) (Nat.le_of_ble_eq_true rfl) d_Led_transact_89 (fun I97 H locs e_I97 hw => ?_)
          replace h := h.2 I97 e_I97
          refine lv_aload_n hx hb d_Led_transact_92 rfl (lv_at hl 2 rfl) ?_
          refine lv_iconst (v := 0) hx hb d_Led_transact_93 (by decide) ?_
          refine x_putI (t := 0) (i := 0) (j := 4) hx hb hK hw hown ok0_ rfl (by decide) (by decide) (x_wd hK k_224 rfl) (fun _ h => h) rfl rfl d_Led_transact_94 (fun I98 H locs e_I98 hw => ?_)
          replace h := h I98 e_I98
          refine lv_aload hx hb d_Led_transact_97 (lv_at hl 0 rfl) ?_
          refine lv_iload hx hb d_Led_transact_99 (lv_at hl 6 rfl) ?_
          refine x_goI (ls := ls) (rest := []) hE hw (hPL ok93 h) (x_cdW hK k_624) q_Run_plays (by omega) (by omega) hl.1 (Nat.le_of_ble_eq_true rfl) hbd d_Led_transact_101 (x_toV (As := [.int p4]) (b := (x_ad Y 20 d92)) hx hb hown hK (x_recv hK hw ok93 rfl (by decide)) k_621 k_622 k_623 ⟨_, x_cdW hK k_624⟩ q_Run_plays rfl rfl d_Led_transact_101) (fun r99 L100 I101 k102 n102 H locs h hw hb9 => ?_) (fun _ _ _ _ _ _ _ h9 => h9.elim)
          replace hbd := hbd.tr hb9
          try dsimp only at h
          refine lv_istore (lv' := [(7, .int r99), (6, .ref (x_ad Y 20 d92)), (5, .ref (x_ad Y 23 a1)), (0, .ref (x_ad Y 0 0)), (1, .int p1), (2, .int p2), (3, .int p3), (4, .int p4)]) hx hb d_Led_transact_104 hl (by decide) rfl (fun ls hl => ?_)
          refine lv_aload_n hx hb d_Led_transact_106 rfl (lv_at hl 3 rfl) ?_
          refine lv_iload hx hb d_Led_transact_107 (lv_at hl 7 rfl) ?_
          refine lv_aload hx hb d_Led_transact_109 (lv_at hl 1 rfl) ?_
          refine x_getIN (t := 20) (i := d92) (j := 11) hx hb hK hw hown ok93 rfl (by decide) (by decide) (x_wdF hK k_186) (fun _ h => h) fk_5_11 d_Led_transact_111 ?_
          refine lv_isub hx hb d_Led_transact_114 ?_
          refine x_putI (t := 0) (i := 0) (j := 5) hx hb hK hw hown ok0_ rfl (by decide) (by decide) (x_wd hK k_225 rfl) (fun _ h => h) rfl rfl d_Led_transact_115 (fun I103 H locs e_I103 hw => ?_)
          replace h := h I103 e_I103
          refine lv_aload_n hx hb d_Led_transact_118 rfl (lv_at hl 3 rfl) ?_
          refine lv_aload hx hb d_Led_transact_119 (lv_at hl 1 rfl) ?_
          refine x_getIN (t := 20) (i := d92) (j := 12) hx hb hK hw hown ok93 rfl (by decide) (by decide) (x_wdF hK k_188) (fun _ h => h) fk_5_12 d_Led_transact_121 ?_
          refine x_putI (t := 0) (i := 0) (j := 6) hx hb hK hw hown ok0_ rfl (by decide) (by decide) (x_wd hK k_226 rfl) (fun _ h => h) rfl rfl d_Led_transact_124 (fun I104 H locs e_I104 hw => ?_)
          replace h := h I104 e_I104
          refine lv_iload hx hb d_Led_transact_127 (lv_at hl 0 rfl) ?_
          refine lv_if_eq (tgt := 136) hx hb d_Led_transact_129 (by decide) (fun c105 => ?_) (fun c105 => ?_)
          · replace h := h.1 c105
            refine lv_aload hx hb d_Led_transact_136 (lv_at hl 1 rfl) ?_
            refine x_getIN (t := 20) (i := d92) (j := 13) hx hb hK hw hown ok93 rfl (by decide) (by decide) (x_wdF hK k_190) (fun _ h => h) fk_5_13 d_Led_transact_138 ?_
            exact x_iret hx hb hr hlk hw ⟨rfl, Or.inl ⟨_, rfl, h⟩⟩ hbd d_Led_transact_141
          · replace h := h.2 c105
            refine lv_iconst (v := 0) hx hb d_Led_transact_132 (by decide) ?_
            refine lv_goto (tgt := 141) hx hb d_Led_transact_133 (by decide) ?_
            exact x_iret hx hb hr hlk hw ⟨rfl, Or.inl ⟨_, rfl, h⟩⟩ hbd d_Led_transact_141
