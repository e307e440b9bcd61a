def w_Mod_begin_41 (Q : x_I → Prop) : Nat → Int32 → Int32 → Int32 → Int32 → Int32 → x_I → Prop
  | 0, _, _, _, _, _, _ => False
  | fu + 1, v1, v2, v3, v4, v5, I =>
    (((I 30 0 9) ≤ v5 →
      vp_in (I 30 0 18) 8 ∧
      ∀ I6 : x_I, I6 = x_u I 56 0 (I 30 0 18).toNatClampNeg (I 30 0 9) →
      vp_in (I6 30 0 18) 8 ∧
      ∀ I8 : x_I, I8 = x_u I6 57 0 (I6 30 0 18).toNatClampNeg (I6 30 0 11) →
      vp_in v1 24 ∧
      vp_in v1 24 ∧
      ∀ I10 : x_I, I10 = x_u I8 42 0 v1.toNatClampNeg ((I8 42 0 v1.toNatClampNeg) - v3) →
      vp_in v2 24 ∧
      vp_in v2 24 ∧
      ∀ I11 : x_I, I11 = x_u I10 42 0 v2.toNatClampNeg ((I10 42 0 v2.toNatClampNeg) + v3) →
      vp_in (I11 30 0 18) 8 ∧
      ∀ I13 : x_I, I13 = x_u I11 60 0 (I11 30 0 18).toNatClampNeg (0 : Int32) →
      vp_in (I13 30 0 18) 8 ∧
      ∀ I15 : x_I, I15 = x_u I13 61 0 (I13 30 0 18).toNatClampNeg (0 : Int32) →
      vp_in (I15 30 0 18) 8 ∧
      ∀ I17 : x_I, I17 = x_u I15 64 0 (I15 30 0 18).toNatClampNeg v1 →
      vp_in (I17 30 0 18) 8 ∧
      ∀ I19 : x_I, I19 = x_u I17 65 0 (I17 30 0 18).toNatClampNeg v3 →
      vp_in (I19 30 0 18) 8 ∧
      ∀ I21 : x_I, I21 = x_u I19 66 0 (I19 30 0 18).toNatClampNeg v4 →
      vp_in (I21 30 0 18) 8 ∧
      ∀ I23 : x_I, I23 = x_u I21 67 0 (I21 30 0 18).toNatClampNeg v2 →
      Q I23) ∧
    (¬ (I 30 0 9) ≤ v5 →
      vp_in v5 500 ∧
      vp_in ((((500 : Int32) * (I 30 0 18)) + v5)) 4000 ∧
      ∀ I26 : x_I, I26 = x_u I 53 0 ((((500 : Int32) * (I 30 0 18)) + v5)).toNatClampNeg (I 46 0 v5.toNatClampNeg) →
      vp_in v5 500 ∧
      vp_in ((((500 : Int32) * (I26 30 0 18)) + v5)) 4000 ∧
      ∀ I29 : x_I, I29 = x_u I26 54 0 ((((500 : Int32) * (I26 30 0 18)) + v5)).toNatClampNeg (I26 47 0 v5.toNatClampNeg) →
      vp_in v5 500 ∧
      vp_in ((((500 : Int32) * (I29 30 0 18)) + v5)) 4000 ∧
      ∀ I32 : x_I, I32 = x_u I29 55 0 ((((500 : Int32) * (I29 30 0 18)) + v5)).toNatClampNeg (I29 48 0 v5.toNatClampNeg) →
      ∀ x33 : Int32, x33 = v5 + (1 : Int32) →
      w_Mod_begin_41 Q fu v1 v2 v3 v4 x33 I32))
def w_Mod_begin_3 (Q : x_I → Prop) : Nat → Int32 → Int32 → Int32 → Int32 → Int32 → x_I → Prop
  | 0, _, _, _, _, _, _ => False
  | fu + 1, v1, v2, v3, v4, v5, I =>
    (((24 : Int32) ≤ v5 →
      ∀ x3 : Int32, x3 = (0 : Int32) →
      ∃ fu : Nat, w_Mod_begin_41 Q fu v1 v2 v3 v4 x3 I) ∧
    (¬ (24 : Int32) ≤ v5 →
      vp_in v5 24 ∧
      vp_in ((((24 : Int32) * (I 30 0 18)) + v5)) 192 ∧
      ∀ I36 : x_I, I36 = x_u I 52 0 ((((24 : Int32) * (I 30 0 18)) + v5)).toNatClampNeg (I 42 0 v5.toNatClampNeg) →
      ∀ x37 : Int32, x37 = v5 + (1 : Int32) →
      w_Mod_begin_3 Q fu v1 v2 v3 v4 x37 I36))
def w_Mod_begin (Q : x_I → Prop) (p1 : Int32) (p2 : Int32) (p3 : Int32) (p4 : Int32) (I : x_I) : Prop :=
  ∀ x1 : Int32, x1 = (0 : Int32) →
  ∃ fu : Nat, w_Mod_begin_3 Q fu p1 p2 p3 p4 x1 I
set_option maxRecDepth 100000 in
set_option maxHeartbeats 4000000 in
theorem c_Mod_begin_41 {l : Launch} {g : x_G} {Y : x_Y} {p : Program} {e : Env} {R : Room} {s : State} {m : MethodId} {args : Array Value} {below : List Frame} {meth : Method} {c : Code} {k n : Nat} (hE : x_E l g p e R s m meth c "CallLedgerModel" prog_9_method_20_code 6 none 0 k n) (hexn : c.exceptionTable.toList = []) (hY : x_Y0 g Y) (ok0_ : x_ok Y 30 0) {Q : x_I → Prop} {L : x_L} :
    ∀ (fu : Nat) (v1 : Int32) (v2 : Int32) (v3 : Int32) (v4 : Int32) (v5 : Int32) (I : x_I) (H : Heap) (locs : List Loc) (ls : Array Slot), w_Mod_begin_41 Q fu v1 v2 v3 v4 v5 I → x_WL g Y L I H locs → x_bd k n k n → lv_has ls 6 [(0, .ref (x_ad Y 30 0)), (1, .int v1), (2, .int v2), (3, .int v3), (4, .int v4), (5, .int v5)] → W p l e R s m args below meth c H locs (k - k) (n - n) (x_Q g below s k n (x_pV Y (fun L' I' k' n' => L' = L ∧ k' = k ∧ n' = n ∧ Q I') x_nx)) (F0 m 41 ls []) := by
  obtain ⟨hx, hb, hml, hr, hlk, hown, hK, htr, hF, hLo, hRc, hRs⟩ := id hE
  intro fu
  induction fu with
  | zero =>
    intro v1 v2 v3 v4 v5 I H locs ls h
    exact h.elim
  | succ fu ih =>
    intro v1 v2 v3 v4 v5 I H locs ls h hw hbd hl
    unfold w_Mod_begin_41 at h
    refine lv_iload hx hb d_Mod_begin_41 (lv_at hl 5 rfl) ?_
    refine lv_aload_n hx hb d_Mod_begin_43 rfl (lv_at hl 0 rfl) ?_
    refine x_getI (t := 30) (i := 0) (j := 9) hx hb hK hw hown ok0_ rfl (by decide) (by decide) (x_wd hK k_807 rfl) (fun _ h => h) fk_8_9 d_Mod_begin_44 ?_
    refine lv_icmp_ge (tgt := 125) hx hb d_Mod_begin_47 (by decide) (fun c4 => ?_) (fun c4 => ?_)
    · replace h := h.1 c4
      refine lv_aload_n hx hb d_Mod_begin_125 rfl (lv_at hl 0 rfl) ?_
      refine x_getR (t := 30) (i := 0) (j := 16) hx hb hK hw hown ok0_ rfl (by decide) (by decide) (x_wd hK k_814 rfl) (fun _ h => h) fk_8_16 (hY.r ok0_ rfl) d_Mod_begin_126 ?_
      have ok5 := hY.ok 16 ok0_ (t' := 56) (i' := 0) rfl
      refine lv_aload_n hx hb d_Mod_begin_129 rfl (lv_at hl 0 rfl) ?_
      refine x_getI (t := 30) (i := 0) (j := 18) hx hb hK hw hown ok0_ rfl (by decide) (by decide) (x_wd hK k_816 rfl) (fun _ h => h) fk_8_18 d_Mod_begin_130 ?_
      refine lv_aload_n hx hb d_Mod_begin_133 rfl (lv_at hl 0 rfl) ?_
      refine x_getI (t := 30) (i := 0) (j := 9) hx hb hK hw hown ok0_ rfl (by decide) (by decide) (x_wd hK k_807 rfl) (fun _ h => h) fk_8_9 d_Mod_begin_134 ?_
      refine x_iast (t := 56) (i := 0) hx hb hK hw ok5 rfl (hY.n ok5 rfl) h.1 d_Mod_begin_137 (fun I6 H locs e_I6 hw => ?_)
      replace h := h.2 I6 e_I6
      refine lv_aload_n hx hb d_Mod_begin_138 rfl (lv_at hl 0 rfl) ?_
      refine x_getR (t := 30) (i := 0) (j := 17) hx hb hK hw hown ok0_ rfl (by decide) (by decide) (x_wd hK k_815 rfl) (fun _ h => h) fk_8_17 (hY.r ok0_ rfl) d_Mod_begin_139 ?_
      have ok7 := hY.ok 17 ok0_ (t' := 57) (i' := 0) rfl
      refine lv_aload_n hx hb d_Mod_begin_142 rfl (lv_at hl 0 rfl) ?_
      refine x_getI (t := 30) (i := 0) (j := 18) hx hb hK hw hown ok0_ rfl (by decide) (by decide) (x_wd hK k_816 rfl) (fun _ h => h) fk_8_18 d_Mod_begin_143 ?_
      refine lv_aload_n hx hb d_Mod_begin_146 rfl (lv_at hl 0 rfl) ?_
      refine x_getI (t := 30) (i := 0) (j := 11) hx hb hK hw hown ok0_ rfl (by decide) (by decide) (x_wd hK k_809 rfl) (fun _ h => h) fk_8_11 d_Mod_begin_147 ?_
      refine x_iast (t := 57) (i := 0) hx hb hK hw ok7 rfl (hY.n ok7 rfl) h.1 d_Mod_begin_150 (fun I8 H locs e_I8 hw => ?_)
      replace h := h.2 I8 e_I8
      refine lv_aload_n hx hb d_Mod_begin_151 rfl (lv_at hl 0 rfl) ?_
      refine x_getR (t := 30) (i := 0) (j := 2) hx hb hK hw hown ok0_ rfl (by decide) (by decide) (x_wd hK k_800 rfl) (fun _ h => h) fk_8_2 (hY.r ok0_ rfl) d_Mod_begin_152 ?_
      have ok9 := hY.ok 2 ok0_ (t' := 42) (i' := 0) rfl
      refine lv_iload_n hx hb d_Mod_begin_155 rfl (lv_at hl 1 rfl) ?_
      refine lv_aload_n hx hb d_Mod_begin_156 rfl (lv_at hl 0 rfl) ?_
      refine x_getR (t := 30) (i := 0) (j := 2) hx hb hK hw hown ok0_ rfl (by decide) (by decide) (x_wd hK k_800 rfl) (fun _ h => h) fk_8_2 (hY.r ok0_ rfl) d_Mod_begin_157 ?_
      refine lv_iload_n hx hb d_Mod_begin_160 rfl (lv_at hl 1 rfl) ?_
      refine x_iald (t := 42) (i := 0) hx hb hK hw ok9 rfl (hY.n ok9 rfl) h.1 d_Mod_begin_161 ?_
      replace h := h.2
      refine lv_iload_n hx hb d_Mod_begin_162 rfl (lv_at hl 3 rfl) ?_
      refine lv_isub hx hb d_Mod_begin_163 ?_
      refine x_iast (t := 42) (i := 0) hx hb hK hw ok9 rfl (hY.n ok9 rfl) h.1 d_Mod_begin_164 (fun I10 H locs e_I10 hw => ?_)
      replace h := h.2 I10 e_I10
      refine lv_aload_n hx hb d_Mod_begin_165 rfl (lv_at hl 0 rfl) ?_
      refine x_getR (t := 30) (i := 0) (j := 2) hx hb hK hw hown ok0_ rfl (by decide) (by decide) (x_wd hK k_800 rfl) (fun _ h => h) fk_8_2 (hY.r ok0_ rfl) d_Mod_begin_166 ?_
      refine lv_iload_n hx hb d_Mod_begin_169 rfl (lv_at hl 2 rfl) ?_
      refine lv_aload_n hx hb d_Mod_begin_170 rfl (lv_at hl 0 rfl) ?_
      refine x_getR (t := 30) (i := 0) (j := 2) hx hb hK hw hown ok0_ rfl (by decide) (by decide) (x_wd hK k_800 rfl) (fun _ h => h) fk_8_2 (hY.r ok0_ rfl) d_Mod_begin_171 ?_
      refine lv_iload_n hx hb d_Mod_begin_174 rfl (lv_at hl 2 rfl) ?_
      refine x_iald (t := 42) (i := 0) hx hb hK hw ok9 rfl (hY.n ok9 rfl) h.1 d_Mod_begin_175 ?_
      replace h := h.2
      refine lv_iload_n hx hb d_Mod_begin_176 rfl (lv_at hl 3 rfl) ?_
      refine lv_iadd hx hb d_Mod_begin_177 ?_
      refine x_iast (t := 42) (i := 0) hx hb hK hw ok9 rfl (hY.n ok9 rfl) h.1 d_Mod_begin_178 (fun I11 H locs e_I11 hw => ?_)
      replace h := h.2 I11 e_I11
      refine lv_aload_n hx hb d_Mod_begin_179 rfl (lv_at hl 0 rfl) ?_
      refine x_getR (t := 30) (i := 0) (j := 20) hx hb hK hw hown ok0_ rfl (by decide) (by decide) (x_wd hK k_818 rfl) (fun _ h => h) fk_8_20 (hY.r ok0_ rfl) d_Mod_begin_180 ?_
      have ok12 := hY.ok 20 ok0_ (t' := 60) (i' := 0) rfl
      refine lv_aload_n hx hb d_Mod_begin_183 rfl (lv_at hl 0 rfl) ?_
      refine x_getI (t := 30) (i := 0) (j := 18) hx hb hK hw hown ok0_ rfl (by decide) (by decide) (x_wd hK k_816 rfl) (fun _ h => h) fk_8_18 d_Mod_begin_184 ?_
      refine lv_iconst (v := 0) hx hb d_Mod_begin_187 (by decide) ?_
      refine x_iast (t := 60) (i := 0) hx hb hK hw ok12 rfl (hY.n ok12 rfl) h.1 d_Mod_begin_188 (fun I13 H locs e_I13 hw => ?_)
      replace h := h.2 I13 e_I13
      refine lv_aload_n hx hb d_Mod_begin_189 rfl (lv_at hl 0 rfl) ?_
      refine x_getR (t := 30) (i := 0) (j := 21) hx hb hK hw hown ok0_ rfl (by decide) (by decide) (x_wd hK k_819 rfl) (fun _ h => h) fk_8_21 (hY.r ok0_ rfl) d_Mod_begin_190 ?_
      have ok14 := hY.ok 21 ok0_ (t' := 61) (i' := 0) rfl
      refine lv_aload_n hx hb d_Mod_begin_193 rfl (lv_at hl 0 rfl) ?_
      refine x_getI (t := 30) (i := 0) (j := 18) hx hb hK hw hown ok0_ rfl (by decide) (by decide) (x_wd hK k_816 rfl) (fun _ h => h) fk_8_18 d_Mod_begin_194 ?_
      refine lv_iconst (v := 0) hx hb d_Mod_begin_197 (by decide) ?_
      refine x_iast (t := 61) (i := 0) hx hb hK hw ok14 rfl (hY.n ok14 rfl) h.1 d_Mod_begin_198 (fun I15 H locs e_I15 hw => ?_)
      replace h := h.2 I15 e_I15
      refine lv_aload_n hx hb d_Mod_begin_199 rfl (lv_at hl 0 rfl) ?_
      refine x_getR (t := 30) (i := 0) (j := 24) hx hb hK hw hown ok0_ rfl (by decide) (by decide) (x_wd hK k_822 rfl) (fun _ h => h) fk_8_24 (hY.r ok0_ rfl) d_Mod_begin_200 ?_
      have ok16 := hY.ok 24 ok0_ (t' := 64) (i' := 0) rfl
      refine lv_aload_n hx hb d_Mod_begin_203 rfl (lv_at hl 0 rfl) ?_
      refine x_getI (t := 30) (i := 0) (j := 18) hx hb hK hw hown ok0_ rfl (by decide) (by decide) (x_wd hK k_816 rfl) (fun _ h => h) fk_8_18 d_Mod_begin_204 ?_
      refine lv_iload_n hx hb d_Mod_begin_207 rfl (lv_at hl 1 rfl) ?_
      refine x_iast (t := 64) (i := 0) hx hb hK hw ok16 rfl (hY.n ok16 rfl) h.1 d_Mod_begin_208 (fun I17 H locs e_I17 hw => ?_)
      replace h := h.2 I17 e_I17
      refine lv_aload_n hx hb d_Mod_begin_209 rfl (lv_at hl 0 rfl) ?_
      refine x_getR (t := 30) (i := 0) (j := 25) hx hb hK hw hown ok0_ rfl (by decide) (by decide) (x_wd hK k_823 rfl) (fun _ h => h) fk_8_25 (hY.r ok0_ rfl) d_Mod_begin_210 ?_
      have ok18 := hY.ok 25 ok0_ (t' := 65) (i' := 0) rfl
      refine lv_aload_n hx hb d_Mod_begin_213 rfl (lv_at hl 0 rfl) ?_
      refine x_getI (t := 30) (i := 0) (j := 18) hx hb hK hw hown ok0_ rfl (by decide) (by decide) (x_wd hK k_816 rfl) (fun _ h => h) fk_8_18 d_Mod_begin_214 ?_
      refine lv_iload_n hx hb d_Mod_begin_217 rfl (lv_at hl 3 rfl) ?_
      refine x_iast (t := 65) (i := 0) hx hb hK hw ok18 rfl (hY.n ok18 rfl) h.1 d_Mod_begin_218 (fun I19 H locs e_I19 hw => ?_)
      replace h := h.2 I19 e_I19
      refine lv_aload_n hx hb d_Mod_begin_219 rfl (lv_at hl 0 rfl) ?_
      refine x_getR (t := 30) (i := 0) (j := 26) hx hb hK hw hown ok0_ rfl (by decide) (by decide) (x_wd hK k_824 rfl) (fun _ h => h) fk_8_26 (hY.r ok0_ rfl) d_Mod_begin_220 ?_
      have ok20 := hY.ok 26 ok0_ (t' := 66) (i' := 0) rfl
      refine lv_aload_n hx hb d_Mod_begin_223 rfl (lv_at hl 0 rfl) ?_
      refine x_getI (t := 30) (i := 0) (j := 18) hx hb hK hw hown ok0_ rfl (by decide) (by decide) (x_wd hK k_816 rfl) (fun _ h => h) fk_8_18 d_Mod_begin_224 ?_
      refine lv_iload hx hb d_Mod_begin_227 (lv_at hl 4 rfl) ?_
      refine x_iast (t := 66) (i := 0) hx hb hK hw ok20 rfl (hY.n ok20 rfl) h.1 d_Mod_begin_229 (fun I21 H locs e_I21 hw => ?_)
      replace h := h.2 I21 e_I21
      refine lv_aload_n hx hb d_Mod_begin_230 rfl (lv_at hl 0 rfl) ?_
      refine x_getR (t := 30) (i := 0) (j := 27) hx hb hK hw hown ok0_ rfl (by decide) (by decide) (x_wd hK k_825 rfl) (fun _ h => h) fk_8_27 (hY.r ok0_ rfl) d_Mod_begin_231 ?_
      have ok22 := hY.ok 27 ok0_ (t' := 67) (i' := 0) rfl
      refine lv_aload_n hx hb d_Mod_begin_234 rfl (lv_at hl 0 rfl) ?_
      refine x_getI (t := 30) (i := 0) (j := 18) hx hb hK hw hown ok0_ rfl (by decide) (by decide) (x_wd hK k_816 rfl) (fun _ h => h) fk_8_18 d_Mod_begin_235 ?_
      refine lv_iload_n hx hb d_Mod_begin_238 rfl (lv_at hl 2 rfl) ?_
      refine x_iast (t := 67) (i := 0) hx hb hK hw ok22 rfl (hY.n ok22 rfl) h.1 d_Mod_begin_239 (fun I23 H locs e_I23 hw => ?_)
      replace h := h.2 I23 e_I23
      exact x_vret hx hb hr hlk hw ⟨rfl, Or.inl ⟨rfl, ⟨rfl, rfl, rfl, h⟩⟩⟩ hbd d_Mod_begin_240
    · replace h := h.2 c4
      refine lv_aload_n hx hb d_Mod_begin_50 rfl (lv_at hl 0 rfl) ?_
      refine x_getR (t := 30) (i := 0) (j := 13) hx hb hK hw hown ok0_ rfl (by decide) (by decide) (x_wd hK k_811 rfl) (fun _ h => h) fk_8_13 (hY.r ok0_ rfl) d_Mod_begin_51 ?_
      have ok24 := hY.ok 13 ok0_ (t' := 53) (i' := 0) rfl
      refine lv_sipush (v := 500) hx hb d_Mod_begin_54 (by decide) ?_
      refine lv_aload_n hx hb d_Mod_begin_57 rfl (lv_at hl 0 rfl) ?_
      refine x_getI (t := 30) (i := 0) (j := 18) hx hb hK hw hown ok0_ rfl (by decide) (by decide) (x_wd hK k_816 rfl) (fun _ h => h) fk_8_18 d_Mod_begin_58 ?_
      refine lv_imul hx hb d_Mod_begin_61 ?_
      refine lv_iload hx hb d_Mod_begin_62 (lv_at hl 5 rfl) ?_
      refine lv_iadd hx hb d_Mod_begin_64 ?_
      refine lv_aload_n hx hb d_Mod_begin_65 rfl (lv_at hl 0 rfl) ?_
      refine x_getR (t := 30) (i := 0) (j := 6) hx hb hK hw hown ok0_ rfl (by decide) (by decide) (x_wd hK k_804 rfl) (fun _ h => h) fk_8_6 (hY.r ok0_ rfl) d_Mod_begin_66 ?_
      have ok25 := hY.ok 6 ok0_ (t' := 46) (i' := 0) rfl
      refine lv_iload hx hb d_Mod_begin_69 (lv_at hl 5 rfl) ?_
      refine x_iald (t := 46) (i := 0) hx hb hK hw ok25 rfl (hY.n ok25 rfl) h.1 d_Mod_begin_71 ?_
      replace h := h.2
      refine x_iast (t := 53) (i := 0) hx hb hK hw ok24 rfl (hY.n ok24 rfl) h.1 d_Mod_begin_72 (fun I26 H locs e_I26 hw => ?_)
      replace h := h.2 I26 e_I26
      refine lv_aload_n hx hb d_Mod_begin_73 rfl (lv_at hl 0 rfl) ?_
      refine x_getR (t := 30) (i := 0) (j := 14) hx hb hK hw hown ok0_ rfl (by decide) (by decide) (x_wd hK k_812 rfl) (fun _ h => h) fk_8_14 (hY.r ok0_ rfl) d_Mod_begin_74 ?_
      have ok27 := hY.ok 14 ok0_ (t' := 54) (i' := 0) rfl
      refine lv_sipush (v := 500) hx hb d_Mod_begin_77 (by decide) ?_
      refine lv_aload_n hx hb d_Mod_begin_80 rfl (lv_at hl 0 rfl) ?_
      refine x_getI (t := 30) (i := 0) (j := 18) hx hb hK hw hown ok0_ rfl (by decide) (by decide) (x_wd hK k_816 rfl) (fun _ h => h) fk_8_18 d_Mod_begin_81 ?_
      refine lv_imul hx hb d_Mod_begin_84 ?_
      refine lv_iload hx hb d_Mod_begin_85 (lv_at hl 5 rfl) ?_
      refine lv_iadd hx hb d_Mod_begin_87 ?_
      refine lv_aload_n hx hb d_Mod_begin_88 rfl (lv_at hl 0 rfl) ?_
      refine x_getR (t := 30) (i := 0) (j := 7) hx hb hK hw hown ok0_ rfl (by decide) (by decide) (x_wd hK k_805 rfl) (fun _ h => h) fk_8_7 (hY.r ok0_ rfl) d_Mod_begin_89 ?_
      have ok28 := hY.ok 7 ok0_ (t' := 47) (i' := 0) rfl
      refine lv_iload hx hb d_Mod_begin_92 (lv_at hl 5 rfl) ?_
      refine x_iald (t := 47) (i := 0) hx hb hK hw ok28 rfl (hY.n ok28 rfl) h.1 d_Mod_begin_94 ?_
      replace h := h.2
      refine x_iast (t := 54) (i := 0) hx hb hK hw ok27 rfl (hY.n ok27 rfl) h.1 d_Mod_begin_95 (fun I29 H locs e_I29 hw => ?_)
      replace h := h.2 I29 e_I29
      refine lv_aload_n hx hb d_Mod_begin_96 rfl (lv_at hl 0 rfl) ?_
      refine x_getR (t := 30) (i := 0) (j := 15) hx hb hK hw hown ok0_ rfl (by decide) (by decide) (x_wd hK k_813 rfl) (fun _ h => h) fk_8_15 (hY.r ok0_ rfl) d_Mod_begin_97 ?_
      have ok30 := hY.ok 15 ok0_ (t' := 55) (i' := 0) rfl
      refine lv_sipush (v := 500) hx hb d_Mod_begin_100 (by decide) ?_
      refine lv_aload_n hx hb d_Mod_begin_103 rfl (lv_at hl 0 rfl) ?_
      refine x_getI (t := 30) (i := 0) (j := 18) hx hb hK hw hown ok0_ rfl (by decide) (by decide) (x_wd hK k_816 rfl) (fun _ h => h) fk_8_18 d_Mod_begin_104 ?_
      refine lv_imul hx hb d_Mod_begin_107 ?_
      refine lv_iload hx hb d_Mod_begin_108 (lv_at hl 5 rfl) ?_
      refine lv_iadd hx hb d_Mod_begin_110 ?_
      refine lv_aload_n hx hb d_Mod_begin_111 rfl (lv_at hl 0 rfl) ?_
      refine x_getR (t := 30) (i := 0) (j := 8) hx hb hK hw hown ok0_ rfl (by decide) (by decide) (x_wd hK k_806 rfl) (fun _ h => h) fk_8_8 (hY.r ok0_ rfl) d_Mod_begin_112 ?_
      have ok31 := hY.ok 8 ok0_ (t' := 48) (i' := 0) rfl
      refine lv_iload hx hb d_Mod_begin_115 (lv_at hl 5 rfl) ?_
      refine x_iald (t := 48) (i := 0) hx hb hK hw ok31 rfl (hY.n ok31 rfl) h.1 d_Mod_begin_117 ?_
      replace h := h.2
      refine x_iast (t := 55) (i := 0) hx hb hK hw ok30 rfl (hY.n ok30 rfl) h.1 d_Mod_begin_118 (fun I32 H locs e_I32 hw => ?_)
      replace h := h.2 I32 e_I32
      obtain ⟨x33, e_x33⟩ : ∃ z : Int32, z = v5 + (1 : Int32) := ⟨_, rfl⟩
      replace h := h x33 e_x33
      refine lv_iinc (v := x33) (lv' := [(5, .int x33), (0, .ref (x_ad Y 30 0)), (1, .int v1), (2, .int v2), (3, .int v3), (4, .int v4)]) hx hb d_Mod_begin_119 hl (k := 5) rfl (by rw [e_x33]; rfl) (by decide) rfl (fun ls hl => ?_)
      refine lv_goto (tgt := 41) hx hb d_Mod_begin_122 (by decide) ?_
      exact ih v1 v2 v3 v4 x33 I32 H locs ls h hw hbd (lv_sub hl [1, 2, 3, 4, 5, 0] rfl)
set_option maxRecDepth 100000 in
set_option maxHeartbeats 4000000 in
theorem c_Mod_begin_3 {l : Launch} {g : x_G} {Y : x_Y} {p : Program} {e : Env} {R : Room} {s : State} {m : MethodId} {args : Array Value} {below : List Frame} {meth : Method} {c : Code} {k n : Nat} (hE : x_E l g p e R s m meth c "CallLedgerModel" prog_9_method_20_code 6 none 0 k n) (hexn : c.exceptionTable.toList = []) (hY : x_Y0 g Y) (ok0_ : x_ok Y 30 0) {Q : x_I → Prop} {L : x_L} :
    ∀ (fu : Nat) (v1 : Int32) (v2 : Int32) (v3 : Int32) (v4 : Int32) (v5 : Int32) (I : x_I) (H : Heap) (locs : List Loc) (ls : Array Slot), w_Mod_begin_3 Q fu v1 v2 v3 v4 v5 I → x_WL g Y L I H locs → x_bd k n k n → lv_has ls 6 [(0, .ref (x_ad Y 30 0)), (1, .int v1), (2, .int v2), (3, .int v3), (4, .int v4), (5, .int v5)] → W p l e R s m args below meth c H locs (k - k) (n - n) (x_Q g below s k n (x_pV Y (fun L' I' k' n' => L' = L ∧ k' = k ∧ n' = n ∧ Q I') x_nx)) (F0 m 3 ls []) := by
  obtain ⟨hx, hb, hml, hr, hlk, hown, hK, htr, hF, hLo, hRc, hRs⟩ := id hE
  intro fu
  induction fu with
  | zero =>
    intro v1 v2 v3 v4 v5 I H locs ls h
    exact h.elim
  | succ fu ih =>
    intro v1 v2 v3 v4 v5 I H locs ls h hw hbd hl
    unfold w_Mod_begin_3 at h
    refine lv_iload hx hb d_Mod_begin_3 (lv_at hl 5 rfl) ?_
    refine lv_bipush (v := 24) hx hb d_Mod_begin_5 (by decide) ?_
    refine lv_icmp_ge (tgt := 38) hx hb d_Mod_begin_7 (by decide) (fun c2 => ?_) (fun c2 => ?_)
    · replace h := h.1 c2
      refine lv_iconst (v := 0) hx hb d_Mod_begin_38 (by decide) ?_
      refine lv_topi (fun x3 e_x3 => ?_)
      replace h := h x3 e_x3
      refine lv_istore (lv' := [(5, .int x3), (0, .ref (x_ad Y 30 0)), (1, .int v1), (2, .int v2), (3, .int v3), (4, .int v4)]) hx hb d_Mod_begin_39 hl (by decide) rfl (fun ls hl => ?_)
      obtain ⟨fu, h⟩ := h
      exact c_Mod_begin_41 hE hexn hY ok0_ fu v1 v2 v3 v4 x3 I H locs ls h hw hbd (lv_sub hl [1, 2, 3, 4, 5, 0] rfl)
    · replace h := h.2 c2
      refine lv_aload_n hx hb d_Mod_begin_10 rfl (lv_at hl 0 rfl) ?_
      refine x_getR (t := 30) (i := 0) (j := 12) hx hb hK hw hown ok0_ rfl (by decide) (by decide) (x_wd hK k_810 rfl) (fun _ h => h) fk_8_12 (hY.r ok0_ rfl) d_Mod_begin_11 ?_
      have ok34 := hY.ok 12 ok0_ (t' := 52) (i' := 0) rfl
      refine lv_bipush (v := 24) hx hb d_Mod_begin_14 (by decide) ?_
      refine lv_aload_n hx hb d_Mod_begin_16 rfl (lv_at hl 0 rfl) ?_
      refine x_getI (t := 30) (i := 0) (j := 18) hx hb hK hw hown ok0_ rfl (by decide) (by decide) (x_wd hK k_816 rfl) (fun _ h => h) fk_8_18 d_Mod_begin_17 ?_
      refine lv_imul hx hb d_Mod_begin_20 ?_
      refine lv_iload hx hb d_Mod_begin_21 (lv_at hl 5 rfl) ?_
      refine lv_iadd hx hb d_Mod_begin_23 ?_
      refine lv_aload_n hx hb d_Mod_begin_24 rfl (lv_at hl 0 rfl) ?_
      refine x_getR (t := 30) (i := 0) (j := 2) hx hb hK hw hown ok0_ rfl (by decide) (by decide) (x_wd hK k_800 rfl) (fun _ h => h) fk_8_2 (hY.r ok0_ rfl) d_Mod_begin_25 ?_
      have ok35 := hY.ok 2 ok0_ (t' := 42) (i' := 0) rfl
      refine lv_iload hx hb d_Mod_begin_28 (lv_at hl 5 rfl) ?_
      refine x_iald (t := 42) (i := 0) hx hb hK hw ok35 rfl (hY.n ok35 rfl) h.1 d_Mod_begin_30 ?_
      replace h := h.2
      refine x_iast (t := 52) (i := 0) hx hb hK hw ok34 rfl (hY.n ok34 rfl) h.1 d_Mod_begin_31 (fun I36 H locs e_I36 hw => ?_)
      replace h := h.2 I36 e_I36
      obtain ⟨x37, e_x37⟩ : ∃ z : Int32, z = v5 + (1 : Int32) := ⟨_, rfl⟩
      replace h := h x37 e_x37
      refine lv_iinc (v := x37) (lv' := [(5, .int x37), (0, .ref (x_ad Y 30 0)), (1, .int v1), (2, .int v2), (3, .int v3), (4, .int v4)]) hx hb d_Mod_begin_32 hl (k := 5) rfl (by rw [e_x37]; rfl) (by decide) rfl (fun ls hl => ?_)
      refine lv_goto (tgt := 3) hx hb d_Mod_begin_35 (by decide) ?_
      exact ih v1 v2 v3 v4 x37 I36 H locs ls h hw hbd (lv_sub hl [1, 2, 3, 4, 5, 0] rfl)
set_option maxRecDepth 100000 in
set_option maxHeartbeats 4000000 in
theorem c_Mod_begin {l : Launch} {g : x_G} {Y : x_Y} (hY : x_Y0 g Y) {p1 : Int32} {p2 : Int32} {p3 : Int32} {p4 : Int32} (ok0_ : x_ok Y 30 0) {Q : x_I → Prop} {L : x_L} {I : x_I} {k n : Nat} (h : w_Mod_begin Q p1 p2 p3 p4 I) : x_C l y_Mod_begin 0 g [.ref (x_ad Y 30 0), .int p1, .int p2, .int p3, .int p4] Y L I k n (x_pV Y (fun L' I' k' n' => L' = L ∧ k' = k ∧ n' = n ∧ Q I') x_nx) := by
  refine x_mth k_977 ?_
  intro p e R s m below meth c hE hnm hexn hw hk1 hn1
  obtain ⟨hx, hb, hml, hr, hlk, hown, hK, htr, hF, hLo, hRc, hRs⟩ := id hE
  have hbd : x_bd k n k n := ⟨Nat.le_refl _, hk1, Nat.le_refl _, hn1⟩
  have hl := lv_entry ([.ref (x_ad Y 30 0), .int p1, .int p2, .int p3, .int p4]) (n := 6) (Nat.le_of_ble_eq_true rfl)
  generalize (lg_sl [.ref (x_ad Y 30 0), .int p1, .int p2, .int p3, .int p4] ++ List.replicate (6 - (lg_sl [.ref (x_ad Y 30 0), .int p1, .int p2, .int p3, .int p4]).length) Slot.unset).toArray = ls at hl ⊢
  have hl : lv_has ls 6 [(0, .ref (x_ad Y 30 0)), (1, .int p1), (2, .int p2), (3, .int p3), (4, .int p4)] := hl
  generalize s.heap = H at hw ⊢
  generalize ([] : List Loc) = locs at hw ⊢
  unfold w_Mod_begin at h
  refine lv_iconst (v := 0) hx hb d_Mod_begin_0 (by decide) ?_
  refine lv_topi (fun x1 e_x1 => ?_)
  replace h := h x1 e_x1
  refine lv_istore (lv' := [(5, .int x1), (0, .ref (x_ad Y 30 0)), (1, .int p1), (2, .int p2), (3, .int p3), (4, .int p4)]) hx hb d_Mod_begin_1 hl (by decide) rfl (fun ls hl => ?_)
  obtain ⟨fu, h⟩ := h
  exact c_Mod_begin_3 hE hexn hY ok0_ fu p1 p2 p3 p4 x1 I H locs ls h hw hbd (lv_sub hl [1, 2, 3, 4, 5, 0] rfl)
def w_Mod_undo_62 (Q : x_I → Prop) : Nat → Int32 → x_I → Prop
  | 0, _, _ => False
  | fu + 1, v1, I =>
    (((I 30 0 9) ≤ v1 →
      Q I) ∧
    (¬ (I 30 0 9) ≤ v1 →
      vp_in ((((500 : Int32) * (I 30 0 18)) + v1)) 4000 ∧
      vp_in v1 500 ∧
      ∀ I11 : x_I, I11 = x_u I 46 0 v1.toNatClampNeg ((I 53 0 ((((500 : Int32) * (I 30 0 18)) + v1)).toNatClampNeg)) →
      vp_in ((((500 : Int32) * (I11 30 0 18)) + v1)) 4000 ∧
      vp_in v1 500 ∧
      ∀ I14 : x_I, I14 = x_u I11 47 0 v1.toNatClampNeg ((I11 54 0 ((((500 : Int32) * (I11 30 0 18)) + v1)).toNatClampNeg)) →
      vp_in ((((500 : Int32) * (I14 30 0 18)) + v1)) 4000 ∧
      vp_in v1 500 ∧
      ∀ I17 : x_I, I17 = x_u I14 48 0 v1.toNatClampNeg ((I14 55 0 ((((500 : Int32) * (I14 30 0 18)) + v1)).toNatClampNeg)) →
      ∀ x18 : Int32, x18 = v1 + (1 : Int32) →
      w_Mod_undo_62 Q fu x18 I17))
def w_Mod_undo_2 (Q : x_I → Prop) : Nat → Int32 → x_I → Prop
  | 0, _, _ => False
  | fu + 1, v1, I =>
    (((24 : Int32) ≤ v1 →
      vp_in (I 30 0 18) 8 ∧
      ∀ I4 : x_I, I4 = x_u I 30 0 9 (I 56 0 (I 30 0 18).toNatClampNeg) →
      vp_in (I4 30 0 18) 8 ∧
      ∀ I6 : x_I, I6 = x_u I4 30 0 11 (I4 57 0 (I4 30 0 18).toNatClampNeg) →
      ∀ x7 : Int32, x7 = (0 : Int32) →
      ∃ fu : Nat, w_Mod_undo_62 Q fu x7 I6) ∧
    (¬ (24 : Int32) ≤ v1 →
      vp_in ((((24 : Int32) * (I 30 0 18)) + v1)) 192 ∧
      vp_in v1 24 ∧
      ∀ I21 : x_I, I21 = x_u I 42 0 v1.toNatClampNeg ((I 52 0 ((((24 : Int32) * (I 30 0 18)) + v1)).toNatClampNeg)) →
      ∀ x22 : Int32, x22 = v1 + (1 : Int32) →
      w_Mod_undo_2 Q fu x22 I21))
def w_Mod_undo (Q : x_I → Prop) (I : x_I) : Prop :=
  ∀ x1 : Int32, x1 = (0 : Int32) →
  ∃ fu : Nat, w_Mod_undo_2 Q fu x1 I
set_option maxRecDepth 100000 in
set_option maxHeartbeats 4000000 in
theorem c_Mod_undo_62 {l : Launch} {g : x_G} {Y : x_Y} {p : Program} {e : Env} {R : Room} {s : State} {m : MethodId} {args : Array Value} {below : List Frame} {meth : Method} {c : Code} {k n : Nat} (hE : x_E l g p e R s m meth c "CallLedgerModel" prog_9_method_21_code 2 none 0 k n) (hexn : c.exceptionTable.toList = []) (hY : x_Y0 g Y) (ok0_ : x_ok Y 30 0) {Q : x_I → Prop} {L : x_L} :
    ∀ (fu : Nat) (v1 : Int32) (I : x_I) (H : Heap) (locs : List Loc) (ls : Array Slot), w_Mod_undo_62 Q fu v1 I → x_WL g Y L I H locs → x_bd k n k n → lv_has ls 2 [(0, .ref (x_ad Y 30 0)), (1, .int v1)] → W p l e R s m args below meth c H locs (k - k) (n - n) (x_Q g below s k n (x_pV Y (fun L' I' k' n' => L' = L ∧ k' = k ∧ n' = n ∧ Q I') x_nx)) (F0 m 62 ls []) := by
  obtain ⟨hx, hb, hml, hr, hlk, hown, hK, htr, hF, hLo, hRc, hRs⟩ := id hE
  intro fu
  induction fu with
  | zero =>
    intro v1 I H locs ls h
    exact h.elim
  | succ fu ih =>
    intro v1 I H locs ls h hw hbd hl
    unfold w_Mod_undo_62 at h
    refine lv_iload_n hx hb d_Mod_undo_62 rfl (lv_at hl 1 rfl) ?_
    refine lv_aload_n hx hb d_Mod_undo_63 rfl (lv_at hl 0 rfl) ?_
    refine x_getI (t := 30) (i := 0) (j := 9) hx hb hK hw hown ok0_ rfl (by decide) (by decide) (x_wd hK k_807 rfl) (fun _ h => h) fk_8_9 d_Mod_undo_64 ?_
    refine lv_icmp_ge (tgt := 139) hx hb d_Mod_undo_67 (by decide) (fun c8 => ?_) (fun c8 => ?_)
    · replace h := h.1 c8
      exact x_vret hx hb hr hlk hw ⟨rfl, Or.inl ⟨rfl, ⟨rfl, rfl, rfl, h⟩⟩⟩ hbd d_Mod_undo_139
    · replace h := h.2 c8
      refine lv_aload_n hx hb d_Mod_undo_70 rfl (lv_at hl 0 rfl) ?_
      refine x_getR (t := 30) (i := 0) (j := 6) hx hb hK hw hown ok0_ rfl (by decide) (by decide) (x_wd hK k_804 rfl) (fun _ h => h) fk_8_6 (hY.r ok0_ rfl) d_Mod_undo_71 ?_
      have ok9 := hY.ok 6 ok0_ (t' := 46) (i' := 0) rfl
      refine lv_iload_n hx hb d_Mod_undo_74 rfl (lv_at hl 1 rfl) ?_
      refine lv_aload_n hx hb d_Mod_undo_75 rfl (lv_at hl 0 rfl) ?_
      refine x_getR (t := 30) (i := 0) (j := 13) hx hb hK hw hown ok0_ rfl (by decide) (by decide) (x_wd hK k_811 rfl) (fun _ h => h) fk_8_13 (hY.r ok0_ rfl) d_Mod_undo_76 ?_
      have ok10 := hY.ok 13 ok0_ (t' := 53) (i' := 0) rfl
      refine lv_sipush (v := 500) hx hb d_Mod_undo_79 (by decide) ?_
      refine lv_aload_n hx hb d_Mod_undo_82 rfl (lv_at hl 0 rfl) ?_
      refine x_getI (t := 30) (i := 0) (j := 18) hx hb hK hw hown ok0_ rfl (by decide) (by decide) (x_wd hK k_816 rfl) (fun _ h => h) fk_8_18 d_Mod_undo_83 ?_
      refine lv_imul hx hb d_Mod_undo_86 ?_
      refine lv_iload_n hx hb d_Mod_undo_87 rfl (lv_at hl 1 rfl) ?_
      refine lv_iadd hx hb d_Mod_undo_88 ?_
      refine x_iald (t := 53) (i := 0) hx hb hK hw ok10 rfl (hY.n ok10 rfl) h.1 d_Mod_undo_89 ?_
      replace h := h.2
      refine x_iast (t := 46) (i := 0) hx hb hK hw ok9 rfl (hY.n ok9 rfl) h.1 d_Mod_undo_90 (fun I11 H locs e_I11 hw => ?_)
      replace h := h.2 I11 e_I11
      refine lv_aload_n hx hb d_Mod_undo_91 rfl (lv_at hl 0 rfl) ?_
      refine x_getR (t := 30) (i := 0) (j := 7) hx hb hK hw hown ok0_ rfl (by decide) (by decide) (x_wd hK k_805 rfl) (fun _ h => h) fk_8_7 (hY.r ok0_ rfl) d_Mod_undo_92 ?_
      have ok12 := hY.ok 7 ok0_ (t' := 47) (i' := 0) rfl
      refine lv_iload_n hx hb d_Mod_undo_95 rfl (lv_at hl 1 rfl) ?_
      refine lv_aload_n hx hb d_Mod_undo_96 rfl (lv_at hl 0 rfl) ?_
      refine x_getR (t := 30) (i := 0) (j := 14) hx hb hK hw hown ok0_ rfl (by decide) (by decide) (x_wd hK k_812 rfl) (fun _ h => h) fk_8_14 (hY.r ok0_ rfl) d_Mod_undo_97 ?_
      have ok13 := hY.ok 14 ok0_ (t' := 54) (i' := 0) rfl
      refine lv_sipush (v := 500) hx hb d_Mod_undo_100 (by decide) ?_
      refine lv_aload_n hx hb d_Mod_undo_103 rfl (lv_at hl 0 rfl) ?_
      refine x_getI (t := 30) (i := 0) (j := 18) hx hb hK hw hown ok0_ rfl (by decide) (by decide) (x_wd hK k_816 rfl) (fun _ h => h) fk_8_18 d_Mod_undo_104 ?_
      refine lv_imul hx hb d_Mod_undo_107 ?_
      refine lv_iload_n hx hb d_Mod_undo_108 rfl (lv_at hl 1 rfl) ?_
      refine lv_iadd hx hb d_Mod_undo_109 ?_
      refine x_iald (t := 54) (i := 0) hx hb hK hw ok13 rfl (hY.n ok13 rfl) h.1 d_Mod_undo_110 ?_
      replace h := h.2
      refine x_iast (t := 47) (i := 0) hx hb hK hw ok12 rfl (hY.n ok12 rfl) h.1 d_Mod_undo_111 (fun I14 H locs e_I14 hw => ?_)
      replace h := h.2 I14 e_I14
      refine lv_aload_n hx hb d_Mod_undo_112 rfl (lv_at hl 0 rfl) ?_
      refine x_getR (t := 30) (i := 0) (j := 8) hx hb hK hw hown ok0_ rfl (by decide) (by decide) (x_wd hK k_806 rfl) (fun _ h => h) fk_8_8 (hY.r ok0_ rfl) d_Mod_undo_113 ?_
      have ok15 := hY.ok 8 ok0_ (t' := 48) (i' := 0) rfl
      refine lv_iload_n hx hb d_Mod_undo_116 rfl (lv_at hl 1 rfl) ?_
      refine lv_aload_n hx hb d_Mod_undo_117 rfl (lv_at hl 0 rfl) ?_
      refine x_getR (t := 30) (i := 0) (j := 15) hx hb hK hw hown ok0_ rfl (by decide) (by decide) (x_wd hK k_813 rfl) (fun _ h => h) fk_8_15 (hY.r ok0_ rfl) d_Mod_undo_118 ?_
      have ok16 := hY.ok 15 ok0_ (t' := 55) (i' := 0) rfl
      refine lv_sipush (v := 500) hx hb d_Mod_undo_121 (by decide) ?_
      refine lv_aload_n hx hb d_Mod_undo_124 rfl (lv_at hl 0 rfl) ?_
      refine x_getI (t := 30) (i := 0) (j := 18) hx hb hK hw hown ok0_ rfl (by decide) (by decide) (x_wd hK k_816 rfl) (fun _ h => h) fk_8_18 d_Mod_undo_125 ?_
      refine lv_imul hx hb d_Mod_undo_128 ?_
      refine lv_iload_n hx hb d_Mod_undo_129 rfl (lv_at hl 1 rfl) ?_
      refine lv_iadd hx hb d_Mod_undo_130 ?_
      refine x_iald (t := 55) (i := 0) hx hb hK hw ok16 rfl (hY.n ok16 rfl) h.1 d_Mod_undo_131 ?_
      replace h := h.2
      refine x_iast (t := 48) (i := 0) hx hb hK hw ok15 rfl (hY.n ok15 rfl) h.1 d_Mod_undo_132 (fun I17 H locs e_I17 hw => ?_)
      replace h := h.2 I17 e_I17
      obtain ⟨x18, e_x18⟩ : ∃ z : Int32, z = v1 + (1 : Int32) := ⟨_, rfl⟩
      replace h := h x18 e_x18
      refine lv_iinc (v := x18) (lv' := [(1, .int x18), (0, .ref (x_ad Y 30 0))]) hx hb d_Mod_undo_133 hl (k := 1) rfl (by rw [e_x18]; rfl) (by decide) rfl (fun ls hl => ?_)
      refine lv_goto (tgt := 62) hx hb d_Mod_undo_136 (by decide) ?_
      exact ih x18 I17 H locs ls h hw hbd (lv_sub hl [1, 0] rfl)
set_option maxRecDepth 100000 in
set_option maxHeartbeats 4000000 in
theorem c_Mod_undo_2 {l : Launch} {g : x_G} {Y : x_Y} {p : Program} {e : Env} {R : Room} {s : State} {m : MethodId} {args : Array Value} {below : List Frame} {meth : Method} {c : Code} {k n : Nat} (hE : x_E l g p e R s m meth c "CallLedgerModel" prog_9_method_21_code 2 none 0 k n) (hexn : c.exceptionTable.toList = []) (hY : x_Y0 g Y) (ok0_ : x_ok Y 30 0) {Q : x_I → Prop} {L : x_L} :
    ∀ (fu : Nat) (v1 : Int32) (I : x_I) (H : Heap) (locs : List Loc) (ls : Array Slot), w_Mod_undo_2 Q fu v1 I → x_WL g Y L I H locs → x_bd k n k n → lv_has ls 2 [(0, .ref (x_ad Y 30 0)), (1, .int v1)] → W p l e R s m args below meth c H locs (k - k) (n - n) (x_Q g below s k n (x_pV Y (fun L' I' k' n' => L' = L ∧ k' = k ∧ n' = n ∧ Q I') x_nx)) (F0 m 2 ls []) := by
  obtain ⟨hx, hb, hml, hr, hlk, hown, hK, htr, hF, hLo, hRc, hRs⟩ := id hE
  intro fu
  induction fu with
  | zero =>
    intro v1 I H locs ls h
    exact h.elim
  | succ fu ih =>
    intro v1 I H locs ls h hw hbd hl
    unfold w_Mod_undo_2 at h
    refine lv_iload_n hx hb d_Mod_undo_2 rfl (lv_at hl 1 rfl) ?_
    refine lv_bipush (v := 24) hx hb d_Mod_undo_3 (by decide) ?_
    refine lv_icmp_ge (tgt := 34) hx hb d_Mod_undo_5 (by decide) (fun c2 => ?_) (fun c2 => ?_)
    · replace h := h.1 c2
      refine lv_aload_n hx hb d_Mod_undo_34 rfl (lv_at hl 0 rfl) ?_
      refine lv_aload_n hx hb d_Mod_undo_35 rfl (lv_at hl 0 rfl) ?_
      refine x_getR (t := 30) (i := 0) (j := 16) hx hb hK hw hown ok0_ rfl (by decide) (by decide) (x_wd hK k_814 rfl) (fun _ h => h) fk_8_16 (hY.r ok0_ rfl) d_Mod_undo_36 ?_
      have ok3 := hY.ok 16 ok0_ (t' := 56) (i' := 0) rfl
      refine lv_aload_n hx hb d_Mod_undo_39 rfl (lv_at hl 0 rfl) ?_
      refine x_getI (t := 30) (i := 0) (j := 18) hx hb hK hw hown ok0_ rfl (by decide) (by decide) (x_wd hK k_816 rfl) (fun _ h => h) fk_8_18 d_Mod_undo_40 ?_
      refine x_iald (t := 56) (i := 0) hx hb hK hw ok3 rfl (hY.n ok3 rfl) h.1 d_Mod_undo_43 ?_
      replace h := h.2
      refine x_putI (t := 30) (i := 0) (j := 9) hx hb hK hw hown ok0_ rfl (by decide) (by decide) (x_wd hK k_807 rfl) (fun _ h => h) rfl rfl d_Mod_undo_44 (fun I4 H locs e_I4 hw => ?_)
      replace h := h I4 e_I4
      refine lv_aload_n hx hb d_Mod_undo_47 rfl (lv_at hl 0 rfl) ?_
      refine lv_aload_n hx hb d_Mod_undo_48 rfl (lv_at hl 0 rfl) ?_
      refine x_getR (t := 30) (i := 0) (j := 17) hx hb hK hw hown ok0_ rfl (by decide) (by decide) (x_wd hK k_815 rfl) (fun _ h => h) fk_8_17 (hY.r ok0_ rfl) d_Mod_undo_49 ?_
      have ok5 := hY.ok 17 ok0_ (t' := 57) (i' := 0) rfl
      refine lv_aload_n hx hb d_Mod_undo_52 rfl (lv_at hl 0 rfl) ?_
      refine x_getI (t := 30) (i := 0) (j := 18) hx hb hK hw hown ok0_ rfl (by decide) (by decide) (x_wd hK k_816 rfl) (fun _ h => h) fk_8_18 d_Mod_undo_53 ?_
      refine x_iald (t := 57) (i := 0) hx hb hK hw ok5 rfl (hY.n ok5 rfl) h.1 d_Mod_undo_56 ?_
      replace h := h.2
      refine x_putI (t := 30) (i := 0) (j := 11) hx hb hK hw hown ok0_ rfl (by decide) (by decide) (x_wd hK k_809 rfl) (fun _ h => h) rfl rfl d_Mod_undo_57 (fun I6 H locs e_I6 hw => ?_)
      replace h := h I6 e_I6
      refine lv_iconst (v := 0) hx hb d_Mod_undo_60 (by decide) ?_
      refine lv_topi (fun x7 e_x7 => ?_)
      replace h := h x7 e_x7
      refine lv_istore_n (lv' := [(1, .int x7), (0, .ref (x_ad Y 30 0))]) hx hb d_Mod_undo_61 rfl hl (by decide) rfl (fun ls hl => ?_)
      obtain ⟨fu, h⟩ := h
      exact c_Mod_undo_62 hE hexn hY ok0_ fu x7 I6 H locs ls h hw hbd (lv_sub hl [1, 0] rfl)
    · replace h := h.2 c2
      refine lv_aload_n hx hb d_Mod_undo_8 rfl (lv_at hl 0 rfl) ?_
      refine x_getR (t := 30) (i := 0) (j := 2) hx hb hK hw hown ok0_ rfl (by decide) (by decide) (x_wd hK k_800 rfl) (fun _ h => h) fk_8_2 (hY.r ok0_ rfl) d_Mod_undo_9 ?_
      have ok19 := hY.ok 2 ok0_ (t' := 42) (i' := 0) rfl
      refine lv_iload_n hx hb d_Mod_undo_12 rfl (lv_at hl 1 rfl) ?_
      refine lv_aload_n hx hb d_Mod_undo_13 rfl (lv_at hl 0 rfl) ?_
      refine x_getR (t := 30) (i := 0) (j := 12) hx hb hK hw hown ok0_ rfl (by decide) (by decide) (x_wd hK k_810 rfl) (fun _ h => h) fk_8_12 (hY.r ok0_ rfl) d_Mod_undo_14 ?_
      have ok20 := hY.ok 12 ok0_ (t' := 52) (i' := 0) rfl
      refine lv_bipush (v := 24) hx hb d_Mod_undo_17 (by decide) ?_
      refine lv_aload_n hx hb d_Mod_undo_19 rfl (lv_at hl 0 rfl) ?_
      refine x_getI (t := 30) (i := 0) (j := 18) hx hb hK hw hown ok0_ rfl (by decide) (by decide) (x_wd hK k_816 rfl) (fun _ h => h) fk_8_18 d_Mod_undo_20 ?_
      refine lv_imul hx hb d_Mod_undo_23 ?_
      refine lv_iload_n hx hb d_Mod_undo_24 rfl (lv_at hl 1 rfl) ?_
      refine lv_iadd hx hb d_Mod_undo_25 ?_
      refine x_iald (t := 52) (i := 0) hx hb hK hw ok20 rfl (hY.n ok20 rfl) h.1 d_Mod_undo_26 ?_
      replace h := h.2
      refine x_iast (t := 42) (i := 0) hx hb hK hw ok19 rfl (hY.n ok19 rfl) h.1 d_Mod_undo_27 (fun I21 H locs e_I21 hw => ?_)
      replace h := h.2 I21 e_I21
      obtain ⟨x22, e_x22⟩ : ∃ z : Int32, z = v1 + (1 : Int32) := ⟨_, rfl⟩
      replace h := h x22 e_x22
      refine lv_iinc (v := x22) (lv' := [(1, .int x22), (0, .ref (x_ad Y 30 0))]) hx hb d_Mod_undo_28 hl (k := 1) rfl (by rw [e_x22]; rfl) (by decide) rfl (fun ls hl => ?_)
      refine lv_goto (tgt := 2) hx hb d_Mod_undo_31 (by decide) ?_
      exact ih x22 I21 H locs ls h hw hbd (lv_sub hl [1, 0] rfl)
set_option maxRecDepth 100000 in
set_option maxHeartbeats 4000000 in
theorem c_Mod_undo {l : Launch} {g : x_G} {Y : x_Y} (hY : x_Y0 g Y) (ok0_ : x_ok Y 30 0) {Q : x_I → Prop} {L : x_L} {I : x_I} {k n : Nat} (h : w_Mod_undo Q I) : x_C l y_Mod_undo 0 g [.ref (x_ad Y 30 0)] Y L I k n (x_pV Y (fun L' I' k' n' => L' = L ∧ k' = k ∧ n' = n ∧ Q I') x_nx) := by
  refine x_mth k_989 ?_
  intro p e R s m below meth c hE hnm hexn hw hk1 hn1
  obtain ⟨hx, hb, hml, hr, hlk, hown, hK, htr, hF, hLo, hRc, hRs⟩ := id hE
  have hbd : x_bd k n k n := ⟨Nat.le_refl _, hk1, Nat.le_refl _, hn1⟩
  have hl := lv_entry ([.ref (x_ad Y 30 0)]) (n := 2) (Nat.le_of_ble_eq_true rfl)
  generalize (lg_sl [.ref (x_ad Y 30 0)] ++ List.replicate (2 - (lg_sl [.ref (x_ad Y 30 0)]).length) Slot.unset).toArray = ls at hl ⊢
  have hl : lv_has ls 2 [(0, .ref (x_ad Y 30 0))] := hl
  generalize s.heap = H at hw ⊢
  generalize ([] : List Loc) = locs at hw ⊢
  unfold w_Mod_undo at h
  refine lv_iconst (v := 0) hx hb d_Mod_undo_0 (by decide) ?_
  refine lv_topi (fun x1 e_x1 => ?_)
  replace h := h x1 e_x1
  refine lv_istore_n (lv' := [(1, .int x1), (0, .ref (x_ad Y 30 0))]) hx hb d_Mod_undo_1 rfl hl (by decide) rfl (fun ls hl => ?_)
  obtain ⟨fu, h⟩ := h
  exact c_Mod_undo_2 hE hexn hY ok0_ fu x1 I H locs ls h hw hbd (lv_sub hl [1, 0] rfl)
def w_Mod_push (Q : x_I → Prop) (p1 : Int32) (I : x_I) : Prop :=
  vp_in (I 30 0 18) 8 ∧
  vp_in ((((32 : Int32) * (I 30 0 18)) + (I 60 0 (I 30 0 18).toNatClampNeg))) 256 ∧
  ∀ I3 : x_I, I3 = x_u I 59 0 ((((32 : Int32) * (I 30 0 18)) + (I 60 0 (I 30 0 18).toNatClampNeg))).toNatClampNeg p1 →
  vp_in (I3 30 0 18) 8 ∧
  vp_in (I3 30 0 18) 8 ∧
  ∀ I4 : x_I, I4 = x_u I3 60 0 (I3 30 0 18).toNatClampNeg (((I3 60 0 (I3 30 0 18).toNatClampNeg) + (1 : Int32))) →
  Q I4
set_option maxRecDepth 100000 in
set_option maxHeartbeats 4000000 in
theorem c_Mod_push {l : Launch} {g : x_G} {Y : x_Y} (hY : x_Y0 g Y) {p1 : Int32} (ok0_ : x_ok Y 30 0) {Q : x_I → Prop} {L : x_L} {I : x_I} {k n : Nat} (h : w_Mod_push Q p1 I) : x_C l y_Mod_push 0 g [.ref (x_ad Y 30 0), .int p1] Y L I k n (x_pV Y (fun L' I' k' n' => L' = L ∧ k' = k ∧ n' = n ∧ Q I') x_nx) := by
  refine x_mth k_993 ?_
  intro p e R s m below meth c hE hnm hexn hw hk1 hn1
  obtain ⟨hx, hb, hml, hr, hlk, hown, hK, htr, hF, hLo, hRc, hRs⟩ := id hE
  have hbd : x_bd k n k n := ⟨Nat.le_refl _, hk1, Nat.le_refl _, hn1⟩
  have hl := lv_entry ([.ref (x_ad Y 30 0), .int p1]) (n := 2) (Nat.le_of_ble_eq_true rfl)
  generalize (lg_sl [.ref (x_ad Y 30 0), .int p1] ++ List.replicate (2 - (lg_sl [.ref (x_ad Y 30 0), .int p1]).length) Slot.unset).toArray = ls at hl ⊢
  have hl : lv_has ls 2 [(0, .ref (x_ad Y 30 0)), (1, .int p1)] := hl
  generalize s.heap = H at hw ⊢
  generalize ([] : List Loc) = locs at hw ⊢
  unfold w_Mod_push at h
  refine lv_aload_n hx hb d_Mod_push_0 rfl (lv_at hl 0 rfl) ?_
  refine x_getR (t := 30) (i := 0) (j := 19) hx hb hK hw hown ok0_ rfl (by decide) (by decide) (x_wd hK k_817 rfl) (fun _ h => h) fk_8_19 (hY.r ok0_ rfl) d_Mod_push_1 ?_
  have ok1 := hY.ok 19 ok0_ (t' := 59) (i' := 0) rfl
  refine lv_bipush (v := 32) hx hb d_Mod_push_4 (by decide) ?_
  refine lv_aload_n hx hb d_Mod_push_6 rfl (lv_at hl 0 rfl) ?_
  refine x_getI (t := 30) (i := 0) (j := 18) hx hb hK hw hown ok0_ rfl (by decide) (by decide) (x_wd hK k_816 rfl) (fun _ h => h) fk_8_18 d_Mod_push_7 ?_
  refine lv_imul hx hb d_Mod_push_10 ?_
  refine lv_aload_n hx hb d_Mod_push_11 rfl (lv_at hl 0 rfl) ?_
  refine x_getR (t := 30) (i := 0) (j := 20) hx hb hK hw hown ok0_ rfl (by decide) (by decide) (x_wd hK k_818 rfl) (fun _ h => h) fk_8_20 (hY.r ok0_ rfl) d_Mod_push_12 ?_
  have ok2 := hY.ok 20 ok0_ (t' := 60) (i' := 0) rfl
  refine lv_aload_n hx hb d_Mod_push_15 rfl (lv_at hl 0 rfl) ?_
  refine x_getI (t := 30) (i := 0) (j := 18) hx hb hK hw hown ok0_ rfl (by decide) (by decide) (x_wd hK k_816 rfl) (fun _ h => h) fk_8_18 d_Mod_push_16 ?_
  refine x_iald (t := 60) (i := 0) hx hb hK hw ok2 rfl (hY.n ok2 rfl) h.1 d_Mod_push_19 ?_
  replace h := h.2
  refine lv_iadd hx hb d_Mod_push_20 ?_
  refine lv_iload_n hx hb d_Mod_push_21 rfl (lv_at hl 1 rfl) ?_
  refine x_iast (t := 59) (i := 0) hx hb hK hw ok1 rfl (hY.n ok1 rfl) h.1 d_Mod_push_22 (fun I3 H locs e_I3 hw => ?_)
  replace h := h.2 I3 e_I3
  refine lv_aload_n hx hb d_Mod_push_23 rfl (lv_at hl 0 rfl) ?_
  refine x_getR (t := 30) (i := 0) (j := 20) hx hb hK hw hown ok0_ rfl (by decide) (by decide) (x_wd hK k_818 rfl) (fun _ h => h) fk_8_20 (hY.r ok0_ rfl) d_Mod_push_24 ?_
  refine lv_aload_n hx hb d_Mod_push_27 rfl (lv_at hl 0 rfl) ?_
  refine x_getI (t := 30) (i := 0) (j := 18) hx hb hK hw hown ok0_ rfl (by decide) (by decide) (x_wd hK k_816 rfl) (fun _ h => h) fk_8_18 d_Mod_push_28 ?_
  refine lv_dup2_11 hx hb d_Mod_push_31 rfl rfl ?_
  refine x_iald (t := 60) (i := 0) hx hb hK hw ok2 rfl (hY.n ok2 rfl) h.1 d_Mod_push_32 ?_
  replace h := h.2
  refine lv_iconst (v := 1) hx hb d_Mod_push_33 (by decide) ?_
  refine lv_iadd hx hb d_Mod_push_34 ?_
  refine x_iast (t := 60) (i := 0) hx hb hK hw ok2 rfl (hY.n ok2 rfl) h.1 d_Mod_push_35 (fun I4 H locs e_I4 hw => ?_)
  replace h := h.2 I4 e_I4
  exact x_vret hx hb hr hlk hw ⟨rfl, Or.inl ⟨rfl, ⟨rfl, rfl, rfl, h⟩⟩⟩ hbd d_Mod_push_36
def w_Mod_pop (Q : Int32 → x_I → Prop) (I : x_I) : Prop :=
  vp_in (I 30 0 18) 8 ∧
  vp_in (I 30 0 18) 8 ∧
  ∀ I2 : x_I, I2 = x_u I 60 0 (I 30 0 18).toNatClampNeg (((I 60 0 (I 30 0 18).toNatClampNeg) - (1 : Int32))) →
  vp_in (I2 30 0 18) 8 ∧
  vp_in ((((32 : Int32) * (I2 30 0 18)) + (I2 60 0 (I2 30 0 18).toNatClampNeg))) 256 ∧
  Q ((I2 59 0 ((((32 : Int32) * (I2 30 0 18)) + (I2 60 0 (I2 30 0 18).toNatClampNeg))).toNatClampNeg)) I2
set_option maxRecDepth 100000 in
set_option maxHeartbeats 4000000 in
theorem c_Mod_pop {l : Launch} {g : x_G} {Y : x_Y} (hY : x_Y0 g Y) (ok0_ : x_ok Y 30 0) {Q : Int32 → x_I → Prop} {L : x_L} {I : x_I} {k n : Nat} (h : w_Mod_pop Q I) : x_C l y_Mod_pop 0 g [.ref (x_ad Y 30 0)] Y L I k n (x_pI Y (fun v L' I' k' n' => L' = L ∧ k' = k ∧ n' = n ∧ Q v I') x_nx) := by
  refine x_mth k_1018 ?_
  intro p e R s m below meth c hE hnm hexn hw hk1 hn1
  obtain ⟨hx, hb, hml, hr, hlk, hown, hK, htr, hF, hLo, hRc, hRs⟩ := id hE
  have hbd : x_bd k n k n := ⟨Nat.le_refl _, hk1, Nat.le_refl _, hn1⟩
  have hl := lv_entry ([.ref (x_ad Y 30 0)]) (n := 1) (Nat.le_of_ble_eq_true rfl)
  generalize (lg_sl [.ref (x_ad Y 30 0)] ++ List.replicate (1 - (lg_sl [.ref (x_ad Y 30 0)]).length) Slot.unset).toArray = ls at hl ⊢
  have hl : lv_has ls 1 [(0, .ref (x_ad Y 30 0))] := hl
  generalize s.heap = H at hw ⊢
  generalize ([] : List Loc) = locs at hw ⊢
  unfold w_Mod_pop at h
  refine lv_aload_n hx hb d_Mod_pop_0 rfl (lv_at hl 0 rfl) ?_
  refine x_getR (t := 30) (i := 0) (j := 20) hx hb hK hw hown ok0_ rfl (by decide) (by decide) (x_wd hK k_818 rfl) (fun _ h => h) fk_8_20 (hY.r ok0_ rfl) d_Mod_pop_1 ?_
  have ok1 := hY.ok 20 ok0_ (t' := 60) (i' := 0) rfl
  refine lv_aload_n hx hb d_Mod_pop_4 rfl (lv_at hl 0 rfl) ?_
  refine x_getI (t := 30) (i := 0) (j := 18) hx hb hK hw hown ok0_ rfl (by decide) (by decide) (x_wd hK k_816 rfl) (fun _ h => h) fk_8_18 d_Mod_pop_5 ?_
  refine lv_dup2_11 hx hb d_Mod_pop_8 rfl rfl ?_
  refine x_iald (t := 60) (i := 0) hx hb hK hw ok1 rfl (hY.n ok1 rfl) h.1 d_Mod_pop_9 ?_
  replace h := h.2
  refine lv_iconst (v := 1) hx hb d_Mod_pop_10 (by decide) ?_
  refine lv_isub hx hb d_Mod_pop_11 ?_
  refine x_iast (t := 60) (i := 0) hx hb hK hw ok1 rfl (hY.n ok1 rfl) h.1 d_Mod_pop_12 (fun I2 H locs e_I2 hw => ?_)
  replace h := h.2 I2 e_I2
  refine lv_aload_n hx hb d_Mod_pop_13 rfl (lv_at hl 0 rfl) ?_
  refine x_getR (t := 30) (i := 0) (j := 19) hx hb hK hw hown ok0_ rfl (by decide) (by decide) (x_wd hK k_817 rfl) (fun _ h => h) fk_8_19 (hY.r ok0_ rfl) d_Mod_pop_14 ?_
  have ok3 := hY.ok 19 ok0_ (t' := 59) (i' := 0) rfl
  refine lv_bipush (v := 32) hx hb d_Mod_pop_17 (by decide) ?_
  refine lv_aload_n hx hb d_Mod_pop_19 rfl (lv_at hl 0 rfl) ?_
  refine x_getI (t := 30) (i := 0) (j := 18) hx hb hK hw hown ok0_ rfl (by decide) (by decide) (x_wd hK k_816 rfl) (fun _ h => h) fk_8_18 d_Mod_pop_20 ?_
  refine lv_imul hx hb d_Mod_pop_23 ?_
  refine lv_aload_n hx hb d_Mod_pop_24 rfl (lv_at hl 0 rfl) ?_
  refine x_getR (t := 30) (i := 0) (j := 20) hx hb hK hw hown ok0_ rfl (by decide) (by decide) (x_wd hK k_818 rfl) (fun _ h => h) fk_8_20 (hY.r ok0_ rfl) d_Mod_pop_25 ?_
  refine lv_aload_n hx hb d_Mod_pop_28 rfl (lv_at hl 0 rfl) ?_
  refine x_getI (t := 30) (i := 0) (j := 18) hx hb hK hw hown ok0_ rfl (by decide) (by decide) (x_wd hK k_816 rfl) (fun _ h => h) fk_8_18 d_Mod_pop_29 ?_
  refine x_iald (t := 60) (i := 0) hx hb hK hw ok1 rfl (hY.n ok1 rfl) h.1 d_Mod_pop_32 ?_
  replace h := h.2
  refine lv_iadd hx hb d_Mod_pop_33 ?_
  refine x_iald (t := 59) (i := 0) hx hb hK hw ok3 rfl (hY.n ok3 rfl) h.1 d_Mod_pop_34 ?_
  replace h := h.2
  exact x_iret hx hb hr hlk hw ⟨rfl, Or.inl ⟨_, rfl, ⟨rfl, rfl, rfl, h⟩⟩⟩ hbd d_Mod_pop_35
def w_Mod_below (Q : Int32 → Prop) (p1 : Int32) (I : x_I) : Prop :=
  vp_in (I 30 0 18) 8 ∧
  vp_in ((((((32 : Int32) * (I 30 0 18)) + (I 60 0 (I 30 0 18).toNatClampNeg)) - (1 : Int32)) - p1)) 256 ∧
  Q ((I 59 0 ((((((32 : Int32) * (I 30 0 18)) + (I 60 0 (I 30 0 18).toNatClampNeg)) - (1 : Int32)) - p1)).toNatClampNeg))
set_option maxRecDepth 100000 in
set_option maxHeartbeats 4000000 in
theorem c_Mod_below {l : Launch} {g : x_G} {Y : x_Y} (hY : x_Y0 g Y) {p1 : Int32} (ok0_ : x_ok Y 30 0) {Q : Int32 → Prop} {L : x_L} {I : x_I} {k n : Nat} (h : w_Mod_below Q p1 I) : x_C l y_Mod_below 0 g [.ref (x_ad Y 30 0), .int p1] Y L I k n (x_pI Y (fun v L' I' k' n' => L' = L ∧ I' = I ∧ k' = k ∧ n' = n ∧ Q v) x_nx) := by
  refine x_mth k_1001 ?_
  intro p e R s m below meth c hE hnm hexn hw hk1 hn1
  obtain ⟨hx, hb, hml, hr, hlk, hown, hK, htr, hF, hLo, hRc, hRs⟩ := id hE
  have hbd : x_bd k n k n := ⟨Nat.le_refl _, hk1, Nat.le_refl _, hn1⟩
  have hl := lv_entry ([.ref (x_ad Y 30 0), .int p1]) (n := 2) (Nat.le_of_ble_eq_true rfl)
  generalize (lg_sl [.ref (x_ad Y 30 0), .int p1] ++ List.replicate (2 - (lg_sl [.ref (x_ad Y 30 0), .int p1]).length) Slot.unset).toArray = ls at hl ⊢
  have hl : lv_has ls 2 [(0, .ref (x_ad Y 30 0)), (1, .int p1)] := hl
  generalize s.heap = H at hw ⊢
  generalize ([] : List Loc) = locs at hw ⊢
  unfold w_Mod_below at h
  refine lv_aload_n hx hb d_Mod_below_0 rfl (lv_at hl 0 rfl) ?_
  refine x_getR (t := 30) (i := 0) (j := 19) hx hb hK hw hown ok0_ rfl (by decide) (by decide) (x_wd hK k_817 rfl) (fun _ h => h) fk_8_19 (hY.r ok0_ rfl) d_Mod_below_1 ?_
  have ok1 := hY.ok 19 ok0_ (t' := 59) (i' := 0) rfl
  refine lv_bipush (v := 32) hx hb d_Mod_below_4 (by decide) ?_
  refine lv_aload_n hx hb d_Mod_below_6 rfl (lv_at hl 0 rfl) ?_
  refine x_getI (t := 30) (i := 0) (j := 18) hx hb hK hw hown ok0_ rfl (by decide) (by decide) (x_wd hK k_816 rfl) (fun _ h => h) fk_8_18 d_Mod_below_7 ?_
  refine lv_imul hx hb d_Mod_below_10 ?_
  refine lv_aload_n hx hb d_Mod_below_11 rfl (lv_at hl 0 rfl) ?_
  refine x_getR (t := 30) (i := 0) (j := 20) hx hb hK hw hown ok0_ rfl (by decide) (by decide) (x_wd hK k_818 rfl) (fun _ h => h) fk_8_20 (hY.r ok0_ rfl) d_Mod_below_12 ?_
  have ok2 := hY.ok 20 ok0_ (t' := 60) (i' := 0) rfl
  refine lv_aload_n hx hb d_Mod_below_15 rfl (lv_at hl 0 rfl) ?_
  refine x_getI (t := 30) (i := 0) (j := 18) hx hb hK hw hown ok0_ rfl (by decide) (by decide) (x_wd hK k_816 rfl) (fun _ h => h) fk_8_18 d_Mod_below_16 ?_
  refine x_iald (t := 60) (i := 0) hx hb hK hw ok2 rfl (hY.n ok2 rfl) h.1 d_Mod_below_19 ?_
  replace h := h.2
  refine lv_iadd hx hb d_Mod_below_20 ?_
  refine lv_iconst (v := 1) hx hb d_Mod_below_21 (by decide) ?_
  refine lv_isub hx hb d_Mod_below_22 ?_
  refine lv_iload_n hx hb d_Mod_below_23 rfl (lv_at hl 1 rfl) ?_
  refine lv_isub hx hb d_Mod_below_24 ?_
  refine x_iald (t := 59) (i := 0) hx hb hK hw ok1 rfl (hY.n ok1 rfl) h.1 d_Mod_below_25 ?_
  replace h := h.2
  exact x_iret hx hb hr hlk hw ⟨rfl, Or.inl ⟨_, rfl, ⟨rfl, rfl, rfl, rfl, h⟩⟩⟩ hbd d_Mod_below_26
def w_Mod_end (Q : x_I → Prop) (p1 : Int32) (p2 : Int32) (I : x_I) : Prop :=
  ((p1 ≤ 0 →
    ((p1 ≤ (1 : Int32) →
      vp_in (I 30 0 18) 8 ∧
      ∀ x4 : Int32, x4 = (I 66 0 (I 30 0 18).toNatClampNeg) →
      ((p1 ≤ (1 : Int32) →
        ((¬ (I 30 0 18) = 0 →
          ∀ I7 : x_I, I7 = x_u I 30 0 18 ((I 30 0 18) - (1 : Int32)) →
          vp_in (I7 30 0 18) 8 ∧
          vp_in (I7 30 0 18) 8 ∧
          ∀ I8 : x_I, I8 = x_u I7 66 0 (I7 30 0 18).toNatClampNeg (((I7 66 0 (I7 30 0 18).toNatClampNeg) + x4)) →
          w_Mod_push (fun I9 =>
            ((¬ p1 = 0 →
              w_Mod_push (fun I11 =>
                vp_in (I11 30 0 18) 8 ∧
                vp_in (I11 30 0 18) 8 ∧
                ∀ I13 : x_I, I13 = x_u I11 61 0 (I11 30 0 18).toNatClampNeg (((I11 61 0 (I11 30 0 18).toNatClampNeg) + (1 : Int32))) →
                Q I13) (0 : Int32) I9) ∧
            (p1 = 0 →
              w_Mod_push (fun I14 =>
                vp_in (I14 30 0 18) 8 ∧
                vp_in (I14 30 0 18) 8 ∧
                ∀ I16 : x_I, I16 = x_u I14 61 0 (I14 30 0 18).toNatClampNeg (((I14 61 0 (I14 30 0 18).toNatClampNeg) + (1 : Int32))) →
                Q I16) (1 : Int32) I9))) p2 I8) ∧
        ((I 30 0 18) = 0 →
          ∀ I17 : x_I, I17 = x_u I 30 0 30 p1 →
          ∀ I18 : x_I, I18 = x_u I17 30 0 31 p2 →
          ∀ I19 : x_I, I19 = x_u I18 30 0 32 x4 →
          ∀ I20 : x_I, I20 = x_u I19 30 0 18 (-1 : Int32) →
          Q I20))) ∧
      (¬ p1 ≤ (1 : Int32) →
        ∀ x21 : Int32, x21 = (0 : Int32) →
        ((¬ (I 30 0 18) = 0 →
          ∀ I23 : x_I, I23 = x_u I 30 0 18 ((I 30 0 18) - (1 : Int32)) →
          vp_in (I23 30 0 18) 8 ∧
          vp_in (I23 30 0 18) 8 ∧
          ∀ I24 : x_I, I24 = x_u I23 66 0 (I23 30 0 18).toNatClampNeg (((I23 66 0 (I23 30 0 18).toNatClampNeg) + x4)) →
          w_Mod_push (fun I25 =>
            ((¬ p1 = 0 →
              w_Mod_push (fun I27 =>
                vp_in (I27 30 0 18) 8 ∧
                vp_in (I27 30 0 18) 8 ∧
                ∀ I29 : x_I, I29 = x_u I27 61 0 (I27 30 0 18).toNatClampNeg (((I27 61 0 (I27 30 0 18).toNatClampNeg) + (1 : Int32))) →
                Q I29) (0 : Int32) I25) ∧
            (p1 = 0 →
              w_Mod_push (fun I30 =>
                vp_in (I30 30 0 18) 8 ∧
                vp_in (I30 30 0 18) 8 ∧
                ∀ I32 : x_I, I32 = x_u I30 61 0 (I30 30 0 18).toNatClampNeg (((I30 61 0 (I30 30 0 18).toNatClampNeg) + (1 : Int32))) →
                Q I32) (1 : Int32) I25))) x21 I24) ∧
        ((I 30 0 18) = 0 →
          ∀ I33 : x_I, I33 = x_u I 30 0 30 p1 →
          ∀ I34 : x_I, I34 = x_u I33 30 0 31 x21 →
          ∀ I35 : x_I, I35 = x_u I34 30 0 32 x4 →
          ∀ I36 : x_I, I36 = x_u I35 30 0 18 (-1 : Int32) →
          Q I36))))) ∧
    (¬ p1 ≤ (1 : Int32) →
      ∀ x37 : Int32, x37 = (0 : Int32) →
      ((p1 ≤ (1 : Int32) →
        ((¬ (I 30 0 18) = 0 →
          ∀ I40 : x_I, I40 = x_u I 30 0 18 ((I 30 0 18) - (1 : Int32)) →
          vp_in (I40 30 0 18) 8 ∧
          vp_in (I40 30 0 18) 8 ∧
          ∀ I42 : x_I, I42 = x_u I40 66 0 (I40 30 0 18).toNatClampNeg (((I40 66 0 (I40 30 0 18).toNatClampNeg) + x37)) →
          w_Mod_push (fun I43 =>
            ((¬ p1 = 0 →
              w_Mod_push (fun I45 =>
                vp_in (I45 30 0 18) 8 ∧
                vp_in (I45 30 0 18) 8 ∧
                ∀ I47 : x_I, I47 = x_u I45 61 0 (I45 30 0 18).toNatClampNeg (((I45 61 0 (I45 30 0 18).toNatClampNeg) + (1 : Int32))) →
                Q I47) (0 : Int32) I43) ∧
            (p1 = 0 →
              w_Mod_push (fun I48 =>
                vp_in (I48 30 0 18) 8 ∧
                vp_in (I48 30 0 18) 8 ∧
                ∀ I50 : x_I, I50 = x_u I48 61 0 (I48 30 0 18).toNatClampNeg (((I48 61 0 (I48 30 0 18).toNatClampNeg) + (1 : Int32))) →
                Q I50) (1 : Int32) I43))) p2 I42) ∧
        ((I 30 0 18) = 0 →
          ∀ I51 : x_I, I51 = x_u I 30 0 30 p1 →
          ∀ I52 : x_I, I52 = x_u I51 30 0 31 p2 →
          ∀ I53 : x_I, I53 = x_u I52 30 0 32 x37 →
          ∀ I54 : x_I, I54 = x_u I53 30 0 18 (-1 : Int32) →
          Q I54))) ∧
      (¬ p1 ≤ (1 : Int32) →
        ∀ x55 : Int32, x55 = (0 : Int32) →
        ((¬ (I 30 0 18) = 0 →
          ∀ I57 : x_I, I57 = x_u I 30 0 18 ((I 30 0 18) - (1 : Int32)) →
          vp_in (I57 30 0 18) 8 ∧
          vp_in (I57 30 0 18) 8 ∧
          ∀ I59 : x_I, I59 = x_u I57 66 0 (I57 30 0 18).toNatClampNeg (((I57 66 0 (I57 30 0 18).toNatClampNeg) + x37)) →
          w_Mod_push (fun I60 =>
            ((¬ p1 = 0 →
              w_Mod_push (fun I62 =>
                vp_in (I62 30 0 18) 8 ∧
                vp_in (I62 30 0 18) 8 ∧
                ∀ I64 : x_I, I64 = x_u I62 61 0 (I62 30 0 18).toNatClampNeg (((I62 61 0 (I62 30 0 18).toNatClampNeg) + (1 : Int32))) →
                Q I64) (0 : Int32) I60) ∧
            (p1 = 0 →
              w_Mod_push (fun I65 =>
                vp_in (I65 30 0 18) 8 ∧
                vp_in (I65 30 0 18) 8 ∧
                ∀ I67 : x_I, I67 = x_u I65 61 0 (I65 30 0 18).toNatClampNeg (((I65 61 0 (I65 30 0 18).toNatClampNeg) + (1 : Int32))) →
                Q I67) (1 : Int32) I60))) x55 I59) ∧
        ((I 30 0 18) = 0 →
          ∀ I68 : x_I, I68 = x_u I 30 0 30 p1 →
          ∀ I69 : x_I, I69 = x_u I68 30 0 31 x55 →
          ∀ I70 : x_I, I70 = x_u I69 30 0 32 x37 →
          ∀ I71 : x_I, I71 = x_u I70 30 0 18 (-1 : Int32) →
          Q I71))))))) ∧
  (¬ p1 ≤ 0 →
    w_Mod_undo (fun I72 =>
      ((p1 ≤ (1 : Int32) →
        vp_in (I72 30 0 18) 8 ∧
        ∀ x75 : Int32, x75 = (I72 66 0 (I72 30 0 18).toNatClampNeg) →
        ((p1 ≤ (1 : Int32) →
          ((¬ (I72 30 0 18) = 0 →
            ∀ I78 : x_I, I78 = x_u I72 30 0 18 ((I72 30 0 18) - (1 : Int32)) →
            vp_in (I78 30 0 18) 8 ∧
            vp_in (I78 30 0 18) 8 ∧
            ∀ I79 : x_I, I79 = x_u I78 66 0 (I78 30 0 18).toNatClampNeg (((I78 66 0 (I78 30 0 18).toNatClampNeg) + x75)) →
            w_Mod_push (fun I80 =>
              ((¬ p1 = 0 →
                w_Mod_push (fun I82 =>
                  vp_in (I82 30 0 18) 8 ∧
                  vp_in (I82 30 0 18) 8 ∧
                  ∀ I84 : x_I, I84 = x_u I82 61 0 (I82 30 0 18).toNatClampNeg (((I82 61 0 (I82 30 0 18).toNatClampNeg) + (1 : Int32))) →
                  Q I84) (0 : Int32) I80) ∧
              (p1 = 0 →
                w_Mod_push (fun I85 =>
                  vp_in (I85 30 0 18) 8 ∧
                  vp_in (I85 30 0 18) 8 ∧
                  ∀ I87 : x_I, I87 = x_u I85 61 0 (I85 30 0 18).toNatClampNeg (((I85 61 0 (I85 30 0 18).toNatClampNeg) + (1 : Int32))) →
                  Q I87) (1 : Int32) I80))) p2 I79) ∧
          ((I72 30 0 18) = 0 →
            ∀ I88 : x_I, I88 = x_u I72 30 0 30 p1 →
            ∀ I89 : x_I, I89 = x_u I88 30 0 31 p2 →
            ∀ I90 : x_I, I90 = x_u I89 30 0 32 x75 →
            ∀ I91 : x_I, I91 = x_u I90 30 0 18 (-1 : Int32) →
            Q I91))) ∧
        (¬ p1 ≤ (1 : Int32) →
          ∀ x92 : Int32, x92 = (0 : Int32) →
          ((¬ (I72 30 0 18) = 0 →
            ∀ I94 : x_I, I94 = x_u I72 30 0 18 ((I72 30 0 18) - (1 : Int32)) →
            vp_in (I94 30 0 18) 8 ∧
            vp_in (I94 30 0 18) 8 ∧
            ∀ I95 : x_I, I95 = x_u I94 66 0 (I94 30 0 18).toNatClampNeg (((I94 66 0 (I94 30 0 18).toNatClampNeg) + x75)) →
            w_Mod_push (fun I96 =>
              ((¬ p1 = 0 →
                w_Mod_push (fun I98 =>
                  vp_in (I98 30 0 18) 8 ∧
                  vp_in (I98 30 0 18) 8 ∧
                  ∀ I100 : x_I, I100 = x_u I98 61 0 (I98 30 0 18).toNatClampNeg (((I98 61 0 (I98 30 0 18).toNatClampNeg) + (1 : Int32))) →
                  Q I100) (0 : Int32) I96) ∧
              (p1 = 0 →
                w_Mod_push (fun I101 =>
                  vp_in (I101 30 0 18) 8 ∧
                  vp_in (I101 30 0 18) 8 ∧
                  ∀ I103 : x_I, I103 = x_u I101 61 0 (I101 30 0 18).toNatClampNeg (((I101 61 0 (I101 30 0 18).toNatClampNeg) + (1 : Int32))) →
                  Q I103) (1 : Int32) I96))) x92 I95) ∧
          ((I72 30 0 18) = 0 →
            ∀ I104 : x_I, I104 = x_u I72 30 0 30 p1 →
            ∀ I105 : x_I, I105 = x_u I104 30 0 31 x92 →
            ∀ I106 : x_I, I106 = x_u I105 30 0 32 x75 →
            ∀ I107 : x_I, I107 = x_u I106 30 0 18 (-1 : Int32) →
            Q I107))))) ∧
      (¬ p1 ≤ (1 : Int32) →
        ∀ x108 : Int32, x108 = (0 : Int32) →
        ((p1 ≤ (1 : Int32) →
          ((¬ (I72 30 0 18) = 0 →
            ∀ I111 : x_I, I111 = x_u I72 30 0 18 ((I72 30 0 18) - (1 : Int32)) →
            vp_in (I111 30 0 18) 8 ∧
            vp_in (I111 30 0 18) 8 ∧
            ∀ I113 : x_I, I113 = x_u I111 66 0 (I111 30 0 18).toNatClampNeg (((I111 66 0 (I111 30 0 18).toNatClampNeg) + x108)) →
            w_Mod_push (fun I114 =>
              ((¬ p1 = 0 →
                w_Mod_push (fun I116 =>
                  vp_in (I116 30 0 18) 8 ∧
                  vp_in (I116 30 0 18) 8 ∧
                  ∀ I118 : x_I, I118 = x_u I116 61 0 (I116 30 0 18).toNatClampNeg (((I116 61 0 (I116 30 0 18).toNatClampNeg) + (1 : Int32))) →
                  Q I118) (0 : Int32) I114) ∧
              (p1 = 0 →
                w_Mod_push (fun I119 =>
                  vp_in (I119 30 0 18) 8 ∧
                  vp_in (I119 30 0 18) 8 ∧
                  ∀ I121 : x_I, I121 = x_u I119 61 0 (I119 30 0 18).toNatClampNeg (((I119 61 0 (I119 30 0 18).toNatClampNeg) + (1 : Int32))) →
                  Q I121) (1 : Int32) I114))) p2 I113) ∧
          ((I72 30 0 18) = 0 →
            ∀ I122 : x_I, I122 = x_u I72 30 0 30 p1 →
            ∀ I123 : x_I, I123 = x_u I122 30 0 31 p2 →
            ∀ I124 : x_I, I124 = x_u I123 30 0 32 x108 →
            ∀ I125 : x_I, I125 = x_u I124 30 0 18 (-1 : Int32) →
            Q I125))) ∧
        (¬ p1 ≤ (1 : Int32) →
          ∀ x126 : Int32, x126 = (0 : Int32) →
          ((¬ (I72 30 0 18) = 0 →
            ∀ I128 : x_I, I128 = x_u I72 30 0 18 ((I72 30 0 18) - (1 : Int32)) →
            vp_in (I128 30 0 18) 8 ∧
            vp_in (I128 30 0 18) 8 ∧
            ∀ I130 : x_I, I130 = x_u I128 66 0 (I128 30 0 18).toNatClampNeg (((I128 66 0 (I128 30 0 18).toNatClampNeg) + x108)) →
            w_Mod_push (fun I131 =>
              ((¬ p1 = 0 →
                w_Mod_push (fun I133 =>
                  vp_in (I133 30 0 18) 8 ∧
                  vp_in (I133 30 0 18) 8 ∧
                  ∀ I135 : x_I, I135 = x_u I133 61 0 (I133 30 0 18).toNatClampNeg (((I133 61 0 (I133 30 0 18).toNatClampNeg) + (1 : Int32))) →
                  Q I135) (0 : Int32) I131) ∧
              (p1 = 0 →
                w_Mod_push (fun I136 =>
                  vp_in (I136 30 0 18) 8 ∧
                  vp_in (I136 30 0 18) 8 ∧
                  ∀ I138 : x_I, I138 = x_u I136 61 0 (I136 30 0 18).toNatClampNeg (((I136 61 0 (I136 30 0 18).toNatClampNeg) + (1 : Int32))) →
                  Q I138) (1 : Int32) I131))) x126 I130) ∧
          ((I72 30 0 18) = 0 →
            ∀ I139 : x_I, I139 = x_u I72 30 0 30 p1 →
            ∀ I140 : x_I, I140 = x_u I139 30 0 31 x126 →
            ∀ I141 : x_I, I141 = x_u I140 30 0 32 x108 →
            ∀ I142 : x_I, I142 = x_u I141 30 0 18 (-1 : Int32) →
            Q I142))))))) I))
set_option maxRecDepth 100000 in
set_option maxHeartbeats 4000000 in
theorem c_Mod_end {l : Launch} {g : x_G} {Y : x_Y} (hY : x_Y0 g Y) {p1 : Int32} {p2 : Int32} (ok0_ : x_ok Y 30 0) {Q : x_I → Prop} {L : x_L} {I : x_I} {k n : Nat} (h : w_Mod_end Q p1 p2 I) : x_C l y_Mod_end 1 g [.ref (x_ad Y 30 0), .int p1, .int p2] Y L I k n (x_pV Y (fun L' I' k' n' => L' = L ∧ k' = k ∧ n' = n ∧ Q I') x_nx) := by
  refine x_mth k_985 ?_
  intro p e R s m below meth c hE hnm hexn hw hk1 hn1
  obtain ⟨hx, hb, hml, hr, hlk, hown, hK, htr, hF, hLo, hRc, hRs⟩ := id hE
  have hbd : x_bd k n k n := ⟨Nat.le_refl _, hk1, Nat.le_refl _, hn1⟩
  have hl := lv_entry ([.ref (x_ad Y 30 0), .int p1, .int p2]) (n := 5) (Nat.le_of_ble_eq_true rfl)
  generalize (lg_sl [.ref (x_ad Y 30 0), .int p1, .int p2] ++ List.replicate (5 - (lg_sl [.ref (x_ad Y 30 0), .int p1, .int p2]).length) Slot.unset).toArray = ls at hl ⊢
  have hl : lv_has ls 5 [(0, .ref (x_ad Y 30 0)), (1, .int p1), (2, .int p2)] := hl
  generalize s.heap = H at hw ⊢
  generalize ([] : List Loc) = locs at hw ⊢
  unfold w_Mod_end at h
  refine lv_iload_n hx hb d_Mod_end_0 rfl (lv_at hl 1 rfl) ?_
  refine lv_if_le (tgt := 8) hx hb d_Mod_end_1 (by decide) (fun c1 => ?_) (fun c1 => ?_)
  · replace h := h.1 c1
    refine lv_iload_n hx hb d_Mod_end_8 rfl (lv_at hl 1 rfl) ?_
    refine lv_iconst (v := 1) hx hb d_Mod_end_9 (by decide) ?_
    refine lv_icmp_le (tgt := 17) hx hb d_Mod_end_10 (by decide) (fun c2 => ?_) (fun c2 => ?_)
    · replace h := h.1 c2
      refine lv_aload_n hx hb d_Mod_end_17 rfl (lv_at hl 0 rfl) ?_
      refine x_getR (t := 30) (i := 0) (j := 26) hx hb hK hw hown ok0_ rfl (by decide) (by decide) (x_wd hK k_824 rfl) (fun _ h => h) fk_8_26 (hY.r ok0_ rfl) d_Mod_end_18 ?_
      have ok3 := hY.ok 26 ok0_ (t' := 66) (i' := 0) rfl
      refine lv_aload_n hx hb d_Mod_end_21 rfl (lv_at hl 0 rfl) ?_
      refine x_getI (t := 30) (i := 0) (j := 18) hx hb hK hw hown ok0_ rfl (by decide) (by decide) (x_wd hK k_816 rfl) (fun _ h => h) fk_8_18 d_Mod_end_22 ?_
      refine x_iald (t := 66) (i := 0) hx hb hK hw ok3 rfl (hY.n ok3 rfl) h.1 d_Mod_end_25 ?_
      replace h := h.2
      refine lv_topi (fun x4 e_x4 => ?_)
      replace h := h x4 e_x4
      refine lv_istore_n (lv' := [(3, .int x4), (0, .ref (x_ad Y 30 0)), (1, .int p1), (2, .int p2)]) hx hb d_Mod_end_26 rfl hl (by decide) rfl (fun ls hl => ?_)
      refine lv_iload_n hx hb d_Mod_end_27 rfl (lv_at hl 2 rfl) ?_
      refine lv_iconst (v := 1) hx hb d_Mod_end_28 (by decide) ?_
      refine lv_icmp_le (tgt := 36) hx hb d_Mod_end_29 (by decide) (fun c5 => ?_) (fun c5 => ?_)
      · replace h := h.1 c5
        refine lv_iload_n hx hb d_Mod_end_36 rfl (lv_at hl 3 rfl) ?_
        refine lv_istore (lv' := [(4, .int p2), (3, .int x4), (0, .ref (x_ad Y 30 0)), (1, .int p1), (2, .int p2)]) hx hb d_Mod_end_37 hl (by decide) rfl (fun ls hl => ?_)
        refine lv_aload_n hx hb d_Mod_end_39 rfl (lv_at hl 2 rfl) ?_
        refine x_getI (t := 30) (i := 0) (j := 18) hx hb hK hw hown ok0_ rfl (by decide) (by decide) (x_wd hK k_816 rfl) (fun _ h => h) fk_8_18 d_Mod_end_40 ?_
        refine lv_if_ne (tgt := 68) hx hb d_Mod_end_43 (by decide) (fun c6 => ?_) (fun c6 => ?_)
        · replace h := h.1 c6
          refine lv_aload_n hx hb d_Mod_end_68 rfl (lv_at hl 2 rfl) ?_
          refine lv_dup hx hb d_Mod_end_69 rfl ?_
          refine x_getI (t := 30) (i := 0) (j := 18) hx hb hK hw hown ok0_ rfl (by decide) (by decide) (x_wd hK k_816 rfl) (fun _ h => h) fk_8_18 d_Mod_end_70 ?_
          refine lv_iconst (v := 1) hx hb d_Mod_end_73 (by decide) ?_
          refine lv_isub hx hb d_Mod_end_74 ?_
          refine x_putI (t := 30) (i := 0) (j := 18) hx hb hK hw hown ok0_ rfl (by decide) (by decide) (x_wd hK k_816 rfl) (fun _ h => h) rfl rfl d_Mod_end_75 (fun I7 H locs e_I7 hw => ?_)
          replace h := h I7 e_I7
          refine lv_aload_n hx hb d_Mod_end_78 rfl (lv_at hl 2 rfl) ?_
          refine x_getR (t := 30) (i := 0) (j := 26) hx hb hK hw hown ok0_ rfl (by decide) (by decide) (x_wd hK k_824 rfl) (fun _ h => h) fk_8_26 (hY.r ok0_ rfl) d_Mod_end_79 ?_
          refine lv_aload_n hx hb d_Mod_end_82 rfl (lv_at hl 2 rfl) ?_
          refine x_getI (t := 30) (i := 0) (j := 18) hx hb hK hw hown ok0_ rfl (by decide) (by decide) (x_wd hK k_816 rfl) (fun _ h => h) fk_8_18 d_Mod_end_83 ?_
          refine lv_aload_n hx hb d_Mod_end_86 rfl (lv_at hl 2 rfl) ?_
          refine x_getR (t := 30) (i := 0) (j := 26) hx hb hK hw hown ok0_ rfl (by decide) (by decide) (x_wd hK k_824 rfl) (fun _ h => h) fk_8_26 (hY.r ok0_ rfl) d_Mod_end_87 ?_
          refine lv_aload_n hx hb d_Mod_end_90 rfl (lv_at hl 2 rfl) ?_
          refine x_getI (t := 30) (i := 0) (j := 18) hx hb hK hw hown ok0_ rfl (by decide) (by decide) (x_wd hK k_816 rfl) (fun _ h => h) fk_8_18 d_Mod_end_91 ?_
          refine x_iald (t := 66) (i := 0) hx hb hK hw ok3 rfl (hY.n ok3 rfl) h.1 d_Mod_end_94 ?_
          replace h := h.2
          refine lv_iload_n hx hb d_Mod_end_95 rfl (lv_at hl 1 rfl) ?_
          refine lv_iadd hx hb d_Mod_end_96 ?_
          refine x_iast (t := 66) (i := 0) hx hb hK hw ok3 rfl (hY.n ok3 rfl) h.1 d_Mod_end_97 (fun I8 H locs e_I8 hw => ?_)
          replace h := h.2 I8 e_I8
          refine lv_aload_n hx hb d_Mod_end_98 rfl (lv_at hl 2 rfl) ?_
          refine lv_iload hx hb d_Mod_end_99 (lv_at hl 0 rfl) ?_
          refine x_goV (ls := ls) (rest := []) hE hw (c_Mod_push hY ok0_ h) (x_cd hK k_993) q_Mod_push (by decide) (by decide) hl.1 (Nat.le_of_ble_eq_true rfl) hbd d_Mod_end_101 (x_toV (As := [.int p2]) (b := (x_ad Y 30 0)) hx hb hown hK (x_recv hK hw ok0_ rfl (by decide)) k_990 k_992 ks_28 ⟨_, x_cd hK k_993⟩ q_Mod_push rfl rfl d_Mod_end_101) (fun L9 I9 k9 n9 H locs h hw hb9 => ?_) (fun _ _ _ _ _ _ _ h9 => h9.elim)
          obtain ⟨e1, e3, e4, h⟩ := h
          rw [e1] at hw
          rw [e3, e4]
          refine lv_aload_n hx hb d_Mod_end_104 rfl (lv_at hl 2 rfl) ?_
          refine lv_iload_n hx hb d_Mod_end_105 rfl (lv_at hl 3 rfl) ?_
          refine lv_if_ne (tgt := 113) hx hb d_Mod_end_106 (by decide) (fun c10 => ?_) (fun c10 => ?_)
          · replace h := h.1 c10
            refine lv_iconst (v := 0) hx hb d_Mod_end_113 (by decide) ?_
            refine x_goV (ls := ls) (rest := []) hE hw (c_Mod_push hY ok0_ h) (x_cd hK k_993) q_Mod_push (by decide) (by decide) hl.1 (Nat.le_of_ble_eq_true rfl) hbd d_Mod_end_114 (x_toV (As := [.int (0 : Int32)]) (b := (x_ad Y 30 0)) hx hb hown hK (x_recv hK hw ok0_ rfl (by decide)) k_990 k_992 ks_28 ⟨_, x_cd hK k_993⟩ q_Mod_push rfl rfl d_Mod_end_114) (fun L9 I11 k9 n9 H locs h hw hb9 => ?_) (fun _ _ _ _ _ _ _ h9 => h9.elim)
            obtain ⟨e1, e3, e4, h⟩ := h
            rw [e1] at hw
            rw [e3, e4]
            refine lv_aload_n hx hb d_Mod_end_117 rfl (lv_at hl 2 rfl) ?_
            refine x_getR (t := 30) (i := 0) (j := 21) hx hb hK hw hown ok0_ rfl (by decide) (by decide) (x_wd hK k_819 rfl) (fun _ h => h) fk_8_21 (hY.r ok0_ rfl) d_Mod_end_118 ?_
            have ok12 := hY.ok 21 ok0_ (t' := 61) (i' := 0) rfl
            refine lv_aload_n hx hb d_Mod_end_121 rfl (lv_at hl 2 rfl) ?_
            refine x_getI (t := 30) (i := 0) (j := 18) hx hb hK hw hown ok0_ rfl (by decide) (by decide) (x_wd hK k_816 rfl) (fun _ h => h) fk_8_18 d_Mod_end_122 ?_
            refine lv_dup2_11 hx hb d_Mod_end_125 rfl rfl ?_
            refine x_iald (t := 61) (i := 0) hx hb hK hw ok12 rfl (hY.n ok12 rfl) h.1 d_Mod_end_126 ?_
            replace h := h.2
            refine lv_iconst (v := 1) hx hb d_Mod_end_127 (by decide) ?_
            refine lv_iadd hx hb d_Mod_end_128 ?_
            refine x_iast (t := 61) (i := 0) hx hb hK hw ok12 rfl (hY.n ok12 rfl) h.1 d_Mod_end_129 (fun I13 H locs e_I13 hw => ?_)
            replace h := h.2 I13 e_I13
            exact x_vret hx hb hr hlk hw ⟨rfl, Or.inl ⟨rfl, ⟨rfl, rfl, rfl, h⟩⟩⟩ hbd d_Mod_end_130
          · replace h := h.2 c10
            refine lv_iconst (v := 1) hx hb d_Mod_end_109 (by decide) ?_
            refine lv_goto (tgt := 114) hx hb d_Mod_end_110 (by decide) ?_
            refine x_goV (ls := ls) (rest := []) hE hw (c_Mod_push hY ok0_ h) (x_cd hK k_993) q_Mod_push (by decide) (by decide) hl.1 (Nat.le_of_ble_eq_true rfl) hbd d_Mod_end_114 (x_toV (As := [.int (1 : Int32)]) (b := (x_ad Y 30 0)) hx hb hown hK (x_recv hK hw ok0_ rfl (by decide)) k_990 k_992 ks_28 ⟨_, x_cd hK k_993⟩ q_Mod_push rfl rfl d_Mod_end_114) (fun L9 I14 k9 n9 H locs h hw hb9 => ?_) (fun _ _ _ _ _ _ _ h9 => h9.elim)
            obtain ⟨e1, e3, e4, h⟩ := h
            rw [e1] at hw
            rw [e3, e4]
            refine lv_aload_n hx hb d_Mod_end_117 rfl (lv_at hl 2 rfl) ?_
            refine x_getR (t := 30) (i := 0) (j := 21) hx hb hK hw hown ok0_ rfl (by decide) (by decide) (x_wd hK k_819 rfl) (fun _ h => h) fk_8_21 (hY.r ok0_ rfl) d_Mod_end_118 ?_
            have ok15 := hY.ok 21 ok0_ (t' := 61) (i' := 0) rfl
            refine lv_aload_n hx hb d_Mod_end_121 rfl (lv_at hl 2 rfl) ?_
            refine x_getI (t := 30) (i := 0) (j := 18) hx hb hK hw hown ok0_ rfl (by decide) (by decide) (x_wd hK k_816 rfl) (fun _ h => h) fk_8_18 d_Mod_end_122 ?_
            refine lv_dup2_11 hx hb d_Mod_end_125 rfl rfl ?_
            refine x_iald (t := 61) (i := 0) hx hb hK hw ok15 rfl (hY.n ok15 rfl) h.1 d_Mod_end_126 ?_
            replace h := h.2
            refine lv_iconst (v := 1) hx hb d_Mod_end_127 (by decide) ?_
            refine lv_iadd hx hb d_Mod_end_128 ?_
            refine x_iast (t := 61) (i := 0) hx hb hK hw ok15 rfl (hY.n ok15 rfl) h.1 d_Mod_end_129 (fun I16 H locs e_I16 hw => ?_)
            replace h := h.2 I16 e_I16
            exact x_vret hx hb hr hlk hw ⟨rfl, Or.inl ⟨rfl, ⟨rfl, rfl, rfl, h⟩⟩⟩ hbd d_Mod_end_130
        · replace h := h.2 c6
          refine lv_aload_n hx hb d_Mod_end_46 rfl (lv_at hl 2 rfl) ?_
          refine lv_iload_n hx hb d_Mod_end_47 rfl (lv_at hl 3 rfl) ?_
          refine x_putI (t := 30) (i := 0) (j := 30) hx hb hK hw hown ok0_ rfl (by decide) (by decide) (x_wd hK k_828 rfl) (fun _ h => h) rfl rfl d_Mod_end_48 (fun I17 H locs e_I17 hw => ?_)
          replace h := h I17 e_I17
          refine lv_aload_n hx hb d_Mod_end_51 rfl (lv_at hl 2 rfl) ?_
          refine lv_iload hx hb d_Mod_end_52 (lv_at hl 0 rfl) ?_
          refine x_putI (t := 30) (i := 0) (j := 31) hx hb hK hw hown ok0_ rfl (by decide) (by decide) (x_wd hK k_829 rfl) (fun _ h => h) rfl rfl d_Mod_end_54 (fun I18 H locs e_I18 hw => ?_)
          replace h := h I18 e_I18
          refine lv_aload_n hx hb d_Mod_end_57 rfl (lv_at hl 2 rfl) ?_
          refine lv_iload_n hx hb d_Mod_end_58 rfl (lv_at hl 1 rfl) ?_
          refine x_putI (t := 30) (i := 0) (j := 32) hx hb hK hw hown ok0_ rfl (by decide) (by decide) (x_wd hK k_830 rfl) (fun _ h => h) rfl rfl d_Mod_end_59 (fun I19 H locs e_I19 hw => ?_)
          replace h := h I19 e_I19
          refine lv_aload_n hx hb d_Mod_end_62 rfl (lv_at hl 2 rfl) ?_
          refine lv_iconst (v := (-1)) hx hb d_Mod_end_63 (by decide) ?_
          refine x_putI (t := 30) (i := 0) (j := 18) hx hb hK hw hown ok0_ rfl (by decide) (by decide) (x_wd hK k_816 rfl) (fun _ h => h) rfl rfl d_Mod_end_64 (fun I20 H locs e_I20 hw => ?_)
          replace h := h I20 e_I20
          exact x_vret hx hb hr hlk hw ⟨rfl, Or.inl ⟨rfl, ⟨rfl, rfl, rfl, h⟩⟩⟩ hbd d_Mod_end_67
      · replace h := h.2 c5
        refine lv_iconst (v := 0) hx hb d_Mod_end_32 (by decide) ?_
        refine lv_goto (tgt := 37) hx hb d_Mod_end_33 (by decide) ?_
        refine lv_topi (fun x21 e_x21 => ?_)
        replace h := h x21 e_x21
        refine lv_istore (lv' := [(4, .int x21), (3, .int x4), (0, .ref (x_ad Y 30 0)), (1, .int p1), (2, .int p2)]) hx hb d_Mod_end_37 hl (by decide) rfl (fun ls hl => ?_)
        refine lv_aload_n hx hb d_Mod_end_39 rfl (lv_at hl 2 rfl) ?_
        refine x_getI (t := 30) (i := 0) (j := 18) hx hb hK hw hown ok0_ rfl (by decide) (by decide) (x_wd hK k_816 rfl) (fun _ h => h) fk_8_18 d_Mod_end_40 ?_
        refine lv_if_ne (tgt := 68) hx hb d_Mod_end_43 (by decide) (fun c22 => ?_) (fun c22 => ?_)
        · replace h := h.1 c22
          refine lv_aload_n hx hb d_Mod_end_68 rfl (lv_at hl 2 rfl) ?_
          refine lv_dup hx hb d_Mod_end_69 rfl ?_
          refine x_getI (t := 30) (i := 0) (j := 18) hx hb hK hw hown ok0_ rfl (by decide) (by decide) (x_wd hK k_816 rfl) (fun _ h => h) fk_8_18 d_Mod_end_70 ?_
          refine lv_iconst (v := 1) hx hb d_Mod_end_73 (by decide) ?_
          refine lv_isub hx hb d_Mod_end_74 ?_
          refine x_putI (t := 30) (i := 0) (j := 18) hx hb hK hw hown ok0_ rfl (by decide) (by decide) (x_wd hK k_816 rfl) (fun _ h => h) rfl rfl d_Mod_end_75 (fun I23 H locs e_I23 hw => ?_)
          replace h := h I23 e_I23
          refine lv_aload_n hx hb d_Mod_end_78 rfl (lv_at hl 2 rfl) ?_
          refine x_getR (t := 30) (i := 0) (j := 26) hx hb hK hw hown ok0_ rfl (by decide) (by decide) (x_wd hK k_824 rfl) (fun _ h => h) fk_8_26 (hY.r ok0_ rfl) d_Mod_end_79 ?_
          refine lv_aload_n hx hb d_Mod_end_82 rfl (lv_at hl 2 rfl) ?_
          refine x_getI (t := 30) (i := 0) (j := 18) hx hb hK hw hown ok0_ rfl (by decide) (by decide) (x_wd hK k_816 rfl) (fun _ h => h) fk_8_18 d_Mod_end_83 ?_
          refine lv_aload_n hx hb d_Mod_end_86 rfl (lv_at hl 2 rfl) ?_
          refine x_getR (t := 30) (i := 0) (j := 26) hx hb hK hw hown ok0_ rfl (by decide) (by decide) (x_wd hK k_824 rfl) (fun _ h => h) fk_8_26 (hY.r ok0_ rfl) d_Mod_end_87 ?_
          refine lv_aload_n hx hb d_Mod_end_90 rfl (lv_at hl 2 rfl) ?_
          refine x_getI (t := 30) (i := 0) (j := 18) hx hb hK hw hown ok0_ rfl (by decide) (by decide) (x_wd hK k_816 rfl) (fun _ h => h) fk_8_18 d_Mod_end_91 ?_
          refine x_iald (t := 66) (i := 0) hx hb hK hw ok3 rfl (hY.n ok3 rfl) h.1 d_Mod_end_94 ?_
          replace h := h.2
          refine lv_iload_n hx hb d_Mod_end_95 rfl (lv_at hl 1 rfl) ?_
          refine lv_iadd hx hb d_Mod_end_96 ?_
          refine x_iast (t := 66) (i := 0) hx hb hK hw ok3 rfl (hY.n ok3 rfl) h.1 d_Mod_end_97 (fun I24 H locs e_I24 hw => ?_)
          replace h := h.2 I24 e_I24
          refine lv_aload_n hx hb d_Mod_end_98 rfl (lv_at hl 2 rfl) ?_
          refine lv_iload hx hb d_Mod_end_99 (lv_at hl 0 rfl) ?_
          refine x_goV (ls := ls) (rest := []) hE hw (c_Mod_push hY ok0_ h) (x_cd hK k_993) q_Mod_push (by decide) (by decide) hl.1 (Nat.le_of_ble_eq_true rfl) hbd d_Mod_end_101 (x_toV (As := [.int x21]) (b := (x_ad Y 30 0)) hx hb hown hK (x_recv hK hw ok0_ rfl (by decide)) k_990 k_992 ks_28 ⟨_, x_cd hK k_993⟩ q_Mod_push rfl rfl d_Mod_end_101) (fun L9 I25 k9 n9 H locs h hw hb9 => ?_) (fun _ _ _ _ _ _ _ h9 => h9.elim)
          obtain ⟨e1, e3, e4, h⟩ := h
          rw [e1] at hw
          rw [e3, e4]
          refine lv_aload_n hx hb d_Mod_end_104 rfl (lv_at hl 2 rfl) ?_
          refine lv_iload_n hx hb d_Mod_end_105 rfl (lv_at hl 3 rfl) ?_
          refine lv_if_ne (tgt := 113) hx hb d_Mod_end_106 (by decide) (fun c26 => ?_) (fun c26 => ?_)
          · replace h := h.1 c26
            refine lv_iconst (v := 0) hx hb d_Mod_end_113 (by decide) ?_
            refine x_goV (ls := ls) (rest := []) hE hw (c_Mod_push hY ok0_ h) (x_cd hK k_993) q_Mod_push (by decide) (by decide) hl.1 (Nat.le_of_ble_eq_true rfl) hbd d_Mod_end_114 (x_toV (As := [.int (0 : Int32)]) (b := (x_ad Y 30 0)) hx hb hown hK (x_recv hK hw ok0_ rfl (by decide)) k_990 k_992 ks_28 ⟨_, x_cd hK k_993⟩ q_Mod_push rfl rfl d_Mod_end_114) (fun L9 I27 k9 n9 H locs h hw hb9 => ?_) (fun _ _ _ _ _ _ _ h9 => h9.elim)
            obtain ⟨e1, e3, e4, h⟩ := h
            rw [e1] at hw
            rw [e3, e4]
            refine lv_aload_n hx hb d_Mod_end_117 rfl (lv_at hl 2 rfl) ?_
            refine x_getR (t := 30) (i := 0) (j := 21) hx hb hK hw hown ok0_ rfl (by decide) (by decide) (x_wd hK k_819 rfl) (fun _ h => h) fk_8_21 (hY.r ok0_ rfl) d_Mod_end_118 ?_
            have ok28 := hY.ok 21 ok0_ (t' := 61) (i' := 0) rfl
            refine lv_aload_n hx hb d_Mod_end_121 rfl (lv_at hl 2 rfl) ?_
            refine x_getI (t := 30) (i := 0) (j := 18) hx hb hK hw hown ok0_ rfl (by decide) (by decide) (x_wd hK k_816 rfl) (fun _ h => h) fk_8_18 d_Mod_end_122 ?_
            refine lv_dup2_11 hx hb d_Mod_end_125 rfl rfl ?_
            refine x_iald (t := 61) (i := 0) hx hb hK hw ok28 rfl (hY.n ok28 rfl) h.1 d_Mod_end_126 ?_
            replace h := h.2
            refine lv_iconst (v := 1) hx hb d_Mod_end_127 (by decide) ?_
            refine lv_iadd hx hb d_Mod_end_128 ?_
            refine x_iast (t := 61) (i := 0) hx hb hK hw ok28 rfl (hY.n ok28 rfl) h.1 d_Mod_end_129 (fun I29 H locs e_I29 hw => ?_)
            replace h := h.2 I29 e_I29
            exact x_vret hx hb hr hlk hw ⟨rfl, Or.inl ⟨rfl, ⟨rfl, rfl, rfl, h⟩⟩⟩ hbd d_Mod_end_130
          · replace h := h.2 c26
            refine lv_iconst (v := 1) hx hb d_Mod_end_109 (by decide) ?_
            refine lv_goto (tgt := 114) hx hb d_Mod_end_110 (by decide) ?_
            refine x_goV (ls := ls) (rest := []) hE hw (c_Mod_push hY ok0_ h) (x_cd hK k_993) q_Mod_push (by decide) (by decide) hl.1 (Nat.le_of_ble_eq_true rfl) hbd d_Mod_end_114 (x_toV (As := [.int (1 : Int32)]) (b := (x_ad Y 30 0)) hx hb hown hK (x_recv hK hw ok0_ rfl (by decide)) k_990 k_992 ks_28 ⟨_, x_cd hK k_993⟩ q_Mod_push rfl rfl d_Mod_end_114) (fun L9 I30 k9 n9 H locs h hw hb9 => ?_) (fun _ _ _ _ _ _ _ h9 => h9.elim)
            obtain ⟨e1, e3, e4, h⟩ := h
            rw [e1] at hw
            rw [e3, e4]
            refine lv_aload_n hx hb d_Mod_end_117 rfl (lv_at hl 2 rfl) ?_
            refine x_getR (t := 30) (i := 0) (j := 21) hx hb hK hw hown ok0_ rfl (by decide) (by decide) (x_wd hK k_819 rfl) (fun _ h => h) fk_8_21 (hY.r ok0_ rfl) d_Mod_end_118 ?_
            have ok31 := hY.ok 21 ok0_ (t' := 61) (i' := 0) rfl
            refine lv_aload_n hx hb d_Mod_end_121 rfl (lv_at hl 2 rfl) ?_
            refine x_getI (t := 30) (i := 0) (j := 18) hx hb hK hw hown ok0_ rfl (by decide) (by decide) (x_wd hK k_816 rfl) (fun _ h => h) fk_8_18 d_Mod_end_122 ?_
            refine lv_dup2_11 hx hb d_Mod_end_125 rfl rfl ?_
            refine x_iald (t := 61) (i := 0) hx hb hK hw ok31 rfl (hY.n ok31 rfl) h.1 d_Mod_end_126 ?_
            replace h := h.2
            refine lv_iconst (v := 1) hx hb d_Mod_end_127 (by decide) ?_
            refine lv_iadd hx hb d_Mod_end_128 ?_
            refine x_iast (t := 61) (i := 0) hx hb hK hw ok31 rfl (hY.n ok31 rfl) h.1 d_Mod_end_129 (fun I32 H locs e_I32 hw => ?_)
            replace h := h.2 I32 e_I32
            exact x_vret hx hb hr hlk hw ⟨rfl, Or.inl ⟨rfl, ⟨rfl, rfl, rfl, h⟩⟩⟩ hbd d_Mod_end_130
        · replace h := h.2 c22
          refine lv_aload_n hx hb d_Mod_end_46 rfl (lv_at hl 2 rfl) ?_
          refine lv_iload_n hx hb d_Mod_end_47 rfl (lv_at hl 3 rfl) ?_
          refine x_putI (t := 30) (i := 0) (j := 30) hx hb hK hw hown ok0_ rfl (by decide) (by decide) (x_wd hK k_828 rfl) (fun _ h => h) rfl rfl d_Mod_end_48 (fun I33 H locs e_I33 hw => ?_)
          replace h := h I33 e_I33
          refine lv_aload_n hx hb d_Mod_end_51 rfl (lv_at hl 2 rfl) ?_
          refine lv_iload hx hb d_Mod_end_52 (lv_at hl 0 rfl) ?_
          refine x_putI (t := 30) (i := 0) (j := 31) hx hb hK hw hown ok0_ rfl (by decide) (by decide) (x_wd hK k_829 rfl) (fun _ h => h) rfl rfl d_Mod_end_54 (fun I34 H locs e_I34 hw => ?_)
          replace h := h I34 e_I34
          refine lv_aload_n hx hb d_Mod_end_57 rfl (lv_at hl 2 rfl) ?_
          refine lv_iload_n hx hb d_Mod_end_58 rfl (lv_at hl 1 rfl) ?_
          refine x_putI (t := 30) (i := 0) (j := 32) hx hb hK hw hown ok0_ rfl (by decide) (by decide) (x_wd hK k_830 rfl) (fun _ h => h) rfl rfl d_Mod_end_59 (fun I35 H locs e_I35 hw => ?_)
          replace h := h I35 e_I35
          refine lv_aload_n hx hb d_Mod_end_62 rfl (lv_at hl 2 rfl) ?_
          refine lv_iconst (v := (-1)) hx hb d_Mod_end_63 (by decide) ?_
          refine x_putI (t := 30) (i := 0) (j := 18) hx hb hK hw hown ok0_ rfl (by decide) (by decide) (x_wd hK k_816 rfl) (fun _ h => h) rfl rfl d_Mod_end_64 (fun I36 H locs e_I36 hw => ?_)
          replace h := h I36 e_I36
          exact x_vret hx hb hr hlk hw ⟨rfl, Or.inl ⟨rfl, ⟨rfl, rfl, rfl, h⟩⟩⟩ hbd d_Mod_end_67
    · replace h := h.2 c2
      refine lv_iconst (v := 0) hx hb d_Mod_end_13 (by decide) ?_
      refine lv_goto (tgt := 26) hx hb d_Mod_end_14 (by decide) ?_
      refine lv_topi (fun x37 e_x37 => ?_)
      replace h := h x37 e_x37
      refine lv_istore_n (lv' := [(3, .int x37), (0, .ref (x_ad Y 30 0)), (1, .int p1), (2, .int p2)]) hx hb d_Mod_end_26 rfl hl (by decide) rfl (fun ls hl => ?_)
      refine lv_iload_n hx hb d_Mod_end_27 rfl (lv_at hl 2 rfl) ?_
      refine lv_iconst (v := 1) hx hb d_Mod_end_28 (by decide) ?_
      refine lv_icmp_le (tgt := 36) hx hb d_Mod_end_29 (by decide) (fun c38 => ?_) (fun c38 => ?_)
      · replace h := h.1 c38
        refine lv_iload_n hx hb d_Mod_end_36 rfl (lv_at hl 3 rfl) ?_
        refine lv_istore (lv' := [(4, .int p2), (3, .int x37), (0, .ref (x_ad Y 30 0)), (1, .int p1), (2, .int p2)]) hx hb d_Mod_end_37 hl (by decide) rfl (fun ls hl => ?_)
        refine lv_aload_n hx hb d_Mod_end_39 rfl (lv_at hl 2 rfl) ?_
        refine x_getI (t := 30) (i := 0) (j := 18) hx hb hK hw hown ok0_ rfl (by decide) (by decide) (x_wd hK k_816 rfl) (fun _ h => h) fk_8_18 d_Mod_end_40 ?_
        refine lv_if_ne (tgt := 68) hx hb d_Mod_end_43 (by decide) (fun c39 => ?_) (fun c39 => ?_)
        · replace h := h.1 c39
          refine lv_aload_n hx hb d_Mod_end_68 rfl (lv_at hl 2 rfl) ?_
          refine lv_dup hx hb d_Mod_end_69 rfl ?_
          refine x_getI (t := 30) (i := 0) (j := 18) hx hb hK hw hown ok0_ rfl (by decide) (by decide) (x_wd hK k_816 rfl) (fun _ h => h) fk_8_18 d_Mod_end_70 ?_
          refine lv_iconst (v := 1) hx hb d_Mod_end_73 (by decide) ?_
          refine lv_isub hx hb d_Mod_end_74 ?_
          refine x_putI (t := 30) (i := 0) (j := 18) hx hb hK hw hown ok0_ rfl (by decide) (by decide) (x_wd hK k_816 rfl) (fun _ h => h) rfl rfl d_Mod_end_75 (fun I40 H locs e_I40 hw => ?_)
          replace h := h I40 e_I40
          refine lv_aload_n hx hb d_Mod_end_78 rfl (lv_at hl 2 rfl) ?_
          refine x_getR (t := 30) (i := 0) (j := 26) hx hb hK hw hown ok0_ rfl (by decide) (by decide) (x_wd hK k_824 rfl) (fun _ h => h) fk_8_26 (hY.r ok0_ rfl) d_Mod_end_79 ?_
          have ok41 := hY.ok 26 ok0_ (t' := 66) (i' := 0) rfl
          refine lv_aload_n hx hb d_Mod_end_82 rfl (lv_at hl 2 rfl) ?_
          refine x_getI (t := 30) (i := 0) (j := 18) hx hb hK hw hown ok0_ rfl (by decide) (by decide) (x_wd hK k_816 rfl) (fun _ h => h) fk_8_18 d_Mod_end_83 ?_
          refine lv_aload_n hx hb d_Mod_end_86 rfl (lv_at hl 2 rfl) ?_
          refine x_getR (t := 30) (i := 0) (j := 26) hx hb hK hw hown ok0_ rfl (by decide) (by decide) (x_wd hK k_824 rfl) (fun _ h => h) fk_8_26 (hY.r ok0_ rfl) d_Mod_end_87 ?_
          refine lv_aload_n hx hb d_Mod_end_90 rfl (lv_at hl 2 rfl) ?_
          refine x_getI (t := 30) (i := 0) (j := 18) hx hb hK hw hown ok0_ rfl (by decide) (by decide) (x_wd hK k_816 rfl) (fun _ h => h) fk_8_18 d_Mod_end_91 ?_
          refine x_iald (t := 66) (i := 0) hx hb hK hw ok41 rfl (hY.n ok41 rfl) h.1 d_Mod_end_94 ?_
          replace h := h.2
          refine lv_iload_n hx hb d_Mod_end_95 rfl (lv_at hl 1 rfl) ?_
          refine lv_iadd hx hb d_Mod_end_96 ?_
          refine x_iast (t := 66) (i := 0) hx hb hK hw ok41 rfl (hY.n ok41 rfl) h.1 d_Mod_end_97 (fun I42 H locs e_I42 hw => ?_)
          replace h := h.2 I42 e_I42
          refine lv_aload_n hx hb d_Mod_end_98 rfl (lv_at hl 2 rfl) ?_
          refine lv_iload hx hb d_Mod_end_99 (lv_at hl 0 rfl) ?_
          refine x_goV (ls := ls) (rest := []) hE hw (c_Mod_push hY ok0_ h) (x_cd hK k_993) q_Mod_push (by decide) (by decide) hl.1 (Nat.le_of_ble_eq_true rfl) hbd d_Mod_end_101 (x_toV (As := [.int p2]) (b := (x_ad Y 30 0)) hx hb hown hK (x_recv hK hw ok0_ rfl (by decide)) k_990 k_992 ks_28 ⟨_, x_cd hK k_993⟩ q_Mod_push rfl rfl d_Mod_end_101) (fun L9 I43 k9 n9 H locs h hw hb9 => ?_) (fun _ _ _ _ _ _ _ h9 => h9.elim)
          obtain ⟨e1, e3, e4, h⟩ := h
          rw [e1] at hw
          rw [e3, e4]
          refine lv_aload_n hx hb d_Mod_end_104 rfl (lv_at hl 2 rfl) ?_
          refine lv_iload_n hx hb d_Mod_end_105 rfl (lv_at hl 3 rfl) ?_
          refine lv_if_ne (tgt := 113) hx hb d_Mod_end_106 (by decide) (fun c44 => ?_) (fun c44 => ?_)
          · replace h := h.1 c44
            refine lv_iconst (v := 0) hx hb d_Mod_end_113 (by decide) ?_
            refine x_goV (ls := ls) (rest := []) hE hw (c_Mod_push hY ok0_ h) (x_cd hK k_993) q_Mod_push (by decide) (by decide) hl.1 (Nat.le_of_ble_eq_true rfl) hbd d_Mod_end_114 (x_toV (As := [.int (0 : Int32)]) (b := (x_ad Y 30 0)) hx hb hown hK (x_recv hK hw ok0_ rfl (by decide)) k_990 k_992 ks_28 ⟨_, x_cd hK k_993⟩ q_Mod_push rfl rfl d_Mod_end_114) (fun L9 I45 k9 n9 H locs h hw hb9 => ?_) (fun _ _ _ _ _ _ _ h9 => h9.elim)
            obtain ⟨e1, e3, e4, h⟩ := h
            rw [e1] at hw
            rw [e3, e4]
            refine lv_aload_n hx hb d_Mod_end_117 rfl (lv_at hl 2 rfl) ?_
            refine x_getR (t := 30) (i := 0) (j := 21) hx hb hK hw hown ok0_ rfl (by decide) (by decide) (x_wd hK k_819 rfl) (fun _ h => h) fk_8_21 (hY.r ok0_ rfl) d_Mod_end_118 ?_
            have ok46 := hY.ok 21 ok0_ (t' := 61) (i' := 0) rfl
            refine lv_aload_n hx hb d_Mod_end_121 rfl (lv_at hl 2 rfl) ?_
            refine x_getI (t := 30) (i := 0) (j := 18) hx hb hK hw hown ok0_ rfl (by decide) (by decide) (x_wd hK k_816 rfl) (fun _ h => h) fk_8_18 d_Mod_end_122 ?_
            refine lv_dup2_11 hx hb d_Mod_end_125 rfl rfl ?_
            refine x_iald (t := 61) (i := 0) hx hb hK hw ok46 rfl (hY.n ok46 rfl) h.1 d_Mod_end_126 ?_
            replace h := h.2
            refine lv_iconst (v := 1) hx hb d_Mod_end_127 (by decide) ?_
            refine lv_iadd hx hb d_Mod_end_128 ?_
            refine x_iast (t := 61) (i := 0) hx hb hK hw ok46 rfl (hY.n ok46 rfl) h.1 d_Mod_end_129 (fun I47 H locs e_I47 hw => ?_)
            replace h := h.2 I47 e_I47
            exact x_vret hx hb hr hlk hw ⟨rfl, Or.inl ⟨rfl, ⟨rfl, rfl, rfl, h⟩⟩⟩ hbd d_Mod_end_130
          · replace h := h.2 c44
            refine lv_iconst (v := 1) hx hb d_Mod_end_109 (by decide) ?_
            refine lv_goto (tgt := 114) hx hb d_Mod_end_110 (by decide) ?_
            refine x_goV (ls := ls) (rest := []) hE hw (c_Mod_push hY ok0_ h) (x_cd hK k_993) q_Mod_push (by decide) (by decide) hl.1 (Nat.le_of_ble_eq_true rfl) hbd d_Mod_end_114 (x_toV (As := [.int (1 : Int32)]) (b := (x_ad Y 30 0)) hx hb hown hK (x_recv hK hw ok0_ rfl (by decide)) k_990 k_992 ks_28 ⟨_, x_cd hK k_993⟩ q_Mod_push rfl rfl d_Mod_end_114) (fun L9 I48 k9 n9 H locs h hw hb9 => ?_) (fun _ _ _ _ _ _ _ h9 => h9.elim)
            obtain ⟨e1, e3, e4, h⟩ := h
            rw [e1] at hw
            rw [e3, e4]
            refine lv_aload_n hx hb d_Mod_end_117 rfl (lv_at hl 2 rfl) ?_
            refine x_getR (t := 30) (i := 0) (j := 21) hx hb hK hw hown ok0_ rfl (by decide) (by decide) (x_wd hK k_819 rfl) (fun _ h => h) fk_8_21 (hY.r ok0_ rfl) d_Mod_end_118 ?_
            have ok49 := hY.ok 21 ok0_ (t' := 61) (i' := 0) rfl
            refine lv_aload_n hx hb d_Mod_end_121 rfl (lv_at hl 2 rfl) ?_
            refine x_getI (t := 30) (i := 0) (j := 18) hx hb hK hw hown ok0_ rfl (by decide) (by decide) (x_wd hK k_816 rfl) (fun _ h => h) fk_8_18 d_Mod_end_122 ?_
            refine lv_dup2_11 hx hb d_Mod_end_125 rfl rfl ?_
            refine x_iald (t := 61) (i := 0) hx hb hK hw ok49 rfl (hY.n ok49 rfl) h.1 d_Mod_end_126 ?_
            replace h := h.2
            refine lv_iconst (v := 1) hx hb d_Mod_end_127 (by decide) ?_
            refine lv_iadd hx hb d_Mod_end_128 ?_
            refine x_iast (t := 61) (i := 0) hx hb hK hw ok49 rfl (hY.n ok49 rfl) h.1 d_Mod_end_129 (fun I50 H locs e_I50 hw => ?_)
            replace h := h.2 I50 e_I50
            exact x_vret hx hb hr hlk hw ⟨rfl, Or.inl ⟨rfl, ⟨rfl, rfl, rfl, h⟩⟩⟩ hbd d_Mod_end_130
        · replace h := h.2 c39
          refine lv_aload_n hx hb d_Mod_end_46 rfl (lv_at hl 2 rfl) ?_
          refine lv_iload_n hx hb d_Mod_end_47 rfl (lv_at hl 3 rfl) ?_
          refine x_putI (t := 30) (i := 0) (j := 30) hx hb hK hw hown ok0_ rfl (by decide) (by decide) (x_wd hK k_828 rfl) (fun _ h => h) rfl rfl d_Mod_end_48 (fun I51 H locs e_I51 hw => ?_)
          replace h := h I51 e_I51
          refine lv_aload_n hx hb d_Mod_end_51 rfl (lv_at hl 2 rfl) ?_
          refine lv_iload hx hb d_Mod_end_52 (lv_at hl 0 rfl) ?_
          refine x_putI (t := 30) (i := 0) (j := 31) hx hb hK hw hown ok0_ rfl (by decide) (by decide) (x_wd hK k_829 rfl) (fun _ h => h) rfl rfl d_Mod_end_54 (fun I52 H locs e_I52 hw => ?_)
          replace h := h I52 e_I52
          refine lv_aload_n hx hb d_Mod_end_57 rfl (lv_at hl 2 rfl) ?_
          refine lv_iload_n hx hb d_Mod_end_58 rfl (lv_at hl 1 rfl) ?_
          refine x_putI (t := 30) (i := 0) (j := 32) hx hb hK hw hown ok0_ rfl (by decide) (by decide) (x_wd hK k_830 rfl) (fun _ h => h) rfl rfl d_Mod_end_59 (fun I53 H locs e_I53 hw => ?_)
          replace h := h I53 e_I53
          refine lv_aload_n hx hb d_Mod_end_62 rfl (lv_at hl 2 rfl) ?_
          refine lv_iconst (v := (-1)) hx hb d_Mod_end_63 (by decide) ?_
          refine x_putI (t := 30) (i := 0) (j := 18) hx hb hK hw hown ok0_ rfl (by decide) (by decide) (x_wd hK k_816 rfl) (fun _ h => h) rfl rfl d_Mod_end_64 (fun I54 H locs e_I54 hw => ?_)
          replace h := h I54 e_I54
          exact x_vret hx hb hr hlk hw ⟨rfl, Or.inl ⟨rfl, ⟨rfl, rfl, rfl, h⟩⟩⟩ hbd d_Mod_end_67
      · replace h := h.2 c38
        refine lv_iconst (v := 0) hx hb d_Mod_end_32 (by decide) ?_
        refine lv_goto (tgt := 37) hx hb d_Mod_end_33 (by decide) ?_
        refine lv_topi (fun x55 e_x55 => ?_)
        replace h := h x55 e_x55
        refine lv_istore (lv' := [(4, .int x55), (3, .int x37), (0, .ref (x_ad Y 30 0)), (1, .int p1), (2, .int p2)]) hx hb d_Mod_end_37 hl (by decide) rfl (fun ls hl => ?_)
        refine lv_aload_n hx hb d_Mod_end_39 rfl (lv_at hl 2 rfl) ?_
        refine x_getI (t := 30) (i := 0) (j := 18) hx hb hK hw hown ok0_ rfl (by decide) (by decide) (x_wd hK k_816 rfl) (fun _ h => h) fk_8_18 d_Mod_end_40 ?_
        refine lv_if_ne (tgt := 68) hx hb d_Mod_end_43 (by decide) (fun c56 => ?_) (fun c56 => ?_)
        · replace h := h.1 c56
          refine lv_aload_n hx hb d_Mod_end_68 rfl (lv_at hl 2 rfl) ?_
          refine lv_dup hx hb d_Mod_end_69 rfl ?_
          refine x_getI (t := 30) (i := 0) (j := 18) hx hb hK hw hown ok0_ rfl (by decide) (by decide) (x_wd hK k_816 rfl) (fun _ h => h) fk_8_18 d_Mod_end_70 ?_
          refine lv_iconst (v := 1) hx hb d_Mod_end_73 (by decide) ?_
          refine lv_isub hx hb d_Mod_end_74 ?_
          refine x_putI (t := 30) (i := 0) (j := 18) hx hb hK hw hown ok0_ rfl (by decide) (by decide) (x_wd hK k_816 rfl) (fun _ h => h) rfl rfl d_Mod_end_75 (fun I57 H locs e_I57 hw => ?_)
          replace h := h I57 e_I57
          refine lv_aload_n hx hb d_Mod_end_78 rfl (lv_at hl 2 rfl) ?_
          refine x_getR (t := 30) (i := 0) (j := 26) hx hb hK hw hown ok0_ rfl (by decide) (by decide) (x_wd hK k_824 rfl) (fun _ h => h) fk_8_26 (hY.r ok0_ rfl) d_Mod_end_79 ?_
          have ok58 := hY.ok 26 ok0_ (t' := 66) (i' := 0) rfl
          refine lv_aload_n hx hb d_Mod_end_82 rfl (lv_at hl 2 rfl) ?_
          refine x_getI (t := 30) (i := 0) (j := 18) hx hb hK hw hown ok0_ rfl (by decide) (by decide) (x_wd hK k_816 rfl) (fun _ h => h) fk_8_18 d_Mod_end_83 ?_
          refine lv_aload_n hx hb d_Mod_end_86 rfl (lv_at hl 2 rfl) ?_
          refine x_getR (t := 30) (i := 0) (j := 26) hx hb hK hw hown ok0_ rfl (by decide) (by decide) (x_wd hK k_824 rfl) (fun _ h => h) fk_8_26 (hY.r ok0_ rfl) d_Mod_end_87 ?_
          refine lv_aload_n hx hb d_Mod_end_90 rfl (lv_at hl 2 rfl) ?_
          refine x_getI (t := 30) (i := 0) (j := 18) hx hb hK hw hown ok0_ rfl (by decide) (by decide) (x_wd hK k_816 rfl) (fun _ h => h) fk_8_18 d_Mod_end_91 ?_
          refine x_iald (t := 66) (i := 0) hx hb hK hw ok58 rfl (hY.n ok58 rfl) h.1 d_Mod_end_94 ?_
          replace h := h.2
          refine lv_iload_n hx hb d_Mod_end_95 rfl (lv_at hl 1 rfl) ?_
          refine lv_iadd hx hb d_Mod_end_96 ?_
          refine x_iast (t := 66) (i := 0) hx hb hK hw ok58 rfl (hY.n ok58 rfl) h.1 d_Mod_end_97 (fun I59 H locs e_I59 hw => ?_)
          replace h := h.2 I59 e_I59
          refine lv_aload_n hx hb d_Mod_end_98 rfl (lv_at hl 2 rfl) ?_
          refine lv_iload hx hb d_Mod_end_99 (lv_at hl 0 rfl) ?_
          refine x_goV (ls := ls) (rest := []) hE hw (c_Mod_push hY ok0_ h) (x_cd hK k_993) q_Mod_push (by decide) (by decide) hl.1 (Nat.le_of_ble_eq_true rfl) hbd d_Mod_end_101 (x_toV (As := [.int x55]) (b := (x_ad Y 30 0)) hx hb hown hK (x_recv hK hw ok0_ rfl (by decide)) k_990 k_992 ks_28 ⟨_, x_cd hK k_993⟩ q_Mod_push rfl rfl d_Mod_end_101) (fun L9 I60 k9 n9 H locs h hw hb9 => ?_) (fun _ _ _ _ _ _ _ h9 => h9.elim)
          obtain ⟨e1, e3, e4, h⟩ := h
          rw [e1] at hw
          rw [e3, e4]
          refine lv_aload_n hx hb d_Mod_end_104 rfl (lv_at hl 2 rfl) ?_
          refine lv_iload_n hx hb d_Mod_end_105 rfl (lv_at hl 3 rfl) ?_
          refine lv_if_ne (tgt := 113) hx hb d_Mod_end_106 (by decide) (fun c61 => ?_) (fun c61 => ?_)
          · replace h := h.1 c61
            refine lv_iconst (v := 0) hx hb d_Mod_end_113 (by decide) ?_
            refine x_goV (ls := ls) (rest := []) hE hw (c_Mod_push hY ok0_ h) (x_cd hK k_993) q_Mod_push (by decide) (by decide) hl.1 (Nat.le_of_ble_eq_true rfl) hbd d_Mod_end_114 (x_toV (As := [.int (0 : Int32)]) (b := (x_ad Y 30 0)) hx hb hown hK (x_recv hK hw ok0_ rfl (by decide)) k_990 k_992 ks_28 ⟨_, x_cd hK k_993⟩ q_Mod_push rfl rfl d_Mod_end_114) (fun L9 I62 k9 n9 H locs h hw hb9 => ?_) (fun _ _ _ _ _ _ _ h9 => h9.elim)
            obtain ⟨e1, e3, e4, h⟩ := h
            rw [e1] at hw
            rw [e3, e4]
            refine lv_aload_n hx hb d_Mod_end_117 rfl (lv_at hl 2 rfl) ?_
            refine x_getR (t := 30) (i := 0) (j := 21) hx hb hK hw hown ok0_ rfl (by decide) (by decide) (x_wd hK k_819 rfl) (fun _ h => h) fk_8_21 (hY.r ok0_ rfl) d_Mod_end_118 ?_
            have ok63 := hY.ok 21 ok0_ (t' := 61) (i' := 0) rfl
            refine lv_aload_n hx hb d_Mod_end_121 rfl (lv_at hl 2 rfl) ?_
            refine x_getI (t := 30) (i := 0) (j := 18) hx hb hK hw hown ok0_ rfl (by decide) (by decide) (x_wd hK k_816 rfl) (fun _ h => h) fk_8_18 d_Mod_end_122 ?_
            refine lv_dup2_11 hx hb d_Mod_end_125 rfl rfl ?_
            refine x_iald (t := 61) (i := 0) hx hb hK hw ok63 rfl (hY.n ok63 rfl) h.1 d_Mod_end_126 ?_
            replace h := h.2
            refine lv_iconst (v := 1) hx hb d_Mod_end_127 (by decide) ?_
            refine lv_iadd hx hb d_Mod_end_128 ?_
            refine x_iast (t := 61) (i := 0) hx hb hK hw ok63 rfl (hY.n ok63 rfl) h.1 d_Mod_end_129 (fun I64 H locs e_I64 hw => ?_)
            replace h := h.2 I64 e_I64
            exact x_vret hx hb hr hlk hw ⟨rfl, Or.inl ⟨rfl, ⟨rfl, rfl, rfl, h⟩⟩⟩ hbd d_Mod_end_130
          · replace h := h.2 c61
            refine lv_iconst (v := 1) hx hb d_Mod_end_109 (by decide) ?_
            refine lv_goto (tgt := 114) hx hb d_Mod_end_110 (by decide) ?_
            refine x_goV (ls := ls) (rest := []) hE hw (c_Mod_push hY ok0_ h) (x_cd hK k_993) q_Mod_push (by decide) (by decide) hl.1 (Nat.le_of_ble_eq_true rfl) hbd d_Mod_end_114 (x_toV (As := [.int (1 : Int32)]) (b := (x_ad Y 30 0)) hx hb hown hK (x_recv hK hw ok0_ rfl (by decide)) k_990 k_992 ks_28 ⟨_, x_cd hK k_993⟩ q_Mod_push rfl rfl d_Mod_end_114) (fun L9 I65 k9 n9 H locs h hw hb9 => ?_) (fun _ _ _ _ _ _ _ h9 => h9.elim)
            obtain ⟨e1, e3, e4, h⟩ := h
            rw [e1] at hw
            rw [e3, e4]
            refine lv_aload_n hx hb d_Mod_end_117 rfl (lv_at hl 2 rfl) ?_
            refine x_getR (t := 30) (i := 0) (j := 21) hx hb hK hw hown ok0_ rfl (by decide) (by decide) (x_wd hK k_819 rfl) (fun _ h => h) fk_8_21 (hY.r ok0_ rfl) d_Mod_end_118 ?_
            have ok66 := hY.ok 21 ok0_ (t' := 61) (i' := 0) rfl
            refine lv_aload_n hx hb d_Mod_end_121 rfl (lv_at hl 2 rfl) ?_
            refine x_getI (t := 30) (i := 0) (j := 18) hx hb hK hw hown ok0_ rfl (by decide) (by decide) (x_wd hK k_816 rfl) (fun _ h => h) fk_8_18 d_Mod_end_122 ?_
            refine lv_dup2_11 hx hb d_Mod_end_125 rfl rfl ?_
            refine x_iald (t := 61) (i := 0) hx hb hK hw ok66 rfl (hY.n ok66 rfl) h.1 d_Mod_end_126 ?_
            replace h := h.2
            refine lv_iconst (v := 1) hx hb d_Mod_end_127 (by decide) ?_
            refine lv_iadd hx hb d_Mod_end_128 ?_
            refine x_iast (t := 61) (i := 0) hx hb hK hw ok66 rfl (hY.n ok66 rfl) h.1 d_Mod_end_129 (fun I67 H locs e_I67 hw => ?_)
            replace h := h.2 I67 e_I67
            exact x_vret hx hb hr hlk hw ⟨rfl, Or.inl ⟨rfl, ⟨rfl, rfl, rfl, h⟩⟩⟩ hbd d_Mod_end_130
        · replace h := h.2 c56
          refine lv_aload_n hx hb d_Mod_end_46 rfl (lv_at hl 2 rfl) ?_
          refine lv_iload_n hx hb d_Mod_end_47 rfl (lv_at hl 3 rfl) ?_
          refine x_putI (t := 30) (i := 0) (j := 30) hx hb hK hw hown ok0_ rfl (by decide) (by decide) (x_wd hK k_828 rfl) (fun _ h => h) rfl rfl d_Mod_end_48 (fun I68 H locs e_I68 hw => ?_)
          replace h := h I68 e_I68
          refine lv_aload_n hx hb d_Mod_end_51 rfl (lv_at hl 2 rfl) ?_
          refine lv_iload hx hb d_Mod_end_52 (lv_at hl 0 rfl) ?_
          refine x_putI (t := 30) (i := 0) (j := 31) hx hb hK hw hown ok0_ rfl (by decide) (by decide) (x_wd hK k_829 rfl) (fun _ h => h) rfl rfl d_Mod_end_54 (fun I69 H locs e_I69 hw => ?_)
          replace h := h I69 e_I69
          refine lv_aload_n hx hb d_Mod_end_57 rfl (lv_at hl 2 rfl) ?_
          refine lv_iload_n hx hb d_Mod_end_58 rfl (lv_at hl 1 rfl) ?_
          refine x_putI (t := 30) (i := 0) (j := 32) hx hb hK hw hown ok0_ rfl (by decide) (by decide) (x_wd hK k_830 rfl) (fun _ h => h) rfl rfl d_Mod_end_59 (fun I70 H locs e_I70 hw => ?_)
          replace h := h I70 e_I70
          refine lv_aload_n hx hb d_Mod_end_62 rfl (lv_at hl 2 rfl) ?_
          refine lv_iconst (v := (-1)) hx hb d_Mod_end_63 (by decide) ?_
          refine x_putI (t := 30) (i := 0) (j := 18) hx hb hK hw hown ok0_ rfl (by decide) (by decide) (x_wd hK k_816 rfl) (fun _ h => h) rfl rfl d_Mod_end_64 (fun I71 H locs e_I71 hw => ?_)
          replace h := h I71 e_I71
          exact x_vret hx hb hr hlk hw ⟨rfl, Or.inl ⟨rfl, ⟨rfl, rfl, rfl, h⟩⟩⟩ hbd d_Mod_end_67
  · replace h := h.2 c1
    refine lv_aload_n hx hb d_Mod_end_4 rfl (lv_at hl 0 rfl) ?_
    refine x_goV (ls := ls) (rest := []) hE hw (c_Mod_undo hY ok0_ h) (x_cd hK k_989) q_Mod_undo (by decide) (by decide) hl.1 (Nat.le_of_ble_eq_true rfl) hbd d_Mod_end_5 (x_toV (As := []) (b := (x_ad Y 30 0)) hx hb hown hK (x_recv hK hw ok0_ rfl (by decide)) k_986 k_988 ks_27 ⟨_, x_cd hK k_989⟩ q_Mod_undo rfl rfl d_Mod_end_5) (fun L9 I72 k9 n9 H locs h hw hb9 => ?_) (fun _ _ _ _ _ _ _ h9 => h9.elim)
    obtain ⟨e1, e3, e4, h⟩ := h
    rw [e1] at hw
    rw [e3, e4]
    refine lv_iload_n hx hb d_Mod_end_8 rfl (lv_at hl 1 rfl) ?_
    refine lv_iconst (v := 1) hx hb d_Mod_end_9 (by decide) ?_
    refine lv_icmp_le (tgt := 17) hx hb d_Mod_end_10 (by decide) (fun c73 => ?_) (fun c73 => ?_)
    · replace h := h.1 c73
      refine lv_aload_n hx hb d_Mod_end_17 rfl (lv_at hl 0 rfl) ?_
      refine x_getR (t := 30) (i := 0) (j := 26) hx hb hK hw hown ok0_ rfl (by decide) (by decide) (x_wd hK k_824 rfl) (fun _ h => h) fk_8_26 (hY.r ok0_ rfl) d_Mod_end_18 ?_
      have ok74 := hY.ok 26 ok0_ (t' := 66) (i' := 0) rfl
      refine lv_aload_n hx hb d_Mod_end_21 rfl (lv_at hl 0 rfl) ?_
      refine x_getI (t := 30) (i := 0) (j := 18) hx hb hK hw hown ok0_ rfl (by decide) (by decide) (x_wd hK k_816 rfl) (fun _ h => h) fk_8_18 d_Mod_end_22 ?_
      refine x_iald (t := 66) (i := 0) hx hb hK hw ok74 rfl (hY.n ok74 rfl) h.1 d_Mod_end_25 ?_
      replace h := h.2
      refine lv_topi (fun x75 e_x75 => ?_)
      replace h := h x75 e_x75
      refine lv_istore_n (lv' := [(3, .int x75), (0, .ref (x_ad Y 30 0)), (1, .int p1), (2, .int p2)]) hx hb d_Mod_end_26 rfl hl (by decide) rfl (fun ls hl => ?_)
      refine lv_iload_n hx hb d_Mod_end_27 rfl (lv_at hl 2 rfl) ?_
      refine lv_iconst (v := 1) hx hb d_Mod_end_28 (by decide) ?_
      refine lv_icmp_le (tgt := 36) hx hb d_Mod_end_29 (by decide) (fun c76 => ?_) (fun c76 => ?_)
      · replace h := h.1 c76
        refine lv_iload_n hx hb d_Mod_end_36 rfl (lv_at hl 3 rfl) ?_
        refine lv_istore (lv' := [(4, .int p2), (3, .int x75), (0, .ref (x_ad Y 30 0)), (1, .int p1), (2, .int p2)]) hx hb d_Mod_end_37 hl (by decide) rfl (fun ls hl => ?_)
        refine lv_aload_n hx hb d_Mod_end_39 rfl (lv_at hl 2 rfl) ?_
        refine x_getI (t := 30) (i := 0) (j := 18) hx hb hK hw hown ok0_ rfl (by decide) (by decide) (x_wd hK k_816 rfl) (fun _ h => h) fk_8_18 d_Mod_end_40 ?_
        refine lv_if_ne (tgt := 68) hx hb d_Mod_end_43 (by decide) (fun c77 => ?_) (fun c77 => ?_)
        · replace h := h.1 c77
          refine lv_aload_n hx hb d_Mod_end_68 rfl (lv_at hl 2 rfl) ?_
          refine lv_dup hx hb d_Mod_end_69 rfl ?_
          refine x_getI (t := 30) (i := 0) (j := 18) hx hb hK hw hown ok0_ rfl (by decide) (by decide) (x_wd hK k_816 rfl) (fun _ h => h) fk_8_18 d_Mod_end_70 ?_
          refine lv_iconst (v := 1) hx hb d_Mod_end_73 (by decide) ?_
          refine lv_isub hx hb d_Mod_end_74 ?_
          refine x_putI (t := 30) (i := 0) (j := 18) hx hb hK hw hown ok0_ rfl (by decide) (by decide) (x_wd hK k_816 rfl) (fun _ h => h) rfl rfl d_Mod_end_75 (fun I78 H locs e_I78 hw => ?_)
          replace h := h I78 e_I78
          refine lv_aload_n hx hb d_Mod_end_78 rfl (lv_at hl 2 rfl) ?_
          refine x_getR (t := 30) (i := 0) (j := 26) hx hb hK hw hown ok0_ rfl (by decide) (by decide) (x_wd hK k_824 rfl) (fun _ h => h) fk_8_26 (hY.r ok0_ rfl) d_Mod_end_79 ?_
          refine lv_aload_n hx hb d_Mod_end_82 rfl (lv_at hl 2 rfl) ?_
          refine x_getI (t := 30) (i := 0) (j := 18) hx hb hK hw hown ok0_ rfl (by decide) (by decide) (x_wd hK k_816 rfl) (fun _ h => h) fk_8_18 d_Mod_end_83 ?_
          refine lv_aload_n hx hb d_Mod_end_86 rfl (lv_at hl 2 rfl) ?_
          refine x_getR (t := 30) (i := 0) (j := 26) hx hb hK hw hown ok0_ rfl (by decide) (by decide) (x_wd hK k_824 rfl) (fun _ h => h) fk_8_26 (hY.r ok0_ rfl) d_Mod_end_87 ?_
          refine lv_aload_n hx hb d_Mod_end_90 rfl (lv_at hl 2 rfl) ?_
          refine x_getI (t := 30) (i := 0) (j := 18) hx hb hK hw hown ok0_ rfl (by decide) (by decide) (x_wd hK k_816 rfl) (fun _ h => h) fk_8_18 d_Mod_end_91 ?_
          refine x_iald (t := 66) (i := 0) hx hb hK hw ok74 rfl (hY.n ok74 rfl) h.1 d_Mod_end_94 ?_
          replace h := h.2
          refine lv_iload_n hx hb d_Mod_end_95 rfl (lv_at hl 1 rfl) ?_
          refine lv_iadd hx hb d_Mod_end_96 ?_
          refine x_iast (t := 66) (i := 0) hx hb hK hw ok74 rfl (hY.n ok74 rfl) h.1 d_Mod_end_97 (fun I79 H locs e_I79 hw => ?_)
          replace h := h.2 I79 e_I79
          refine lv_aload_n hx hb d_Mod_end_98 rfl (lv_at hl 2 rfl) ?_
          refine lv_iload hx hb d_Mod_end_99 (lv_at hl 0 rfl) ?_
          refine x_goV (ls := ls) (rest := []) hE hw (c_Mod_push hY ok0_ h) (x_cd hK k_993) q_Mod_push (by decide) (by decide) hl.1 (Nat.le_of_ble_eq_true rfl) hbd d_Mod_end_101 (x_toV (As := [.int p2]) (b := (x_ad Y 30 0)) hx hb hown hK (x_recv hK hw ok0_ rfl (by decide)) k_990 k_992 ks_28 ⟨_, x_cd hK k_993⟩ q_Mod_push rfl rfl d_Mod_end_101) (fun L9 I80 k9 n9 H locs h hw hb9 => ?_) (fun _ _ _ _ _ _ _ h9 => h9.elim)
          obtain ⟨e1, e3, e4, h⟩ := h
          rw [e1] at hw
          rw [e3, e4]
          refine lv_aload_n hx hb d_Mod_end_104 rfl (lv_at hl 2 rfl) ?_
          refine lv_iload_n hx hb d_Mod_end_105 rfl (lv_at hl 3 rfl) ?_
          refine lv_if_ne (tgt := 113) hx hb d_Mod_end_106 (by decide) (fun c81 => ?_) (fun c81 => ?_)
          · replace h := h.1 c81
            refine lv_iconst (v := 0) hx hb d_Mod_end_113 (by decide) ?_
            refine x_goV (ls := ls) (rest := []) hE hw (c_Mod_push hY ok0_ h) (x_cd hK k_993) q_Mod_push (by decide) (by decide) hl.1 (Nat.le_of_ble_eq_true rfl) hbd d_Mod_end_114 (x_toV (As := [.int (0 : Int32)]) (b := (x_ad Y 30 0)) hx hb hown hK (x_recv hK hw ok0_ rfl (by decide)) k_990 k_992 ks_28 ⟨_, x_cd hK k_993⟩ q_Mod_push rfl rfl d_Mod_end_114) (fun L9 I82 k9 n9 H locs h hw hb9 => ?_) (fun _ _ _ _ _ _ _ h9 => h9.elim)
            obtain ⟨e1, e3, e4, h⟩ := h
            rw [e1] at hw
            rw [e3, e4]
            refine lv_aload_n hx hb d_Mod_end_117 rfl (lv_at hl 2 rfl) ?_
            refine x_getR (t := 30) (i := 0) (j := 21) hx hb hK hw hown ok0_ rfl (by decide) (by decide) (x_wd hK k_819 rfl) (fun _ h => h) fk_8_21 (hY.r ok0_ rfl) d_Mod_end_118 ?_
            have ok83 := hY.ok 21 ok0_ (t' := 61) (i' := 0) rfl
            refine lv_aload_n hx hb d_Mod_end_121 rfl (lv_at hl 2 rfl) ?_
            refine x_getI (t := 30) (i := 0) (j := 18) hx hb hK hw hown ok0_ rfl (by decide) (by decide) (x_wd hK k_816 rfl) (fun _ h => h) fk_8_18 d_Mod_end_122 ?_
            refine lv_dup2_11 hx hb d_Mod_end_125 rfl rfl ?_
            refine x_iald (t := 61) (i := 0) hx hb hK hw ok83 rfl (hY.n ok83 rfl) h.1 d_Mod_end_126 ?_
            replace h := h.2
            refine lv_iconst (v := 1) hx hb d_Mod_end_127 (by decide) ?_
            refine lv_iadd hx hb d_Mod_end_128 ?_
            refine x_iast (t := 61) (i := 0) hx hb hK hw ok83 rfl (hY.n ok83 rfl) h.1 d_Mod_end_129 (fun I84 H locs e_I84 hw => ?_)
            replace h := h.2 I84 e_I84
            exact x_vret hx hb hr hlk hw ⟨rfl, Or.inl ⟨rfl, ⟨rfl, rfl, rfl, h⟩⟩⟩ hbd d_Mod_end_130
          · replace h := h.2 c81
            refine lv_iconst (v := 1) hx hb d_Mod_end_109 (by decide) ?_
            refine lv_goto (tgt := 114) hx hb d_Mod_end_110 (by decide) ?_
            refine x_goV (ls := ls) (rest := []) hE hw (c_Mod_push hY ok0_ h) (x_cd hK k_993) q_Mod_push (by decide) (by decide) hl.1 (Nat.le_of_ble_eq_true rfl) hbd d_Mod_end_114 (x_toV (As := [.int (1 : Int32)]) (b := (x_ad Y 30 0)) hx hb hown hK (x_recv hK hw ok0_ rfl (by decide)) k_990 k_992 ks_28 ⟨_, x_cd hK k_993⟩ q_Mod_push rfl rfl d_Mod_end_114) (fun L9 I85 k9 n9 H locs h hw hb9 => ?_) (fun _ _ _ _ _ _ _ h9 => h9.elim)
            obtain ⟨e1, e3, e4, h⟩ := h
            rw [e1] at hw
            rw [e3, e4]
            refine lv_aload_n hx hb d_Mod_end_117 rfl (lv_at hl 2 rfl) ?_
            refine x_getR (t := 30) (i := 0) (j := 21) hx hb hK hw hown ok0_ rfl (by decide) (by decide) (x_wd hK k_819 rfl) (fun _ h => h) fk_8_21 (hY.r ok0_ rfl) d_Mod_end_118 ?_
            have ok86 := hY.ok 21 ok0_ (t' := 61) (i' := 0) rfl
            refine lv_aload_n hx hb d_Mod_end_121 rfl (lv_at hl 2 rfl) ?_
            refine x_getI (t := 30) (i := 0) (j := 18) hx hb hK hw hown ok0_ rfl (by decide) (by decide) (x_wd hK k_816 rfl) (fun _ h => h) fk_8_18 d_Mod_end_122 ?_
            refine lv_dup2_11 hx hb d_Mod_end_125 rfl rfl ?_
            refine x_iald (t := 61) (i := 0) hx hb hK hw ok86 rfl (hY.n ok86 rfl) h.1 d_Mod_end_126 ?_
            replace h := h.2
            refine lv_iconst (v := 1) hx hb d_Mod_end_127 (by decide) ?_
            refine lv_iadd hx hb d_Mod_end_128 ?_
            refine x_iast (t := 61) (i := 0) hx hb hK hw ok86 rfl (hY.n ok86 rfl) h.1 d_Mod_end_129 (fun I87 H locs e_I87 hw => ?_)
            replace h := h.2 I87 e_I87
            exact x_vret hx hb hr hlk hw ⟨rfl, Or.inl ⟨rfl, ⟨rfl, rfl, rfl, h⟩⟩⟩ hbd d_Mod_end_130
        · replace h := h.2 c77
          refine lv_aload_n hx hb d_Mod_end_46 rfl (lv_at hl 2 rfl) ?_
          refine lv_iload_n hx hb d_Mod_end_47 rfl (lv_at hl 3 rfl) ?_
          refine x_putI (t := 30) (i := 0) (j := 30) hx hb hK hw hown ok0_ rfl (by decide) (by decide) (x_wd hK k_828 rfl) (fun _ h => h) rfl rfl d_Mod_end_48 (fun I88 H locs e_I88 hw => ?_)
          replace h := h I88 e_I88
          refine lv_aload_n hx hb d_Mod_end_51 rfl (lv_at hl 2 rfl) ?_
          refine lv_iload hx hb d_Mod_end_52 (lv_at hl 0 rfl) ?_
          refine x_putI (t := 30) (i := 0) (j := 31) hx hb hK hw hown ok0_ rfl (by decide) (by decide) (x_wd hK k_829 rfl) (fun _ h => h) rfl rfl d_Mod_end_54 (fun I89 H locs e_I89 hw => ?_)
          replace h := h I89 e_I89
          refine lv_aload_n hx hb d_Mod_end_57 rfl (lv_at hl 2 rfl) ?_
          refine lv_iload_n hx hb d_Mod_end_58 rfl (lv_at hl 1 rfl) ?_
          refine x_putI (t := 30) (i := 0) (j := 32) hx hb hK hw hown ok0_ rfl (by decide) (by decide) (x_wd hK k_830 rfl) (fun _ h => h) rfl rfl d_Mod_end_59 (fun I90 H locs e_I90 hw => ?_)
          replace h := h I90 e_I90
          refine lv_aload_n hx hb d_Mod_end_62 rfl (lv_at hl 2 rfl) ?_
          refine lv_iconst (v := (-1)) hx hb d_Mod_end_63 (by decide) ?_
          refine x_putI (t := 30) (i := 0) (j := 18) hx hb hK hw hown ok0_ rfl (by decide) (by decide) (x_wd hK k_816 rfl) (fun _ h => h) rfl rfl d_Mod_end_64 (fun I91 H locs e_I91 hw => ?_)
          replace h := h I91 e_I91
          exact x_vret hx hb hr hlk hw ⟨rfl, Or.inl ⟨rfl, ⟨rfl, rfl, rfl, h⟩⟩⟩ hbd d_Mod_end_67
      · replace h := h.2 c76
        refine lv_iconst (v := 0) hx hb d_Mod_end_32 (by decide) ?_
        refine lv_goto (tgt := 37) hx hb d_Mod_end_33 (by decide) ?_
        refine lv_topi (fun x92 e_x92 => ?_)
        replace h := h x92 e_x92
        refine lv_istore (lv' := [(4, .int x92), (3, .int x75), (0, .ref (x_ad Y 30 0)), (1, .int p1), (2, .int p2)]) hx hb d_Mod_end_37 hl (by decide) rfl (fun ls hl => ?_)
        refine lv_aload_n hx hb d_Mod_end_39 rfl (lv_at hl 2 rfl) ?_
        refine x_getI (t := 30) (i := 0) (j := 18) hx hb hK hw hown ok0_ rfl (by decide) (by decide) (x_wd hK k_816 rfl) (fun _ h => h) fk_8_18 d_Mod_end_40 ?_
        refine lv_if_ne (tgt := 68) hx hb d_Mod_end_43 (by decide) (fun c93 => ?_) (fun c93 => ?_)
        · replace h := h.1 c93
          refine lv_aload_n hx hb d_Mod_end_68 rfl (lv_at hl 2 rfl) ?_
          refine lv_dup hx hb d_Mod_end_69 rfl ?_
          refine x_getI (t := 30) (i := 0) (j := 18) hx hb hK hw hown ok0_ rfl (by decide) (by decide) (x_wd hK k_816 rfl) (fun _ h => h) fk_8_18 d_Mod_end_70 ?_
          refine lv_iconst (v := 1) hx hb d_Mod_end_73 (by decide) ?_
          refine lv_isub hx hb d_Mod_end_74 ?_
          refine x_putI (t := 30) (i := 0) (j := 18) hx hb hK hw hown ok0_ rfl (by decide) (by decide) (x_wd hK k_816 rfl) (fun _ h => h) rfl rfl d_Mod_end_75 (fun I94 H locs e_I94 hw => ?_)
          replace h := h I94 e_I94
          refine lv_aload_n hx hb d_Mod_end_78 rfl (lv_at hl 2 rfl) ?_
          refine x_getR (t := 30) (i := 0) (j := 26) hx hb hK hw hown ok0_ rfl (by decide) (by decide) (x_wd hK k_824 rfl) (fun _ h => h) fk_8_26 (hY.r ok0_ rfl) d_Mod_end_79 ?_
          refine lv_aload_n hx hb d_Mod_end_82 rfl (lv_at hl 2 rfl) ?_
          refine x_getI (t := 30) (i := 0) (j := 18) hx hb hK hw hown ok0_ rfl (by decide) (by decide) (x_wd hK k_816 rfl) (fun _ h => h) fk_8_18 d_Mod_end_83 ?_
          refine lv_aload_n hx hb d_Mod_end_86 rfl (lv_at hl 2 rfl) ?_
          refine x_getR (t := 30) (i := 0) (j := 26) hx hb hK hw hown ok0_ rfl (by decide) (by decide) (x_wd hK k_824 rfl) (fun _ h => h) fk_8_26 (hY.r ok0_ rfl) d_Mod_end_87 ?_
          refine lv_aload_n hx hb d_Mod_end_90 rfl (lv_at hl 2 rfl) ?_
          refine x_getI (t := 30) (i := 0) (j := 18) hx hb hK hw hown ok0_ rfl (by decide) (by decide) (x_wd hK k_816 rfl) (fun _ h => h) fk_8_18 d_Mod_end_91 ?_
          refine x_iald (t := 66) (i := 0) hx hb hK hw ok74 rfl (hY.n ok74 rfl) h.1 d_Mod_end_94 ?_
          replace h := h.2
          refine lv_iload_n hx hb d_Mod_end_95 rfl (lv_at hl 1 rfl) ?_
          refine lv_iadd hx hb d_Mod_end_96 ?_
          refine x_iast (t := 66) (i := 0) hx hb hK hw ok74 rfl (hY.n ok74 rfl) h.1 d_Mod_end_97 (fun I95 H locs e_I95 hw => ?_)
          replace h := h.2 I95 e_I95
          refine lv_aload_n hx hb d_Mod_end_98 rfl (lv_at hl 2 rfl) ?_
          refine lv_iload hx hb d_Mod_end_99 (lv_at hl 0 rfl) ?_
          refine x_goV (ls := ls) (rest := []) hE hw (c_Mod_push hY ok0_ h) (x_cd hK k_993) q_Mod_push (by decide) (by decide) hl.1 (Nat.le_of_ble_eq_true rfl) hbd d_Mod_end_101 (x_toV (As := [.int x92]) (b := (x_ad Y 30 0)) hx hb hown hK (x_recv hK hw ok0_ rfl (by decide)) k_990 k_992 ks_28 ⟨_, x_cd hK k_993⟩ q_Mod_push rfl rfl d_Mod_end_101) (fun L9 I96 k9 n9 H locs h hw hb9 => ?_) (fun _ _ _ _ _ _ _ h9 => h9.elim)
          obtain ⟨e1, e3, e4, h⟩ := h
          rw [e1] at hw
          rw [e3, e4]
          refine lv_aload_n hx hb d_Mod_end_104 rfl (lv_at hl 2 rfl) ?_
          refine lv_iload_n hx hb d_Mod_end_105 rfl (lv_at hl 3 rfl) ?_
          refine lv_if_ne (tgt := 113) hx hb d_Mod_end_106 (by decide) (fun c97 => ?_) (fun c97 => ?_)
          · replace h := h.1 c97
            refine lv_iconst (v := 0) hx hb d_Mod_end_113 (by decide) ?_
            refine x_goV (ls := ls) (rest := []) hE hw (c_Mod_push hY ok0_ h) (x_cd hK k_993) q_Mod_push (by decide) (by decide) hl.1 (Nat.le_of_ble_eq_true rfl) hbd d_Mod_end_114 (x_toV (As := [.int (0 : Int32)]) (b := (x_ad Y 30 0)) hx hb hown hK (x_recv hK hw ok0_ rfl (by decide)) k_990 k_992 ks_28 ⟨_, x_cd hK k_993⟩ q_Mod_push rfl rfl d_Mod_end_114) (fun L9 I98 k9 n9 H locs h hw hb9 => ?_) (fun _ _ _ _ _ _ _ h9 => h9.elim)
            obtain ⟨e1, e3, e4, h⟩ := h
            rw [e1] at hw
            rw [e3, e4]
            refine lv_aload_n hx hb d_Mod_end_117 rfl (lv_at hl 2 rfl) ?_
            refine x_getR (t := 30) (i := 0) (j := 21) hx hb hK hw hown ok0_ rfl (by decide) (by decide) (x_wd hK k_819 rfl) (fun _ h => h) fk_8_21 (hY.r ok0_ rfl) d_Mod_end_118 ?_
            have ok99 := hY.ok 21 ok0_ (t' := 61) (i' := 0) rfl
            refine lv_aload_n hx hb d_Mod_end_121 rfl (lv_at hl 2 rfl) ?_
            refine x_getI (t := 30) (i := 0) (j := 18) hx hb hK hw hown ok0_ rfl (by decide) (by decide) (x_wd hK k_816 rfl) (fun _ h => h) fk_8_18 d_Mod_end_122 ?_
            refine lv_dup2_11 hx hb d_Mod_end_125 rfl rfl ?_
            refine x_iald (t := 61) (i := 0) hx hb hK hw ok99 rfl (hY.n ok99 rfl) h.1 d_Mod_end_126 ?_
            replace h := h.2
            refine lv_iconst (v := 1) hx hb d_Mod_end_127 (by decide) ?_
            refine lv_iadd hx hb d_Mod_end_128 ?_
            refine x_iast (t := 61) (i := 0) hx hb hK hw ok99 rfl (hY.n ok99 rfl) h.1 d_Mod_end_129 (fun I100 H locs e_I100 hw => ?_)
            replace h := h.2 I100 e_I100
            exact x_vret hx hb hr hlk hw ⟨rfl, Or.inl ⟨rfl, ⟨rfl, rfl, rfl, h⟩⟩⟩ hbd d_Mod_end_130
          · replace h := h.2 c97
            refine lv_iconst (v := 1) hx hb d_Mod_end_109 (by decide) ?_
            refine lv_goto (tgt := 114) hx hb d_Mod_end_110 (by decide) ?_
            refine x_goV (ls := ls) (rest := []) hE hw (c_Mod_push hY ok0_ h) (x_cd hK k_993) q_Mod_push (by decide) (by decide) hl.1 (Nat.le_of_ble_eq_true rfl) hbd d_Mod_end_114 (x_toV (As := [.int (1 : Int32)]) (b := (x_ad Y 30 0)) hx hb hown hK (x_recv hK hw ok0_ rfl (by decide)) k_990 k_992 ks_28 ⟨_, x_cd hK k_993⟩ q_Mod_push rfl rfl d_Mod_end_114) (fun L9 I101 k9 n9 H locs h hw hb9 => ?_) (fun _ _ _ _ _ _ _ h9 => h9.elim)
            obtain ⟨e1, e3, e4, h⟩ := h
            rw [e1] at hw
            rw [e3, e4]
            refine lv_aload_n hx hb d_Mod_end_117 rfl (lv_at hl 2 rfl) ?_
            refine x_getR (t := 30) (i := 0) (j := 21) hx hb hK hw hown ok0_ rfl (by decide) (by decide) (x_wd hK k_819 rfl) (fun _ h => h) fk_8_21 (hY.r ok0_ rfl) d_Mod_end_118 ?_
            have ok102 := hY.ok 21 ok0_ (t' := 61) (i' := 0) rfl
            refine lv_aload_n hx hb d_Mod_end_121 rfl (lv_at hl 2 rfl) ?_
            refine x_getI (t := 30) (i := 0) (j := 18) hx hb hK hw hown ok0_ rfl (by decide) (by decide) (x_wd hK k_816 rfl) (fun _ h => h) fk_8_18 d_Mod_end_122 ?_
            refine lv_dup2_11 hx hb d_Mod_end_125 rfl rfl ?_
            refine x_iald (t := 61) (i := 0) hx hb hK hw ok102 rfl (hY.n ok102 rfl) h.1 d_Mod_end_126 ?_
            replace h := h.2
            refine lv_iconst (v := 1) hx hb d_Mod_end_127 (by decide) ?_
            refine lv_iadd hx hb d_Mod_end_128 ?_
            refine x_iast (t := 61) (i := 0) hx hb hK hw ok102 rfl (hY.n ok102 rfl) h.1 d_Mod_end_129 (fun I103 H locs e_I103 hw => ?_)
            replace h := h.2 I103 e_I103
            exact x_vret hx hb hr hlk hw ⟨rfl, Or.inl ⟨rfl, ⟨rfl, rfl, rfl, h⟩⟩⟩ hbd d_Mod_end_130
        · replace h := h.2 c93
          refine lv_aload_n hx hb d_Mod_end_46 rfl (lv_at hl 2 rfl) ?_
          refine lv_iload_n hx hb d_Mod_end_47 rfl (lv_at hl 3 rfl) ?_
          refine x_putI (t := 30) (i := 0) (j := 30) hx hb hK hw hown ok0_ rfl (by decide) (by decide) (x_wd hK k_828 rfl) (fun _ h => h) rfl rfl d_Mod_end_48 (fun I104 H locs e_I104 hw => ?_)
          replace h := h I104 e_I104
          refine lv_aload_n hx hb d_Mod_end_51 rfl (lv_at hl 2 rfl) ?_
          refine lv_iload hx hb d_Mod_end_52 (lv_at hl 0 rfl) ?_
          refine x_putI (t := 30) (i := 0) (j := 31) hx hb hK hw hown ok0_ rfl (by decide) (by decide) (x_wd hK k_829 rfl) (fun _ h => h) rfl rfl d_Mod_end_54 (fun I105 H locs e_I105 hw => ?_)
          replace h := h I105 e_I105
          refine lv_aload_n hx hb d_Mod_end_57 rfl (lv_at hl 2 rfl) ?_
          refine lv_iload_n hx hb d_Mod_end_58 rfl (lv_at hl 1 rfl) ?_
          refine x_putI (t := 30) (i := 0) (j := 32) hx hb hK hw hown ok0_ rfl (by decide) (by decide) (x_wd hK k_830 rfl) (fun _ h => h) rfl rfl d_Mod_end_59 (fun I106 H locs e_I106 hw => ?_)
          replace h := h I106 e_I106
          refine lv_aload_n hx hb d_Mod_end_62 rfl (lv_at hl 2 rfl) ?_
          refine lv_iconst (v := (-1)) hx hb d_Mod_end_63 (by decide) ?_
          refine x_putI (t := 30) (i := 0) (j := 18) hx hb hK hw hown ok0_ rfl (by decide) (by decide) (x_wd hK k_816 rfl) (fun _ h => h) rfl rfl d_Mod_end_64 (fun I107 H locs e_I107 hw => ?_)
          replace h := h I107 e_I107
          exact x_vret hx hb hr hlk hw ⟨rfl, Or.inl ⟨rfl, ⟨rfl, rfl, rfl, h⟩⟩⟩ hbd d_Mod_end_67
    · replace h := h.2 c73
      refine lv_iconst (v := 0) hx hb d_Mod_end_13 (by decide) ?_
      refine lv_goto (tgt := 26) hx hb d_Mod_end_14 (by decide) ?_
      refine lv_topi (fun x108 e_x108 => ?_)
      replace h := h x108 e_x108
      refine lv_istore_n (lv' := [(3, .int x108), (0, .ref (x_ad Y 30 0)), (1, .int p1), (2, .int p2)]) hx hb d_Mod_end_26 rfl hl (by decide) rfl (fun ls hl => ?_)
      refine lv_iload_n hx hb d_Mod_end_27 rfl (lv_at hl 2 rfl) ?_
      refine lv_iconst (v := 1) hx hb d_Mod_end_28 (by decide) ?_
      refine lv_icmp_le (tgt := 36) hx hb d_Mod_end_29 (by decide) (fun c109 => ?_) (fun c109 => ?_)
      · replace h := h.1 c109
        refine lv_iload_n hx hb d_Mod_end_36 rfl (lv_at hl 3 rfl) ?_
        refine lv_istore (lv' := [(4, .int p2), (3, .int x108), (0, .ref (x_ad Y 30 0)), (1, .int p1), (2, .int p2)]) hx hb d_Mod_end_37 hl (by decide) rfl (fun ls hl => ?_)
        refine lv_aload_n hx hb d_Mod_end_39 rfl (lv_at hl 2 rfl) ?_
        refine x_getI (t := 30) (i := 0) (j := 18) hx hb hK hw hown ok0_ rfl (by decide) (by decide) (x_wd hK k_816 rfl) (fun _ h => h) fk_8_18 d_Mod_end_40 ?_
        refine lv_if_ne (tgt := 68) hx hb d_Mod_end_43 (by decide) (fun c110 => ?_) (fun c110 => ?_)
        · replace h := h.1 c110
          refine lv_aload_n hx hb d_Mod_end_68 rfl (lv_at hl 2 rfl) ?_
          refine lv_dup hx hb d_Mod_end_69 rfl ?_
          refine x_getI (t := 30) (i := 0) (j := 18) hx hb hK hw hown ok0_ rfl (by decide) (by decide) (x_wd hK k_816 rfl) (fun _ h => h) fk_8_18 d_Mod_end_70 ?_
          refine lv_iconst (v := 1) hx hb d_Mod_end_73 (by decide) ?_
          refine lv_isub hx hb d_Mod_end_74 ?_
          refine x_putI (t := 30) (i := 0) (j := 18) hx hb hK hw hown ok0_ rfl (by decide) (by decide) (x_wd hK k_816 rfl) (fun _ h => h) rfl rfl d_Mod_end_75 (fun I111 H locs e_I111 hw => ?_)
          replace h := h I111 e_I111
          refine lv_aload_n hx hb d_Mod_end_78 rfl (lv_at hl 2 rfl) ?_
          refine x_getR (t := 30) (i := 0) (j := 26) hx hb hK hw hown ok0_ rfl (by decide) (by decide) (x_wd hK k_824 rfl) (fun _ h => h) fk_8_26 (hY.r ok0_ rfl) d_Mod_end_79 ?_
          have ok112 := hY.ok 26 ok0_ (t' := 66) (i' := 0) rfl
          refine lv_aload_n hx hb d_Mod_end_82 rfl (lv_at hl 2 rfl) ?_
          refine x_getI (t := 30) (i := 0) (j := 18) hx hb hK hw hown ok0_ rfl (by decide) (by decide) (x_wd hK k_816 rfl) (fun _ h => h) fk_8_18 d_Mod_end_83 ?_
          refine lv_aload_n hx hb d_Mod_end_86 rfl (lv_at hl 2 rfl) ?_
          refine x_getR (t := 30) (i := 0) (j := 26) hx hb hK hw hown ok0_ rfl (by decide) (by decide) (x_wd hK k_824 rfl) (fun _ h => h) fk_8_26 (hY.r ok0_ rfl) d_Mod_end_87 ?_
          refine lv_aload_n hx hb d_Mod_end_90 rfl (lv_at hl 2 rfl) ?_
          refine x_getI (t := 30) (i := 0) (j := 18) hx hb hK hw hown ok0_ rfl (by decide) (by decide) (x_wd hK k_816 rfl) (fun _ h => h) fk_8_18 d_Mod_end_91 ?_
          refine x_iald (t := 66) (i := 0) hx hb hK hw ok112 rfl (hY.n ok112 rfl) h.1 d_Mod_end_94 ?_
          replace h := h.2
          refine lv_iload_n hx hb d_Mod_end_95 rfl (lv_at hl 1 rfl) ?_
          refine lv_iadd hx hb d_Mod_end_96 ?_
          refine x_iast (t := 66) (i := 0) hx hb hK hw ok112 rfl (hY.n ok112 rfl) h.1 d_Mod_end_97 (fun I113 H locs e_I113 hw => ?_)
          replace h := h.2 I113 e_I113
          refine lv_aload_n hx hb d_Mod_end_98 rfl (lv_at hl 2 rfl) ?_
          refine lv_iload hx hb d_Mod_end_99 (lv_at hl 0 rfl) ?_
          refine x_goV (ls := ls) (rest := []) hE hw (c_Mod_push hY ok0_ h) (x_cd hK k_993) q_Mod_push (by decide) (by decide) hl.1 (Nat.le_of_ble_eq_true rfl) hbd d_Mod_end_101 (x_toV (As := [.int p2]) (b := (x_ad Y 30 0)) hx hb hown hK (x_recv hK hw ok0_ rfl (by decide)) k_990 k_992 ks_28 ⟨_, x_cd hK k_993⟩ q_Mod_push rfl rfl d_Mod_end_101) (fun L9 I114 k9 n9 H locs h hw hb9 => ?_) (fun _ _ _ _ _ _ _ h9 => h9.elim)
          obtain ⟨e1, e3, e4, h⟩ := h
          rw [e1] at hw
          rw [e3, e4]
          refine lv_aload_n hx hb d_Mod_end_104 rfl (lv_at hl 2 rfl) ?_
          refine lv_iload_n hx hb d_Mod_end_105 rfl (lv_at hl 3 rfl) ?_
          refine lv_if_ne (tgt := 113) hx hb d_Mod_end_106 (by decide) (fun c115 => ?_) (fun c115 => ?_)
          · replace h := h.1 c115
            refine lv_iconst (v := 0) hx hb d_Mod_end_113 (by decide) ?_
            refine x_goV (ls := ls) (rest := []) hE hw (c_Mod_push hY ok0_ h) (x_cd hK k_993) q_Mod_push (by decide) (by decide) hl.1 (Nat.le_of_ble_eq_true rfl) hbd d_Mod_end_114 (x_toV (As := [.int (0 : Int32)]) (b := (x_ad Y 30 0)) hx hb hown hK (x_recv hK hw ok0_ rfl (by decide)) k_990 k_992 ks_28 ⟨_, x_cd hK k_993⟩ q_Mod_push rfl rfl d_Mod_end_114) (fun L9 I116 k9 n9 H locs h hw hb9 => ?_) (fun _ _ _ _ _ _ _ h9 => h9.elim)
            obtain ⟨e1, e3, e4, h⟩ := h
            rw [e1] at hw
            rw [e3, e4]
            refine lv_aload_n hx hb d_Mod_end_117 rfl (lv_at hl 2 rfl) ?_
            refine x_getR (t := 30) (i := 0) (j := 21) hx hb hK hw hown ok0_ rfl (by decide) (by decide) (x_wd hK k_819 rfl) (fun _ h => h) fk_8_21 (hY.r ok0_ rfl) d_Mod_end_118 ?_
            have ok117 := hY.ok 21 ok0_ (t' := 61) (i' := 0) rfl
            refine lv_aload_n hx hb d_Mod_end_121 rfl (lv_at hl 2 rfl) ?_
            refine x_getI (t := 30) (i := 0) (j := 18) hx hb hK hw hown ok0_ rfl (by decide) (by decide) (x_wd hK k_816 rfl) (fun _ h => h) fk_8_18 d_Mod_end_122 ?_
            refine lv_dup2_11 hx hb d_Mod_end_125 rfl rfl ?_
            refine x_iald (t := 61) (i := 0) hx hb hK hw ok117 rfl (hY.n ok117 rfl) h.1 d_Mod_end_126 ?_
            replace h := h.2
            refine lv_iconst (v := 1) hx hb d_Mod_end_127 (by decide) ?_
            refine lv_iadd hx hb d_Mod_end_128 ?_
            refine x_iast (t := 61) (i := 0) hx hb hK hw ok117 rfl (hY.n ok117 rfl) h.1 d_Mod_end_129 (fun I118 H locs e_I118 hw => ?_)
            replace h := h.2 I118 e_I118
            exact x_vret hx hb hr hlk hw ⟨rfl, Or.inl ⟨rfl, ⟨rfl, rfl, rfl, h⟩⟩⟩ hbd d_Mod_end_130
          · replace h := h.2 c115
            refine lv_iconst (v := 1) hx hb d_Mod_end_109 (by decide) ?_
            refine lv_goto (tgt := 114) hx hb d_Mod_end_110 (by decide) ?_
            refine x_goV (ls := ls) (rest := []) hE hw (c_Mod_push hY ok0_ h) (x_cd hK k_993) q_Mod_push (by decide) (by decide) hl.1 (Nat.le_of_ble_eq_true rfl) hbd d_Mod_end_114 (x_toV (As := [.int (1 : Int32)]) (b := (x_ad Y 30 0)) hx hb hown hK (x_recv hK hw ok0_ rfl (by decide)) k_990 k_992 ks_28 ⟨_, x_cd hK k_993⟩ q_Mod_push rfl rfl d_Mod_end_114) (fun L9 I119 k9 n9 H locs h hw hb9 => ?_) (fun _ _ _ _ _ _ _ h9 => h9.elim)
            obtain ⟨e1, e3, e4, h⟩ := h
            rw [e1] at hw
            rw [e3, e4]
            refine lv_aload_n hx hb d_Mod_end_117 rfl (lv_at hl 2 rfl) ?_
            refine x_getR (t := 30) (i := 0) (j := 21) hx hb hK hw hown ok0_ rfl (by decide) (by decide) (x_wd hK k_819 rfl) (fun _ h => h) fk_8_21 (hY.r ok0_ rfl) d_Mod_end_118 ?_
            have ok120 := hY.ok 21 ok0_ (t' := 61) (i' := 0) rfl
            refine lv_aload_n hx hb d_Mod_end_121 rfl (lv_at hl 2 rfl) ?_
            refine x_getI (t := 30) (i := 0) (j := 18) hx hb hK hw hown ok0_ rfl (by decide) (by decide) (x_wd hK k_816 rfl) (fun _ h => h) fk_8_18 d_Mod_end_122 ?_
            refine lv_dup2_11 hx hb d_Mod_end_125 rfl rfl ?_
            refine x_iald (t := 61) (i := 0) hx hb hK hw ok120 rfl (hY.n ok120 rfl) h.1 d_Mod_end_126 ?_
            replace h := h.2
            refine lv_iconst (v := 1) hx hb d_Mod_end_127 (by decide) ?_
            refine lv_iadd hx hb d_Mod_end_128 ?_
            refine x_iast (t := 61) (i := 0) hx hb hK hw ok120 rfl (hY.n ok120 rfl) h.1 d_Mod_end_129 (fun I121 H locs e_I121 hw => ?_)
            replace h := h.2 I121 e_I121
            exact x_vret hx hb hr hlk hw ⟨rfl, Or.inl ⟨rfl, ⟨rfl, rfl, rfl, h⟩⟩⟩ hbd d_Mod_end_130
        · replace h := h.2 c110
          refine lv_aload_n hx hb d_Mod_end_46 rfl (lv_at hl 2 rfl) ?_
          refine lv_iload_n hx hb d_Mod_end_47 rfl (lv_at hl 3 rfl) ?_
          refine x_putI (t := 30) (i := 0) (j := 30) hx hb hK hw hown ok0_ rfl (by decide) (by decide) (x_wd hK k_828 rfl) (fun _ h => h) rfl rfl d_Mod_end_48 (fun I122 H locs e_I122 hw => ?_)
          replace h := h I122 e_I122
          refine lv_aload_n hx hb d_Mod_end_51 rfl (lv_at hl 2 rfl) ?_
          refine lv_iload hx hb d_Mod_end_52 (lv_at hl 0 rfl) ?_
          refine x_putI (t := 30) (i := 0) (j := 31) hx hb hK hw hown ok0_ rfl (by decide) (by decide) (x_wd hK k_829 rfl) (fun _ h => h) rfl rfl d_Mod_end_54 (fun I123 H locs e_I123 hw => ?_)
          replace h := h I123 e_I123
          refine lv_aload_n hx hb d_Mod_end_57 rfl (lv_at hl 2 rfl) ?_
          refine lv_iload_n hx hb d_Mod_end_58 rfl (lv_at hl 1 rfl) ?_
          refine x_putI (t := 30) (i := 0) (j := 32) hx hb hK hw hown ok0_ rfl (by decide) (by decide) (x_wd hK k_830 rfl) (fun _ h => h) rfl rfl d_Mod_end_59 (fun I124 H locs e_I124 hw => ?_)
          replace h := h I124 e_I124
          refine lv_aload_n hx hb d_Mod_end_62 rfl (lv_at hl 2 rfl) ?_
          refine lv_iconst (v := (-1)) hx hb d_Mod_end_63 (by decide) ?_
          refine x_putI (t := 30) (i := 0) (j := 18) hx hb hK hw hown ok0_ rfl (by decide) (by decide) (x_wd hK k_816 rfl) (fun _ h => h) rfl rfl d_Mod_end_64 (fun I125 H locs e_I125 hw => ?_)
          replace h := h I125 e_I125
          exact x_vret hx hb hr hlk hw ⟨rfl, Or.inl ⟨rfl, ⟨rfl, rfl, rfl, h⟩⟩⟩ hbd d_Mod_end_67
      · replace h := h.2 c109
        refine lv_iconst (v := 0) hx hb d_Mod_end_32 (by decide) ?_
        refine lv_goto (tgt := 37) hx hb d_Mod_end_33 (by decide) ?_
        refine lv_topi (fun x126 e_x126 => ?_)
        replace h := h x126 e_x126
        refine lv_istore (lv' := [(4, .int x126), (3, .int x108), (0, .ref (x_ad Y 30 0)), (1, .int p1), (2, .int p2)]) hx hb d_Mod_end_37 hl (by decide) rfl (fun ls hl => ?_)
        refine lv_aload_n hx hb d_Mod_end_39 rfl (lv_at hl 2 rfl) ?_
        refine x_getI (t := 30) (i := 0) (j := 18) hx hb hK hw hown ok0_ rfl (by decide) (by decide) (x_wd hK k_816 rfl) (fun _ h => h) fk_8_18 d_Mod_end_40 ?_
        refine lv_if_ne (tgt := 68) hx hb d_Mod_end_43 (by decide) (fun c127 => ?_) (fun c127 => ?_)
        · replace h := h.1 c127
          refine lv_aload_n hx hb d_Mod_end_68 rfl (lv_at hl 2 rfl) ?_
          refine lv_dup hx hb d_Mod_end_69 rfl ?_
          refine x_getI (t := 30) (i := 0) (j := 18) hx hb hK hw hown ok0_ rfl (by decide) (by decide) (x_wd hK k_816 rfl) (fun _ h => h) fk_8_18 d_Mod_end_70 ?_
          refine lv_iconst (v := 1) hx hb d_Mod_end_73 (by decide) ?_
          refine lv_isub hx hb d_Mod_end_74 ?_
          refine x_putI (t := 30) (i := 0) (j := 18) hx hb hK hw hown ok0_ rfl (by decide) (by decide) (x_wd hK k_816 rfl) (fun _ h => h) rfl rfl d_Mod_end_75 (fun I128 H locs e_I128 hw => ?_)
          replace h := h I128 e_I128
          refine lv_aload_n hx hb d_Mod_end_78 rfl (lv_at hl 2 rfl) ?_
          refine x_getR (t := 30) (i := 0) (j := 26) hx hb hK hw hown ok0_ rfl (by decide) (by decide) (x_wd hK k_824 rfl) (fun _ h => h) fk_8_26 (hY.r ok0_ rfl) d_Mod_end_79 ?_
          have ok129 := hY.ok 26 ok0_ (t' := 66) (i' := 0) rfl
          refine lv_aload_n hx hb d_Mod_end_82 rfl (lv_at hl 2 rfl) ?_
          refine x_getI (t := 30) (i := 0) (j := 18) hx hb hK hw hown ok0_ rfl (by decide) (by decide) (x_wd hK k_816 rfl) (fun _ h => h) fk_8_18 d_Mod_end_83 ?_
          refine lv_aload_n hx hb d_Mod_end_86 rfl (lv_at hl 2 rfl) ?_
          refine x_getR (t := 30) (i := 0) (j := 26) hx hb hK hw hown ok0_ rfl (by decide) (by decide) (x_wd hK k_824 rfl) (fun _ h => h) fk_8_26 (hY.r ok0_ rfl) d_Mod_end_87 ?_
          refine lv_aload_n hx hb d_Mod_end_90 rfl (lv_at hl 2 rfl) ?_
          refine x_getI (t := 30) (i := 0) (j := 18) hx hb hK hw hown ok0_ rfl (by decide) (by decide) (x_wd hK k_816 rfl) (fun _ h => h) fk_8_18 d_Mod_end_91 ?_
          refine x_iald (t := 66) (i := 0) hx hb hK hw ok129 rfl (hY.n ok129 rfl) h.1 d_Mod_end_94 ?_
          replace h := h.2
          refine lv_iload_n hx hb d_Mod_end_95 rfl (lv_at hl 1 rfl) ?_
          refine lv_iadd hx hb d_Mod_end_96 ?_
          refine x_iast (t := 66) (i := 0) hx hb hK hw ok129 rfl (hY.n ok129 rfl) h.1 d_Mod_end_97 (fun I130 H locs e_I130 hw => ?_)
          replace h := h.2 I130 e_I130
          refine lv_aload_n hx hb d_Mod_end_98 rfl (lv_at hl 2 rfl) ?_
          refine lv_iload hx hb d_Mod_end_99 (lv_at hl 0 rfl) ?_
          refine x_goV (ls := ls) (rest := []) hE hw (c_Mod_push hY ok0_ h) (x_cd hK k_993) q_Mod_push (by decide) (by decide) hl.1 (Nat.le_of_ble_eq_true rfl) hbd d_Mod_end_101 (x_toV (As := [.int x126]) (b := (x_ad Y 30 0)) hx hb hown hK (x_recv hK hw ok0_ rfl (by decide)) k_990 k_992 ks_28 ⟨_, x_cd hK k_993⟩ q_Mod_push rfl rfl d_Mod_end_101) (fun L9 I131 k9 n9 H locs h hw hb9 => ?_) (fun _ _ _ _ _ _ _ h9 => h9.elim)
          obtain ⟨e1, e3, e4, h⟩ := h
          rw [e1] at hw
          rw [e3, e4]
          refine lv_aload_n hx hb d_Mod_end_104 rfl (lv_at hl 2 rfl) ?_
          refine lv_iload_n hx hb d_Mod_end_105 rfl (lv_at hl 3 rfl) ?_
          refine lv_if_ne (tgt := 113) hx hb d_Mod_end_106 (by decide) (fun c132 => ?_) (fun c132 => ?_)
          · replace h := h.1 c132
            refine lv_iconst (v := 0) hx hb d_Mod_end_113 (by decide) ?_
            refine x_goV (ls := ls) (rest := []) hE hw (c_Mod_push hY ok0_ h) (x_cd hK k_993) q_Mod_push (by decide) (by decide) hl.1 (Nat.le_of_ble_eq_true rfl) hbd d_Mod_end_114 (x_toV (As := [.int (0 : Int32)]) (b := (x_ad Y 30 0)) hx hb hown hK (x_recv hK hw ok0_ rfl (by decide)) k_990 k_992 ks_28 ⟨_, x_cd hK k_993⟩ q_Mod_push rfl rfl d_Mod_end_114) (fun L9 I133 k9 n9 H locs h hw hb9 => ?_) (fun _ _ _ _ _ _ _ h9 => h9.elim)
            obtain ⟨e1, e3, e4, h⟩ := h
            rw [e1] at hw
            rw [e3, e4]
            refine lv_aload_n hx hb d_Mod_end_117 rfl (lv_at hl 2 rfl) ?_
            refine x_getR (t := 30) (i := 0) (j := 21) hx hb hK hw hown ok0_ rfl (by decide) (by decide) (x_wd hK k_819 rfl) (fun _ h => h) fk_8_21 (hY.r ok0_ rfl) d_Mod_end_118 ?_
            have ok134 := hY.ok 21 ok0_ (t' := 61) (i' := 0) rfl
            refine lv_aload_n hx hb d_Mod_end_121 rfl (lv_at hl 2 rfl) ?_
            refine x_getI (t := 30) (i := 0) (j := 18) hx hb hK hw hown ok0_ rfl (by decide) (by decide) (x_wd hK k_816 rfl) (fun _ h => h) fk_8_18 d_Mod_end_122 ?_
            refine lv_dup2_11 hx hb d_Mod_end_125 rfl rfl ?_
            refine x_iald (t := 61) (i := 0) hx hb hK hw ok134 rfl (hY.n ok134 rfl) h.1 d_Mod_end_126 ?_
            replace h := h.2
            refine lv_iconst (v := 1) hx hb d_Mod_end_127 (by decide) ?_
            refine lv_iadd hx hb d_Mod_end_128 ?_
            refine x_iast (t := 61) (i := 0) hx hb hK hw ok134 rfl (hY.n ok134 rfl) h.1 d_Mod_end_129 (fun I135 H locs e_I135 hw => ?_)
            replace h := h.2 I135 e_I135
            exact x_vret hx hb hr hlk hw ⟨rfl, Or.inl ⟨rfl, ⟨rfl, rfl, rfl, h⟩⟩⟩ hbd d_Mod_end_130
          · replace h := h.2 c132
            refine lv_iconst (v := 1) hx hb d_Mod_end_109 (by decide) ?_
            refine lv_goto (tgt := 114) hx hb d_Mod_end_110 (by decide) ?_
            refine x_goV (ls := ls) (rest := []) hE hw (c_Mod_push hY ok0_ h) (x_cd hK k_993) q_Mod_push (by decide) (by decide) hl.1 (Nat.le_of_ble_eq_true rfl) hbd d_Mod_end_114 (x_toV (As := [.int (1 : Int32)]) (b := (x_ad Y 30 0)) hx hb hown hK (x_recv hK hw ok0_ rfl (by decide)) k_990 k_992 ks_28 ⟨_, x_cd hK k_993⟩ q_Mod_push rfl rfl d_Mod_end_114) (fun L9 I136 k9 n9 H locs h hw hb9 => ?_) (fun _ _ _ _ _ _ _ h9 => h9.elim)
            obtain ⟨e1, e3, e4, h⟩ := h
            rw [e1] at hw
            rw [e3, e4]
            refine lv_aload_n hx hb d_Mod_end_117 rfl (lv_at hl 2 rfl) ?_
            refine x_getR (t := 30) (i := 0) (j := 21) hx hb hK hw hown ok0_ rfl (by decide) (by decide) (x_wd hK k_819 rfl) (fun _ h => h) fk_8_21 (hY.r ok0_ rfl) d_Mod_end_118 ?_
            have ok137 := hY.ok 21 ok0_ (t' := 61) (i' := 0) rfl
            refine lv_aload_n hx hb d_Mod_end_121 rfl (lv_at hl 2 rfl) ?_
            refine x_getI (t := 30) (i := 0) (j := 18) hx hb hK hw hown ok0_ rfl (by decide) (by decide) (x_wd hK k_816 rfl) (fun _ h => h) fk_8_18 d_Mod_end_122 ?_
            refine lv_dup2_11 hx hb d_Mod_end_125 rfl rfl ?_
            refine x_iald (t := 61) (i := 0) hx hb hK hw ok137 rfl (hY.n ok137 rfl) h.1 d_Mod_end_126 ?_
            replace h := h.2
            refine lv_iconst (v := 1) hx hb d_Mod_end_127 (by decide) ?_
            refine lv_iadd hx hb d_Mod_end_128 ?_
            refine x_iast (t := 61) (i := 0) hx hb hK hw ok137 rfl (hY.n ok137 rfl) h.1 d_Mod_end_129 (fun I138 H locs e_I138 hw => ?_)
            replace h := h.2 I138 e_I138
            exact x_vret hx hb hr hlk hw ⟨rfl, Or.inl ⟨rfl, ⟨rfl, rfl, rfl, h⟩⟩⟩ hbd d_Mod_end_130
        · replace h := h.2 c127
          refine lv_aload_n hx hb d_Mod_end_46 rfl (lv_at hl 2 rfl) ?_
          refine lv_iload_n hx hb d_Mod_end_47 rfl (lv_at hl 3 rfl) ?_
          refine x_putI (t := 30) (i := 0) (j := 30) hx hb hK hw hown ok0_ rfl (by decide) (by decide) (x_wd hK k_828 rfl) (fun _ h => h) rfl rfl d_Mod_end_48 (fun I139 H locs e_I139 hw => ?_)
          replace h := h I139 e_I139
          refine lv_aload_n hx hb d_Mod_end_51 rfl (lv_at hl 2 rfl) ?_
          refine lv_iload hx hb d_Mod_end_52 (lv_at hl 0 rfl) ?_
          refine x_putI (t := 30) (i := 0) (j := 31) hx hb hK hw hown ok0_ rfl (by decide) (by decide) (x_wd hK k_829 rfl) (fun _ h => h) rfl rfl d_Mod_end_54 (fun I140 H locs e_I140 hw => ?_)
          replace h := h I140 e_I140
          refine lv_aload_n hx hb d_Mod_end_57 rfl (lv_at hl 2 rfl) ?_
          refine lv_iload_n hx hb d_Mod_end_58 rfl (lv_at hl 1 rfl) ?_
          refine x_putI (t := 30) (i := 0) (j := 32) hx hb hK hw hown ok0_ rfl (by decide) (by decide) (x_wd hK k_830 rfl) (fun _ h => h) rfl rfl d_Mod_end_59 (fun I141 H locs e_I141 hw => ?_)
          replace h := h I141 e_I141
          refine lv_aload_n hx hb d_Mod_end_62 rfl (lv_at hl 2 rfl) ?_
          refine lv_iconst (v := (-1)) hx hb d_Mod_end_63 (by decide) ?_
          refine x_putI (t := 30) (i := 0) (j := 18) hx hb hK hw hown ok0_ rfl (by decide) (by decide) (x_wd hK k_816 rfl) (fun _ h => h) rfl rfl d_Mod_end_64 (fun I142 H locs e_I142 hw => ?_)
          replace h := h I142 e_I142
          exact x_vret hx hb hr hlk hw ⟨rfl, Or.inl ⟨rfl, ⟨rfl, rfl, rfl, h⟩⟩⟩ hbd d_Mod_end_67
def w_Mod_priceOf (Q : Int32 → Prop) (p1 : Int32) : Prop :=
  (p1 = 7 →
    Q (2 : Int32)) ∧
  (p1 = 8 →
    Q (3 : Int32)) ∧
  (p1 = 9 →
    Q (3 : Int32)) ∧
  (p1 = 16 →
    Q (2 : Int32)) ∧
  (p1 = 17 →
    Q (2 : Int32)) ∧
  (p1 = 18 →
    Q (10 : Int32)) ∧
  (p1 = 24 →
    Q (5 : Int32)) ∧
  (p1 = 25 →
    Q (8 : Int32)) ∧
  (¬ p1 = 7 → ¬ p1 = 8 → ¬ p1 = 9 → ¬ p1 = 16 → ¬ p1 = 17 → ¬ p1 = 18 → ¬ p1 = 24 → ¬ p1 = 25 → 
    Q (1 : Int32))
set_option maxRecDepth 100000 in
set_option maxHeartbeats 4000000 in
theorem c_Mod_priceOf {l : Launch} {g : x_G} {Y : x_Y} (hY : x_Y0 g Y) {p1 : Int32} {Q : Int32 → Prop} {L : x_L} {I : x_I} {k n : Nat} (h : w_Mod_priceOf Q p1) : x_C l y_Mod_priceOf 0 g [.int p1] Y L I k n (x_pI Y (fun v L' I' k' n' => L' = L ∧ I' = I ∧ k' = k ∧ n' = n ∧ Q v) x_nx) := by
  refine x_mth k_1004 ?_
  intro p e R s m below meth c hE hnm hexn hw hk1 hn1
  obtain ⟨hx, hb, hml, hr, hlk, hown, hK, htr, hF, hLo, hRc, hRs⟩ := id hE
  have hbd : x_bd k n k n := ⟨Nat.le_refl _, hk1, Nat.le_refl _, hn1⟩
  have hl := lv_entry ([.int p1]) (n := 1) (Nat.le_of_ble_eq_true rfl)
  generalize (lg_sl [.int p1] ++ List.replicate (1 - (lg_sl [.int p1]).length) Slot.unset).toArray = ls at hl ⊢
  have hl : lv_has ls 1 [(0, .int p1)] := hl
  generalize s.heap = H at hw ⊢
  generalize ([] : List Loc) = locs at hw ⊢
  unfold w_Mod_priceOf at h
  refine lv_iload_n hx hb d_Mod_priceOf_0 rfl (lv_at hl 0 rfl) ?_
  by_cases c1 : p1 = 7
  · replace h := h.1 c1
    refine lv_tableIn (off := 91) (tgt := 92) hx hb d_Mod_priceOf_1 (by rw [c1]; decide) (by rw [c1]; decide) (by rw [c1]; rfl) (by decide) ?_
    refine lv_iconst (v := 2) hx hb d_Mod_priceOf_92 (by decide) ?_
    exact x_iret hx hb hr hlk hw ⟨rfl, Or.inl ⟨_, rfl, ⟨rfl, rfl, rfl, rfl, h⟩⟩⟩ hbd d_Mod_priceOf_93
  · replace h := h.2
    by_cases c2 : p1 = 8
    · replace h := h.1 c2
      refine lv_tableIn (off := 93) (tgt := 94) hx hb d_Mod_priceOf_1 (by rw [c2]; decide) (by rw [c2]; decide) (by rw [c2]; rfl) (by decide) ?_
      refine lv_iconst (v := 3) hx hb d_Mod_priceOf_94 (by decide) ?_
      exact x_iret hx hb hr hlk hw ⟨rfl, Or.inl ⟨_, rfl, ⟨rfl, rfl, rfl, rfl, h⟩⟩⟩ hbd d_Mod_priceOf_95
    · replace h := h.2
      by_cases c3 : p1 = 9
      · replace h := h.1 c3
        refine lv_tableIn (off := 93) (tgt := 94) hx hb d_Mod_priceOf_1 (by rw [c3]; decide) (by rw [c3]; decide) (by rw [c3]; rfl) (by decide) ?_
        refine lv_iconst (v := 3) hx hb d_Mod_priceOf_94 (by decide) ?_
        exact x_iret hx hb hr hlk hw ⟨rfl, Or.inl ⟨_, rfl, ⟨rfl, rfl, rfl, rfl, h⟩⟩⟩ hbd d_Mod_priceOf_95
      · replace h := h.2
        by_cases c4 : p1 = 16
        · replace h := h.1 c4
          refine lv_tableIn (off := 91) (tgt := 92) hx hb d_Mod_priceOf_1 (by rw [c4]; decide) (by rw [c4]; decide) (by rw [c4]; rfl) (by decide) ?_
          refine lv_iconst (v := 2) hx hb d_Mod_priceOf_92 (by decide) ?_
          exact x_iret hx hb hr hlk hw ⟨rfl, Or.inl ⟨_, rfl, ⟨rfl, rfl, rfl, rfl, h⟩⟩⟩ hbd d_Mod_priceOf_93
        · replace h := h.2
          by_cases c5 : p1 = 17
          · replace h := h.1 c5
            refine lv_tableIn (off := 91) (tgt := 92) hx hb d_Mod_priceOf_1 (by rw [c5]; decide) (by rw [c5]; decide) (by rw [c5]; rfl) (by decide) ?_
            refine lv_iconst (v := 2) hx hb d_Mod_priceOf_92 (by decide) ?_
            exact x_iret hx hb hr hlk hw ⟨rfl, Or.inl ⟨_, rfl, ⟨rfl, rfl, rfl, rfl, h⟩⟩⟩ hbd d_Mod_priceOf_93
          · replace h := h.2
            by_cases c6 : p1 = 18
            · replace h := h.1 c6
              refine lv_tableIn (off := 100) (tgt := 101) hx hb d_Mod_priceOf_1 (by rw [c6]; decide) (by rw [c6]; decide) (by rw [c6]; rfl) (by decide) ?_
              refine lv_bipush (v := 10) hx hb d_Mod_priceOf_101 (by decide) ?_
              exact x_iret hx hb hr hlk hw ⟨rfl, Or.inl ⟨_, rfl, ⟨rfl, rfl, rfl, rfl, h⟩⟩⟩ hbd d_Mod_priceOf_103
            · replace h := h.2
              by_cases c7 : p1 = 24
              · replace h := h.1 c7
                refine lv_tableIn (off := 95) (tgt := 96) hx hb d_Mod_priceOf_1 (by rw [c7]; decide) (by rw [c7]; decide) (by rw [c7]; rfl) (by decide) ?_
                refine lv_iconst (v := 5) hx hb d_Mod_priceOf_96 (by decide) ?_
                exact x_iret hx hb hr hlk hw ⟨rfl, Or.inl ⟨_, rfl, ⟨rfl, rfl, rfl, rfl, h⟩⟩⟩ hbd d_Mod_priceOf_97
              · replace h := h.2
                by_cases c8 : p1 = 25
                · replace h := h.1 c8
                  refine lv_tableIn (off := 97) (tgt := 98) hx hb d_Mod_priceOf_1 (by rw [c8]; decide) (by rw [c8]; decide) (by rw [c8]; rfl) (by decide) ?_
                  refine lv_bipush (v := 8) hx hb d_Mod_priceOf_98 (by decide) ?_
                  exact x_iret hx hb hr hlk hw ⟨rfl, Or.inl ⟨_, rfl, ⟨rfl, rfl, rfl, rfl, h⟩⟩⟩ hbd d_Mod_priceOf_100
                · replace h := h.2
                  replace h := h c1 c2 c3 c4 c5 c6 c7 c8
                  by_cases hlo : p1.toInt < 7
                  · refine lv_tableOut (tgt := 104) hx hb d_Mod_priceOf_1 (Or.inl hlo) (by decide) ?_
                    refine lv_iconst (v := 1) hx hb d_Mod_priceOf_104 (by decide) ?_
                    exact x_iret hx hb hr hlk hw ⟨rfl, Or.inl ⟨_, rfl, ⟨rfl, rfl, rfl, rfl, h⟩⟩⟩ hbd d_Mod_priceOf_105
                  · by_cases hhi : 25 < p1.toInt
                    · refine lv_tableOut (tgt := 104) hx hb d_Mod_priceOf_1 (Or.inr hhi) (by decide) ?_
                      refine lv_iconst (v := 1) hx hb d_Mod_priceOf_104 (by decide) ?_
                      exact x_iret hx hb hr hlk hw ⟨rfl, Or.inl ⟨_, rfl, ⟨rfl, rfl, rfl, rfl, h⟩⟩⟩ hbd d_Mod_priceOf_105
                    · have hof : (#[91, 93, 93, 103, 103, 103, 103, 103, 103, 91, 91, 100, 103, 103, 103, 103, 103, 95, 97] : Array Int)[(p1.toInt - 7).toNat]? = some 103 := by
                        have hz : p1.toInt = 10 ∨ p1.toInt = 11 ∨ p1.toInt = 12 ∨ p1.toInt = 13 ∨ p1.toInt = 14 ∨ p1.toInt = 15 ∨ p1.toInt = 19 ∨ p1.toInt = 20 ∨ p1.toInt = 21 ∨ p1.toInt = 22 ∨ p1.toInt = 23 := by
                          have z7 := lv_neT (a := 7) c1 (by decide)
                          have z8 := lv_neT (a := 8) c2 (by decide)
                          have z9 := lv_neT (a := 9) c3 (by decide)
                          have z16 := lv_neT (a := 16) c4 (by decide)
                          have z17 := lv_neT (a := 17) c5 (by decide)
                          have z18 := lv_neT (a := 18) c6 (by decide)
                          have z24 := lv_neT (a := 24) c7 (by decide)
                          have z25 := lv_neT (a := 25) c8 (by decide)
                          omega
                        rcases hz with hz | hz | hz | hz | hz | hz | hz | hz | hz | hz | hz <;> (rw [hz]; rfl)
                      refine lv_tableIn (off := 103) (tgt := 104) hx hb d_Mod_priceOf_1 hlo hhi hof (by decide) ?_
                      refine lv_iconst (v := 1) hx hb d_Mod_priceOf_104 (by decide) ?_
                      exact x_iret hx hb hr hlk hw ⟨rfl, Or.inl ⟨_, rfl, ⟨rfl, rfl, rfl, rfl, h⟩⟩⟩ hbd d_Mod_priceOf_105
def w_Mod_price (Q : Int32 → Prop) (p1 : Int32) (I : x_I) : Prop :=
  vp_in (I 30 0 18) 8 ∧
  (((I 60 0 (I 30 0 18).toNatClampNeg) ≤ (1 : Int32) →
    ∀ x3 : Int32, x3 = (0 : Int32) →
    ((¬ p1 = (19 : Int32) →
      ((¬ p1 = (27 : Int32) →
        w_Mod_priceOf (fun r6 =>
          Q r6) p1) ∧
      (p1 = (27 : Int32) →
        ((x3 = 0 →
          Q (25 : Int32)) ∧
        (¬ x3 = 0 →
          w_Mod_below (fun r8 =>
            ((r8 = 0 →
              Q (25 : Int32)) ∧
            (¬ r8 = 0 →
              Q (40 : Int32)))) (1 : Int32) I))))) ∧
    (p1 = (19 : Int32) →
      ((x3 = 0 →
        ∀ x11 : Int32, x11 = (0 : Int32) →
        ((x3 = 0 →
          Q (5 : Int32)) ∧
        (¬ x3 = 0 →
          w_Mod_below (fun r13 =>
            ((¬ x11 = r13 →
              ((¬ x11 = 0 →
                Q (20 : Int32)) ∧
              (x11 = 0 →
                Q (40 : Int32)))) ∧
            (x11 = r13 →
              Q (5 : Int32)))) (0 : Int32) I))) ∧
      (¬ x3 = 0 →
        vp_in (I 30 0 18) 8 ∧
        w_Mod_below (fun r17 =>
          w_Mod_stored (fun r18 =>
            ((x3 = 0 →
              Q (5 : Int32)) ∧
            (¬ x3 = 0 →
              w_Mod_below (fun r20 =>
                ((¬ r18 = r20 →
                  ((¬ r18 = 0 →
                    Q (20 : Int32)) ∧
                  (r18 = 0 →
                    Q (40 : Int32)))) ∧
                (r18 = r20 →
                  Q (5 : Int32)))) (0 : Int32) I))) (I 67 0 (I 30 0 18).toNatClampNeg) r17 I) (1 : Int32) I))))) ∧
  (¬ (I 60 0 (I 30 0 18).toNatClampNeg) ≤ (1 : Int32) →
    ∀ x23 : Int32, x23 = (1 : Int32) →
    ((¬ p1 = (19 : Int32) →
      ((¬ p1 = (27 : Int32) →
        w_Mod_priceOf (fun r26 =>
          Q r26) p1) ∧
      (p1 = (27 : Int32) →
        ((x23 = 0 →
          Q (25 : Int32)) ∧
        (¬ x23 = 0 →
          w_Mod_below (fun r28 =>
            ((r28 = 0 →
              Q (25 : Int32)) ∧
            (¬ r28 = 0 →
              Q (40 : Int32)))) (1 : Int32) I))))) ∧
    (p1 = (19 : Int32) →
      ((x23 = 0 →
        ∀ x31 : Int32, x31 = (0 : Int32) →
        ((x23 = 0 →
          Q (5 : Int32)) ∧
        (¬ x23 = 0 →
          w_Mod_below (fun r33 =>
            ((¬ x31 = r33 →
              ((¬ x31 = 0 →
                Q (20 : Int32)) ∧
              (x31 = 0 →
                Q (40 : Int32)))) ∧
            (x31 = r33 →
              Q (5 : Int32)))) (0 : Int32) I))) ∧
      (¬ x23 = 0 →
        vp_in (I 30 0 18) 8 ∧
        w_Mod_below (fun r37 =>
          w_Mod_stored (fun r38 =>
            ((x23 = 0 →
              Q (5 : Int32)) ∧
            (¬ x23 = 0 →
              w_Mod_below (fun r40 =>
                ((¬ r38 = r40 →
                  ((¬ r38 = 0 →
                    Q (20 : Int32)) ∧
                  (r38 = 0 →
                    Q (40 : Int32)))) ∧
                (r38 = r40 →
                  Q (5 : Int32)))) (0 : Int32) I))) (I 67 0 (I 30 0 18).toNatClampNeg) r37 I) (1 : Int32) I))))))
set_option maxRecDepth 100000 in
set_option maxHeartbeats 4000000 in
theorem c_Mod_price {l : Launch} {g : x_G} {Y : x_Y} (hY : x_Y0 g Y) {p1 : Int32} (ok0_ : x_ok Y 30 0) {Q : Int32 → Prop} {L : x_L} {I : x_I} {k n : Nat} (h : w_Mod_price Q p1 I) : x_C l y_Mod_price 2 g [.ref (x_ad Y 30 0), .int p1] Y L I k n (x_pI Y (fun v L' I' k' n' => L' = L ∧ I' = I ∧ k' = k ∧ n' = n ∧ Q v) x_nx) := by
  refine x_mth k_997 ?_
  intro p e R s m below meth c hE hnm hexn hw hk1 hn1
  obtain ⟨hx, hb, hml, hr, hlk, hown, hK, htr, hF, hLo, hRc, hRs⟩ := id hE
  have hbd : x_bd k n k n := ⟨Nat.le_refl _, hk1, Nat.le_refl _, hn1⟩
  have hl := lv_entry ([.ref (x_ad Y 30 0), .int p1]) (n := 4) (Nat.le_of_ble_eq_true rfl)
  generalize (lg_sl [.ref (x_ad Y 30 0), .int p1] ++ List.replicate (4 - (lg_sl [.ref (x_ad Y 30 0), .int p1]).length) Slot.unset).toArray = ls at hl ⊢
  have hl : lv_has ls 4 [(0, .ref (x_ad Y 30 0)), (1, .int p1)] := hl
  generalize s.heap = H at hw ⊢
  generalize ([] : List Loc) = locs at hw ⊢
  unfold w_Mod_price at h
  refine lv_aload_n hx hb d_Mod_price_0 rfl (lv_at hl 0 rfl) ?_
  refine x_getR (t := 30) (i := 0) (j := 20) hx hb hK hw hown ok0_ rfl (by decide) (by decide) (x_wd hK k_818 rfl) (fun _ h => h) fk_8_20 (hY.r ok0_ rfl) d_Mod_price_1 ?_
  have ok1 := hY.ok 20 ok0_ (t' := 60) (i' := 0) rfl
  refine lv_aload_n hx hb d_Mod_price_4 rfl (lv_at hl 0 rfl) ?_
  refine x_getI (t := 30) (i := 0) (j := 18) hx hb hK hw hown ok0_ rfl (by decide) (by decide) (x_wd hK k_816 rfl) (fun _ h => h) fk_8_18 d_Mod_price_5 ?_
  refine x_iald (t := 60) (i := 0) hx hb hK hw ok1 rfl (hY.n ok1 rfl) h.1 d_Mod_price_8 ?_
  replace h := h.2
  refine lv_iconst (v := 1) hx hb d_Mod_price_9 (by decide) ?_
  refine lv_icmp_le (tgt := 17) hx hb d_Mod_price_10 (by decide) (fun c2 => ?_) (fun c2 => ?_)
  · replace h := h.1 c2
    refine lv_iconst (v := 0) hx hb d_Mod_price_17 (by decide) ?_
    refine lv_topi (fun x3 e_x3 => ?_)
    replace h := h x3 e_x3
    refine lv_istore_n (lv' := [(2, .int x3), (0, .ref (x_ad Y 30 0)), (1, .int p1)]) hx hb d_Mod_price_18 rfl hl (by decide) rfl (fun ls hl => ?_)
    refine lv_iload_n hx hb d_Mod_price_19 rfl (lv_at hl 2 rfl) ?_
    refine lv_bipush (v := 19) hx hb d_Mod_price_20 (by decide) ?_
    refine lv_icmp_ne (tgt := 81) hx hb d_Mod_price_22 (by decide) (fun c4 => ?_) (fun c4 => ?_)
    · replace h := h.1 c4
      refine lv_iload_n hx hb d_Mod_price_81 rfl (lv_at hl 2 rfl) ?_
      refine lv_bipush (v := 27) hx hb d_Mod_price_82 (by decide) ?_
      refine lv_icmp_ne (tgt := 107) hx hb d_Mod_price_84 (by decide) (fun c5 => ?_) (fun c5 => ?_)
      · replace h := h.1 c5
        refine lv_iload_n hx hb d_Mod_price_107 rfl (lv_at hl 2 rfl) ?_
        refine x_goI (ls := ls) (rest := []) hE hw (c_Mod_priceOf hY h) (x_cd hK k_1004) q_Mod_priceOf (by decide) (by decide) hl.1 (Nat.le_of_ble_eq_true rfl) hbd d_Mod_price_108 (x_toS (As := [.int p1]) hx hb hown hK k_1002 k_1003 k_11 ⟨_, x_cd hK k_1004⟩ q_Mod_priceOf rfl rfl d_Mod_price_108) (fun r6 L9 I9 k9 n9 H locs h hw hb9 => ?_) (fun _ _ _ _ _ _ _ h9 => h9.elim)
        obtain ⟨e1, e2, e3, e4, h⟩ := h
        rw [e1, e2] at hw
        rw [e3, e4]
        exact x_iret hx hb hr hlk hw ⟨rfl, Or.inl ⟨_, rfl, ⟨rfl, rfl, rfl, rfl, h⟩⟩⟩ hbd d_Mod_price_111
      · replace h := h.2 c5
        refine lv_iload_n hx hb d_Mod_price_87 rfl (lv_at hl 0 rfl) ?_
        refine lv_if_eq (tgt := 104) hx hb d_Mod_price_88 (by decide) (fun c7 => ?_) (fun c7 => ?_)
        · replace h := h.1 c7
          refine lv_bipush (v := 25) hx hb d_Mod_price_104 (by decide) ?_
          exact x_iret hx hb hr hlk hw ⟨rfl, Or.inl ⟨_, rfl, ⟨rfl, rfl, rfl, rfl, h⟩⟩⟩ hbd d_Mod_price_106
        · replace h := h.2 c7
          refine lv_aload_n hx hb d_Mod_price_91 rfl (lv_at hl 1 rfl) ?_
          refine lv_iconst (v := 1) hx hb d_Mod_price_92 (by decide) ?_
          refine x_goI (ls := ls) (rest := []) hE hw (c_Mod_below hY ok0_ h) (x_cd hK k_1001) q_Mod_below (by decide) (by decide) hl.1 (Nat.le_of_ble_eq_true rfl) hbd d_Mod_price_93 (x_toV (As := [.int (1 : Int32)]) (b := (x_ad Y 30 0)) hx hb hown hK (x_recv hK hw ok0_ rfl (by decide)) k_998 k_1000 ks_30 ⟨_, x_cd hK k_1001⟩ q_Mod_below rfl rfl d_Mod_price_93) (fun r8 L9 I9 k9 n9 H locs h hw hb9 => ?_) (fun _ _ _ _ _ _ _ h9 => h9.elim)
          obtain ⟨e1, e2, e3, e4, h⟩ := h
          rw [e1, e2] at hw
          rw [e3, e4]
          refine lv_if_eq (tgt := 104) hx hb d_Mod_price_96 (by decide) (fun c9 => ?_) (fun c9 => ?_)
          · replace h := h.1 c9
            refine lv_bipush (v := 25) hx hb d_Mod_price_104 (by decide) ?_
            exact x_iret hx hb hr hlk hw ⟨rfl, Or.inl ⟨_, rfl, ⟨rfl, rfl, rfl, rfl, h⟩⟩⟩ hbd d_Mod_price_106
          · replace h := h.2 c9
            refine lv_bipush (v := 40) hx hb d_Mod_price_99 (by decide) ?_
            refine lv_goto (tgt := 106) hx hb d_Mod_price_101 (by decide) ?_
            exact x_iret hx hb hr hlk hw ⟨rfl, Or.inl ⟨_, rfl, ⟨rfl, rfl, rfl, rfl, h⟩⟩⟩ hbd d_Mod_price_106
    · replace h := h.2 c4
      refine lv_iload_n hx hb d_Mod_price_25 rfl (lv_at hl 0 rfl) ?_
      refine lv_if_eq (tgt := 50) hx hb d_Mod_price_26 (by decide) (fun c10 => ?_) (fun c10 => ?_)
      · replace h := h.1 c10
        refine lv_iconst (v := 0) hx hb d_Mod_price_50 (by decide) ?_
        refine lv_topi (fun x11 e_x11 => ?_)
        replace h := h x11 e_x11
        refine lv_istore_n (lv' := [(3, .int x11), (2, .int x3), (0, .ref (x_ad Y 30 0)), (1, .int p1)]) hx hb d_Mod_price_51 rfl hl (by decide) rfl (fun ls hl => ?_)
        refine lv_iload_n hx hb d_Mod_price_52 rfl (lv_at hl 1 rfl) ?_
        refine lv_if_eq (tgt := 65) hx hb d_Mod_price_53 (by decide) (fun c12 => ?_) (fun c12 => ?_)
        · replace h := h.1 c12
          refine lv_iconst (v := 5) hx hb d_Mod_price_65 (by decide) ?_
          refine lv_goto (tgt := 80) hx hb d_Mod_price_66 (by decide) ?_
          exact x_iret hx hb hr hlk hw ⟨rfl, Or.inl ⟨_, rfl, ⟨rfl, rfl, rfl, rfl, h⟩⟩⟩ hbd d_Mod_price_80
        · replace h := h.2 c12
          refine lv_iload_n hx hb d_Mod_price_56 rfl (lv_at hl 0 rfl) ?_
          refine lv_aload_n hx hb d_Mod_price_57 rfl (lv_at hl 2 rfl) ?_
          refine lv_iconst (v := 0) hx hb d_Mod_price_58 (by decide) ?_
          refine x_goI (ls := ls) (rest := [.int x11]) hE hw (c_Mod_below hY ok0_ h) (x_cd hK k_1001) q_Mod_below (by decide) (by decide) hl.1 (Nat.le_of_ble_eq_true rfl) hbd d_Mod_price_59 (x_toV (As := [.int (0 : Int32)]) (b := (x_ad Y 30 0)) hx hb hown hK (x_recv hK hw ok0_ rfl (by decide)) k_998 k_1000 ks_30 ⟨_, x_cd hK k_1001⟩ q_Mod_below rfl rfl d_Mod_price_59) (fun r13 L9 I9 k9 n9 H locs h hw hb9 => ?_) (fun _ _ _ _ _ _ _ h9 => h9.elim)
          obtain ⟨e1, e2, e3, e4, h⟩ := h
          rw [e1, e2] at hw
          rw [e3, e4]
          refine lv_icmp_ne (tgt := 69) hx hb d_Mod_price_62 (by decide) (fun c14 => ?_) (fun c14 => ?_)
          · replace h := h.1 c14
            refine lv_iload_n hx hb d_Mod_price_69 rfl (lv_at hl 0 rfl) ?_
            refine lv_if_ne (tgt := 78) hx hb d_Mod_price_70 (by decide) (fun c15 => ?_) (fun c15 => ?_)
            · replace h := h.1 c15
              refine lv_bipush (v := 20) hx hb d_Mod_price_78 (by decide) ?_
              exact x_iret hx hb hr hlk hw ⟨rfl, Or.inl ⟨_, rfl, ⟨rfl, rfl, rfl, rfl, h⟩⟩⟩ hbd d_Mod_price_80
            · replace h := h.2 c15
              refine lv_bipush (v := 40) hx hb d_Mod_price_73 (by decide) ?_
              refine lv_goto (tgt := 80) hx hb d_Mod_price_75 (by decide) ?_
              exact x_iret hx hb hr hlk hw ⟨rfl, Or.inl ⟨_, rfl, ⟨rfl, rfl, rfl, rfl, h⟩⟩⟩ hbd d_Mod_price_80
          · replace h := h.2 c14
            refine lv_iconst (v := 5) hx hb d_Mod_price_65 (by decide) ?_
            refine lv_goto (tgt := 80) hx hb d_Mod_price_66 (by decide) ?_
            exact x_iret hx hb hr hlk hw ⟨rfl, Or.inl ⟨_, rfl, ⟨rfl, rfl, rfl, rfl, h⟩⟩⟩ hbd d_Mod_price_80
      · replace h := h.2 c10
        refine lv_aload_n hx hb d_Mod_price_29 rfl (lv_at hl 1 rfl) ?_
        refine lv_aload_n hx hb d_Mod_price_30 rfl (lv_at hl 1 rfl) ?_
        refine x_getR (t := 30) (i := 0) (j := 27) hx hb hK hw hown ok0_ rfl (by decide) (by decide) (x_wd hK k_825 rfl) (fun _ h => h) fk_8_27 (hY.r ok0_ rfl) d_Mod_price_31 ?_
        have ok16 := hY.ok 27 ok0_ (t' := 67) (i' := 0) rfl
        refine lv_aload_n hx hb d_Mod_price_34 rfl (lv_at hl 1 rfl) ?_
        refine x_getI (t := 30) (i := 0) (j := 18) hx hb hK hw hown ok0_ rfl (by decide) (by decide) (x_wd hK k_816 rfl) (fun _ h => h) fk_8_18 d_Mod_price_35 ?_
        refine x_iald (t := 67) (i := 0) hx hb hK hw ok16 rfl (hY.n ok16 rfl) h.1 d_Mod_price_38 ?_
        replace h := h.2
        refine lv_aload_n hx hb d_Mod_price_39 rfl (lv_at hl 1 rfl) ?_
        refine lv_iconst (v := 1) hx hb d_Mod_price_40 (by decide) ?_
        refine x_goI (ls := ls) (rest := [.int (I 67 0 (I 30 0 18).toNatClampNeg), .ref (x_ad Y 30 0)]) hE hw (c_Mod_below hY ok0_ h) (x_cd hK k_1001) q_Mod_below (by decide) (by decide) hl.1 (Nat.le_of_ble_eq_true rfl) hbd d_Mod_price_41 (x_toV (As := [.int (1 : Int32)]) (b := (x_ad Y 30 0)) hx hb hown hK (x_recv hK hw ok0_ rfl (by decide)) k_998 k_1000 ks_30 ⟨_, x_cd hK k_1001⟩ q_Mod_below rfl rfl d_Mod_price_41) (fun r17 L9 I9 k9 n9 H locs h hw hb9 => ?_) (fun _ _ _ _ _ _ _ h9 => h9.elim)
        obtain ⟨e1, e2, e3, e4, h⟩ := h
        rw [e1, e2] at hw
        rw [e3, e4]
        refine x_goI (ls := ls) (rest := []) hE hw (c_Mod_stored hY ok0_ h) (x_cd hK k_945) q_Mod_stored (by decide) (by decide) hl.1 (Nat.le_of_ble_eq_true rfl) hbd d_Mod_price_44 (x_toV (As := [.int (I 67 0 (I 30 0 18).toNatClampNeg), .int r17]) (b := (x_ad Y 30 0)) hx hb hown hK (x_recv hK hw ok0_ rfl (by decide)) k_942 k_944 ks_22 ⟨_, x_cd hK k_945⟩ q_Mod_stored rfl rfl d_Mod_price_44) (fun r18 L9 I9 k9 n9 H locs h hw hb9 => ?_) (fun _ _ _ _ _ _ _ h9 => h9.elim)
        obtain ⟨e1, e2, e3, e4, h⟩ := h
        rw [e1, e2] at hw
        rw [e3, e4]
        refine lv_goto (tgt := 51) hx hb d_Mod_price_47 (by decide) ?_
        refine lv_istore_n (lv' := [(3, .int r18), (2, .int x3), (0, .ref (x_ad Y 30 0)), (1, .int p1)]) hx hb d_Mod_price_51 rfl hl (by decide) rfl (fun ls hl => ?_)
        refine lv_iload_n hx hb d_Mod_price_52 rfl (lv_at hl 1 rfl) ?_
        refine lv_if_eq (tgt := 65) hx hb d_Mod_price_53 (by decide) (fun c19 => ?_) (fun c19 => ?_)
        · replace h := h.1 c19
          refine lv_iconst (v := 5) hx hb d_Mod_price_65 (by decide) ?_
          refine lv_goto (tgt := 80) hx hb d_Mod_price_66 (by decide) ?_
          exact x_iret hx hb hr hlk hw ⟨rfl, Or.inl ⟨_, rfl, ⟨rfl, rfl, rfl, rfl, h⟩⟩⟩ hbd d_Mod_price_80
        · replace h := h.2 c19
          refine lv_iload_n hx hb d_Mod_price_56 rfl (lv_at hl 0 rfl) ?_
          refine lv_aload_n hx hb d_Mod_price_57 rfl (lv_at hl 2 rfl) ?_
          refine lv_iconst (v := 0) hx hb d_Mod_price_58 (by decide) ?_
          refine x_goI (ls := ls) (rest := [.int r18]) hE hw (c_Mod_below hY ok0_ h) (x_cd hK k_1001) q_Mod_below (by decide) (by decide) hl.1 (Nat.le_of_ble_eq_true rfl) hbd d_Mod_price_59 (x_toV (As := [.int (0 : Int32)]) (b := (x_ad Y 30 0)) hx hb hown hK (x_recv hK hw ok0_ rfl (by decide)) k_998 k_1000 ks_30 ⟨_, x_cd hK k_1001⟩ q_Mod_below rfl rfl d_Mod_price_59) (fun r20 L9 I9 k9 n9 H locs h hw hb9 => ?_) (fun _ _ _ _ _ _ _ h9 => h9.elim)
          obtain ⟨e1, e2, e3, e4, h⟩ := h
          rw [e1, e2] at hw
          rw [e3, e4]
          refine lv_icmp_ne (tgt := 69) hx hb d_Mod_price_62 (by decide) (fun c21 => ?_) (fun c21 => ?_)
          · replace h := h.1 c21
            refine lv_iload_n hx hb d_Mod_price_69 rfl (lv_at hl 0 rfl) ?_
            refine lv_if_ne (tgt := 78) hx hb d_Mod_price_70 (by decide) (fun c22 => ?_) (fun c22 => ?_)
            · replace h := h.1 c22
              refine lv_bipush (v := 20) hx hb d_Mod_price_78 (by decide) ?_
              exact x_iret hx hb hr hlk hw ⟨rfl, Or.inl ⟨_, rfl, ⟨rfl, rfl, rfl, rfl, h⟩⟩⟩ hbd d_Mod_price_80
            · replace h := h.2 c22
              refine lv_bipush (v := 40) hx hb d_Mod_price_73 (by decide) ?_
              refine lv_goto (tgt := 80) hx hb d_Mod_price_75 (by decide) ?_
              exact x_iret hx hb hr hlk hw ⟨rfl, Or.inl ⟨_, rfl, ⟨rfl, rfl, rfl, rfl, h⟩⟩⟩ hbd d_Mod_price_80
          · replace h := h.2 c21
            refine lv_iconst (v := 5) hx hb d_Mod_price_65 (by decide) ?_
            refine lv_goto (tgt := 80) hx hb d_Mod_price_66 (by decide) ?_
            exact x_iret hx hb hr hlk hw ⟨rfl, Or.inl ⟨_, rfl, ⟨rfl, rfl, rfl, rfl, h⟩⟩⟩ hbd d_Mod_price_80
  · replace h := h.2 c2
    refine lv_iconst (v := 1) hx hb d_Mod_price_13 (by decide) ?_
    refine lv_goto (tgt := 18) hx hb d_Mod_price_14 (by decide) ?_
    refine lv_topi (fun x23 e_x23 => ?_)
    replace h := h x23 e_x23
    refine lv_istore_n (lv' := [(2, .int x23), (0, .ref (x_ad Y 30 0)), (1, .int p1)]) hx hb d_Mod_price_18 rfl hl (by decide) rfl (fun ls hl => ?_)
    refine lv_iload_n hx hb d_Mod_price_19 rfl (lv_at hl 2 rfl) ?_
    refine lv_bipush (v := 19) hx hb d_Mod_price_20 (by decide) ?_
    refine lv_icmp_ne (tgt := 81) hx hb d_Mod_price_22 (by decide) (fun c24 => ?_) (fun c24 => ?_)
    · replace h := h.1 c24
      refine lv_iload_n hx hb d_Mod_price_81 rfl (lv_at hl 2 rfl) ?_
      refine lv_bipush (v := 27) hx hb d_Mod_price_82 (by decide) ?_
      refine lv_icmp_ne (tgt := 107) hx hb d_Mod_price_84 (by decide) (fun c25 => ?_) (fun c25 => ?_)
      · replace h := h.1 c25
        refine lv_iload_n hx hb d_Mod_price_107 rfl (lv_at hl 2 rfl) ?_
        refine x_goI (ls := ls) (rest := []) hE hw (c_Mod_priceOf hY h) (x_cd hK k_1004) q_Mod_priceOf (by decide) (by decide) hl.1 (Nat.le_of_ble_eq_true rfl) hbd d_Mod_price_108 (x_toS (As := [.int p1]) hx hb hown hK k_1002 k_1003 k_11 ⟨_, x_cd hK k_1004⟩ q_Mod_priceOf rfl rfl d_Mod_price_108) (fun r26 L9 I9 k9 n9 H locs h hw hb9 => ?_) (fun _ _ _ _ _ _ _ h9 => h9.elim)
        obtain ⟨e1, e2, e3, e4, h⟩ := h
        rw [e1, e2] at hw
        rw [e3, e4]
        exact x_iret hx hb hr hlk hw ⟨rfl, Or.inl ⟨_, rfl, ⟨rfl, rfl, rfl, rfl, h⟩⟩⟩ hbd d_Mod_price_111
      · replace h := h.2 c25
        refine lv_iload_n hx hb d_Mod_price_87 rfl (lv_at hl 0 rfl) ?_
        refine lv_if_eq (tgt := 104) hx hb d_Mod_price_88 (by decide) (fun c27 => ?_) (fun c27 => ?_)
        · replace h := h.1 c27
          refine lv_bipush (v := 25) hx hb d_Mod_price_104 (by decide) ?_
          exact x_iret hx hb hr hlk hw ⟨rfl, Or.inl ⟨_, rfl, ⟨rfl, rfl, rfl, rfl, h⟩⟩⟩ hbd d_Mod_price_106
        · replace h := h.2 c27
          refine lv_aload_n hx hb d_Mod_price_91 rfl (lv_at hl 1 rfl) ?_
          refine lv_iconst (v := 1) hx hb d_Mod_price_92 (by decide) ?_
          refine x_goI (ls := ls) (rest := []) hE hw (c_Mod_below hY ok0_ h) (x_cd hK k_1001) q_Mod_below (by decide) (by decide) hl.1 (Nat.le_of_ble_eq_true rfl) hbd d_Mod_price_93 (x_toV (As := [.int (1 : Int32)]) (b := (x_ad Y 30 0)) hx hb hown hK (x_recv hK hw ok0_ rfl (by decide)) k_998 k_1000 ks_30 ⟨_, x_cd hK k_1001⟩ q_Mod_below rfl rfl d_Mod_price_93) (fun r28 L9 I9 k9 n9 H locs h hw hb9 => ?_) (fun _ _ _ _ _ _ _ h9 => h9.elim)
          obtain ⟨e1, e2, e3, e4, h⟩ := h
          rw [e1, e2] at hw
          rw [e3, e4]
          refine lv_if_eq (tgt := 104) hx hb d_Mod_price_96 (by decide) (fun c29 => ?_) (fun c29 => ?_)
          · replace h := h.1 c29
            refine lv_bipush (v := 25) hx hb d_Mod_price_104 (by decide) ?_
            exact x_iret hx hb hr hlk hw ⟨rfl, Or.inl ⟨_, rfl, ⟨rfl, rfl, rfl, rfl, h⟩⟩⟩ hbd d_Mod_price_106
          · replace h := h.2 c29
            refine lv_bipush (v := 40) hx hb d_Mod_price_99 (by decide) ?_
            refine lv_goto (tgt := 106) hx hb d_Mod_price_101 (by decide) ?_
            exact x_iret hx hb hr hlk hw ⟨rfl, Or.inl ⟨_, rfl, ⟨rfl, rfl, rfl, rfl, h⟩⟩⟩ hbd d_Mod_price_106
    · replace h := h.2 c24
      refine lv_iload_n hx hb d_Mod_price_25 rfl (lv_at hl 0 rfl) ?_
      refine lv_if_eq (tgt := 50) hx hb d_Mod_price_26 (by decide) (fun c30 => ?_) (fun c30 => ?_)
      · replace h := h.1 c30
        refine lv_iconst (v := 0) hx hb d_Mod_price_50 (by decide) ?_
        refine lv_topi (fun x31 e_x31 => ?_)
        replace h := h x31 e_x31
        refine lv_istore_n (lv' := [(3, .int x31), (2, .int x23), (0, .ref (x_ad Y 30 0)), (1, .int p1)]) hx hb d_Mod_price_51 rfl hl (by decide) rfl (fun ls hl => ?_)
        refine lv_iload_n hx hb d_Mod_price_52 rfl (lv_at hl 1 rfl) ?_
        refine lv_if_eq (tgt := 65) hx hb d_Mod_price_53 (by decide) (fun c32 => ?_) (fun c32 => ?_)
        · replace h := h.1 c32
          refine lv_iconst (v := 5) hx hb d_Mod_price_65 (by decide) ?_
          refine lv_goto (tgt := 80) hx hb d_Mod_price_66 (by decide) ?_
          exact x_iret hx hb hr hlk hw ⟨rfl, Or.inl ⟨_, rfl, ⟨rfl, rfl, rfl, rfl, h⟩⟩⟩ hbd d_Mod_price_80
        · replace h := h.2 c32
          refine lv_iload_n hx hb d_Mod_price_56 rfl (lv_at hl 0 rfl) ?_
          refine lv_aload_n hx hb d_Mod_price_57 rfl (lv_at hl 2 rfl) ?_
          refine lv_iconst (v := 0) hx hb d_Mod_price_58 (by decide) ?_
          refine x_goI (ls := ls) (rest := [.int x31]) hE hw (c_Mod_below hY ok0_ h) (x_cd hK k_1001) q_Mod_below (by decide) (by decide) hl.1 (Nat.le_of_ble_eq_true rfl) hbd d_Mod_price_59 (x_toV (As := [.int (0 : Int32)]) (b := (x_ad Y 30 0)) hx hb hown hK (x_recv hK hw ok0_ rfl (by decide)) k_998 k_1000 ks_30 ⟨_, x_cd hK k_1001⟩ q_Mod_below rfl rfl d_Mod_price_59) (fun r33 L9 I9 k9 n9 H locs h hw hb9 => ?_) (fun _ _ _ _ _ _ _ h9 => h9.elim)
          obtain ⟨e1, e2, e3, e4, h⟩ := h
          rw [e1, e2] at hw
          rw [e3, e4]
          refine lv_icmp_ne (tgt := 69) hx hb d_Mod_price_62 (by decide) (fun c34 => ?_) (fun c34 => ?_)
          · replace h := h.1 c34
            refine lv_iload_n hx hb d_Mod_price_69 rfl (lv_at hl 0 rfl) ?_
            refine lv_if_ne (tgt := 78) hx hb d_Mod_price_70 (by decide) (fun c35 => ?_) (fun c35 => ?_)
            · replace h := h.1 c35
              refine lv_bipush (v := 20) hx hb d_Mod_price_78 (by decide) ?_
              exact x_iret hx hb hr hlk hw ⟨rfl, Or.inl ⟨_, rfl, ⟨rfl, rfl, rfl, rfl, h⟩⟩⟩ hbd d_Mod_price_80
            · replace h := h.2 c35
              refine lv_bipush (v := 40) hx hb d_Mod_price_73 (by decide) ?_
              refine lv_goto (tgt := 80) hx hb d_Mod_price_75 (by decide) ?_
              exact x_iret hx hb hr hlk hw ⟨rfl, Or.inl ⟨_, rfl, ⟨rfl, rfl, rfl, rfl, h⟩⟩⟩ hbd d_Mod_price_80
          · replace h := h.2 c34
            refine lv_iconst (v := 5) hx hb d_Mod_price_65 (by decide) ?_
            refine lv_goto (tgt := 80) hx hb d_Mod_price_66 (by decide) ?_
            exact x_iret hx hb hr hlk hw ⟨rfl, Or.inl ⟨_, rfl, ⟨rfl, rfl, rfl, rfl, h⟩⟩⟩ hbd d_Mod_price_80
      · replace h := h.2 c30
        refine lv_aload_n hx hb d_Mod_price_29 rfl (lv_at hl 1 rfl) ?_
        refine lv_aload_n hx hb d_Mod_price_30 rfl (lv_at hl 1 rfl) ?_
        refine x_getR (t := 30) (i := 0) (j := 27) hx hb hK hw hown ok0_ rfl (by decide) (by decide) (x_wd hK k_825 rfl) (fun _ h => h) fk_8_27 (hY.r ok0_ rfl) d_Mod_price_31 ?_
        have ok36 := hY.ok 27 ok0_ (t' := 67) (i' := 0) rfl
        refine lv_aload_n hx hb d_Mod_price_34 rfl (lv_at hl 1 rfl) ?_
        refine x_getI (t := 30) (i := 0) (j := 18) hx hb hK hw hown ok0_ rfl (by decide) (by decide) (x_wd hK k_816 rfl) (fun _ h => h) fk_8_18 d_Mod_price_35 ?_
        refine x_iald (t := 67) (i := 0) hx hb hK hw ok36 rfl (hY.n ok36 rfl) h.1 d_Mod_price_38 ?_
        replace h := h.2
        refine lv_aload_n hx hb d_Mod_price_39 rfl (lv_at hl 1 rfl) ?_
        refine lv_iconst (v := 1) hx hb d_Mod_price_40 (by decide) ?_
        refine x_goI (ls := ls) (rest := [.int (I 67 0 (I 30 0 18).toNatClampNeg), .ref (x_ad Y 30 0)]) hE hw (c_Mod_below hY ok0_ h) (x_cd hK k_1001) q_Mod_below (by decide) (by decide) hl.1 (Nat.le_of_ble_eq_true rfl) hbd d_Mod_price_41 (x_toV (As := [.int (1 : Int32)]) (b := (x_ad Y 30 0)) hx hb hown hK (x_recv hK hw ok0_ rfl (by decide)) k_998 k_1000 ks_30 ⟨_, x_cd hK k_1001⟩ q_Mod_below rfl rfl d_Mod_price_41) (fun r37 L9 I9 k9 n9 H locs h hw hb9 => ?_) (fun _ _ _ _ _ _ _ h9 => h9.elim)
        obtain ⟨e1, e2, e3, e4, h⟩ := h
        rw [e1, e2] at hw
        rw [e3, e4]
        refine x_goI (ls := ls) (rest := []) hE hw (c_Mod_stored hY ok0_ h) (x_cd hK k_945) q_Mod_stored (by decide) (by decide) hl.1 (Nat.le_of_ble_eq_true rfl) hbd d_Mod_price_44 (x_toV (As := [.int (I 67 0 (I 30 0 18).toNatClampNeg), .int r37]) (b := (x_ad Y 30 0)) hx hb hown hK (x_recv hK hw ok0_ rfl (by decide)) k_942 k_944 ks_22 ⟨_, x_cd hK k_945⟩ q_Mod_stored rfl rfl d_Mod_price_44) (fun r38 L9 I9 k9 n9 H locs h hw hb9 => ?_) (fun _ _ _ _ _ _ _ h9 => h9.elim)
        obtain ⟨e1, e2, e3, e4, h⟩ := h
        rw [e1, e2] at hw
        rw [e3, e4]
        refine lv_goto (tgt := 51) hx hb d_Mod_price_47 (by decide) ?_
        refine lv_istore_n (lv' := [(3, .int r38), (2, .int x23), (0, .ref (x_ad Y 30 0)), (1, .int p1)]) hx hb d_Mod_price_51 rfl hl (by decide) rfl (fun ls hl => ?_)
        refine lv_iload_n hx hb d_Mod_price_52 rfl (lv_at hl 1 rfl) ?_
        refine lv_if_eq (tgt := 65) hx hb d_Mod_price_53 (by decide) (fun c39 => ?_) (fun c39 => ?_)
        · replace h := h.1 c39
          refine lv_iconst (v := 5) hx hb d_Mod_price_65 (by decide) ?_
          refine lv_goto (tgt := 80) hx hb d_Mod_price_66 (by decide) ?_
          exact x_iret hx hb hr hlk hw ⟨rfl, Or.inl ⟨_, rfl, ⟨rfl, rfl, rfl, rfl, h⟩⟩⟩ hbd d_Mod_price_80
        · replace h := h.2 c39
          refine lv_iload_n hx hb d_Mod_price_56 rfl (lv_at hl 0 rfl) ?_
          refine lv_aload_n hx hb d_Mod_price_57 rfl (lv_at hl 2 rfl) ?_
          refine lv_iconst (v := 0) hx hb d_Mod_price_58 (by decide) ?_
          refine x_goI (ls := ls) (rest := [.int r38]) hE hw (c_Mod_below hY ok0_ h) (x_cd hK k_1001) q_Mod_below (by decide) (by decide) hl.1 (Nat.le_of_ble_eq_true rfl) hbd d_Mod_price_59 (x_toV (As := [.int (0 : Int32)]) (b := (x_ad Y 30 0)) hx hb hown hK (x_recv hK hw ok0_ rfl (by decide)) k_998 k_1000 ks_30 ⟨_, x_cd hK k_1001⟩ q_Mod_below rfl rfl d_Mod_price_59) (fun r40 L9 I9 k9 n9 H locs h hw hb9 => ?_) (fun _ _ _ _ _ _ _ h9 => h9.elim)
          obtain ⟨e1, e2, e3, e4, h⟩ := h
          rw [e1, e2] at hw
          rw [e3, e4]
          refine lv_icmp_ne (tgt := 69) hx hb d_Mod_price_62 (by decide) (fun c41 => ?_) (fun c41 => ?_)
          · replace h := h.1 c41
            refine lv_iload_n hx hb d_Mod_price_69 rfl (lv_at hl 0 rfl) ?_
            refine lv_if_ne (tgt := 78) hx hb d_Mod_price_70 (by decide) (fun c42 => ?_) (fun c42 => ?_)
            · replace h := h.1 c42
              refine lv_bipush (v := 20) hx hb d_Mod_price_78 (by decide) ?_
              exact x_iret hx hb hr hlk hw ⟨rfl, Or.inl ⟨_, rfl, ⟨rfl, rfl, rfl, rfl, h⟩⟩⟩ hbd d_Mod_price_80
            · replace h := h.2 c42
              refine lv_bipush (v := 40) hx hb d_Mod_price_73 (by decide) ?_
              refine lv_goto (tgt := 80) hx hb d_Mod_price_75 (by decide) ?_
              exact x_iret hx hb hr hlk hw ⟨rfl, Or.inl ⟨_, rfl, ⟨rfl, rfl, rfl, rfl, h⟩⟩⟩ hbd d_Mod_price_80
          · replace h := h.2 c41
            refine lv_iconst (v := 5) hx hb d_Mod_price_65 (by decide) ?_
            refine lv_goto (tgt := 80) hx hb d_Mod_price_66 (by decide) ?_
            exact x_iret hx hb hr hlk hw ⟨rfl, Or.inl ⟨_, rfl, ⟨rfl, rfl, rfl, rfl, h⟩⟩⟩ hbd d_Mod_price_80
def w_Mod_needs (Q : Int32 → Prop) (p1 : Int32) (p2 : Int32) : Prop :=
  (p1 = 0 →
    Q (0 : Int32)) ∧
  (p1 = 1 →
    Q (0 : Int32)) ∧
  (p1 = 2 →
    Q (1 : Int32)) ∧
  (p1 = 3 →
    Q (p2 + (1 : Int32))) ∧
  (p1 = 4 →
    Q (p2 + (1 : Int32))) ∧
  (p1 = 12 →
    Q (1 : Int32)) ∧
  (p1 = 16 →
    Q (0 : Int32)) ∧
  (p1 = 17 →
    Q (1 : Int32)) ∧
  (p1 = 18 →
    Q (1 : Int32)) ∧
  (p1 = 20 →
    Q (1 : Int32)) ∧
  (p1 = 21 →
    Q (0 : Int32)) ∧
  (p1 = 22 →
    Q (0 : Int32)) ∧
  (p1 = 23 →
    Q (0 : Int32)) ∧
  (p1 = 24 →
    Q (1 : Int32)) ∧
  (p1 = 25 →
    Q (1 : Int32)) ∧
  (p1 = 26 →
    Q (1 : Int32)) ∧
  (p1 = 27 →
    Q (p2 + (3 : Int32))) ∧
  (p1 = 28 →
    Q (0 : Int32)) ∧
  (p1 = 29 →
    Q (1 : Int32)) ∧
  (¬ p1 = 0 → ¬ p1 = 1 → ¬ p1 = 2 → ¬ p1 = 3 → ¬ p1 = 4 → ¬ p1 = 12 → ¬ p1 = 16 → ¬ p1 = 17 → ¬ p1 = 18 → ¬ p1 = 20 → ¬ p1 = 21 → ¬ p1 = 22 → ¬ p1 = 23 → ¬ p1 = 24 → ¬ p1 = 25 → ¬ p1 = 26 → ¬ p1 = 27 → ¬ p1 = 28 → ¬ p1 = 29 → 
    Q (2 : Int32))
set_option maxRecDepth 100000 in
set_option maxHeartbeats 4000000 in
theorem c_Mod_needs {l : Launch} {g : x_G} {Y : x_Y} (hY : x_Y0 g Y) {p1 : Int32} {p2 : Int32} {Q : Int32 → Prop} {L : x_L} {I : x_I} {k n : Nat} (h : w_Mod_needs Q p1 p2) : x_C l y_Mod_needs 0 g [.int p1, .int p2] Y L I k n (x_pI Y (fun v L' I' k' n' => L' = L ∧ I' = I ∧ k' = k ∧ n' = n ∧ Q v) x_nx) := by
  refine x_mth k_1007 ?_
  intro p e R s m below meth c hE hnm hexn hw hk1 hn1
  obtain ⟨hx, hb, hml, hr, hlk, hown, hK, htr, hF, hLo, hRc, hRs⟩ := id hE
  have hbd : x_bd k n k n := ⟨Nat.le_refl _, hk1, Nat.le_refl _, hn1⟩
  have hl := lv_entry ([.int p1, .int p2]) (n := 2) (Nat.le_of_ble_eq_true rfl)
  generalize (lg_sl [.int p1, .int p2] ++ List.replicate (2 - (lg_sl [.int p1, .int p2]).length) Slot.unset).toArray = ls at hl ⊢
  have hl : lv_has ls 2 [(0, .int p1), (1, .int p2)] := hl
  generalize s.heap = H at hw ⊢
  generalize ([] : List Loc) = locs at hw ⊢
  unfold w_Mod_needs at h
  refine lv_iload_n hx hb d_Mod_needs_0 rfl (lv_at hl 0 rfl) ?_
  by_cases c1 : p1 = 0
  · replace h := h.1 c1
    refine lv_tableIn (off := 135) (tgt := 136) hx hb d_Mod_needs_1 (by rw [c1]; decide) (by rw [c1]; decide) (by rw [c1]; rfl) (by decide) ?_
    refine lv_iconst (v := 0) hx hb d_Mod_needs_136 (by decide) ?_
    exact x_iret hx hb hr hlk hw ⟨rfl, Or.inl ⟨_, rfl, ⟨rfl, rfl, rfl, rfl, h⟩⟩⟩ hbd d_Mod_needs_137
  · replace h := h.2
    by_cases c2 : p1 = 1
    · replace h := h.1 c2
      refine lv_tableIn (off := 135) (tgt := 136) hx hb d_Mod_needs_1 (by rw [c2]; decide) (by rw [c2]; decide) (by rw [c2]; rfl) (by decide) ?_
      refine lv_iconst (v := 0) hx hb d_Mod_needs_136 (by decide) ?_
      exact x_iret hx hb hr hlk hw ⟨rfl, Or.inl ⟨_, rfl, ⟨rfl, rfl, rfl, rfl, h⟩⟩⟩ hbd d_Mod_needs_137
    · replace h := h.2
      by_cases c3 : p1 = 2
      · replace h := h.1 c3
        refine lv_tableIn (off := 141) (tgt := 142) hx hb d_Mod_needs_1 (by rw [c3]; decide) (by rw [c3]; decide) (by rw [c3]; rfl) (by decide) ?_
        refine lv_iconst (v := 1) hx hb d_Mod_needs_142 (by decide) ?_
        exact x_iret hx hb hr hlk hw ⟨rfl, Or.inl ⟨_, rfl, ⟨rfl, rfl, rfl, rfl, h⟩⟩⟩ hbd d_Mod_needs_143
      · replace h := h.2
        by_cases c4 : p1 = 3
        · replace h := h.1 c4
          refine lv_tableIn (off := 137) (tgt := 138) hx hb d_Mod_needs_1 (by rw [c4]; decide) (by rw [c4]; decide) (by rw [c4]; rfl) (by decide) ?_
          refine lv_iload_n hx hb d_Mod_needs_138 rfl (lv_at hl 1 rfl) ?_
          refine lv_iconst (v := 1) hx hb d_Mod_needs_139 (by decide) ?_
          refine lv_iadd hx hb d_Mod_needs_140 ?_
          exact x_iret hx hb hr hlk hw ⟨rfl, Or.inl ⟨_, rfl, ⟨rfl, rfl, rfl, rfl, h⟩⟩⟩ hbd d_Mod_needs_141
        · replace h := h.2
          by_cases c5 : p1 = 4
          · replace h := h.1 c5
            refine lv_tableIn (off := 137) (tgt := 138) hx hb d_Mod_needs_1 (by rw [c5]; decide) (by rw [c5]; decide) (by rw [c5]; rfl) (by decide) ?_
            refine lv_iload_n hx hb d_Mod_needs_138 rfl (lv_at hl 1 rfl) ?_
            refine lv_iconst (v := 1) hx hb d_Mod_needs_139 (by decide) ?_
            refine lv_iadd hx hb d_Mod_needs_140 ?_
            exact x_iret hx hb hr hlk hw ⟨rfl, Or.inl ⟨_, rfl, ⟨rfl, rfl, rfl, rfl, h⟩⟩⟩ hbd d_Mod_needs_141
          · replace h := h.2
            by_cases c6 : p1 = 12
            · replace h := h.1 c6
              refine lv_tableIn (off := 141) (tgt := 142) hx hb d_Mod_needs_1 (by rw [c6]; decide) (by rw [c6]; decide) (by rw [c6]; rfl) (by decide) ?_
              refine lv_iconst (v := 1) hx hb d_Mod_needs_142 (by decide) ?_
              exact x_iret hx hb hr hlk hw ⟨rfl, Or.inl ⟨_, rfl, ⟨rfl, rfl, rfl, rfl, h⟩⟩⟩ hbd d_Mod_needs_143
            · replace h := h.2
              by_cases c7 : p1 = 16
              · replace h := h.1 c7
                refine lv_tableIn (off := 135) (tgt := 136) hx hb d_Mod_needs_1 (by rw [c7]; decide) (by rw [c7]; decide) (by rw [c7]; rfl) (by decide) ?_
                refine lv_iconst (v := 0) hx hb d_Mod_needs_136 (by decide) ?_
                exact x_iret hx hb hr hlk hw ⟨rfl, Or.inl ⟨_, rfl, ⟨rfl, rfl, rfl, rfl, h⟩⟩⟩ hbd d_Mod_needs_137
              · replace h := h.2
                by_cases c8 : p1 = 17
                · replace h := h.1 c8
                  refine lv_tableIn (off := 141) (tgt := 142) hx hb d_Mod_needs_1 (by rw [c8]; decide) (by rw [c8]; decide) (by rw [c8]; rfl) (by decide) ?_
                  refine lv_iconst (v := 1) hx hb d_Mod_needs_142 (by decide) ?_
                  exact x_iret hx hb hr hlk hw ⟨rfl, Or.inl ⟨_, rfl, ⟨rfl, rfl, rfl, rfl, h⟩⟩⟩ hbd d_Mod_needs_143
                · replace h := h.2
                  by_cases c9 : p1 = 18
                  · replace h := h.1 c9
                    refine lv_tableIn (off := 141) (tgt := 142) hx hb d_Mod_needs_1 (by rw [c9]; decide) (by rw [c9]; decide) (by rw [c9]; rfl) (by decide) ?_
                    refine lv_iconst (v := 1) hx hb d_Mod_needs_142 (by decide) ?_
                    exact x_iret hx hb hr hlk hw ⟨rfl, Or.inl ⟨_, rfl, ⟨rfl, rfl, rfl, rfl, h⟩⟩⟩ hbd d_Mod_needs_143
                  · replace h := h.2
                    by_cases c10 : p1 = 20
                    · replace h := h.1 c10
                      refine lv_tableIn (off := 141) (tgt := 142) hx hb d_Mod_needs_1 (by rw [c10]; decide) (by rw [c10]; decide) (by rw [c10]; rfl) (by decide) ?_
                      refine lv_iconst (v := 1) hx hb d_Mod_needs_142 (by decide) ?_
                      exact x_iret hx hb hr hlk hw ⟨rfl, Or.inl ⟨_, rfl, ⟨rfl, rfl, rfl, rfl, h⟩⟩⟩ hbd d_Mod_needs_143
                    · replace h := h.2
                      by_cases c11 : p1 = 21
                      · replace h := h.1 c11
                        refine lv_tableIn (off := 135) (tgt := 136) hx hb d_Mod_needs_1 (by rw [c11]; decide) (by rw [c11]; decide) (by rw [c11]; rfl) (by decide) ?_
                        refine lv_iconst (v := 0) hx hb d_Mod_needs_136 (by decide) ?_
                        exact x_iret hx hb hr hlk hw ⟨rfl, Or.inl ⟨_, rfl, ⟨rfl, rfl, rfl, rfl, h⟩⟩⟩ hbd d_Mod_needs_137
                      · replace h := h.2
                        by_cases c12 : p1 = 22
                        · replace h := h.1 c12
                          refine lv_tableIn (off := 135) (tgt := 136) hx hb d_Mod_needs_1 (by rw [c12]; decide) (by rw [c12]; decide) (by rw [c12]; rfl) (by decide) ?_
                          refine lv_iconst (v := 0) hx hb d_Mod_needs_136 (by decide) ?_
                          exact x_iret hx hb hr hlk hw ⟨rfl, Or.inl ⟨_, rfl, ⟨rfl, rfl, rfl, rfl, h⟩⟩⟩ hbd d_Mod_needs_137
                        · replace h := h.2
                          by_cases c13 : p1 = 23
                          · replace h := h.1 c13
                            refine lv_tableIn (off := 135) (tgt := 136) hx hb d_Mod_needs_1 (by rw [c13]; decide) (by rw [c13]; decide) (by rw [c13]; rfl) (by decide) ?_
                            refine lv_iconst (v := 0) hx hb d_Mod_needs_136 (by decide) ?_
                            exact x_iret hx hb hr hlk hw ⟨rfl, Or.inl ⟨_, rfl, ⟨rfl, rfl, rfl, rfl, h⟩⟩⟩ hbd d_Mod_needs_137
                          · replace h := h.2
                            by_cases c14 : p1 = 24
                            · replace h := h.1 c14
                              refine lv_tableIn (off := 141) (tgt := 142) hx hb d_Mod_needs_1 (by rw [c14]; decide) (by rw [c14]; decide) (by rw [c14]; rfl) (by decide) ?_
                              refine lv_iconst (v := 1) hx hb d_Mod_needs_142 (by decide) ?_
                              exact x_iret hx hb hr hlk hw ⟨rfl, Or.inl ⟨_, rfl, ⟨rfl, rfl, rfl, rfl, h⟩⟩⟩ hbd d_Mod_needs_143
                            · replace h := h.2
                              by_cases c15 : p1 = 25
                              · replace h := h.1 c15
                                refine lv_tableIn (off := 141) (tgt := 142) hx hb d_Mod_needs_1 (by rw [c15]; decide) (by rw [c15]; decide) (by rw [c15]; rfl) (by decide) ?_
                                refine lv_iconst (v := 1) hx hb d_Mod_needs_142 (by decide) ?_
                                exact x_iret hx hb hr hlk hw ⟨rfl, Or.inl ⟨_, rfl, ⟨rfl, rfl, rfl, rfl, h⟩⟩⟩ hbd d_Mod_needs_143
                              · replace h := h.2
                                by_cases c16 : p1 = 26
                                · replace h := h.1 c16
                                  refine lv_tableIn (off := 141) (tgt := 142) hx hb d_Mod_needs_1 (by rw [c16]; decide) (by rw [c16]; decide) (by rw [c16]; rfl) (by decide) ?_
                                  refine lv_iconst (v := 1) hx hb d_Mod_needs_142 (by decide) ?_
                                  exact x_iret hx hb hr hlk hw ⟨rfl, Or.inl ⟨_, rfl, ⟨rfl, rfl, rfl, rfl, h⟩⟩⟩ hbd d_Mod_needs_143
                                · replace h := h.2
                                  by_cases c17 : p1 = 27
                                  · replace h := h.1 c17
                                    refine lv_tableIn (off := 143) (tgt := 144) hx hb d_Mod_needs_1 (by rw [c17]; decide) (by rw [c17]; decide) (by rw [c17]; rfl) (by decide) ?_
                                    refine lv_iload_n hx hb d_Mod_needs_144 rfl (lv_at hl 1 rfl) ?_
                                    refine lv_iconst (v := 3) hx hb d_Mod_needs_145 (by decide) ?_
                                    refine lv_iadd hx hb d_Mod_needs_146 ?_
                                    exact x_iret hx hb hr hlk hw ⟨rfl, Or.inl ⟨_, rfl, ⟨rfl, rfl, rfl, rfl, h⟩⟩⟩ hbd d_Mod_needs_147
                                  · replace h := h.2
                                    by_cases c18 : p1 = 28
                                    · replace h := h.1 c18
                                      refine lv_tableIn (off := 135) (tgt := 136) hx hb d_Mod_needs_1 (by rw [c18]; decide) (by rw [c18]; decide) (by rw [c18]; rfl) (by decide) ?_
                                      refine lv_iconst (v := 0) hx hb d_Mod_needs_136 (by decide) ?_
                                      exact x_iret hx hb hr hlk hw ⟨rfl, Or.inl ⟨_, rfl, ⟨rfl, rfl, rfl, rfl, h⟩⟩⟩ hbd d_Mod_needs_137
                                    · replace h := h.2
                                      by_cases c19 : p1 = 29
                                      · replace h := h.1 c19
                                        refine lv_tableIn (off := 141) (tgt := 142) hx hb d_Mod_needs_1 (by rw [c19]; decide) (by rw [c19]; decide) (by rw [c19]; rfl) (by decide) ?_
                                        refine lv_iconst (v := 1) hx hb d_Mod_needs_142 (by decide) ?_
                                        exact x_iret hx hb hr hlk hw ⟨rfl, Or.inl ⟨_, rfl, ⟨rfl, rfl, rfl, rfl, h⟩⟩⟩ hbd d_Mod_needs_143
                                      · replace h := h.2
                                        replace h := h c1 c2 c3 c4 c5 c6 c7 c8 c9 c10 c11 c12 c13 c14 c15 c16 c17 c18 c19
                                        by_cases hlo : p1.toInt < 0
                                        · refine lv_tableOut (tgt := 148) hx hb d_Mod_needs_1 (Or.inl hlo) (by decide) ?_
                                          refine lv_iconst (v := 2) hx hb d_Mod_needs_148 (by decide) ?_
                                          exact x_iret hx hb hr hlk hw ⟨rfl, Or.inl ⟨_, rfl, ⟨rfl, rfl, rfl, rfl, h⟩⟩⟩ hbd d_Mod_needs_149
                                        · by_cases hhi : 29 < p1.toInt
                                          · refine lv_tableOut (tgt := 148) hx hb d_Mod_needs_1 (Or.inr hhi) (by decide) ?_
                                            refine lv_iconst (v := 2) hx hb d_Mod_needs_148 (by decide) ?_
                                            exact x_iret hx hb hr hlk hw ⟨rfl, Or.inl ⟨_, rfl, ⟨rfl, rfl, rfl, rfl, h⟩⟩⟩ hbd d_Mod_needs_149
                                          · have hof : (#[135, 135, 141, 137, 137, 147, 147, 147, 147, 147, 147, 147, 141, 147, 147, 147, 135, 141, 141, 147, 141, 135, 135, 135, 141, 141, 141, 143, 135, 141] : Array Int)[(p1.toInt - 0).toNat]? = some 147 := by
                                              have hz : p1.toInt = 5 ∨ p1.toInt = 6 ∨ p1.toInt = 7 ∨ p1.toInt = 8 ∨ p1.toInt = 9 ∨ p1.toInt = 10 ∨ p1.toInt = 11 ∨ p1.toInt = 13 ∨ p1.toInt = 14 ∨ p1.toInt = 15 ∨ p1.toInt = 19 := by
                                                have z0 := lv_neT (a := 0) c1 (by decide)
                                                have z1 := lv_neT (a := 1) c2 (by decide)
                                                have z2 := lv_neT (a := 2) c3 (by decide)
                                                have z3 := lv_neT (a := 3) c4 (by decide)
                                                have z4 := lv_neT (a := 4) c5 (by decide)
                                                have z12 := lv_neT (a := 12) c6 (by decide)
                                                have z16 := lv_neT (a := 16) c7 (by decide)
                                                have z17 := lv_neT (a := 17) c8 (by decide)
                                                have z18 := lv_neT (a := 18) c9 (by decide)
                                                have z20 := lv_neT (a := 20) c10 (by decide)
                                                have z21 := lv_neT (a := 21) c11 (by decide)
                                                have z22 := lv_neT (a := 22) c12 (by decide)
                                                have z23 := lv_neT (a := 23) c13 (by decide)
                                                have z24 := lv_neT (a := 24) c14 (by decide)
                                                have z25 := lv_neT (a := 25) c15 (by decide)
                                                have z26 := lv_neT (a := 26) c16 (by decide)
                                                have z27 := lv_neT (a := 27) c17 (by decide)
                                                have z28 := lv_neT (a := 28) c18 (by decide)
                                                have z29 := lv_neT (a := 29) c19 (by decide)
                                                omega
                                              rcases hz with hz | hz | hz | hz | hz | hz | hz | hz | hz | hz | hz <;> (rw [hz]; rfl)
                                            refine lv_tableIn (off := 147) (tgt := 148) hx hb d_Mod_needs_1 hlo hhi hof (by decide) ?_
                                            refine lv_iconst (v := 2) hx hb d_Mod_needs_148 (by decide) ?_
                                            exact x_iret hx hb hr hlk hw ⟨rfl, Or.inl ⟨_, rfl, ⟨rfl, rfl, rfl, rfl, h⟩⟩⟩ hbd d_Mod_needs_149
def w_Mod_leaves (Q : Int32 → Prop) (p1 : Int32) (p2 : Int32) : Prop :=
  (p1 = 0 →
    Q (0 : Int32)) ∧
  (p1 = 2 →
    Q (0 : Int32)) ∧
  (p1 = 3 →
    Q (p2 + (2 : Int32))) ∧
  (p1 = 4 →
    Q (p2 + (1 : Int32))) ∧
  (p1 = 16 →
    Q (0 : Int32)) ∧
  (p1 = 17 →
    Q (0 : Int32)) ∧
  (p1 = 19 →
    Q (0 : Int32)) ∧
  (p1 = 25 →
    Q (0 : Int32)) ∧
  (p1 = 26 →
    Q (0 : Int32)) ∧
  (p1 = 27 →
    Q (2 : Int32)) ∧
  (p1 = 29 →
    Q (0 : Int32)) ∧
  (¬ p1 = 0 → ¬ p1 = 2 → ¬ p1 = 3 → ¬ p1 = 4 → ¬ p1 = 16 → ¬ p1 = 17 → ¬ p1 = 19 → ¬ p1 = 25 → ¬ p1 = 26 → ¬ p1 = 27 → ¬ p1 = 29 → 
    Q (1 : Int32))
set_option maxRecDepth 100000 in
set_option maxHeartbeats 4000000 in
theorem c_Mod_leaves {l : Launch} {g : x_G} {Y : x_Y} (hY : x_Y0 g Y) {p1 : Int32} {p2 : Int32} {Q : Int32 → Prop} {L : x_L} {I : x_I} {k n : Nat} (h : w_Mod_leaves Q p1 p2) : x_C l y_Mod_leaves 0 g [.int p1, .int p2] Y L I k n (x_pI Y (fun v L' I' k' n' => L' = L ∧ I' = I ∧ k' = k ∧ n' = n ∧ Q v) x_nx) := by
  refine x_mth k_1010 ?_
  intro p e R s m below meth c hE hnm hexn hw hk1 hn1
  obtain ⟨hx, hb, hml, hr, hlk, hown, hK, htr, hF, hLo, hRc, hRs⟩ := id hE
  have hbd : x_bd k n k n := ⟨Nat.le_refl _, hk1, Nat.le_refl _, hn1⟩
  have hl := lv_entry ([.int p1, .int p2]) (n := 2) (Nat.le_of_ble_eq_true rfl)
  generalize (lg_sl [.int p1, .int p2] ++ List.replicate (2 - (lg_sl [.int p1, .int p2]).length) Slot.unset).toArray = ls at hl ⊢
  have hl : lv_has ls 2 [(0, .int p1), (1, .int p2)] := hl
  generalize s.heap = H at hw ⊢
  generalize ([] : List Loc) = locs at hw ⊢
  unfold w_Mod_leaves at h
  refine lv_iload_n hx hb d_Mod_leaves_0 rfl (lv_at hl 0 rfl) ?_
  by_cases c1 : p1 = 0
  · replace h := h.1 c1
    refine lv_tableIn (off := 135) (tgt := 136) hx hb d_Mod_leaves_1 (by rw [c1]; decide) (by rw [c1]; decide) (by rw [c1]; rfl) (by decide) ?_
    refine lv_iconst (v := 0) hx hb d_Mod_leaves_136 (by decide) ?_
    exact x_iret hx hb hr hlk hw ⟨rfl, Or.inl ⟨_, rfl, ⟨rfl, rfl, rfl, rfl, h⟩⟩⟩ hbd d_Mod_leaves_137
  · replace h := h.2
    by_cases c2 : p1 = 2
    · replace h := h.1 c2
      refine lv_tableIn (off := 135) (tgt := 136) hx hb d_Mod_leaves_1 (by rw [c2]; decide) (by rw [c2]; decide) (by rw [c2]; rfl) (by decide) ?_
      refine lv_iconst (v := 0) hx hb d_Mod_leaves_136 (by decide) ?_
      exact x_iret hx hb hr hlk hw ⟨rfl, Or.inl ⟨_, rfl, ⟨rfl, rfl, rfl, rfl, h⟩⟩⟩ hbd d_Mod_leaves_137
    · replace h := h.2
      by_cases c3 : p1 = 3
      · replace h := h.1 c3
        refine lv_tableIn (off := 137) (tgt := 138) hx hb d_Mod_leaves_1 (by rw [c3]; decide) (by rw [c3]; decide) (by rw [c3]; rfl) (by decide) ?_
        refine lv_iload_n hx hb d_Mod_leaves_138 rfl (lv_at hl 1 rfl) ?_
        refine lv_iconst (v := 2) hx hb d_Mod_leaves_139 (by decide) ?_
        refine lv_iadd hx hb d_Mod_leaves_140 ?_
        exact x_iret hx hb hr hlk hw ⟨rfl, Or.inl ⟨_, rfl, ⟨rfl, rfl, rfl, rfl, h⟩⟩⟩ hbd d_Mod_leaves_141
      · replace h := h.2
        by_cases c4 : p1 = 4
        · replace h := h.1 c4
          refine lv_tableIn (off := 141) (tgt := 142) hx hb d_Mod_leaves_1 (by rw [c4]; decide) (by rw [c4]; decide) (by rw [c4]; rfl) (by decide) ?_
          refine lv_iload_n hx hb d_Mod_leaves_142 rfl (lv_at hl 1 rfl) ?_
          refine lv_iconst (v := 1) hx hb d_Mod_leaves_143 (by decide) ?_
          refine lv_iadd hx hb d_Mod_leaves_144 ?_
          exact x_iret hx hb hr hlk hw ⟨rfl, Or.inl ⟨_, rfl, ⟨rfl, rfl, rfl, rfl, h⟩⟩⟩ hbd d_Mod_leaves_145
        · replace h := h.2
          by_cases c5 : p1 = 16
          · replace h := h.1 c5
            refine lv_tableIn (off := 135) (tgt := 136) hx hb d_Mod_leaves_1 (by rw [c5]; decide) (by rw [c5]; decide) (by rw [c5]; rfl) (by decide) ?_
            refine lv_iconst (v := 0) hx hb d_Mod_leaves_136 (by decide) ?_
            exact x_iret hx hb hr hlk hw ⟨rfl, Or.inl ⟨_, rfl, ⟨rfl, rfl, rfl, rfl, h⟩⟩⟩ hbd d_Mod_leaves_137
          · replace h := h.2
            by_cases c6 : p1 = 17
            · replace h := h.1 c6
              refine lv_tableIn (off := 135) (tgt := 136) hx hb d_Mod_leaves_1 (by rw [c6]; decide) (by rw [c6]; decide) (by rw [c6]; rfl) (by decide) ?_
              refine lv_iconst (v := 0) hx hb d_Mod_leaves_136 (by decide) ?_
              exact x_iret hx hb hr hlk hw ⟨rfl, Or.inl ⟨_, rfl, ⟨rfl, rfl, rfl, rfl, h⟩⟩⟩ hbd d_Mod_leaves_137
            · replace h := h.2
              by_cases c7 : p1 = 19
              · replace h := h.1 c7
                refine lv_tableIn (off := 135) (tgt := 136) hx hb d_Mod_leaves_1 (by rw [c7]; decide) (by rw [c7]; decide) (by rw [c7]; rfl) (by decide) ?_
                refine lv_iconst (v := 0) hx hb d_Mod_leaves_136 (by decide) ?_
                exact x_iret hx hb hr hlk hw ⟨rfl, Or.inl ⟨_, rfl, ⟨rfl, rfl, rfl, rfl, h⟩⟩⟩ hbd d_Mod_leaves_137
              · replace h := h.2
                by_cases c8 : p1 = 25
                · replace h := h.1 c8
                  refine lv_tableIn (off := 135) (tgt := 136) hx hb d_Mod_leaves_1 (by rw [c8]; decide) (by rw [c8]; decide) (by rw [c8]; rfl) (by decide) ?_
                  refine lv_iconst (v := 0) hx hb d_Mod_leaves_136 (by decide) ?_
                  exact x_iret hx hb hr hlk hw ⟨rfl, Or.inl ⟨_, rfl, ⟨rfl, rfl, rfl, rfl, h⟩⟩⟩ hbd d_Mod_leaves_137
                · replace h := h.2
                  by_cases c9 : p1 = 26
                  · replace h := h.1 c9
                    refine lv_tableIn (off := 135) (tgt := 136) hx hb d_Mod_leaves_1 (by rw [c9]; decide) (by rw [c9]; decide) (by rw [c9]; rfl) (by decide) ?_
                    refine lv_iconst (v := 0) hx hb d_Mod_leaves_136 (by decide) ?_
                    exact x_iret hx hb hr hlk hw ⟨rfl, Or.inl ⟨_, rfl, ⟨rfl, rfl, rfl, rfl, h⟩⟩⟩ hbd d_Mod_leaves_137
                  · replace h := h.2
                    by_cases c10 : p1 = 27
                    · replace h := h.1 c10
                      refine lv_tableIn (off := 145) (tgt := 146) hx hb d_Mod_leaves_1 (by rw [c10]; decide) (by rw [c10]; decide) (by rw [c10]; rfl) (by decide) ?_
                      refine lv_iconst (v := 2) hx hb d_Mod_leaves_146 (by decide) ?_
                      exact x_iret hx hb hr hlk hw ⟨rfl, Or.inl ⟨_, rfl, ⟨rfl, rfl, rfl, rfl, h⟩⟩⟩ hbd d_Mod_leaves_147
                    · replace h := h.2
                      by_cases c11 : p1 = 29
                      · replace h := h.1 c11
                        refine lv_tableIn (off := 135) (tgt := 136) hx hb d_Mod_leaves_1 (by rw [c11]; decide) (by rw [c11]; decide) (by rw [c11]; rfl) (by decide) ?_
                        refine lv_iconst (v := 0) hx hb d_Mod_leaves_136 (by decide) ?_
                        exact x_iret hx hb hr hlk hw ⟨rfl, Or.inl ⟨_, rfl, ⟨rfl, rfl, rfl, rfl, h⟩⟩⟩ hbd d_Mod_leaves_137
                      · replace h := h.2
                        replace h := h c1 c2 c3 c4 c5 c6 c7 c8 c9 c10 c11
                        by_cases hlo : p1.toInt < 0
                        · refine lv_tableOut (tgt := 148) hx hb d_Mod_leaves_1 (Or.inl hlo) (by decide) ?_
                          refine lv_iconst (v := 1) hx hb d_Mod_leaves_148 (by decide) ?_
                          exact x_iret hx hb hr hlk hw ⟨rfl, Or.inl ⟨_, rfl, ⟨rfl, rfl, rfl, rfl, h⟩⟩⟩ hbd d_Mod_leaves_149
                        · by_cases hhi : 29 < p1.toInt
                          · refine lv_tableOut (tgt := 148) hx hb d_Mod_leaves_1 (Or.inr hhi) (by decide) ?_
                            refine lv_iconst (v := 1) hx hb d_Mod_leaves_148 (by decide) ?_
                            exact x_iret hx hb hr hlk hw ⟨rfl, Or.inl ⟨_, rfl, ⟨rfl, rfl, rfl, rfl, h⟩⟩⟩ hbd d_Mod_leaves_149
                          · have hof : (#[135, 147, 135, 137, 141, 147, 147, 147, 147, 147, 147, 147, 147, 147, 147, 147, 135, 135, 147, 135, 147, 147, 147, 147, 147, 135, 135, 145, 147, 135] : Array Int)[(p1.toInt - 0).toNat]? = some 147 := by
                              have hz : p1.toInt = 1 ∨ p1.toInt = 5 ∨ p1.toInt = 6 ∨ p1.toInt = 7 ∨ p1.toInt = 8 ∨ p1.toInt = 9 ∨ p1.toInt = 10 ∨ p1.toInt = 11 ∨ p1.toInt = 12 ∨ p1.toInt = 13 ∨ p1.toInt = 14 ∨ p1.toInt = 15 ∨ p1.toInt = 18 ∨ p1.toInt = 20 ∨ p1.toInt = 21 ∨ p1.toInt = 22 ∨ p1.toInt = 23 ∨ p1.toInt = 24 ∨ p1.toInt = 28 := by
                                have z0 := lv_neT (a := 0) c1 (by decide)
                                have z2 := lv_neT (a := 2) c2 (by decide)
                                have z3 := lv_neT (a := 3) c3 (by decide)
                                have z4 := lv_neT (a := 4) c4 (by decide)
                                have z16 := lv_neT (a := 16) c5 (by decide)
                                have z17 := lv_neT (a := 17) c6 (by decide)
                                have z19 := lv_neT (a := 19) c7 (by decide)
                                have z25 := lv_neT (a := 25) c8 (by decide)
                                have z26 := lv_neT (a := 26) c9 (by decide)
                                have z27 := lv_neT (a := 27) c10 (by decide)
                                have z29 := lv_neT (a := 29) c11 (by decide)
                                omega
                              rcases hz with hz | hz | hz | hz | hz | hz | hz | hz | hz | hz | hz | hz | hz | hz | hz | hz | hz | hz | hz <;> (rw [hz]; rfl)
                            refine lv_tableIn (off := 147) (tgt := 148) hx hb d_Mod_leaves_1 hlo hhi hof (by decide) ?_
                            refine lv_iconst (v := 1) hx hb d_Mod_leaves_148 (by decide) ?_
                            exact x_iret hx hb hr hlk hw ⟨rfl, Or.inl ⟨_, rfl, ⟨rfl, rfl, rfl, rfl, h⟩⟩⟩ hbd d_Mod_leaves_149
def w_Mod_made (Q : Int32 → Prop) (p1 : Int32) (p2 : Int32) (p3 : Int32) : Prop :=
  (p1 = 5 →
    Q (p2 + p3)) ∧
  (p1 = 6 →
    Q (p2 - p3)) ∧
  (p1 = 7 →
    Q (p2 * p3)) ∧
  (p1 = 8 →
    ((¬ p3 = 0 →
      ¬ p3 = 0 ∧
      Q (p2 / p3)) ∧
    (p3 = 0 →
      Q (0 : Int32)))) ∧
  (p1 = 9 →
    ((¬ p3 = 0 →
      ¬ p3 = 0 ∧
      Q (p2 - p2 / p3 * p3)) ∧
    (p3 = 0 →
      Q p2))) ∧
  (p1 = 10 →
    ((p3 ≤ p2 →
      Q (0 : Int32)) ∧
    (¬ p3 ≤ p2 →
      Q (1 : Int32)))) ∧
  (p1 = 11 →
    ((¬ p2 = p3 →
      Q (0 : Int32)) ∧
    (p2 = p3 →
      Q (1 : Int32)))) ∧
  (p1 = 13 →
    Q (p2 &&& p3)) ∧
  (p1 = 14 →
    Q (p2 ||| p3)) ∧
  (¬ p1 = 5 → ¬ p1 = 6 → ¬ p1 = 7 → ¬ p1 = 8 → ¬ p1 = 9 → ¬ p1 = 10 → ¬ p1 = 11 → ¬ p1 = 13 → ¬ p1 = 14 → 
    Q (p2 ^^^ p3))
set_option maxRecDepth 100000 in
set_option maxHeartbeats 4000000 in
theorem c_Mod_made {l : Launch} {g : x_G} {Y : x_Y} (hY : x_Y0 g Y) {p1 : Int32} {p2 : Int32} {p3 : Int32} {Q : Int32 → Prop} {L : x_L} {I : x_I} {k n : Nat} (h : w_Mod_made Q p1 p2 p3) : x_C l y_Mod_made 0 g [.int p1, .int p2, .int p3] Y L I k n (x_pI Y (fun v L' I' k' n' => L' = L ∧ I' = I ∧ k' = k ∧ n' = n ∧ Q v) x_nx) := by
  refine x_mth k_1037 ?_
  intro p e R s m below meth c hE hnm hexn hw hk1 hn1
  obtain ⟨hx, hb, hml, hr, hlk, hown, hK, htr, hF, hLo, hRc, hRs⟩ := id hE
  have hbd : x_bd k n k n := ⟨Nat.le_refl _, hk1, Nat.le_refl _, hn1⟩
  have hl := lv_entry ([.int p1, .int p2, .int p3]) (n := 3) (Nat.le_of_ble_eq_true rfl)
  generalize (lg_sl [.int p1, .int p2, .int p3] ++ List.replicate (3 - (lg_sl [.int p1, .int p2, .int p3]).length) Slot.unset).toArray = ls at hl ⊢
  have hl : lv_has ls 3 [(0, .int p1), (1, .int p2), (2, .int p3)] := hl
  generalize s.heap = H at hw ⊢
  generalize ([] : List Loc) = locs at hw ⊢
  unfold w_Mod_made at h
  refine lv_iload_n hx hb d_Mod_made_0 rfl (lv_at hl 0 rfl) ?_
  by_cases c1 : p1 = 5
  · replace h := h.1 c1
    refine lv_tableIn (off := 55) (tgt := 56) hx hb d_Mod_made_1 (by rw [c1]; decide) (by rw [c1]; decide) (by rw [c1]; rfl) (by decide) ?_
    refine lv_iload_n hx hb d_Mod_made_56 rfl (lv_at hl 1 rfl) ?_
    refine lv_iload_n hx hb d_Mod_made_57 rfl (lv_at hl 2 rfl) ?_
    refine lv_iadd hx hb d_Mod_made_58 ?_
    exact x_iret hx hb hr hlk hw ⟨rfl, Or.inl ⟨_, rfl, ⟨rfl, rfl, rfl, rfl, h⟩⟩⟩ hbd d_Mod_made_59
  · replace h := h.2
    by_cases c2 : p1 = 6
    · replace h := h.1 c2
      refine lv_tableIn (off := 59) (tgt := 60) hx hb d_Mod_made_1 (by rw [c2]; decide) (by rw [c2]; decide) (by rw [c2]; rfl) (by decide) ?_
      refine lv_iload_n hx hb d_Mod_made_60 rfl (lv_at hl 1 rfl) ?_
      refine lv_iload_n hx hb d_Mod_made_61 rfl (lv_at hl 2 rfl) ?_
      refine lv_isub hx hb d_Mod_made_62 ?_
      exact x_iret hx hb hr hlk hw ⟨rfl, Or.inl ⟨_, rfl, ⟨rfl, rfl, rfl, rfl, h⟩⟩⟩ hbd d_Mod_made_63
    · replace h := h.2
      by_cases c3 : p1 = 7
      · replace h := h.1 c3
        refine lv_tableIn (off := 63) (tgt := 64) hx hb d_Mod_made_1 (by rw [c3]; decide) (by rw [c3]; decide) (by rw [c3]; rfl) (by decide) ?_
        refine lv_iload_n hx hb d_Mod_made_64 rfl (lv_at hl 1 rfl) ?_
        refine lv_iload_n hx hb d_Mod_made_65 rfl (lv_at hl 2 rfl) ?_
        refine lv_imul hx hb d_Mod_made_66 ?_
        exact x_iret hx hb hr hlk hw ⟨rfl, Or.inl ⟨_, rfl, ⟨rfl, rfl, rfl, rfl, h⟩⟩⟩ hbd d_Mod_made_67
      · replace h := h.2
        by_cases c4 : p1 = 8
        · replace h := h.1 c4
          refine lv_tableIn (off := 67) (tgt := 68) hx hb d_Mod_made_1 (by rw [c4]; decide) (by rw [c4]; decide) (by rw [c4]; rfl) (by decide) ?_
          refine lv_iload_n hx hb d_Mod_made_68 rfl (lv_at hl 2 rfl) ?_
          refine lv_if_ne (tgt := 76) hx hb d_Mod_made_69 (by decide) (fun c5 => ?_) (fun c5 => ?_)
          · replace h := h.1 c5
            refine lv_iload_n hx hb d_Mod_made_76 rfl (lv_at hl 1 rfl) ?_
            refine lv_iload_n hx hb d_Mod_made_77 rfl (lv_at hl 2 rfl) ?_
            refine lv_idiv hx hb d_Mod_made_78 h.1 ?_
            replace h := h.2
            exact x_iret hx hb hr hlk hw ⟨rfl, Or.inl ⟨_, rfl, ⟨rfl, rfl, rfl, rfl, h⟩⟩⟩ hbd d_Mod_made_79
          · replace h := h.2 c5
            refine lv_iconst (v := 0) hx hb d_Mod_made_72 (by decide) ?_
            refine lv_goto (tgt := 79) hx hb d_Mod_made_73 (by decide) ?_
            exact x_iret hx hb hr hlk hw ⟨rfl, Or.inl ⟨_, rfl, ⟨rfl, rfl, rfl, rfl, h⟩⟩⟩ hbd d_Mod_made_79
        · replace h := h.2
          by_cases c6 : p1 = 9
          · replace h := h.1 c6
            refine lv_tableIn (off := 79) (tgt := 80) hx hb d_Mod_made_1 (by rw [c6]; decide) (by rw [c6]; decide) (by rw [c6]; rfl) (by decide) ?_
            refine lv_iload_n hx hb d_Mod_made_80 rfl (lv_at hl 2 rfl) ?_
            refine lv_if_ne (tgt := 88) hx hb d_Mod_made_81 (by decide) (fun c7 => ?_) (fun c7 => ?_)
            · replace h := h.1 c7
              refine lv_iload_n hx hb d_Mod_made_88 rfl (lv_at hl 1 rfl) ?_
              refine lv_iload_n hx hb d_Mod_made_89 rfl (lv_at hl 2 rfl) ?_
              refine lv_irem hx hb d_Mod_made_90 h.1 ?_
              replace h := h.2
              exact x_iret hx hb hr hlk hw ⟨rfl, Or.inl ⟨_, rfl, ⟨rfl, rfl, rfl, rfl, h⟩⟩⟩ hbd d_Mod_made_91
            · replace h := h.2 c7
              refine lv_iload_n hx hb d_Mod_made_84 rfl (lv_at hl 1 rfl) ?_
              refine lv_goto (tgt := 91) hx hb d_Mod_made_85 (by decide) ?_
              exact x_iret hx hb hr hlk hw ⟨rfl, Or.inl ⟨_, rfl, ⟨rfl, rfl, rfl, rfl, h⟩⟩⟩ hbd d_Mod_made_91
          · replace h := h.2
            by_cases c8 : p1 = 10
            · replace h := h.1 c8
              refine lv_tableIn (off := 91) (tgt := 92) hx hb d_Mod_made_1 (by rw [c8]; decide) (by rw [c8]; decide) (by rw [c8]; rfl) (by decide) ?_
              refine lv_iload_n hx hb d_Mod_made_92 rfl (lv_at hl 1 rfl) ?_
              refine lv_iload_n hx hb d_Mod_made_93 rfl (lv_at hl 2 rfl) ?_
              refine lv_icmp_ge (tgt := 101) hx hb d_Mod_made_94 (by decide) (fun c9 => ?_) (fun c9 => ?_)
              · replace h := h.1 c9
                refine lv_iconst (v := 0) hx hb d_Mod_made_101 (by decide) ?_
                exact x_iret hx hb hr hlk hw ⟨rfl, Or.inl ⟨_, rfl, ⟨rfl, rfl, rfl, rfl, h⟩⟩⟩ hbd d_Mod_made_102
              · replace h := h.2 c9
                refine lv_iconst (v := 1) hx hb d_Mod_made_97 (by decide) ?_
                refine lv_goto (tgt := 102) hx hb d_Mod_made_98 (by decide) ?_
                exact x_iret hx hb hr hlk hw ⟨rfl, Or.inl ⟨_, rfl, ⟨rfl, rfl, rfl, rfl, h⟩⟩⟩ hbd d_Mod_made_102
            · replace h := h.2
              by_cases c10 : p1 = 11
              · replace h := h.1 c10
                refine lv_tableIn (off := 102) (tgt := 103) hx hb d_Mod_made_1 (by rw [c10]; decide) (by rw [c10]; decide) (by rw [c10]; rfl) (by decide) ?_
                refine lv_iload_n hx hb d_Mod_made_103 rfl (lv_at hl 1 rfl) ?_
                refine lv_iload_n hx hb d_Mod_made_104 rfl (lv_at hl 2 rfl) ?_
                refine lv_icmp_ne (tgt := 112) hx hb d_Mod_made_105 (by decide) (fun c11 => ?_) (fun c11 => ?_)
                · replace h := h.1 c11
                  refine lv_iconst (v := 0) hx hb d_Mod_made_112 (by decide) ?_
                  exact x_iret hx hb hr hlk hw ⟨rfl, Or.inl ⟨_, rfl, ⟨rfl, rfl, rfl, rfl, h⟩⟩⟩ hbd d_Mod_made_113
                · replace h := h.2 c11
                  refine lv_iconst (v := 1) hx hb d_Mod_made_108 (by decide) ?_
                  refine lv_goto (tgt := 113) hx hb d_Mod_made_109 (by decide) ?_
                  exact x_iret hx hb hr hlk hw ⟨rfl, Or.inl ⟨_, rfl, ⟨rfl, rfl, rfl, rfl, h⟩⟩⟩ hbd d_Mod_made_113
              · replace h := h.2
                by_cases c12 : p1 = 13
                · replace h := h.1 c12
                  refine lv_tableIn (off := 113) (tgt := 114) hx hb d_Mod_made_1 (by rw [c12]; decide) (by rw [c12]; decide) (by rw [c12]; rfl) (by decide) ?_
                  refine lv_iload_n hx hb d_Mod_made_114 rfl (lv_at hl 1 rfl) ?_
                  refine lv_iload_n hx hb d_Mod_made_115 rfl (lv_at hl 2 rfl) ?_
                  refine lv_iand hx hb d_Mod_made_116 ?_
                  exact x_iret hx hb hr hlk hw ⟨rfl, Or.inl ⟨_, rfl, ⟨rfl, rfl, rfl, rfl, h⟩⟩⟩ hbd d_Mod_made_117
                · replace h := h.2
                  by_cases c13 : p1 = 14
                  · replace h := h.1 c13
                    refine lv_tableIn (off := 117) (tgt := 118) hx hb d_Mod_made_1 (by rw [c13]; decide) (by rw [c13]; decide) (by rw [c13]; rfl) (by decide) ?_
                    refine lv_iload_n hx hb d_Mod_made_118 rfl (lv_at hl 1 rfl) ?_
                    refine lv_iload_n hx hb d_Mod_made_119 rfl (lv_at hl 2 rfl) ?_
                    refine lv_ior hx hb d_Mod_made_120 ?_
                    exact x_iret hx hb hr hlk hw ⟨rfl, Or.inl ⟨_, rfl, ⟨rfl, rfl, rfl, rfl, h⟩⟩⟩ hbd d_Mod_made_121
                  · replace h := h.2
                    replace h := h c1 c2 c3 c4 c6 c8 c10 c12 c13
                    by_cases hlo : p1.toInt < 5
                    · refine lv_tableOut (tgt := 122) hx hb d_Mod_made_1 (Or.inl hlo) (by decide) ?_
                      refine lv_iload_n hx hb d_Mod_made_122 rfl (lv_at hl 1 rfl) ?_
                      refine lv_iload_n hx hb d_Mod_made_123 rfl (lv_at hl 2 rfl) ?_
                      refine lv_ixor hx hb d_Mod_made_124 ?_
                      exact x_iret hx hb hr hlk hw ⟨rfl, Or.inl ⟨_, rfl, ⟨rfl, rfl, rfl, rfl, h⟩⟩⟩ hbd d_Mod_made_125
                    · by_cases hhi : 14 < p1.toInt
                      · refine lv_tableOut (tgt := 122) hx hb d_Mod_made_1 (Or.inr hhi) (by decide) ?_
                        refine lv_iload_n hx hb d_Mod_made_122 rfl (lv_at hl 1 rfl) ?_
                        refine lv_iload_n hx hb d_Mod_made_123 rfl (lv_at hl 2 rfl) ?_
                        refine lv_ixor hx hb d_Mod_made_124 ?_
                        exact x_iret hx hb hr hlk hw ⟨rfl, Or.inl ⟨_, rfl, ⟨rfl, rfl, rfl, rfl, h⟩⟩⟩ hbd d_Mod_made_125
                      · have hof : (#[55, 59, 63, 67, 79, 91, 102, 121, 113, 117] : Array Int)[(p1.toInt - 5).toNat]? = some 121 := by
                          have hz : p1.toInt = 12 := by
                            have z5 := lv_neT (a := 5) c1 (by decide)
                            have z6 := lv_neT (a := 6) c2 (by decide)
                            have z7 := lv_neT (a := 7) c3 (by decide)
                            have z8 := lv_neT (a := 8) c4 (by decide)
                            have z9 := lv_neT (a := 9) c6 (by decide)
                            have z10 := lv_neT (a := 10) c8 (by decide)
                            have z11 := lv_neT (a := 11) c10 (by decide)
                            have z13 := lv_neT (a := 13) c12 (by decide)
                            have z14 := lv_neT (a := 14) c13 (by decide)
                            omega
                          rcases hz with hz <;> (rw [hz]; rfl)
                        refine lv_tableIn (off := 121) (tgt := 122) hx hb d_Mod_made_1 hlo hhi hof (by decide) ?_
                        refine lv_iload_n hx hb d_Mod_made_122 rfl (lv_at hl 1 rfl) ?_
                        refine lv_iload_n hx hb d_Mod_made_123 rfl (lv_at hl 2 rfl) ?_
                        refine lv_ixor hx hb d_Mod_made_124 ?_
                        exact x_iret hx hb hr hlk hw ⟨rfl, Or.inl ⟨_, rfl, ⟨rfl, rfl, rfl, rfl, h⟩⟩⟩ hbd d_Mod_made_125
def w_Mod_call_74 (Q : x_I → Prop) : Nat → Int32 → Int32 → Int32 → Int32 → Int32 → Int32 → Int32 → x_I → Prop
  | 0, _, _, _, _, _, _, _, _ => False
  | fu + 1, v1, v2, v3, v4, v5, v6, v7, I =>
    ((v1 ≤ v7 →
      ((v6 = 0 →
        vp_in (I 30 0 18) 8 ∧
        vp_in (I 30 0 18) 8 ∧
        ∀ x16 : Int32, x16 = ((I 66 0 (I 30 0 18).toNatClampNeg) - ((I 66 0 (I 30 0 18).toNatClampNeg) / (8 : Int32))) →
        ((x16 ≤ v4 →
          vp_in (I 30 0 18) 8 ∧
          vp_in (I 30 0 18) 8 ∧
          ∀ I18 : x_I, I18 = x_u I 66 0 (I 30 0 18).toNatClampNeg (((I 66 0 (I 30 0 18).toNatClampNeg) - x16)) →
          vp_in ((I18 30 0 18) + (1 : Int32)) 8 ∧
          ∀ I20 : x_I, I20 = x_u I18 63 0 ((I18 30 0 18) + (1 : Int32)).toNatClampNeg v1 →
          ∀ I21 : x_I, I21 = x_u I20 30 0 18 ((I20 30 0 18) + (1 : Int32)) →
          w_Mod_begin (fun I22 =>
            Q I22) v5 v2 v3 x16 I21) ∧
        (¬ x16 ≤ v4 →
          vp_in (I 30 0 18) 8 ∧
          vp_in (I 30 0 18) 8 ∧
          ∀ I23 : x_I, I23 = x_u I 66 0 (I 30 0 18).toNatClampNeg (((I 66 0 (I 30 0 18).toNatClampNeg) - v4)) →
          vp_in ((I23 30 0 18) + (1 : Int32)) 8 ∧
          ∀ I25 : x_I, I25 = x_u I23 63 0 ((I23 30 0 18) + (1 : Int32)).toNatClampNeg v1 →
          ∀ I26 : x_I, I26 = x_u I25 30 0 18 ((I25 30 0 18) + (1 : Int32)) →
          w_Mod_begin (fun I27 =>
            Q I27) v5 v2 v3 v4 I26))) ∧
      (¬ v6 = 0 →
        w_Mod_push (fun I28 =>
          w_Mod_push (fun I29 =>
            vp_in (I29 30 0 18) 8 ∧
            vp_in (I29 30 0 18) 8 ∧
            ∀ I31 : x_I, I31 = x_u I29 61 0 (I29 30 0 18).toNatClampNeg (((I29 61 0 (I29 30 0 18).toNatClampNeg) + (1 : Int32))) →
            Q I31) (0 : Int32) I28) (0 : Int32) I))) ∧
    (¬ v1 ≤ v7 →
      w_Mod_pop (fun r32 I33 =>
        ((¬ v6 = 0 →
          ∀ x35 : Int32, x35 = v7 + (1 : Int32) →
          w_Mod_call_74 Q fu v1 v2 v3 v4 v5 v6 x35 I33) ∧
        (v6 = 0 →
          vp_in (((((8 : Int32) * (I33 30 0 18)) + (8 : Int32)) + v7)) 64 ∧
          ∀ I37 : x_I, I37 = x_u I33 62 0 (((((8 : Int32) * (I33 30 0 18)) + (8 : Int32)) + v7)).toNatClampNeg r32 →
          ∀ x38 : Int32, x38 = v7 + (1 : Int32) →
          w_Mod_call_74 Q fu v1 v2 v3 v4 v5 v6 x38 I37))) I))
def w_Mod_call (Q : x_I → Prop) (p1 : Int32) (I : x_I) : Prop :=
  w_Mod_pop (fun r1 I2 =>
    w_Mod_pop (fun r3 I4 =>
      w_Mod_pop (fun r5 I6 =>
        vp_in (I6 30 0 18) 8 ∧
        ∀ x8 : Int32, x8 = (I6 67 0 (I6 30 0 18).toNatClampNeg) →
        w_Mod_noAccount (fun r9 =>
          ((¬ r9 = 0 →
            ∀ x11 : Int32, x11 = (1 : Int32) →
            ∀ x12 : Int32, x12 = (0 : Int32) →
            ∃ fu : Nat, w_Mod_call_74 Q fu p1 r1 r3 r5 x8 x11 x12 I6) ∧
          (r9 = 0 →
            ((r3 < 0 →
              ∀ x40 : Int32, x40 = (1 : Int32) →
              ∀ x41 : Int32, x41 = (0 : Int32) →
              ∃ fu : Nat, w_Mod_call_74 Q fu p1 r1 r3 r5 x8 x40 x41 I6) ∧
            (¬ r3 < 0 →
              vp_in x8 24 ∧
              (((I6 42 0 x8.toNatClampNeg) < r3 →
                ∀ x44 : Int32, x44 = (1 : Int32) →
                ∀ x45 : Int32, x45 = (0 : Int32) →
                ∃ fu : Nat, w_Mod_call_74 Q fu p1 r1 r3 r5 x8 x44 x45 I6) ∧
              (¬ (I6 42 0 x8.toNatClampNeg) < r3 →
                ((r5 < 0 →
                  ∀ x47 : Int32, x47 = (1 : Int32) →
                  ∀ x48 : Int32, x48 = (0 : Int32) →
                  ∃ fu : Nat, w_Mod_call_74 Q fu p1 r1 r3 r5 x8 x47 x48 I6) ∧
                (¬ r5 < 0 →
                  ((¬ (I6 30 0 18) = (7 : Int32) →
                    ∀ x50 : Int32, x50 = (0 : Int32) →
                    ∀ x51 : Int32, x51 = (0 : Int32) →
                    ∃ fu : Nat, w_Mod_call_74 Q fu p1 r1 r3 r5 x8 x50 x51 I6) ∧
                  ((I6 30 0 18) = (7 : Int32) →
                    ∀ x52 : Int32, x52 = (1 : Int32) →
                    ∀ x53 : Int32, x53 = (0 : Int32) →
                    ∃ fu : Nat, w_Mod_call_74 Q fu p1 r1 r3 r5 x8 x52 x53 I6))))))))))) r1 I6) I4) I2) I
set_option maxRecDepth 100000 in
set_option maxHeartbeats 4000000 in
theorem c_Mod_call_74 {l : Launch} {g : x_G} {Y : x_Y} {p : Program} {e : Env} {R : Room} {s : State} {m : MethodId} {args : Array Value} {below : List Frame} {meth : Method} {c : Code} {k n : Nat} (hE : x_E l g p e R s m meth c "CallLedgerModel" prog_9_method_31_code 9 none 1 k n) (hexn : c.exceptionTable.toList = []) (hY : x_Y0 g Y) (ok0_ : x_ok Y 30 0) {Q : x_I → Prop} {L : x_L} :
    ∀ (fu : Nat) (v1 : Int32) (v2 : Int32) (v3 : Int32) (v4 : Int32) (v5 : Int32) (v6 : Int32) (v7 : Int32) (I : x_I) (H : Heap) (locs : List Loc) (ls : Array Slot), w_Mod_call_74 Q fu v1 v2 v3 v4 v5 v6 v7 I → x_WL g Y L I H locs → x_bd k n k n → lv_has ls 9 [(0, .ref (x_ad Y 30 0)), (1, .int v1), (2, .int v2), (3, .int v3), (4, .int v4), (5, .int v5), (6, .int v6), (7, .int v7)] → W p l e R s m args below meth c H locs (k - k) (n - n) (x_Q g below s k n (x_pV Y (fun L' I' k' n' => L' = L ∧ k' = k ∧ n' = n ∧ Q I') x_nx)) (F0 m 74 ls []) := by
  obtain ⟨hx, hb, hml, hr, hlk, hown, hK, htr, hF, hLo, hRc, hRs⟩ := id hE
  intro fu
  induction fu with
  | zero =>
    intro v1 v2 v3 v4 v5 v6 v7 I H locs ls h
    exact h.elim
  | succ fu ih =>
    intro v1 v2 v3 v4 v5 v6 v7 I H locs ls h hw hbd hl
    unfold w_Mod_call_74 at h
    refine lv_iload hx hb d_Mod_call_74 (lv_at hl 7 rfl) ?_
    refine lv_iload_n hx hb d_Mod_call_76 rfl (lv_at hl 1 rfl) ?_
    refine lv_icmp_ge (tgt := 117) hx hb d_Mod_call_77 (by decide) (fun c13 => ?_) (fun c13 => ?_)
    · replace h := h.1 c13
      refine lv_iload hx hb d_Mod_call_117 (lv_at hl 6 rfl) ?_
      refine lv_if_eq (tgt := 146) hx hb d_Mod_call_119 (by decide) (fun c14 => ?_) (fun c14 => ?_)
      · replace h := h.1 c14
        refine lv_aload_n hx hb d_Mod_call_146 rfl (lv_at hl 0 rfl) ?_
        refine x_getR (t := 30) (i := 0) (j := 26) hx hb hK hw hown ok0_ rfl (by decide) (by decide) (x_wd hK k_824 rfl) (fun _ h => h) fk_8_26 (hY.r ok0_ rfl) d_Mod_call_147 ?_
        have ok15 := hY.ok 26 ok0_ (t' := 66) (i' := 0) rfl
        refine lv_aload_n hx hb d_Mod_call_150 rfl (lv_at hl 0 rfl) ?_
        refine x_getI (t := 30) (i := 0) (j := 18) hx hb hK hw hown ok0_ rfl (by decide) (by decide) (x_wd hK k_816 rfl) (fun _ h => h) fk_8_18 d_Mod_call_151 ?_
        refine x_iald (t := 66) (i := 0) hx hb hK hw ok15 rfl (hY.n ok15 rfl) h.1 d_Mod_call_154 ?_
        replace h := h.2
        refine lv_aload_n hx hb d_Mod_call_155 rfl (lv_at hl 0 rfl) ?_
        refine x_getR (t := 30) (i := 0) (j := 26) hx hb hK hw hown ok0_ rfl (by decide) (by decide) (x_wd hK k_824 rfl) (fun _ h => h) fk_8_26 (hY.r ok0_ rfl) d_Mod_call_156 ?_
        refine lv_aload_n hx hb d_Mod_call_159 rfl (lv_at hl 0 rfl) ?_
        refine x_getI (t := 30) (i := 0) (j := 18) hx hb hK hw hown ok0_ rfl (by decide) (by decide) (x_wd hK k_816 rfl) (fun _ h => h) fk_8_18 d_Mod_call_160 ?_
        refine x_iald (t := 66) (i := 0) hx hb hK hw ok15 rfl (hY.n ok15 rfl) h.1 d_Mod_call_163 ?_
        replace h := h.2
        refine lv_bipush (v := 8) hx hb d_Mod_call_164 (by decide) ?_
        refine lv_idiv hx hb d_Mod_call_166 (by decide) ?_
        refine lv_isub hx hb d_Mod_call_167 ?_
        refine lv_topi (fun x16 e_x16 => ?_)
        replace h := h x16 e_x16
        refine lv_istore (lv' := [(7, .int x16), (0, .ref (x_ad Y 30 0)), (1, .int v1), (2, .int v2), (3, .int v3), (4, .int v4), (5, .int v5), (6, .int v6)]) hx hb d_Mod_call_168 hl (by decide) rfl (fun ls hl => ?_)
        refine lv_iload hx hb d_Mod_call_170 (lv_at hl 5 rfl) ?_
        refine lv_iload hx hb d_Mod_call_172 (lv_at hl 0 rfl) ?_
        refine lv_icmp_ge (tgt := 182) hx hb d_Mod_call_174 (by decide) (fun c17 => ?_) (fun c17 => ?_)
        · replace h := h.1 c17
          refine lv_iload hx hb d_Mod_call_182 (lv_at hl 0 rfl) ?_
          refine lv_istore (lv' := [(8, .int x16), (7, .int x16), (0, .ref (x_ad Y 30 0)), (1, .int v1), (2, .int v2), (3, .int v3), (4, .int v4), (5, .int v5), (6, .int v6)]) hx hb d_Mod_call_184 hl (by decide) rfl (fun ls hl => ?_)
          refine lv_aload_n hx hb d_Mod_call_186 rfl (lv_at hl 2 rfl) ?_
          refine x_getR (t := 30) (i := 0) (j := 26) hx hb hK hw hown ok0_ rfl (by decide) (by decide) (x_wd hK k_824 rfl) (fun _ h => h) fk_8_26 (hY.r ok0_ rfl) d_Mod_call_187 ?_
          refine lv_aload_n hx hb d_Mod_call_190 rfl (lv_at hl 2 rfl) ?_
          refine x_getI (t := 30) (i := 0) (j := 18) hx hb hK hw hown ok0_ rfl (by decide) (by decide) (x_wd hK k_816 rfl) (fun _ h => h) fk_8_18 d_Mod_call_191 ?_
          refine lv_aload_n hx hb d_Mod_call_194 rfl (lv_at hl 2 rfl) ?_
          refine x_getR (t := 30) (i := 0) (j := 26) hx hb hK hw hown ok0_ rfl (by decide) (by decide) (x_wd hK k_824 rfl) (fun _ h => h) fk_8_26 (hY.r ok0_ rfl) d_Mod_call_195 ?_
          refine lv_aload_n hx hb d_Mod_call_198 rfl (lv_at hl 2 rfl) ?_
          refine x_getI (t := 30) (i := 0) (j := 18) hx hb hK hw hown ok0_ rfl (by decide) (by decide) (x_wd hK k_816 rfl) (fun _ h => h) fk_8_18 d_Mod_call_199 ?_
          refine x_iald (t := 66) (i := 0) hx hb hK hw ok15 rfl (hY.n ok15 rfl) h.1 d_Mod_call_202 ?_
          replace h := h.2
          refine lv_iload hx hb d_Mod_call_203 (lv_at hl 0 rfl) ?_
          refine lv_isub hx hb d_Mod_call_205 ?_
          refine x_iast (t := 66) (i := 0) hx hb hK hw ok15 rfl (hY.n ok15 rfl) h.1 d_Mod_call_206 (fun I18 H locs e_I18 hw => ?_)
          replace h := h.2 I18 e_I18
          refine lv_aload_n hx hb d_Mod_call_207 rfl (lv_at hl 2 rfl) ?_
          refine x_getR (t := 30) (i := 0) (j := 23) hx hb hK hw hown ok0_ rfl (by decide) (by decide) (x_wd hK k_821 rfl) (fun _ h => h) fk_8_23 (hY.r ok0_ rfl) d_Mod_call_208 ?_
          have ok19 := hY.ok 23 ok0_ (t' := 63) (i' := 0) rfl
          refine lv_aload_n hx hb d_Mod_call_211 rfl (lv_at hl 2 rfl) ?_
          refine x_getI (t := 30) (i := 0) (j := 18) hx hb hK hw hown ok0_ rfl (by decide) (by decide) (x_wd hK k_816 rfl) (fun _ h => h) fk_8_18 d_Mod_call_212 ?_
          refine lv_iconst (v := 1) hx hb d_Mod_call_215 (by decide) ?_
          refine lv_iadd hx hb d_Mod_call_216 ?_
          refine lv_iload_n hx hb d_Mod_call_217 rfl (lv_at hl 3 rfl) ?_
          refine x_iast (t := 63) (i := 0) hx hb hK hw ok19 rfl (hY.n ok19 rfl) h.1 d_Mod_call_218 (fun I20 H locs e_I20 hw => ?_)
          replace h := h.2 I20 e_I20
          refine lv_aload_n hx hb d_Mod_call_219 rfl (lv_at hl 2 rfl) ?_
          refine lv_dup hx hb d_Mod_call_220 rfl ?_
          refine x_getI (t := 30) (i := 0) (j := 18) hx hb hK hw hown ok0_ rfl (by decide) (by decide) (x_wd hK k_816 rfl) (fun _ h => h) fk_8_18 d_Mod_call_221 ?_
          refine lv_iconst (v := 1) hx hb d_Mod_call_224 (by decide) ?_
          refine lv_iadd hx hb d_Mod_call_225 ?_
          refine x_putI (t := 30) (i := 0) (j := 18) hx hb hK hw hown ok0_ rfl (by decide) (by decide) (x_wd hK k_816 rfl) (fun _ h => h) rfl rfl d_Mod_call_226 (fun I21 H locs e_I21 hw => ?_)
          replace h := h I21 e_I21
          refine lv_aload_n hx hb d_Mod_call_229 rfl (lv_at hl 2 rfl) ?_
          refine lv_iload hx hb d_Mod_call_230 (lv_at hl 7 rfl) ?_
          refine lv_iload_n hx hb d_Mod_call_232 rfl (lv_at hl 4 rfl) ?_
          refine lv_iload_n hx hb d_Mod_call_233 rfl (lv_at hl 5 rfl) ?_
          refine lv_iload hx hb d_Mod_call_234 (lv_at hl 0 rfl) ?_
          refine x_goV (ls := ls) (rest := []) hE hw (c_Mod_begin hY ok0_ h) (x_cd hK k_977) q_Mod_begin (by decide) (by decide) hl.1 (Nat.le_of_ble_eq_true rfl) hbd d_Mod_call_236 (x_toV (As := [.int v5, .int v2, .int v3, .int x16]) (b := (x_ad Y 30 0)) hx hb hown hK (x_recv hK hw ok0_ rfl (by decide)) k_974 k_976 ks_24 ⟨_, x_cd hK k_977⟩ q_Mod_begin rfl rfl d_Mod_call_236) (fun L9 I22 k9 n9 H locs h hw hb9 => ?_) (fun _ _ _ _ _ _ _ h9 => h9.elim)
          obtain ⟨e1, e3, e4, h⟩ := h
          rw [e1] at hw
          rw [e3, e4]
          exact x_vret hx hb hr hlk hw ⟨rfl, Or.inl ⟨rfl, ⟨rfl, rfl, rfl, h⟩⟩⟩ hbd d_Mod_call_239
        · replace h := h.2 c17
          refine lv_iload hx hb d_Mod_call_177 (lv_at hl 5 rfl) ?_
          refine lv_goto (tgt := 184) hx hb d_Mod_call_179 (by decide) ?_
          refine lv_istore (lv' := [(8, .int v4), (7, .int x16), (0, .ref (x_ad Y 30 0)), (1, .int v1), (2, .int v2), (3, .int v3), (4, .int v4), (5, .int v5), (6, .int v6)]) hx hb d_Mod_call_184 hl (by decide) rfl (fun ls hl => ?_)
          refine lv_aload_n hx hb d_Mod_call_186 rfl (lv_at hl 2 rfl) ?_
          refine x_getR (t := 30) (i := 0) (j := 26) hx hb hK hw hown ok0_ rfl (by decide) (by decide) (x_wd hK k_824 rfl) (fun _ h => h) fk_8_26 (hY.r ok0_ rfl) d_Mod_call_187 ?_
          refine lv_aload_n hx hb d_Mod_call_190 rfl (lv_at hl 2 rfl) ?_
          refine x_getI (t := 30) (i := 0) (j := 18) hx hb hK hw hown ok0_ rfl (by decide) (by decide) (x_wd hK k_816 rfl) (fun _ h => h) fk_8_18 d_Mod_call_191 ?_
          refine lv_aload_n hx hb d_Mod_call_194 rfl (lv_at hl 2 rfl) ?_
          refine x_getR (t := 30) (i := 0) (j := 26) hx hb hK hw hown ok0_ rfl (by decide) (by decide) (x_wd hK k_824 rfl) (fun _ h => h) fk_8_26 (hY.r ok0_ rfl) d_Mod_call_195 ?_
          refine lv_aload_n hx hb d_Mod_call_198 rfl (lv_at hl 2 rfl) ?_
          refine x_getI (t := 30) (i := 0) (j := 18) hx hb hK hw hown ok0_ rfl (by decide) (by decide) (x_wd hK k_816 rfl) (fun _ h => h) fk_8_18 d_Mod_call_199 ?_
          refine x_iald (t := 66) (i := 0) hx hb hK hw ok15 rfl (hY.n ok15 rfl) h.1 d_Mod_call_202 ?_
          replace h := h.2
          refine lv_iload hx hb d_Mod_call_203 (lv_at hl 0 rfl) ?_
          refine lv_isub hx hb d_Mod_call_205 ?_
          refine x_iast (t := 66) (i := 0) hx hb hK hw ok15 rfl (hY.n ok15 rfl) h.1 d_Mod_call_206 (fun I23 H locs e_I23 hw => ?_)
          replace h := h.2 I23 e_I23
          refine lv_aload_n hx hb d_Mod_call_207 rfl (lv_at hl 2 rfl) ?_
          refine x_getR (t := 30) (i := 0) (j := 23) hx hb hK hw hown ok0_ rfl (by decide) (by decide) (x_wd hK k_821 rfl) (fun _ h => h) fk_8_23 (hY.r ok0_ rfl) d_Mod_call_208 ?_
          have ok24 := hY.ok 23 ok0_ (t' := 63) (i' := 0) rfl
          refine lv_aload_n hx hb d_Mod_call_211 rfl (lv_at hl 2 rfl) ?_
          refine x_getI (t := 30) (i := 0) (j := 18) hx hb hK hw hown ok0_ rfl (by decide) (by decide) (x_wd hK k_816 rfl) (fun _ h => h) fk_8_18 d_Mod_call_212 ?_
          refine lv_iconst (v := 1) hx hb d_Mod_call_215 (by decide) ?_
          refine lv_iadd hx hb d_Mod_call_216 ?_
          refine lv_iload_n hx hb d_Mod_call_217 rfl (lv_at hl 3 rfl) ?_
          refine x_iast (t := 63) (i := 0) hx hb hK hw ok24 rfl (hY.n ok24 rfl) h.1 d_Mod_call_218 (fun I25 H locs e_I25 hw => ?_)
          replace h := h.2 I25 e_I25
          refine lv_aload_n hx hb d_Mod_call_219 rfl (lv_at hl 2 rfl) ?_
          refine lv_dup hx hb d_Mod_call_220 rfl ?_
          refine x_getI (t := 30) (i := 0) (j := 18) hx hb hK hw hown ok0_ rfl (by decide) (by decide) (x_wd hK k_816 rfl) (fun _ h => h) fk_8_18 d_Mod_call_221 ?_
          refine lv_iconst (v := 1) hx hb d_Mod_call_224 (by decide) ?_
          refine lv_iadd hx hb d_Mod_call_225 ?_
          refine x_putI (t := 30) (i := 0) (j := 18) hx hb hK hw hown ok0_ rfl (by decide) (by decide) (x_wd hK k_816 rfl) (fun _ h => h) rfl rfl d_Mod_call_226 (fun I26 H locs e_I26 hw => ?_)
          replace h := h I26 e_I26
          refine lv_aload_n hx hb d_Mod_call_229 rfl (lv_at hl 2 rfl) ?_
          refine lv_iload hx hb d_Mod_call_230 (lv_at hl 7 rfl) ?_
          refine lv_iload_n hx hb d_Mod_call_232 rfl (lv_at hl 4 rfl) ?_
          refine lv_iload_n hx hb d_Mod_call_233 rfl (lv_at hl 5 rfl) ?_
          refine lv_iload hx hb d_Mod_call_234 (lv_at hl 0 rfl) ?_
          refine x_goV (ls := ls) (rest := []) hE hw (c_Mod_begin hY ok0_ h) (x_cd hK k_977) q_Mod_begin (by decide) (by decide) hl.1 (Nat.le_of_ble_eq_true rfl) hbd d_Mod_call_236 (x_toV (As := [.int v5, .int v2, .int v3, .int v4]) (b := (x_ad Y 30 0)) hx hb hown hK (x_recv hK hw ok0_ rfl (by decide)) k_974 k_976 ks_24 ⟨_, x_cd hK k_977⟩ q_Mod_begin rfl rfl d_Mod_call_236) (fun L9 I27 k9 n9 H locs h hw hb9 => ?_) (fun _ _ _ _ _ _ _ h9 => h9.elim)
          obtain ⟨e1, e3, e4, h⟩ := h
          rw [e1] at hw
          rw [e3, e4]
          exact x_vret hx hb hr hlk hw ⟨rfl, Or.inl ⟨rfl, ⟨rfl, rfl, rfl, h⟩⟩⟩ hbd d_Mod_call_239
      · replace h := h.2 c14
        refine lv_aload_n hx hb d_Mod_call_122 rfl (lv_at hl 0 rfl) ?_
        refine lv_iconst (v := 0) hx hb d_Mod_call_123 (by decide) ?_
        refine x_goV (ls := ls) (rest := []) hE hw (c_Mod_push hY ok0_ h) (x_cd hK k_993) q_Mod_push (by decide) (by decide) hl.1 (Nat.le_of_ble_eq_true rfl) hbd d_Mod_call_124 (x_toV (As := [.int (0 : Int32)]) (b := (x_ad Y 30 0)) hx hb hown hK (x_recv hK hw ok0_ rfl (by decide)) k_990 k_992 ks_28 ⟨_, x_cd hK k_993⟩ q_Mod_push rfl rfl d_Mod_call_124) (fun L9 I28 k9 n9 H locs h hw hb9 => ?_) (fun _ _ _ _ _ _ _ h9 => h9.elim)
        obtain ⟨e1, e3, e4, h⟩ := h
        rw [e1] at hw
        rw [e3, e4]
        refine lv_aload_n hx hb d_Mod_call_127 rfl (lv_at hl 0 rfl) ?_
        refine lv_iconst (v := 0) hx hb d_Mod_call_128 (by decide) ?_
        refine x_goV (ls := ls) (rest := []) hE hw (c_Mod_push hY ok0_ h) (x_cd hK k_993) q_Mod_push (by decide) (by decide) hl.1 (Nat.le_of_ble_eq_true rfl) hbd d_Mod_call_129 (x_toV (As := [.int (0 : Int32)]) (b := (x_ad Y 30 0)) hx hb hown hK (x_recv hK hw ok0_ rfl (by decide)) k_990 k_992 ks_28 ⟨_, x_cd hK k_993⟩ q_Mod_push rfl rfl d_Mod_call_129) (fun L9 I29 k9 n9 H locs h hw hb9 => ?_) (fun _ _ _ _ _ _ _ h9 => h9.elim)
        obtain ⟨e1, e3, e4, h⟩ := h
        rw [e1] at hw
        rw [e3, e4]
        refine lv_aload_n hx hb d_Mod_call_132 rfl (lv_at hl 0 rfl) ?_
        refine x_getR (t := 30) (i := 0) (j := 21) hx hb hK hw hown ok0_ rfl (by decide) (by decide) (x_wd hK k_819 rfl) (fun _ h => h) fk_8_21 (hY.r ok0_ rfl) d_Mod_call_133 ?_
        have ok30 := hY.ok 21 ok0_ (t' := 61) (i' := 0) rfl
        refine lv_aload_n hx hb d_Mod_call_136 rfl (lv_at hl 0 rfl) ?_
        refine x_getI (t := 30) (i := 0) (j := 18) hx hb hK hw hown ok0_ rfl (by decide) (by decide) (x_wd hK k_816 rfl) (fun _ h => h) fk_8_18 d_Mod_call_137 ?_
        refine lv_dup2_11 hx hb d_Mod_call_140 rfl rfl ?_
        refine x_iald (t := 61) (i := 0) hx hb hK hw ok30 rfl (hY.n ok30 rfl) h.1 d_Mod_call_141 ?_
        replace h := h.2
        refine lv_iconst (v := 1) hx hb d_Mod_call_142 (by decide) ?_
        refine lv_iadd hx hb d_Mod_call_143 ?_
        refine x_iast (t := 61) (i := 0) hx hb hK hw ok30 rfl (hY.n ok30 rfl) h.1 d_Mod_call_144 (fun I31 H locs e_I31 hw => ?_)
        replace h := h.2 I31 e_I31
        exact x_vret hx hb hr hlk hw ⟨rfl, Or.inl ⟨rfl, ⟨rfl, rfl, rfl, h⟩⟩⟩ hbd d_Mod_call_145
    · replace h := h.2 c13
      refine lv_aload_n hx hb d_Mod_call_80 rfl (lv_at hl 0 rfl) ?_
      refine x_goI (ls := ls) (rest := []) hE hw (c_Mod_pop hY ok0_ h) (x_cd hK k_1018) q_Mod_pop (by decide) (by decide) hl.1 (Nat.le_of_ble_eq_true rfl) hbd d_Mod_call_81 (x_toV (As := []) (b := (x_ad Y 30 0)) hx hb hown hK (x_recv hK hw ok0_ rfl (by decide)) k_1015 k_1017 ks_32 ⟨_, x_cd hK k_1018⟩ q_Mod_pop rfl rfl d_Mod_call_81) (fun r32 L9 I33 k9 n9 H locs h hw hb9 => ?_) (fun _ _ _ _ _ _ _ h9 => h9.elim)
      obtain ⟨e1, e3, e4, h⟩ := h
      rw [e1] at hw
      rw [e3, e4]
      refine lv_istore (lv' := [(8, .int r32), (0, .ref (x_ad Y 30 0)), (1, .int v1), (2, .int v2), (3, .int v3), (4, .int v4), (5, .int v5), (6, .int v6), (7, .int v7)]) hx hb d_Mod_call_84 hl (by decide) rfl (fun ls hl => ?_)
      refine lv_iload hx hb d_Mod_call_86 (lv_at hl 7 rfl) ?_
      refine lv_if_ne (tgt := 111) hx hb d_Mod_call_88 (by decide) (fun c34 => ?_) (fun c34 => ?_)
      · replace h := h.1 c34
        obtain ⟨x35, e_x35⟩ : ∃ z : Int32, z = v7 + (1 : Int32) := ⟨_, rfl⟩
        replace h := h x35 e_x35
        refine lv_iinc (v := x35) (lv' := [(7, .int x35), (8, .int r32), (0, .ref (x_ad Y 30 0)), (1, .int v1), (2, .int v2), (3, .int v3), (4, .int v4), (5, .int v5), (6, .int v6)]) hx hb d_Mod_call_111 hl (k := 8) rfl (by rw [e_x35]; rfl) (by decide) rfl (fun ls hl => ?_)
        refine lv_goto (tgt := 74) hx hb d_Mod_call_114 (by decide) ?_
        exact ih v1 v2 v3 v4 v5 v6 x35 I33 H locs ls h hw hbd (lv_sub hl [2, 3, 4, 5, 6, 7, 8, 0] rfl)
      · replace h := h.2 c34
        refine lv_aload_n hx hb d_Mod_call_91 rfl (lv_at hl 1 rfl) ?_
        refine x_getR (t := 30) (i := 0) (j := 22) hx hb hK hw hown ok0_ rfl (by decide) (by decide) (x_wd hK k_820 rfl) (fun _ h => h) fk_8_22 (hY.r ok0_ rfl) d_Mod_call_92 ?_
        have ok36 := hY.ok 22 ok0_ (t' := 62) (i' := 0) rfl
        refine lv_bipush (v := 8) hx hb d_Mod_call_95 (by decide) ?_
        refine lv_aload_n hx hb d_Mod_call_97 rfl (lv_at hl 1 rfl) ?_
        refine x_getI (t := 30) (i := 0) (j := 18) hx hb hK hw hown ok0_ rfl (by decide) (by decide) (x_wd hK k_816 rfl) (fun _ h => h) fk_8_18 d_Mod_call_98 ?_
        refine lv_imul hx hb d_Mod_call_101 ?_
        refine lv_bipush (v := 8) hx hb d_Mod_call_102 (by decide) ?_
        refine lv_iadd hx hb d_Mod_call_104 ?_
        refine lv_iload hx hb d_Mod_call_105 (lv_at hl 8 rfl) ?_
        refine lv_iadd hx hb d_Mod_call_107 ?_
        refine lv_iload hx hb d_Mod_call_108 (lv_at hl 0 rfl) ?_
        refine x_iast (t := 62) (i := 0) hx hb hK hw ok36 rfl (hY.n ok36 rfl) h.1 d_Mod_call_110 (fun I37 H locs e_I37 hw => ?_)
        replace h := h.2 I37 e_I37
        obtain ⟨x38, e_x38⟩ : ∃ z : Int32, z = v7 + (1 : Int32) := ⟨_, rfl⟩
        replace h := h x38 e_x38
        refine lv_iinc (v := x38) (lv' := [(7, .int x38), (8, .int r32), (0, .ref (x_ad Y 30 0)), (1, .int v1), (2, .int v2), (3, .int v3), (4, .int v4), (5, .int v5), (6, .int v6)]) hx hb d_Mod_call_111 hl (k := 8) rfl (by rw [e_x38]; rfl) (by decide) rfl (fun ls hl => ?_)
        refine lv_goto (tgt := 74) hx hb d_Mod_call_114 (by decide) ?_
        exact ih v1 v2 v3 v4 v5 v6 x38 I37 H locs ls h hw hbd (lv_sub hl [2, 3, 4, 5, 6, 7, 8, 0] rfl)
set_option maxRecDepth 100000 in
set_option maxHeartbeats 4000000 in
theorem c_Mod_call {l : Launch} {g : x_G} {Y : x_Y} (hY : x_Y0 g Y) {p1 : Int32} (ok0_ : x_ok Y 30 0) {Q : x_I → Prop} {L : x_L} {I : x_I} {k n : Nat} (h : w_Mod_call Q p1 I) : x_C l y_Mod_call 1 g [.ref (x_ad Y 30 0), .int p1] Y L I k n (x_pV Y (fun L' I' k' n' => L' = L ∧ k' = k ∧ n' = n ∧ Q I') x_nx) := by
  refine x_mth k_1022 ?_
  intro p e R s m below meth c hE hnm hexn hw hk1 hn1
  obtain ⟨hx, hb, hml, hr, hlk, hown, hK, htr, hF, hLo, hRc, hRs⟩ := id hE
  have hbd : x_bd k n k n := ⟨Nat.le_refl _, hk1, Nat.le_refl _, hn1⟩
  have hl := lv_entry ([.ref (x_ad Y 30 0), .int p1]) (n := 9) (Nat.le_of_ble_eq_true rfl)
  generalize (lg_sl [.ref (x_ad Y 30 0), .int p1] ++ List.replicate (9 - (lg_sl [.ref (x_ad Y 30 0), .int p1]).length) Slot.unset).toArray = ls at hl ⊢
  have hl : lv_has ls 9 [(0, .ref (x_ad Y 30 0)), (1, .int p1)] := hl
  generalize s.heap = H at hw ⊢
  generalize ([] : List Loc) = locs at hw ⊢
  unfold w_Mod_call at h
  refine lv_aload_n hx hb d_Mod_call_0 rfl (lv_at hl 0 rfl) ?_
  refine x_goI (ls := ls) (rest := []) hE hw (c_Mod_pop hY ok0_ h) (x_cd hK k_1018) q_Mod_pop (by decide) (by decide) hl.1 (Nat.le_of_ble_eq_true rfl) hbd d_Mod_call_1 (x_toV (As := []) (b := (x_ad Y 30 0)) hx hb hown hK (x_recv hK hw ok0_ rfl (by decide)) k_1015 k_1017 ks_32 ⟨_, x_cd hK k_1018⟩ q_Mod_pop rfl rfl d_Mod_call_1) (fun r1 L9 I2 k9 n9 H locs h hw hb9 => ?_) (fun _ _ _ _ _ _ _ h9 => h9.elim)
  obtain ⟨e1, e3, e4, h⟩ := h
  rw [e1] at hw
  rw [e3, e4]
  refine lv_istore_n (lv' := [(2, .int r1), (0, .ref (x_ad Y 30 0)), (1, .int p1)]) hx hb d_Mod_call_4 rfl hl (by decide) rfl (fun ls hl => ?_)
  refine lv_aload_n hx hb d_Mod_call_5 rfl (lv_at hl 1 rfl) ?_
  refine x_goI (ls := ls) (rest := []) hE hw (c_Mod_pop hY ok0_ h) (x_cd hK k_1018) q_Mod_pop (by decide) (by decide) hl.1 (Nat.le_of_ble_eq_true rfl) hbd d_Mod_call_6 (x_toV (As := []) (b := (x_ad Y 30 0)) hx hb hown hK (x_recv hK hw ok0_ rfl (by decide)) k_1015 k_1017 ks_32 ⟨_, x_cd hK k_1018⟩ q_Mod_pop rfl rfl d_Mod_call_6) (fun r3 L9 I4 k9 n9 H locs h hw hb9 => ?_) (fun _ _ _ _ _ _ _ h9 => h9.elim)
  obtain ⟨e1, e3, e4, h⟩ := h
  rw [e1] at hw
  rw [e3, e4]
  refine lv_istore_n (lv' := [(3, .int r3), (2, .int r1), (0, .ref (x_ad Y 30 0)), (1, .int p1)]) hx hb d_Mod_call_9 rfl hl (by decide) rfl (fun ls hl => ?_)
  refine lv_aload_n hx hb d_Mod_call_10 rfl (lv_at hl 2 rfl) ?_
  refine x_goI (ls := ls) (rest := []) hE hw (c_Mod_pop hY ok0_ h) (x_cd hK k_1018) q_Mod_pop (by decide) (by decide) hl.1 (Nat.le_of_ble_eq_true rfl) hbd d_Mod_call_11 (x_toV (As := []) (b := (x_ad Y 30 0)) hx hb hown hK (x_recv hK hw ok0_ rfl (by decide)) k_1015 k_1017 ks_32 ⟨_, x_cd hK k_1018⟩ q_Mod_pop rfl rfl d_Mod_call_11) (fun r5 L9 I6 k9 n9 H locs h hw hb9 => ?_) (fun _ _ _ _ _ _ _ h9 => h9.elim)
  obtain ⟨e1, e3, e4, h⟩ := h
  rw [e1] at hw
  rw [e3, e4]
  refine lv_istore (lv' := [(4, .int r5), (3, .int r3), (2, .int r1), (0, .ref (x_ad Y 30 0)), (1, .int p1)]) hx hb d_Mod_call_14 hl (by decide) rfl (fun ls hl => ?_)
  refine lv_aload_n hx hb d_Mod_call_16 rfl (lv_at hl 3 rfl) ?_
  refine x_getR (t := 30) (i := 0) (j := 27) hx hb hK hw hown ok0_ rfl (by decide) (by decide) (x_wd hK k_825 rfl) (fun _ h => h) fk_8_27 (hY.r ok0_ rfl) d_Mod_call_17 ?_
  have ok7 := hY.ok 27 ok0_ (t' := 67) (i' := 0) rfl
  refine lv_aload_n hx hb d_Mod_call_20 rfl (lv_at hl 3 rfl) ?_
  refine x_getI (t := 30) (i := 0) (j := 18) hx hb hK hw hown ok0_ rfl (by decide) (by decide) (x_wd hK k_816 rfl) (fun _ h => h) fk_8_18 d_Mod_call_21 ?_
  refine x_iald (t := 67) (i := 0) hx hb hK hw ok7 rfl (hY.n ok7 rfl) h.1 d_Mod_call_24 ?_
  replace h := h.2
  refine lv_topi (fun x8 e_x8 => ?_)
  replace h := h x8 e_x8
  refine lv_istore (lv' := [(5, .int x8), (4, .int r5), (3, .int r3), (2, .int r1), (0, .ref (x_ad Y 30 0)), (1, .int p1)]) hx hb d_Mod_call_25 hl (by decide) rfl (fun ls hl => ?_)
  refine lv_aload_n hx hb d_Mod_call_27 rfl (lv_at hl 4 rfl) ?_
  refine lv_iload_n hx hb d_Mod_call_28 rfl (lv_at hl 3 rfl) ?_
  refine x_goI (ls := ls) (rest := []) hE hw (c_Mod_noAccount hY ok0_ h) (x_cd hK k_922) q_Mod_noAccount (by decide) (by decide) hl.1 (Nat.le_of_ble_eq_true rfl) hbd d_Mod_call_29 (x_toV (As := [.int r1]) (b := (x_ad Y 30 0)) hx hb hown hK (x_recv hK hw ok0_ rfl (by decide)) k_919 k_921 ks_21 ⟨_, x_cd hK k_922⟩ q_Mod_noAccount rfl rfl d_Mod_call_29) (fun r9 L9 I9 k9 n9 H locs h hw hb9 => ?_) (fun _ _ _ _ _ _ _ h9 => h9.elim)
  obtain ⟨e1, e2, e3, e4, h⟩ := h
  rw [e1, e2] at hw
  rw [e3, e4]
  refine lv_if_ne (tgt := 64) hx hb d_Mod_call_32 (by decide) (fun c10 => ?_) (fun c10 => ?_)
  · replace h := h.1 c10
    refine lv_iconst (v := 1) hx hb d_Mod_call_64 (by decide) ?_
    refine lv_goto (tgt := 69) hx hb d_Mod_call_65 (by decide) ?_
    refine lv_topi (fun x11 e_x11 => ?_)
    replace h := h x11 e_x11
    refine lv_istore (lv' := [(6, .int x11), (5, .int x8), (4, .int r5), (3, .int r3), (2, .int r1), (0, .ref (x_ad Y 30 0)), (1, .int p1)]) hx hb d_Mod_call_69 hl (by decide) rfl (fun ls hl => ?_)
    refine lv_iconst (v := 0) hx hb d_Mod_call_71 (by decide) ?_
    refine lv_topi (fun x12 e_x12 => ?_)
    replace h := h x12 e_x12
    refine lv_istore (lv' := [(7, .int x12), (6, .int x11), (5, .int x8), (4, .int r5), (3, .int r3), (2, .int r1), (0, .ref (x_ad Y 30 0)), (1, .int p1)]) hx hb d_Mod_call_72 hl (by decide) rfl (fun ls hl => ?_)
    obtain ⟨fu, h⟩ := h
    exact c_Mod_call_74 hE hexn hY ok0_ fu p1 r1 r3 r5 x8 x11 x12 I6 H locs ls h hw hbd (lv_sub hl [6, 7, 5, 4, 3, 2, 1, 0] rfl)
  · replace h := h.2 c10
    refine lv_iload_n hx hb d_Mod_call_35 rfl (lv_at hl 2 rfl) ?_
    refine lv_if_lt (tgt := 64) hx hb d_Mod_call_36 (by decide) (fun c39 => ?_) (fun c39 => ?_)
    · replace h := h.1 c39
      refine lv_iconst (v := 1) hx hb d_Mod_call_64 (by decide) ?_
      refine lv_goto (tgt := 69) hx hb d_Mod_call_65 (by decide) ?_
      refine lv_topi (fun x40 e_x40 => ?_)
      replace h := h x40 e_x40
      refine lv_istore (lv' := [(6, .int x40), (5, .int x8), (4, .int r5), (3, .int r3), (2, .int r1), (0, .ref (x_ad Y 30 0)), (1, .int p1)]) hx hb d_Mod_call_69 hl (by decide) rfl (fun ls hl => ?_)
      refine lv_iconst (v := 0) hx hb d_Mod_call_71 (by decide) ?_
      refine lv_topi (fun x41 e_x41 => ?_)
      replace h := h x41 e_x41
      refine lv_istore (lv' := [(7, .int x41), (6, .int x40), (5, .int x8), (4, .int r5), (3, .int r3), (2, .int r1), (0, .ref (x_ad Y 30 0)), (1, .int p1)]) hx hb d_Mod_call_72 hl (by decide) rfl (fun ls hl => ?_)
      obtain ⟨fu, h⟩ := h
      exact c_Mod_call_74 hE hexn hY ok0_ fu p1 r1 r3 r5 x8 x40 x41 I6 H locs ls h hw hbd (lv_sub hl [6, 7, 5, 4, 3, 2, 1, 0] rfl)
    · replace h := h.2 c39
      refine lv_iload_n hx hb d_Mod_call_39 rfl (lv_at hl 2 rfl) ?_
      refine lv_aload_n hx hb d_Mod_call_40 rfl (lv_at hl 4 rfl) ?_
      refine x_getR (t := 30) (i := 0) (j := 2) hx hb hK hw hown ok0_ rfl (by decide) (by decide) (x_wd hK k_800 rfl) (fun _ h => h) fk_8_2 (hY.r ok0_ rfl) d_Mod_call_41 ?_
      have ok42 := hY.ok 2 ok0_ (t' := 42) (i' := 0) rfl
      refine lv_iload hx hb d_Mod_call_44 (lv_at hl 0 rfl) ?_
      refine x_iald (t := 42) (i := 0) hx hb hK hw ok42 rfl (hY.n ok42 rfl) h.1 d_Mod_call_46 ?_
      replace h := h.2
      refine lv_icmp_gt (tgt := 64) hx hb d_Mod_call_47 (by decide) (fun c43 => ?_) (fun c43 => ?_)
      · replace h := h.1 c43
        refine lv_iconst (v := 1) hx hb d_Mod_call_64 (by decide) ?_
        refine lv_goto (tgt := 69) hx hb d_Mod_call_65 (by decide) ?_
        refine lv_topi (fun x44 e_x44 => ?_)
        replace h := h x44 e_x44
        refine lv_istore (lv' := [(6, .int x44), (5, .int x8), (4, .int r5), (3, .int r3), (2, .int r1), (0, .ref (x_ad Y 30 0)), (1, .int p1)]) hx hb d_Mod_call_69 hl (by decide) rfl (fun ls hl => ?_)
        refine lv_iconst (v := 0) hx hb d_Mod_call_71 (by decide) ?_
        refine lv_topi (fun x45 e_x45 => ?_)
        replace h := h x45 e_x45
        refine lv_istore (lv' := [(7, .int x45), (6, .int x44), (5, .int x8), (4, .int r5), (3, .int r3), (2, .int r1), (0, .ref (x_ad Y 30 0)), (1, .int p1)]) hx hb d_Mod_call_72 hl (by decide) rfl (fun ls hl => ?_)
        obtain ⟨fu, h⟩ := h
        exact c_Mod_call_74 hE hexn hY ok0_ fu p1 r1 r3 r5 x8 x44 x45 I6 H locs ls h hw hbd (lv_sub hl [6, 7, 5, 4, 3, 2, 1, 0] rfl)
      · replace h := h.2 c43
        refine lv_iload hx hb d_Mod_call_50 (lv_at hl 1 rfl) ?_
        refine lv_if_lt (tgt := 64) hx hb d_Mod_call_52 (by decide) (fun c46 => ?_) (fun c46 => ?_)
        · replace h := h.1 c46
          refine lv_iconst (v := 1) hx hb d_Mod_call_64 (by decide) ?_
          refine lv_goto (tgt := 69) hx hb d_Mod_call_65 (by decide) ?_
          refine lv_topi (fun x47 e_x47 => ?_)
          replace h := h x47 e_x47
          refine lv_istore (lv' := [(6, .int x47), (5, .int x8), (4, .int r5), (3, .int r3), (2, .int r1), (0, .ref (x_ad Y 30 0)), (1, .int p1)]) hx hb d_Mod_call_69 hl (by decide) rfl (fun ls hl => ?_)
          refine lv_iconst (v := 0) hx hb d_Mod_call_71 (by decide) ?_
          refine lv_topi (fun x48 e_x48 => ?_)
          replace h := h x48 e_x48
          refine lv_istore (lv' := [(7, .int x48), (6, .int x47), (5, .int x8), (4, .int r5), (3, .int r3), (2, .int r1), (0, .ref (x_ad Y 30 0)), (1, .int p1)]) hx hb d_Mod_call_72 hl (by decide) rfl (fun ls hl => ?_)
          obtain ⟨fu, h⟩ := h
          exact c_Mod_call_74 hE hexn hY ok0_ fu p1 r1 r3 r5 x8 x47 x48 I6 H locs ls h hw hbd (lv_sub hl [6, 7, 5, 4, 3, 2, 1, 0] rfl)
        · replace h := h.2 c46
          refine lv_aload_n hx hb d_Mod_call_55 rfl (lv_at hl 4 rfl) ?_
          refine x_getI (t := 30) (i := 0) (j := 18) hx hb hK hw hown ok0_ rfl (by decide) (by decide) (x_wd hK k_816 rfl) (fun _ h => h) fk_8_18 d_Mod_call_56 ?_
          refine lv_bipush (v := 7) hx hb d_Mod_call_59 (by decide) ?_
          refine lv_icmp_ne (tgt := 68) hx hb d_Mod_call_61 (by decide) (fun c49 => ?_) (fun c49 => ?_)
          · replace h := h.1 c49
            refine lv_iconst (v := 0) hx hb d_Mod_call_68 (by decide) ?_
            refine lv_topi (fun x50 e_x50 => ?_)
            replace h := h x50 e_x50
            refine lv_istore (lv' := [(6, .int x50), (5, .int x8), (4, .int r5), (3, .int r3), (2, .int r1), (0, .ref (x_ad Y 30 0)), (1, .int p1)]) hx hb d_Mod_call_69 hl (by decide) rfl (fun ls hl => ?_)
            refine lv_iconst (v := 0) hx hb d_Mod_call_71 (by decide) ?_
            refine lv_topi (fun x51 e_x51 => ?_)
            replace h := h x51 e_x51
            refine lv_istore (lv' := [(7, .int x51), (6, .int x50), (5, .int x8), (4, .int r5), (3, .int r3), (2, .int r1), (0, .ref (x_ad Y 30 0)), (1, .int p1)]) hx hb d_Mod_call_72 hl (by decide) rfl (fun ls hl => ?_)
            obtain ⟨fu, h⟩ := h
            exact c_Mod_call_74 hE hexn hY ok0_ fu p1 r1 r3 r5 x8 x50 x51 I6 H locs ls h hw hbd (lv_sub hl [6, 7, 5, 4, 3, 2, 1, 0] rfl)
          · replace h := h.2 c49
            refine lv_iconst (v := 1) hx hb d_Mod_call_64 (by decide) ?_
            refine lv_goto (tgt := 69) hx hb d_Mod_call_65 (by decide) ?_
            refine lv_topi (fun x52 e_x52 => ?_)
            replace h := h x52 e_x52
            refine lv_istore (lv' := [(6, .int x52), (5, .int x8), (4, .int r5), (3, .int r3), (2, .int r1), (0, .ref (x_ad Y 30 0)), (1, .int p1)]) hx hb d_Mod_call_69 hl (by decide) rfl (fun ls hl => ?_)
            refine lv_iconst (v := 0) hx hb d_Mod_call_71 (by decide) ?_
            refine lv_topi (fun x53 e_x53 => ?_)
            replace h := h x53 e_x53
            refine lv_istore (lv' := [(7, .int x53), (6, .int x52), (5, .int x8), (4, .int r5), (3, .int r3), (2, .int r1), (0, .ref (x_ad Y 30 0)), (1, .int p1)]) hx hb d_Mod_call_72 hl (by decide) rfl (fun ls hl => ?_)
            obtain ⟨fu, h⟩ := h
            exact c_Mod_call_74 hE hexn hY ok0_ fu p1 r1 r3 r5 x8 x52 x53 I6 H locs ls h hw hbd (lv_sub hl [6, 7, 5, 4, 3, 2, 1, 0] rfl)
def w_Mod_swap (Q : x_I → Prop) (p1 : Int32) (I : x_I) : Prop :=
  vp_in (I 30 0 18) 8 ∧
  ∀ x2 : Int32, x2 = ((((32 : Int32) * (I 30 0 18)) + (I 60 0 (I 30 0 18).toNatClampNeg)) - (1 : Int32)) →
  vp_in x2 256 ∧
  ∀ x4 : Int32, x4 = (I 59 0 x2.toNatClampNeg) →
  vp_in (x2 - p1) 256 ∧
  vp_in x2 256 ∧
  ∀ I5 : x_I, I5 = x_u I 59 0 x2.toNatClampNeg (I 59 0 (x2 - p1).toNatClampNeg) →
  vp_in (x2 - p1) 256 ∧
  ∀ I6 : x_I, I6 = x_u I5 59 0 (x2 - p1).toNatClampNeg x4 →
  Q I6
set_option maxRecDepth 100000 in
set_option maxHeartbeats 4000000 in
theorem c_Mod_swap {l : Launch} {g : x_G} {Y : x_Y} (hY : x_Y0 g Y) {p1 : Int32} (ok0_ : x_ok Y 30 0) {Q : x_I → Prop} {L : x_L} {I : x_I} {k n : Nat} (h : w_Mod_swap Q p1 I) : x_C l y_Mod_swap 0 g [.ref (x_ad Y 30 0), .int p1] Y L I k n (x_pV Y (fun L' I' k' n' => L' = L ∧ k' = k ∧ n' = n ∧ Q I') x_nx) := by
  refine x_mth k_1034 ?_
  intro p e R s m below meth c hE hnm hexn hw hk1 hn1
  obtain ⟨hx, hb, hml, hr, hlk, hown, hK, htr, hF, hLo, hRc, hRs⟩ := id hE
  have hbd : x_bd k n k n := ⟨Nat.le_refl _, hk1, Nat.le_refl _, hn1⟩
  have hl := lv_entry ([.ref (x_ad Y 30 0), .int p1]) (n := 4) (Nat.le_of_ble_eq_true rfl)
  generalize (lg_sl [.ref (x_ad Y 30 0), .int p1] ++ List.replicate (4 - (lg_sl [.ref (x_ad Y 30 0), .int p1]).length) Slot.unset).toArray = ls at hl ⊢
  have hl : lv_has ls 4 [(0, .ref (x_ad Y 30 0)), (1, .int p1)] := hl
  generalize s.heap = H at hw ⊢
  generalize ([] : List Loc) = locs at hw ⊢
  unfold w_Mod_swap at h
  refine lv_bipush (v := 32) hx hb d_Mod_swap_0 (by decide) ?_
  refine lv_aload_n hx hb d_Mod_swap_2 rfl (lv_at hl 0 rfl) ?_
  refine x_getI (t := 30) (i := 0) (j := 18) hx hb hK hw hown ok0_ rfl (by decide) (by decide) (x_wd hK k_816 rfl) (fun _ h => h) fk_8_18 d_Mod_swap_3 ?_
  refine lv_imul hx hb d_Mod_swap_6 ?_
  refine lv_aload_n hx hb d_Mod_swap_7 rfl (lv_at hl 0 rfl) ?_
  refine x_getR (t := 30) (i := 0) (j := 20) hx hb hK hw hown ok0_ rfl (by decide) (by decide) (x_wd hK k_818 rfl) (fun _ h => h) fk_8_20 (hY.r ok0_ rfl) d_Mod_swap_8 ?_
  have ok1 := hY.ok 20 ok0_ (t' := 60) (i' := 0) rfl
  refine lv_aload_n hx hb d_Mod_swap_11 rfl (lv_at hl 0 rfl) ?_
  refine x_getI (t := 30) (i := 0) (j := 18) hx hb hK hw hown ok0_ rfl (by decide) (by decide) (x_wd hK k_816 rfl) (fun _ h => h) fk_8_18 d_Mod_swap_12 ?_
  refine x_iald (t := 60) (i := 0) hx hb hK hw ok1 rfl (hY.n ok1 rfl) h.1 d_Mod_swap_15 ?_
  replace h := h.2
  refine lv_iadd hx hb d_Mod_swap_16 ?_
  refine lv_iconst (v := 1) hx hb d_Mod_swap_17 (by decide) ?_
  refine lv_isub hx hb d_Mod_swap_18 ?_
  refine lv_topi (fun x2 e_x2 => ?_)
  replace h := h x2 e_x2
  refine lv_istore_n (lv' := [(2, .int x2), (0, .ref (x_ad Y 30 0)), (1, .int p1)]) hx hb d_Mod_swap_19 rfl hl (by decide) rfl (fun ls hl => ?_)
  refine lv_aload_n hx hb d_Mod_swap_20 rfl (lv_at hl 1 rfl) ?_
  refine x_getR (t := 30) (i := 0) (j := 19) hx hb hK hw hown ok0_ rfl (by decide) (by decide) (x_wd hK k_817 rfl) (fun _ h => h) fk_8_19 (hY.r ok0_ rfl) d_Mod_swap_21 ?_
  have ok3 := hY.ok 19 ok0_ (t' := 59) (i' := 0) rfl
  refine lv_iload_n hx hb d_Mod_swap_24 rfl (lv_at hl 0 rfl) ?_
  refine x_iald (t := 59) (i := 0) hx hb hK hw ok3 rfl (hY.n ok3 rfl) h.1 d_Mod_swap_25 ?_
  replace h := h.2
  refine lv_topi (fun x4 e_x4 => ?_)
  replace h := h x4 e_x4
  refine lv_istore_n (lv' := [(3, .int x4), (2, .int x2), (0, .ref (x_ad Y 30 0)), (1, .int p1)]) hx hb d_Mod_swap_26 rfl hl (by decide) rfl (fun ls hl => ?_)
  refine lv_aload_n hx hb d_Mod_swap_27 rfl (lv_at hl 2 rfl) ?_
  refine x_getR (t := 30) (i := 0) (j := 19) hx hb hK hw hown ok0_ rfl (by decide) (by decide) (x_wd hK k_817 rfl) (fun _ h => h) fk_8_19 (hY.r ok0_ rfl) d_Mod_swap_28 ?_
  refine lv_iload_n hx hb d_Mod_swap_31 rfl (lv_at hl 1 rfl) ?_
  refine lv_aload_n hx hb d_Mod_swap_32 rfl (lv_at hl 2 rfl) ?_
  refine x_getR (t := 30) (i := 0) (j := 19) hx hb hK hw hown ok0_ rfl (by decide) (by decide) (x_wd hK k_817 rfl) (fun _ h => h) fk_8_19 (hY.r ok0_ rfl) d_Mod_swap_33 ?_
  refine lv_iload_n hx hb d_Mod_swap_36 rfl (lv_at hl 1 rfl) ?_
  refine lv_iload_n hx hb d_Mod_swap_37 rfl (lv_at hl 3 rfl) ?_
  refine lv_isub hx hb d_Mod_swap_38 ?_
  refine x_iald (t := 59) (i := 0) hx hb hK hw ok3 rfl (hY.n ok3 rfl) h.1 d_Mod_swap_39 ?_
  replace h := h.2
  refine x_iast (t := 59) (i := 0) hx hb hK hw ok3 rfl (hY.n ok3 rfl) h.1 d_Mod_swap_40 (fun I5 H locs e_I5 hw => ?_)
  replace h := h.2 I5 e_I5
  refine lv_aload_n hx hb d_Mod_swap_41 rfl (lv_at hl 2 rfl) ?_
  refine x_getR (t := 30) (i := 0) (j := 19) hx hb hK hw hown ok0_ rfl (by decide) (by decide) (x_wd hK k_817 rfl) (fun _ h => h) fk_8_19 (hY.r ok0_ rfl) d_Mod_swap_42 ?_
  refine lv_iload_n hx hb d_Mod_swap_45 rfl (lv_at hl 1 rfl) ?_
  refine lv_iload_n hx hb d_Mod_swap_46 rfl (lv_at hl 3 rfl) ?_
  refine lv_isub hx hb d_Mod_swap_47 ?_
  refine lv_iload_n hx hb d_Mod_swap_48 rfl (lv_at hl 0 rfl) ?_
  refine x_iast (t := 59) (i := 0) hx hb hK hw ok3 rfl (hY.n ok3 rfl) h.1 d_Mod_swap_49 (fun I6 H locs e_I6 hw => ?_)
  replace h := h.2 I6 e_I6
  exact x_vret hx hb hr hlk hw ⟨rfl, Or.inl ⟨rfl, ⟨rfl, rfl, rfl, h⟩⟩⟩ hbd d_Mod_swap_50
def w_Mod_simple (Q : x_I → Prop) (p1 : Int32) (p2 : Int32) (I : x_I) : Prop :=
  ∀ x1 : Int32, x1 = (0 : Int32) →
  ((¬ p1 = (1 : Int32) →
    ((¬ p1 = (2 : Int32) →
      ((¬ p1 = (3 : Int32) →
        ((¬ p1 = (4 : Int32) →
          ((¬ p1 = (12 : Int32) →
            ((¬ p1 = (18 : Int32) →
              ((¬ p1 = (20 : Int32) →
                ((¬ p1 = (21 : Int32) →
                  ((¬ p1 = (22 : Int32) →
                    ((¬ p1 = (23 : Int32) →
                      ((¬ p1 = (24 : Int32) →
                        ((¬ p1 = (25 : Int32) →
                          ((¬ p1 = (28 : Int32) →
                            (((16 : Int32) ≤ p1 →
                              Q I) ∧
                            (¬ (16 : Int32) ≤ p1 →
                              w_Mod_pop (fun r16 I17 =>
                                w_Mod_pop (fun r18 I19 =>
                                  w_Mod_made (fun r20 =>
                                    w_Mod_push (fun I21 =>
                                      Q I21) r20 I19) p1 r18 r16) I17) I))) ∧
                          (p1 = (28 : Int32) →
                            vp_in (I 30 0 18) 8 ∧
                            w_Mod_push (fun I23 =>
                              Q I23) (I 66 0 (I 30 0 18).toNatClampNeg) I))) ∧
                        (p1 = (25 : Int32) →
                          w_Mod_pop (fun r24 I25 =>
                            (((300 : Int32) ≤ (I25 30 0 11) →
                              Q I25) ∧
                            (¬ (300 : Int32) ≤ (I25 30 0 11) →
                              vp_in (I25 30 0 11) 300 ∧
                              ∀ I28 : x_I, I28 = x_u I25 50 0 (I25 30 0 11).toNatClampNeg r24 →
                              ∀ I29 : x_I, I29 = x_u I28 30 0 11 ((I28 30 0 11) + (1 : Int32)) →
                              Q I29))) I))) ∧
                      (p1 = (24 : Int32) →
                        w_Mod_pop (fun r30 I31 =>
                          w_Mod_noAccount (fun r32 =>
                            ((r32 = 0 →
                              vp_in r30 24 ∧
                              w_Mod_push (fun I35 =>
                                Q I35) (I31 42 0 r30.toNatClampNeg) I31) ∧
                            (¬ r32 = 0 →
                              w_Mod_push (fun I36 =>
                                Q I36) (-1 : Int32) I31))) r30 I31) I))) ∧
                    (p1 = (23 : Int32) →
                      vp_in (I 30 0 18) 8 ∧
                      w_Mod_push (fun I38 =>
                        Q I38) (I 67 0 (I 30 0 18).toNatClampNeg) I))) ∧
                  (p1 = (22 : Int32) →
                    vp_in (I 30 0 18) 8 ∧
                    w_Mod_push (fun I40 =>
                      Q I40) (I 65 0 (I 30 0 18).toNatClampNeg) I))) ∧
                (p1 = (21 : Int32) →
                  vp_in (I 30 0 18) 8 ∧
                  w_Mod_push (fun I42 =>
                    Q I42) (I 64 0 (I 30 0 18).toNatClampNeg) I))) ∧
              (p1 = (20 : Int32) →
                w_Mod_pop (fun r43 I44 =>
                  ((r43 < 0 →
                    w_Mod_push (fun I46 =>
                      Q I46) (0 : Int32) I44) ∧
                  (¬ r43 < 0 →
                    vp_in (I44 30 0 18) 8 ∧
                    (((I44 63 0 (I44 30 0 18).toNatClampNeg) ≤ r43 →
                      w_Mod_push (fun I49 =>
                        Q I49) (0 : Int32) I44) ∧
                    (¬ (I44 63 0 (I44 30 0 18).toNatClampNeg) ≤ r43 →
                      vp_in ((((8 : Int32) * (I44 30 0 18)) + r43)) 64 ∧
                      w_Mod_push (fun I51 =>
                        Q I51) ((I44 62 0 ((((8 : Int32) * (I44 30 0 18)) + r43)).toNatClampNeg)) I44))))) I))) ∧
            (p1 = (18 : Int32) →
              vp_in (I 30 0 18) 8 ∧
              w_Mod_pop (fun r53 I54 =>
                w_Mod_stored (fun r55 =>
                  w_Mod_push (fun I56 =>
                    Q I56) r55 I54) (I 67 0 (I 30 0 18).toNatClampNeg) r53 I54) I))) ∧
          (p1 = (12 : Int32) →
            w_Mod_pop (fun r57 I58 =>
              ((¬ r57 = 0 →
                w_Mod_push (fun I60 =>
                  Q I60) (0 : Int32) I58) ∧
              (r57 = 0 →
                w_Mod_push (fun I61 =>
                  Q I61) (1 : Int32) I58))) I))) ∧
        (p1 = (4 : Int32) →
          w_Mod_swap (fun I62 =>
            Q I62) p2 I))) ∧
      (p1 = (3 : Int32) →
        w_Mod_below (fun r63 =>
          w_Mod_push (fun I64 =>
            Q I64) r63 I) p2 I))) ∧
    (p1 = (2 : Int32) →
      w_Mod_pop (fun r65 I66 =>
        Q I66) I))) ∧
  (p1 = (1 : Int32) →
    w_Mod_push (fun I67 =>
      Q I67) p2 I))
set_option maxRecDepth 100000 in
set_option maxHeartbeats 4000000 in
theorem c_Mod_simple {l : Launch} {g : x_G} {Y : x_Y} (hY : x_Y0 g Y) {p1 : Int32} {p2 : Int32} (ok0_ : x_ok Y 30 0) {Q : x_I → Prop} {L : x_L} {I : x_I} {k n : Nat} (h : w_Mod_simple Q p1 p2 I) : x_C l y_Mod_simple 2 g [.ref (x_ad Y 30 0), .int p1, .int p2] Y L I k n (x_pV Y (fun L' I' k' n' => L' = L ∧ k' = k ∧ n' = n ∧ Q I') x_nx) := by
  refine x_mth k_1030 ?_
  intro p e R s m below meth c hE hnm hexn hw hk1 hn1
  obtain ⟨hx, hb, hml, hr, hlk, hown, hK, htr, hF, hLo, hRc, hRs⟩ := id hE
  have hbd : x_bd k n k n := ⟨Nat.le_refl _, hk1, Nat.le_refl _, hn1⟩
  have hl := lv_entry ([.ref (x_ad Y 30 0), .int p1, .int p2]) (n := 5) (Nat.le_of_ble_eq_true rfl)
  generalize (lg_sl [.ref (x_ad Y 30 0), .int p1, .int p2] ++ List.replicate (5 - (lg_sl [.ref (x_ad Y 30 0), .int p1, .int p2]).length) Slot.unset).toArray = ls at hl ⊢
  have hl : lv_has ls 5 [(0, .ref (x_ad Y 30 0)), (1, .int p1), (2, .int p2)] := hl
  generalize s.heap = H at hw ⊢
  generalize ([] : List Loc) = locs at hw ⊢
  unfold w_Mod_simple at h
  refine lv_iconst (v := 0) hx hb d_Mod_simple_0 (by decide) ?_
  refine lv_topi (fun x1 e_x1 => ?_)
  replace h := h x1 e_x1
  refine lv_istore_n (lv' := [(3, .int x1), (0, .ref (x_ad Y 30 0)), (1, .int p1), (2, .int p2)]) hx hb d_Mod_simple_1 rfl hl (by decide) rfl (fun ls hl => ?_)
  refine lv_iload_n hx hb d_Mod_simple_2 rfl (lv_at hl 2 rfl) ?_
  refine lv_iconst (v := 1) hx hb d_Mod_simple_3 (by decide) ?_
  refine lv_icmp_ne (tgt := 15) hx hb d_Mod_simple_4 (by decide) (fun c2 => ?_) (fun c2 => ?_)
  · replace h := h.1 c2
    refine lv_iload_n hx hb d_Mod_simple_15 rfl (lv_at hl 2 rfl) ?_
    refine lv_iconst (v := 2) hx hb d_Mod_simple_16 (by decide) ?_
    refine lv_icmp_ne (tgt := 28) hx hb d_Mod_simple_17 (by decide) (fun c3 => ?_) (fun c3 => ?_)
    · replace h := h.1 c3
      refine lv_iload_n hx hb d_Mod_simple_28 rfl (lv_at hl 2 rfl) ?_
      refine lv_iconst (v := 3) hx hb d_Mod_simple_29 (by decide) ?_
      refine lv_icmp_ne (tgt := 45) hx hb d_Mod_simple_30 (by decide) (fun c4 => ?_) (fun c4 => ?_)
      · replace h := h.1 c4
        refine lv_iload_n hx hb d_Mod_simple_45 rfl (lv_at hl 2 rfl) ?_
        refine lv_iconst (v := 4) hx hb d_Mod_simple_46 (by decide) ?_
        refine lv_icmp_ne (tgt := 58) hx hb d_Mod_simple_47 (by decide) (fun c5 => ?_) (fun c5 => ?_)
        · replace h := h.1 c5
          refine lv_iload_n hx hb d_Mod_simple_58 rfl (lv_at hl 2 rfl) ?_
          refine lv_bipush (v := 12) hx hb d_Mod_simple_59 (by decide) ?_
          refine lv_icmp_ne (tgt := 83) hx hb d_Mod_simple_61 (by decide) (fun c6 => ?_) (fun c6 => ?_)
          · replace h := h.1 c6
            refine lv_iload_n hx hb d_Mod_simple_83 rfl (lv_at hl 2 rfl) ?_
            refine lv_bipush (v := 18) hx hb d_Mod_simple_84 (by decide) ?_
            refine lv_icmp_ne (tgt := 113) hx hb d_Mod_simple_86 (by decide) (fun c7 => ?_) (fun c7 => ?_)
            · replace h := h.1 c7
              refine lv_iload_n hx hb d_Mod_simple_113 rfl (lv_at hl 2 rfl) ?_
              refine lv_bipush (v := 20) hx hb d_Mod_simple_114 (by decide) ?_
              refine lv_icmp_ne (tgt := 166) hx hb d_Mod_simple_116 (by decide) (fun c8 => ?_) (fun c8 => ?_)
              · replace h := h.1 c8
                refine lv_iload_n hx hb d_Mod_simple_166 rfl (lv_at hl 2 rfl) ?_
                refine lv_bipush (v := 21) hx hb d_Mod_simple_167 (by decide) ?_
                refine lv_icmp_ne (tgt := 188) hx hb d_Mod_simple_169 (by decide) (fun c9 => ?_) (fun c9 => ?_)
                · replace h := h.1 c9
                  refine lv_iload_n hx hb d_Mod_simple_188 rfl (lv_at hl 2 rfl) ?_
                  refine lv_bipush (v := 22) hx hb d_Mod_simple_189 (by decide) ?_
                  refine lv_icmp_ne (tgt := 210) hx hb d_Mod_simple_191 (by decide) (fun c10 => ?_) (fun c10 => ?_)
                  · replace h := h.1 c10
                    refine lv_iload_n hx hb d_Mod_simple_210 rfl (lv_at hl 2 rfl) ?_
                    refine lv_bipush (v := 23) hx hb d_Mod_simple_211 (by decide) ?_
                    refine lv_icmp_ne (tgt := 232) hx hb d_Mod_simple_213 (by decide) (fun c11 => ?_) (fun c11 => ?_)
                    · replace h := h.1 c11
                      refine lv_iload_n hx hb d_Mod_simple_232 rfl (lv_at hl 2 rfl) ?_
                      refine lv_bipush (v := 24) hx hb d_Mod_simple_233 (by decide) ?_
                      refine lv_icmp_ne (tgt := 268) hx hb d_Mod_simple_235 (by decide) (fun c12 => ?_) (fun c12 => ?_)
                      · replace h := h.1 c12
                        refine lv_iload_n hx hb d_Mod_simple_268 rfl (lv_at hl 2 rfl) ?_
                        refine lv_bipush (v := 25) hx hb d_Mod_simple_269 (by decide) ?_
                        refine lv_icmp_ne (tgt := 312) hx hb d_Mod_simple_271 (by decide) (fun c13 => ?_) (fun c13 => ?_)
                        · replace h := h.1 c13
                          refine lv_iload_n hx hb d_Mod_simple_312 rfl (lv_at hl 2 rfl) ?_
                          refine lv_bipush (v := 28) hx hb d_Mod_simple_313 (by decide) ?_
                          refine lv_icmp_ne (tgt := 334) hx hb d_Mod_simple_315 (by decide) (fun c14 => ?_) (fun c14 => ?_)
                          · replace h := h.1 c14
                            refine lv_iload_n hx hb d_Mod_simple_334 rfl (lv_at hl 2 rfl) ?_
                            refine lv_bipush (v := 16) hx hb d_Mod_simple_335 (by decide) ?_
                            refine lv_icmp_ge (tgt := 362) hx hb d_Mod_simple_337 (by decide) (fun c15 => ?_) (fun c15 => ?_)
                            · replace h := h.1 c15
                              exact x_vret hx hb hr hlk hw ⟨rfl, Or.inl ⟨rfl, ⟨rfl, rfl, rfl, h⟩⟩⟩ hbd d_Mod_simple_362
                            · replace h := h.2 c15
                              refine lv_aload_n hx hb d_Mod_simple_340 rfl (lv_at hl 1 rfl) ?_
                              refine x_goI (ls := ls) (rest := []) hE hw (c_Mod_pop hY ok0_ h) (x_cd hK k_1018) q_Mod_pop (by decide) (by decide) hl.1 (Nat.le_of_ble_eq_true rfl) hbd d_Mod_simple_341 (x_toV (As := []) (b := (x_ad Y 30 0)) hx hb hown hK (x_recv hK hw ok0_ rfl (by decide)) k_1015 k_1017 ks_32 ⟨_, x_cd hK k_1018⟩ q_Mod_pop rfl rfl d_Mod_simple_341) (fun r16 L9 I17 k9 n9 H locs h hw hb9 => ?_) (fun _ _ _ _ _ _ _ h9 => h9.elim)
                              obtain ⟨e1, e3, e4, h⟩ := h
                              rw [e1] at hw
                              rw [e3, e4]
                              refine lv_istore (lv' := [(4, .int r16), (3, .int x1), (0, .ref (x_ad Y 30 0)), (1, .int p1), (2, .int p2)]) hx hb d_Mod_simple_344 hl (by decide) rfl (fun ls hl => ?_)
                              refine lv_aload_n hx hb d_Mod_simple_346 rfl (lv_at hl 2 rfl) ?_
                              refine x_goI (ls := ls) (rest := []) hE hw (c_Mod_pop hY ok0_ h) (x_cd hK k_1018) q_Mod_pop (by decide) (by decide) hl.1 (Nat.le_of_ble_eq_true rfl) hbd d_Mod_simple_347 (x_toV (As := []) (b := (x_ad Y 30 0)) hx hb hown hK (x_recv hK hw ok0_ rfl (by decide)) k_1015 k_1017 ks_32 ⟨_, x_cd hK k_1018⟩ q_Mod_pop rfl rfl d_Mod_simple_347) (fun r18 L9 I19 k9 n9 H locs h hw hb9 => ?_) (fun _ _ _ _ _ _ _ h9 => h9.elim)
                              obtain ⟨e1, e3, e4, h⟩ := h
                              rw [e1] at hw
                              rw [e3, e4]
                              refine lv_istore_n (lv' := [(3, .int r18), (4, .int r16), (0, .ref (x_ad Y 30 0)), (1, .int p1), (2, .int p2)]) hx hb d_Mod_simple_350 rfl hl (by decide) rfl (fun ls hl => ?_)
                              refine lv_aload_n hx hb d_Mod_simple_351 rfl (lv_at hl 2 rfl) ?_
                              refine lv_iload_n hx hb d_Mod_simple_352 rfl (lv_at hl 3 rfl) ?_
                              refine lv_iload_n hx hb d_Mod_simple_353 rfl (lv_at hl 0 rfl) ?_
                              refine lv_iload hx hb d_Mod_simple_354 (lv_at hl 1 rfl) ?_
                              refine x_goI (ls := ls) (rest := [.ref (x_ad Y 30 0)]) hE hw (c_Mod_made hY h) (x_cd hK k_1037) q_Mod_made (by decide) (by decide) hl.1 (Nat.le_of_ble_eq_true rfl) hbd d_Mod_simple_356 (x_toS (As := [.int p1, .int r18, .int r16]) hx hb hown hK k_1035 k_1036 k_11 ⟨_, x_cd hK k_1037⟩ q_Mod_made rfl rfl d_Mod_simple_356) (fun r20 L9 I9 k9 n9 H locs h hw hb9 => ?_) (fun _ _ _ _ _ _ _ h9 => h9.elim)
                              obtain ⟨e1, e2, e3, e4, h⟩ := h
                              rw [e1, e2] at hw
                              rw [e3, e4]
                              refine x_goV (ls := ls) (rest := []) hE hw (c_Mod_push hY ok0_ h) (x_cd hK k_993) q_Mod_push (by decide) (by decide) hl.1 (Nat.le_of_ble_eq_true rfl) hbd d_Mod_simple_359 (x_toV (As := [.int r20]) (b := (x_ad Y 30 0)) hx hb hown hK (x_recv hK hw ok0_ rfl (by decide)) k_990 k_992 ks_28 ⟨_, x_cd hK k_993⟩ q_Mod_push rfl rfl d_Mod_simple_359) (fun L9 I21 k9 n9 H locs h hw hb9 => ?_) (fun _ _ _ _ _ _ _ h9 => h9.elim)
                              obtain ⟨e1, e3, e4, h⟩ := h
                              rw [e1] at hw
                              rw [e3, e4]
                              exact x_vret hx hb hr hlk hw ⟨rfl, Or.inl ⟨rfl, ⟨rfl, rfl, rfl, h⟩⟩⟩ hbd d_Mod_simple_362
                          · replace h := h.2 c14
                            refine lv_aload_n hx hb d_Mod_simple_318 rfl (lv_at hl 1 rfl) ?_
                            refine lv_aload_n hx hb d_Mod_simple_319 rfl (lv_at hl 1 rfl) ?_
                            refine x_getR (t := 30) (i := 0) (j := 26) hx hb hK hw hown ok0_ rfl (by decide) (by decide) (x_wd hK k_824 rfl) (fun _ h => h) fk_8_26 (hY.r ok0_ rfl) d_Mod_simple_320 ?_
                            have ok22 := hY.ok 26 ok0_ (t' := 66) (i' := 0) rfl
                            refine lv_aload_n hx hb d_Mod_simple_323 rfl (lv_at hl 1 rfl) ?_
                            refine x_getI (t := 30) (i := 0) (j := 18) hx hb hK hw hown ok0_ rfl (by decide) (by decide) (x_wd hK k_816 rfl) (fun _ h => h) fk_8_18 d_Mod_simple_324 ?_
                            refine x_iald (t := 66) (i := 0) hx hb hK hw ok22 rfl (hY.n ok22 rfl) h.1 d_Mod_simple_327 ?_
                            replace h := h.2
                            refine x_goV (ls := ls) (rest := []) hE hw (c_Mod_push hY ok0_ h) (x_cd hK k_993) q_Mod_push (by decide) (by decide) hl.1 (Nat.le_of_ble_eq_true rfl) hbd d_Mod_simple_328 (x_toV (As := [.int (I 66 0 (I 30 0 18).toNatClampNeg)]) (b := (x_ad Y 30 0)) hx hb hown hK (x_recv hK hw ok0_ rfl (by decide)) k_990 k_992 ks_28 ⟨_, x_cd hK k_993⟩ q_Mod_push rfl rfl d_Mod_simple_328) (fun L9 I23 k9 n9 H locs h hw hb9 => ?_) (fun _ _ _ _ _ _ _ h9 => h9.elim)
                            obtain ⟨e1, e3, e4, h⟩ := h
                            rw [e1] at hw
                            rw [e3, e4]
                            refine lv_goto (tgt := 362) hx hb d_Mod_simple_331 (by decide) ?_
                            exact x_vret hx hb hr hlk hw ⟨rfl, Or.inl ⟨rfl, ⟨rfl, rfl, rfl, h⟩⟩⟩ hbd d_Mod_simple_362
                        · replace h := h.2 c13
                          refine lv_aload_n hx hb d_Mod_simple_274 rfl (lv_at hl 1 rfl) ?_
                          refine x_goI (ls := ls) (rest := []) hE hw (c_Mod_pop hY ok0_ h) (x_cd hK k_1018) q_Mod_pop (by decide) (by decide) hl.1 (Nat.le_of_ble_eq_true rfl) hbd d_Mod_simple_275 (x_toV (As := []) (b := (x_ad Y 30 0)) hx hb hown hK (x_recv hK hw ok0_ rfl (by decide)) k_1015 k_1017 ks_32 ⟨_, x_cd hK k_1018⟩ q_Mod_pop rfl rfl d_Mod_simple_275) (fun r24 L9 I25 k9 n9 H locs h hw hb9 => ?_) (fun _ _ _ _ _ _ _ h9 => h9.elim)
                          obtain ⟨e1, e3, e4, h⟩ := h
                          rw [e1] at hw
                          rw [e3, e4]
                          refine lv_istore_n (lv' := [(3, .int r24), (0, .ref (x_ad Y 30 0)), (1, .int p1), (2, .int p2)]) hx hb d_Mod_simple_278 rfl hl (by decide) rfl (fun ls hl => ?_)
                          refine lv_aload_n hx hb d_Mod_simple_279 rfl (lv_at hl 1 rfl) ?_
                          refine x_getI (t := 30) (i := 0) (j := 11) hx hb hK hw hown ok0_ rfl (by decide) (by decide) (x_wd hK k_809 rfl) (fun _ h => h) fk_8_11 d_Mod_simple_280 ?_
                          refine lv_sipush (v := 300) hx hb d_Mod_simple_283 (by decide) ?_
                          refine lv_icmp_ge (tgt := 362) hx hb d_Mod_simple_286 (by decide) (fun c26 => ?_) (fun c26 => ?_)
                          · replace h := h.1 c26
                            exact x_vret hx hb hr hlk hw ⟨rfl, Or.inl ⟨rfl, ⟨rfl, rfl, rfl, h⟩⟩⟩ hbd d_Mod_simple_362
                          · replace h := h.2 c26
                            refine lv_aload_n hx hb d_Mod_simple_289 rfl (lv_at hl 1 rfl) ?_
                            refine x_getR (t := 30) (i := 0) (j := 10) hx hb hK hw hown ok0_ rfl (by decide) (by decide) (x_wd hK k_808 rfl) (fun _ h => h) fk_8_10 (hY.r ok0_ rfl) d_Mod_simple_290 ?_
                            have ok27 := hY.ok 10 ok0_ (t' := 50) (i' := 0) rfl
                            refine lv_aload_n hx hb d_Mod_simple_293 rfl (lv_at hl 1 rfl) ?_
                            refine x_getI (t := 30) (i := 0) (j := 11) hx hb hK hw hown ok0_ rfl (by decide) (by decide) (x_wd hK k_809 rfl) (fun _ h => h) fk_8_11 d_Mod_simple_294 ?_
                            refine lv_iload_n hx hb d_Mod_simple_297 rfl (lv_at hl 0 rfl) ?_
                            refine x_iast (t := 50) (i := 0) hx hb hK hw ok27 rfl (hY.n ok27 rfl) h.1 d_Mod_simple_298 (fun I28 H locs e_I28 hw => ?_)
                            replace h := h.2 I28 e_I28
                            refine lv_aload_n hx hb d_Mod_simple_299 rfl (lv_at hl 1 rfl) ?_
                            refine lv_dup hx hb d_Mod_simple_300 rfl ?_
                            refine x_getI (t := 30) (i := 0) (j := 11) hx hb hK hw hown ok0_ rfl (by decide) (by decide) (x_wd hK k_809 rfl) (fun _ h => h) fk_8_11 d_Mod_simple_301 ?_
                            refine lv_iconst (v := 1) hx hb d_Mod_simple_304 (by decide) ?_
                            refine lv_iadd hx hb d_Mod_simple_305 ?_
                            refine x_putI (t := 30) (i := 0) (j := 11) hx hb hK hw hown ok0_ rfl (by decide) (by decide) (x_wd hK k_809 rfl) (fun _ h => h) rfl rfl d_Mod_simple_306 (fun I29 H locs e_I29 hw => ?_)
                            replace h := h I29 e_I29
                            refine lv_goto (tgt := 362) hx hb d_Mod_simple_309 (by decide) ?_
                            exact x_vret hx hb hr hlk hw ⟨rfl, Or.inl ⟨rfl, ⟨rfl, rfl, rfl, h⟩⟩⟩ hbd d_Mod_simple_362
                      · replace h := h.2 c12
                        refine lv_aload_n hx hb d_Mod_simple_238 rfl (lv_at hl 1 rfl) ?_
                        refine x_goI (ls := ls) (rest := []) hE hw (c_Mod_pop hY ok0_ h) (x_cd hK k_1018) q_Mod_pop (by decide) (by decide) hl.1 (Nat.le_of_ble_eq_true rfl) hbd d_Mod_simple_239 (x_toV (As := []) (b := (x_ad Y 30 0)) hx hb hown hK (x_recv hK hw ok0_ rfl (by decide)) k_1015 k_1017 ks_32 ⟨_, x_cd hK k_1018⟩ q_Mod_pop rfl rfl d_Mod_simple_239) (fun r30 L9 I31 k9 n9 H locs h hw hb9 => ?_) (fun _ _ _ _ _ _ _ h9 => h9.elim)
                        obtain ⟨e1, e3, e4, h⟩ := h
                        rw [e1] at hw
                        rw [e3, e4]
                        refine lv_istore_n (lv' := [(3, .int r30), (0, .ref (x_ad Y 30 0)), (1, .int p1), (2, .int p2)]) hx hb d_Mod_simple_242 rfl hl (by decide) rfl (fun ls hl => ?_)
                        refine lv_aload_n hx hb d_Mod_simple_243 rfl (lv_at hl 1 rfl) ?_
                        refine lv_aload_n hx hb d_Mod_simple_244 rfl (lv_at hl 1 rfl) ?_
                        refine lv_iload_n hx hb d_Mod_simple_245 rfl (lv_at hl 0 rfl) ?_
                        refine x_goI (ls := ls) (rest := [.ref (x_ad Y 30 0)]) hE hw (c_Mod_noAccount hY ok0_ h) (x_cd hK k_922) q_Mod_noAccount (by decide) (by decide) hl.1 (Nat.le_of_ble_eq_true rfl) hbd d_Mod_simple_246 (x_toV (As := [.int r30]) (b := (x_ad Y 30 0)) hx hb hown hK (x_recv hK hw ok0_ rfl (by decide)) k_919 k_921 ks_21 ⟨_, x_cd hK k_922⟩ q_Mod_noAccount rfl rfl d_Mod_simple_246) (fun r32 L9 I9 k9 n9 H locs h hw hb9 => ?_) (fun _ _ _ _ _ _ _ h9 => h9.elim)
                        obtain ⟨e1, e2, e3, e4, h⟩ := h
                        rw [e1, e2] at hw
                        rw [e3, e4]
                        refine lv_if_eq (tgt := 256) hx hb d_Mod_simple_249 (by decide) (fun c33 => ?_) (fun c33 => ?_)
                        · replace h := h.1 c33
                          refine lv_aload_n hx hb d_Mod_simple_256 rfl (lv_at hl 1 rfl) ?_
                          refine x_getR (t := 30) (i := 0) (j := 2) hx hb hK hw hown ok0_ rfl (by decide) (by decide) (x_wd hK k_800 rfl) (fun _ h => h) fk_8_2 (hY.r ok0_ rfl) d_Mod_simple_257 ?_
                          have ok34 := hY.ok 2 ok0_ (t' := 42) (i' := 0) rfl
                          refine lv_iload_n hx hb d_Mod_simple_260 rfl (lv_at hl 0 rfl) ?_
                          refine x_iald (t := 42) (i := 0) hx hb hK hw ok34 rfl (hY.n ok34 rfl) h.1 d_Mod_simple_261 ?_
                          replace h := h.2
                          refine x_goV (ls := ls) (rest := []) hE hw (c_Mod_push hY ok0_ h) (x_cd hK k_993) q_Mod_push (by decide) (by decide) hl.1 (Nat.le_of_ble_eq_true rfl) hbd d_Mod_simple_262 (x_toV (As := [.int (I31 42 0 r30.toNatClampNeg)]) (b := (x_ad Y 30 0)) hx hb hown hK (x_recv hK hw ok0_ rfl (by decide)) k_990 k_992 ks_28 ⟨_, x_cd hK k_993⟩ q_Mod_push rfl rfl d_Mod_simple_262) (fun L9 I35 k9 n9 H locs h hw hb9 => ?_) (fun _ _ _ _ _ _ _ h9 => h9.elim)
                          obtain ⟨e1, e3, e4, h⟩ := h
                          rw [e1] at hw
                          rw [e3, e4]
                          refine lv_goto (tgt := 362) hx hb d_Mod_simple_265 (by decide) ?_
                          exact x_vret hx hb hr hlk hw ⟨rfl, Or.inl ⟨rfl, ⟨rfl, rfl, rfl, h⟩⟩⟩ hbd d_Mod_simple_362
                        · replace h := h.2 c33
                          refine lv_iconst (v := (-1)) hx hb d_Mod_simple_252 (by decide) ?_
                          refine lv_goto (tgt := 262) hx hb d_Mod_simple_253 (by decide) ?_
                          refine x_goV (ls := ls) (rest := []) hE hw (c_Mod_push hY ok0_ h) (x_cd hK k_993) q_Mod_push (by decide) (by decide) hl.1 (Nat.le_of_ble_eq_true rfl) hbd d_Mod_simple_262 (x_toV (As := [.int (-1 : Int32)]) (b := (x_ad Y 30 0)) hx hb hown hK (x_recv hK hw ok0_ rfl (by decide)) k_990 k_992 ks_28 ⟨_, x_cd hK k_993⟩ q_Mod_push rfl rfl d_Mod_simple_262) (fun L9 I36 k9 n9 H locs h hw hb9 => ?_) (fun _ _ _ _ _ _ _ h9 => h9.elim)
                          obtain ⟨e1, e3, e4, h⟩ := h
                          rw [e1] at hw
                          rw [e3, e4]
                          refine lv_goto (tgt := 362) hx hb d_Mod_simple_265 (by decide) ?_
                          exact x_vret hx hb hr hlk hw ⟨rfl, Or.inl ⟨rfl, ⟨rfl, rfl, rfl, h⟩⟩⟩ hbd d_Mod_simple_362
                    · replace h := h.2 c11
                      refine lv_aload_n hx hb d_Mod_simple_216 rfl (lv_at hl 1 rfl) ?_
                      refine lv_aload_n hx hb d_Mod_simple_217 rfl (lv_at hl 1 rfl) ?_
                      refine x_getR (t := 30) (i := 0) (j := 27) hx hb hK hw hown ok0_ rfl (by decide) (by decide) (x_wd hK k_825 rfl) (fun _ h => h) fk_8_27 (hY.r ok0_ rfl) d_Mod_simple_218 ?_
                      have ok37 := hY.ok 27 ok0_ (t' := 67) (i' := 0) rfl
                      refine lv_aload_n hx hb d_Mod_simple_221 rfl (lv_at hl 1 rfl) ?_
                      refine x_getI (t := 30) (i := 0) (j := 18) hx hb hK hw hown ok0_ rfl (by decide) (by decide) (x_wd hK k_816 rfl) (fun _ h => h) fk_8_18 d_Mod_simple_222 ?_
                      refine x_iald (t := 67) (i := 0) hx hb hK hw ok37 rfl (hY.n ok37 rfl) h.1 d_Mod_simple_225 ?_
                      replace h := h.2
                      refine x_goV (ls := ls) (rest := []) hE hw (c_Mod_push hY ok0_ h) (x_cd hK k_993) q_Mod_push (by decide) (by decide) hl.1 (Nat.le_of_ble_eq_true rfl) hbd d_Mod_simple_226 (x_toV (As := [.int (I 67 0 (I 30 0 18).toNatClampNeg)]) (b := (x_ad Y 30 0)) hx hb hown hK (x_recv hK hw ok0_ rfl (by decide)) k_990 k_992 ks_28 ⟨_, x_cd hK k_993⟩ q_Mod_push rfl rfl d_Mod_simple_226) (fun L9 I38 k9 n9 H locs h hw hb9 => ?_) (fun _ _ _ _ _ _ _ h9 => h9.elim)
                      obtain ⟨e1, e3, e4, h⟩ := h
                      rw [e1] at hw
                      rw [e3, e4]
                      refine lv_goto (tgt := 362) hx hb d_Mod_simple_229 (by decide) ?_
                      exact x_vret hx hb hr hlk hw ⟨rfl, Or.inl ⟨rfl, ⟨rfl, rfl, rfl, h⟩⟩⟩ hbd d_Mod_simple_362
                  · replace h := h.2 c10
                    refine lv_aload_n hx hb d_Mod_simple_194 rfl (lv_at hl 1 rfl) ?_
                    refine lv_aload_n hx hb d_Mod_simple_195 rfl (lv_at hl 1 rfl) ?_
                    refine x_getR (t := 30) (i := 0) (j := 25) hx hb hK hw hown ok0_ rfl (by decide) (by decide) (x_wd hK k_823 rfl) (fun _ h => h) fk_8_25 (hY.r ok0_ rfl) d_Mod_simple_196 ?_
                    have ok39 := hY.ok 25 ok0_ (t' := 65) (i' := 0) rfl
                    refine lv_aload_n hx hb d_Mod_simple_199 rfl (lv_at hl 1 rfl) ?_
                    refine x_getI (t := 30) (i := 0) (j := 18) hx hb hK hw hown ok0_ rfl (by decide) (by decide) (x_wd hK k_816 rfl) (fun _ h => h) fk_8_18 d_Mod_simple_200 ?_
                    refine x_iald (t := 65) (i := 0) hx hb hK hw ok39 rfl (hY.n ok39 rfl) h.1 d_Mod_simple_203 ?_
                    replace h := h.2
                    refine x_goV (ls := ls) (rest := []) hE hw (c_Mod_push hY ok0_ h) (x_cd hK k_993) q_Mod_push (by decide) (by decide) hl.1 (Nat.le_of_ble_eq_true rfl) hbd d_Mod_simple_204 (x_toV (As := [.int (I 65 0 (I 30 0 18).toNatClampNeg)]) (b := (x_ad Y 30 0)) hx hb hown hK (x_recv hK hw ok0_ rfl (by decide)) k_990 k_992 ks_28 ⟨_, x_cd hK k_993⟩ q_Mod_push rfl rfl d_Mod_simple_204) (fun L9 I40 k9 n9 H locs h hw hb9 => ?_) (fun _ _ _ _ _ _ _ h9 => h9.elim)
                    obtain ⟨e1, e3, e4, h⟩ := h
                    rw [e1] at hw
                    rw [e3, e4]
                    refine lv_goto (tgt := 362) hx hb d_Mod_simple_207 (by decide) ?_
                    exact x_vret hx hb hr hlk hw ⟨rfl, Or.inl ⟨rfl, ⟨rfl, rfl, rfl, h⟩⟩⟩ hbd d_Mod_simple_362
                · replace h := h.2 c9
                  refine lv_aload_n hx hb d_Mod_simple_172 rfl (lv_at hl 1 rfl) ?_
                  refine lv_aload_n hx hb d_Mod_simple_173 rfl (lv_at hl 1 rfl) ?_
                  refine x_getR (t := 30) (i := 0) (j := 24) hx hb hK hw hown ok0_ rfl (by decide) (by decide) (x_wd hK k_822 rfl) (fun _ h => h) fk_8_24 (hY.r ok0_ rfl) d_Mod_simple_174 ?_
                  have ok41 := hY.ok 24 ok0_ (t' := 64) (i' := 0) rfl
                  refine lv_aload_n hx hb d_Mod_simple_177 rfl (lv_at hl 1 rfl) ?_
                  refine x_getI (t := 30) (i := 0) (j := 18) hx hb hK hw hown ok0_ rfl (by decide) (by decide) (x_wd hK k_816 rfl) (fun _ h => h) fk_8_18 d_Mod_simple_178 ?_
                  refine x_iald (t := 64) (i := 0) hx hb hK hw ok41 rfl (hY.n ok41 rfl) h.1 d_Mod_simple_181 ?_
                  replace h := h.2
                  refine x_goV (ls := ls) (rest := []) hE hw (c_Mod_push hY ok0_ h) (x_cd hK k_993) q_Mod_push (by decide) (by decide) hl.1 (Nat.le_of_ble_eq_true rfl) hbd d_Mod_simple_182 (x_toV (As := [.int (I 64 0 (I 30 0 18).toNatClampNeg)]) (b := (x_ad Y 30 0)) hx hb hown hK (x_recv hK hw ok0_ rfl (by decide)) k_990 k_992 ks_28 ⟨_, x_cd hK k_993⟩ q_Mod_push rfl rfl d_Mod_simple_182) (fun L9 I42 k9 n9 H locs h hw hb9 => ?_) (fun _ _ _ _ _ _ _ h9 => h9.elim)
                  obtain ⟨e1, e3, e4, h⟩ := h
                  rw [e1] at hw
                  rw [e3, e4]
                  refine lv_goto (tgt := 362) hx hb d_Mod_simple_185 (by decide) ?_
                  exact x_vret hx hb hr hlk hw ⟨rfl, Or.inl ⟨rfl, ⟨rfl, rfl, rfl, h⟩⟩⟩ hbd d_Mod_simple_362
              · replace h := h.2 c8
                refine lv_aload_n hx hb d_Mod_simple_119 rfl (lv_at hl 1 rfl) ?_
                refine x_goI (ls := ls) (rest := []) hE hw (c_Mod_pop hY ok0_ h) (x_cd hK k_1018) q_Mod_pop (by decide) (by decide) hl.1 (Nat.le_of_ble_eq_true rfl) hbd d_Mod_simple_120 (x_toV (As := []) (b := (x_ad Y 30 0)) hx hb hown hK (x_recv hK hw ok0_ rfl (by decide)) k_1015 k_1017 ks_32 ⟨_, x_cd hK k_1018⟩ q_Mod_pop rfl rfl d_Mod_simple_120) (fun r43 L9 I44 k9 n9 H locs h hw hb9 => ?_) (fun _ _ _ _ _ _ _ h9 => h9.elim)
                obtain ⟨e1, e3, e4, h⟩ := h
                rw [e1] at hw
                rw [e3, e4]
                refine lv_istore_n (lv' := [(3, .int r43), (0, .ref (x_ad Y 30 0)), (1, .int p1), (2, .int p2)]) hx hb d_Mod_simple_123 rfl hl (by decide) rfl (fun ls hl => ?_)
                refine lv_aload_n hx hb d_Mod_simple_124 rfl (lv_at hl 1 rfl) ?_
                refine lv_iload_n hx hb d_Mod_simple_125 rfl (lv_at hl 0 rfl) ?_
                refine lv_if_lt (tgt := 159) hx hb d_Mod_simple_126 (by decide) (fun c45 => ?_) (fun c45 => ?_)
                · replace h := h.1 c45
                  refine lv_iconst (v := 0) hx hb d_Mod_simple_159 (by decide) ?_
                  refine x_goV (ls := ls) (rest := []) hE hw (c_Mod_push hY ok0_ h) (x_cd hK k_993) q_Mod_push (by decide) (by decide) hl.1 (Nat.le_of_ble_eq_true rfl) hbd d_Mod_simple_160 (x_toV (As := [.int (0 : Int32)]) (b := (x_ad Y 30 0)) hx hb hown hK (x_recv hK hw ok0_ rfl (by decide)) k_990 k_992 ks_28 ⟨_, x_cd hK k_993⟩ q_Mod_push rfl rfl d_Mod_simple_160) (fun L9 I46 k9 n9 H locs h hw hb9 => ?_) (fun _ _ _ _ _ _ _ h9 => h9.elim)
                  obtain ⟨e1, e3, e4, h⟩ := h
                  rw [e1] at hw
                  rw [e3, e4]
                  refine lv_goto (tgt := 362) hx hb d_Mod_simple_163 (by decide) ?_
                  exact x_vret hx hb hr hlk hw ⟨rfl, Or.inl ⟨rfl, ⟨rfl, rfl, rfl, h⟩⟩⟩ hbd d_Mod_simple_362
                · replace h := h.2 c45
                  refine lv_iload_n hx hb d_Mod_simple_129 rfl (lv_at hl 0 rfl) ?_
                  refine lv_aload_n hx hb d_Mod_simple_130 rfl (lv_at hl 1 rfl) ?_
                  refine x_getR (t := 30) (i := 0) (j := 23) hx hb hK hw hown ok0_ rfl (by decide) (by decide) (x_wd hK k_821 rfl) (fun _ h => h) fk_8_23 (hY.r ok0_ rfl) d_Mod_simple_131 ?_
                  have ok47 := hY.ok 23 ok0_ (t' := 63) (i' := 0) rfl
                  refine lv_aload_n hx hb d_Mod_simple_134 rfl (lv_at hl 1 rfl) ?_
                  refine x_getI (t := 30) (i := 0) (j := 18) hx hb hK hw hown ok0_ rfl (by decide) (by decide) (x_wd hK k_816 rfl) (fun _ h => h) fk_8_18 d_Mod_simple_135 ?_
                  refine x_iald (t := 63) (i := 0) hx hb hK hw ok47 rfl (hY.n ok47 rfl) h.1 d_Mod_simple_138 ?_
                  replace h := h.2
                  refine lv_icmp_ge (tgt := 159) hx hb d_Mod_simple_139 (by decide) (fun c48 => ?_) (fun c48 => ?_)
                  · replace h := h.1 c48
                    refine lv_iconst (v := 0) hx hb d_Mod_simple_159 (by decide) ?_
                    refine x_goV (ls := ls) (rest := []) hE hw (c_Mod_push hY ok0_ h) (x_cd hK k_993) q_Mod_push (by decide) (by decide) hl.1 (Nat.le_of_ble_eq_true rfl) hbd d_Mod_simple_160 (x_toV (As := [.int (0 : Int32)]) (b := (x_ad Y 30 0)) hx hb hown hK (x_recv hK hw ok0_ rfl (by decide)) k_990 k_992 ks_28 ⟨_, x_cd hK k_993⟩ q_Mod_push rfl rfl d_Mod_simple_160) (fun L9 I49 k9 n9 H locs h hw hb9 => ?_) (fun _ _ _ _ _ _ _ h9 => h9.elim)
                    obtain ⟨e1, e3, e4, h⟩ := h
                    rw [e1] at hw
                    rw [e3, e4]
                    refine lv_goto (tgt := 362) hx hb d_Mod_simple_163 (by decide) ?_
                    exact x_vret hx hb hr hlk hw ⟨rfl, Or.inl ⟨rfl, ⟨rfl, rfl, rfl, h⟩⟩⟩ hbd d_Mod_simple_362
                  · replace h := h.2 c48
                    refine lv_aload_n hx hb d_Mod_simple_142 rfl (lv_at hl 1 rfl) ?_
                    refine x_getR (t := 30) (i := 0) (j := 22) hx hb hK hw hown ok0_ rfl (by decide) (by decide) (x_wd hK k_820 rfl) (fun _ h => h) fk_8_22 (hY.r ok0_ rfl) d_Mod_simple_143 ?_
                    have ok50 := hY.ok 22 ok0_ (t' := 62) (i' := 0) rfl
                    refine lv_bipush (v := 8) hx hb d_Mod_simple_146 (by decide) ?_
                    refine lv_aload_n hx hb d_Mod_simple_148 rfl (lv_at hl 1 rfl) ?_
                    refine x_getI (t := 30) (i := 0) (j := 18) hx hb hK hw hown ok0_ rfl (by decide) (by decide) (x_wd hK k_816 rfl) (fun _ h => h) fk_8_18 d_Mod_simple_149 ?_
                    refine lv_imul hx hb d_Mod_simple_152 ?_
                    refine lv_iload_n hx hb d_Mod_simple_153 rfl (lv_at hl 0 rfl) ?_
                    refine lv_iadd hx hb d_Mod_simple_154 ?_
                    refine x_iald (t := 62) (i := 0) hx hb hK hw ok50 rfl (hY.n ok50 rfl) h.1 d_Mod_simple_155 ?_
                    replace h := h.2
                    refine lv_goto (tgt := 160) hx hb d_Mod_simple_156 (by decide) ?_
                    refine x_goV (ls := ls) (rest := []) hE hw (c_Mod_push hY ok0_ h) (x_cd hK k_993) q_Mod_push (by decide) (by decide) hl.1 (Nat.le_of_ble_eq_true rfl) hbd d_Mod_simple_160 (x_toV (As := [.int ((I44 62 0 ((((8 : Int32) * (I44 30 0 18)) + r43)).toNatClampNeg))]) (b := (x_ad Y 30 0)) hx hb hown hK (x_recv hK hw ok0_ rfl (by decide)) k_990 k_992 ks_28 ⟨_, x_cd hK k_993⟩ q_Mod_push rfl rfl d_Mod_simple_160) (fun L9 I51 k9 n9 H locs h hw hb9 => ?_) (fun _ _ _ _ _ _ _ h9 => h9.elim)
                    obtain ⟨e1, e3, e4, h⟩ := h
                    rw [e1] at hw
                    rw [e3, e4]
                    refine lv_goto (tgt := 362) hx hb d_Mod_simple_163 (by decide) ?_
                    exact x_vret hx hb hr hlk hw ⟨rfl, Or.inl ⟨rfl, ⟨rfl, rfl, rfl, h⟩⟩⟩ hbd d_Mod_simple_362
            · replace h := h.2 c7
              refine lv_aload_n hx hb d_Mod_simple_89 rfl (lv_at hl 1 rfl) ?_
              refine lv_aload_n hx hb d_Mod_simple_90 rfl (lv_at hl 1 rfl) ?_
              refine lv_aload_n hx hb d_Mod_simple_91 rfl (lv_at hl 1 rfl) ?_
              refine x_getR (t := 30) (i := 0) (j := 27) hx hb hK hw hown ok0_ rfl (by decide) (by decide) (x_wd hK k_825 rfl) (fun _ h => h) fk_8_27 (hY.r ok0_ rfl) d_Mod_simple_92 ?_
              have ok52 := hY.ok 27 ok0_ (t' := 67) (i' := 0) rfl
              refine lv_aload_n hx hb d_Mod_simple_95 rfl (lv_at hl 1 rfl) ?_
              refine x_getI (t := 30) (i := 0) (j := 18) hx hb hK hw hown ok0_ rfl (by decide) (by decide) (x_wd hK k_816 rfl) (fun _ h => h) fk_8_18 d_Mod_simple_96 ?_
              refine x_iald (t := 67) (i := 0) hx hb hK hw ok52 rfl (hY.n ok52 rfl) h.1 d_Mod_simple_99 ?_
              replace h := h.2
              refine lv_aload_n hx hb d_Mod_simple_100 rfl (lv_at hl 1 rfl) ?_
              refine x_goI (ls := ls) (rest := [.int (I 67 0 (I 30 0 18).toNatClampNeg), .ref (x_ad Y 30 0), .ref (x_ad Y 30 0)]) hE hw (c_Mod_pop hY ok0_ h) (x_cd hK k_1018) q_Mod_pop (by decide) (by decide) hl.1 (Nat.le_of_ble_eq_true rfl) hbd d_Mod_simple_101 (x_toV (As := []) (b := (x_ad Y 30 0)) hx hb hown hK (x_recv hK hw ok0_ rfl (by decide)) k_1015 k_1017 ks_32 ⟨_, x_cd hK k_1018⟩ q_Mod_pop rfl rfl d_Mod_simple_101) (fun r53 L9 I54 k9 n9 H locs h hw hb9 => ?_) (fun _ _ _ _ _ _ _ h9 => h9.elim)
              obtain ⟨e1, e3, e4, h⟩ := h
              rw [e1] at hw
              rw [e3, e4]
              refine x_goI (ls := ls) (rest := [.ref (x_ad Y 30 0)]) hE hw (c_Mod_stored hY ok0_ h) (x_cd hK k_945) q_Mod_stored (by decide) (by decide) hl.1 (Nat.le_of_ble_eq_true rfl) hbd d_Mod_simple_104 (x_toV (As := [.int (I 67 0 (I 30 0 18).toNatClampNeg), .int r53]) (b := (x_ad Y 30 0)) hx hb hown hK (x_recv hK hw ok0_ rfl (by decide)) k_942 k_944 ks_22 ⟨_, x_cd hK k_945⟩ q_Mod_stored rfl rfl d_Mod_simple_104) (fun r55 L9 I9 k9 n9 H locs h hw hb9 => ?_) (fun _ _ _ _ _ _ _ h9 => h9.elim)
              obtain ⟨e1, e2, e3, e4, h⟩ := h
              rw [e1, e2] at hw
              rw [e3, e4]
              refine x_goV (ls := ls) (rest := []) hE hw (c_Mod_push hY ok0_ h) (x_cd hK k_993) q_Mod_push (by decide) (by decide) hl.1 (Nat.le_of_ble_eq_true rfl) hbd d_Mod_simple_107 (x_toV (As := [.int r55]) (b := (x_ad Y 30 0)) hx hb hown hK (x_recv hK hw ok0_ rfl (by decide)) k_990 k_992 ks_28 ⟨_, x_cd hK k_993⟩ q_Mod_push rfl rfl d_Mod_simple_107) (fun L9 I56 k9 n9 H locs h hw hb9 => ?_) (fun _ _ _ _ _ _ _ h9 => h9.elim)
              obtain ⟨e1, e3, e4, h⟩ := h
              rw [e1] at hw
              rw [e3, e4]
              refine lv_goto (tgt := 362) hx hb d_Mod_simple_110 (by decide) ?_
              exact x_vret hx hb hr hlk hw ⟨rfl, Or.inl ⟨rfl, ⟨rfl, rfl, rfl, h⟩⟩⟩ hbd d_Mod_simple_362
          · replace h := h.2 c6
            refine lv_aload_n hx hb d_Mod_simple_64 rfl (lv_at hl 1 rfl) ?_
            refine lv_aload_n hx hb d_Mod_simple_65 rfl (lv_at hl 1 rfl) ?_
            refine x_goI (ls := ls) (rest := [.ref (x_ad Y 30 0)]) hE hw (c_Mod_pop hY ok0_ h) (x_cd hK k_1018) q_Mod_pop (by decide) (by decide) hl.1 (Nat.le_of_ble_eq_true rfl) hbd d_Mod_simple_66 (x_toV (As := []) (b := (x_ad Y 30 0)) hx hb hown hK (x_recv hK hw ok0_ rfl (by decide)) k_1015 k_1017 ks_32 ⟨_, x_cd hK k_1018⟩ q_Mod_pop rfl rfl d_Mod_simple_66) (fun r57 L9 I58 k9 n9 H locs h hw hb9 => ?_) (fun _ _ _ _ _ _ _ h9 => h9.elim)
            obtain ⟨e1, e3, e4, h⟩ := h
            rw [e1] at hw
            rw [e3, e4]
            refine lv_if_ne (tgt := 76) hx hb d_Mod_simple_69 (by decide) (fun c59 => ?_) (fun c59 => ?_)
            · replace h := h.1 c59
              refine lv_iconst (v := 0) hx hb d_Mod_simple_76 (by decide) ?_
              refine x_goV (ls := ls) (rest := []) hE hw (c_Mod_push hY ok0_ h) (x_cd hK k_993) q_Mod_push (by decide) (by decide) hl.1 (Nat.le_of_ble_eq_true rfl) hbd d_Mod_simple_77 (x_toV (As := [.int (0 : Int32)]) (b := (x_ad Y 30 0)) hx hb hown hK (x_recv hK hw ok0_ rfl (by decide)) k_990 k_992 ks_28 ⟨_, x_cd hK k_993⟩ q_Mod_push rfl rfl d_Mod_simple_77) (fun L9 I60 k9 n9 H locs h hw hb9 => ?_) (fun _ _ _ _ _ _ _ h9 => h9.elim)
              obtain ⟨e1, e3, e4, h⟩ := h
              rw [e1] at hw
              rw [e3, e4]
              refine lv_goto (tgt := 362) hx hb d_Mod_simple_80 (by decide) ?_
              exact x_vret hx hb hr hlk hw ⟨rfl, Or.inl ⟨rfl, ⟨rfl, rfl, rfl, h⟩⟩⟩ hbd d_Mod_simple_362
            · replace h := h.2 c59
              refine lv_iconst (v := 1) hx hb d_Mod_simple_72 (by decide) ?_
              refine lv_goto (tgt := 77) hx hb d_Mod_simple_73 (by decide) ?_
              refine x_goV (ls := ls) (rest := []) hE hw (c_Mod_push hY ok0_ h) (x_cd hK k_993) q_Mod_push (by decide) (by decide) hl.1 (Nat.le_of_ble_eq_true rfl) hbd d_Mod_simple_77 (x_toV (As := [.int (1 : Int32)]) (b := (x_ad Y 30 0)) hx hb hown hK (x_recv hK hw ok0_ rfl (by decide)) k_990 k_992 ks_28 ⟨_, x_cd hK k_993⟩ q_Mod_push rfl rfl d_Mod_simple_77) (fun L9 I61 k9 n9 H locs h hw hb9 => ?_) (fun _ _ _ _ _ _ _ h9 => h9.elim)
              obtain ⟨e1, e3, e4, h⟩ := h
              rw [e1] at hw
              rw [e3, e4]
              refine lv_goto (tgt := 362) hx hb d_Mod_simple_80 (by decide) ?_
              exact x_vret hx hb hr hlk hw ⟨rfl, Or.inl ⟨rfl, ⟨rfl, rfl, rfl, h⟩⟩⟩ hbd d_Mod_simple_362
        · replace h := h.2 c5
          refine lv_aload_n hx hb d_Mod_simple_50 rfl (lv_at hl 1 rfl) ?_
          refine lv_iload_n hx hb d_Mod_simple_51 rfl (lv_at hl 3 rfl) ?_
          refine x_goV (ls := ls) (rest := []) hE hw (c_Mod_swap hY ok0_ h) (x_cd hK k_1034) q_Mod_swap (by decide) (by decide) hl.1 (Nat.le_of_ble_eq_true rfl) hbd d_Mod_simple_52 (x_toV (As := [.int p2]) (b := (x_ad Y 30 0)) hx hb hown hK (x_recv hK hw ok0_ rfl (by decide)) k_1031 k_1033 ks_36 ⟨_, x_cd hK k_1034⟩ q_Mod_swap rfl rfl d_Mod_simple_52) (fun L9 I62 k9 n9 H locs h hw hb9 => ?_) (fun _ _ _ _ _ _ _ h9 => h9.elim)
          obtain ⟨e1, e3, e4, h⟩ := h
          rw [e1] at hw
          rw [e3, e4]
          refine lv_goto (tgt := 362) hx hb d_Mod_simple_55 (by decide) ?_
          exact x_vret hx hb hr hlk hw ⟨rfl, Or.inl ⟨rfl, ⟨rfl, rfl, rfl, h⟩⟩⟩ hbd d_Mod_simple_362
      · replace h := h.2 c4
        refine lv_aload_n hx hb d_Mod_simple_33 rfl (lv_at hl 1 rfl) ?_
        refine lv_aload_n hx hb d_Mod_simple_34 rfl (lv_at hl 1 rfl) ?_
        refine lv_iload_n hx hb d_Mod_simple_35 rfl (lv_at hl 3 rfl) ?_
        refine x_goI (ls := ls) (rest := [.ref (x_ad Y 30 0)]) hE hw (c_Mod_below hY ok0_ h) (x_cd hK k_1001) q_Mod_below (by decide) (by decide) hl.1 (Nat.le_of_ble_eq_true rfl) hbd d_Mod_simple_36 (x_toV (As := [.int p2]) (b := (x_ad Y 30 0)) hx hb hown hK (x_recv hK hw ok0_ rfl (by decide)) k_998 k_1000 ks_30 ⟨_, x_cd hK k_1001⟩ q_Mod_below rfl rfl d_Mod_simple_36) (fun r63 L9 I9 k9 n9 H locs h hw hb9 => ?_) (fun _ _ _ _ _ _ _ h9 => h9.elim)
        obtain ⟨e1, e2, e3, e4, h⟩ := h
        rw [e1, e2] at hw
        rw [e3, e4]
        refine x_goV (ls := ls) (rest := []) hE hw (c_Mod_push hY ok0_ h) (x_cd hK k_993) q_Mod_push (by decide) (by decide) hl.1 (Nat.le_of_ble_eq_true rfl) hbd d_Mod_simple_39 (x_toV (As := [.int r63]) (b := (x_ad Y 30 0)) hx hb hown hK (x_recv hK hw ok0_ rfl (by decide)) k_990 k_992 ks_28 ⟨_, x_cd hK k_993⟩ q_Mod_push rfl rfl d_Mod_simple_39) (fun L9 I64 k9 n9 H locs h hw hb9 => ?_) (fun _ _ _ _ _ _ _ h9 => h9.elim)
        obtain ⟨e1, e3, e4, h⟩ := h
        rw [e1] at hw
        rw [e3, e4]
        refine lv_goto (tgt := 362) hx hb d_Mod_simple_42 (by decide) ?_
        exact x_vret hx hb hr hlk hw ⟨rfl, Or.inl ⟨rfl, ⟨rfl, rfl, rfl, h⟩⟩⟩ hbd d_Mod_simple_362
    · replace h := h.2 c3
      refine lv_aload_n hx hb d_Mod_simple_20 rfl (lv_at hl 1 rfl) ?_
      refine x_goI (ls := ls) (rest := []) hE hw (c_Mod_pop hY ok0_ h) (x_cd hK k_1018) q_Mod_pop (by decide) (by decide) hl.1 (Nat.le_of_ble_eq_true rfl) hbd d_Mod_simple_21 (x_toV (As := []) (b := (x_ad Y 30 0)) hx hb hown hK (x_recv hK hw ok0_ rfl (by decide)) k_1015 k_1017 ks_32 ⟨_, x_cd hK k_1018⟩ q_Mod_pop rfl rfl d_Mod_simple_21) (fun r65 L9 I66 k9 n9 H locs h hw hb9 => ?_) (fun _ _ _ _ _ _ _ h9 => h9.elim)
      obtain ⟨e1, e3, e4, h⟩ := h
      rw [e1] at hw
      rw [e3, e4]
      refine lv_istore_n (lv' := [(3, .int r65), (0, .ref (x_ad Y 30 0)), (1, .int p1), (2, .int p2)]) hx hb d_Mod_simple_24 rfl hl (by decide) rfl (fun ls hl => ?_)
      refine lv_goto (tgt := 362) hx hb d_Mod_simple_25 (by decide) ?_
      exact x_vret hx hb hr hlk hw ⟨rfl, Or.inl ⟨rfl, ⟨rfl, rfl, rfl, h⟩⟩⟩ hbd d_Mod_simple_362
  · replace h := h.2 c2
    refine lv_aload_n hx hb d_Mod_simple_7 rfl (lv_at hl 1 rfl) ?_
    refine lv_iload_n hx hb d_Mod_simple_8 rfl (lv_at hl 3 rfl) ?_
    refine x_goV (ls := ls) (rest := []) hE hw (c_Mod_push hY ok0_ h) (x_cd hK k_993) q_Mod_push (by decide) (by decide) hl.1 (Nat.le_of_ble_eq_true rfl) hbd d_Mod_simple_9 (x_toV (As := [.int p2]) (b := (x_ad Y 30 0)) hx hb hown hK (x_recv hK hw ok0_ rfl (by decide)) k_990 k_992 ks_28 ⟨_, x_cd hK k_993⟩ q_Mod_push rfl rfl d_Mod_simple_9) (fun L9 I67 k9 n9 H locs h hw hb9 => ?_) (fun _ _ _ _ _ _ _ h9 => h9.elim)
    obtain ⟨e1, e3, e4, h⟩ := h
    rw [e1] at hw
    rw [e3, e4]
    refine lv_goto (tgt := 362) hx hb d_Mod_simple_12 (by decide) ?_
    exact x_vret hx hb hr hlk hw ⟨rfl, Or.inl ⟨rfl, ⟨rfl, rfl, rfl, h⟩⟩⟩ hbd d_Mod_simple_362
def w_Mod_act (Q : x_I → Prop) (p1 : Int32) (p2 : Int32) (I : x_I) : Prop :=
  ((¬ p1 = 0 →
    ((¬ p1 = (26 : Int32) →
      ((¬ p1 = (29 : Int32) →
        ((¬ p1 = (27 : Int32) →
          ((¬ p1 = (16 : Int32) →
            ((¬ p1 = (17 : Int32) →
              ((¬ p1 = (19 : Int32) →
                w_Mod_simple (fun I8 =>
                  vp_in (I8 30 0 18) 8 ∧
                  vp_in (I8 30 0 18) 8 ∧
                  ∀ I10 : x_I, I10 = x_u I8 61 0 (I8 30 0 18).toNatClampNeg (((I8 61 0 (I8 30 0 18).toNatClampNeg) + (1 : Int32))) →
                  Q I10) p1 p2 I) ∧
              (p1 = (19 : Int32) →
                w_Mod_pop (fun r11 I12 =>
                  w_Mod_pop (fun r13 I14 =>
                    ((r11 = 0 →
                      vp_in (I14 30 0 18) 8 ∧
                      w_Mod_store (fun I17 =>
                        vp_in (I17 30 0 18) 8 ∧
                        vp_in (I17 30 0 18) 8 ∧
                        ∀ I19 : x_I, I19 = x_u I17 61 0 (I17 30 0 18).toNatClampNeg (((I17 61 0 (I17 30 0 18).toNatClampNeg) + (1 : Int32))) →
                        Q I19) (I14 67 0 (I14 30 0 18).toNatClampNeg) r13 r11 I14) ∧
                    (¬ r11 = 0 →
                      ((¬ (I14 30 0 9) = (500 : Int32) →
                        vp_in (I14 30 0 18) 8 ∧
                        w_Mod_store (fun I22 =>
                          vp_in (I22 30 0 18) 8 ∧
                          vp_in (I22 30 0 18) 8 ∧
                          ∀ I24 : x_I, I24 = x_u I22 61 0 (I22 30 0 18).toNatClampNeg (((I22 61 0 (I22 30 0 18).toNatClampNeg) + (1 : Int32))) →
                          Q I24) (I14 67 0 (I14 30 0 18).toNatClampNeg) r13 r11 I14) ∧
                      ((I14 30 0 9) = (500 : Int32) →
                        vp_in (I14 30 0 18) 8 ∧
                        w_Mod_keyOf (fun r26 =>
                          ((0 ≤ r26 →
                            vp_in (I14 30 0 18) 8 ∧
                            w_Mod_store (fun I28 =>
                              vp_in (I28 30 0 18) 8 ∧
                              vp_in (I28 30 0 18) 8 ∧
                              ∀ I30 : x_I, I30 = x_u I28 61 0 (I28 30 0 18).toNatClampNeg (((I28 61 0 (I28 30 0 18).toNatClampNeg) + (1 : Int32))) →
                              Q I30) (I14 67 0 (I14 30 0 18).toNatClampNeg) r13 r11 I14) ∧
                          (¬ 0 ≤ r26 →
                            w_Mod_end (fun I31 =>
                              Q I31) (6 : Int32) (0 : Int32) I14))) (I14 67 0 (I14 30 0 18).toNatClampNeg) r13 I14))))) I12) I))) ∧
            (p1 = (17 : Int32) →
              w_Mod_pop (fun r32 I33 =>
                ((r32 = 0 →
                  vp_in (I33 30 0 18) 8 ∧
                  vp_in (I33 30 0 18) 8 ∧
                  ∀ I36 : x_I, I36 = x_u I33 61 0 (I33 30 0 18).toNatClampNeg (((I33 61 0 (I33 30 0 18).toNatClampNeg) + (1 : Int32))) →
                  Q I36) ∧
                (¬ r32 = 0 →
                  vp_in (I33 30 0 18) 8 ∧
                  ∀ I37 : x_I, I37 = x_u I33 61 0 (I33 30 0 18).toNatClampNeg p2 →
                  Q I37))) I))) ∧
          (p1 = (16 : Int32) →
            vp_in (I 30 0 18) 8 ∧
            ∀ I39 : x_I, I39 = x_u I 61 0 (I 30 0 18).toNatClampNeg p2 →
            Q I39))) ∧
        (p1 = (27 : Int32) →
          w_Mod_call (fun I40 =>
            Q I40) p2 I))) ∧
      (p1 = (29 : Int32) →
        w_Mod_pop (fun r41 I42 =>
          w_Mod_end (fun I43 =>
            Q I43) (1 : Int32) r41 I42) I))) ∧
    (p1 = (26 : Int32) →
      w_Mod_pop (fun r44 I45 =>
        w_Mod_end (fun I46 =>
          Q I46) (0 : Int32) r44 I45) I))) ∧
  (p1 = 0 →
    w_Mod_end (fun I47 =>
      Q I47) (0 : Int32) (0 : Int32) I))
set_option maxRecDepth 100000 in
set_option maxHeartbeats 4000000 in
theorem c_Mod_act {l : Launch} {g : x_G} {Y : x_Y} (hY : x_Y0 g Y) {p1 : Int32} {p2 : Int32} (ok0_ : x_ok Y 30 0) {Q : x_I → Prop} {L : x_L} {I : x_I} {k n : Nat} (h : w_Mod_act Q p1 p2 I) : x_C l y_Mod_act 3 g [.ref (x_ad Y 30 0), .int p1, .int p2] Y L I k n (x_pV Y (fun L' I' k' n' => L' = L ∧ k' = k ∧ n' = n ∧ Q I') x_nx) := by
  refine x_mth k_1014 ?_
  intro p e R s m below meth c hE hnm hexn hw hk1 hn1
  obtain ⟨hx, hb, hml, hr, hlk, hown, hK, htr, hF, hLo, hRc, hRs⟩ := id hE
  have hbd : x_bd k n k n := ⟨Nat.le_refl _, hk1, Nat.le_refl _, hn1⟩
  have hl := lv_entry ([.ref (x_ad Y 30 0), .int p1, .int p2]) (n := 5) (Nat.le_of_ble_eq_true rfl)
  generalize (lg_sl [.ref (x_ad Y 30 0), .int p1, .int p2] ++ List.replicate (5 - (lg_sl [.ref (x_ad Y 30 0), .int p1, .int p2]).length) Slot.unset).toArray = ls at hl ⊢
  have hl : lv_has ls 5 [(0, .ref (x_ad Y 30 0)), (1, .int p1), (2, .int p2)] := hl
  generalize s.heap = H at hw ⊢
  generalize ([] : List Loc) = locs at hw ⊢
  unfold w_Mod_act at h
  refine lv_iload_n hx hb d_Mod_act_0 rfl (lv_at hl 1 rfl) ?_
  refine lv_if_ne (tgt := 13) hx hb d_Mod_act_1 (by decide) (fun c1 => ?_) (fun c1 => ?_)
  · replace h := h.1 c1
    refine lv_iload_n hx hb d_Mod_act_13 rfl (lv_at hl 1 rfl) ?_
    refine lv_bipush (v := 26) hx hb d_Mod_act_14 (by decide) ?_
    refine lv_icmp_ne (tgt := 31) hx hb d_Mod_act_16 (by decide) (fun c2 => ?_) (fun c2 => ?_)
    · replace h := h.1 c2
      refine lv_iload_n hx hb d_Mod_act_31 rfl (lv_at hl 1 rfl) ?_
      refine lv_bipush (v := 29) hx hb d_Mod_act_32 (by decide) ?_
      refine lv_icmp_ne (tgt := 49) hx hb d_Mod_act_34 (by decide) (fun c3 => ?_) (fun c3 => ?_)
      · replace h := h.1 c3
        refine lv_iload_n hx hb d_Mod_act_49 rfl (lv_at hl 1 rfl) ?_
        refine lv_bipush (v := 27) hx hb d_Mod_act_50 (by decide) ?_
        refine lv_icmp_ne (tgt := 63) hx hb d_Mod_act_52 (by decide) (fun c4 => ?_) (fun c4 => ?_)
        · replace h := h.1 c4
          refine lv_iload_n hx hb d_Mod_act_63 rfl (lv_at hl 1 rfl) ?_
          refine lv_bipush (v := 16) hx hb d_Mod_act_64 (by decide) ?_
          refine lv_icmp_ne (tgt := 82) hx hb d_Mod_act_66 (by decide) (fun c5 => ?_) (fun c5 => ?_)
          · replace h := h.1 c5
            refine lv_iload_n hx hb d_Mod_act_82 rfl (lv_at hl 1 rfl) ?_
            refine lv_bipush (v := 17) hx hb d_Mod_act_83 (by decide) ?_
            refine lv_icmp_ne (tgt := 124) hx hb d_Mod_act_85 (by decide) (fun c6 => ?_) (fun c6 => ?_)
            · replace h := h.1 c6
              refine lv_iload_n hx hb d_Mod_act_124 rfl (lv_at hl 1 rfl) ?_
              refine lv_bipush (v := 19) hx hb d_Mod_act_125 (by decide) ?_
              refine lv_icmp_ne (tgt := 215) hx hb d_Mod_act_127 (by decide) (fun c7 => ?_) (fun c7 => ?_)
              · replace h := h.1 c7
                refine lv_aload_n hx hb d_Mod_act_215 rfl (lv_at hl 0 rfl) ?_
                refine lv_iload_n hx hb d_Mod_act_216 rfl (lv_at hl 1 rfl) ?_
                refine lv_iload_n hx hb d_Mod_act_217 rfl (lv_at hl 2 rfl) ?_
                refine x_goV (ls := ls) (rest := []) hE hw (c_Mod_simple hY ok0_ h) (x_cd hK k_1030) q_Mod_simple (by decide) (by decide) hl.1 (Nat.le_of_ble_eq_true rfl) hbd d_Mod_act_218 (x_toV (As := [.int p1, .int p2]) (b := (x_ad Y 30 0)) hx hb hown hK (x_recv hK hw ok0_ rfl (by decide)) k_1027 k_1029 ks_35 ⟨_, x_cd hK k_1030⟩ q_Mod_simple rfl rfl d_Mod_act_218) (fun L9 I8 k9 n9 H locs h hw hb9 => ?_) (fun _ _ _ _ _ _ _ h9 => h9.elim)
                obtain ⟨e1, e3, e4, h⟩ := h
                rw [e1] at hw
                rw [e3, e4]
                refine lv_aload_n hx hb d_Mod_act_221 rfl (lv_at hl 0 rfl) ?_
                refine x_getR (t := 30) (i := 0) (j := 21) hx hb hK hw hown ok0_ rfl (by decide) (by decide) (x_wd hK k_819 rfl) (fun _ h => h) fk_8_21 (hY.r ok0_ rfl) d_Mod_act_222 ?_
                have ok9 := hY.ok 21 ok0_ (t' := 61) (i' := 0) rfl
                refine lv_aload_n hx hb d_Mod_act_225 rfl (lv_at hl 0 rfl) ?_
                refine x_getI (t := 30) (i := 0) (j := 18) hx hb hK hw hown ok0_ rfl (by decide) (by decide) (x_wd hK k_816 rfl) (fun _ h => h) fk_8_18 d_Mod_act_226 ?_
                refine lv_dup2_11 hx hb d_Mod_act_229 rfl rfl ?_
                refine x_iald (t := 61) (i := 0) hx hb hK hw ok9 rfl (hY.n ok9 rfl) h.1 d_Mod_act_230 ?_
                replace h := h.2
                refine lv_iconst (v := 1) hx hb d_Mod_act_231 (by decide) ?_
                refine lv_iadd hx hb d_Mod_act_232 ?_
                refine x_iast (t := 61) (i := 0) hx hb hK hw ok9 rfl (hY.n ok9 rfl) h.1 d_Mod_act_233 (fun I10 H locs e_I10 hw => ?_)
                replace h := h.2 I10 e_I10
                exact x_vret hx hb hr hlk hw ⟨rfl, Or.inl ⟨rfl, ⟨rfl, rfl, rfl, h⟩⟩⟩ hbd d_Mod_act_234
              · replace h := h.2 c7
                refine lv_aload_n hx hb d_Mod_act_130 rfl (lv_at hl 0 rfl) ?_
                refine x_goI (ls := ls) (rest := []) hE hw (c_Mod_pop hY ok0_ h) (x_cd hK k_1018) q_Mod_pop (by decide) (by decide) hl.1 (Nat.le_of_ble_eq_true rfl) hbd d_Mod_act_131 (x_toV (As := []) (b := (x_ad Y 30 0)) hx hb hown hK (x_recv hK hw ok0_ rfl (by decide)) k_1015 k_1017 ks_32 ⟨_, x_cd hK k_1018⟩ q_Mod_pop rfl rfl d_Mod_act_131) (fun r11 L9 I12 k9 n9 H locs h hw hb9 => ?_) (fun _ _ _ _ _ _ _ h9 => h9.elim)
                obtain ⟨e1, e3, e4, h⟩ := h
                rw [e1] at hw
                rw [e3, e4]
                refine lv_istore_n (lv' := [(3, .int r11), (0, .ref (x_ad Y 30 0)), (1, .int p1), (2, .int p2)]) hx hb d_Mod_act_134 rfl hl (by decide) rfl (fun ls hl => ?_)
                refine lv_aload_n hx hb d_Mod_act_135 rfl (lv_at hl 1 rfl) ?_
                refine x_goI (ls := ls) (rest := []) hE hw (c_Mod_pop hY ok0_ h) (x_cd hK k_1018) q_Mod_pop (by decide) (by decide) hl.1 (Nat.le_of_ble_eq_true rfl) hbd d_Mod_act_136 (x_toV (As := []) (b := (x_ad Y 30 0)) hx hb hown hK (x_recv hK hw ok0_ rfl (by decide)) k_1015 k_1017 ks_32 ⟨_, x_cd hK k_1018⟩ q_Mod_pop rfl rfl d_Mod_act_136) (fun r13 L9 I14 k9 n9 H locs h hw hb9 => ?_) (fun _ _ _ _ _ _ _ h9 => h9.elim)
                obtain ⟨e1, e3, e4, h⟩ := h
                rw [e1] at hw
                rw [e3, e4]
                refine lv_istore (lv' := [(4, .int r13), (3, .int r11), (0, .ref (x_ad Y 30 0)), (1, .int p1), (2, .int p2)]) hx hb d_Mod_act_139 hl (by decide) rfl (fun ls hl => ?_)
                refine lv_iload_n hx hb d_Mod_act_141 rfl (lv_at hl 1 rfl) ?_
                refine lv_if_eq (tgt := 183) hx hb d_Mod_act_142 (by decide) (fun c15 => ?_) (fun c15 => ?_)
                · replace h := h.1 c15
                  refine lv_aload_n hx hb d_Mod_act_183 rfl (lv_at hl 2 rfl) ?_
                  refine lv_aload_n hx hb d_Mod_act_184 rfl (lv_at hl 2 rfl) ?_
                  refine x_getR (t := 30) (i := 0) (j := 27) hx hb hK hw hown ok0_ rfl (by decide) (by decide) (x_wd hK k_825 rfl) (fun _ h => h) fk_8_27 (hY.r ok0_ rfl) d_Mod_act_185 ?_
                  have ok16 := hY.ok 27 ok0_ (t' := 67) (i' := 0) rfl
                  refine lv_aload_n hx hb d_Mod_act_188 rfl (lv_at hl 2 rfl) ?_
                  refine x_getI (t := 30) (i := 0) (j := 18) hx hb hK hw hown ok0_ rfl (by decide) (by decide) (x_wd hK k_816 rfl) (fun _ h => h) fk_8_18 d_Mod_act_189 ?_
                  refine x_iald (t := 67) (i := 0) hx hb hK hw ok16 rfl (hY.n ok16 rfl) h.1 d_Mod_act_192 ?_
                  replace h := h.2
                  refine lv_iload hx hb d_Mod_act_193 (lv_at hl 0 rfl) ?_
                  refine lv_iload_n hx hb d_Mod_act_195 rfl (lv_at hl 1 rfl) ?_
                  refine x_goV (ls := ls) (rest := []) hE hw (c_Mod_store hY ok0_ h) (x_cd hK k_1026) q_Mod_store (by decide) (by decide) hl.1 (Nat.le_of_ble_eq_true rfl) hbd d_Mod_act_196 (x_toV (As := [.int (I14 67 0 (I14 30 0 18).toNatClampNeg), .int r13, .int r11]) (b := (x_ad Y 30 0)) hx hb hown hK (x_recv hK hw ok0_ rfl (by decide)) k_1023 k_1025 ks_34 ⟨_, x_cd hK k_1026⟩ q_Mod_store rfl rfl d_Mod_act_196) (fun L9 I17 k9 n9 H locs h hw hb9 => ?_) (fun _ _ _ _ _ _ _ h9 => h9.elim)
                  obtain ⟨e1, e3, e4, h⟩ := h
                  rw [e1] at hw
                  rw [e3, e4]
                  refine lv_aload_n hx hb d_Mod_act_199 rfl (lv_at hl 2 rfl) ?_
                  refine x_getR (t := 30) (i := 0) (j := 21) hx hb hK hw hown ok0_ rfl (by decide) (by decide) (x_wd hK k_819 rfl) (fun _ h => h) fk_8_21 (hY.r ok0_ rfl) d_Mod_act_200 ?_
                  have ok18 := hY.ok 21 ok0_ (t' := 61) (i' := 0) rfl
                  refine lv_aload_n hx hb d_Mod_act_203 rfl (lv_at hl 2 rfl) ?_
                  refine x_getI (t := 30) (i := 0) (j := 18) hx hb hK hw hown ok0_ rfl (by decide) (by decide) (x_wd hK k_816 rfl) (fun _ h => h) fk_8_18 d_Mod_act_204 ?_
                  refine lv_dup2_11 hx hb d_Mod_act_207 rfl rfl ?_
                  refine x_iald (t := 61) (i := 0) hx hb hK hw ok18 rfl (hY.n ok18 rfl) h.1 d_Mod_act_208 ?_
                  replace h := h.2
                  refine lv_iconst (v := 1) hx hb d_Mod_act_209 (by decide) ?_
                  refine lv_iadd hx hb d_Mod_act_210 ?_
                  refine x_iast (t := 61) (i := 0) hx hb hK hw ok18 rfl (hY.n ok18 rfl) h.1 d_Mod_act_211 (fun I19 H locs e_I19 hw => ?_)
                  replace h := h.2 I19 e_I19
                  refine lv_goto (tgt := 234) hx hb d_Mod_act_212 (by decide) ?_
                  exact x_vret hx hb hr hlk hw ⟨rfl, Or.inl ⟨rfl, ⟨rfl, rfl, rfl, h⟩⟩⟩ hbd d_Mod_act_234
                · replace h := h.2 c15
                  refine lv_aload_n hx hb d_Mod_act_145 rfl (lv_at hl 2 rfl) ?_
                  refine x_getI (t := 30) (i := 0) (j := 9) hx hb hK hw hown ok0_ rfl (by decide) (by decide) (x_wd hK k_807 rfl) (fun _ h => h) fk_8_9 d_Mod_act_146 ?_
                  refine lv_sipush (v := 500) hx hb d_Mod_act_149 (by decide) ?_
                  refine lv_icmp_ne (tgt := 183) hx hb d_Mod_act_152 (by decide) (fun c20 => ?_) (fun c20 => ?_)
                  · replace h := h.1 c20
                    refine lv_aload_n hx hb d_Mod_act_183 rfl (lv_at hl 2 rfl) ?_
                    refine lv_aload_n hx hb d_Mod_act_184 rfl (lv_at hl 2 rfl) ?_
                    refine x_getR (t := 30) (i := 0) (j := 27) hx hb hK hw hown ok0_ rfl (by decide) (by decide) (x_wd hK k_825 rfl) (fun _ h => h) fk_8_27 (hY.r ok0_ rfl) d_Mod_act_185 ?_
                    have ok21 := hY.ok 27 ok0_ (t' := 67) (i' := 0) rfl
                    refine lv_aload_n hx hb d_Mod_act_188 rfl (lv_at hl 2 rfl) ?_
                    refine x_getI (t := 30) (i := 0) (j := 18) hx hb hK hw hown ok0_ rfl (by decide) (by decide) (x_wd hK k_816 rfl) (fun _ h => h) fk_8_18 d_Mod_act_189 ?_
                    refine x_iald (t := 67) (i := 0) hx hb hK hw ok21 rfl (hY.n ok21 rfl) h.1 d_Mod_act_192 ?_
                    replace h := h.2
                    refine lv_iload hx hb d_Mod_act_193 (lv_at hl 0 rfl) ?_
                    refine lv_iload_n hx hb d_Mod_act_195 rfl (lv_at hl 1 rfl) ?_
                    refine x_goV (ls := ls) (rest := []) hE hw (c_Mod_store hY ok0_ h) (x_cd hK k_1026) q_Mod_store (by decide) (by decide) hl.1 (Nat.le_of_ble_eq_true rfl) hbd d_Mod_act_196 (x_toV (As := [.int (I14 67 0 (I14 30 0 18).toNatClampNeg), .int r13, .int r11]) (b := (x_ad Y 30 0)) hx hb hown hK (x_recv hK hw ok0_ rfl (by decide)) k_1023 k_1025 ks_34 ⟨_, x_cd hK k_1026⟩ q_Mod_store rfl rfl d_Mod_act_196) (fun L9 I22 k9 n9 H locs h hw hb9 => ?_) (fun _ _ _ _ _ _ _ h9 => h9.elim)
                    obtain ⟨e1, e3, e4, h⟩ := h
                    rw [e1] at hw
                    rw [e3, e4]
                    refine lv_aload_n hx hb d_Mod_act_199 rfl (lv_at hl 2 rfl) ?_
                    refine x_getR (t := 30) (i := 0) (j := 21) hx hb hK hw hown ok0_ rfl (by decide) (by decide) (x_wd hK k_819 rfl) (fun _ h => h) fk_8_21 (hY.r ok0_ rfl) d_Mod_act_200 ?_
                    have ok23 := hY.ok 21 ok0_ (t' := 61) (i' := 0) rfl
                    refine lv_aload_n hx hb d_Mod_act_203 rfl (lv_at hl 2 rfl) ?_
                    refine x_getI (t := 30) (i := 0) (j := 18) hx hb hK hw hown ok0_ rfl (by decide) (by decide) (x_wd hK k_816 rfl) (fun _ h => h) fk_8_18 d_Mod_act_204 ?_
                    refine lv_dup2_11 hx hb d_Mod_act_207 rfl rfl ?_
                    refine x_iald (t := 61) (i := 0) hx hb hK hw ok23 rfl (hY.n ok23 rfl) h.1 d_Mod_act_208 ?_
                    replace h := h.2
                    refine lv_iconst (v := 1) hx hb d_Mod_act_209 (by decide) ?_
                    refine lv_iadd hx hb d_Mod_act_210 ?_
                    refine x_iast (t := 61) (i := 0) hx hb hK hw ok23 rfl (hY.n ok23 rfl) h.1 d_Mod_act_211 (fun I24 H locs e_I24 hw => ?_)
                    replace h := h.2 I24 e_I24
                    refine lv_goto (tgt := 234) hx hb d_Mod_act_212 (by decide) ?_
                    exact x_vret hx hb hr hlk hw ⟨rfl, Or.inl ⟨rfl, ⟨rfl, rfl, rfl, h⟩⟩⟩ hbd d_Mod_act_234
                  · replace h := h.2 c20
                    refine lv_aload_n hx hb d_Mod_act_155 rfl (lv_at hl 2 rfl) ?_
                    refine lv_aload_n hx hb d_Mod_act_156 rfl (lv_at hl 2 rfl) ?_
                    refine x_getR (t := 30) (i := 0) (j := 27) hx hb hK hw hown ok0_ rfl (by decide) (by decide) (x_wd hK k_825 rfl) (fun _ h => h) fk_8_27 (hY.r ok0_ rfl) d_Mod_act_157 ?_
                    have ok25 := hY.ok 27 ok0_ (t' := 67) (i' := 0) rfl
                    refine lv_aload_n hx hb d_Mod_act_160 rfl (lv_at hl 2 rfl) ?_
                    refine x_getI (t := 30) (i := 0) (j := 18) hx hb hK hw hown ok0_ rfl (by decide) (by decide) (x_wd hK k_816 rfl) (fun _ h => h) fk_8_18 d_Mod_act_161 ?_
                    refine x_iald (t := 67) (i := 0) hx hb hK hw ok25 rfl (hY.n ok25 rfl) h.1 d_Mod_act_164 ?_
                    replace h := h.2
                    refine lv_iload hx hb d_Mod_act_165 (lv_at hl 0 rfl) ?_
                    refine x_goI (ls := ls) (rest := []) hE hw (c_Mod_keyOf hY ok0_ h) (x_cd hK k_949) q_Mod_keyOf (by decide) (by decide) hl.1 (Nat.le_of_ble_eq_true rfl) hbd d_Mod_act_167 (x_toV (As := [.int (I14 67 0 (I14 30 0 18).toNatClampNeg), .int r13]) (b := (x_ad Y 30 0)) hx hb hown hK (x_recv hK hw ok0_ rfl (by decide)) k_946 k_948 ks_23 ⟨_, x_cd hK k_949⟩ q_Mod_keyOf rfl rfl d_Mod_act_167) (fun r26 L9 I9 k9 n9 H locs h hw hb9 => ?_) (fun _ _ _ _ _ _ _ h9 => h9.elim)
                    obtain ⟨e1, e2, e3, e4, h⟩ := h
                    rw [e1, e2] at hw
                    rw [e3, e4]
                    refine lv_if_ge (tgt := 183) hx hb d_Mod_act_170 (by decide) (fun c27 => ?_) (fun c27 => ?_)
                    · replace h := h.1 c27
                      refine lv_aload_n hx hb d_Mod_act_183 rfl (lv_at hl 2 rfl) ?_
                      refine lv_aload_n hx hb d_Mod_act_184 rfl (lv_at hl 2 rfl) ?_
                      refine x_getR (t := 30) (i := 0) (j := 27) hx hb hK hw hown ok0_ rfl (by decide) (by decide) (x_wd hK k_825 rfl) (fun _ h => h) fk_8_27 (hY.r ok0_ rfl) d_Mod_act_185 ?_
                      refine lv_aload_n hx hb d_Mod_act_188 rfl (lv_at hl 2 rfl) ?_
                      refine x_getI (t := 30) (i := 0) (j := 18) hx hb hK hw hown ok0_ rfl (by decide) (by decide) (x_wd hK k_816 rfl) (fun _ h => h) fk_8_18 d_Mod_act_189 ?_
                      refine x_iald (t := 67) (i := 0) hx hb hK hw ok25 rfl (hY.n ok25 rfl) h.1 d_Mod_act_192 ?_
                      replace h := h.2
                      refine lv_iload hx hb d_Mod_act_193 (lv_at hl 0 rfl) ?_
                      refine lv_iload_n hx hb d_Mod_act_195 rfl (lv_at hl 1 rfl) ?_
                      refine x_goV (ls := ls) (rest := []) hE hw (c_Mod_store hY ok0_ h) (x_cd hK k_1026) q_Mod_store (by decide) (by decide) hl.1 (Nat.le_of_ble_eq_true rfl) hbd d_Mod_act_196 (x_toV (As := [.int (I14 67 0 (I14 30 0 18).toNatClampNeg), .int r13, .int r11]) (b := (x_ad Y 30 0)) hx hb hown hK (x_recv hK hw ok0_ rfl (by decide)) k_1023 k_1025 ks_34 ⟨_, x_cd hK k_1026⟩ q_Mod_store rfl rfl d_Mod_act_196) (fun L9 I28 k9 n9 H locs h hw hb9 => ?_) (fun _ _ _ _ _ _ _ h9 => h9.elim)
                      obtain ⟨e1, e3, e4, h⟩ := h
                      rw [e1] at hw
                      rw [e3, e4]
                      refine lv_aload_n hx hb d_Mod_act_199 rfl (lv_at hl 2 rfl) ?_
                      refine x_getR (t := 30) (i := 0) (j := 21) hx hb hK hw hown ok0_ rfl (by decide) (by decide) (x_wd hK k_819 rfl) (fun _ h => h) fk_8_21 (hY.r ok0_ rfl) d_Mod_act_200 ?_
                      have ok29 := hY.ok 21 ok0_ (t' := 61) (i' := 0) rfl
                      refine lv_aload_n hx hb d_Mod_act_203 rfl (lv_at hl 2 rfl) ?_
                      refine x_getI (t := 30) (i := 0) (j := 18) hx hb hK hw hown ok0_ rfl (by decide) (by decide) (x_wd hK k_816 rfl) (fun _ h => h) fk_8_18 d_Mod_act_204 ?_
                      refine lv_dup2_11 hx hb d_Mod_act_207 rfl rfl ?_
                      refine x_iald (t := 61) (i := 0) hx hb hK hw ok29 rfl (hY.n ok29 rfl) h.1 d_Mod_act_208 ?_
                      replace h := h.2
                      refine lv_iconst (v := 1) hx hb d_Mod_act_209 (by decide) ?_
                      refine lv_iadd hx hb d_Mod_act_210 ?_
                      refine x_iast (t := 61) (i := 0) hx hb hK hw ok29 rfl (hY.n ok29 rfl) h.1 d_Mod_act_211 (fun I30 H locs e_I30 hw => ?_)
                      replace h := h.2 I30 e_I30
                      refine lv_goto (tgt := 234) hx hb d_Mod_act_212 (by decide) ?_
                      exact x_vret hx hb hr hlk hw ⟨rfl, Or.inl ⟨rfl, ⟨rfl, rfl, rfl, h⟩⟩⟩ hbd d_Mod_act_234
                    · replace h := h.2 c27
                      refine lv_aload_n hx hb d_Mod_act_173 rfl (lv_at hl 2 rfl) ?_
                      refine lv_bipush (v := 6) hx hb d_Mod_act_174 (by decide) ?_
                      refine lv_iconst (v := 0) hx hb d_Mod_act_176 (by decide) ?_
                      refine x_goV (ls := ls) (rest := []) hE hw (c_Mod_end hY ok0_ h) (x_cd hK k_985) q_Mod_end (by decide) (by decide) hl.1 (Nat.le_of_ble_eq_true rfl) hbd d_Mod_act_177 (x_toV (As := [.int (6 : Int32), .int (0 : Int32)]) (b := (x_ad Y 30 0)) hx hb hown hK (x_recv hK hw ok0_ rfl (by decide)) k_982 k_984 ks_26 ⟨_, x_cd hK k_985⟩ q_Mod_end rfl rfl d_Mod_act_177) (fun L9 I31 k9 n9 H locs h hw hb9 => ?_) (fun _ _ _ _ _ _ _ h9 => h9.elim)
                      obtain ⟨e1, e3, e4, h⟩ := h
                      rw [e1] at hw
                      rw [e3, e4]
                      refine lv_goto (tgt := 212) hx hb d_Mod_act_180 (by decide) ?_
                      refine lv_goto (tgt := 234) hx hb d_Mod_act_212 (by decide) ?_
                      exact x_vret hx hb hr hlk hw ⟨rfl, Or.inl ⟨rfl, ⟨rfl, rfl, rfl, h⟩⟩⟩ hbd d_Mod_act_234
            · replace h := h.2 c6
              refine lv_aload_n hx hb d_Mod_act_88 rfl (lv_at hl 0 rfl) ?_
              refine x_goI (ls := ls) (rest := []) hE hw (c_Mod_pop hY ok0_ h) (x_cd hK k_1018) q_Mod_pop (by decide) (by decide) hl.1 (Nat.le_of_ble_eq_true rfl) hbd d_Mod_act_89 (x_toV (As := []) (b := (x_ad Y 30 0)) hx hb hown hK (x_recv hK hw ok0_ rfl (by decide)) k_1015 k_1017 ks_32 ⟨_, x_cd hK k_1018⟩ q_Mod_pop rfl rfl d_Mod_act_89) (fun r32 L9 I33 k9 n9 H locs h hw hb9 => ?_) (fun _ _ _ _ _ _ _ h9 => h9.elim)
              obtain ⟨e1, e3, e4, h⟩ := h
              rw [e1] at hw
              rw [e3, e4]
              refine lv_istore_n (lv' := [(3, .int r32), (0, .ref (x_ad Y 30 0)), (1, .int p1), (2, .int p2)]) hx hb d_Mod_act_92 rfl hl (by decide) rfl (fun ls hl => ?_)
              refine lv_aload_n hx hb d_Mod_act_93 rfl (lv_at hl 1 rfl) ?_
              refine x_getR (t := 30) (i := 0) (j := 21) hx hb hK hw hown ok0_ rfl (by decide) (by decide) (x_wd hK k_819 rfl) (fun _ h => h) fk_8_21 (hY.r ok0_ rfl) d_Mod_act_94 ?_
              have ok34 := hY.ok 21 ok0_ (t' := 61) (i' := 0) rfl
              refine lv_aload_n hx hb d_Mod_act_97 rfl (lv_at hl 1 rfl) ?_
              refine x_getI (t := 30) (i := 0) (j := 18) hx hb hK hw hown ok0_ rfl (by decide) (by decide) (x_wd hK k_816 rfl) (fun _ h => h) fk_8_18 d_Mod_act_98 ?_
              refine lv_iload_n hx hb d_Mod_act_101 rfl (lv_at hl 0 rfl) ?_
              refine lv_if_eq (tgt := 109) hx hb d_Mod_act_102 (by decide) (fun c35 => ?_) (fun c35 => ?_)
              · replace h := h.1 c35
                refine lv_aload_n hx hb d_Mod_act_109 rfl (lv_at hl 1 rfl) ?_
                refine x_getR (t := 30) (i := 0) (j := 21) hx hb hK hw hown ok0_ rfl (by decide) (by decide) (x_wd hK k_819 rfl) (fun _ h => h) fk_8_21 (hY.r ok0_ rfl) d_Mod_act_110 ?_
                refine lv_aload_n hx hb d_Mod_act_113 rfl (lv_at hl 1 rfl) ?_
                refine x_getI (t := 30) (i := 0) (j := 18) hx hb hK hw hown ok0_ rfl (by decide) (by decide) (x_wd hK k_816 rfl) (fun _ h => h) fk_8_18 d_Mod_act_114 ?_
                refine x_iald (t := 61) (i := 0) hx hb hK hw ok34 rfl (hY.n ok34 rfl) h.1 d_Mod_act_117 ?_
                replace h := h.2
                refine lv_iconst (v := 1) hx hb d_Mod_act_118 (by decide) ?_
                refine lv_iadd hx hb d_Mod_act_119 ?_
                refine x_iast (t := 61) (i := 0) hx hb hK hw ok34 rfl (hY.n ok34 rfl) h.1 d_Mod_act_120 (fun I36 H locs e_I36 hw => ?_)
                replace h := h.2 I36 e_I36
                refine lv_goto (tgt := 234) hx hb d_Mod_act_121 (by decide) ?_
                exact x_vret hx hb hr hlk hw ⟨rfl, Or.inl ⟨rfl, ⟨rfl, rfl, rfl, h⟩⟩⟩ hbd d_Mod_act_234
              · replace h := h.2 c35
                refine lv_iload_n hx hb d_Mod_act_105 rfl (lv_at hl 3 rfl) ?_
                refine lv_goto (tgt := 120) hx hb d_Mod_act_106 (by decide) ?_
                refine x_iast (t := 61) (i := 0) hx hb hK hw ok34 rfl (hY.n ok34 rfl) h.1 d_Mod_act_120 (fun I37 H locs e_I37 hw => ?_)
                replace h := h.2 I37 e_I37
                refine lv_goto (tgt := 234) hx hb d_Mod_act_121 (by decide) ?_
                exact x_vret hx hb hr hlk hw ⟨rfl, Or.inl ⟨rfl, ⟨rfl, rfl, rfl, h⟩⟩⟩ hbd d_Mod_act_234
          · replace h := h.2 c5
            refine lv_aload_n hx hb d_Mod_act_69 rfl (lv_at hl 0 rfl) ?_
            refine x_getR (t := 30) (i := 0) (j := 21) hx hb hK hw hown ok0_ rfl (by decide) (by decide) (x_wd hK k_819 rfl) (fun _ h => h) fk_8_21 (hY.r ok0_ rfl) d_Mod_act_70 ?_
            have ok38 := hY.ok 21 ok0_ (t' := 61) (i' := 0) rfl
            refine lv_aload_n hx hb d_Mod_act_73 rfl (lv_at hl 0 rfl) ?_
            refine x_getI (t := 30) (i := 0) (j := 18) hx hb hK hw hown ok0_ rfl (by decide) (by decide) (x_wd hK k_816 rfl) (fun _ h => h) fk_8_18 d_Mod_act_74 ?_
            refine lv_iload_n hx hb d_Mod_act_77 rfl (lv_at hl 2 rfl) ?_
            refine x_iast (t := 61) (i := 0) hx hb hK hw ok38 rfl (hY.n ok38 rfl) h.1 d_Mod_act_78 (fun I39 H locs e_I39 hw => ?_)
            replace h := h.2 I39 e_I39
            refine lv_goto (tgt := 234) hx hb d_Mod_act_79 (by decide) ?_
            exact x_vret hx hb hr hlk hw ⟨rfl, Or.inl ⟨rfl, ⟨rfl, rfl, rfl, h⟩⟩⟩ hbd d_Mod_act_234
        · replace h := h.2 c4
          refine lv_aload_n hx hb d_Mod_act_55 rfl (lv_at hl 0 rfl) ?_
          refine lv_iload_n hx hb d_Mod_act_56 rfl (lv_at hl 2 rfl) ?_
          refine x_goV (ls := ls) (rest := []) hE hw (c_Mod_call hY ok0_ h) (x_cd hK k_1022) q_Mod_call (by decide) (by decide) hl.1 (Nat.le_of_ble_eq_true rfl) hbd d_Mod_act_57 (x_toV (As := [.int p2]) (b := (x_ad Y 30 0)) hx hb hown hK (x_recv hK hw ok0_ rfl (by decide)) k_1019 k_1021 ks_33 ⟨_, x_cd hK k_1022⟩ q_Mod_call rfl rfl d_Mod_act_57) (fun L9 I40 k9 n9 H locs h hw hb9 => ?_) (fun _ _ _ _ _ _ _ h9 => h9.elim)
          obtain ⟨e1, e3, e4, h⟩ := h
          rw [e1] at hw
          rw [e3, e4]
          refine lv_goto (tgt := 234) hx hb d_Mod_act_60 (by decide) ?_
          exact x_vret hx hb hr hlk hw ⟨rfl, Or.inl ⟨rfl, ⟨rfl, rfl, rfl, h⟩⟩⟩ hbd d_Mod_act_234
      · replace h := h.2 c3
        refine lv_aload_n hx hb d_Mod_act_37 rfl (lv_at hl 0 rfl) ?_
        refine lv_iconst (v := 1) hx hb d_Mod_act_38 (by decide) ?_
        refine lv_aload_n hx hb d_Mod_act_39 rfl (lv_at hl 0 rfl) ?_
        refine x_goI (ls := ls) (rest := [.int (1 : Int32), .ref (x_ad Y 30 0)]) hE hw (c_Mod_pop hY ok0_ h) (x_cd hK k_1018) q_Mod_pop (by decide) (by decide) hl.1 (Nat.le_of_ble_eq_true rfl) hbd d_Mod_act_40 (x_toV (As := []) (b := (x_ad Y 30 0)) hx hb hown hK (x_recv hK hw ok0_ rfl (by decide)) k_1015 k_1017 ks_32 ⟨_, x_cd hK k_1018⟩ q_Mod_pop rfl rfl d_Mod_act_40) (fun r41 L9 I42 k9 n9 H locs h hw hb9 => ?_) (fun _ _ _ _ _ _ _ h9 => h9.elim)
        obtain ⟨e1, e3, e4, h⟩ := h
        rw [e1] at hw
        rw [e3, e4]
        refine x_goV (ls := ls) (rest := []) hE hw (c_Mod_end hY ok0_ h) (x_cd hK k_985) q_Mod_end (by decide) (by decide) hl.1 (Nat.le_of_ble_eq_true rfl) hbd d_Mod_act_43 (x_toV (As := [.int (1 : Int32), .int r41]) (b := (x_ad Y 30 0)) hx hb hown hK (x_recv hK hw ok0_ rfl (by decide)) k_982 k_984 ks_26 ⟨_, x_cd hK k_985⟩ q_Mod_end rfl rfl d_Mod_act_43) (fun L9 I43 k9 n9 H locs h hw hb9 => ?_) (fun _ _ _ _ _ _ _ h9 => h9.elim)
        obtain ⟨e1, e3, e4, h⟩ := h
        rw [e1] at hw
        rw [e3, e4]
        refine lv_goto (tgt := 234) hx hb d_Mod_act_46 (by decide) ?_
        exact x_vret hx hb hr hlk hw ⟨rfl, Or.inl ⟨rfl, ⟨rfl, rfl, rfl, h⟩⟩⟩ hbd d_Mod_act_234
    · replace h := h.2 c2
      refine lv_aload_n hx hb d_Mod_act_19 rfl (lv_at hl 0 rfl) ?_
      refine lv_iconst (v := 0) hx hb d_Mod_act_20 (by decide) ?_
      refine lv_aload_n hx hb d_Mod_act_21 rfl (lv_at hl 0 rfl) ?_
      refine x_goI (ls := ls) (rest := [.int (0 : Int32), .ref (x_ad Y 30 0)]) hE hw (c_Mod_pop hY ok0_ h) (x_cd hK k_1018) q_Mod_pop (by decide) (by decide) hl.1 (Nat.le_of_ble_eq_true rfl) hbd d_Mod_act_22 (x_toV (As := []) (b := (x_ad Y 30 0)) hx hb hown hK (x_recv hK hw ok0_ rfl (by decide)) k_1015 k_1017 ks_32 ⟨_, x_cd hK k_1018⟩ q_Mod_pop rfl rfl d_Mod_act_22) (fun r44 L9 I45 k9 n9 H locs h hw hb9 => ?_) (fun _ _ _ _ _ _ _ h9 => h9.elim)
      obtain ⟨e1, e3, e4, h⟩ := h
      rw [e1] at hw
      rw [e3, e4]
      refine x_goV (ls := ls) (rest := []) hE hw (c_Mod_end hY ok0_ h) (x_cd hK k_985) q_Mod_end (by decide) (by decide) hl.1 (Nat.le_of_ble_eq_true rfl) hbd d_Mod_act_25 (x_toV (As := [.int (0 : Int32), .int r44]) (b := (x_ad Y 30 0)) hx hb hown hK (x_recv hK hw ok0_ rfl (by decide)) k_982 k_984 ks_26 ⟨_, x_cd hK k_985⟩ q_Mod_end rfl rfl d_Mod_act_25) (fun L9 I46 k9 n9 H locs h hw hb9 => ?_) (fun _ _ _ _ _ _ _ h9 => h9.elim)
      obtain ⟨e1, e3, e4, h⟩ := h
      rw [e1] at hw
      rw [e3, e4]
      refine lv_goto (tgt := 234) hx hb d_Mod_act_28 (by decide) ?_
      exact x_vret hx hb hr hlk hw ⟨rfl, Or.inl ⟨rfl, ⟨rfl, rfl, rfl, h⟩⟩⟩ hbd d_Mod_act_234
  · replace h := h.2 c1
    refine lv_aload_n hx hb d_Mod_act_4 rfl (lv_at hl 0 rfl) ?_
    refine lv_iconst (v := 0) hx hb d_Mod_act_5 (by decide) ?_
    refine lv_iconst (v := 0) hx hb d_Mod_act_6 (by decide) ?_
    refine x_goV (ls := ls) (rest := []) hE hw (c_Mod_end hY ok0_ h) (x_cd hK k_985) q_Mod_end (by decide) (by decide) hl.1 (Nat.le_of_ble_eq_true rfl) hbd d_Mod_act_7 (x_toV (As := [.int (0 : Int32), .int (0 : Int32)]) (b := (x_ad Y 30 0)) hx hb hown hK (x_recv hK hw ok0_ rfl (by decide)) k_982 k_984 ks_26 ⟨_, x_cd hK k_985⟩ q_Mod_end rfl rfl d_Mod_act_7) (fun L9 I47 k9 n9 H locs h hw hb9 => ?_) (fun _ _ _ _ _ _ _ h9 => h9.elim)
    obtain ⟨e1, e3, e4, h⟩ := h
    rw [e1] at hw
    rw [e3, e4]
    refine lv_goto (tgt := 234) hx hb d_Mod_act_10 (by decide) ?_
    exact x_vret hx hb hr hlk hw ⟨rfl, Or.inl ⟨rfl, ⟨rfl, rfl, rfl, h⟩⟩⟩ hbd d_Mod_act_234
def w_Mod_step (Q : x_I → Prop) (I : x_I) : Prop :=
  vp_in (I 30 0 18) 8 ∧
  ∀ x2 : Int32, x2 = (I 67 0 (I 30 0 18).toNatClampNeg) →
  vp_in x2 24 ∧
  (((I 45 0 x2.toNatClampNeg) = 0 →
    w_Mod_end (fun I5 =>
      Q I5) (0 : Int32) (0 : Int32) I) ∧
  (¬ (I 45 0 x2.toNatClampNeg) = 0 →
    vp_in (I 30 0 18) 8 ∧
    vp_in x2 24 ∧
    ((¬ (I 61 0 (I 30 0 18).toNatClampNeg) = (I 44 0 x2.toNatClampNeg) →
      vp_in (I 30 0 18) 8 ∧
      vp_in ((((160 : Int32) * x2) + (I 61 0 (I 30 0 18).toNatClampNeg))) 3840 ∧
      ∀ x10 : Int32, x10 = (I 43 0 ((((160 : Int32) * x2) + (I 61 0 (I 30 0 18).toNatClampNeg))).toNatClampNeg) →
      ∀ x11 : Int32, x11 = (x10 &&& (255 : Int32)) →
      ∀ x12 : Int32, x12 = (x10 >>> ((8 : Int32) &&& 31)) →
      w_Mod_price (fun r13 =>
        vp_in (I 30 0 18) 8 ∧
        ((r13 ≤ (I 66 0 (I 30 0 18).toNatClampNeg) →
          vp_in (I 30 0 18) 8 ∧
          vp_in (I 30 0 18) 8 ∧
          ∀ I16 : x_I, I16 = x_u I 66 0 (I 30 0 18).toNatClampNeg (((I 66 0 (I 30 0 18).toNatClampNeg) - r13)) →
          w_Mod_needs (fun r17 =>
            vp_in (I16 30 0 18) 8 ∧
            ((r17 ≤ (I16 60 0 (I16 30 0 18).toNatClampNeg) →
              vp_in (I16 30 0 18) 8 ∧
              w_Mod_leaves (fun r20 =>
                (((((I16 60 0 (I16 30 0 18).toNatClampNeg) - r17) + r20) ≤ (32 : Int32) →
                  w_Mod_act (fun I22 =>
                    Q I22) x11 x12 I16) ∧
                (¬ (((I16 60 0 (I16 30 0 18).toNatClampNeg) - r17) + r20) ≤ (32 : Int32) →
                  w_Mod_end (fun I23 =>
                    Q I23) (4 : Int32) (0 : Int32) I16))) x11 x12) ∧
            (¬ r17 ≤ (I16 60 0 (I16 30 0 18).toNatClampNeg) →
              w_Mod_end (fun I24 =>
                Q I24) (3 : Int32) (0 : Int32) I16))) x11 x12) ∧
        (¬ r13 ≤ (I 66 0 (I 30 0 18).toNatClampNeg) →
          w_Mod_end (fun I25 =>
            Q I25) (2 : Int32) (0 : Int32) I))) x11 I) ∧
    ((I 61 0 (I 30 0 18).toNatClampNeg) = (I 44 0 x2.toNatClampNeg) →
      w_Mod_end (fun I26 =>
        Q I26) (0 : Int32) (0 : Int32) I))))
set_option maxRecDepth 100000 in
set_option maxHeartbeats 4000000 in
theorem c_Mod_step {l : Launch} {g : x_G} {Y : x_Y} (hY : x_Y0 g Y) (ok0_ : x_ok Y 30 0) {Q : x_I → Prop} {L : x_L} {I : x_I} {k n : Nat} (h : w_Mod_step Q I) : x_C l y_Mod_step 4 g [.ref (x_ad Y 30 0)] Y L I k n (x_pV Y (fun L' I' k' n' => L' = L ∧ k' = k ∧ n' = n ∧ Q I') x_nx) := by
  refine x_mth k_981 ?_
  intro p e R s m below meth c hE hnm hexn hw hk1 hn1
  obtain ⟨hx, hb, hml, hr, hlk, hown, hK, htr, hF, hLo, hRc, hRs⟩ := id hE
  have hbd : x_bd k n k n := ⟨Nat.le_refl _, hk1, Nat.le_refl _, hn1⟩
  have hl := lv_entry ([.ref (x_ad Y 30 0)]) (n := 7) (Nat.le_of_ble_eq_true rfl)
  generalize (lg_sl [.ref (x_ad Y 30 0)] ++ List.replicate (7 - (lg_sl [.ref (x_ad Y 30 0)]).length) Slot.unset).toArray = ls at hl ⊢
  have hl : lv_has ls 7 [(0, .ref (x_ad Y 30 0))] := hl
  generalize s.heap = H at hw ⊢
  generalize ([] : List Loc) = locs at hw ⊢
  unfold w_Mod_step at h
  refine lv_aload_n hx hb d_Mod_step_0 rfl (lv_at hl 0 rfl) ?_
  refine x_getR (t := 30) (i := 0) (j := 27) hx hb hK hw hown ok0_ rfl (by decide) (by decide) (x_wd hK k_825 rfl) (fun _ h => h) fk_8_27 (hY.r ok0_ rfl) d_Mod_step_1 ?_
  have ok1 := hY.ok 27 ok0_ (t' := 67) (i' := 0) rfl
  refine lv_aload_n hx hb d_Mod_step_4 rfl (lv_at hl 0 rfl) ?_
  refine x_getI (t := 30) (i := 0) (j := 18) hx hb hK hw hown ok0_ rfl (by decide) (by decide) (x_wd hK k_816 rfl) (fun _ h => h) fk_8_18 d_Mod_step_5 ?_
  refine x_iald (t := 67) (i := 0) hx hb hK hw ok1 rfl (hY.n ok1 rfl) h.1 d_Mod_step_8 ?_
  replace h := h.2
  refine lv_topi (fun x2 e_x2 => ?_)
  replace h := h x2 e_x2
  refine lv_istore_n (lv' := [(1, .int x2), (0, .ref (x_ad Y 30 0))]) hx hb d_Mod_step_9 rfl hl (by decide) rfl (fun ls hl => ?_)
  refine lv_aload_n hx hb d_Mod_step_10 rfl (lv_at hl 1 rfl) ?_
  refine x_getR (t := 30) (i := 0) (j := 5) hx hb hK hw hown ok0_ rfl (by decide) (by decide) (x_wd hK k_803 rfl) (fun _ h => h) fk_8_5 (hY.r ok0_ rfl) d_Mod_step_11 ?_
  have ok3 := hY.ok 5 ok0_ (t' := 45) (i' := 0) rfl
  refine lv_iload_n hx hb d_Mod_step_14 rfl (lv_at hl 0 rfl) ?_
  refine x_zald (t := 45) (i := 0) hx hb hK hw ok3 rfl (hY.n ok3 rfl) h.1 d_Mod_step_15 ?_
  replace h := h.2
  refine lv_if_eq (tgt := 37) hx hb d_Mod_step_16 (by decide) (fun c4 => ?_) (fun c4 => ?_)
  · replace h := h.1 c4
    refine lv_aload_n hx hb d_Mod_step_37 rfl (lv_at hl 1 rfl) ?_
    refine lv_iconst (v := 0) hx hb d_Mod_step_38 (by decide) ?_
    refine lv_iconst (v := 0) hx hb d_Mod_step_39 (by decide) ?_
    refine x_goV (ls := ls) (rest := []) hE hw (c_Mod_end hY ok0_ h) (x_cd hK k_985) q_Mod_end (by decide) (by decide) hl.1 (Nat.le_of_ble_eq_true rfl) hbd d_Mod_step_40 (x_toV (As := [.int (0 : Int32), .int (0 : Int32)]) (b := (x_ad Y 30 0)) hx hb hown hK (x_recv hK hw ok0_ rfl (by decide)) k_982 k_984 ks_26 ⟨_, x_cd hK k_985⟩ q_Mod_end rfl rfl d_Mod_step_40) (fun L9 I5 k9 n9 H locs h hw hb9 => ?_) (fun _ _ _ _ _ _ _ h9 => h9.elim)
    obtain ⟨e1, e3, e4, h⟩ := h
    rw [e1] at hw
    rw [e3, e4]
    exact x_vret hx hb hr hlk hw ⟨rfl, Or.inl ⟨rfl, ⟨rfl, rfl, rfl, h⟩⟩⟩ hbd d_Mod_step_43
  · replace h := h.2 c4
    refine lv_aload_n hx hb d_Mod_step_19 rfl (lv_at hl 1 rfl) ?_
    refine x_getR (t := 30) (i := 0) (j := 21) hx hb hK hw hown ok0_ rfl (by decide) (by decide) (x_wd hK k_819 rfl) (fun _ h => h) fk_8_21 (hY.r ok0_ rfl) d_Mod_step_20 ?_
    have ok6 := hY.ok 21 ok0_ (t' := 61) (i' := 0) rfl
    refine lv_aload_n hx hb d_Mod_step_23 rfl (lv_at hl 1 rfl) ?_
    refine x_getI (t := 30) (i := 0) (j := 18) hx hb hK hw hown ok0_ rfl (by decide) (by decide) (x_wd hK k_816 rfl) (fun _ h => h) fk_8_18 d_Mod_step_24 ?_
    refine x_iald (t := 61) (i := 0) hx hb hK hw ok6 rfl (hY.n ok6 rfl) h.1 d_Mod_step_27 ?_
    replace h := h.2
    refine lv_aload_n hx hb d_Mod_step_28 rfl (lv_at hl 1 rfl) ?_
    refine x_getR (t := 30) (i := 0) (j := 4) hx hb hK hw hown ok0_ rfl (by decide) (by decide) (x_wd hK k_802 rfl) (fun _ h => h) fk_8_4 (hY.r ok0_ rfl) d_Mod_step_29 ?_
    have ok7 := hY.ok 4 ok0_ (t' := 44) (i' := 0) rfl
    refine lv_iload_n hx hb d_Mod_step_32 rfl (lv_at hl 0 rfl) ?_
    refine x_iald (t := 44) (i := 0) hx hb hK hw ok7 rfl (hY.n ok7 rfl) h.1 d_Mod_step_33 ?_
    replace h := h.2
    refine lv_icmp_ne (tgt := 44) hx hb d_Mod_step_34 (by decide) (fun c8 => ?_) (fun c8 => ?_)
    · replace h := h.1 c8
      refine lv_aload_n hx hb d_Mod_step_44 rfl (lv_at hl 1 rfl) ?_
      refine x_getR (t := 30) (i := 0) (j := 3) hx hb hK hw hown ok0_ rfl (by decide) (by decide) (x_wd hK k_801 rfl) (fun _ h => h) fk_8_3 (hY.r ok0_ rfl) d_Mod_step_45 ?_
      have ok9 := hY.ok 3 ok0_ (t' := 43) (i' := 0) rfl
      refine lv_sipush (v := 160) hx hb d_Mod_step_48 (by decide) ?_
      refine lv_iload_n hx hb d_Mod_step_51 rfl (lv_at hl 0 rfl) ?_
      refine lv_imul hx hb d_Mod_step_52 ?_
      refine lv_aload_n hx hb d_Mod_step_53 rfl (lv_at hl 1 rfl) ?_
      refine x_getR (t := 30) (i := 0) (j := 21) hx hb hK hw hown ok0_ rfl (by decide) (by decide) (x_wd hK k_819 rfl) (fun _ h => h) fk_8_21 (hY.r ok0_ rfl) d_Mod_step_54 ?_
      refine lv_aload_n hx hb d_Mod_step_57 rfl (lv_at hl 1 rfl) ?_
      refine x_getI (t := 30) (i := 0) (j := 18) hx hb hK hw hown ok0_ rfl (by decide) (by decide) (x_wd hK k_816 rfl) (fun _ h => h) fk_8_18 d_Mod_step_58 ?_
      refine x_iald (t := 61) (i := 0) hx hb hK hw ok6 rfl (hY.n ok6 rfl) h.1 d_Mod_step_61 ?_
      replace h := h.2
      refine lv_iadd hx hb d_Mod_step_62 ?_
      refine x_iald (t := 43) (i := 0) hx hb hK hw ok9 rfl (hY.n ok9 rfl) h.1 d_Mod_step_63 ?_
      replace h := h.2
      refine lv_topi (fun x10 e_x10 => ?_)
      replace h := h x10 e_x10
      refine lv_istore_n (lv' := [(2, .int x10), (1, .int x2), (0, .ref (x_ad Y 30 0))]) hx hb d_Mod_step_64 rfl hl (by decide) rfl (fun ls hl => ?_)
      refine lv_iload_n hx hb d_Mod_step_65 rfl (lv_at hl 0 rfl) ?_
      refine lv_sipush (v := 255) hx hb d_Mod_step_66 (by decide) ?_
      refine lv_iand hx hb d_Mod_step_69 ?_
      refine lv_topi (fun x11 e_x11 => ?_)
      replace h := h x11 e_x11
      refine lv_istore_n (lv' := [(3, .int x11), (2, .int x10), (1, .int x2), (0, .ref (x_ad Y 30 0))]) hx hb d_Mod_step_70 rfl hl (by decide) rfl (fun ls hl => ?_)
      refine lv_iload_n hx hb d_Mod_step_71 rfl (lv_at hl 1 rfl) ?_
      refine lv_bipush (v := 8) hx hb d_Mod_step_72 (by decide) ?_
      refine lv_ishr hx hb d_Mod_step_74 ?_
      refine lv_topi (fun x12 e_x12 => ?_)
      replace h := h x12 e_x12
      refine lv_istore (lv' := [(4, .int x12), (3, .int x11), (2, .int x10), (1, .int x2), (0, .ref (x_ad Y 30 0))]) hx hb d_Mod_step_75 hl (by decide) rfl (fun ls hl => ?_)
      refine lv_aload_n hx hb d_Mod_step_77 rfl (lv_at hl 4 rfl) ?_
      refine lv_iload_n hx hb d_Mod_step_78 rfl (lv_at hl 1 rfl) ?_
      refine x_goI (ls := ls) (rest := []) hE hw (c_Mod_price hY ok0_ h) (x_cd hK k_997) q_Mod_price (by decide) (by decide) hl.1 (Nat.le_of_ble_eq_true rfl) hbd d_Mod_step_79 (x_toV (As := [.int x11]) (b := (x_ad Y 30 0)) hx hb hown hK (x_recv hK hw ok0_ rfl (by decide)) k_994 k_996 ks_29 ⟨_, x_cd hK k_997⟩ q_Mod_price rfl rfl d_Mod_step_79) (fun r13 L9 I9 k9 n9 H locs h hw hb9 => ?_) (fun _ _ _ _ _ _ _ h9 => h9.elim)
      obtain ⟨e1, e2, e3, e4, h⟩ := h
      rw [e1, e2] at hw
      rw [e3, e4]
      refine lv_istore (lv' := [(5, .int r13), (4, .int x12), (3, .int x11), (2, .int x10), (1, .int x2), (0, .ref (x_ad Y 30 0))]) hx hb d_Mod_step_82 hl (by decide) rfl (fun ls hl => ?_)
      refine lv_aload_n hx hb d_Mod_step_84 rfl (lv_at hl 5 rfl) ?_
      refine x_getR (t := 30) (i := 0) (j := 26) hx hb hK hw hown ok0_ rfl (by decide) (by decide) (x_wd hK k_824 rfl) (fun _ h => h) fk_8_26 (hY.r ok0_ rfl) d_Mod_step_85 ?_
      have ok14 := hY.ok 26 ok0_ (t' := 66) (i' := 0) rfl
      refine lv_aload_n hx hb d_Mod_step_88 rfl (lv_at hl 5 rfl) ?_
      refine x_getI (t := 30) (i := 0) (j := 18) hx hb hK hw hown ok0_ rfl (by decide) (by decide) (x_wd hK k_816 rfl) (fun _ h => h) fk_8_18 d_Mod_step_89 ?_
      refine x_iald (t := 66) (i := 0) hx hb hK hw ok14 rfl (hY.n ok14 rfl) h.1 d_Mod_step_92 ?_
      replace h := h.2
      refine lv_iload hx hb d_Mod_step_93 (lv_at hl 0 rfl) ?_
      refine lv_icmp_ge (tgt := 105) hx hb d_Mod_step_95 (by decide) (fun c15 => ?_) (fun c15 => ?_)
      · replace h := h.1 c15
        refine lv_aload_n hx hb d_Mod_step_105 rfl (lv_at hl 5 rfl) ?_
        refine x_getR (t := 30) (i := 0) (j := 26) hx hb hK hw hown ok0_ rfl (by decide) (by decide) (x_wd hK k_824 rfl) (fun _ h => h) fk_8_26 (hY.r ok0_ rfl) d_Mod_step_106 ?_
        refine lv_aload_n hx hb d_Mod_step_109 rfl (lv_at hl 5 rfl) ?_
        refine x_getI (t := 30) (i := 0) (j := 18) hx hb hK hw hown ok0_ rfl (by decide) (by decide) (x_wd hK k_816 rfl) (fun _ h => h) fk_8_18 d_Mod_step_110 ?_
        refine lv_aload_n hx hb d_Mod_step_113 rfl (lv_at hl 5 rfl) ?_
        refine x_getR (t := 30) (i := 0) (j := 26) hx hb hK hw hown ok0_ rfl (by decide) (by decide) (x_wd hK k_824 rfl) (fun _ h => h) fk_8_26 (hY.r ok0_ rfl) d_Mod_step_114 ?_
        refine lv_aload_n hx hb d_Mod_step_117 rfl (lv_at hl 5 rfl) ?_
        refine x_getI (t := 30) (i := 0) (j := 18) hx hb hK hw hown ok0_ rfl (by decide) (by decide) (x_wd hK k_816 rfl) (fun _ h => h) fk_8_18 d_Mod_step_118 ?_
        refine x_iald (t := 66) (i := 0) hx hb hK hw ok14 rfl (hY.n ok14 rfl) h.1 d_Mod_step_121 ?_
        replace h := h.2
        refine lv_iload hx hb d_Mod_step_122 (lv_at hl 0 rfl) ?_
        refine lv_isub hx hb d_Mod_step_124 ?_
        refine x_iast (t := 66) (i := 0) hx hb hK hw ok14 rfl (hY.n ok14 rfl) h.1 d_Mod_step_125 (fun I16 H locs e_I16 hw => ?_)
        replace h := h.2 I16 e_I16
        refine lv_iload_n hx hb d_Mod_step_126 rfl (lv_at hl 2 rfl) ?_
        refine lv_iload hx hb d_Mod_step_127 (lv_at hl 1 rfl) ?_
        refine x_goI (ls := ls) (rest := []) hE hw (c_Mod_needs hY h) (x_cd hK k_1007) q_Mod_needs (by decide) (by decide) hl.1 (Nat.le_of_ble_eq_true rfl) hbd d_Mod_step_129 (x_toS (As := [.int x11, .int x12]) hx hb hown hK k_1005 k_1006 k_11 ⟨_, x_cd hK k_1007⟩ q_Mod_needs rfl rfl d_Mod_step_129) (fun r17 L9 I9 k9 n9 H locs h hw hb9 => ?_) (fun _ _ _ _ _ _ _ h9 => h9.elim)
        obtain ⟨e1, e2, e3, e4, h⟩ := h
        rw [e1, e2] at hw
        rw [e3, e4]
        refine lv_istore (lv' := [(6, .int r17), (5, .int r13), (4, .int x12), (3, .int x11), (2, .int x10), (1, .int x2), (0, .ref (x_ad Y 30 0))]) hx hb d_Mod_step_132 hl (by decide) rfl (fun ls hl => ?_)
        refine lv_aload_n hx hb d_Mod_step_134 rfl (lv_at hl 6 rfl) ?_
        refine x_getR (t := 30) (i := 0) (j := 20) hx hb hK hw hown ok0_ rfl (by decide) (by decide) (x_wd hK k_818 rfl) (fun _ h => h) fk_8_20 (hY.r ok0_ rfl) d_Mod_step_135 ?_
        have ok18 := hY.ok 20 ok0_ (t' := 60) (i' := 0) rfl
        refine lv_aload_n hx hb d_Mod_step_138 rfl (lv_at hl 6 rfl) ?_
        refine x_getI (t := 30) (i := 0) (j := 18) hx hb hK hw hown ok0_ rfl (by decide) (by decide) (x_wd hK k_816 rfl) (fun _ h => h) fk_8_18 d_Mod_step_139 ?_
        refine x_iald (t := 60) (i := 0) hx hb hK hw ok18 rfl (hY.n ok18 rfl) h.1 d_Mod_step_142 ?_
        replace h := h.2
        refine lv_iload hx hb d_Mod_step_143 (lv_at hl 0 rfl) ?_
        refine lv_icmp_ge (tgt := 157) hx hb d_Mod_step_145 (by decide) (fun c19 => ?_) (fun c19 => ?_)
        · replace h := h.1 c19
          refine lv_aload_n hx hb d_Mod_step_157 rfl (lv_at hl 6 rfl) ?_
          refine x_getR (t := 30) (i := 0) (j := 20) hx hb hK hw hown ok0_ rfl (by decide) (by decide) (x_wd hK k_818 rfl) (fun _ h => h) fk_8_20 (hY.r ok0_ rfl) d_Mod_step_158 ?_
          refine lv_aload_n hx hb d_Mod_step_161 rfl (lv_at hl 6 rfl) ?_
          refine x_getI (t := 30) (i := 0) (j := 18) hx hb hK hw hown ok0_ rfl (by decide) (by decide) (x_wd hK k_816 rfl) (fun _ h => h) fk_8_18 d_Mod_step_162 ?_
          refine x_iald (t := 60) (i := 0) hx hb hK hw ok18 rfl (hY.n ok18 rfl) h.1 d_Mod_step_165 ?_
          replace h := h.2
          refine lv_iload hx hb d_Mod_step_166 (lv_at hl 0 rfl) ?_
          refine lv_isub hx hb d_Mod_step_168 ?_
          refine lv_iload_n hx hb d_Mod_step_169 rfl (lv_at hl 3 rfl) ?_
          refine lv_iload hx hb d_Mod_step_170 (lv_at hl 2 rfl) ?_
          refine x_goI (ls := ls) (rest := [.int (((I16 60 0 (I16 30 0 18).toNatClampNeg) - r17))]) hE hw (c_Mod_leaves hY h) (x_cd hK k_1010) q_Mod_leaves (by decide) (by decide) hl.1 (Nat.le_of_ble_eq_true rfl) hbd d_Mod_step_172 (x_toS (As := [.int x11, .int x12]) hx hb hown hK k_1008 k_1009 k_11 ⟨_, x_cd hK k_1010⟩ q_Mod_leaves rfl rfl d_Mod_step_172) (fun r20 L9 I9 k9 n9 H locs h hw hb9 => ?_) (fun _ _ _ _ _ _ _ h9 => h9.elim)
          obtain ⟨e1, e2, e3, e4, h⟩ := h
          rw [e1, e2] at hw
          rw [e3, e4]
          refine lv_iadd hx hb d_Mod_step_175 ?_
          refine lv_bipush (v := 32) hx hb d_Mod_step_176 (by decide) ?_
          refine lv_icmp_le (tgt := 190) hx hb d_Mod_step_178 (by decide) (fun c21 => ?_) (fun c21 => ?_)
          · replace h := h.1 c21
            refine lv_aload_n hx hb d_Mod_step_190 rfl (lv_at hl 6 rfl) ?_
            refine lv_iload_n hx hb d_Mod_step_191 rfl (lv_at hl 3 rfl) ?_
            refine lv_iload hx hb d_Mod_step_192 (lv_at hl 2 rfl) ?_
            refine x_goV (ls := ls) (rest := []) hE hw (c_Mod_act hY ok0_ h) (x_cd hK k_1014) q_Mod_act (by decide) (by decide) hl.1 (Nat.le_of_ble_eq_true rfl) hbd d_Mod_step_194 (x_toV (As := [.int x11, .int x12]) (b := (x_ad Y 30 0)) hx hb hown hK (x_recv hK hw ok0_ rfl (by decide)) k_1011 k_1013 ks_31 ⟨_, x_cd hK k_1014⟩ q_Mod_act rfl rfl d_Mod_step_194) (fun L9 I22 k9 n9 H locs h hw hb9 => ?_) (fun _ _ _ _ _ _ _ h9 => h9.elim)
            obtain ⟨e1, e3, e4, h⟩ := h
            rw [e1] at hw
            rw [e3, e4]
            exact x_vret hx hb hr hlk hw ⟨rfl, Or.inl ⟨rfl, ⟨rfl, rfl, rfl, h⟩⟩⟩ hbd d_Mod_step_197
          · replace h := h.2 c21
            refine lv_aload_n hx hb d_Mod_step_181 rfl (lv_at hl 6 rfl) ?_
            refine lv_iconst (v := 4) hx hb d_Mod_step_182 (by decide) ?_
            refine lv_iconst (v := 0) hx hb d_Mod_step_183 (by decide) ?_
            refine x_goV (ls := ls) (rest := []) hE hw (c_Mod_end hY ok0_ h) (x_cd hK k_985) q_Mod_end (by decide) (by decide) hl.1 (Nat.le_of_ble_eq_true rfl) hbd d_Mod_step_184 (x_toV (As := [.int (4 : Int32), .int (0 : Int32)]) (b := (x_ad Y 30 0)) hx hb hown hK (x_recv hK hw ok0_ rfl (by decide)) k_982 k_984 ks_26 ⟨_, x_cd hK k_985⟩ q_Mod_end rfl rfl d_Mod_step_184) (fun L9 I23 k9 n9 H locs h hw hb9 => ?_) (fun _ _ _ _ _ _ _ h9 => h9.elim)
            obtain ⟨e1, e3, e4, h⟩ := h
            rw [e1] at hw
            rw [e3, e4]
            refine lv_goto (tgt := 197) hx hb d_Mod_step_187 (by decide) ?_
            exact x_vret hx hb hr hlk hw ⟨rfl, Or.inl ⟨rfl, ⟨rfl, rfl, rfl, h⟩⟩⟩ hbd d_Mod_step_197
        · replace h := h.2 c19
          refine lv_aload_n hx hb d_Mod_step_148 rfl (lv_at hl 6 rfl) ?_
          refine lv_iconst (v := 3) hx hb d_Mod_step_149 (by decide) ?_
          refine lv_iconst (v := 0) hx hb d_Mod_step_150 (by decide) ?_
          refine x_goV (ls := ls) (rest := []) hE hw (c_Mod_end hY ok0_ h) (x_cd hK k_985) q_Mod_end (by decide) (by decide) hl.1 (Nat.le_of_ble_eq_true rfl) hbd d_Mod_step_151 (x_toV (As := [.int (3 : Int32), .int (0 : Int32)]) (b := (x_ad Y 30 0)) hx hb hown hK (x_recv hK hw ok0_ rfl (by decide)) k_982 k_984 ks_26 ⟨_, x_cd hK k_985⟩ q_Mod_end rfl rfl d_Mod_step_151) (fun L9 I24 k9 n9 H locs h hw hb9 => ?_) (fun _ _ _ _ _ _ _ h9 => h9.elim)
          obtain ⟨e1, e3, e4, h⟩ := h
          rw [e1] at hw
          rw [e3, e4]
          refine lv_goto (tgt := 197) hx hb d_Mod_step_154 (by decide) ?_
          exact x_vret hx hb hr hlk hw ⟨rfl, Or.inl ⟨rfl, ⟨rfl, rfl, rfl, h⟩⟩⟩ hbd d_Mod_step_197
      · replace h := h.2 c15
        refine lv_aload_n hx hb d_Mod_step_98 rfl (lv_at hl 5 rfl) ?_
        refine lv_iconst (v := 2) hx hb d_Mod_step_99 (by decide) ?_
        refine lv_iconst (v := 0) hx hb d_Mod_step_100 (by decide) ?_
        refine x_goV (ls := ls) (rest := []) hE hw (c_Mod_end hY ok0_ h) (x_cd hK k_985) q_Mod_end (by decide) (by decide) hl.1 (Nat.le_of_ble_eq_true rfl) hbd d_Mod_step_101 (x_toV (As := [.int (2 : Int32), .int (0 : Int32)]) (b := (x_ad Y 30 0)) hx hb hown hK (x_recv hK hw ok0_ rfl (by decide)) k_982 k_984 ks_26 ⟨_, x_cd hK k_985⟩ q_Mod_end rfl rfl d_Mod_step_101) (fun L9 I25 k9 n9 H locs h hw hb9 => ?_) (fun _ _ _ _ _ _ _ h9 => h9.elim)
        obtain ⟨e1, e3, e4, h⟩ := h
        rw [e1] at hw
        rw [e3, e4]
        exact x_vret hx hb hr hlk hw ⟨rfl, Or.inl ⟨rfl, ⟨rfl, rfl, rfl, h⟩⟩⟩ hbd d_Mod_step_104
    · replace h := h.2 c8
      refine lv_aload_n hx hb d_Mod_step_37 rfl (lv_at hl 1 rfl) ?_
      refine lv_iconst (v := 0) hx hb d_Mod_step_38 (by decide) ?_
      refine lv_iconst (v := 0) hx hb d_Mod_step_39 (by decide) ?_
      refine x_goV (ls := ls) (rest := []) hE hw (c_Mod_end hY ok0_ h) (x_cd hK k_985) q_Mod_end (by decide) (by decide) hl.1 (Nat.le_of_ble_eq_true rfl) hbd d_Mod_step_40 (x_toV (As := [.int (0 : Int32), .int (0 : Int32)]) (b := (x_ad Y 30 0)) hx hb hown hK (x_recv hK hw ok0_ rfl (by decide)) k_982 k_984 ks_26 ⟨_, x_cd hK k_985⟩ q_Mod_end rfl rfl d_Mod_step_40) (fun L9 I26 k9 n9 H locs h hw hb9 => ?_) (fun _ _ _ _ _ _ _ h9 => h9.elim)
      obtain ⟨e1, e3, e4, h⟩ := h
      rw [e1] at hw
      rw [e3, e4]
      exact x_vret hx hb hr hlk hw ⟨rfl, Or.inl ⟨rfl, ⟨rfl, rfl, rfl, h⟩⟩⟩ hbd d_Mod_step_43
def w_Mod_transact_126 (Q : Int32 → x_I → Prop) : Nat → Int32 → Int32 → Int32 → Int32 → x_I → Prop
  | 0, _, _, _, _, _ => False
  | fu + 1, v1, v2, v3, v4, I =>
    (((I 30 0 18) < 0 →
      ∀ I13 : x_I, I13 = x_u I 30 0 33 (v4 - (I 30 0 32)) →
      Q (I13 30 0 30) I13) ∧
    (¬ (I 30 0 18) < 0 →
      w_Mod_step (fun I14 =>
        w_Mod_transact_126 Q fu v1 v2 v3 v4 I14) I))
def w_Mod_transact_73 (Q : Int32 → x_I → Prop) : Nat → Int32 → Int32 → Int32 → Int32 → Int32 → x_I → Prop
  | 0, _, _, _, _, _, _ => False
  | fu + 1, v1, v2, v3, v4, v5, I =>
    (((I 30 0 29) ≤ v5 →
      vp_in (0 : Int32) 8 ∧
      ∀ I9 : x_I, I9 = x_u I 63 0 (0 : Int32).toNatClampNeg (I 30 0 29) →
      ∀ I10 : x_I, I10 = x_u I9 30 0 29 (0 : Int32) →
      w_Mod_begin (fun I11 =>
        ∃ fu : Nat, w_Mod_transact_126 Q fu v1 v2 v3 v4 I11) v1 v2 v3 v4 I10) ∧
    (¬ (I 30 0 29) ≤ v5 →
      vp_in v5 8 ∧
      vp_in v5 64 ∧
      ∀ I17 : x_I, I17 = x_u I 62 0 v5.toNatClampNeg (I 68 0 v5.toNatClampNeg) →
      ∀ x18 : Int32, x18 = v5 + (1 : Int32) →
      w_Mod_transact_73 Q fu v1 v2 v3 v4 x18 I17))
def w_Mod_transact (Q : Int32 → x_I → Prop) (p1 : Int32) (p2 : Int32) (p3 : Int32) (p4 : Int32) (I : x_I) : Prop :=
  w_Mod_noAccount (fun r1 =>
    ((¬ r1 = 0 →
      ∀ I3 : x_I, I3 = x_u I 30 0 0 (1 : Int32) →
      (((I3 30 0 0) ≤ 0 →
        ∀ I5 : x_I, I5 = x_u I3 30 0 18 (0 : Int32) →
        ∀ x6 : Int32, x6 = (0 : Int32) →
        ∃ fu : Nat, w_Mod_transact_73 Q fu p1 p2 p3 p4 x6 I5) ∧
      (¬ (I3 30 0 0) ≤ 0 →
        Q (0 : Int32) I3))) ∧
    (r1 = 0 →
      w_Mod_noAccount (fun r19 =>
        ((r19 = 0 →
          ((p3 < 0 →
            ∀ I22 : x_I, I22 = x_u I 30 0 0 (2 : Int32) →
            (((I22 30 0 0) ≤ 0 →
              ∀ I24 : x_I, I24 = x_u I22 30 0 18 (0 : Int32) →
              ∀ x25 : Int32, x25 = (0 : Int32) →
              ∃ fu : Nat, w_Mod_transact_73 Q fu p1 p2 p3 p4 x25 I24) ∧
            (¬ (I22 30 0 0) ≤ 0 →
              Q (0 : Int32) I22))) ∧
          (¬ p3 < 0 →
            vp_in p1 24 ∧
            (((I 42 0 p1.toNatClampNeg) < p3 →
              ∀ I28 : x_I, I28 = x_u I 30 0 0 (2 : Int32) →
              (((I28 30 0 0) ≤ 0 →
                ∀ I30 : x_I, I30 = x_u I28 30 0 18 (0 : Int32) →
                ∀ x31 : Int32, x31 = (0 : Int32) →
                ∃ fu : Nat, w_Mod_transact_73 Q fu p1 p2 p3 p4 x31 I30) ∧
              (¬ (I28 30 0 0) ≤ 0 →
                Q (0 : Int32) I28))) ∧
            (¬ (I 42 0 p1.toNatClampNeg) < p3 →
              ((p4 < 0 →
                ∀ I33 : x_I, I33 = x_u I 30 0 0 (2 : Int32) →
                (((I33 30 0 0) ≤ 0 →
                  ∀ I35 : x_I, I35 = x_u I33 30 0 18 (0 : Int32) →
                  ∀ x36 : Int32, x36 = (0 : Int32) →
                  ∃ fu : Nat, w_Mod_transact_73 Q fu p1 p2 p3 p4 x36 I35) ∧
                (¬ (I33 30 0 0) ≤ 0 →
                  Q (0 : Int32) I33))) ∧
              (¬ p4 < 0 →
                ((p4 ≤ (10000 : Int32) →
                  ∀ I38 : x_I, I38 = x_u I 30 0 0 (0 : Int32) →
                  (((I38 30 0 0) ≤ 0 →
                    ∀ I40 : x_I, I40 = x_u I38 30 0 18 (0 : Int32) →
                    ∀ x41 : Int32, x41 = (0 : Int32) →
                    ∃ fu : Nat, w_Mod_transact_73 Q fu p1 p2 p3 p4 x41 I40) ∧
                  (¬ (I38 30 0 0) ≤ 0 →
                    Q (0 : Int32) I38))) ∧
                (¬ p4 ≤ (10000 : Int32) →
                  ∀ I42 : x_I, I42 = x_u I 30 0 0 (2 : Int32) →
                  (((I42 30 0 0) ≤ 0 →
                    ∀ I44 : x_I, I44 = x_u I42 30 0 18 (0 : Int32) →
                    ∀ x45 : Int32, x45 = (0 : Int32) →
                    ∃ fu : Nat, w_Mod_transact_73 Q fu p1 p2 p3 p4 x45 I44) ∧
                  (¬ (I42 30 0 0) ≤ 0 →
                    Q (0 : Int32) I42))))))))))) ∧
        (¬ r19 = 0 →
          ∀ I46 : x_I, I46 = x_u I 30 0 0 (1 : Int32) →
          (((I46 30 0 0) ≤ 0 →
            ∀ I48 : x_I, I48 = x_u I46 30 0 18 (0 : Int32) →
            ∀ x49 : Int32, x49 = (0 : Int32) →
            ∃ fu : Nat, w_Mod_transact_73 Q fu p1 p2 p3 p4 x49 I48) ∧
          (¬ (I46 30 0 0) ≤ 0 →
            Q (0 : Int32) I46))))) p2 I))) p1 I
set_option maxRecDepth 100000 in
set_option maxHeartbeats 4000000 in
theorem c_Mod_transact_126 {l : Launch} {g : x_G} {Y : x_Y} {p : Program} {e : Env} {R : Room} {s : State} {m : MethodId} {args : Array Value} {below : List Frame} {meth : Method} {c : Code} {k n : Nat} (hE : x_E l g p e R s m meth c "CallLedgerModel" prog_9_method_36_code 6 (some .int) 5 k n) (hexn : c.exceptionTable.toList = []) (hY : x_Y0 g Y) (ok0_ : x_ok Y 30 0) {Q : Int32 → x_I → Prop} {L : x_L} :
    ∀ (fu : Nat) (v1 : Int32) (v2 : Int32) (v3 : Int32) (v4 : Int32) (I : x_I) (H : Heap) (locs : List Loc) (ls : Array Slot), w_Mod_transact_126 Q fu v1 v2 v3 v4 I → x_WL g Y L I H locs → x_bd k n k n → lv_has ls 6 [(0, .ref (x_ad Y 30 0)), (1, .int v1), (2, .int v2), (3, .int v3), (4, .int v4)] → W p l e R s m args below meth c H locs (k - k) (n - n) (x_Q g below s k n (x_pI Y (fun v L' I' k' n' => L' = L ∧ k' = k ∧ n' = n ∧ Q v I') x_nx)) (F0 m 126 ls []) := by
  obtain ⟨hx, hb, hml, hr, hlk, hown, hK, htr, hF, hLo, hRc, hRs⟩ := id hE
  intro fu
  induction fu with
  | zero =>
    intro v1 v2 v3 v4 I H locs ls h
    exact h.elim
  | succ fu ih =>
    intro v1 v2 v3 v4 I H locs ls h hw hbd hl
    unfold w_Mod_transact_126 at h
    refine lv_aload_n hx hb d_Mod_transact_126 rfl (lv_at hl 0 rfl) ?_
    refine x_getI (t := 30) (i := 0) (j := 18) hx hb hK hw hown ok0_ rfl (by decide) (by decide) (x_wd hK k_816 rfl) (fun _ h => h) fk_8_18 d_Mod_transact_127 ?_
    refine lv_if_lt (tgt := 140) hx hb d_Mod_transact_130 (by decide) (fun c12 => ?_) (fun c12 => ?_)
    · replace h := h.1 c12
      refine lv_aload_n hx hb d_Mod_transact_140 rfl (lv_at hl 0 rfl) ?_
      refine lv_iload hx hb d_Mod_transact_141 (lv_at hl 4 rfl) ?_
      refine lv_aload_n hx hb d_Mod_transact_143 rfl (lv_at hl 0 rfl) ?_
      refine x_getI (t := 30) (i := 0) (j := 32) hx hb hK hw hown ok0_ rfl (by decide) (by decide) (x_wd hK k_830 rfl) (fun _ h => h) fk_8_32 d_Mod_transact_144 ?_
      refine lv_isub hx hb d_Mod_transact_147 ?_
      refine x_putI (t := 30) (i := 0) (j := 33) hx hb hK hw hown ok0_ rfl (by decide) (by decide) (x_wd hK k_831 rfl) (fun _ h => h) rfl rfl d_Mod_transact_148 (fun I13 H locs e_I13 hw => ?_)
      replace h := h I13 e_I13
      refine lv_aload_n hx hb d_Mod_transact_151 rfl (lv_at hl 0 rfl) ?_
      refine x_getI (t := 30) (i := 0) (j := 30) hx hb hK hw hown ok0_ rfl (by decide) (by decide) (x_wd hK k_828 rfl) (fun _ h => h) fk_8_30 d_Mod_transact_152 ?_
      exact x_iret hx hb hr hlk hw ⟨rfl, Or.inl ⟨_, rfl, ⟨rfl, rfl, rfl, h⟩⟩⟩ hbd d_Mod_transact_155
    · replace h := h.2 c12
      refine lv_aload_n hx hb d_Mod_transact_133 rfl (lv_at hl 0 rfl) ?_
      refine x_goV (ls := ls) (rest := []) hE hw (c_Mod_step hY ok0_ h) (x_cd hK k_981) q_Mod_step (by decide) (by decide) hl.1 (Nat.le_of_ble_eq_true rfl) hbd d_Mod_transact_134 (x_toV (As := []) (b := (x_ad Y 30 0)) hx hb hown hK (x_recv hK hw ok0_ rfl (by decide)) k_978 k_980 ks_25 ⟨_, x_cd hK k_981⟩ q_Mod_step rfl rfl d_Mod_transact_134) (fun L9 I14 k9 n9 H locs h hw hb9 => ?_) (fun _ _ _ _ _ _ _ h9 => h9.elim)
      obtain ⟨e1, e3, e4, h⟩ := h
      rw [e1] at hw
      rw [e3, e4]
      refine lv_goto (tgt := 126) hx hb d_Mod_transact_137 (by decide) ?_
      exact ih v1 v2 v3 v4 I14 H locs ls h hw hbd (lv_sub hl [0, 1, 2, 3, 4] rfl)
set_option maxRecDepth 100000 in
set_option maxHeartbeats 4000000 in
theorem c_Mod_transact_73 {l : Launch} {g : x_G} {Y : x_Y} {p : Program} {e : Env} {R : Room} {s : State} {m : MethodId} {args : Array Value} {below : List Frame} {meth : Method} {c : Code} {k n : Nat} (hE : x_E l g p e R s m meth c "CallLedgerModel" prog_9_method_36_code 6 (some .int) 5 k n) (hexn : c.exceptionTable.toList = []) (hY : x_Y0 g Y) (ok0_ : x_ok Y 30 0) {Q : Int32 → x_I → Prop} {L : x_L} :
    ∀ (fu : Nat) (v1 : Int32) (v2 : Int32) (v3 : Int32) (v4 : Int32) (v5 : Int32) (I : x_I) (H : Heap) (locs : List Loc) (ls : Array Slot), w_Mod_transact_73 Q fu v1 v2 v3 v4 v5 I → x_WL g Y L I H locs → x_bd k n k n → lv_has ls 6 [(0, .ref (x_ad Y 30 0)), (1, .int v1), (2, .int v2), (3, .int v3), (4, .int v4), (5, .int v5)] → W p l e R s m args below meth c H locs (k - k) (n - n) (x_Q g below s k n (x_pI Y (fun v L' I' k' n' => L' = L ∧ k' = k ∧ n' = n ∧ Q v I') x_nx)) (F0 m 73 ls []) := by
  obtain ⟨hx, hb, hml, hr, hlk, hown, hK, htr, hF, hLo, hRc, hRs⟩ := id hE
  intro fu
  induction fu with
  | zero =>
    intro v1 v2 v3 v4 v5 I H locs ls h
    exact h.elim
  | succ fu ih =>
    intro v1 v2 v3 v4 v5 I H locs ls h hw hbd hl
    unfold w_Mod_transact_73 at h
    refine lv_iload hx hb d_Mod_transact_73 (lv_at hl 5 rfl) ?_
    refine lv_aload_n hx hb d_Mod_transact_75 rfl (lv_at hl 0 rfl) ?_
    refine x_getI (t := 30) (i := 0) (j := 29) hx hb hK hw hown ok0_ rfl (by decide) (by decide) (x_wd hK k_827 rfl) (fun _ h => h) fk_8_29 d_Mod_transact_76 ?_
    refine lv_icmp_ge (tgt := 102) hx hb d_Mod_transact_79 (by decide) (fun c7 => ?_) (fun c7 => ?_)
    · replace h := h.1 c7
      refine lv_aload_n hx hb d_Mod_transact_102 rfl (lv_at hl 0 rfl) ?_
      refine x_getR (t := 30) (i := 0) (j := 23) hx hb hK hw hown ok0_ rfl (by decide) (by decide) (x_wd hK k_821 rfl) (fun _ h => h) fk_8_23 (hY.r ok0_ rfl) d_Mod_transact_103 ?_
      have ok8 := hY.ok 23 ok0_ (t' := 63) (i' := 0) rfl
      refine lv_iconst (v := 0) hx hb d_Mod_transact_106 (by decide) ?_
      refine lv_aload_n hx hb d_Mod_transact_107 rfl (lv_at hl 0 rfl) ?_
      refine x_getI (t := 30) (i := 0) (j := 29) hx hb hK hw hown ok0_ rfl (by decide) (by decide) (x_wd hK k_827 rfl) (fun _ h => h) fk_8_29 d_Mod_transact_108 ?_
      refine x_iast (t := 63) (i := 0) hx hb hK hw ok8 rfl (hY.n ok8 rfl) h.1 d_Mod_transact_111 (fun I9 H locs e_I9 hw => ?_)
      replace h := h.2 I9 e_I9
      refine lv_aload_n hx hb d_Mod_transact_112 rfl (lv_at hl 0 rfl) ?_
      refine lv_iconst (v := 0) hx hb d_Mod_transact_113 (by decide) ?_
      refine x_putI (t := 30) (i := 0) (j := 29) hx hb hK hw hown ok0_ rfl (by decide) (by decide) (x_wd hK k_827 rfl) (fun _ h => h) rfl rfl d_Mod_transact_114 (fun I10 H locs e_I10 hw => ?_)
      replace h := h I10 e_I10
      refine lv_aload_n hx hb d_Mod_transact_117 rfl (lv_at hl 0 rfl) ?_
      refine lv_iload_n hx hb d_Mod_transact_118 rfl (lv_at hl 1 rfl) ?_
      refine lv_iload_n hx hb d_Mod_transact_119 rfl (lv_at hl 2 rfl) ?_
      refine lv_iload_n hx hb d_Mod_transact_120 rfl (lv_at hl 3 rfl) ?_
      refine lv_iload hx hb d_Mod_transact_121 (lv_at hl 4 rfl) ?_
      refine x_goV (ls := ls) (rest := []) hE hw (c_Mod_begin hY ok0_ h) (x_cd hK k_977) q_Mod_begin (by decide) (by decide) hl.1 (Nat.le_of_ble_eq_true rfl) hbd d_Mod_transact_123 (x_toV (As := [.int v1, .int v2, .int v3, .int v4]) (b := (x_ad Y 30 0)) hx hb hown hK (x_recv hK hw ok0_ rfl (by decide)) k_974 k_976 ks_24 ⟨_, x_cd hK k_977⟩ q_Mod_begin rfl rfl d_Mod_transact_123) (fun L9 I11 k9 n9 H locs h hw hb9 => ?_) (fun _ _ _ _ _ _ _ h9 => h9.elim)
      obtain ⟨e1, e3, e4, h⟩ := h
      rw [e1] at hw
      rw [e3, e4]
      obtain ⟨fu, h⟩ := h
      exact c_Mod_transact_126 hE hexn hY ok0_ fu v1 v2 v3 v4 I11 H locs ls h hw hbd (lv_sub hl [0, 1, 2, 3, 4] rfl)
    · replace h := h.2 c7
      refine lv_aload_n hx hb d_Mod_transact_82 rfl (lv_at hl 0 rfl) ?_
      refine x_getR (t := 30) (i := 0) (j := 22) hx hb hK hw hown ok0_ rfl (by decide) (by decide) (x_wd hK k_820 rfl) (fun _ h => h) fk_8_22 (hY.r ok0_ rfl) d_Mod_transact_83 ?_
      have ok15 := hY.ok 22 ok0_ (t' := 62) (i' := 0) rfl
      refine lv_iload hx hb d_Mod_transact_86 (lv_at hl 5 rfl) ?_
      refine lv_aload_n hx hb d_Mod_transact_88 rfl (lv_at hl 0 rfl) ?_
      refine x_getR (t := 30) (i := 0) (j := 28) hx hb hK hw hown ok0_ rfl (by decide) (by decide) (x_wd hK k_826 rfl) (fun _ h => h) fk_8_28 (hY.r ok0_ rfl) d_Mod_transact_89 ?_
      have ok16 := hY.ok 28 ok0_ (t' := 68) (i' := 0) rfl
      refine lv_iload hx hb d_Mod_transact_92 (lv_at hl 5 rfl) ?_
      refine x_iald (t := 68) (i := 0) hx hb hK hw ok16 rfl (hY.n ok16 rfl) h.1 d_Mod_transact_94 ?_
      replace h := h.2
      refine x_iast (t := 62) (i := 0) hx hb hK hw ok15 rfl (hY.n ok15 rfl) h.1 d_Mod_transact_95 (fun I17 H locs e_I17 hw => ?_)
      replace h := h.2 I17 e_I17
      obtain ⟨x18, e_x18⟩ : ∃ z : Int32, z = v5 + (1 : Int32) := ⟨_, rfl⟩
      replace h := h x18 e_x18
      refine lv_iinc (v := x18) (lv' := [(5, .int x18), (0, .ref (x_ad Y 30 0)), (1, .int v1), (2, .int v2), (3, .int v3), (4, .int v4)]) hx hb d_Mod_transact_96 hl (k := 5) rfl (by rw [e_x18]; rfl) (by decide) rfl (fun ls hl => ?_)
      refine lv_goto (tgt := 73) hx hb d_Mod_transact_99 (by decide) ?_
      exact ih v1 v2 v3 v4 x18 I17 H locs ls h hw hbd (lv_sub hl [1, 2, 3, 4, 5, 0] rfl)
set_option maxRecDepth 100000 in
set_option maxHeartbeats 4000000 in
theorem c_Mod_transact {l : Launch} {g : x_G} {Y : x_Y} (hY : x_Y0 g Y) {p1 : Int32} {p2 : Int32} {p3 : Int32} {p4 : Int32} (ok0_ : x_ok Y 30 0) {Q : Int32 → x_I → Prop} {L : x_L} {I : x_I} {k n : Nat} (h : w_Mod_transact Q p1 p2 p3 p4 I) : x_C l y_Mod_transact 5 g [.ref (x_ad Y 30 0), .int p1, .int p2, .int p3, .int p4] Y L I k n (x_pI Y (fun v L' I' k' n' => L' = L ∧ k' = k ∧ n' = n ∧ Q v I') x_nx) := by
  refine x_mth k_973 ?_
  intro p e R s m below meth c hE hnm hexn hw hk1 hn1
  obtain ⟨hx, hb, hml, hr, hlk, hown, hK, htr, hF, hLo, hRc, hRs⟩ := id hE
  have hbd : x_bd k n k n := ⟨Nat.le_refl _, hk1, Nat.le_refl _, hn1⟩
  have hl := lv_entry ([.ref (x_ad Y 30 0), .int p1, .int p2, .int p3, .int p4]) (n := 6) (Nat.le_of_ble_eq_true rfl)
  generalize (lg_sl [.ref (x_ad Y 30 0), .int p1, .int p2, .int p3, .int p4] ++ List.replicate (6 - (lg_sl [.ref (x_ad Y 30 0), .int p1, .int p2, .int p3, .int p4]).length) Slot.unset).toArray = ls at hl ⊢
  have hl : lv_has ls 6 [(0, .ref (x_ad Y 30 0)), (1, .int p1), (2, .int p2), (3, .int p3), (4, .int p4)] := hl
  generalize s.heap = H at hw ⊢
  generalize ([] : List Loc) = locs at hw ⊢
  unfold w_Mod_transact at h
  refine lv_aload_n hx hb d_Mod_transact_0 rfl (lv_at hl 0 rfl) ?_
  refine lv_aload_n hx hb d_Mod_transact_1 rfl (lv_at hl 0 rfl) ?_
  refine lv_iload_n hx hb d_Mod_transact_2 rfl (lv_at hl 1 rfl) ?_
  refine x_goI (ls := ls) (rest := [.ref (x_ad Y 30 0)]) hE hw (c_Mod_noAccount hY ok0_ h) (x_cd hK k_922) q_Mod_noAccount (by decide) (by decide) hl.1 (Nat.le_of_ble_eq_true rfl) hbd d_Mod_transact_3 (x_toV (As := [.int p1]) (b := (x_ad Y 30 0)) hx hb hown hK (x_recv hK hw ok0_ rfl (by decide)) k_919 k_921 ks_21 ⟨_, x_cd hK k_922⟩ q_Mod_noAccount rfl rfl d_Mod_transact_3) (fun r1 L9 I9 k9 n9 H locs h hw hb9 => ?_) (fun _ _ _ _ _ _ _ h9 => h9.elim)
  obtain ⟨e1, e2, e3, e4, h⟩ := h
  rw [e1, e2] at hw
  rw [e3, e4]
  refine lv_if_ne (tgt := 17) hx hb d_Mod_transact_6 (by decide) (fun c2 => ?_) (fun c2 => ?_)
  · replace h := h.1 c2
    refine lv_iconst (v := 1) hx hb d_Mod_transact_17 (by decide) ?_
    refine lv_goto (tgt := 53) hx hb d_Mod_transact_18 (by decide) ?_
    refine x_putI (t := 30) (i := 0) (j := 0) hx hb hK hw hown ok0_ rfl (by decide) (by decide) (x_wd hK k_798 rfl) (fun _ h => h) rfl rfl d_Mod_transact_53 (fun I3 H locs e_I3 hw => ?_)
    replace h := h I3 e_I3
    refine lv_aload_n hx hb d_Mod_transact_56 rfl (lv_at hl 0 rfl) ?_
    refine x_getI (t := 30) (i := 0) (j := 0) hx hb hK hw hown ok0_ rfl (by decide) (by decide) (x_wd hK k_798 rfl) (fun _ h => h) fk_8_0 d_Mod_transact_57 ?_
    refine lv_if_le (tgt := 65) hx hb d_Mod_transact_60 (by decide) (fun c4 => ?_) (fun c4 => ?_)
    · replace h := h.1 c4
      refine lv_aload_n hx hb d_Mod_transact_65 rfl (lv_at hl 0 rfl) ?_
      refine lv_iconst (v := 0) hx hb d_Mod_transact_66 (by decide) ?_
      refine x_putI (t := 30) (i := 0) (j := 18) hx hb hK hw hown ok0_ rfl (by decide) (by decide) (x_wd hK k_816 rfl) (fun _ h => h) rfl rfl d_Mod_transact_67 (fun I5 H locs e_I5 hw => ?_)
      replace h := h I5 e_I5
      refine lv_iconst (v := 0) hx hb d_Mod_transact_70 (by decide) ?_
      refine lv_topi (fun x6 e_x6 => ?_)
      replace h := h x6 e_x6
      refine lv_istore (lv' := [(5, .int x6), (0, .ref (x_ad Y 30 0)), (1, .int p1), (2, .int p2), (3, .int p3), (4, .int p4)]) hx hb d_Mod_transact_71 hl (by decide) rfl (fun ls hl => ?_)
      obtain ⟨fu, h⟩ := h
      exact c_Mod_transact_73 hE hexn hY ok0_ fu p1 p2 p3 p4 x6 I5 H locs ls h hw hbd (lv_sub hl [1, 2, 3, 4, 5, 0] rfl)
    · replace h := h.2 c4
      refine lv_iconst (v := 0) hx hb d_Mod_transact_63 (by decide) ?_
      exact x_iret hx hb hr hlk hw ⟨rfl, Or.inl ⟨_, rfl, ⟨rfl, rfl, rfl, h⟩⟩⟩ hbd d_Mod_transact_64
  · replace h := h.2 c2
    refine lv_aload_n hx hb d_Mod_transact_9 rfl (lv_at hl 0 rfl) ?_
    refine lv_iload_n hx hb d_Mod_transact_10 rfl (lv_at hl 2 rfl) ?_
    refine x_goI (ls := ls) (rest := [.ref (x_ad Y 30 0)]) hE hw (c_Mod_noAccount hY ok0_ h) (x_cd hK k_922) q_Mod_noAccount (by decide) (by decide) hl.1 (Nat.le_of_ble_eq_true rfl) hbd d_Mod_transact_11 (x_toV (As := [.int p2]) (b := (x_ad Y 30 0)) hx hb hown hK (x_recv hK hw ok0_ rfl (by decide)) k_919 k_921 ks_21 ⟨_, x_cd hK k_922⟩ q_Mod_noAccount rfl rfl d_Mod_transact_11) (fun r19 L9 I9 k9 n9 H locs h hw hb9 => ?_) (fun _ _ _ _ _ _ _ h9 => h9.elim)
    obtain ⟨e1, e2, e3, e4, h⟩ := h
    rw [e1, e2] at hw
    rw [e3, e4]
    refine lv_if_eq (tgt := 21) hx hb d_Mod_transact_14 (by decide) (fun c20 => ?_) (fun c20 => ?_)
    · replace h := h.1 c20
      refine lv_iload_n hx hb d_Mod_transact_21 rfl (lv_at hl 3 rfl) ?_
      refine lv_if_lt (tgt := 48) hx hb d_Mod_transact_22 (by decide) (fun c21 => ?_) (fun c21 => ?_)
      · replace h := h.1 c21
        refine lv_iconst (v := 2) hx hb d_Mod_transact_48 (by decide) ?_
        refine lv_goto (tgt := 53) hx hb d_Mod_transact_49 (by decide) ?_
        refine x_putI (t := 30) (i := 0) (j := 0) hx hb hK hw hown ok0_ rfl (by decide) (by decide) (x_wd hK k_798 rfl) (fun _ h => h) rfl rfl d_Mod_transact_53 (fun I22 H locs e_I22 hw => ?_)
        replace h := h I22 e_I22
        refine lv_aload_n hx hb d_Mod_transact_56 rfl (lv_at hl 0 rfl) ?_
        refine x_getI (t := 30) (i := 0) (j := 0) hx hb hK hw hown ok0_ rfl (by decide) (by decide) (x_wd hK k_798 rfl) (fun _ h => h) fk_8_0 d_Mod_transact_57 ?_
        refine lv_if_le (tgt := 65) hx hb d_Mod_transact_60 (by decide) (fun c23 => ?_) (fun c23 => ?_)
        · replace h := h.1 c23
          refine lv_aload_n hx hb d_Mod_transact_65 rfl (lv_at hl 0 rfl) ?_
          refine lv_iconst (v := 0) hx hb d_Mod_transact_66 (by decide) ?_
          refine x_putI (t := 30) (i := 0) (j := 18) hx hb hK hw hown ok0_ rfl (by decide) (by decide) (x_wd hK k_816 rfl) (fun _ h => h) rfl rfl d_Mod_transact_67 (fun I24 H locs e_I24 hw => ?_)
          replace h := h I24 e_I24
          refine lv_iconst (v := 0) hx hb d_Mod_transact_70 (by decide) ?_
          refine lv_topi (fun x25 e_x25 => ?_)
          replace h := h x25 e_x25
          refine lv_istore (lv' := [(5, .int x25), (0, .ref (x_ad Y 30 0)), (1, .int p1), (2, .int p2), (3, .int p3), (4, .int p4)]) hx hb d_Mod_transact_71 hl (by decide) rfl (fun ls hl => ?_)
          obtain ⟨fu, h⟩ := h
          exact c_Mod_transact_73 hE hexn hY ok0_ fu p1 p2 p3 p4 x25 I24 H locs ls h hw hbd (lv_sub hl [1, 2, 3, 4, 5, 0] rfl)
        · replace h := h.2 c23
          refine lv_iconst (v := 0) hx hb d_Mod_transact_63 (by decide) ?_
          exact x_iret hx hb hr hlk hw ⟨rfl, Or.inl ⟨_, rfl, ⟨rfl, rfl, rfl, h⟩⟩⟩ hbd d_Mod_transact_64
      · replace h := h.2 c21
        refine lv_iload_n hx hb d_Mod_transact_25 rfl (lv_at hl 3 rfl) ?_
        refine lv_aload_n hx hb d_Mod_transact_26 rfl (lv_at hl 0 rfl) ?_
        refine x_getR (t := 30) (i := 0) (j := 2) hx hb hK hw hown ok0_ rfl (by decide) (by decide) (x_wd hK k_800 rfl) (fun _ h => h) fk_8_2 (hY.r ok0_ rfl) d_Mod_transact_27 ?_
        have ok26 := hY.ok 2 ok0_ (t' := 42) (i' := 0) rfl
        refine lv_iload_n hx hb d_Mod_transact_30 rfl (lv_at hl 1 rfl) ?_
        refine x_iald (t := 42) (i := 0) hx hb hK hw ok26 rfl (hY.n ok26 rfl) h.1 d_Mod_transact_31 ?_
        replace h := h.2
        refine lv_icmp_gt (tgt := 48) hx hb d_Mod_transact_32 (by decide) (fun c27 => ?_) (fun c27 => ?_)
        · replace h := h.1 c27
          refine lv_iconst (v := 2) hx hb d_Mod_transact_48 (by decide) ?_
          refine lv_goto (tgt := 53) hx hb d_Mod_transact_49 (by decide) ?_
          refine x_putI (t := 30) (i := 0) (j := 0) hx hb hK hw hown ok0_ rfl (by decide) (by decide) (x_wd hK k_798 rfl) (fun _ h => h) rfl rfl d_Mod_transact_53 (fun I28 H locs e_I28 hw => ?_)
          replace h := h I28 e_I28
          refine lv_aload_n hx hb d_Mod_transact_56 rfl (lv_at hl 0 rfl) ?_
          refine x_getI (t := 30) (i := 0) (j := 0) hx hb hK hw hown ok0_ rfl (by decide) (by decide) (x_wd hK k_798 rfl) (fun _ h => h) fk_8_0 d_Mod_transact_57 ?_
          refine lv_if_le (tgt := 65) hx hb d_Mod_transact_60 (by decide) (fun c29 => ?_) (fun c29 => ?_)
          · replace h := h.1 c29
            refine lv_aload_n hx hb d_Mod_transact_65 rfl (lv_at hl 0 rfl) ?_
            refine lv_iconst (v := 0) hx hb d_Mod_transact_66 (by decide) ?_
            refine x_putI (t := 30) (i := 0) (j := 18) hx hb hK hw hown ok0_ rfl (by decide) (by decide) (x_wd hK k_816 rfl) (fun _ h => h) rfl rfl d_Mod_transact_67 (fun I30 H locs e_I30 hw => ?_)
            replace h := h I30 e_I30
            refine lv_iconst (v := 0) hx hb d_Mod_transact_70 (by decide) ?_
            refine lv_topi (fun x31 e_x31 => ?_)
            replace h := h x31 e_x31
            refine lv_istore (lv' := [(5, .int x31), (0, .ref (x_ad Y 30 0)), (1, .int p1), (2, .int p2), (3, .int p3), (4, .int p4)]) hx hb d_Mod_transact_71 hl (by decide) rfl (fun ls hl => ?_)
            obtain ⟨fu, h⟩ := h
            exact c_Mod_transact_73 hE hexn hY ok0_ fu p1 p2 p3 p4 x31 I30 H locs ls h hw hbd (lv_sub hl [1, 2, 3, 4, 5, 0] rfl)
          · replace h := h.2 c29
            refine lv_iconst (v := 0) hx hb d_Mod_transact_63 (by decide) ?_
            exact x_iret hx hb hr hlk hw ⟨rfl, Or.inl ⟨_, rfl, ⟨rfl, rfl, rfl, h⟩⟩⟩ hbd d_Mod_transact_64
        · replace h := h.2 c27
          refine lv_iload hx hb d_Mod_transact_35 (lv_at hl 4 rfl) ?_
          refine lv_if_lt (tgt := 48) hx hb d_Mod_transact_37 (by decide) (fun c32 => ?_) (fun c32 => ?_)
          · replace h := h.1 c32
            refine lv_iconst (v := 2) hx hb d_Mod_transact_48 (by decide) ?_
            refine lv_goto (tgt := 53) hx hb d_Mod_transact_49 (by decide) ?_
            refine x_putI (t := 30) (i := 0) (j := 0) hx hb hK hw hown ok0_ rfl (by decide) (by decide) (x_wd hK k_798 rfl) (fun _ h => h) rfl rfl d_Mod_transact_53 (fun I33 H locs e_I33 hw => ?_)
            replace h := h I33 e_I33
            refine lv_aload_n hx hb d_Mod_transact_56 rfl (lv_at hl 0 rfl) ?_
            refine x_getI (t := 30) (i := 0) (j := 0) hx hb hK hw hown ok0_ rfl (by decide) (by decide) (x_wd hK k_798 rfl) (fun _ h => h) fk_8_0 d_Mod_transact_57 ?_
            refine lv_if_le (tgt := 65) hx hb d_Mod_transact_60 (by decide) (fun c34 => ?_) (fun c34 => ?_)
            · replace h := h.1 c34
              refine lv_aload_n hx hb d_Mod_transact_65 rfl (lv_at hl 0 rfl) ?_
              refine lv_iconst (v := 0) hx hb d_Mod_transact_66 (by decide) ?_
              refine x_putI (t := 30) (i := 0) (j := 18) hx hb hK hw hown ok0_ rfl (by decide) (by decide) (x_wd hK k_816 rfl) (fun _ h => h) rfl rfl d_Mod_transact_67 (fun I35 H locs e_I35 hw => ?_)
              replace h := h I35 e_I35
              refine lv_iconst (v := 0) hx hb d_Mod_transact_70 (by decide) ?_
              refine lv_topi (fun x36 e_x36 => ?_)
              replace h := h x36 e_x36
              refine lv_istore (lv' := [(5, .int x36), (0, .ref (x_ad Y 30 0)), (1, .int p1), (2, .int p2), (3, .int p3), (4, .int p4)]) hx hb d_Mod_transact_71 hl (by decide) rfl (fun ls hl => ?_)
              obtain ⟨fu, h⟩ := h
              exact c_Mod_transact_73 hE hexn hY ok0_ fu p1 p2 p3 p4 x36 I35 H locs ls h hw hbd (lv_sub hl [1, 2, 3, 4, 5, 0] rfl)
            · replace h := h.2 c34
              refine lv_iconst (v := 0) hx hb d_Mod_transact_63 (by decide) ?_
              exact x_iret hx hb hr hlk hw ⟨rfl, Or.inl ⟨_, rfl, ⟨rfl, rfl, rfl, h⟩⟩⟩ hbd d_Mod_transact_64
          · replace h := h.2 c32
            refine lv_iload hx hb d_Mod_transact_40 (lv_at hl 4 rfl) ?_
            refine lv_sipush (v := 10000) hx hb d_Mod_transact_42 (by decide) ?_
            refine lv_icmp_le (tgt := 52) hx hb d_Mod_transact_45 (by decide) (fun c37 => ?_) (fun c37 => ?_)
            · replace h := h.1 c37
              refine lv_iconst (v := 0) hx hb d_Mod_transact_52 (by decide) ?_
              refine x_putI (t := 30) (i := 0) (j := 0) hx hb hK hw hown ok0_ rfl (by decide) (by decide) (x_wd hK k_798 rfl) (fun _ h => h) rfl rfl d_Mod_transact_53 (fun I38 H locs e_I38 hw => ?_)
              replace h := h I38 e_I38
              refine lv_aload_n hx hb d_Mod_transact_56 rfl (lv_at hl 0 rfl) ?_
              refine x_getI (t := 30) (i := 0) (j := 0) hx hb hK hw hown ok0_ rfl (by decide) (by decide) (x_wd hK k_798 rfl) (fun _ h => h) fk_8_0 d_Mod_transact_57 ?_
              refine lv_if_le (tgt := 65) hx hb d_Mod_transact_60 (by decide) (fun c39 => ?_) (fun c39 => ?_)
              · replace h := h.1 c39
                refine lv_aload_n hx hb d_Mod_transact_65 rfl (lv_at hl 0 rfl) ?_
                refine lv_iconst (v := 0) hx hb d_Mod_transact_66 (by decide) ?_
                refine x_putI (t := 30) (i := 0) (j := 18) hx hb hK hw hown ok0_ rfl (by decide) (by decide) (x_wd hK k_816 rfl) (fun _ h => h) rfl rfl d_Mod_transact_67 (fun I40 H locs e_I40 hw => ?_)
                replace h := h I40 e_I40
                refine lv_iconst (v := 0) hx hb d_Mod_transact_70 (by decide) ?_
                refine lv_topi (fun x41 e_x41 => ?_)
                replace h := h x41 e_x41
                refine lv_istore (lv' := [(5, .int x41), (0, .ref (x_ad Y 30 0)), (1, .int p1), (2, .int p2), (3, .int p3), (4, .int p4)]) hx hb d_Mod_transact_71 hl (by decide) rfl (fun ls hl => ?_)
                obtain ⟨fu, h⟩ := h
                exact c_Mod_transact_73 hE hexn hY ok0_ fu p1 p2 p3 p4 x41 I40 H locs ls h hw hbd (lv_sub hl [1, 2, 3, 4, 5, 0] rfl)
              · replace h := h.2 c39
                refine lv_iconst (v := 0) hx hb d_Mod_transact_63 (by decide) ?_
                exact x_iret hx hb hr hlk hw ⟨rfl, Or.inl ⟨_, rfl, ⟨rfl, rfl, rfl, h⟩⟩⟩ hbd d_Mod_transact_64
            · replace h := h.2 c37
              refine lv_iconst (v := 2) hx hb d_Mod_transact_48 (by decide) ?_
              refine lv_goto (tgt := 53) hx hb d_Mod_transact_49 (by decide) ?_
              refine x_putI (t := 30) (i := 0) (j := 0) hx hb hK hw hown ok0_ rfl (by decide) (by decide) (x_wd hK k_798 rfl) (fun _ h => h) rfl rfl d_Mod_transact_53 (fun I42 H locs e_I42 hw => ?_)
              replace h := h I42 e_I42
              refine lv_aload_n hx hb d_Mod_transact_56 rfl (lv_at hl 0 rfl) ?_
              refine x_getI (t := 30) (i := 0) (j := 0) hx hb hK hw hown ok0_ rfl (by decide) (by decide) (x_wd hK k_798 rfl) (fun _ h => h) fk_8_0 d_Mod_transact_57 ?_
              refine lv_if_le (tgt := 65) hx hb d_Mod_transact_60 (by decide) (fun c43 => ?_) (fun c43 => ?_)
              · replace h := h.1 c43
                refine lv_aload_n hx hb d_Mod_transact_65 rfl (lv_at hl 0 rfl) ?_
                refine lv_iconst (v := 0) hx hb d_Mod_transact_66 (by decide) ?_
                refine x_putI (t := 30) (i := 0) (j := 18) hx hb hK hw hown ok0_ rfl (by decide) (by decide) (x_wd hK k_816 rfl) (fun _ h => h) rfl rfl d_Mod_transact_67 (fun I44 H locs e_I44 hw => ?_)
                replace h := h I44 e_I44
                refine lv_iconst (v := 0) hx hb d_Mod_transact_70 (by decide) ?_
                refine lv_topi (fun x45 e_x45 => ?_)
                replace h := h x45 e_x45
                refine lv_istore (lv' := [(5, .int x45), (0, .ref (x_ad Y 30 0)), (1, .int p1), (2, .int p2), (3, .int p3), (4, .int p4)]) hx hb d_Mod_transact_71 hl (by decide) rfl (fun ls hl => ?_)
                obtain ⟨fu, h⟩ := h
                exact c_Mod_transact_73 hE hexn hY ok0_ fu p1 p2 p3 p4 x45 I44 H locs ls h hw hbd (lv_sub hl [1, 2, 3, 4, 5, 0] rfl)
              · replace h := h.2 c43
                refine lv_iconst (v := 0) hx hb d_Mod_transact_63 (by decide) ?_
                exact x_iret hx hb hr hlk hw ⟨rfl, Or.inl ⟨_, rfl, ⟨rfl, rfl, rfl, h⟩⟩⟩ hbd d_Mod_transact_64
    · replace h := h.2 c20
      refine lv_iconst (v := 1) hx hb d_Mod_transact_17 (by decide) ?_
      refine lv_goto (tgt := 53) hx hb d_Mod_transact_18 (by decide) ?_
      refine x_putI (t := 30) (i := 0) (j := 0) hx hb hK hw hown ok0_ rfl (by decide) (by decide) (x_wd hK k_798 rfl) (fun _ h => h) rfl rfl d_Mod_transact_53 (fun I46 H locs e_I46 hw => ?_)
      replace h := h I46 e_I46
      refine lv_aload_n hx hb d_Mod_transact_56 rfl (lv_at hl 0 rfl) ?_
      refine x_getI (t := 30) (i := 0) (j := 0) hx hb hK hw hown ok0_ rfl (by decide) (by decide) (x_wd hK k_798 rfl) (fun _ h => h) fk_8_0 d_Mod_transact_57 ?_
      refine lv_if_le (tgt := 65) hx hb d_Mod_transact_60 (by decide) (fun c47 => ?_) (fun c47 => ?_)
      · replace h := h.1 c47
        refine lv_aload_n hx hb d_Mod_transact_65 rfl (lv_at hl 0 rfl) ?_
        refine lv_iconst (v := 0) hx hb d_Mod_transact_66 (by decide) ?_
        refine x_putI (t := 30) (i := 0) (j := 18) hx hb hK hw hown ok0_ rfl (by decide) (by decide) (x_wd hK k_816 rfl) (fun _ h => h) rfl rfl d_Mod_transact_67 (fun I48 H locs e_I48 hw => ?_)
        replace h := h I48 e_I48
        refine lv_iconst (v := 0) hx hb d_Mod_transact_70 (by decide) ?_
        refine lv_topi (fun x49 e_x49 => ?_)
        replace h := h x49 e_x49
        refine lv_istore (lv' := [(5, .int x49), (0, .ref (x_ad Y 30 0)), (1, .int p1), (2, .int p2), (3, .int p3), (4, .int p4)]) hx hb d_Mod_transact_71 hl (by decide) rfl (fun ls hl => ?_)
        obtain ⟨fu, h⟩ := h
        exact c_Mod_transact_73 hE hexn hY ok0_ fu p1 p2 p3 p4 x49 I48 H locs ls h hw hbd (lv_sub hl [1, 2, 3, 4, 5, 0] rfl)
      · replace h := h.2 c47
        refine lv_iconst (v := 0) hx hb d_Mod_transact_63 (by decide) ?_
        exact x_iret hx hb hr hlk hw ⟨rfl, Or.inl ⟨_, rfl, ⟨rfl, rfl, rfl, h⟩⟩⟩ hbd d_Mod_transact_64
