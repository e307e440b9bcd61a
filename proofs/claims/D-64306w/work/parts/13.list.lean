/-! THE LIST: size, get -/
abbrev y_List_get : MethodName := ⟨"java/util/List", "get", "(I)Ljava/lang/Object;"⟩
abbrev y_List_size : MethodName := ⟨"java/util/List", "size", "()I"⟩
theorem d_AL_get_0 : decode prog_26_method_20_code 0 = .ok (.iload_n 1, 1) := by decide +kernel
theorem d_AL_get_1 : decode prog_26_method_20_code 1 = .ok (.aload_n 0, 1) := by decide +kernel
theorem d_AL_get_2 : decode prog_26_method_20_code 2 = .ok (.getfield 48, 3) := by decide +kernel
theorem d_AL_get_5 : decode prog_26_method_20_code 5 = .ok (.invokestatic 118, 3) := by decide +kernel
theorem d_AL_get_8 : decode prog_26_method_20_code 8 = .ok (.pop, 1) := by decide +kernel
theorem d_AL_get_9 : decode prog_26_method_20_code 9 = .ok (.aload_n 0, 1) := by decide +kernel
theorem d_AL_get_10 : decode prog_26_method_20_code 10 = .ok (.iload_n 1, 1) := by decide +kernel
theorem d_AL_get_11 : decode prog_26_method_20_code 11 = .ok (.invokevirtual 123, 3) := by decide +kernel
theorem d_AL_get_14 : decode prog_26_method_20_code 14 = .ok (.areturn, 1) := by decide +kernel
theorem d_Obj_checkIndex_0 : decode prog_32_method_17_code 0 = .ok (.iload_n 0, 1) := by decide +kernel
theorem d_Obj_checkIndex_1 : decode prog_32_method_17_code 1 = .ok (.iload_n 1, 1) := by decide +kernel
theorem d_Obj_checkIndex_2 : decode prog_32_method_17_code 2 = .ok (.aconst_null, 1) := by decide +kernel
theorem d_Obj_checkIndex_3 : decode prog_32_method_17_code 3 = .ok (.invokestatic 105, 3) := by decide +kernel
theorem d_Obj_checkIndex_6 : decode prog_32_method_17_code 6 = .ok (.ireturn, 1) := by decide +kernel
theorem d_Pre_checkIndex_0 : decode prog_36_method_11_code 0 = .ok (.iload_n 0, 1) := by decide +kernel
theorem d_Pre_checkIndex_1 : decode prog_36_method_11_code 1 = .ok (.ifCond .lt 8, 3) := by decide +kernel
theorem d_Pre_checkIndex_4 : decode prog_36_method_11_code 4 = .ok (.iload_n 0, 1) := by decide +kernel
theorem d_Pre_checkIndex_5 : decode prog_36_method_11_code 5 = .ok (.iload_n 1, 1) := by decide +kernel
theorem d_Pre_checkIndex_6 : decode prog_36_method_11_code 6 = .ok (.if_icmp .lt 10, 3) := by decide +kernel
theorem d_Pre_checkIndex_16 : decode prog_36_method_11_code 16 = .ok (.iload_n 0, 1) := by decide +kernel
theorem d_Pre_checkIndex_17 : decode prog_36_method_11_code 17 = .ok (.ireturn, 1) := by decide +kernel
theorem d_AL_elementData_0 : decode prog_26_method_18_code 0 = .ok (.aload_n 0, 1) := by decide +kernel
theorem d_AL_elementData_1 : decode prog_26_method_18_code 1 = .ok (.getfield 9, 3) := by decide +kernel
theorem d_AL_elementData_4 : decode prog_26_method_18_code 4 = .ok (.iload_n 1, 1) := by decide +kernel
theorem d_AL_elementData_5 : decode prog_26_method_18_code 5 = .ok (.aaload, 1) := by decide +kernel
theorem d_AL_elementData_6 : decode prog_26_method_18_code 6 = .ok (.areturn, 1) := by decide +kernel
theorem d_AL_size_0 : decode prog_26_method_8_code 0 = .ok (.aload_n 0, 1) := by decide +kernel
theorem d_AL_size_1 : decode prog_26_method_8_code 1 = .ok (.getfield 48, 3) := by decide +kernel
theorem d_AL_size_4 : decode prog_26_method_8_code 4 = .ok (.ireturn, 1) := by decide +kernel
theorem kl_1 : Cond.code y_AL_get prog_26_method_20_code 2 (some (.object "java/lang/Object")) ∈ lw_tbl := by decide +kernel
theorem kl_2 : Cond.code y_Obj_checkIndex prog_32_method_17_code 2 (some .int) ∈ lw_tbl := by decide +kernel
theorem kl_3 : Cond.code y_Pre_checkIndex prog_36_method_11_code 3 (some .int) ∈ lw_tbl := by decide +kernel
theorem kl_4 : Cond.code y_AL_elementData prog_26_method_18_code 2 (some (.object "java/lang/Object")) ∈ lw_tbl := by decide +kernel
theorem kl_5 : Cond.code y_AL_size prog_26_method_8_code 1 (some .int) ∈ lw_tbl := by decide +kernel
theorem kl_6 : Cond.fieldLink "java/util/ArrayList" 48 "java/util/ArrayList" "size" "I" ∈ lw_tbl := by decide +kernel
theorem kl_7 : Cond.fieldLink "java/util/ArrayList" 9 "java/util/ArrayList" "elementData" "[Ljava/lang/Object;" ∈ lw_tbl := by decide +kernel
theorem kl_8 : Cond.methodLink "java/util/ArrayList" 118 y_Obj_checkIndex ∈ lw_tbl := by decide +kernel
theorem kl_9 : Cond.static y_Obj_checkIndex ∈ lw_tbl := by decide +kernel
theorem kl_10 : Cond.initialized "java/util/Objects" ∈ lw_tbl := by decide +kernel
theorem kl_11 : Cond.methodLink "java/util/Objects" 105 y_Pre_checkIndex ∈ lw_tbl := by decide +kernel
theorem kl_12 : Cond.static y_Pre_checkIndex ∈ lw_tbl := by decide +kernel
theorem kl_13 : Cond.initialized "jdk/internal/util/Preconditions" ∈ lw_tbl := by decide +kernel
theorem kl_14 : Cond.methodLink "java/util/ArrayList" 123 y_AL_elementData ∈ lw_tbl := by decide +kernel
theorem kl_15 : Cond.instanceMethod y_AL_elementData ∈ lw_tbl := by decide +kernel
theorem kl_16 : Cond.selects "java/util/ArrayList" y_AL_elementData y_AL_elementData ∈ lw_tbl := by decide +kernel
theorem kl_17 : Cond.instanceMethod y_AL_get ∈ lw_tbl := by decide +kernel
theorem kl_18 : Cond.selects "java/util/ArrayList" y_List_get y_AL_get ∈ lw_tbl := by decide +kernel
theorem kl_19 : Cond.instanceMethod y_AL_size ∈ lw_tbl := by decide +kernel
theorem kl_20 : Cond.selects "java/util/ArrayList" y_List_size y_AL_size ∈ lw_tbl := by decide +kernel
theorem kl_21 : Cond.declares y_List_get ∈ lw_tbl := by decide +kernel
theorem kl_22 : Cond.declares y_List_size ∈ lw_tbl := by decide +kernel
theorem kl_23 : Cond.interfaceMethod "java/util/List" "java/util/List" "get" "(I)Ljava/lang/Object;" ∈ lw_tbl := by decide +kernel
theorem kl_24 : Cond.interfaceMethod "java/util/List" "java/util/List" "size" "()I" ∈ lw_tbl := by decide +kernel
theorem kl_25 : Cond.publicMethod y_AL_get ∈ lw_tbl := by decide +kernel
theorem kl_26 : Cond.publicMethod y_AL_size ∈ lw_tbl := by decide +kernel
theorem kl_27 : Cond.unhidden "java/util/ArrayList" "get" "(I)Ljava/lang/Object;" ∈ lw_tbl := by decide +kernel
theorem kl_28 : Cond.unhidden "java/util/ArrayList" "size" "()I" ∈ lw_tbl := by decide +kernel
theorem kl_29 : Cond.castable "java/util/ArrayList" "java/util/List" ∈ lw_tbl := by decide +kernel
theorem ql_1 : x_yok y_AL_get 1 := by unfold x_yok; decide +kernel
theorem ql_2 : x_yok y_Obj_checkIndex 2 := by unfold x_yok; decide +kernel
theorem ql_3 : x_yok y_Pre_checkIndex 3 := by unfold x_yok; decide +kernel
theorem ql_4 : x_yok y_AL_elementData 1 := by unfold x_yok; decide +kernel
theorem ql_5 : x_yok y_AL_size 0 := by unfold x_yok; decide +kernel
theorem ql_6 : x_yok y_List_get 1 := by unfold x_yok; decide +kernel
theorem ql_7 : x_yok y_List_size 0 := by unfold x_yok; decide +kernel
theorem c_Pre_checkIndex {l : Launch} {g : x_G} {Y : x_Y} {p1 p2 : Int32} (h1 : ¬ p1 < 0) (h2 : p1 < p2) {L : x_L} {I : x_I} {k n : Nat} : x_C l y_Pre_checkIndex 0 g [.int p1, .int p2, .null] Y L I k n (x_pI Y (fun v L' I' k' n' => L' = L ∧ I' = I ∧ k' = k ∧ n' = n ∧ v = p1) x_nx) := by
  refine x_mth kl_3 ?_
  intro p e R s m below meth c hE hnm hexn hw hk1 hn1
  obtain ⟨hx, hb, hml, hr, hlk, hown, hK, htr, hF, hLo, hRc, hRs⟩ := id hE
  have hbd : x_bd k n k n := ⟨Nat.le_refl _, hk1, Nat.le_refl _, hn1⟩
  have hl := lv_entry ([.int p1, .int p2, .null]) (n := 3) (Nat.le_of_ble_eq_true rfl)
  generalize (lg_sl [.int p1, .int p2, .null] ++ List.replicate (3 - (lg_sl [.int p1, .int p2, .null]).length) Slot.unset).toArray = ls at hl ⊢
  have hl : lv_has ls 3 [(0, .int p1), (1, .int p2), (2, .null)] := hl
  refine lv_iload_n hx hb d_Pre_checkIndex_0 rfl (lv_at hl 0 rfl) ?_
  refine lv_if_lt (tgt := 9) hx hb d_Pre_checkIndex_1 (by decide) (fun c => absurd c h1) (fun c => ?_)
  refine lv_iload_n hx hb d_Pre_checkIndex_4 rfl (lv_at hl 0 rfl) ?_
  refine lv_iload_n hx hb d_Pre_checkIndex_5 rfl (lv_at hl 1 rfl) ?_
  refine lv_icmp_lt (tgt := 16) hx hb d_Pre_checkIndex_6 (by decide) (fun c => ?_) (fun c => absurd h2 c)
  refine lv_iload_n hx hb d_Pre_checkIndex_16 rfl (lv_at hl 0 rfl) ?_
  exact x_iret hx hb hr hlk hw ⟨rfl, Or.inl ⟨_, rfl, ⟨rfl, rfl, rfl, rfl, rfl⟩⟩⟩ hbd d_Pre_checkIndex_17
theorem c_Obj_checkIndex {l : Launch} {g : x_G} {Y : x_Y} {p1 p2 : Int32} (h1 : ¬ p1 < 0) (h2 : p1 < p2) {L : x_L} {I : x_I} {k n : Nat} : x_C l y_Obj_checkIndex 1 g [.int p1, .int p2] Y L I k n (x_pI Y (fun v L' I' k' n' => L' = L ∧ I' = I ∧ k' = k ∧ n' = n ∧ v = p1) x_nx) := by
  refine x_mth kl_2 ?_
  intro p e R s m below meth c hE hnm hexn hw hk1 hn1
  obtain ⟨hx, hb, hml, hr, hlk, hown, hK, htr, hF, hLo, hRc, hRs⟩ := id hE
  have hbd : x_bd k n k n := ⟨Nat.le_refl _, hk1, Nat.le_refl _, hn1⟩
  have hl := lv_entry ([.int p1, .int p2]) (n := 2) (Nat.le_of_ble_eq_true rfl)
  generalize (lg_sl [.int p1, .int p2] ++ List.replicate (2 - (lg_sl [.int p1, .int p2]).length) Slot.unset).toArray = ls at hl ⊢
  have hl : lv_has ls 2 [(0, .int p1), (1, .int p2)] := hl
  refine lv_iload_n hx hb d_Obj_checkIndex_0 rfl (lv_at hl 0 rfl) ?_
  refine lv_iload_n hx hb d_Obj_checkIndex_1 rfl (lv_at hl 1 rfl) ?_
  refine lv_null hx hb d_Obj_checkIndex_2 ?_
  refine x_goI (ls := ls) (rest := []) hE hw (c_Pre_checkIndex h1 h2) (x_cd hK kl_3) ql_3 (by decide) (by decide) hl.1 (Nat.le_of_ble_eq_true rfl) hbd d_Obj_checkIndex_3 (x_toS (As := [.int p1, .int p2, .null]) hx hb hown hK kl_11 kl_12 kl_13 ⟨_, x_cd hK kl_3⟩ ql_3 rfl rfl d_Obj_checkIndex_3) (fun r1 L9 I9 k9 n9 H locs h hw hb9 => ?_) (fun _ _ _ _ _ _ _ h9 => h9.elim)
  obtain ⟨e1, e2, e3, e4, h⟩ := h
  rw [e1, e2] at hw
  rw [e3, e4]
  exact x_iret hx hb hr hlk hw ⟨rfl, Or.inl ⟨_, rfl, ⟨rfl, rfl, rfl, rfl, h⟩⟩⟩ hbd d_Obj_checkIndex_6
theorem c_AL_elementData {l : Launch} {g : x_G} {Y : x_Y} {nA a : Nat} (hLs : x_Ls Y nA) (ok : x_ok Y 2 0) (ha : a < nA) {L : x_L} {I : x_I} {k n : Nat} : x_C l y_AL_elementData 0 g [.ref (x_ad Y 2 0), .int (nI a)] Y L I k n (x_pR Y 23 (fun v L' I' k' n' => L' = L ∧ I' = I ∧ k' = k ∧ n' = n ∧ v = a) x_nx) := by
  refine x_mth kl_4 ?_
  intro p e R s m below meth c hE hnm hexn hw hk1 hn1
  obtain ⟨hx, hb, hml, hr, hlk, hown, hK, htr, hF, hLo, hRc, hRs⟩ := id hE
  have hbd : x_bd k n k n := ⟨Nat.le_refl _, hk1, Nat.le_refl _, hn1⟩
  obtain ⟨l1, l2, l3, l4, l5⟩ := hLs (Nat.lt_of_le_of_lt (Nat.zero_le _) ha)
  have hl := lv_entry ([.ref (x_ad Y 2 0), .int (nI a)]) (n := 2) (Nat.le_of_ble_eq_true rfl)
  generalize (lg_sl [.ref (x_ad Y 2 0), .int (nI a)] ++ List.replicate (2 - (lg_sl [.ref (x_ad Y 2 0), .int (nI a)]).length) Slot.unset).toArray = ls at hl ⊢
  have hl : lv_has ls 2 [(0, .ref (x_ad Y 2 0)), (1, .int (nI a))] := hl
  refine lv_aload_n hx hb d_AL_elementData_0 rfl (lv_at hl 0 rfl) ?_
  refine x_getR (t := 2) (i := 0) (j := 0) hx hb hK hw hown ok rfl (by decide) (by decide) (x_wd hK kl_7 rfl) (fun _ h => h) (by decide +kernel) l1 d_AL_elementData_1 ?_
  refine lv_iload_n hx hb d_AL_elementData_4 rfl (lv_at hl 1 rfl) ?_
  refine x_aald (t := 3) (i := 0) (a := x_ad Y 23 a) hx hb hK hw l2 rfl (by decide) (by decide) rfl (vp_in_nI (by omega) l4) (by rw [nI_clamp (by omega)]; exact (l5 a ha).1) d_AL_elementData_5 ?_
  exact x_aret hx hb hr (Or.inl ⟨_, rfl⟩) hlk hw ⟨rfl, Or.inl ⟨a, rfl, (l5 a ha).2, ⟨rfl, rfl, rfl, rfl, rfl⟩⟩⟩ hbd d_AL_elementData_6
theorem c_AL_get {l : Launch} {g : x_G} {Y : x_Y} {nA a : Nat} (hLs : x_Ls Y nA) (ok : x_ok Y 2 0) (ha : a < nA) {L : x_L} {I : x_I} (hsz : I 2 0 1 = nI nA) {k n : Nat} : x_C l y_AL_get 2 g [.ref (x_ad Y 2 0), .int (nI a)] Y L I k n (x_pR Y 23 (fun v L' I' k' n' => L' = L ∧ I' = I ∧ k' = k ∧ n' = n ∧ v = a) x_nx) := by
  refine x_mth kl_1 ?_
  intro p e R s m below meth c hE hnm hexn hw hk1 hn1
  obtain ⟨hx, hb, hml, hr, hlk, hown, hK, htr, hF, hLo, hRc, hRs⟩ := id hE
  have hbd : x_bd k n k n := ⟨Nat.le_refl _, hk1, Nat.le_refl _, hn1⟩
  obtain ⟨l1, l2, l3, l4, l5⟩ := hLs (Nat.lt_of_le_of_lt (Nat.zero_le _) ha)
  have hl := lv_entry ([.ref (x_ad Y 2 0), .int (nI a)]) (n := 2) (Nat.le_of_ble_eq_true rfl)
  generalize (lg_sl [.ref (x_ad Y 2 0), .int (nI a)] ++ List.replicate (2 - (lg_sl [.ref (x_ad Y 2 0), .int (nI a)]).length) Slot.unset).toArray = ls at hl ⊢
  have hl : lv_has ls 2 [(0, .ref (x_ad Y 2 0)), (1, .int (nI a))] := hl
  refine lv_iload_n hx hb d_AL_get_0 rfl (lv_at hl 1 rfl) ?_
  refine lv_aload_n hx hb d_AL_get_1 rfl (lv_at hl 0 rfl) ?_
  refine x_getI (t := 2) (i := 0) (j := 1) hx hb hK hw hown ok rfl (by decide) (by decide) (x_wd hK kl_6 rfl) (fun _ h => h) (by decide +kernel) d_AL_get_2 ?_
  refine x_goI (ls := ls) (rest := []) hE hw (c_Obj_checkIndex (nI_pos (by omega)) (by rw [hsz]; exact nI_lt ha (by omega))) (x_cd hK kl_2) ql_2 (by decide) (by decide) hl.1 (Nat.le_of_ble_eq_true rfl) hbd d_AL_get_5 (x_toS (As := [.int (nI a), .int (I 2 0 1)]) hx hb hown hK kl_8 kl_9 kl_10 ⟨_, x_cd hK kl_2⟩ ql_2 rfl rfl d_AL_get_5) (fun r1 L9 I9 k9 n9 H locs h hw hb9 => ?_) (fun _ _ _ _ _ _ _ h9 => h9.elim)
  obtain ⟨e1, e2, e3, e4, h⟩ := h
  rw [e1, e2] at hw
  rw [e3, e4]
  refine lv_pop hx hb d_AL_get_8 rfl ?_
  refine lv_aload_n hx hb d_AL_get_9 rfl (lv_at hl 0 rfl) ?_
  refine lv_iload_n hx hb d_AL_get_10 rfl (lv_at hl 1 rfl) ?_
  refine x_goR (ls := ls) (rest := []) hE hw (c_AL_elementData hLs ok ha) (x_cd hK kl_4) ql_4 (by decide) (by decide) hl.1 (Nat.le_of_ble_eq_true rfl) hbd d_AL_get_11 (x_toV (As := [.int (nI a)]) (b := x_ad Y 2 0) hx hb hown hK (x_recv hK hw ok rfl (by decide)) kl_14 kl_15 kl_16 ⟨_, x_cd hK kl_4⟩ ql_4 rfl rfl d_AL_get_11) (fun a1 L9 I9 k9 n9 H locs oka h hw hb9 => ?_) (fun _ _ _ _ _ _ _ h9 => h9.elim)
  obtain ⟨e1, e2, e3, e4, h⟩ := h
  rw [e1, e2] at hw
  rw [e3, e4]
  exact x_aret hx hb hr (Or.inl ⟨_, rfl⟩) hlk hw ⟨rfl, Or.inl ⟨a1, rfl, oka, ⟨rfl, rfl, rfl, rfl, h⟩⟩⟩ hbd d_AL_get_14
theorem c_AL_size {l : Launch} {g : x_G} {Y : x_Y} (ok : x_ok Y 2 0) {L : x_L} {I : x_I} {k n : Nat} : x_C l y_AL_size 0 g [.ref (x_ad Y 2 0)] Y L I k n (x_pI Y (fun v L' I' k' n' => L' = L ∧ I' = I ∧ k' = k ∧ n' = n ∧ v = I 2 0 1) x_nx) := by
  refine x_mth kl_5 ?_
  intro p e R s m below meth c hE hnm hexn hw hk1 hn1
  obtain ⟨hx, hb, hml, hr, hlk, hown, hK, htr, hF, hLo, hRc, hRs⟩ := id hE
  have hbd : x_bd k n k n := ⟨Nat.le_refl _, hk1, Nat.le_refl _, hn1⟩
  have hl := lv_entry ([.ref (x_ad Y 2 0)]) (n := 1) (Nat.le_of_ble_eq_true rfl)
  generalize (lg_sl [.ref (x_ad Y 2 0)] ++ List.replicate (1 - (lg_sl [.ref (x_ad Y 2 0)]).length) Slot.unset).toArray = ls at hl ⊢
  have hl : lv_has ls 1 [(0, .ref (x_ad Y 2 0))] := hl
  refine lv_aload_n hx hb d_AL_size_0 rfl (lv_at hl 0 rfl) ?_
  refine x_getI (t := 2) (i := 0) (j := 1) hx hb hK hw hown ok rfl (by decide) (by decide) (x_wd hK kl_6 rfl) (fun _ h => h) (by decide +kernel) d_AL_size_1 ?_
  exact x_iret hx hb hr hlk hw ⟨rfl, Or.inl ⟨_, rfl, ⟨rfl, rfl, rfl, rfl, rfl⟩⟩⟩ hbd d_AL_size_4
section XLS
variable {p : Program} {l : Launch} {e : Env} {R : Room} {s : State} {m : MethodId} {args : Array Value} {below : List Frame} {meth : Method} {c : Code} {H : Heap} {locs : List Loc} {cells slots : Nat} {Q : State → Prop}
variable {cc : ByteArray} {pc : Nat} {ls : Array Slot} {rest st As : List Value} {g : x_G} {Y : x_Y} {L : x_L} {I : x_I} {t i j k0 n0 k n : Nat} {P : x_P}
theorem x_lsize {own : String} {idx nL F : Nat} {ret : Option FieldType} (hE : x_E l g p e R s m meth c own cc nL ret F k0 n0) (hw : x_WL g Y L I H locs) (ok : x_ok Y 2 0) (m1 : Cond.methodLink own idx y_List_size ∈ lw_tbl) (hF : 1 ≤ F) (hls : ls.size = nL) (hr : (rest.map fun v => v.category).sum ≤ 8) (hkk : x_bd k0 n0 k n) (hdg : decode cc pc = .ok (.invokeinterface idx 1, 5))
    (kk : ∀ (H : Heap) (locs : List Loc), x_WL g Y L I H locs → W p l e R s m args below meth c H locs (k - k0) (n - n0) Q (F0 m (pc + 5) ls (.int (I 2 0 1) :: rest))) : W p l e R s m args below meth c H locs (k - k0) (n - n0) Q (F0 m pc ls (.ref (x_ad Y 2 0) :: rest)) := by
  obtain ⟨hx, hb, hml, -, hlk, hown, hK, htr, hFR, hLR, hRc, hRs⟩ := id hE
  refine x_goI (rest := rest) hE hw (c_AL_size ok) (x_cd hK kl_5) ql_5 (by omega) (by omega) hls hr hkk hdg (x_toF (C := "java/util/ArrayList") (x := y_List_size) (As := []) (b := x_ad Y 2 0) hx hb hown hK (hK.cls (c := 2) (by decide)).2 (x_recv hK hw ok rfl (by decide)) m1 kl_19 kl_20 (x_wdI hK (by decide) kl_22 kl_24 kl_26 kl_28 kl_29) ql_7 rfl rfl hdg) (fun v L1 I1 k1 n1 H1 locs1 h hw1 hb1 => ?_) (fun _ _ _ _ _ _ _ h9 => h9.elim)
  obtain ⟨e1, e2, e3, e4, e5⟩ := h
  rw [e1, e2] at hw1
  rw [e3, e4, e5]
  exact kk H1 locs1 hw1
theorem x_lget {own : String} {idx nL F nA a ic : Nat} {x : Int32} {ret : Option FieldType} (hE : x_E l g p e R s m meth c own cc nL ret F k0 n0) (hw : x_WL g Y L I H locs) (hLs : x_Ls Y nA) (ok : x_ok Y 2 0) (m1 : Cond.methodLink own idx y_List_get ∈ lw_tbl) (hF : 3 ≤ F) (hls : ls.size = nL) (hr : (rest.map fun v => v.category).sum ≤ 8) (hkk : x_bd k0 n0 k n) (ha : a < nA) (ea : x = nI a) (hsz : I 2 0 1 = nI nA) (m2 : Cond.classLink own ic "CallLedger$Account" ∈ lw_tbl) (hdg : decode cc pc = .ok (.invokeinterface idx 2, 5)) (hdc : decode cc (pc + 5) = .ok (.checkcast ic, 3))
    (kk : ∀ (H : Heap) (locs : List Loc), x_WL g Y L I H locs → W p l e R s m args below meth c H locs (k - k0) (n - n0) Q (F0 m (pc + 8) ls (.ref (x_ad Y 23 a) :: rest))) : W p l e R s m args below meth c H locs (k - k0) (n - n0) Q (F0 m pc ls (.int x :: .ref (x_ad Y 2 0) :: rest)) := by
  obtain ⟨hx, hb, hml, -, hlk, hown, hK, htr, hFR, hLR, hRc, hRs⟩ := id hE
  subst ea
  refine x_goR (rest := rest) hE hw (c_AL_get hLs ok ha hsz) (x_cd hK kl_1) ql_1 (by omega) (by omega) hls hr hkk hdg (x_toF (C := "java/util/ArrayList") (x := y_List_get) (As := [.int (nI a)]) (b := x_ad Y 2 0) hx hb hown hK (hK.cls (c := 2) (by decide)).2 (x_recv hK hw ok rfl (by decide)) m1 kl_17 kl_18 (x_wdI hK (by decide) kl_21 kl_23 kl_25 kl_27 kl_29) ql_6 rfl rfl hdg) (fun v L1 I1 k1 n1 H1 locs1 oka h hw1 hb1 => ?_) (fun _ _ _ _ _ _ _ h9 => h9.elim)
  obtain ⟨e1, e2, e3, e4, e5⟩ := h
  rw [e1, e2] at hw1
  rw [e3, e4]
  subst e5
  exact va_castS hx hb hown (x_wd hK m2 rfl) (hK.cls (c := 7) (by decide)).2 (x_recv hK hw1 oka (c0 := 7) rfl (by decide)) hdc (kk H1 locs1 hw1)
end XLS
