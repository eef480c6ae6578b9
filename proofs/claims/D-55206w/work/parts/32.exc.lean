/-! EXCEPTIONS OF OUR OWN, made -/
set_option maxHeartbeats 4000000 in
set_option maxRecDepth 100000 in
theorem c_J13_init_2R (l : Launch) {D : gD} (hB : gBs D) (hfl : l.stackTraces = false) (G : gH) (n : Nat) (qa : Nat) (re : Int32) (de : Int32) (c0_ : G qa = some (.inl (8, [.null, .null, .null, .null, .null, .int 0, .int re, .int de]))) (hz : gz D ≤ qa) : gMet l D yJ13_init_2 (ws_ yJ13_init_2 cJ13_init_2 1 none) 12 0 G n [.ref qa] (fun (v : Option Value) (G1 : gH) (n1 : Nat) => v = none ∧ n ≤ n1 ∧ gF G G1 n (fun q : Nat => q = qa) ∧ G1 qa = some (.inl (8, [.ref qa, gv D 0, gv D 1, .null, .null, .int 0, .int re, .int de]))) gNox := by
  refine g_start (by decide) (Nat.le_of_ble_eq_true rfl) ?_
  intro p e s m below meth c ls C hnm hxt hI hl
  have hx := C.x
  have hb := C.b
  have hS : va_S (gA D) s.heap s.heap [] := va_S.rf
  have hz0 := hI.z
  have lc0_ := hI.lt c0_
  have hF : gF G G n (fun q : Nat => q = qa) := gF.rf _ _ _
  have hl : lv_has ls 1 [(0, .ref qa)] := hl
  refine lv_aload_n hx hb dJ13_init_2_0 rfl (lv_at hl 0 rfl) ?_
  refine W.objInit hx hb C.ow (C.ts _ q463) (C.ts _ q135) (C.ts _ q136) rfl (by rw [C.ml]; exact hl.1) rfl dJ13_init_2_1 (show 1 ≤ 12 by decide) (show _ ≤ 60 * 12 by simp [Value.category]) ?_
  refine W.eq (g2 := F0 m 4 ls []) rfl ?_
  refine lv_aload_n hx hb dJ13_init_2_4 rfl (lv_at hl 0 rfl) ?_
  refine lv_aload_n hx hb dJ13_init_2_5 rfl (lv_at hl 0 rfl) ?_
  refine g_put (fs2 := [.ref qa, .null, .null, .null, .null, .int 0, .int re, .int de]) C hI hS c0_ (by omega) kc8 0 (Nat.le_of_ble_eq_true rfl) q489 (fun _ h9 => h9) rfl rfl rfl rfl dJ13_init_2_6 (fun G5301 H locs e5302 hI hS => ?_)
  have c0_ : G5301 qa = some (.inl (8, [.ref qa, .null, .null, .null, .null, .int 0, .int re, .int de])) := gE_s e5302
  have hF := gE_F e5302 hF (Or.inr rfl)
  refine lv_aload_n hx hb dJ13_init_2_9 rfl (lv_at hl 0 rfl) ?_
  refine g_gets C hS (st_UNASSIGNED_STACK D) q464 (fun _ h9 => h9) dJ13_init_2_10 ?_
  rcases hB.v0 with hv5303 | ⟨t5304, hv5303⟩
  · rw [hv5303]
    refine g_put (fs2 := [.ref qa, .null, .null, .null, .null, .int 0, .int re, .int de]) C hI hS c0_ (by omega) kc8 1 (Nat.le_of_ble_eq_true rfl) q490 (fun _ h9 => h9) rfl rfl rfl rfl dJ13_init_2_13 (fun G5305 H locs e5306 hI hS => ?_)
    have c0_ : G5305 qa = some (.inl (8, [.ref qa, .null, .null, .null, .null, .int 0, .int re, .int de])) := gE_s e5306
    have hF := gE_F e5306 hF (Or.inr rfl)
    refine lv_aload_n hx hb dJ13_init_2_16 rfl (lv_at hl 0 rfl) ?_
    refine g_gets C hS (st_SUPPRESSED_SENTINEL D) q466 (fun _ h9 => h9) dJ13_init_2_17 ?_
    rcases hB.v1 with hv5307 | ⟨t5308, hv5307⟩
    · rw [hv5307]
      refine g_put (fs2 := [.ref qa, .null, .null, .null, .null, .int 0, .int re, .int de]) C hI hS c0_ (by omega) kc8 2 (Nat.le_of_ble_eq_true rfl) q491 (fun _ h9 => h9) rfl rfl rfl rfl dJ13_init_2_20 (fun G5309 H locs e5310 hI hS => ?_)
      have c0_ : G5309 qa = some (.inl (8, [.ref qa, .null, .null, .null, .null, .int 0, .int re, .int de])) := gE_s e5310
      have hF := gE_F e5310 hF (Or.inr rfl)
      refine lv_aload_n hx hb dJ13_init_2_23 rfl (lv_at hl 0 rfl) ?_
      refine g_fill8 C hfl hB hI hS c0_ (by omega) hl (congrArg some hv5303.symm) rfl dJ13_init_2_24 (by decide) (Nat.le_of_ble_eq_true rfl) (fun H locs hI hS => ?_)
      refine lv_pop hx hb dJ13_init_2_27 rfl ?_
      exact g_vret C hI hS (by omega) ⟨rfl, (by omega), hF, c0_⟩ dJ13_init_2_28
    · rw [hv5307]
      refine g_put (fs2 := [.ref qa, .null, .ref t5308, .null, .null, .int 0, .int re, .int de]) C hI hS c0_ (by omega) kc8 2 (Nat.le_of_ble_eq_true rfl) q491 (fun _ h9 => h9) rfl rfl rfl rfl dJ13_init_2_20 (fun G5311 H locs e5312 hI hS => ?_)
      have c0_ : G5311 qa = some (.inl (8, [.ref qa, .null, .ref t5308, .null, .null, .int 0, .int re, .int de])) := gE_s e5312
      have hF := gE_F e5312 hF (Or.inr rfl)
      refine lv_aload_n hx hb dJ13_init_2_23 rfl (lv_at hl 0 rfl) ?_
      refine g_fill8 C hfl hB hI hS c0_ (by omega) hl (congrArg some hv5303.symm) rfl dJ13_init_2_24 (by decide) (Nat.le_of_ble_eq_true rfl) (fun H locs hI hS => ?_)
      refine lv_pop hx hb dJ13_init_2_27 rfl ?_
      exact g_vret C hI hS (by omega) ⟨rfl, (by omega), hF, c0_⟩ dJ13_init_2_28
  · rw [hv5303]
    refine g_put (fs2 := [.ref qa, .ref t5304, .null, .null, .null, .int 0, .int re, .int de]) C hI hS c0_ (by omega) kc8 1 (Nat.le_of_ble_eq_true rfl) q490 (fun _ h9 => h9) rfl rfl rfl rfl dJ13_init_2_13 (fun G5313 H locs e5314 hI hS => ?_)
    have c0_ : G5313 qa = some (.inl (8, [.ref qa, .ref t5304, .null, .null, .null, .int 0, .int re, .int de])) := gE_s e5314
    have hF := gE_F e5314 hF (Or.inr rfl)
    refine lv_aload_n hx hb dJ13_init_2_16 rfl (lv_at hl 0 rfl) ?_
    refine g_gets C hS (st_SUPPRESSED_SENTINEL D) q466 (fun _ h9 => h9) dJ13_init_2_17 ?_
    rcases hB.v1 with hv5315 | ⟨t5316, hv5315⟩
    · rw [hv5315]
      refine g_put (fs2 := [.ref qa, .ref t5304, .null, .null, .null, .int 0, .int re, .int de]) C hI hS c0_ (by omega) kc8 2 (Nat.le_of_ble_eq_true rfl) q491 (fun _ h9 => h9) rfl rfl rfl rfl dJ13_init_2_20 (fun G5317 H locs e5318 hI hS => ?_)
      have c0_ : G5317 qa = some (.inl (8, [.ref qa, .ref t5304, .null, .null, .null, .int 0, .int re, .int de])) := gE_s e5318
      have hF := gE_F e5318 hF (Or.inr rfl)
      refine lv_aload_n hx hb dJ13_init_2_23 rfl (lv_at hl 0 rfl) ?_
      refine g_fill8 C hfl hB hI hS c0_ (by omega) hl (congrArg some hv5303.symm) rfl dJ13_init_2_24 (by decide) (Nat.le_of_ble_eq_true rfl) (fun H locs hI hS => ?_)
      refine lv_pop hx hb dJ13_init_2_27 rfl ?_
      exact g_vret C hI hS (by omega) ⟨rfl, (by omega), hF, c0_⟩ dJ13_init_2_28
    · rw [hv5315]
      refine g_put (fs2 := [.ref qa, .ref t5304, .ref t5316, .null, .null, .int 0, .int re, .int de]) C hI hS c0_ (by omega) kc8 2 (Nat.le_of_ble_eq_true rfl) q491 (fun _ h9 => h9) rfl rfl rfl rfl dJ13_init_2_20 (fun G5319 H locs e5320 hI hS => ?_)
      have c0_ : G5319 qa = some (.inl (8, [.ref qa, .ref t5304, .ref t5316, .null, .null, .int 0, .int re, .int de])) := gE_s e5320
      have hF := gE_F e5320 hF (Or.inr rfl)
      refine lv_aload_n hx hb dJ13_init_2_23 rfl (lv_at hl 0 rfl) ?_
      refine g_fill8 C hfl hB hI hS c0_ (by omega) hl (congrArg some hv5303.symm) rfl dJ13_init_2_24 (by decide) (Nat.le_of_ble_eq_true rfl) (fun H locs hI hS => ?_)
      refine lv_pop hx hb dJ13_init_2_27 rfl ?_
      exact g_vret C hI hS (by omega) ⟨rfl, (by omega), hF, c0_⟩ dJ13_init_2_28
set_option maxHeartbeats 4000000 in
set_option maxRecDepth 100000 in
theorem c_J13_init_4R (l : Launch) {D : gD} (hB : gBs D) (hfl : l.stackTraces = false) (G : gH) (n : Nat) (qa : Nat) (re : Int32) (de : Int32) (ca : Nat) (c0_ : G qa = some (.inl (8, [.null, .null, .null, .null, .null, .int 0, .int re, .int de]))) (hz : gz D ≤ qa) : gMet l D yJ13_init_4 (ws_ yJ13_init_4 cJ13_init_4 3 none) 12 0 G n [.ref qa, .null, .ref ca] (fun (v : Option Value) (G1 : gH) (n1 : Nat) => v = none ∧ n ≤ n1 ∧ gF G G1 n (fun q : Nat => q = qa) ∧ G1 qa = some (.inl (8, [.ref ca, gv D 0, gv D 1, .null, .null, .int 0, .int re, .int de]))) gNox := by
  refine g_start (by decide) (Nat.le_of_ble_eq_true rfl) ?_
  intro p e s m below meth c ls C hnm hxt hI hl
  have hx := C.x
  have hb := C.b
  have hS : va_S (gA D) s.heap s.heap [] := va_S.rf
  have hz0 := hI.z
  have lc0_ := hI.lt c0_
  have hF : gF G G n (fun q : Nat => q = qa) := gF.rf _ _ _
  have hl : lv_has ls 3 [(0, .ref qa), (1, .null), (2, .ref ca)] := hl
  refine lv_aload_n hx hb dJ13_init_4_0 rfl (lv_at hl 0 rfl) ?_
  refine W.objInit hx hb C.ow (C.ts _ q463) (C.ts _ q135) (C.ts _ q136) rfl (by rw [C.ml]; exact hl.1) rfl dJ13_init_4_1 (show 1 ≤ 12 by decide) (show _ ≤ 60 * 12 by simp [Value.category]) ?_
  refine W.eq (g2 := F0 m 4 ls []) rfl ?_
  refine lv_aload_n hx hb dJ13_init_4_4 rfl (lv_at hl 0 rfl) ?_
  refine lv_aload_n hx hb dJ13_init_4_5 rfl (lv_at hl 0 rfl) ?_
  refine g_put (fs2 := [.ref qa, .null, .null, .null, .null, .int 0, .int re, .int de]) C hI hS c0_ (by omega) kc8 0 (Nat.le_of_ble_eq_true rfl) q489 (fun _ h9 => h9) rfl rfl rfl rfl dJ13_init_4_6 (fun G5321 H locs e5322 hI hS => ?_)
  have c0_ : G5321 qa = some (.inl (8, [.ref qa, .null, .null, .null, .null, .int 0, .int re, .int de])) := gE_s e5322
  have hF := gE_F e5322 hF (Or.inr rfl)
  refine lv_aload_n hx hb dJ13_init_4_9 rfl (lv_at hl 0 rfl) ?_
  refine g_gets C hS (st_UNASSIGNED_STACK D) q464 (fun _ h9 => h9) dJ13_init_4_10 ?_
  rcases hB.v0 with hv5323 | ⟨t5324, hv5323⟩
  · rw [hv5323]
    refine g_put (fs2 := [.ref qa, .null, .null, .null, .null, .int 0, .int re, .int de]) C hI hS c0_ (by omega) kc8 1 (Nat.le_of_ble_eq_true rfl) q490 (fun _ h9 => h9) rfl rfl rfl rfl dJ13_init_4_13 (fun G5325 H locs e5326 hI hS => ?_)
    have c0_ : G5325 qa = some (.inl (8, [.ref qa, .null, .null, .null, .null, .int 0, .int re, .int de])) := gE_s e5326
    have hF := gE_F e5326 hF (Or.inr rfl)
    refine lv_aload_n hx hb dJ13_init_4_16 rfl (lv_at hl 0 rfl) ?_
    refine g_gets C hS (st_SUPPRESSED_SENTINEL D) q466 (fun _ h9 => h9) dJ13_init_4_17 ?_
    rcases hB.v1 with hv5327 | ⟨t5328, hv5327⟩
    · rw [hv5327]
      refine g_put (fs2 := [.ref qa, .null, .null, .null, .null, .int 0, .int re, .int de]) C hI hS c0_ (by omega) kc8 2 (Nat.le_of_ble_eq_true rfl) q491 (fun _ h9 => h9) rfl rfl rfl rfl dJ13_init_4_20 (fun G5329 H locs e5330 hI hS => ?_)
      have c0_ : G5329 qa = some (.inl (8, [.ref qa, .null, .null, .null, .null, .int 0, .int re, .int de])) := gE_s e5330
      have hF := gE_F e5330 hF (Or.inr rfl)
      refine lv_aload_n hx hb dJ13_init_4_23 rfl (lv_at hl 0 rfl) ?_
      refine g_fill8 C hfl hB hI hS c0_ (by omega) hl (congrArg some hv5323.symm) rfl dJ13_init_4_24 (by decide) (Nat.le_of_ble_eq_true rfl) (fun H locs hI hS => ?_)
      refine lv_pop hx hb dJ13_init_4_27 rfl ?_
      refine lv_aload_n hx hb dJ13_init_4_28 rfl (lv_at hl 0 rfl) ?_
      refine lv_aload_nN hx hb dJ13_init_4_29 rfl (lv_at hl 1 rfl) ?_
      refine g_put (fs2 := [.ref qa, .null, .null, .null, .null, .int 0, .int re, .int de]) C hI hS c0_ (by omega) kc8 3 (Nat.le_of_ble_eq_true rfl) q488 (fun _ h9 => h9) rfl rfl rfl rfl dJ13_init_4_30 (fun G5331 H locs e5332 hI hS => ?_)
      have c0_ : G5331 qa = some (.inl (8, [.ref qa, .null, .null, .null, .null, .int 0, .int re, .int de])) := gE_s e5332
      have hF := gE_F e5332 hF (Or.inr rfl)
      refine lv_aload_n hx hb dJ13_init_4_33 rfl (lv_at hl 0 rfl) ?_
      refine lv_aload_n hx hb dJ13_init_4_34 rfl (lv_at hl 2 rfl) ?_
      refine g_put (fs2 := [.ref ca, .null, .null, .null, .null, .int 0, .int re, .int de]) C hI hS c0_ (by omega) kc8 0 (Nat.le_of_ble_eq_true rfl) q489 (fun _ h9 => h9) rfl rfl rfl rfl dJ13_init_4_35 (fun G5333 H locs e5334 hI hS => ?_)
      have c0_ : G5333 qa = some (.inl (8, [.ref ca, .null, .null, .null, .null, .int 0, .int re, .int de])) := gE_s e5334
      have hF := gE_F e5334 hF (Or.inr rfl)
      exact g_vret C hI hS (by omega) ⟨rfl, (by omega), hF, c0_⟩ dJ13_init_4_38
    · rw [hv5327]
      refine g_put (fs2 := [.ref qa, .null, .ref t5328, .null, .null, .int 0, .int re, .int de]) C hI hS c0_ (by omega) kc8 2 (Nat.le_of_ble_eq_true rfl) q491 (fun _ h9 => h9) rfl rfl rfl rfl dJ13_init_4_20 (fun G5335 H locs e5336 hI hS => ?_)
      have c0_ : G5335 qa = some (.inl (8, [.ref qa, .null, .ref t5328, .null, .null, .int 0, .int re, .int de])) := gE_s e5336
      have hF := gE_F e5336 hF (Or.inr rfl)
      refine lv_aload_n hx hb dJ13_init_4_23 rfl (lv_at hl 0 rfl) ?_
      refine g_fill8 C hfl hB hI hS c0_ (by omega) hl (congrArg some hv5323.symm) rfl dJ13_init_4_24 (by decide) (Nat.le_of_ble_eq_true rfl) (fun H locs hI hS => ?_)
      refine lv_pop hx hb dJ13_init_4_27 rfl ?_
      refine lv_aload_n hx hb dJ13_init_4_28 rfl (lv_at hl 0 rfl) ?_
      refine lv_aload_nN hx hb dJ13_init_4_29 rfl (lv_at hl 1 rfl) ?_
      refine g_put (fs2 := [.ref qa, .null, .ref t5328, .null, .null, .int 0, .int re, .int de]) C hI hS c0_ (by omega) kc8 3 (Nat.le_of_ble_eq_true rfl) q488 (fun _ h9 => h9) rfl rfl rfl rfl dJ13_init_4_30 (fun G5337 H locs e5338 hI hS => ?_)
      have c0_ : G5337 qa = some (.inl (8, [.ref qa, .null, .ref t5328, .null, .null, .int 0, .int re, .int de])) := gE_s e5338
      have hF := gE_F e5338 hF (Or.inr rfl)
      refine lv_aload_n hx hb dJ13_init_4_33 rfl (lv_at hl 0 rfl) ?_
      refine lv_aload_n hx hb dJ13_init_4_34 rfl (lv_at hl 2 rfl) ?_
      refine g_put (fs2 := [.ref ca, .null, .ref t5328, .null, .null, .int 0, .int re, .int de]) C hI hS c0_ (by omega) kc8 0 (Nat.le_of_ble_eq_true rfl) q489 (fun _ h9 => h9) rfl rfl rfl rfl dJ13_init_4_35 (fun G5339 H locs e5340 hI hS => ?_)
      have c0_ : G5339 qa = some (.inl (8, [.ref ca, .null, .ref t5328, .null, .null, .int 0, .int re, .int de])) := gE_s e5340
      have hF := gE_F e5340 hF (Or.inr rfl)
      exact g_vret C hI hS (by omega) ⟨rfl, (by omega), hF, c0_⟩ dJ13_init_4_38
  · rw [hv5323]
    refine g_put (fs2 := [.ref qa, .ref t5324, .null, .null, .null, .int 0, .int re, .int de]) C hI hS c0_ (by omega) kc8 1 (Nat.le_of_ble_eq_true rfl) q490 (fun _ h9 => h9) rfl rfl rfl rfl dJ13_init_4_13 (fun G5341 H locs e5342 hI hS => ?_)
    have c0_ : G5341 qa = some (.inl (8, [.ref qa, .ref t5324, .null, .null, .null, .int 0, .int re, .int de])) := gE_s e5342
    have hF := gE_F e5342 hF (Or.inr rfl)
    refine lv_aload_n hx hb dJ13_init_4_16 rfl (lv_at hl 0 rfl) ?_
    refine g_gets C hS (st_SUPPRESSED_SENTINEL D) q466 (fun _ h9 => h9) dJ13_init_4_17 ?_
    rcases hB.v1 with hv5343 | ⟨t5344, hv5343⟩
    · rw [hv5343]
      refine g_put (fs2 := [.ref qa, .ref t5324, .null, .null, .null, .int 0, .int re, .int de]) C hI hS c0_ (by omega) kc8 2 (Nat.le_of_ble_eq_true rfl) q491 (fun _ h9 => h9) rfl rfl rfl rfl dJ13_init_4_20 (fun G5345 H locs e5346 hI hS => ?_)
      have c0_ : G5345 qa = some (.inl (8, [.ref qa, .ref t5324, .null, .null, .null, .int 0, .int re, .int de])) := gE_s e5346
      have hF := gE_F e5346 hF (Or.inr rfl)
      refine lv_aload_n hx hb dJ13_init_4_23 rfl (lv_at hl 0 rfl) ?_
      refine g_fill8 C hfl hB hI hS c0_ (by omega) hl (congrArg some hv5323.symm) rfl dJ13_init_4_24 (by decide) (Nat.le_of_ble_eq_true rfl) (fun H locs hI hS => ?_)
      refine lv_pop hx hb dJ13_init_4_27 rfl ?_
      refine lv_aload_n hx hb dJ13_init_4_28 rfl (lv_at hl 0 rfl) ?_
      refine lv_aload_nN hx hb dJ13_init_4_29 rfl (lv_at hl 1 rfl) ?_
      refine g_put (fs2 := [.ref qa, .ref t5324, .null, .null, .null, .int 0, .int re, .int de]) C hI hS c0_ (by omega) kc8 3 (Nat.le_of_ble_eq_true rfl) q488 (fun _ h9 => h9) rfl rfl rfl rfl dJ13_init_4_30 (fun G5347 H locs e5348 hI hS => ?_)
      have c0_ : G5347 qa = some (.inl (8, [.ref qa, .ref t5324, .null, .null, .null, .int 0, .int re, .int de])) := gE_s e5348
      have hF := gE_F e5348 hF (Or.inr rfl)
      refine lv_aload_n hx hb dJ13_init_4_33 rfl (lv_at hl 0 rfl) ?_
      refine lv_aload_n hx hb dJ13_init_4_34 rfl (lv_at hl 2 rfl) ?_
      refine g_put (fs2 := [.ref ca, .ref t5324, .null, .null, .null, .int 0, .int re, .int de]) C hI hS c0_ (by omega) kc8 0 (Nat.le_of_ble_eq_true rfl) q489 (fun _ h9 => h9) rfl rfl rfl rfl dJ13_init_4_35 (fun G5349 H locs e5350 hI hS => ?_)
      have c0_ : G5349 qa = some (.inl (8, [.ref ca, .ref t5324, .null, .null, .null, .int 0, .int re, .int de])) := gE_s e5350
      have hF := gE_F e5350 hF (Or.inr rfl)
      exact g_vret C hI hS (by omega) ⟨rfl, (by omega), hF, c0_⟩ dJ13_init_4_38
    · rw [hv5343]
      refine g_put (fs2 := [.ref qa, .ref t5324, .ref t5344, .null, .null, .int 0, .int re, .int de]) C hI hS c0_ (by omega) kc8 2 (Nat.le_of_ble_eq_true rfl) q491 (fun _ h9 => h9) rfl rfl rfl rfl dJ13_init_4_20 (fun G5351 H locs e5352 hI hS => ?_)
      have c0_ : G5351 qa = some (.inl (8, [.ref qa, .ref t5324, .ref t5344, .null, .null, .int 0, .int re, .int de])) := gE_s e5352
      have hF := gE_F e5352 hF (Or.inr rfl)
      refine lv_aload_n hx hb dJ13_init_4_23 rfl (lv_at hl 0 rfl) ?_
      refine g_fill8 C hfl hB hI hS c0_ (by omega) hl (congrArg some hv5323.symm) rfl dJ13_init_4_24 (by decide) (Nat.le_of_ble_eq_true rfl) (fun H locs hI hS => ?_)
      refine lv_pop hx hb dJ13_init_4_27 rfl ?_
      refine lv_aload_n hx hb dJ13_init_4_28 rfl (lv_at hl 0 rfl) ?_
      refine lv_aload_nN hx hb dJ13_init_4_29 rfl (lv_at hl 1 rfl) ?_
      refine g_put (fs2 := [.ref qa, .ref t5324, .ref t5344, .null, .null, .int 0, .int re, .int de]) C hI hS c0_ (by omega) kc8 3 (Nat.le_of_ble_eq_true rfl) q488 (fun _ h9 => h9) rfl rfl rfl rfl dJ13_init_4_30 (fun G5353 H locs e5354 hI hS => ?_)
      have c0_ : G5353 qa = some (.inl (8, [.ref qa, .ref t5324, .ref t5344, .null, .null, .int 0, .int re, .int de])) := gE_s e5354
      have hF := gE_F e5354 hF (Or.inr rfl)
      refine lv_aload_n hx hb dJ13_init_4_33 rfl (lv_at hl 0 rfl) ?_
      refine lv_aload_n hx hb dJ13_init_4_34 rfl (lv_at hl 2 rfl) ?_
      refine g_put (fs2 := [.ref ca, .ref t5324, .ref t5344, .null, .null, .int 0, .int re, .int de]) C hI hS c0_ (by omega) kc8 0 (Nat.le_of_ble_eq_true rfl) q489 (fun _ h9 => h9) rfl rfl rfl rfl dJ13_init_4_35 (fun G5355 H locs e5356 hI hS => ?_)
      have c0_ : G5355 qa = some (.inl (8, [.ref ca, .ref t5324, .ref t5344, .null, .null, .int 0, .int re, .int de])) := gE_s e5356
      have hF := gE_F e5356 hF (Or.inr rfl)
      exact g_vret C hI hS (by omega) ⟨rfl, (by omega), hF, c0_⟩ dJ13_init_4_38
set_option maxHeartbeats 4000000 in
set_option maxRecDepth 100000 in
theorem c_J13_init_4T (l : Launch) {D : gD} (hB : gBs D) (hfl : l.stackTraces = false) (G : gH) (n : Nat) (qa : Nat) (po : Int32) (c0_ : G qa = some (.inl (11, [.null, .null, .null, .null, .null, .int 0, .int po]))) (hz : gz D ≤ qa) : gMet l D yJ13_init_4 (ws_ yJ13_init_4 cJ13_init_4 3 none) 12 0 G n [.ref qa, .null, .null] (fun (v : Option Value) (G1 : gH) (n1 : Nat) => v = none ∧ n ≤ n1 ∧ gF G G1 n (fun q : Nat => q = qa) ∧ G1 qa = some (.inl (11, [.null, gv D 0, gv D 1, .null, .null, .int 0, .int po]))) gNox := by
  refine g_start (by decide) (Nat.le_of_ble_eq_true rfl) ?_
  intro p e s m below meth c ls C hnm hxt hI hl
  have hx := C.x
  have hb := C.b
  have hS : va_S (gA D) s.heap s.heap [] := va_S.rf
  have hz0 := hI.z
  have lc0_ := hI.lt c0_
  have hF : gF G G n (fun q : Nat => q = qa) := gF.rf _ _ _
  have hl : lv_has ls 3 [(0, .ref qa), (1, .null), (2, .null)] := hl
  refine lv_aload_n hx hb dJ13_init_4_0 rfl (lv_at hl 0 rfl) ?_
  refine W.objInit hx hb C.ow (C.ts _ q463) (C.ts _ q135) (C.ts _ q136) rfl (by rw [C.ml]; exact hl.1) rfl dJ13_init_4_1 (show 1 ≤ 12 by decide) (show _ ≤ 60 * 12 by simp [Value.category]) ?_
  refine W.eq (g2 := F0 m 4 ls []) rfl ?_
  refine lv_aload_n hx hb dJ13_init_4_4 rfl (lv_at hl 0 rfl) ?_
  refine lv_aload_n hx hb dJ13_init_4_5 rfl (lv_at hl 0 rfl) ?_
  refine g_put (fs2 := [.ref qa, .null, .null, .null, .null, .int 0, .int po]) C hI hS c0_ (by omega) kc11 0 (Nat.le_of_ble_eq_true rfl) q489 (fun _ h9 => h9) rfl rfl rfl rfl dJ13_init_4_6 (fun G5357 H locs e5358 hI hS => ?_)
  have c0_ : G5357 qa = some (.inl (11, [.ref qa, .null, .null, .null, .null, .int 0, .int po])) := gE_s e5358
  have hF := gE_F e5358 hF (Or.inr rfl)
  refine lv_aload_n hx hb dJ13_init_4_9 rfl (lv_at hl 0 rfl) ?_
  refine g_gets C hS (st_UNASSIGNED_STACK D) q464 (fun _ h9 => h9) dJ13_init_4_10 ?_
  rcases hB.v0 with hv5359 | ⟨t5360, hv5359⟩
  · rw [hv5359]
    refine g_put (fs2 := [.ref qa, .null, .null, .null, .null, .int 0, .int po]) C hI hS c0_ (by omega) kc11 1 (Nat.le_of_ble_eq_true rfl) q490 (fun _ h9 => h9) rfl rfl rfl rfl dJ13_init_4_13 (fun G5361 H locs e5362 hI hS => ?_)
    have c0_ : G5361 qa = some (.inl (11, [.ref qa, .null, .null, .null, .null, .int 0, .int po])) := gE_s e5362
    have hF := gE_F e5362 hF (Or.inr rfl)
    refine lv_aload_n hx hb dJ13_init_4_16 rfl (lv_at hl 0 rfl) ?_
    refine g_gets C hS (st_SUPPRESSED_SENTINEL D) q466 (fun _ h9 => h9) dJ13_init_4_17 ?_
    rcases hB.v1 with hv5363 | ⟨t5364, hv5363⟩
    · rw [hv5363]
      refine g_put (fs2 := [.ref qa, .null, .null, .null, .null, .int 0, .int po]) C hI hS c0_ (by omega) kc11 2 (Nat.le_of_ble_eq_true rfl) q491 (fun _ h9 => h9) rfl rfl rfl rfl dJ13_init_4_20 (fun G5365 H locs e5366 hI hS => ?_)
      have c0_ : G5365 qa = some (.inl (11, [.ref qa, .null, .null, .null, .null, .int 0, .int po])) := gE_s e5366
      have hF := gE_F e5366 hF (Or.inr rfl)
      refine lv_aload_n hx hb dJ13_init_4_23 rfl (lv_at hl 0 rfl) ?_
      refine g_fill11 C hfl hB hI hS c0_ (by omega) hl (congrArg some hv5359.symm) rfl dJ13_init_4_24 (by decide) (Nat.le_of_ble_eq_true rfl) (fun H locs hI hS => ?_)
      refine lv_pop hx hb dJ13_init_4_27 rfl ?_
      refine lv_aload_n hx hb dJ13_init_4_28 rfl (lv_at hl 0 rfl) ?_
      refine lv_aload_nN hx hb dJ13_init_4_29 rfl (lv_at hl 1 rfl) ?_
      refine g_put (fs2 := [.ref qa, .null, .null, .null, .null, .int 0, .int po]) C hI hS c0_ (by omega) kc11 3 (Nat.le_of_ble_eq_true rfl) q488 (fun _ h9 => h9) rfl rfl rfl rfl dJ13_init_4_30 (fun G5367 H locs e5368 hI hS => ?_)
      have c0_ : G5367 qa = some (.inl (11, [.ref qa, .null, .null, .null, .null, .int 0, .int po])) := gE_s e5368
      have hF := gE_F e5368 hF (Or.inr rfl)
      refine lv_aload_n hx hb dJ13_init_4_33 rfl (lv_at hl 0 rfl) ?_
      refine lv_aload_nN hx hb dJ13_init_4_34 rfl (lv_at hl 2 rfl) ?_
      refine g_put (fs2 := [.null, .null, .null, .null, .null, .int 0, .int po]) C hI hS c0_ (by omega) kc11 0 (Nat.le_of_ble_eq_true rfl) q489 (fun _ h9 => h9) rfl rfl rfl rfl dJ13_init_4_35 (fun G5369 H locs e5370 hI hS => ?_)
      have c0_ : G5369 qa = some (.inl (11, [.null, .null, .null, .null, .null, .int 0, .int po])) := gE_s e5370
      have hF := gE_F e5370 hF (Or.inr rfl)
      exact g_vret C hI hS (by omega) ⟨rfl, (by omega), hF, c0_⟩ dJ13_init_4_38
    · rw [hv5363]
      refine g_put (fs2 := [.ref qa, .null, .ref t5364, .null, .null, .int 0, .int po]) C hI hS c0_ (by omega) kc11 2 (Nat.le_of_ble_eq_true rfl) q491 (fun _ h9 => h9) rfl rfl rfl rfl dJ13_init_4_20 (fun G5371 H locs e5372 hI hS => ?_)
      have c0_ : G5371 qa = some (.inl (11, [.ref qa, .null, .ref t5364, .null, .null, .int 0, .int po])) := gE_s e5372
      have hF := gE_F e5372 hF (Or.inr rfl)
      refine lv_aload_n hx hb dJ13_init_4_23 rfl (lv_at hl 0 rfl) ?_
      refine g_fill11 C hfl hB hI hS c0_ (by omega) hl (congrArg some hv5359.symm) rfl dJ13_init_4_24 (by decide) (Nat.le_of_ble_eq_true rfl) (fun H locs hI hS => ?_)
      refine lv_pop hx hb dJ13_init_4_27 rfl ?_
      refine lv_aload_n hx hb dJ13_init_4_28 rfl (lv_at hl 0 rfl) ?_
      refine lv_aload_nN hx hb dJ13_init_4_29 rfl (lv_at hl 1 rfl) ?_
      refine g_put (fs2 := [.ref qa, .null, .ref t5364, .null, .null, .int 0, .int po]) C hI hS c0_ (by omega) kc11 3 (Nat.le_of_ble_eq_true rfl) q488 (fun _ h9 => h9) rfl rfl rfl rfl dJ13_init_4_30 (fun G5373 H locs e5374 hI hS => ?_)
      have c0_ : G5373 qa = some (.inl (11, [.ref qa, .null, .ref t5364, .null, .null, .int 0, .int po])) := gE_s e5374
      have hF := gE_F e5374 hF (Or.inr rfl)
      refine lv_aload_n hx hb dJ13_init_4_33 rfl (lv_at hl 0 rfl) ?_
      refine lv_aload_nN hx hb dJ13_init_4_34 rfl (lv_at hl 2 rfl) ?_
      refine g_put (fs2 := [.null, .null, .ref t5364, .null, .null, .int 0, .int po]) C hI hS c0_ (by omega) kc11 0 (Nat.le_of_ble_eq_true rfl) q489 (fun _ h9 => h9) rfl rfl rfl rfl dJ13_init_4_35 (fun G5375 H locs e5376 hI hS => ?_)
      have c0_ : G5375 qa = some (.inl (11, [.null, .null, .ref t5364, .null, .null, .int 0, .int po])) := gE_s e5376
      have hF := gE_F e5376 hF (Or.inr rfl)
      exact g_vret C hI hS (by omega) ⟨rfl, (by omega), hF, c0_⟩ dJ13_init_4_38
  · rw [hv5359]
    refine g_put (fs2 := [.ref qa, .ref t5360, .null, .null, .null, .int 0, .int po]) C hI hS c0_ (by omega) kc11 1 (Nat.le_of_ble_eq_true rfl) q490 (fun _ h9 => h9) rfl rfl rfl rfl dJ13_init_4_13 (fun G5377 H locs e5378 hI hS => ?_)
    have c0_ : G5377 qa = some (.inl (11, [.ref qa, .ref t5360, .null, .null, .null, .int 0, .int po])) := gE_s e5378
    have hF := gE_F e5378 hF (Or.inr rfl)
    refine lv_aload_n hx hb dJ13_init_4_16 rfl (lv_at hl 0 rfl) ?_
    refine g_gets C hS (st_SUPPRESSED_SENTINEL D) q466 (fun _ h9 => h9) dJ13_init_4_17 ?_
    rcases hB.v1 with hv5379 | ⟨t5380, hv5379⟩
    · rw [hv5379]
      refine g_put (fs2 := [.ref qa, .ref t5360, .null, .null, .null, .int 0, .int po]) C hI hS c0_ (by omega) kc11 2 (Nat.le_of_ble_eq_true rfl) q491 (fun _ h9 => h9) rfl rfl rfl rfl dJ13_init_4_20 (fun G5381 H locs e5382 hI hS => ?_)
      have c0_ : G5381 qa = some (.inl (11, [.ref qa, .ref t5360, .null, .null, .null, .int 0, .int po])) := gE_s e5382
      have hF := gE_F e5382 hF (Or.inr rfl)
      refine lv_aload_n hx hb dJ13_init_4_23 rfl (lv_at hl 0 rfl) ?_
      refine g_fill11 C hfl hB hI hS c0_ (by omega) hl (congrArg some hv5359.symm) rfl dJ13_init_4_24 (by decide) (Nat.le_of_ble_eq_true rfl) (fun H locs hI hS => ?_)
      refine lv_pop hx hb dJ13_init_4_27 rfl ?_
      refine lv_aload_n hx hb dJ13_init_4_28 rfl (lv_at hl 0 rfl) ?_
      refine lv_aload_nN hx hb dJ13_init_4_29 rfl (lv_at hl 1 rfl) ?_
      refine g_put (fs2 := [.ref qa, .ref t5360, .null, .null, .null, .int 0, .int po]) C hI hS c0_ (by omega) kc11 3 (Nat.le_of_ble_eq_true rfl) q488 (fun _ h9 => h9) rfl rfl rfl rfl dJ13_init_4_30 (fun G5383 H locs e5384 hI hS => ?_)
      have c0_ : G5383 qa = some (.inl (11, [.ref qa, .ref t5360, .null, .null, .null, .int 0, .int po])) := gE_s e5384
      have hF := gE_F e5384 hF (Or.inr rfl)
      refine lv_aload_n hx hb dJ13_init_4_33 rfl (lv_at hl 0 rfl) ?_
      refine lv_aload_nN hx hb dJ13_init_4_34 rfl (lv_at hl 2 rfl) ?_
      refine g_put (fs2 := [.null, .ref t5360, .null, .null, .null, .int 0, .int po]) C hI hS c0_ (by omega) kc11 0 (Nat.le_of_ble_eq_true rfl) q489 (fun _ h9 => h9) rfl rfl rfl rfl dJ13_init_4_35 (fun G5385 H locs e5386 hI hS => ?_)
      have c0_ : G5385 qa = some (.inl (11, [.null, .ref t5360, .null, .null, .null, .int 0, .int po])) := gE_s e5386
      have hF := gE_F e5386 hF (Or.inr rfl)
      exact g_vret C hI hS (by omega) ⟨rfl, (by omega), hF, c0_⟩ dJ13_init_4_38
    · rw [hv5379]
      refine g_put (fs2 := [.ref qa, .ref t5360, .ref t5380, .null, .null, .int 0, .int po]) C hI hS c0_ (by omega) kc11 2 (Nat.le_of_ble_eq_true rfl) q491 (fun _ h9 => h9) rfl rfl rfl rfl dJ13_init_4_20 (fun G5387 H locs e5388 hI hS => ?_)
      have c0_ : G5387 qa = some (.inl (11, [.ref qa, .ref t5360, .ref t5380, .null, .null, .int 0, .int po])) := gE_s e5388
      have hF := gE_F e5388 hF (Or.inr rfl)
      refine lv_aload_n hx hb dJ13_init_4_23 rfl (lv_at hl 0 rfl) ?_
      refine g_fill11 C hfl hB hI hS c0_ (by omega) hl (congrArg some hv5359.symm) rfl dJ13_init_4_24 (by decide) (Nat.le_of_ble_eq_true rfl) (fun H locs hI hS => ?_)
      refine lv_pop hx hb dJ13_init_4_27 rfl ?_
      refine lv_aload_n hx hb dJ13_init_4_28 rfl (lv_at hl 0 rfl) ?_
      refine lv_aload_nN hx hb dJ13_init_4_29 rfl (lv_at hl 1 rfl) ?_
      refine g_put (fs2 := [.ref qa, .ref t5360, .ref t5380, .null, .null, .int 0, .int po]) C hI hS c0_ (by omega) kc11 3 (Nat.le_of_ble_eq_true rfl) q488 (fun _ h9 => h9) rfl rfl rfl rfl dJ13_init_4_30 (fun G5389 H locs e5390 hI hS => ?_)
      have c0_ : G5389 qa = some (.inl (11, [.ref qa, .ref t5360, .ref t5380, .null, .null, .int 0, .int po])) := gE_s e5390
      have hF := gE_F e5390 hF (Or.inr rfl)
      refine lv_aload_n hx hb dJ13_init_4_33 rfl (lv_at hl 0 rfl) ?_
      refine lv_aload_nN hx hb dJ13_init_4_34 rfl (lv_at hl 2 rfl) ?_
      refine g_put (fs2 := [.null, .ref t5360, .ref t5380, .null, .null, .int 0, .int po]) C hI hS c0_ (by omega) kc11 0 (Nat.le_of_ble_eq_true rfl) q489 (fun _ h9 => h9) rfl rfl rfl rfl dJ13_init_4_35 (fun G5391 H locs e5392 hI hS => ?_)
      have c0_ : G5391 qa = some (.inl (11, [.null, .ref t5360, .ref t5380, .null, .null, .int 0, .int po])) := gE_s e5392
      have hF := gE_F e5392 hF (Or.inr rfl)
      exact g_vret C hI hS (by omega) ⟨rfl, (by omega), hF, c0_⟩ dJ13_init_4_38
set_option maxHeartbeats 4000000 in
set_option maxRecDepth 100000 in
theorem c_J14_init_2R (l : Launch) {D : gD} (hB : gBs D) (hfl : l.stackTraces = false) (G : gH) (n : Nat) (qa : Nat) (re : Int32) (de : Int32) (c0_ : G qa = some (.inl (8, [.null, .null, .null, .null, .null, .int 0, .int re, .int de]))) (hz : gz D ≤ qa) : gMet l D yJ14_init_2 (ws_ yJ14_init_2 cJ14_init_2 1 none) 13 0 G n [.ref qa] (fun (v : Option Value) (G1 : gH) (n1 : Nat) => v = none ∧ n ≤ n1 ∧ gF G G1 n (fun q : Nat => q = qa) ∧ G1 qa = some (.inl (8, [.ref qa, gv D 0, gv D 1, .null, .null, .int 0, .int re, .int de]))) gNox := by
  refine g_start (by decide) (Nat.le_of_ble_eq_true rfl) ?_
  intro p e s m below meth c ls C hnm hxt hI hl
  have hx := C.x
  have hb := C.b
  have hS : va_S (gA D) s.heap s.heap [] := va_S.rf
  have hz0 := hI.z
  have lc0_ := hI.lt c0_
  have hF : gF G G n (fun q : Nat => q = qa) := gF.rf _ _ _
  have hl : lv_has ls 1 [(0, .ref qa)] := hl
  refine lv_aload_n hx hb dJ14_init_2_0 rfl (lv_at hl 0 rfl) ?_
  refine g_I (As := []) (rest := []) (lv := [(0, .ref qa)]) C hI hS (c_J13_init_2R l hB hfl G n qa re de c0_ (by omega)) rfl q561 q522 q95 q523 (⟨by decide, by decide, by decide⟩ : gArg _ 0) rfl ⟨by decide, by decide⟩ (by omega) hl rfl (Nat.le_of_ble_eq_true rfl) dJ14_init_2_1 (fun v5393 G5394 n5395 H locs hp5396 hI hS => ?_) gKx.no
  obtain ⟨rfl, hn5397, hF5398, c5399⟩ := hp5396
  refine W.widen (k := 0) (n := 200 * (0)) (by omega) (by omega) ?_
  have hF := hF.trans hF5398 (by omega) (fun q hq => (fun h => h ▸ rfl))
  exact g_vret C hI hS (by omega) ⟨rfl, (by omega), hF, c5399⟩ dJ14_init_2_4
set_option maxHeartbeats 4000000 in
set_option maxRecDepth 100000 in
theorem c_J14_init_4R (l : Launch) {D : gD} (hB : gBs D) (hfl : l.stackTraces = false) (G : gH) (n : Nat) (qa : Nat) (re : Int32) (de : Int32) (ca : Nat) (c0_ : G qa = some (.inl (8, [.null, .null, .null, .null, .null, .int 0, .int re, .int de]))) (hz : gz D ≤ qa) : gMet l D yJ14_init_4 (ws_ yJ14_init_4 cJ14_init_4 3 none) 13 0 G n [.ref qa, .null, .ref ca] (fun (v : Option Value) (G1 : gH) (n1 : Nat) => v = none ∧ n ≤ n1 ∧ gF G G1 n (fun q : Nat => q = qa) ∧ G1 qa = some (.inl (8, [.ref ca, gv D 0, gv D 1, .null, .null, .int 0, .int re, .int de]))) gNox := by
  refine g_start (by decide) (Nat.le_of_ble_eq_true rfl) ?_
  intro p e s m below meth c ls C hnm hxt hI hl
  have hx := C.x
  have hb := C.b
  have hS : va_S (gA D) s.heap s.heap [] := va_S.rf
  have hz0 := hI.z
  have lc0_ := hI.lt c0_
  have hF : gF G G n (fun q : Nat => q = qa) := gF.rf _ _ _
  have hl : lv_has ls 3 [(0, .ref qa), (1, .null), (2, .ref ca)] := hl
  refine lv_aload_n hx hb dJ14_init_4_0 rfl (lv_at hl 0 rfl) ?_
  refine lv_aload_nN hx hb dJ14_init_4_1 rfl (lv_at hl 1 rfl) ?_
  refine lv_aload_n hx hb dJ14_init_4_2 rfl (lv_at hl 2 rfl) ?_
  refine g_I (As := [.null, .ref ca]) (rest := []) (lv := [(0, .ref qa), (1, .null), (2, .ref ca)]) C hI hS (c_J13_init_4R l hB hfl G n qa re de ca c0_ (by omega)) rfl q1528 q1529 q95 q1530 (⟨by decide, by decide, by decide⟩ : gArg _ 2) rfl ⟨by decide, by decide⟩ (by omega) hl rfl (Nat.le_of_ble_eq_true rfl) dJ14_init_4_3 (fun v5400 G5401 n5402 H locs hp5403 hI hS => ?_) gKx.no
  obtain ⟨rfl, hn5404, hF5405, c5406⟩ := hp5403
  refine W.widen (k := 0) (n := 200 * (0)) (by omega) (by omega) ?_
  have hF := hF.trans hF5405 (by omega) (fun q hq => (fun h => h ▸ rfl))
  exact g_vret C hI hS (by omega) ⟨rfl, (by omega), hF, c5406⟩ dJ14_init_4_6
set_option maxHeartbeats 4000000 in
set_option maxRecDepth 100000 in
theorem c_J14_init_4T (l : Launch) {D : gD} (hB : gBs D) (hfl : l.stackTraces = false) (G : gH) (n : Nat) (qa : Nat) (po : Int32) (c0_ : G qa = some (.inl (11, [.null, .null, .null, .null, .null, .int 0, .int po]))) (hz : gz D ≤ qa) : gMet l D yJ14_init_4 (ws_ yJ14_init_4 cJ14_init_4 3 none) 14 0 G n [.ref qa, .null, .null] (fun (v : Option Value) (G1 : gH) (n1 : Nat) => v = none ∧ n ≤ n1 ∧ gF G G1 n (fun q : Nat => q = qa) ∧ G1 qa = some (.inl (11, [.null, gv D 0, gv D 1, .null, .null, .int 0, .int po]))) gNox := by
  refine g_start (by decide) (Nat.le_of_ble_eq_true rfl) ?_
  intro p e s m below meth c ls C hnm hxt hI hl
  have hx := C.x
  have hb := C.b
  have hS : va_S (gA D) s.heap s.heap [] := va_S.rf
  have hz0 := hI.z
  have lc0_ := hI.lt c0_
  have hF : gF G G n (fun q : Nat => q = qa) := gF.rf _ _ _
  have hl : lv_has ls 3 [(0, .ref qa), (1, .null), (2, .null)] := hl
  refine lv_aload_n hx hb dJ14_init_4_0 rfl (lv_at hl 0 rfl) ?_
  refine lv_aload_nN hx hb dJ14_init_4_1 rfl (lv_at hl 1 rfl) ?_
  refine lv_aload_nN hx hb dJ14_init_4_2 rfl (lv_at hl 2 rfl) ?_
  refine g_I (As := [.null, .null]) (rest := []) (lv := [(0, .ref qa), (1, .null), (2, .null)]) C hI hS (c_J13_init_4T l hB hfl G n qa po c0_ (by omega)) rfl q1528 q1529 q95 q1530 (⟨by decide, by decide, by decide⟩ : gArg _ 2) rfl ⟨by decide, by decide⟩ (by omega) hl rfl (Nat.le_of_ble_eq_true rfl) dJ14_init_4_3 (fun v5407 G5408 n5409 H locs hp5410 hI hS => ?_) gKx.no
  obtain ⟨rfl, hn5411, hF5412, c5413⟩ := hp5410
  refine W.widen (k := 0) (n := 200 * (0)) (by omega) (by omega) ?_
  have hF := hF.trans hF5412 (by omega) (fun q hq => (fun h => h ▸ rfl))
  exact g_vret C hI hS (by omega) ⟨rfl, (by omega), hF, c5413⟩ dJ14_init_4_6
set_option maxHeartbeats 4000000 in
set_option maxRecDepth 100000 in
theorem c_X10_init (l : Launch) {D : gD} (hB : gBs D) (hfl : l.stackTraces = false) (G : gH) (n : Nat) (qa : Nat) (a1 : Int32) (a2 : Int32) (c0_ : G qa = some (.inl (8, [.null, .null, .null, .null, .null, .int 0, .int 0, .int 0]))) (hz : gz D ≤ qa) : gMet l D yX10_init (ws_ yX10_init cX10_init 3 none) 14 0 G n [.ref qa, .int a1, .int a2] (fun (v : Option Value) (G1 : gH) (n1 : Nat) => v = none ∧ n ≤ n1 ∧ gF G G1 n (fun q : Nat => q = qa) ∧ G1 qa = some (.inl (8, [.ref qa, gv D 0, gv D 1, .null, .null, .int 0, .int a1, .int a2]))) gNox := by
  refine g_start (by decide) (Nat.le_of_ble_eq_true rfl) ?_
  intro p e s m below meth c ls C hnm hxt hI hl
  have hx := C.x
  have hb := C.b
  have hS : va_S (gA D) s.heap s.heap [] := va_S.rf
  have hz0 := hI.z
  have lc0_ := hI.lt c0_
  have hF : gF G G n (fun q : Nat => q = qa) := gF.rf _ _ _
  have hl : lv_has ls 3 [(0, .ref qa), (1, .int a1), (2, .int a2)] := hl
  refine lv_aload_n hx hb dX10_init_0 rfl (lv_at hl 0 rfl) ?_
  refine g_I (As := []) (rest := []) (lv := [(0, .ref qa), (1, .int a1), (2, .int a2)]) C hI hS (c_J14_init_2R l hB hfl G n qa 0 0 c0_ (by omega)) rfl q1342 q559 q96 q560 (⟨by decide, by decide, by decide⟩ : gArg _ 0) rfl ⟨by decide, by decide⟩ (by omega) hl rfl (Nat.le_of_ble_eq_true rfl) dX10_init_1 (fun v5414 G5415 n5416 H locs hp5417 hI hS => ?_) gKx.no
  obtain ⟨rfl, hn5418, hF5419, c5420⟩ := hp5417
  refine W.widen (k := 0) (n := 200 * (0)) (by omega) (by omega) ?_
  have hF := hF.trans hF5419 (by omega) (fun q hq => (fun h => h ▸ rfl))
  refine lv_aload_n hx hb dX10_init_4 rfl (lv_at hl 0 rfl) ?_
  refine lv_iload_n hx hb dX10_init_5 rfl (lv_at hl 1 rfl) ?_
  refine g_putF (fs2 := [.ref qa, gv D 0, gv D 1, .null, .null, .int 0, .int a1, .int 0]) C hnm hI hS c5420 (by omega) kc8 6 (Nat.le_of_ble_eq_true rfl) q1343 (fun _ h9 => h9) rfl rfl rfl rfl rfl dX10_init_6 (fun G5421 H locs e5422 hI hS => ?_)
  have c5420 : G5421 qa = some (.inl (8, [.ref qa, gv D 0, gv D 1, .null, .null, .int 0, .int a1, .int 0])) := gE_s e5422
  have hF := gE_F e5422 hF (Or.inr rfl)
  refine lv_aload_n hx hb dX10_init_9 rfl (lv_at hl 0 rfl) ?_
  refine lv_iload_n hx hb dX10_init_10 rfl (lv_at hl 2 rfl) ?_
  refine g_putF (fs2 := [.ref qa, gv D 0, gv D 1, .null, .null, .int 0, .int a1, .int a2]) C hnm hI hS c5420 (by omega) kc8 7 (Nat.le_of_ble_eq_true rfl) q1344 (fun _ h9 => h9) rfl rfl rfl rfl rfl dX10_init_11 (fun G5423 H locs e5424 hI hS => ?_)
  have c5420 : G5423 qa = some (.inl (8, [.ref qa, gv D 0, gv D 1, .null, .null, .int 0, .int a1, .int a2])) := gE_s e5424
  have hF := gE_F e5424 hF (Or.inr rfl)
  exact g_vret C hI hS (by omega) ⟨rfl, (by omega), hF, c5420⟩ dX10_init_14
set_option maxHeartbeats 4000000 in
set_option maxRecDepth 100000 in
theorem c_X10_init_2 (l : Launch) {D : gD} (hB : gBs D) (hfl : l.stackTraces = false) (G : gH) (n : Nat) (qa : Nat) (a1 : Int32) (a2 : Int32) (ca : Nat) (c0_ : G qa = some (.inl (8, [.null, .null, .null, .null, .null, .int 0, .int 0, .int 0]))) (hz : gz D ≤ qa) : gMet l D yX10_init_2 (ws_ yX10_init_2 cX10_init_2 4 none) 15 0 G n [.ref qa, .int a1, .int a2, .ref ca] (fun (v : Option Value) (G1 : gH) (n1 : Nat) => v = none ∧ n ≤ n1 ∧ gF G G1 n (fun q : Nat => q = qa) ∧ G1 qa = some (.inl (8, [.ref ca, gv D 0, gv D 1, .null, .null, .int 0, .int a1, .int a2]))) gNox := by
  refine g_start (by decide) (Nat.le_of_ble_eq_true rfl) ?_
  intro p e s m below meth c ls C hnm hxt hI hl
  have hx := C.x
  have hb := C.b
  have hS : va_S (gA D) s.heap s.heap [] := va_S.rf
  have hz0 := hI.z
  have lc0_ := hI.lt c0_
  have hF : gF G G n (fun q : Nat => q = qa) := gF.rf _ _ _
  have hl : lv_has ls 4 [(0, .ref qa), (1, .int a1), (2, .int a2), (3, .ref ca)] := hl
  refine lv_aload_n hx hb dX10_init_2_0 rfl (lv_at hl 0 rfl) ?_
  refine lv_null hx hb dX10_init_2_1 ?_
  refine lv_aload_n hx hb dX10_init_2_2 rfl (lv_at hl 3 rfl) ?_
  refine g_I (As := [.null, .ref ca]) (rest := []) (lv := [(0, .ref qa), (1, .int a1), (2, .int a2), (3, .ref ca)]) C hI hS (c_J14_init_4R l hB hfl G n qa 0 0 ca c0_ (by omega)) rfl q2330 q1526 q96 q1527 (⟨by decide, by decide, by decide⟩ : gArg _ 2) rfl ⟨by decide, by decide⟩ (by omega) hl rfl (Nat.le_of_ble_eq_true rfl) dX10_init_2_3 (fun v5425 G5426 n5427 H locs hp5428 hI hS => ?_) gKx.no
  obtain ⟨rfl, hn5429, hF5430, c5431⟩ := hp5428
  refine W.widen (k := 0) (n := 200 * (0)) (by omega) (by omega) ?_
  have hF := hF.trans hF5430 (by omega) (fun q hq => (fun h => h ▸ rfl))
  refine lv_aload_n hx hb dX10_init_2_6 rfl (lv_at hl 0 rfl) ?_
  refine lv_iload_n hx hb dX10_init_2_7 rfl (lv_at hl 1 rfl) ?_
  refine g_putF (fs2 := [.ref ca, gv D 0, gv D 1, .null, .null, .int 0, .int a1, .int 0]) C hnm hI hS c5431 (by omega) kc8 6 (Nat.le_of_ble_eq_true rfl) q1343 (fun _ h9 => h9) rfl rfl rfl rfl rfl dX10_init_2_8 (fun G5432 H locs e5433 hI hS => ?_)
  have c5431 : G5432 qa = some (.inl (8, [.ref ca, gv D 0, gv D 1, .null, .null, .int 0, .int a1, .int 0])) := gE_s e5433
  have hF := gE_F e5433 hF (Or.inr rfl)
  refine lv_aload_n hx hb dX10_init_2_11 rfl (lv_at hl 0 rfl) ?_
  refine lv_iload_n hx hb dX10_init_2_12 rfl (lv_at hl 2 rfl) ?_
  refine g_putF (fs2 := [.ref ca, gv D 0, gv D 1, .null, .null, .int 0, .int a1, .int a2]) C hnm hI hS c5431 (by omega) kc8 7 (Nat.le_of_ble_eq_true rfl) q1344 (fun _ h9 => h9) rfl rfl rfl rfl rfl dX10_init_2_13 (fun G5434 H locs e5435 hI hS => ?_)
  have c5431 : G5434 qa = some (.inl (8, [.ref ca, gv D 0, gv D 1, .null, .null, .int 0, .int a1, .int a2])) := gE_s e5435
  have hF := gE_F e5435 hF (Or.inr rfl)
  exact g_vret C hI hS (by omega) ⟨rfl, (by omega), hF, c5431⟩ dX10_init_2_16
set_option maxHeartbeats 4000000 in
set_option maxRecDepth 100000 in
theorem c_X15_init (l : Launch) {D : gD} (hB : gBs D) (hfl : l.stackTraces = false) (G : gH) (n : Nat) (qa : Nat) (a1 : Int32) (c0_ : G qa = some (.inl (11, [.null, .null, .null, .null, .null, .int 0, .int 0]))) (hz : gz D ≤ qa) : gMet l D yX15_init (ws_ yX15_init cX15_init 2 none) 15 0 G n [.ref qa, .int a1] (fun (v : Option Value) (G1 : gH) (n1 : Nat) => v = none ∧ n ≤ n1 ∧ gF G G1 n (fun q : Nat => q = qa) ∧ G1 qa = some (.inl (11, [.null, gv D 0, gv D 1, .null, .null, .int 0, .int a1]))) gNox := by
  refine g_start (by decide) (Nat.le_of_ble_eq_true rfl) ?_
  intro p e s m below meth c ls C hnm hxt hI hl
  have hx := C.x
  have hb := C.b
  have hS : va_S (gA D) s.heap s.heap [] := va_S.rf
  have hz0 := hI.z
  have lc0_ := hI.lt c0_
  have hF : gF G G n (fun q : Nat => q = qa) := gF.rf _ _ _
  have hl : lv_has ls 2 [(0, .ref qa), (1, .int a1)] := hl
  refine lv_aload_n hx hb dX15_init_0 rfl (lv_at hl 0 rfl) ?_
  refine lv_null hx hb dX15_init_1 ?_
  refine lv_null hx hb dX15_init_2 ?_
  refine g_I (As := [.null, .null]) (rest := []) (lv := [(0, .ref qa), (1, .int a1)]) C hI hS (c_J14_init_4T l hB hfl G n qa 0 c0_ (by omega)) rfl q2245 q1526 q96 q1527 (⟨by decide, by decide, by decide⟩ : gArg _ 2) rfl ⟨by decide, by decide⟩ (by omega) hl rfl (Nat.le_of_ble_eq_true rfl) dX15_init_3 (fun v5436 G5437 n5438 H locs hp5439 hI hS => ?_) gKx.no
  obtain ⟨rfl, hn5440, hF5441, c5442⟩ := hp5439
  refine W.widen (k := 0) (n := 200 * (0)) (by omega) (by omega) ?_
  have hF := hF.trans hF5441 (by omega) (fun q hq => (fun h => h ▸ rfl))
  refine lv_aload_n hx hb dX15_init_6 rfl (lv_at hl 0 rfl) ?_
  refine lv_iload_n hx hb dX15_init_7 rfl (lv_at hl 1 rfl) ?_
  refine g_putF (fs2 := [.null, gv D 0, gv D 1, .null, .null, .int 0, .int a1]) C hnm hI hS c5442 (by omega) kc11 6 (Nat.le_of_ble_eq_true rfl) q2246 (fun _ h9 => h9) rfl rfl rfl rfl rfl dX15_init_8 (fun G5443 H locs e5444 hI hS => ?_)
  have c5442 : G5443 qa = some (.inl (11, [.null, gv D 0, gv D 1, .null, .null, .int 0, .int a1])) := gE_s e5444
  have hF := gE_F e5444 hF (Or.inr rfl)
  exact g_vret C hI hS (by omega) ⟨rfl, (by omega), hF, c5442⟩ dX15_init_11
set_option maxHeartbeats 4000000 in
set_option maxRecDepth 100000 in
theorem c_X10_reason (l : Launch) {D : gD} (hB : gBs D) (G : gH) (n : Nat) (qa : Nat) (cv : Value) (v1 : Value) (v2 : Value) (v3 : Value) (v4 : Value) (dp : Int32) (re : Int32) (de : Int32) (c0_ : G qa = some (.inl (8, [cv, v1, v2, v3, v4, .int dp, .int re, .int de]))) : gMet l D yX10_reason (ws_ yX10_reason cX10_reason 1 (some FieldType.int)) 1 0 G n [.ref qa] (fun (v : Option Value) (G1 : gH) (n1 : Nat) => v = some (.int re) ∧ G1 = G ∧ n1 = n) gNox := by
  refine g_start (by decide) (Nat.le_of_ble_eq_true rfl) ?_
  intro p e s m below meth c ls C hnm hxt hI hl
  have hx := C.x
  have hb := C.b
  have hS : va_S (gA D) s.heap s.heap [] := va_S.rf
  have hz0 := hI.z
  have lc0_ := hI.lt c0_
  have hF : gF G G n gNone := gF.rf _ _ _
  have hl : lv_has ls 1 [(0, .ref qa)] := hl
  refine lv_aload_n hx hb dX10_reason_0 rfl (lv_at hl 0 rfl) ?_
  refine g_get C hI c0_ kc8 6 rfl q1343 (fun _ h9 => h9) dX10_reason_1 ?_
  exact g_iret C hI hS (by omega) ⟨rfl, rfl, rfl⟩ dX10_reason_4
set_option maxHeartbeats 4000000 in
set_option maxRecDepth 100000 in
theorem c_X10_detail (l : Launch) {D : gD} (hB : gBs D) (G : gH) (n : Nat) (qa : Nat) (cv : Value) (v1 : Value) (v2 : Value) (v3 : Value) (v4 : Value) (dp : Int32) (re : Int32) (de : Int32) (c0_ : G qa = some (.inl (8, [cv, v1, v2, v3, v4, .int dp, .int re, .int de]))) : gMet l D yX10_detail (ws_ yX10_detail cX10_detail 1 (some FieldType.int)) 1 0 G n [.ref qa] (fun (v : Option Value) (G1 : gH) (n1 : Nat) => v = some (.int de) ∧ G1 = G ∧ n1 = n) gNox := by
  refine g_start (by decide) (Nat.le_of_ble_eq_true rfl) ?_
  intro p e s m below meth c ls C hnm hxt hI hl
  have hx := C.x
  have hb := C.b
  have hS : va_S (gA D) s.heap s.heap [] := va_S.rf
  have hz0 := hI.z
  have lc0_ := hI.lt c0_
  have hF : gF G G n gNone := gF.rf _ _ _
  have hl : lv_has ls 1 [(0, .ref qa)] := hl
  refine lv_aload_n hx hb dX10_detail_0 rfl (lv_at hl 0 rfl) ?_
  refine g_get C hI c0_ kc8 7 rfl q1344 (fun _ h9 => h9) dX10_detail_1 ?_
  exact g_iret C hI hS (by omega) ⟨rfl, rfl, rfl⟩ dX10_detail_4
set_option maxHeartbeats 4000000 in
set_option maxRecDepth 100000 in
theorem c_X15_position (l : Launch) {D : gD} (hB : gBs D) (G : gH) (n : Nat) (qa : Nat) (cv : Value) (v1 : Value) (v2 : Value) (v3 : Value) (v4 : Value) (dp : Int32) (re : Int32) (c0_ : G qa = some (.inl (11, [cv, v1, v2, v3, v4, .int dp, .int re]))) : gMet l D yX15_position (ws_ yX15_position cX15_position 1 (some FieldType.int)) 1 0 G n [.ref qa] (fun (v : Option Value) (G1 : gH) (n1 : Nat) => v = some (.int re) ∧ G1 = G ∧ n1 = n) gNox := by
  refine g_start (by decide) (Nat.le_of_ble_eq_true rfl) ?_
  intro p e s m below meth c ls C hnm hxt hI hl
  have hx := C.x
  have hb := C.b
  have hS : va_S (gA D) s.heap s.heap [] := va_S.rf
  have hz0 := hI.z
  have lc0_ := hI.lt c0_
  have hF : gF G G n gNone := gF.rf _ _ _
  have hl : lv_has ls 1 [(0, .ref qa)] := hl
  refine lv_aload_n hx hb dX15_position_0 rfl (lv_at hl 0 rfl) ?_
  refine g_get C hI c0_ kc11 6 rfl q2246 (fun _ h9 => h9) dX15_position_1 ?_
  exact g_iret C hI hS (by omega) ⟨rfl, rfl, rfl⟩ dX15_position_4
