/-! THE REFERENCE, 1: small methods -/
set_option maxRecDepth 100000
set_option maxHeartbeats 4000000 in
set_option maxRecDepth 100000 in
theorem c_X4_in (l : Launch) {D : gD} (hB : gBs D) (G : gH) (n : Nat) (v0 : Int32) (lo : Int32) (hi : Int32) : gMet l D yX4_in (ws_ yX4_in cX4_in 3 (some FieldType.boolean)) 1 0 G n [.int v0, .int lo, .int hi] (fun (v : Option Value) (G1 : gH) (n1 : Nat) => v = some (.int (gin v0 lo hi)) ∧ G1 = G ∧ n1 = n) gNox := by
  refine g_start (by decide) (Nat.le_of_ble_eq_true rfl) ?_
  intro p e s m below meth c ls C hnm hxt hI hl
  have hx := C.x
  have hb := C.b
  have hS : va_S (gA D) s.heap s.heap [] := va_S.rf
  have hz0 := hI.z
  have hF : gF G G n gNone := gF.rf _ _ _
  have hl : lv_has ls 3 [(0, .int v0), (1, .int lo), (2, .int hi)] := hl
  refine lv_iload_n hx hb dX4_in_0 rfl (lv_at hl 0 rfl) ?_
  refine lv_iload_n hx hb dX4_in_1 rfl (lv_at hl 1 rfl) ?_
  refine lv_icmp_lt (tgt := 14) hx hb dX4_in_2 (by decide) (fun c_1 => ?_) (fun c_1 => ?_)
  · skip
    refine lv_iconst (v := 0) hx hb dX4_in_14 (by decide) ?_
    exact g_zret C hI hS (by omega) rfl ⟨(by rw [gin_f1 c_1]), rfl, rfl⟩ dX4_in_15
  · skip
    refine lv_iload_n hx hb dX4_in_5 rfl (lv_at hl 0 rfl) ?_
    refine lv_iload_n hx hb dX4_in_6 rfl (lv_at hl 2 rfl) ?_
    refine lv_icmp_gt (tgt := 14) hx hb dX4_in_7 (by decide) (fun c_2 => ?_) (fun c_2 => ?_)
    · skip
      refine lv_iconst (v := 0) hx hb dX4_in_14 (by decide) ?_
      exact g_zret C hI hS (by omega) rfl ⟨(by rw [gin_f2 c_2]), rfl, rfl⟩ dX4_in_15
    · skip
      refine lv_iconst (v := 1) hx hb dX4_in_10 (by decide) ?_
      refine lv_goto (tgt := 15) hx hb dX4_in_11 (by decide) ?_
      exact g_zret C hI hS (by omega) rfl ⟨(by rw [gin_t c_1 c_2]), rfl, rfl⟩ dX4_in_15
set_option maxHeartbeats 4000000 in
set_option maxRecDepth 100000 in
theorem c_X4_isGround (l : Launch) {D : gD} (hB : gBs D) (G : gH) (n : Nat) (v0 : Int32) : gMet l D yX4_isGround (ws_ yX4_isGround cX4_isGround 1 (some FieldType.boolean)) 2 0 G n [.int v0] (fun (v : Option Value) (G1 : gH) (n1 : Nat) => v = some (.int (gin v0 0 5)) ∧ G1 = G ∧ n1 = n) gNox := by
  refine g_start (by decide) (Nat.le_of_ble_eq_true rfl) ?_
  intro p e s m below meth c ls C hnm hxt hI hl
  have hx := C.x
  have hb := C.b
  have hS : va_S (gA D) s.heap s.heap [] := va_S.rf
  have hz0 := hI.z
  have hF : gF G G n gNone := gF.rf _ _ _
  have hl : lv_has ls 1 [(0, .int v0)] := hl
  refine lv_iload_n hx hb dX4_isGround_0 rfl (lv_at hl 0 rfl) ?_
  refine lv_iconst (v := 0) hx hb dX4_isGround_1 (by decide) ?_
  refine lv_iconst (v := 5) hx hb dX4_isGround_2 (by decide) ?_
  refine g_S (As := [.int v0, .int 0, .int 5]) (rest := []) (lv := [(0, .int v0)]) C hI hS (c_X4_in l hB G n v0 0 5  ) q2634 q2635 q94 q2636 (⟨by decide, by decide, by decide⟩ : gArg _ 3) rfl ⟨by decide, by decide⟩ (by omega) hl rfl (Nat.le_of_ble_eq_true rfl) dX4_isGround_3 (fun v3 G4 n5 H locs hp6 hI hS => ?_) gKx.no
  obtain ⟨rfl, eG4, en5⟩ := hp6
  refine W.widen (k := 0) (n := 200 * (0)) (by omega) (by omega) ?_
  rw [eG4, en5] at hI
  exact g_zret C hI hS (by omega) (gin_nar _ _ _) ⟨rfl, rfl, rfl⟩ dX4_isGround_6
set_option maxHeartbeats 4000000 in
set_option maxRecDepth 100000 in
theorem c_X4_isSize (l : Launch) {D : gD} (hB : gBs D) (G : gH) (n : Nat) (v0 : Int32) : gMet l D yX4_isSize (ws_ yX4_isSize cX4_isSize 1 (some FieldType.boolean)) 2 0 G n [.int v0] (fun (v : Option Value) (G1 : gH) (n1 : Nat) => v = some (.int (gin v0 0 2)) ∧ G1 = G ∧ n1 = n) gNox := by
  refine g_start (by decide) (Nat.le_of_ble_eq_true rfl) ?_
  intro p e s m below meth c ls C hnm hxt hI hl
  have hx := C.x
  have hb := C.b
  have hS : va_S (gA D) s.heap s.heap [] := va_S.rf
  have hz0 := hI.z
  have hF : gF G G n gNone := gF.rf _ _ _
  have hl : lv_has ls 1 [(0, .int v0)] := hl
  refine lv_iload_n hx hb dX4_isSize_0 rfl (lv_at hl 0 rfl) ?_
  refine lv_iconst (v := 0) hx hb dX4_isSize_1 (by decide) ?_
  refine lv_iconst (v := 2) hx hb dX4_isSize_2 (by decide) ?_
  refine g_S (As := [.int v0, .int 0, .int 2]) (rest := []) (lv := [(0, .int v0)]) C hI hS (c_X4_in l hB G n v0 0 2  ) q2634 q2635 q94 q2636 (⟨by decide, by decide, by decide⟩ : gArg _ 3) rfl ⟨by decide, by decide⟩ (by omega) hl rfl (Nat.le_of_ble_eq_true rfl) dX4_isSize_3 (fun v9 G10 n11 H locs hp12 hI hS => ?_) gKx.no
  obtain ⟨rfl, eG10, en11⟩ := hp12
  refine W.widen (k := 0) (n := 200 * (0)) (by omega) (by omega) ?_
  rw [eG10, en11] at hI
  exact g_zret C hI hS (by omega) (gin_nar _ _ _) ⟨rfl, rfl, rfl⟩ dX4_isSize_6
set_option maxHeartbeats 4000000 in
set_option maxRecDepth 100000 in
theorem c_X4_thrown (l : Launch) {D : gD} (hB : gBs D) (G : gH) (n : Nat) (mm : Nat) (ag : Nat) (ab : Nat) (ah : Nat) (ch : Int32) (asv : Nat) (hs : Int32) (aas : Nat) (ain : Nat) (ty : Int32) (er : Int32) (awy : Nat) (ir : Int32) (ali : Nat) (ln : Int32) (th : Int32) (pl : Int32) (wr : Int32) (ato : Nat) (c0_ : G mm = some (.inl (23, [.ref ag, .ref ab, .ref ah, .int ch, .ref asv, .int hs, .ref aas, .ref ain, .int ty, .int er, .ref awy, .int ir, .ref ali, .int ln, .int th, .int pl, .int wr, .ref ato]))) : gMet l D yX4_thrown (ws_ yX4_thrown cX4_thrown 1 (some FieldType.int)) 1 0 G n [.ref mm] (fun (v : Option Value) (G1 : gH) (n1 : Nat) => v = some (.int th) ∧ G1 = G ∧ n1 = n) gNox := by
  refine g_start (by decide) (Nat.le_of_ble_eq_true rfl) ?_
  intro p e s m below meth c ls C hnm hxt hI hl
  have hx := C.x
  have hb := C.b
  have hS : va_S (gA D) s.heap s.heap [] := va_S.rf
  have hz0 := hI.z
  have lc0_ := hI.lt c0_
  have hF : gF G G n gNone := gF.rf _ _ _
  have hl : lv_has ls 1 [(0, .ref mm)] := hl
  refine lv_aload_n hx hb dX4_thrown_0 rfl (lv_at hl 0 rfl) ?_
  refine g_get C hI c0_ kc23 14 rfl q2581 (fun _ h9 => h9) dX4_thrown_1 ?_
  exact g_iret C hI hS (by omega) ⟨rfl, rfl, rfl⟩ dX4_thrown_4
set_option maxHeartbeats 4000000 in
set_option maxRecDepth 100000 in
theorem c_X4_done (l : Launch) {D : gD} (hB : gBs D) (G : gH) (n : Nat) (mm : Nat) (ag : Nat) (ab : Nat) (ah : Nat) (ch : Int32) (asv : Nat) (hs : Int32) (aas : Nat) (ain : Nat) (ty : Int32) (er : Int32) (awy : Nat) (ir : Int32) (ali : Nat) (ln : Int32) (th : Int32) (pl : Int32) (wr : Int32) (ato : Nat) (v0 : Int32) (c0_ : G mm = some (.inl (23, [.ref ag, .ref ab, .ref ah, .int ch, .ref asv, .int hs, .ref aas, .ref ain, .int ty, .int er, .ref awy, .int ir, .ref ali, .int ln, .int th, .int pl, .int wr, .ref ato]))) (hz : gz D ≤ mm) : gMet l D yX4_done (ws_ yX4_done cX4_done 2 (some FieldType.int)) 1 0 G n [.ref mm, .int v0] (fun (v : Option Value) (G1 : gH) (n1 : Nat) => v = some (.int v0) ∧ n ≤ n1 ∧ gF G G1 n (fun q : Nat => q = mm) ∧ G1 mm = some (.inl (23, [.ref ag, .ref ab, .ref ah, .int ch, .ref asv, .int hs, .ref aas, .ref ain, .int ty, .int er, .ref awy, .int ir, .ref ali, .int ln, .int 0, .int pl, .int wr, .ref ato]))) gNox := by
  refine g_start (by decide) (Nat.le_of_ble_eq_true rfl) ?_
  intro p e s m below meth c ls C hnm hxt hI hl
  have hx := C.x
  have hb := C.b
  have hS : va_S (gA D) s.heap s.heap [] := va_S.rf
  have hz0 := hI.z
  have lc0_ := hI.lt c0_
  have hF : gF G G n (fun q : Nat => q = mm) := gF.rf _ _ _
  have hl : lv_has ls 2 [(0, .ref mm), (1, .int v0)] := hl
  refine lv_aload_n hx hb dX4_done_0 rfl (lv_at hl 0 rfl) ?_
  refine lv_iconst (v := 0) hx hb dX4_done_1 (by decide) ?_
  refine g_put (fs2 := [.ref ag, .ref ab, .ref ah, .int ch, .ref asv, .int hs, .ref aas, .ref ain, .int ty, .int er, .ref awy, .int ir, .ref ali, .int ln, .int 0, .int pl, .int wr, .ref ato]) C hI hS c0_ (by omega) kc23 14 (Nat.le_of_ble_eq_true rfl) q2581 (fun _ h9 => h9) rfl rfl rfl rfl dX4_done_2 (fun G15 H locs e16 hI hS => ?_)
  have c0_ : G15 mm = some (.inl (23, [.ref ag, .ref ab, .ref ah, .int ch, .ref asv, .int hs, .ref aas, .ref ain, .int ty, .int er, .ref awy, .int ir, .ref ali, .int ln, .int 0, .int pl, .int wr, .ref ato])) := gE_s e16
  have hF := gE_F e16 hF (Or.inr rfl)
  refine lv_iload_n hx hb dX4_done_5 rfl (lv_at hl 1 rfl) ?_
  exact g_iret C hI hS (by omega) ⟨rfl, (by omega), hF, c0_⟩ dX4_done_6
set_option maxHeartbeats 4000000 in
set_option maxRecDepth 100000 in
theorem c_X4_fails (l : Launch) {D : gD} (hB : gBs D) (G : gH) (n : Nat) (mm : Nat) (ag : Nat) (ab : Nat) (ah : Nat) (ch : Int32) (asv : Nat) (hs : Int32) (aas : Nat) (ain : Nat) (ty : Int32) (er : Int32) (awy : Nat) (ir : Int32) (ali : Nat) (ln : Int32) (th : Int32) (pl : Int32) (wr : Int32) (ato : Nat) (v0 : Int32) (c0_ : G mm = some (.inl (23, [.ref ag, .ref ab, .ref ah, .int ch, .ref asv, .int hs, .ref aas, .ref ain, .int ty, .int er, .ref awy, .int ir, .ref ali, .int ln, .int th, .int pl, .int wr, .ref ato]))) (hz : gz D ≤ mm) : gMet l D yX4_fails (ws_ yX4_fails cX4_fails 2 (some FieldType.int)) 1 0 G n [.ref mm, .int v0] (fun (v : Option Value) (G1 : gH) (n1 : Nat) => v = some (.int 0) ∧ n ≤ n1 ∧ gF G G1 n (fun q : Nat => q = mm) ∧ G1 mm = some (.inl (23, [.ref ag, .ref ab, .ref ah, .int ch, .ref asv, .int hs, .ref aas, .ref ain, .int ty, .int er, .ref awy, .int 0, .ref ali, .int ln, .int v0, .int pl, .int wr, .ref ato]))) gNox := by
  refine g_start (by decide) (Nat.le_of_ble_eq_true rfl) ?_
  intro p e s m below meth c ls C hnm hxt hI hl
  have hx := C.x
  have hb := C.b
  have hS : va_S (gA D) s.heap s.heap [] := va_S.rf
  have hz0 := hI.z
  have lc0_ := hI.lt c0_
  have hF : gF G G n (fun q : Nat => q = mm) := gF.rf _ _ _
  have hl : lv_has ls 2 [(0, .ref mm), (1, .int v0)] := hl
  refine lv_aload_n hx hb dX4_fails_0 rfl (lv_at hl 0 rfl) ?_
  refine lv_iload_n hx hb dX4_fails_1 rfl (lv_at hl 1 rfl) ?_
  refine g_put (fs2 := [.ref ag, .ref ab, .ref ah, .int ch, .ref asv, .int hs, .ref aas, .ref ain, .int ty, .int er, .ref awy, .int ir, .ref ali, .int ln, .int v0, .int pl, .int wr, .ref ato]) C hI hS c0_ (by omega) kc23 14 (Nat.le_of_ble_eq_true rfl) q2581 (fun _ h9 => h9) rfl rfl rfl rfl dX4_fails_2 (fun G17 H locs e18 hI hS => ?_)
  have c0_ : G17 mm = some (.inl (23, [.ref ag, .ref ab, .ref ah, .int ch, .ref asv, .int hs, .ref aas, .ref ain, .int ty, .int er, .ref awy, .int ir, .ref ali, .int ln, .int v0, .int pl, .int wr, .ref ato])) := gE_s e18
  have hF := gE_F e18 hF (Or.inr rfl)
  refine lv_aload_n hx hb dX4_fails_5 rfl (lv_at hl 0 rfl) ?_
  refine lv_iconst (v := 0) hx hb dX4_fails_6 (by decide) ?_
  refine g_put (fs2 := [.ref ag, .ref ab, .ref ah, .int ch, .ref asv, .int hs, .ref aas, .ref ain, .int ty, .int er, .ref awy, .int 0, .ref ali, .int ln, .int v0, .int pl, .int wr, .ref ato]) C hI hS c0_ (by omega) kc23 11 (Nat.le_of_ble_eq_true rfl) q2578 (fun _ h9 => h9) rfl rfl rfl rfl dX4_fails_7 (fun G19 H locs e20 hI hS => ?_)
  have c0_ : G19 mm = some (.inl (23, [.ref ag, .ref ab, .ref ah, .int ch, .ref asv, .int hs, .ref aas, .ref ain, .int ty, .int er, .ref awy, .int 0, .ref ali, .int ln, .int v0, .int pl, .int wr, .ref ato])) := gE_s e20
  have hF := gE_F e20 hF (Or.inr rfl)
  refine lv_iconst (v := 0) hx hb dX4_fails_10 (by decide) ?_
  exact g_iret C hI hS (by omega) ⟨rfl, (by omega), hF, c0_⟩ dX4_fails_11
set_option maxHeartbeats 4000000 in
set_option maxRecDepth 100000 in
theorem c_X4_refusedBy (l : Launch) {D : gD} (hB : gBs D) (G : gH) (n : Nat) (mm : Nat) (ag : Nat) (ab : Nat) (ah : Nat) (ch : Int32) (asv : Nat) (hs : Int32) (aas : Nat) (ain : Nat) (ty : Int32) (er : Int32) (awy : Nat) (ir : Int32) (ali : Nat) (ln : Int32) (th : Int32) (pl : Int32) (wr : Int32) (ato : Nat) (y : Nat → Int32) (r1 : Int32) (r2 : Int32) (r3 : Int32) (r4 : Int32) (cd : Int32) (c0_ : G mm = some (.inl (23, [.ref ag, .ref ab, .ref ah, .int ch, .ref asv, .int hs, .ref aas, .ref ain, .int ty, .int er, .ref awy, .int ir, .ref ali, .int ln, .int th, .int pl, .int wr, .ref ato]))) (c1_ : G awy = some (aI 6 y)) (hz : gz D ≤ mm) (hzw : gz D ≤ awy) : gMet l D yX4_refusedBy (ws_ yX4_refusedBy cX4_refusedBy 6 (some FieldType.int)) 1 0 G n [.ref mm, .int r1, .int r2, .int r3, .int r4, .int cd] (fun (v : Option Value) (G1 : gH) (n1 : Nat) => v = some (.int 0) ∧ n ≤ n1 ∧ gF G G1 n (fun q : Nat => q = mm ∨ q = awy) ∧ G1 mm = some (.inl (23, [.ref ag, .ref ab, .ref ah, .int ch, .ref asv, .int hs, .ref aas, .ref ain, .int ty, .int er, .ref awy, .int 1, .ref ali, .int ln, .int cd, .int pl, .int wr, .ref ato])) ∧ G1 awy = some (aI 6 (gup (gup (gup (gup (gup (gup y 0 r1) 1 r2) 2 r3) 3 r4) 4 0) 5 0))) gNox := by
  refine g_start (by decide) (Nat.le_of_ble_eq_true rfl) ?_
  intro p e s m below meth c ls C hnm hxt hI hl
  have hx := C.x
  have hb := C.b
  have hS : va_S (gA D) s.heap s.heap [] := va_S.rf
  have hz0 := hI.z
  have lc0_ := hI.lt c0_
  have lc1_ := hI.lt c1_
  have hF : gF G G n (fun q : Nat => q = mm ∨ q = awy) := gF.rf _ _ _
  have hl : lv_has ls 6 [(0, .ref mm), (1, .int r1), (2, .int r2), (3, .int r3), (4, .int r4), (5, .int cd)] := hl
  refine lv_aload_n hx hb dX4_refusedBy_0 rfl (lv_at hl 0 rfl) ?_
  refine g_get C hI c0_ kc23 10 rfl q2577 (fun _ h9 => h9) dX4_refusedBy_1 ?_
  refine lv_iconst (v := 0) hx hb dX4_refusedBy_4 (by decide) ?_
  refine lv_iload_n hx hb dX4_refusedBy_5 rfl (lv_at hl 1 rfl) ?_
  refine g_iast C hI hS c1_ (by omega) (gix nl0 (by omega) (by omega)) dX4_refusedBy_6 (fun G21 H locs e22 hI hS => ?_)
  rw [gup_e nl0 (by omega)] at e22
  have c0_ := gE_k e22 c0_ (g_no c0_ c1_)
  have c1_ : G21 awy = some (aI 6 (gup y 0 r1)) := gE_s e22
  have hF := gE_F e22 hF (Or.inr (Or.inr (rfl)))
  refine lv_aload_n hx hb dX4_refusedBy_7 rfl (lv_at hl 0 rfl) ?_
  refine g_get C hI c0_ kc23 10 rfl q2577 (fun _ h9 => h9) dX4_refusedBy_8 ?_
  refine lv_iconst (v := 1) hx hb dX4_refusedBy_11 (by decide) ?_
  refine lv_iload_n hx hb dX4_refusedBy_12 rfl (lv_at hl 2 rfl) ?_
  refine g_iast C hI hS c1_ (by omega) (gix nl1 (by omega) (by omega)) dX4_refusedBy_13 (fun G24 H locs e25 hI hS => ?_)
  rw [gup_e nl1 (by omega)] at e25
  have c0_ := gE_k e25 c0_ (g_no c0_ c1_)
  have c1_ : G24 awy = some (aI 6 (gup (gup y 0 r1) 1 r2)) := gE_s e25
  have hF := gE_F e25 hF (Or.inr (Or.inr (rfl)))
  refine lv_aload_n hx hb dX4_refusedBy_14 rfl (lv_at hl 0 rfl) ?_
  refine g_get C hI c0_ kc23 10 rfl q2577 (fun _ h9 => h9) dX4_refusedBy_15 ?_
  refine lv_iconst (v := 2) hx hb dX4_refusedBy_18 (by decide) ?_
  refine lv_iload_n hx hb dX4_refusedBy_19 rfl (lv_at hl 3 rfl) ?_
  refine g_iast C hI hS c1_ (by omega) (gix nl2 (by omega) (by omega)) dX4_refusedBy_20 (fun G27 H locs e28 hI hS => ?_)
  rw [gup_e nl2 (by omega)] at e28
  have c0_ := gE_k e28 c0_ (g_no c0_ c1_)
  have c1_ : G27 awy = some (aI 6 (gup (gup (gup y 0 r1) 1 r2) 2 r3)) := gE_s e28
  have hF := gE_F e28 hF (Or.inr (Or.inr (rfl)))
  refine lv_aload_n hx hb dX4_refusedBy_21 rfl (lv_at hl 0 rfl) ?_
  refine g_get C hI c0_ kc23 10 rfl q2577 (fun _ h9 => h9) dX4_refusedBy_22 ?_
  refine lv_iconst (v := 3) hx hb dX4_refusedBy_25 (by decide) ?_
  refine lv_iload hx hb dX4_refusedBy_26 (lv_at hl 4 rfl) ?_
  refine g_iast C hI hS c1_ (by omega) (gix nl3 (by omega) (by omega)) dX4_refusedBy_28 (fun G30 H locs e31 hI hS => ?_)
  rw [gup_e nl3 (by omega)] at e31
  have c0_ := gE_k e31 c0_ (g_no c0_ c1_)
  have c1_ : G30 awy = some (aI 6 (gup (gup (gup (gup y 0 r1) 1 r2) 2 r3) 3 r4)) := gE_s e31
  have hF := gE_F e31 hF (Or.inr (Or.inr (rfl)))
  refine lv_aload_n hx hb dX4_refusedBy_29 rfl (lv_at hl 0 rfl) ?_
  refine g_get C hI c0_ kc23 10 rfl q2577 (fun _ h9 => h9) dX4_refusedBy_30 ?_
  refine lv_iconst (v := 4) hx hb dX4_refusedBy_33 (by decide) ?_
  refine lv_iconst (v := 0) hx hb dX4_refusedBy_34 (by decide) ?_
  refine g_iast C hI hS c1_ (by omega) (gix nl4 (by omega) (by omega)) dX4_refusedBy_35 (fun G33 H locs e34 hI hS => ?_)
  rw [gup_e nl4 (by omega)] at e34
  have c0_ := gE_k e34 c0_ (g_no c0_ c1_)
  have c1_ : G33 awy = some (aI 6 (gup (gup (gup (gup (gup y 0 r1) 1 r2) 2 r3) 3 r4) 4 0)) := gE_s e34
  have hF := gE_F e34 hF (Or.inr (Or.inr (rfl)))
  refine lv_aload_n hx hb dX4_refusedBy_36 rfl (lv_at hl 0 rfl) ?_
  refine g_get C hI c0_ kc23 10 rfl q2577 (fun _ h9 => h9) dX4_refusedBy_37 ?_
  refine lv_iconst (v := 5) hx hb dX4_refusedBy_40 (by decide) ?_
  refine lv_iconst (v := 0) hx hb dX4_refusedBy_41 (by decide) ?_
  refine g_iast C hI hS c1_ (by omega) (gix nl5 (by omega) (by omega)) dX4_refusedBy_42 (fun G36 H locs e37 hI hS => ?_)
  rw [gup_e nl5 (by omega)] at e37
  have c0_ := gE_k e37 c0_ (g_no c0_ c1_)
  have c1_ : G36 awy = some (aI 6 (gup (gup (gup (gup (gup (gup y 0 r1) 1 r2) 2 r3) 3 r4) 4 0) 5 0)) := gE_s e37
  have hF := gE_F e37 hF (Or.inr (Or.inr (rfl)))
  refine lv_aload_n hx hb dX4_refusedBy_43 rfl (lv_at hl 0 rfl) ?_
  refine lv_iconst (v := 1) hx hb dX4_refusedBy_44 (by decide) ?_
  refine g_put (fs2 := [.ref ag, .ref ab, .ref ah, .int ch, .ref asv, .int hs, .ref aas, .ref ain, .int ty, .int er, .ref awy, .int 1, .ref ali, .int ln, .int th, .int pl, .int wr, .ref ato]) C hI hS c0_ (by omega) kc23 11 (Nat.le_of_ble_eq_true rfl) q2578 (fun _ h9 => h9) rfl rfl rfl rfl dX4_refusedBy_45 (fun G39 H locs e40 hI hS => ?_)
  have c1_ := gE_k e40 c1_ (g_on c1_ c0_)
  have c0_ : G39 mm = some (.inl (23, [.ref ag, .ref ab, .ref ah, .int ch, .ref asv, .int hs, .ref aas, .ref ain, .int ty, .int er, .ref awy, .int 1, .ref ali, .int ln, .int th, .int pl, .int wr, .ref ato])) := gE_s e40
  have hF := gE_F e40 hF (Or.inr (Or.inl rfl))
  refine lv_aload_n hx hb dX4_refusedBy_48 rfl (lv_at hl 0 rfl) ?_
  refine lv_iload hx hb dX4_refusedBy_49 (lv_at hl 5 rfl) ?_
  refine g_put (fs2 := [.ref ag, .ref ab, .ref ah, .int ch, .ref asv, .int hs, .ref aas, .ref ain, .int ty, .int er, .ref awy, .int 1, .ref ali, .int ln, .int cd, .int pl, .int wr, .ref ato]) C hI hS c0_ (by omega) kc23 14 (Nat.le_of_ble_eq_true rfl) q2581 (fun _ h9 => h9) rfl rfl rfl rfl dX4_refusedBy_51 (fun G41 H locs e42 hI hS => ?_)
  have c1_ := gE_k e42 c1_ (g_on c1_ c0_)
  have c0_ : G41 mm = some (.inl (23, [.ref ag, .ref ab, .ref ah, .int ch, .ref asv, .int hs, .ref aas, .ref ain, .int ty, .int er, .ref awy, .int 1, .ref ali, .int ln, .int cd, .int pl, .int wr, .ref ato])) := gE_s e42
  have hF := gE_F e42 hF (Or.inr (Or.inl rfl))
  refine lv_iconst (v := 0) hx hb dX4_refusedBy_54 (by decide) ?_
  exact g_iret C hI hS (by omega) ⟨rfl, (by omega), hF, c0_, c1_⟩ dX4_refusedBy_55
set_option maxHeartbeats 4000000 in
set_option maxRecDepth 100000 in
theorem c_X4_refused (l : Launch) {D : gD} (hB : gBs D) (G : gH) (n : Nat) (mm : Nat) (ag : Nat) (ab : Nat) (ah : Nat) (ch : Int32) (asv : Nat) (hs : Int32) (aas : Nat) (ain : Nat) (ty : Int32) (er : Int32) (awy : Nat) (ir : Int32) (ali : Nat) (ln : Int32) (th : Int32) (pl : Int32) (wr : Int32) (ato : Nat) (y : Nat → Int32) (r1 : Int32) (r2 : Int32) (cd : Int32) (c0_ : G mm = some (.inl (23, [.ref ag, .ref ab, .ref ah, .int ch, .ref asv, .int hs, .ref aas, .ref ain, .int ty, .int er, .ref awy, .int ir, .ref ali, .int ln, .int th, .int pl, .int wr, .ref ato]))) (c1_ : G awy = some (aI 6 y)) (hz : gz D ≤ mm) (hzw : gz D ≤ awy) : gMet l D yX4_refused (ws_ yX4_refused cX4_refused 4 (some FieldType.int)) 2 0 G n [.ref mm, .int r1, .int r2, .int cd] (fun (v : Option Value) (G1 : gH) (n1 : Nat) => v = some (.int 0) ∧ n ≤ n1 ∧ gF G G1 n (fun q : Nat => q = mm ∨ q = awy) ∧ G1 mm = some (.inl (23, [.ref ag, .ref ab, .ref ah, .int ch, .ref asv, .int hs, .ref aas, .ref ain, .int ty, .int er, .ref awy, .int 1, .ref ali, .int ln, .int cd, .int pl, .int wr, .ref ato])) ∧ G1 awy = some (aI 6 (gup (gup (gup (gup (gup (gup y 0 r1) 1 r2) 2 0) 3 0) 4 0) 5 0))) gNox := by
  refine g_start (by decide) (Nat.le_of_ble_eq_true rfl) ?_
  intro p e s m below meth c ls C hnm hxt hI hl
  have hx := C.x
  have hb := C.b
  have hS : va_S (gA D) s.heap s.heap [] := va_S.rf
  have hz0 := hI.z
  have lc0_ := hI.lt c0_
  have lc1_ := hI.lt c1_
  have hF : gF G G n (fun q : Nat => q = mm ∨ q = awy) := gF.rf _ _ _
  have hl : lv_has ls 4 [(0, .ref mm), (1, .int r1), (2, .int r2), (3, .int cd)] := hl
  refine lv_aload_n hx hb dX4_refused_0 rfl (lv_at hl 0 rfl) ?_
  refine lv_iload_n hx hb dX4_refused_1 rfl (lv_at hl 1 rfl) ?_
  refine lv_iload_n hx hb dX4_refused_2 rfl (lv_at hl 2 rfl) ?_
  refine lv_iconst (v := 0) hx hb dX4_refused_3 (by decide) ?_
  refine lv_iconst (v := 0) hx hb dX4_refused_4 (by decide) ?_
  refine lv_iload_n hx hb dX4_refused_5 rfl (lv_at hl 3 rfl) ?_
  refine g_V (As := [.int r1, .int r2, .int 0, .int 0, .int cd]) (rest := []) (lv := [(0, .ref mm), (1, .int r1), (2, .int r2), (3, .int cd)]) C hI hS (c_X4_refusedBy l hB G n mm ag ab ah ch asv hs aas ain ty er awy ir ali ln th pl wr ato y r1 r2 0 0 cd c0_ c1_ (by omega) (by omega)) c0_ rfl rfl q2690 q2692 qs39 q94 q2693 (⟨by decide, by decide, by decide⟩ : gArg _ 5) rfl ⟨by decide, by decide⟩ (by omega) hl rfl (Nat.le_of_ble_eq_true rfl) dX4_refused_6 (fun v43 G44 n45 H locs hp46 hI hS => ?_) gKx.no
  obtain ⟨rfl, hn47, hF48, c49, c50⟩ := hp46
  refine W.widen (k := 0) (n := 200 * (0)) (by omega) (by omega) ?_
  have hF := hF.trans hF48 (by omega) (fun q hq => (fun h => h.elim (fun h => h ▸ (Or.inl rfl)) (fun h => h ▸ (Or.inr (rfl)))))
  exact g_iret C hI hS (by omega) ⟨rfl, (by omega), hF, c49, c50⟩ dX4_refused_9
set_option maxHeartbeats 4000000 in
set_option maxRecDepth 100000 in
theorem c_X4_isBoat (l : Launch) {D : gD} (hB : gBs D) (G : gH) (n : Nat) (mm : Nat) (ag : Nat) (ab : Nat) (ah : Nat) (ch : Int32) (asv : Nat) (hs : Int32) (aas : Nat) (ain : Nat) (ty : Int32) (er : Int32) (awy : Nat) (ir : Int32) (ali : Nat) (ln : Int32) (th : Int32) (pl : Int32) (wr : Int32) (ato : Nat) (f : Nat → Int32) (v0 : Int32) (c0_ : G mm = some (.inl (23, [.ref ag, .ref ab, .ref ah, .int ch, .ref asv, .int hs, .ref aas, .ref ain, .int ty, .int er, .ref awy, .int ir, .ref ali, .int ln, .int th, .int pl, .int wr, .ref ato]))) (c1_ : G ag = some (aI 112 f)) : gMet l D yX4_isBoat (ws_ yX4_isBoat cX4_isBoat 2 (some FieldType.boolean)) 2 0 G n [.ref mm, .int v0] (fun (v : Option Value) (G1 : gH) (n1 : Nat) => v = some (.int (gin v0 0 (f 24 - 1))) ∧ G1 = G ∧ n1 = n) gNox := by
  refine g_start (by decide) (Nat.le_of_ble_eq_true rfl) ?_
  intro p e s m below meth c ls C hnm hxt hI hl
  have hx := C.x
  have hb := C.b
  have hS : va_S (gA D) s.heap s.heap [] := va_S.rf
  have hz0 := hI.z
  have lc0_ := hI.lt c0_
  have lc1_ := hI.lt c1_
  have hF : gF G G n gNone := gF.rf _ _ _
  have hl : lv_has ls 2 [(0, .ref mm), (1, .int v0)] := hl
  refine lv_iload_n hx hb dX4_isBoat_0 rfl (lv_at hl 1 rfl) ?_
  refine lv_iconst (v := 0) hx hb dX4_isBoat_1 (by decide) ?_
  refine lv_aload_n hx hb dX4_isBoat_2 rfl (lv_at hl 0 rfl) ?_
  refine g_get C hI c0_ kc23 0 rfl q2567 (fun _ h9 => h9) dX4_isBoat_3 ?_
  refine lv_bipush (v := 24) hx hb dX4_isBoat_6 (by decide) ?_
  refine g_iald (v := .int (f 24)) C hI c1_ (gix nl24 (by omega) (by omega)) (congrArg Value.int (gixv (f := f) nl24 (by omega))) dX4_isBoat_8 ?_
  refine lv_iconst (v := 1) hx hb dX4_isBoat_9 (by decide) ?_
  refine lv_isub hx hb dX4_isBoat_10 ?_
  refine g_S (As := [.int v0, .int 0, .int ((f 24) - 1)]) (rest := []) (lv := [(0, .ref mm), (1, .int v0)]) C hI hS (c_X4_in l hB G n v0 0 ((f 24) - 1)  ) q2634 q2635 q94 q2636 (⟨by decide, by decide, by decide⟩ : gArg _ 3) rfl ⟨by decide, by decide⟩ (by omega) hl rfl (Nat.le_of_ble_eq_true rfl) dX4_isBoat_11 (fun v51 G52 n53 H locs hp54 hI hS => ?_) gKx.no
  obtain ⟨rfl, eG52, en53⟩ := hp54
  refine W.widen (k := 0) (n := 200 * (0)) (by omega) (by omega) ?_
  rw [eG52, en53] at hI
  exact g_zret C hI hS (by omega) (gin_nar _ _ _) ⟨rfl, rfl, rfl⟩ dX4_isBoat_14
set_option maxHeartbeats 4000000 in
set_option maxRecDepth 100000 in
theorem c_X4_isString (l : Launch) {D : gD} (hB : gBs D) (G : gH) (n : Nat) (mm : Nat) (ag : Nat) (ab : Nat) (ah : Nat) (ch : Int32) (asv : Nat) (hs : Int32) (aas : Nat) (ain : Nat) (ty : Int32) (er : Int32) (awy : Nat) (ir : Int32) (ali : Nat) (ln : Int32) (th : Int32) (pl : Int32) (wr : Int32) (ato : Nat) (f : Nat → Int32) (v0 : Int32) (c0_ : G mm = some (.inl (23, [.ref ag, .ref ab, .ref ah, .int ch, .ref asv, .int hs, .ref aas, .ref ain, .int ty, .int er, .ref awy, .int ir, .ref ali, .int ln, .int th, .int pl, .int wr, .ref ato]))) (c1_ : G ag = some (aI 112 f)) : gMet l D yX4_isString (ws_ yX4_isString cX4_isString 2 (some FieldType.boolean)) 2 0 G n [.ref mm, .int v0] (fun (v : Option Value) (G1 : gH) (n1 : Nat) => v = some (.int (gin v0 0 (f 46 - 1))) ∧ G1 = G ∧ n1 = n) gNox := by
  refine g_start (by decide) (Nat.le_of_ble_eq_true rfl) ?_
  intro p e s m below meth c ls C hnm hxt hI hl
  have hx := C.x
  have hb := C.b
  have hS : va_S (gA D) s.heap s.heap [] := va_S.rf
  have hz0 := hI.z
  have lc0_ := hI.lt c0_
  have lc1_ := hI.lt c1_
  have hF : gF G G n gNone := gF.rf _ _ _
  have hl : lv_has ls 2 [(0, .ref mm), (1, .int v0)] := hl
  refine lv_iload_n hx hb dX4_isString_0 rfl (lv_at hl 1 rfl) ?_
  refine lv_iconst (v := 0) hx hb dX4_isString_1 (by decide) ?_
  refine lv_aload_n hx hb dX4_isString_2 rfl (lv_at hl 0 rfl) ?_
  refine g_get C hI c0_ kc23 0 rfl q2567 (fun _ h9 => h9) dX4_isString_3 ?_
  refine lv_bipush (v := 46) hx hb dX4_isString_6 (by decide) ?_
  refine g_iald (v := .int (f 46)) C hI c1_ (gix nl46 (by omega) (by omega)) (congrArg Value.int (gixv (f := f) nl46 (by omega))) dX4_isString_8 ?_
  refine lv_iconst (v := 1) hx hb dX4_isString_9 (by decide) ?_
  refine lv_isub hx hb dX4_isString_10 ?_
  refine g_S (As := [.int v0, .int 0, .int ((f 46) - 1)]) (rest := []) (lv := [(0, .ref mm), (1, .int v0)]) C hI hS (c_X4_in l hB G n v0 0 ((f 46) - 1)  ) q2634 q2635 q94 q2636 (⟨by decide, by decide, by decide⟩ : gArg _ 3) rfl ⟨by decide, by decide⟩ (by omega) hl rfl (Nat.le_of_ble_eq_true rfl) dX4_isString_11 (fun v57 G58 n59 H locs hp60 hI hS => ?_) gKx.no
  obtain ⟨rfl, eG58, en59⟩ := hp60
  refine W.widen (k := 0) (n := 200 * (0)) (by omega) (by omega) ?_
  rw [eG58, en59] at hI
  exact g_zret C hI hS (by omega) (gin_nar _ _ _) ⟨rfl, rfl, rfl⟩ dX4_isString_14
set_option maxHeartbeats 4000000 in
set_option maxRecDepth 100000 in
theorem c_X4_whelks (l : Launch) {D : gD} (hB : gBs D) (G : gH) (n : Nat) (mm : Nat) (ag : Nat) (ab : Nat) (ah : Nat) (ch : Int32) (asv : Nat) (hs : Int32) (aas : Nat) (ain : Nat) (ty : Int32) (er : Int32) (awy : Nat) (ir : Int32) (ali : Nat) (ln : Int32) (th : Int32) (pl : Int32) (wr : Int32) (ato : Nat) (f : Nat → Int32) (a1 : Int32) (a2 : Int32) (c0_ : G mm = some (.inl (23, [.ref ag, .ref ab, .ref ah, .int ch, .ref asv, .int hs, .ref aas, .ref ain, .int ty, .int er, .ref awy, .int ir, .ref ali, .int ln, .int th, .int pl, .int wr, .ref ato]))) (c1_ : G ag = some (aI 112 f)) (hz : gz D ≤ mm) : gMet l D yX4_whelks (ws_ yX4_whelks cX4_whelks 3 (some FieldType.int)) 3 0 G n [.ref mm, .int a1, .int a2] (fun (v : Option Value) (G1 : gH) (n1 : Nat) => ∃ (th2 : Int32) (ir2 : Int32) (r : Int32), v = some (.int r) ∧ n ≤ n1 ∧ gF G G1 n (fun q : Nat => q = mm) ∧ G1 mm = some (.inl (23, [.ref ag, .ref ab, .ref ah, .int ch, .ref asv, .int hs, .ref aas, .ref ain, .int ty, .int er, .ref awy, .int ir2, .ref ali, .int ln, .int th2, .int pl, .int wr, .ref ato])) ∧ qWhelks f a1 a2 = (th2, r)) gNox := by
  refine g_start (by decide) (Nat.le_of_ble_eq_true rfl) ?_
  intro p e s m below meth c ls C hnm hxt hI hl
  have hx := C.x
  have hb := C.b
  have hS : va_S (gA D) s.heap s.heap [] := va_S.rf
  have hz0 := hI.z
  have lc0_ := hI.lt c0_
  have lc1_ := hI.lt c1_
  have hF : gF G G n (fun q : Nat => q = mm) := gF.rf _ _ _
  have hl : lv_has ls 3 [(0, .ref mm), (1, .int a1), (2, .int a2)] := hl
  refine lv_iload_n hx hb dX4_whelks_0 rfl (lv_at hl 1 rfl) ?_
  refine g_S (As := [.int a1]) (rest := []) (lv := [(0, .ref mm), (1, .int a1), (2, .int a2)]) C hI hS (c_X4_isGround l hB G n a1  ) q2631 q2632 q94 q2633 (⟨by decide, by decide, by decide⟩ : gArg _ 1) rfl ⟨by decide, by decide⟩ (by omega) hl rfl (Nat.le_of_ble_eq_true rfl) dX4_whelks_1 (fun v63 G64 n65 H locs hp66 hI hS => ?_) gKx.no
  obtain ⟨rfl, eG64, en65⟩ := hp66
  refine W.widen (k := 0) (n := 200 * (0)) (by omega) (by omega) ?_
  rw [eG64, en65] at hI
  refine lv_if_ne (tgt := 13) hx hb dX4_whelks_4 (by decide) (fun c_69 => ?_) (fun c_69 => ?_)
  · skip
    obtain ⟨j_a1, hj_a1, ej_a1⟩ := gin_ok (k := 5) c_69 (by decide)
    have tj_a1 : a1.toNatClampNeg = j_a1 := by rw [ej_a1]; exact nI_clamp (by omega)
    refine lv_iload_n hx hb dX4_whelks_13 rfl (lv_at hl 2 rfl) ?_
    refine g_S (As := [.int a2]) (rest := []) (lv := [(0, .ref mm), (1, .int a1), (2, .int a2)]) C hI hS (c_X4_isSize l hB G n a2  ) q2641 q2642 q94 q2643 (⟨by decide, by decide, by decide⟩ : gArg _ 1) rfl ⟨by decide, by decide⟩ (by omega) hl rfl (Nat.le_of_ble_eq_true rfl) dX4_whelks_14 (fun v70 G71 n72 H locs hp73 hI hS => ?_) gKx.no
    obtain ⟨rfl, eG71, en72⟩ := hp73
    refine W.widen (k := 0) (n := 200 * (0)) (by omega) (by omega) ?_
    rw [eG71, en72] at hI
    refine lv_if_eq (tgt := 39) hx hb dX4_whelks_17 (by decide) (fun c_76 => ?_) (fun c_76 => ?_)
    · skip
      refine lv_aload_n hx hb dX4_whelks_39 rfl (lv_at hl 0 rfl) ?_
      refine lv_iconst (v := 2) hx hb dX4_whelks_40 (by decide) ?_
      refine g_V (As := [.int 2]) (rest := []) (lv := [(0, .ref mm), (1, .int a1), (2, .int a2)]) C hI hS (c_X4_fails l hB G n mm ag ab ah ch asv hs aas ain ty er awy ir ali ln th pl wr ato 2 c0_ (by omega)) c0_ rfl rfl q2637 q2639 qs34 q94 q2640 (⟨by decide, by decide, by decide⟩ : gArg _ 1) rfl ⟨by decide, by decide⟩ (by omega) hl rfl (Nat.le_of_ble_eq_true rfl) dX4_whelks_41 (fun v77 G78 n79 H locs hp80 hI hS => ?_) gKx.no
      obtain ⟨rfl, hn81, hF82, c83⟩ := hp80
      refine W.widen (k := 0) (n := 200 * (0)) (by omega) (by omega) ?_
      have c1_ := hF82.at c1_ (by omega) (g_on c1_ c0_)
      have hF := hF.trans hF82 (by omega) (fun q hq => (fun h => h ▸ rfl))
      exact g_iret C hI hS (by omega) ⟨2, 0, 0, rfl, (by omega), hF, c83, (by simp [qWhelks, c_69, tj_a1, c_76])⟩ dX4_whelks_44
    · skip
      obtain ⟨j_a2, hj_a2, ej_a2⟩ := gin_ok (k := 2) c_76 (by decide)
      have tj_a2 : a2.toNatClampNeg = j_a2 := by rw [ej_a2]; exact nI_clamp (by omega)
      refine lv_aload_n hx hb dX4_whelks_20 rfl (lv_at hl 0 rfl) ?_
      refine lv_aload_n hx hb dX4_whelks_21 rfl (lv_at hl 0 rfl) ?_
      refine g_get C hI c0_ kc23 0 rfl q2567 (fun _ h9 => h9) dX4_whelks_22 ?_
      refine lv_iconst (v := 3) hx hb dX4_whelks_25 (by decide) ?_
      refine lv_iconst (v := 3) hx hb dX4_whelks_26 (by decide) ?_
      refine lv_iload_n hx hb dX4_whelks_27 rfl (lv_at hl 1 rfl) ?_
      refine lv_imul hx hb dX4_whelks_28 ?_
      refine lv_iadd hx hb dX4_whelks_29 ?_
      refine lv_iload_n hx hb dX4_whelks_30 rfl (lv_at hl 2 rfl) ?_
      refine lv_iadd hx hb dX4_whelks_31 ?_
      refine g_iald (v := .int (f ((3 + (3 * j_a1)) + j_a2))) C hI c1_ (gix (gadd (gadd nl3 (gmul nl3 ej_a1)) ej_a2) (by omega) (by omega)) (congrArg Value.int (gixv (f := f) (gadd (gadd nl3 (gmul nl3 ej_a1)) ej_a2) (by omega))) dX4_whelks_32 ?_
      refine g_V (As := [.int (f ((3 + (3 * j_a1)) + j_a2))]) (rest := []) (lv := [(0, .ref mm), (1, .int a1), (2, .int a2)]) C hI hS (c_X4_done l hB G n mm ag ab ah ch asv hs aas ain ty er awy ir ali ln th pl wr ato (f ((3 + (3 * j_a1)) + j_a2)) c0_ (by omega)) c0_ rfl rfl q2644 q2646 qs35 q94 q2647 (⟨by decide, by decide, by decide⟩ : gArg _ 1) rfl ⟨by decide, by decide⟩ (by omega) hl rfl (Nat.le_of_ble_eq_true rfl) dX4_whelks_33 (fun v84 G85 n86 H locs hp87 hI hS => ?_) gKx.no
      obtain ⟨rfl, hn88, hF89, c90⟩ := hp87
      refine W.widen (k := 0) (n := 200 * (0)) (by omega) (by omega) ?_
      have c1_ := hF89.at c1_ (by omega) (g_on c1_ c0_)
      have hF := hF.trans hF89 (by omega) (fun q hq => (fun h => h ▸ rfl))
      refine lv_goto (tgt := 44) hx hb dX4_whelks_36 (by decide) ?_
      exact g_iret C hI hS (by omega) ⟨0, ir, f ((3 + (3 * j_a1)) + j_a2), rfl, (by omega), hF, c90, (by simp [qWhelks, c_69, tj_a1, c_76, tj_a2])⟩ dX4_whelks_44
  · skip
    refine lv_aload_n hx hb dX4_whelks_7 rfl (lv_at hl 0 rfl) ?_
    refine lv_iconst (v := 1) hx hb dX4_whelks_8 (by decide) ?_
    refine g_V (As := [.int 1]) (rest := []) (lv := [(0, .ref mm), (1, .int a1), (2, .int a2)]) C hI hS (c_X4_fails l hB G n mm ag ab ah ch asv hs aas ain ty er awy ir ali ln th pl wr ato 1 c0_ (by omega)) c0_ rfl rfl q2637 q2639 qs34 q94 q2640 (⟨by decide, by decide, by decide⟩ : gArg _ 1) rfl ⟨by decide, by decide⟩ (by omega) hl rfl (Nat.le_of_ble_eq_true rfl) dX4_whelks_9 (fun v91 G92 n93 H locs hp94 hI hS => ?_) gKx.no
    obtain ⟨rfl, hn95, hF96, c97⟩ := hp94
    refine W.widen (k := 0) (n := 200 * (0)) (by omega) (by omega) ?_
    have c1_ := hF96.at c1_ (by omega) (g_on c1_ c0_)
    have hF := hF.trans hF96 (by omega) (fun q hq => (fun h => h ▸ rfl))
    exact g_iret C hI hS (by omega) ⟨1, 0, 0, rfl, (by omega), hF, c97, (by simp [qWhelks, c_69])⟩ dX4_whelks_12
set_option maxHeartbeats 4000000 in
set_option maxRecDepth 100000 in
theorem c_X4_bait (l : Launch) {D : gD} (hB : gBs D) (G : gH) (n : Nat) (mm : Nat) (ag : Nat) (ab : Nat) (ah : Nat) (ch : Int32) (asv : Nat) (hs : Int32) (aas : Nat) (ain : Nat) (ty : Int32) (er : Int32) (awy : Nat) (ir : Int32) (ali : Nat) (ln : Int32) (th : Int32) (pl : Int32) (wr : Int32) (ato : Nat) (f : Nat → Int32) (a1 : Int32) (c0_ : G mm = some (.inl (23, [.ref ag, .ref ab, .ref ah, .int ch, .ref asv, .int hs, .ref aas, .ref ain, .int ty, .int er, .ref awy, .int ir, .ref ali, .int ln, .int th, .int pl, .int wr, .ref ato]))) (c1_ : G ag = some (aI 112 f)) (hz : gz D ≤ mm) : gMet l D yX4_bait (ws_ yX4_bait cX4_bait 2 (some FieldType.int)) 3 0 G n [.ref mm, .int a1] (fun (v : Option Value) (G1 : gH) (n1 : Nat) => ∃ (th2 : Int32) (ir2 : Int32) (r : Int32), v = some (.int r) ∧ n ≤ n1 ∧ gF G G1 n (fun q : Nat => q = mm) ∧ G1 mm = some (.inl (23, [.ref ag, .ref ab, .ref ah, .int ch, .ref asv, .int hs, .ref aas, .ref ain, .int ty, .int er, .ref awy, .int ir2, .ref ali, .int ln, .int th2, .int pl, .int wr, .ref ato])) ∧ qBait f a1 = (th2, r)) gNox := by
  refine g_start (by decide) (Nat.le_of_ble_eq_true rfl) ?_
  intro p e s m below meth c ls C hnm hxt hI hl
  have hx := C.x
  have hb := C.b
  have hS : va_S (gA D) s.heap s.heap [] := va_S.rf
  have hz0 := hI.z
  have lc0_ := hI.lt c0_
  have lc1_ := hI.lt c1_
  have hF : gF G G n (fun q : Nat => q = mm) := gF.rf _ _ _
  have hl : lv_has ls 2 [(0, .ref mm), (1, .int a1)] := hl
  refine lv_iload_n hx hb dX4_bait_0 rfl (lv_at hl 1 rfl) ?_
  refine g_S (As := [.int a1]) (rest := []) (lv := [(0, .ref mm), (1, .int a1)]) C hI hS (c_X4_isSize l hB G n a1  ) q2641 q2642 q94 q2643 (⟨by decide, by decide, by decide⟩ : gArg _ 1) rfl ⟨by decide, by decide⟩ (by omega) hl rfl (Nat.le_of_ble_eq_true rfl) dX4_bait_1 (fun v98 G99 n100 H locs hp101 hI hS => ?_) gKx.no
  obtain ⟨rfl, eG99, en100⟩ := hp101
  refine W.widen (k := 0) (n := 200 * (0)) (by omega) (by omega) ?_
  rw [eG99, en100] at hI
  refine lv_if_eq (tgt := 23) hx hb dX4_bait_4 (by decide) (fun c_104 => ?_) (fun c_104 => ?_)
  · skip
    refine lv_aload_n hx hb dX4_bait_23 rfl (lv_at hl 0 rfl) ?_
    refine lv_iconst (v := 1) hx hb dX4_bait_24 (by decide) ?_
    refine g_V (As := [.int 1]) (rest := []) (lv := [(0, .ref mm), (1, .int a1)]) C hI hS (c_X4_fails l hB G n mm ag ab ah ch asv hs aas ain ty er awy ir ali ln th pl wr ato 1 c0_ (by omega)) c0_ rfl rfl q2637 q2639 qs34 q94 q2640 (⟨by decide, by decide, by decide⟩ : gArg _ 1) rfl ⟨by decide, by decide⟩ (by omega) hl rfl (Nat.le_of_ble_eq_true rfl) dX4_bait_25 (fun v105 G106 n107 H locs hp108 hI hS => ?_) gKx.no
    obtain ⟨rfl, hn109, hF110, c111⟩ := hp108
    refine W.widen (k := 0) (n := 200 * (0)) (by omega) (by omega) ?_
    have c1_ := hF110.at c1_ (by omega) (g_on c1_ c0_)
    have hF := hF.trans hF110 (by omega) (fun q hq => (fun h => h ▸ rfl))
    exact g_iret C hI hS (by omega) ⟨1, 0, 0, rfl, (by omega), hF, c111, (by simp [qBait, c_104])⟩ dX4_bait_28
  · skip
    obtain ⟨j_a1, hj_a1, ej_a1⟩ := gin_ok (k := 2) c_104 (by decide)
    have tj_a1 : a1.toNatClampNeg = j_a1 := by rw [ej_a1]; exact nI_clamp (by omega)
    refine lv_aload_n hx hb dX4_bait_7 rfl (lv_at hl 0 rfl) ?_
    refine lv_aload_n hx hb dX4_bait_8 rfl (lv_at hl 0 rfl) ?_
    refine g_get C hI c0_ kc23 0 rfl q2567 (fun _ h9 => h9) dX4_bait_9 ?_
    refine lv_bipush (v := 21) hx hb dX4_bait_12 (by decide) ?_
    refine lv_iload_n hx hb dX4_bait_14 rfl (lv_at hl 1 rfl) ?_
    refine lv_iadd hx hb dX4_bait_15 ?_
    refine g_iald (v := .int (f (21 + j_a1))) C hI c1_ (gix (gadd nl21 ej_a1) (by omega) (by omega)) (congrArg Value.int (gixv (f := f) (gadd nl21 ej_a1) (by omega))) dX4_bait_16 ?_
    refine g_V (As := [.int (f (21 + j_a1))]) (rest := []) (lv := [(0, .ref mm), (1, .int a1)]) C hI hS (c_X4_done l hB G n mm ag ab ah ch asv hs aas ain ty er awy ir ali ln th pl wr ato (f (21 + j_a1)) c0_ (by omega)) c0_ rfl rfl q2644 q2646 qs35 q94 q2647 (⟨by decide, by decide, by decide⟩ : gArg _ 1) rfl ⟨by decide, by decide⟩ (by omega) hl rfl (Nat.le_of_ble_eq_true rfl) dX4_bait_17 (fun v112 G113 n114 H locs hp115 hI hS => ?_) gKx.no
    obtain ⟨rfl, hn116, hF117, c118⟩ := hp115
    refine W.widen (k := 0) (n := 200 * (0)) (by omega) (by omega) ?_
    have c1_ := hF117.at c1_ (by omega) (g_on c1_ c0_)
    have hF := hF.trans hF117 (by omega) (fun q hq => (fun h => h ▸ rfl))
    refine lv_goto (tgt := 28) hx hb dX4_bait_20 (by decide) ?_
    exact g_iret C hI hS (by omega) ⟨0, ir, f (21 + j_a1), rfl, (by omega), hF, c118, (by simp [qBait, c_104, tj_a1])⟩ dX4_bait_28
set_option maxHeartbeats 4000000 in
set_option maxRecDepth 100000 in
theorem c_X4_drawsBy (l : Launch) {D : gD} (hB : gBs D) (G : gH) (n : Nat) (a1 : Int32) (a2 : Int32) : gMet l D yX4_drawsBy (ws_ yX4_drawsBy cX4_drawsBy 4 (some FieldType.int)) 1 0 G n [.int a1, .int a2] (fun (v : Option Value) (G1 : gH) (n1 : Nat) => v = some (.int (sDraws a1 a2)) ∧ G1 = G ∧ n1 = n) gNox := by
  refine g_start (by decide) (Nat.le_of_ble_eq_true rfl) ?_
  intro p e s m below meth c ls C hnm hxt hI hl
  have hx := C.x
  have hb := C.b
  have hS : va_S (gA D) s.heap s.heap [] := va_S.rf
  have hz0 := hI.z
  have hF : gF G G n gNone := gF.rf _ _ _
  have hl : lv_has ls 4 [(0, .int a1), (1, .int a2)] := hl
  refine lv_iload_n hx hb dX4_drawsBy_0 rfl (lv_at hl 0 rfl) ?_
  refine lv_if_ne (tgt := 10) hx hb dX4_drawsBy_1 (by decide) (fun c_119 => ?_) (fun c_119 => ?_)
  · skip
    refine lv_iload_n hx hb dX4_drawsBy_10 rfl (lv_at hl 0 rfl) ?_
    refine lv_iconst (v := 1) hx hb dX4_drawsBy_11 (by decide) ?_
    refine lv_icmp_ne (tgt := 21) hx hb dX4_drawsBy_12 (by decide) (fun c_120 => ?_) (fun c_120 => ?_)
    · skip
      refine lv_iload_n hx hb dX4_drawsBy_21 rfl (lv_at hl 1 rfl) ?_
      refine lv_iconst (v := 1) hx hb dX4_drawsBy_22 (by decide) ?_
      refine lv_iadd hx hb dX4_drawsBy_23 ?_
      refine lv_istore_n (lv' := [(2, .int (a2 + 1)), (0, .int a1), (1, .int a2)]) hx hb dX4_drawsBy_24 rfl hl (by decide) rfl (fun ls hl => ?_)
      refine lv_iload_n hx hb dX4_drawsBy_25 rfl (lv_at hl 1 rfl) ?_
      refine lv_if_ne (tgt := 34) hx hb dX4_drawsBy_26 (by decide) (fun c_121 => ?_) (fun c_121 => ?_)
      · skip
        refine lv_iconst (v := 5) hx hb dX4_drawsBy_34 (by decide) ?_
        refine lv_istore_n (lv' := [(3, .int 5), (2, .int (a2 + 1)), (0, .int a1), (1, .int a2)]) hx hb dX4_drawsBy_35 rfl hl (by decide) rfl (fun ls hl => ?_)
        refine lv_iload_n hx hb dX4_drawsBy_36 rfl (lv_at hl 1 rfl) ?_
        refine lv_if_ge (tgt := 44) hx hb dX4_drawsBy_37 (by decide) (fun c_122 => ?_) (fun c_122 => ?_)
        · skip
          refine lv_iload_n hx hb dX4_drawsBy_44 rfl (lv_at hl 1 rfl) ?_
          refine lv_iload_n hx hb dX4_drawsBy_45 rfl (lv_at hl 0 rfl) ?_
          refine lv_icmp_le (tgt := 53) hx hb dX4_drawsBy_46 (by decide) (fun c_123 => ?_) (fun c_123 => ?_)
          · skip
            refine lv_iload_n hx hb dX4_drawsBy_53 rfl (lv_at hl 1 rfl) ?_
            exact g_iret C hI hS (by omega) ⟨(by simp [sDraws, sDv, sDm, c_119, c_120, c_121, c_122, c_123]), rfl, rfl⟩ dX4_drawsBy_54
          · skip
            refine lv_iload_n hx hb dX4_drawsBy_49 rfl (lv_at hl 0 rfl) ?_
            refine lv_goto (tgt := 54) hx hb dX4_drawsBy_50 (by decide) ?_
            exact g_iret C hI hS (by omega) ⟨(by simp [sDraws, sDv, sDm, c_119, c_120, c_121, c_122, c_123]), rfl, rfl⟩ dX4_drawsBy_54
        · skip
          refine lv_iconst (v := 0) hx hb dX4_drawsBy_40 (by decide) ?_
          refine lv_goto (tgt := 54) hx hb dX4_drawsBy_41 (by decide) ?_
          exact g_iret C hI hS (by omega) ⟨(by simp [sDraws, sDv, sDm, c_119, c_120, c_121, c_122]), rfl, rfl⟩ dX4_drawsBy_54
      · exact absurd c_121 c_119
    · skip
      refine lv_iconst (v := 5) hx hb dX4_drawsBy_15 (by decide) ?_
      refine lv_iload_n hx hb dX4_drawsBy_16 rfl (lv_at hl 1 rfl) ?_
      refine lv_isub hx hb dX4_drawsBy_17 ?_
      refine lv_goto (tgt := 24) hx hb dX4_drawsBy_18 (by decide) ?_
      refine lv_istore_n (lv' := [(2, .int (5 - a2)), (0, .int a1), (1, .int a2)]) hx hb dX4_drawsBy_24 rfl hl (by decide) rfl (fun ls hl => ?_)
      refine lv_iload_n hx hb dX4_drawsBy_25 rfl (lv_at hl 1 rfl) ?_
      refine lv_if_ne (tgt := 34) hx hb dX4_drawsBy_26 (by decide) (fun c_124 => ?_) (fun c_124 => ?_)
      · skip
        refine lv_iconst (v := 5) hx hb dX4_drawsBy_34 (by decide) ?_
        refine lv_istore_n (lv' := [(3, .int 5), (2, .int (5 - a2)), (0, .int a1), (1, .int a2)]) hx hb dX4_drawsBy_35 rfl hl (by decide) rfl (fun ls hl => ?_)
        refine lv_iload_n hx hb dX4_drawsBy_36 rfl (lv_at hl 1 rfl) ?_
        refine lv_if_ge (tgt := 44) hx hb dX4_drawsBy_37 (by decide) (fun c_125 => ?_) (fun c_125 => ?_)
        · skip
          refine lv_iload_n hx hb dX4_drawsBy_44 rfl (lv_at hl 1 rfl) ?_
          refine lv_iload_n hx hb dX4_drawsBy_45 rfl (lv_at hl 0 rfl) ?_
          refine lv_icmp_le (tgt := 53) hx hb dX4_drawsBy_46 (by decide) (fun c_126 => ?_) (fun c_126 => ?_)
          · skip
            refine lv_iload_n hx hb dX4_drawsBy_53 rfl (lv_at hl 1 rfl) ?_
            exact g_iret C hI hS (by omega) ⟨(by simp [sDraws, sDv, sDm, c_119, c_120, c_124, c_125, c_126]), rfl, rfl⟩ dX4_drawsBy_54
          · skip
            refine lv_iload_n hx hb dX4_drawsBy_49 rfl (lv_at hl 0 rfl) ?_
            refine lv_goto (tgt := 54) hx hb dX4_drawsBy_50 (by decide) ?_
            exact g_iret C hI hS (by omega) ⟨(by simp [sDraws, sDv, sDm, c_119, c_120, c_124, c_125, c_126]), rfl, rfl⟩ dX4_drawsBy_54
        · skip
          refine lv_iconst (v := 0) hx hb dX4_drawsBy_40 (by decide) ?_
          refine lv_goto (tgt := 54) hx hb dX4_drawsBy_41 (by decide) ?_
          exact g_iret C hI hS (by omega) ⟨(by simp [sDraws, sDv, sDm, c_119, c_120, c_124, c_125]), rfl, rfl⟩ dX4_drawsBy_54
      · exact absurd c_124 c_119
  · skip
    refine lv_iconst (v := 2) hx hb dX4_drawsBy_4 (by decide) ?_
    refine lv_iload_n hx hb dX4_drawsBy_5 rfl (lv_at hl 1 rfl) ?_
    refine lv_imul hx hb dX4_drawsBy_6 ?_
    refine lv_goto (tgt := 24) hx hb dX4_drawsBy_7 (by decide) ?_
    refine lv_istore_n (lv' := [(2, .int (2 * a2)), (0, .int a1), (1, .int a2)]) hx hb dX4_drawsBy_24 rfl hl (by decide) rfl (fun ls hl => ?_)
    refine lv_iload_n hx hb dX4_drawsBy_25 rfl (lv_at hl 1 rfl) ?_
    refine lv_if_ne (tgt := 34) hx hb dX4_drawsBy_26 (by decide) (fun c_127 => ?_) (fun c_127 => ?_)
    · exact absurd c_119 c_127
    · skip
      refine lv_bipush (v := 6) hx hb dX4_drawsBy_29 (by decide) ?_
      refine lv_goto (tgt := 35) hx hb dX4_drawsBy_31 (by decide) ?_
      refine lv_istore_n (lv' := [(3, .int 6), (2, .int (2 * a2)), (0, .int a1), (1, .int a2)]) hx hb dX4_drawsBy_35 rfl hl (by decide) rfl (fun ls hl => ?_)
      refine lv_iload_n hx hb dX4_drawsBy_36 rfl (lv_at hl 1 rfl) ?_
      refine lv_if_ge (tgt := 44) hx hb dX4_drawsBy_37 (by decide) (fun c_128 => ?_) (fun c_128 => ?_)
      · skip
        refine lv_iload_n hx hb dX4_drawsBy_44 rfl (lv_at hl 1 rfl) ?_
        refine lv_iload_n hx hb dX4_drawsBy_45 rfl (lv_at hl 0 rfl) ?_
        refine lv_icmp_le (tgt := 53) hx hb dX4_drawsBy_46 (by decide) (fun c_129 => ?_) (fun c_129 => ?_)
        · skip
          refine lv_iload_n hx hb dX4_drawsBy_53 rfl (lv_at hl 1 rfl) ?_
          exact g_iret C hI hS (by omega) ⟨(by simp [sDraws, sDv, sDm, c_119, c_127, c_128, c_129]), rfl, rfl⟩ dX4_drawsBy_54
        · skip
          refine lv_iload_n hx hb dX4_drawsBy_49 rfl (lv_at hl 0 rfl) ?_
          refine lv_goto (tgt := 54) hx hb dX4_drawsBy_50 (by decide) ?_
          exact g_iret C hI hS (by omega) ⟨(by simp [sDraws, sDv, sDm, c_119, c_127, c_128, c_129]), rfl, rfl⟩ dX4_drawsBy_54
      · skip
        refine lv_iconst (v := 0) hx hb dX4_drawsBy_40 (by decide) ?_
        refine lv_goto (tgt := 54) hx hb dX4_drawsBy_41 (by decide) ?_
        exact g_iret C hI hS (by omega) ⟨(by simp [sDraws, sDv, sDm, c_119, c_127, c_128]), rfl, rfl⟩ dX4_drawsBy_54
set_option maxHeartbeats 4000000 in
set_option maxRecDepth 100000 in
theorem c_X4_draws (l : Launch) {D : gD} (hB : gBs D) (G : gH) (n : Nat) (mm : Nat) (ag : Nat) (ab : Nat) (ah : Nat) (ch : Int32) (asv : Nat) (hs : Int32) (aas : Nat) (ain : Nat) (ty : Int32) (er : Int32) (awy : Nat) (ir : Int32) (ali : Nat) (ln : Int32) (th : Int32) (pl : Int32) (wr : Int32) (ato : Nat) (a1 : Int32) (a2 : Int32) (c0_ : G mm = some (.inl (23, [.ref ag, .ref ab, .ref ah, .int ch, .ref asv, .int hs, .ref aas, .ref ain, .int ty, .int er, .ref awy, .int ir, .ref ali, .int ln, .int th, .int pl, .int wr, .ref ato]))) (hz : gz D ≤ mm) : gMet l D yX4_draws (ws_ yX4_draws cX4_draws 3 (some FieldType.int)) 3 0 G n [.ref mm, .int a1, .int a2] (fun (v : Option Value) (G1 : gH) (n1 : Nat) => ∃ (th2 : Int32) (ir2 : Int32) (r : Int32), v = some (.int r) ∧ n ≤ n1 ∧ gF G G1 n (fun q : Nat => q = mm) ∧ G1 mm = some (.inl (23, [.ref ag, .ref ab, .ref ah, .int ch, .ref asv, .int hs, .ref aas, .ref ain, .int ty, .int er, .ref awy, .int ir2, .ref ali, .int ln, .int th2, .int pl, .int wr, .ref ato])) ∧ qDraws a1 a2 = (th2, r)) gNox := by
  refine g_start (by decide) (Nat.le_of_ble_eq_true rfl) ?_
  intro p e s m below meth c ls C hnm hxt hI hl
  have hx := C.x
  have hb := C.b
  have hS : va_S (gA D) s.heap s.heap [] := va_S.rf
  have hz0 := hI.z
  have lc0_ := hI.lt c0_
  have hF : gF G G n (fun q : Nat => q = mm) := gF.rf _ _ _
  have hl : lv_has ls 3 [(0, .ref mm), (1, .int a1), (2, .int a2)] := hl
  refine lv_iload_n hx hb dX4_draws_0 rfl (lv_at hl 1 rfl) ?_
  refine g_S (As := [.int a1]) (rest := []) (lv := [(0, .ref mm), (1, .int a1), (2, .int a2)]) C hI hS (c_X4_isSize l hB G n a1  ) q2641 q2642 q94 q2643 (⟨by decide, by decide, by decide⟩ : gArg _ 1) rfl ⟨by decide, by decide⟩ (by omega) hl rfl (Nat.le_of_ble_eq_true rfl) dX4_draws_1 (fun v130 G131 n132 H locs hp133 hI hS => ?_) gKx.no
  obtain ⟨rfl, eG131, en132⟩ := hp133
  refine W.widen (k := 0) (n := 200 * (0)) (by omega) (by omega) ?_
  rw [eG131, en132] at hI
  refine lv_if_eq (tgt := 29) hx hb dX4_draws_4 (by decide) (fun c_136 => ?_) (fun c_136 => ?_)
  · skip
    refine lv_aload_n hx hb dX4_draws_29 rfl (lv_at hl 0 rfl) ?_
    refine lv_iconst (v := 1) hx hb dX4_draws_30 (by decide) ?_
    refine g_V (As := [.int 1]) (rest := []) (lv := [(0, .ref mm), (1, .int a1), (2, .int a2)]) C hI hS (c_X4_fails l hB G n mm ag ab ah ch asv hs aas ain ty er awy ir ali ln th pl wr ato 1 c0_ (by omega)) c0_ rfl rfl q2637 q2639 qs34 q94 q2640 (⟨by decide, by decide, by decide⟩ : gArg _ 1) rfl ⟨by decide, by decide⟩ (by omega) hl rfl (Nat.le_of_ble_eq_true rfl) dX4_draws_31 (fun v137 G138 n139 H locs hp140 hI hS => ?_) gKx.no
    obtain ⟨rfl, hn141, hF142, c143⟩ := hp140
    refine W.widen (k := 0) (n := 200 * (0)) (by omega) (by omega) ?_
    have hF := hF.trans hF142 (by omega) (fun q hq => (fun h => h ▸ rfl))
    exact g_iret C hI hS (by omega) ⟨1, 0, 0, rfl, (by omega), hF, c143, (by simp [qDraws, c_136])⟩ dX4_draws_34
  · skip
    obtain ⟨j_a1, hj_a1, ej_a1⟩ := gin_ok (k := 2) c_136 (by decide)
    have tj_a1 : a1.toNatClampNeg = j_a1 := by rw [ej_a1]; exact nI_clamp (by omega)
    refine lv_iload_n hx hb dX4_draws_7 rfl (lv_at hl 2 rfl) ?_
    refine lv_iconst (v := 0) hx hb dX4_draws_8 (by decide) ?_
    refine lv_bipush (v := 60) hx hb dX4_draws_9 (by decide) ?_
    refine g_S (As := [.int a2, .int 0, .int 60]) (rest := []) (lv := [(0, .ref mm), (1, .int a1), (2, .int a2)]) C hI hS (c_X4_in l hB G n a2 0 60  ) q2634 q2635 q94 q2636 (⟨by decide, by decide, by decide⟩ : gArg _ 3) rfl ⟨by decide, by decide⟩ (by omega) hl rfl (Nat.le_of_ble_eq_true rfl) dX4_draws_11 (fun v144 G145 n146 H locs hp147 hI hS => ?_) gKx.no
    obtain ⟨rfl, eG145, en146⟩ := hp147
    refine W.widen (k := 0) (n := 200 * (0)) (by omega) (by omega) ?_
    rw [eG145, en146] at hI
    refine lv_if_eq (tgt := 29) hx hb dX4_draws_14 (by decide) (fun c_150 => ?_) (fun c_150 => ?_)
    · skip
      refine lv_aload_n hx hb dX4_draws_29 rfl (lv_at hl 0 rfl) ?_
      refine lv_iconst (v := 1) hx hb dX4_draws_30 (by decide) ?_
      refine g_V (As := [.int 1]) (rest := []) (lv := [(0, .ref mm), (1, .int a1), (2, .int a2)]) C hI hS (c_X4_fails l hB G n mm ag ab ah ch asv hs aas ain ty er awy ir ali ln th pl wr ato 1 c0_ (by omega)) c0_ rfl rfl q2637 q2639 qs34 q94 q2640 (⟨by decide, by decide, by decide⟩ : gArg _ 1) rfl ⟨by decide, by decide⟩ (by omega) hl rfl (Nat.le_of_ble_eq_true rfl) dX4_draws_31 (fun v151 G152 n153 H locs hp154 hI hS => ?_) gKx.no
      obtain ⟨rfl, hn155, hF156, c157⟩ := hp154
      refine W.widen (k := 0) (n := 200 * (0)) (by omega) (by omega) ?_
      have hF := hF.trans hF156 (by omega) (fun q hq => (fun h => h ▸ rfl))
      exact g_iret C hI hS (by omega) ⟨1, 0, 0, rfl, (by omega), hF, c157, (by simp [qDraws, c_136, tj_a1, c_150])⟩ dX4_draws_34
    · skip
      obtain ⟨j_a2, hj_a2, ej_a2⟩ := gin_ok (k := 60) c_150 (by decide)
      have tj_a2 : a2.toNatClampNeg = j_a2 := by rw [ej_a2]; exact nI_clamp (by omega)
      refine lv_aload_n hx hb dX4_draws_17 rfl (lv_at hl 0 rfl) ?_
      refine lv_iload_n hx hb dX4_draws_18 rfl (lv_at hl 1 rfl) ?_
      refine lv_iload_n hx hb dX4_draws_19 rfl (lv_at hl 2 rfl) ?_
      refine g_S (As := [.int a1, .int a2]) (rest := [.ref mm]) (lv := [(0, .ref mm), (1, .int a1), (2, .int a2)]) C hI hS (c_X4_drawsBy l hB G n a1 a2  ) q2675 q2676 q94 q2677 (⟨by decide, by decide, by decide⟩ : gArg _ 2) rfl ⟨by decide, by decide⟩ (by omega) hl rfl (Nat.le_of_ble_eq_true rfl) dX4_draws_20 (fun v158 G159 n160 H locs hp161 hI hS => ?_) gKx.no
      obtain ⟨rfl, eG159, en160⟩ := hp161
      refine W.widen (k := 0) (n := 200 * (0)) (by omega) (by omega) ?_
      rw [eG159, en160] at hI
      refine g_V (As := [.int (sDraws a1 a2)]) (rest := []) (lv := [(0, .ref mm), (1, .int a1), (2, .int a2)]) C hI hS (c_X4_done l hB G n mm ag ab ah ch asv hs aas ain ty er awy ir ali ln th pl wr ato (sDraws a1 a2) c0_ (by omega)) c0_ rfl rfl q2644 q2646 qs35 q94 q2647 (⟨by decide, by decide, by decide⟩ : gArg _ 1) rfl ⟨by decide, by decide⟩ (by omega) hl rfl (Nat.le_of_ble_eq_true rfl) dX4_draws_23 (fun v164 G165 n166 H locs hp167 hI hS => ?_) gKx.no
      obtain ⟨rfl, hn168, hF169, c170⟩ := hp167
      refine W.widen (k := 0) (n := 200 * (0)) (by omega) (by omega) ?_
      have hF := hF.trans hF169 (by omega) (fun q hq => (fun h => h ▸ rfl))
      refine lv_goto (tgt := 34) hx hb dX4_draws_26 (by decide) ?_
      exact g_iret C hI hS (by omega) ⟨0, ir, sDraws a1 a2, rfl, (by omega), hF, c170, (by simp [qDraws, c_136, tj_a1, c_150, tj_a2])⟩ dX4_draws_34
set_option maxHeartbeats 4000000 in
set_option maxRecDepth 100000 in
theorem c_X4_bestBait (l : Launch) {D : gD} (hB : gBs D) (G : gH) (n : Nat) (mm : Nat) (ag : Nat) (ab : Nat) (ah : Nat) (ch : Int32) (asv : Nat) (hs : Int32) (aas : Nat) (ain : Nat) (ty : Int32) (er : Int32) (awy : Nat) (ir : Int32) (ali : Nat) (ln : Int32) (th : Int32) (pl : Int32) (wr : Int32) (ato : Nat) (a1 : Int32) (c0_ : G mm = some (.inl (23, [.ref ag, .ref ab, .ref ah, .int ch, .ref asv, .int hs, .ref aas, .ref ain, .int ty, .int er, .ref awy, .int ir, .ref ali, .int ln, .int th, .int pl, .int wr, .ref ato]))) (hz : gz D ≤ mm) : gMet l D yX4_bestBait (ws_ yX4_bestBait cX4_bestBait 4 (some FieldType.int)) 2 0 G n [.ref mm, .int a1] (fun (v : Option Value) (G1 : gH) (n1 : Nat) => ∃ (th2 : Int32) (ir2 : Int32) (r : Int32), v = some (.int r) ∧ n ≤ n1 ∧ gF G G1 n (fun q : Nat => q = mm) ∧ G1 mm = some (.inl (23, [.ref ag, .ref ab, .ref ah, .int ch, .ref asv, .int hs, .ref aas, .ref ain, .int ty, .int er, .ref awy, .int ir2, .ref ali, .int ln, .int th2, .int pl, .int wr, .ref ato])) ∧ qBest a1 = (th2, r)) gNox := by
  refine g_start (by decide) (Nat.le_of_ble_eq_true rfl) ?_
  intro p e s m below meth c ls C hnm hxt hI hl
  have hx := C.x
  have hb := C.b
  have hS : va_S (gA D) s.heap s.heap [] := va_S.rf
  have hz0 := hI.z
  have lc0_ := hI.lt c0_
  have hF : gF G G n (fun q : Nat => q = mm) := gF.rf _ _ _
  have hl : lv_has ls 4 [(0, .ref mm), (1, .int a1)] := hl
  refine lv_iload_n hx hb dX4_bestBait_0 rfl (lv_at hl 1 rfl) ?_
  refine lv_iconst (v := 0) hx hb dX4_bestBait_1 (by decide) ?_
  refine lv_bipush (v := 60) hx hb dX4_bestBait_2 (by decide) ?_
  refine g_S (As := [.int a1, .int 0, .int 60]) (rest := []) (lv := [(0, .ref mm), (1, .int a1)]) C hI hS (c_X4_in l hB G n a1 0 60  ) q2634 q2635 q94 q2636 (⟨by decide, by decide, by decide⟩ : gArg _ 3) rfl ⟨by decide, by decide⟩ (by omega) hl rfl (Nat.le_of_ble_eq_true rfl) dX4_bestBait_4 (fun v171 G172 n173 H locs hp174 hI hS => ?_) gKx.no
  obtain ⟨rfl, eG172, en173⟩ := hp174
  refine W.widen (k := 0) (n := 200 * (0)) (by omega) (by omega) ?_
  rw [eG172, en173] at hI
  refine lv_if_ne (tgt := 16) hx hb dX4_bestBait_7 (by decide) (fun c_177 => ?_) (fun c_177 => ?_)
  · skip
    obtain ⟨j_a1, hj_a1, ej_a1⟩ := gin_ok (k := 60) c_177 (by decide)
    have tj_a1 : a1.toNatClampNeg = j_a1 := by rw [ej_a1]; exact nI_clamp (by omega)
    refine lv_iconst (v := 0) hx hb dX4_bestBait_16 (by decide) ?_
    refine lv_istore_n (lv' := [(2, .int 0), (0, .ref mm), (1, .int a1)]) hx hb dX4_bestBait_17 rfl hl (by decide) rfl (fun ls hl => ?_)
    refine lv_iconst (v := 1) hx hb dX4_bestBait_18 (by decide) ?_
    refine lv_istore_n (lv' := [(3, .int 1), (2, .int 0), (0, .ref mm), (1, .int a1)]) hx hb dX4_bestBait_19 rfl hl (by decide) rfl (fun ls hl => ?_)
    refine lv_iload_n hx hb dX4_bestBait_20 rfl (lv_at hl 0 rfl) ?_
    refine lv_iconst (v := 3) hx hb dX4_bestBait_21 (by decide) ?_
    refine lv_icmp_ge (tgt := 50) hx hb dX4_bestBait_22 (by decide) (fun c_178 => ?_) (fun c_178 => ?_)
    · exact absurd c_178 (by decide)
    · skip
      refine lv_iload_n hx hb dX4_bestBait_25 rfl (lv_at hl 0 rfl) ?_
      refine lv_iload_n hx hb dX4_bestBait_26 rfl (lv_at hl 3 rfl) ?_
      refine g_S (As := [.int 1, .int a1]) (rest := []) (lv := [(3, .int 1), (2, .int 0), (0, .ref mm), (1, .int a1)]) C hI hS (c_X4_drawsBy l hB G n 1 a1  ) q2675 q2676 q94 q2677 (⟨by decide, by decide, by decide⟩ : gArg _ 2) rfl ⟨by decide, by decide⟩ (by omega) hl rfl (Nat.le_of_ble_eq_true rfl) dX4_bestBait_27 (fun v179 G180 n181 H locs hp182 hI hS => ?_) gKx.no
      obtain ⟨rfl, eG180, en181⟩ := hp182
      refine W.widen (k := 0) (n := 200 * (0)) (by omega) (by omega) ?_
      rw [eG180, en181] at hI
      refine lv_iload_n hx hb dX4_bestBait_30 rfl (lv_at hl 1 rfl) ?_
      refine lv_iload_n hx hb dX4_bestBait_31 rfl (lv_at hl 3 rfl) ?_
      refine g_S (As := [.int 0, .int a1]) (rest := [.int (sDraws 1 a1)]) (lv := [(3, .int 1), (2, .int 0), (0, .ref mm), (1, .int a1)]) C hI hS (c_X4_drawsBy l hB G n 0 a1  ) q2675 q2676 q94 q2677 (⟨by decide, by decide, by decide⟩ : gArg _ 2) rfl ⟨by decide, by decide⟩ (by omega) hl rfl (Nat.le_of_ble_eq_true rfl) dX4_bestBait_32 (fun v185 G186 n187 H locs hp188 hI hS => ?_) gKx.no
      obtain ⟨rfl, eG186, en187⟩ := hp188
      refine W.widen (k := 0) (n := 200 * (0)) (by omega) (by omega) ?_
      rw [eG186, en187] at hI
      refine lv_icmp_le (tgt := 42) hx hb dX4_bestBait_35 (by decide) (fun c_191 => ?_) (fun c_191 => ?_)
      · skip
        refine lv_iload_n hx hb dX4_bestBait_42 rfl (lv_at hl 1 rfl) ?_
        refine lv_istore_n (lv' := [(2, .int 0), (3, .int 1), (0, .ref mm), (1, .int a1)]) hx hb dX4_bestBait_43 rfl hl (by decide) rfl (fun ls hl => ?_)
        refine lv_iinc (v := 2) (lv' := [(3, .int 2), (2, .int 0), (0, .ref mm), (1, .int a1)]) hx hb dX4_bestBait_44 hl (k := 1) rfl (by first | rfl | decide) (by decide) rfl (fun ls hl => ?_)
        refine lv_goto (tgt := 20) hx hb dX4_bestBait_47 (by decide) ?_
        refine lv_iload_n hx hb dX4_bestBait_20 rfl (lv_at hl 0 rfl) ?_
        refine lv_iconst (v := 3) hx hb dX4_bestBait_21 (by decide) ?_
        refine lv_icmp_ge (tgt := 50) hx hb dX4_bestBait_22 (by decide) (fun c_192 => ?_) (fun c_192 => ?_)
        · exact absurd c_192 (by decide)
        · skip
          refine lv_iload_n hx hb dX4_bestBait_25 rfl (lv_at hl 0 rfl) ?_
          refine lv_iload_n hx hb dX4_bestBait_26 rfl (lv_at hl 3 rfl) ?_
          refine g_S (As := [.int 2, .int a1]) (rest := []) (lv := [(3, .int 2), (2, .int 0), (0, .ref mm), (1, .int a1)]) C hI hS (c_X4_drawsBy l hB G n 2 a1  ) q2675 q2676 q94 q2677 (⟨by decide, by decide, by decide⟩ : gArg _ 2) rfl ⟨by decide, by decide⟩ (by omega) hl rfl (Nat.le_of_ble_eq_true rfl) dX4_bestBait_27 (fun v193 G194 n195 H locs hp196 hI hS => ?_) gKx.no
          obtain ⟨rfl, eG194, en195⟩ := hp196
          refine W.widen (k := 0) (n := 200 * (0)) (by omega) (by omega) ?_
          rw [eG194, en195] at hI
          refine lv_iload_n hx hb dX4_bestBait_30 rfl (lv_at hl 1 rfl) ?_
          refine lv_iload_n hx hb dX4_bestBait_31 rfl (lv_at hl 3 rfl) ?_
          refine g_S (As := [.int 0, .int a1]) (rest := [.int (sDraws 2 a1)]) (lv := [(3, .int 2), (2, .int 0), (0, .ref mm), (1, .int a1)]) C hI hS (c_X4_drawsBy l hB G n 0 a1  ) q2675 q2676 q94 q2677 (⟨by decide, by decide, by decide⟩ : gArg _ 2) rfl ⟨by decide, by decide⟩ (by omega) hl rfl (Nat.le_of_ble_eq_true rfl) dX4_bestBait_32 (fun v199 G200 n201 H locs hp202 hI hS => ?_) gKx.no
          obtain ⟨rfl, eG200, en201⟩ := hp202
          refine W.widen (k := 0) (n := 200 * (0)) (by omega) (by omega) ?_
          rw [eG200, en201] at hI
          refine lv_icmp_le (tgt := 42) hx hb dX4_bestBait_35 (by decide) (fun c_205 => ?_) (fun c_205 => ?_)
          · skip
            refine lv_iload_n hx hb dX4_bestBait_42 rfl (lv_at hl 1 rfl) ?_
            refine lv_istore_n (lv' := [(2, .int 0), (3, .int 2), (0, .ref mm), (1, .int a1)]) hx hb dX4_bestBait_43 rfl hl (by decide) rfl (fun ls hl => ?_)
            refine lv_iinc (v := 3) (lv' := [(3, .int 3), (2, .int 0), (0, .ref mm), (1, .int a1)]) hx hb dX4_bestBait_44 hl (k := 1) rfl (by first | rfl | decide) (by decide) rfl (fun ls hl => ?_)
            refine lv_goto (tgt := 20) hx hb dX4_bestBait_47 (by decide) ?_
            refine lv_iload_n hx hb dX4_bestBait_20 rfl (lv_at hl 0 rfl) ?_
            refine lv_iconst (v := 3) hx hb dX4_bestBait_21 (by decide) ?_
            refine lv_icmp_ge (tgt := 50) hx hb dX4_bestBait_22 (by decide) (fun c_206 => ?_) (fun c_206 => ?_)
            · skip
              refine lv_aload_n hx hb dX4_bestBait_50 rfl (lv_at hl 2 rfl) ?_
              refine lv_iload_n hx hb dX4_bestBait_51 rfl (lv_at hl 1 rfl) ?_
              refine g_V (As := [.int 0]) (rest := []) (lv := [(3, .int 3), (2, .int 0), (0, .ref mm), (1, .int a1)]) C hI hS (c_X4_done l hB G n mm ag ab ah ch asv hs aas ain ty er awy ir ali ln th pl wr ato 0 c0_ (by omega)) c0_ rfl rfl q2644 q2646 qs35 q94 q2647 (⟨by decide, by decide, by decide⟩ : gArg _ 1) rfl ⟨by decide, by decide⟩ (by omega) hl rfl (Nat.le_of_ble_eq_true rfl) dX4_bestBait_52 (fun v207 G208 n209 H locs hp210 hI hS => ?_) gKx.no
              obtain ⟨rfl, hn211, hF212, c213⟩ := hp210
              refine W.widen (k := 0) (n := 200 * (0)) (by omega) (by omega) ?_
              have hF := hF.trans hF212 (by omega) (fun q hq => (fun h => h ▸ rfl))
              exact g_iret C hI hS (by omega) ⟨0, ir, 0, rfl, (by omega), hF, c213, (by simp [qBest, c_177, tj_a1, c_178, c_191, c_192, c_205, c_206])⟩ dX4_bestBait_55
            · exact absurd (by decide) c_206
          · skip
            refine lv_iload_n hx hb dX4_bestBait_38 rfl (lv_at hl 0 rfl) ?_
            refine lv_goto (tgt := 43) hx hb dX4_bestBait_39 (by decide) ?_
            refine lv_istore_n (lv' := [(2, .int 2), (3, .int 2), (0, .ref mm), (1, .int a1)]) hx hb dX4_bestBait_43 rfl hl (by decide) rfl (fun ls hl => ?_)
            refine lv_iinc (v := 3) (lv' := [(3, .int 3), (2, .int 2), (0, .ref mm), (1, .int a1)]) hx hb dX4_bestBait_44 hl (k := 1) rfl (by first | rfl | decide) (by decide) rfl (fun ls hl => ?_)
            refine lv_goto (tgt := 20) hx hb dX4_bestBait_47 (by decide) ?_
            refine lv_iload_n hx hb dX4_bestBait_20 rfl (lv_at hl 0 rfl) ?_
            refine lv_iconst (v := 3) hx hb dX4_bestBait_21 (by decide) ?_
            refine lv_icmp_ge (tgt := 50) hx hb dX4_bestBait_22 (by decide) (fun c_214 => ?_) (fun c_214 => ?_)
            · skip
              refine lv_aload_n hx hb dX4_bestBait_50 rfl (lv_at hl 2 rfl) ?_
              refine lv_iload_n hx hb dX4_bestBait_51 rfl (lv_at hl 1 rfl) ?_
              refine g_V (As := [.int 2]) (rest := []) (lv := [(3, .int 3), (2, .int 2), (0, .ref mm), (1, .int a1)]) C hI hS (c_X4_done l hB G n mm ag ab ah ch asv hs aas ain ty er awy ir ali ln th pl wr ato 2 c0_ (by omega)) c0_ rfl rfl q2644 q2646 qs35 q94 q2647 (⟨by decide, by decide, by decide⟩ : gArg _ 1) rfl ⟨by decide, by decide⟩ (by omega) hl rfl (Nat.le_of_ble_eq_true rfl) dX4_bestBait_52 (fun v215 G216 n217 H locs hp218 hI hS => ?_) gKx.no
              obtain ⟨rfl, hn219, hF220, c221⟩ := hp218
              refine W.widen (k := 0) (n := 200 * (0)) (by omega) (by omega) ?_
              have hF := hF.trans hF220 (by omega) (fun q hq => (fun h => h ▸ rfl))
              exact g_iret C hI hS (by omega) ⟨0, ir, 2, rfl, (by omega), hF, c221, (by simp [qBest, c_177, tj_a1, c_178, c_191, c_192, c_205, c_214])⟩ dX4_bestBait_55
            · exact absurd (by decide) c_214
      · skip
        refine lv_iload_n hx hb dX4_bestBait_38 rfl (lv_at hl 0 rfl) ?_
        refine lv_goto (tgt := 43) hx hb dX4_bestBait_39 (by decide) ?_
        refine lv_istore_n (lv' := [(2, .int 1), (3, .int 1), (0, .ref mm), (1, .int a1)]) hx hb dX4_bestBait_43 rfl hl (by decide) rfl (fun ls hl => ?_)
        refine lv_iinc (v := 2) (lv' := [(3, .int 2), (2, .int 1), (0, .ref mm), (1, .int a1)]) hx hb dX4_bestBait_44 hl (k := 1) rfl (by first | rfl | decide) (by decide) rfl (fun ls hl => ?_)
        refine lv_goto (tgt := 20) hx hb dX4_bestBait_47 (by decide) ?_
        refine lv_iload_n hx hb dX4_bestBait_20 rfl (lv_at hl 0 rfl) ?_
        refine lv_iconst (v := 3) hx hb dX4_bestBait_21 (by decide) ?_
        refine lv_icmp_ge (tgt := 50) hx hb dX4_bestBait_22 (by decide) (fun c_222 => ?_) (fun c_222 => ?_)
        · exact absurd c_222 (by decide)
        · skip
          refine lv_iload_n hx hb dX4_bestBait_25 rfl (lv_at hl 0 rfl) ?_
          refine lv_iload_n hx hb dX4_bestBait_26 rfl (lv_at hl 3 rfl) ?_
          refine g_S (As := [.int 2, .int a1]) (rest := []) (lv := [(3, .int 2), (2, .int 1), (0, .ref mm), (1, .int a1)]) C hI hS (c_X4_drawsBy l hB G n 2 a1  ) q2675 q2676 q94 q2677 (⟨by decide, by decide, by decide⟩ : gArg _ 2) rfl ⟨by decide, by decide⟩ (by omega) hl rfl (Nat.le_of_ble_eq_true rfl) dX4_bestBait_27 (fun v223 G224 n225 H locs hp226 hI hS => ?_) gKx.no
          obtain ⟨rfl, eG224, en225⟩ := hp226
          refine W.widen (k := 0) (n := 200 * (0)) (by omega) (by omega) ?_
          rw [eG224, en225] at hI
          refine lv_iload_n hx hb dX4_bestBait_30 rfl (lv_at hl 1 rfl) ?_
          refine lv_iload_n hx hb dX4_bestBait_31 rfl (lv_at hl 3 rfl) ?_
          refine g_S (As := [.int 1, .int a1]) (rest := [.int (sDraws 2 a1)]) (lv := [(3, .int 2), (2, .int 1), (0, .ref mm), (1, .int a1)]) C hI hS (c_X4_drawsBy l hB G n 1 a1  ) q2675 q2676 q94 q2677 (⟨by decide, by decide, by decide⟩ : gArg _ 2) rfl ⟨by decide, by decide⟩ (by omega) hl rfl (Nat.le_of_ble_eq_true rfl) dX4_bestBait_32 (fun v229 G230 n231 H locs hp232 hI hS => ?_) gKx.no
          obtain ⟨rfl, eG230, en231⟩ := hp232
          refine W.widen (k := 0) (n := 200 * (0)) (by omega) (by omega) ?_
          rw [eG230, en231] at hI
          refine lv_icmp_le (tgt := 42) hx hb dX4_bestBait_35 (by decide) (fun c_235 => ?_) (fun c_235 => ?_)
          · skip
            refine lv_iload_n hx hb dX4_bestBait_42 rfl (lv_at hl 1 rfl) ?_
            refine lv_istore_n (lv' := [(2, .int 1), (3, .int 2), (0, .ref mm), (1, .int a1)]) hx hb dX4_bestBait_43 rfl hl (by decide) rfl (fun ls hl => ?_)
            refine lv_iinc (v := 3) (lv' := [(3, .int 3), (2, .int 1), (0, .ref mm), (1, .int a1)]) hx hb dX4_bestBait_44 hl (k := 1) rfl (by first | rfl | decide) (by decide) rfl (fun ls hl => ?_)
            refine lv_goto (tgt := 20) hx hb dX4_bestBait_47 (by decide) ?_
            refine lv_iload_n hx hb dX4_bestBait_20 rfl (lv_at hl 0 rfl) ?_
            refine lv_iconst (v := 3) hx hb dX4_bestBait_21 (by decide) ?_
            refine lv_icmp_ge (tgt := 50) hx hb dX4_bestBait_22 (by decide) (fun c_236 => ?_) (fun c_236 => ?_)
            · skip
              refine lv_aload_n hx hb dX4_bestBait_50 rfl (lv_at hl 2 rfl) ?_
              refine lv_iload_n hx hb dX4_bestBait_51 rfl (lv_at hl 1 rfl) ?_
              refine g_V (As := [.int 1]) (rest := []) (lv := [(3, .int 3), (2, .int 1), (0, .ref mm), (1, .int a1)]) C hI hS (c_X4_done l hB G n mm ag ab ah ch asv hs aas ain ty er awy ir ali ln th pl wr ato 1 c0_ (by omega)) c0_ rfl rfl q2644 q2646 qs35 q94 q2647 (⟨by decide, by decide, by decide⟩ : gArg _ 1) rfl ⟨by decide, by decide⟩ (by omega) hl rfl (Nat.le_of_ble_eq_true rfl) dX4_bestBait_52 (fun v237 G238 n239 H locs hp240 hI hS => ?_) gKx.no
              obtain ⟨rfl, hn241, hF242, c243⟩ := hp240
              refine W.widen (k := 0) (n := 200 * (0)) (by omega) (by omega) ?_
              have hF := hF.trans hF242 (by omega) (fun q hq => (fun h => h ▸ rfl))
              exact g_iret C hI hS (by omega) ⟨0, ir, 1, rfl, (by omega), hF, c243, (by simp [qBest, c_177, tj_a1, c_178, c_191, c_222, c_235, c_236])⟩ dX4_bestBait_55
            · exact absurd (by decide) c_236
          · skip
            refine lv_iload_n hx hb dX4_bestBait_38 rfl (lv_at hl 0 rfl) ?_
            refine lv_goto (tgt := 43) hx hb dX4_bestBait_39 (by decide) ?_
            refine lv_istore_n (lv' := [(2, .int 2), (3, .int 2), (0, .ref mm), (1, .int a1)]) hx hb dX4_bestBait_43 rfl hl (by decide) rfl (fun ls hl => ?_)
            refine lv_iinc (v := 3) (lv' := [(3, .int 3), (2, .int 2), (0, .ref mm), (1, .int a1)]) hx hb dX4_bestBait_44 hl (k := 1) rfl (by first | rfl | decide) (by decide) rfl (fun ls hl => ?_)
            refine lv_goto (tgt := 20) hx hb dX4_bestBait_47 (by decide) ?_
            refine lv_iload_n hx hb dX4_bestBait_20 rfl (lv_at hl 0 rfl) ?_
            refine lv_iconst (v := 3) hx hb dX4_bestBait_21 (by decide) ?_
            refine lv_icmp_ge (tgt := 50) hx hb dX4_bestBait_22 (by decide) (fun c_244 => ?_) (fun c_244 => ?_)
            · skip
              refine lv_aload_n hx hb dX4_bestBait_50 rfl (lv_at hl 2 rfl) ?_
              refine lv_iload_n hx hb dX4_bestBait_51 rfl (lv_at hl 1 rfl) ?_
              refine g_V (As := [.int 2]) (rest := []) (lv := [(3, .int 3), (2, .int 2), (0, .ref mm), (1, .int a1)]) C hI hS (c_X4_done l hB G n mm ag ab ah ch asv hs aas ain ty er awy ir ali ln th pl wr ato 2 c0_ (by omega)) c0_ rfl rfl q2644 q2646 qs35 q94 q2647 (⟨by decide, by decide, by decide⟩ : gArg _ 1) rfl ⟨by decide, by decide⟩ (by omega) hl rfl (Nat.le_of_ble_eq_true rfl) dX4_bestBait_52 (fun v245 G246 n247 H locs hp248 hI hS => ?_) gKx.no
              obtain ⟨rfl, hn249, hF250, c251⟩ := hp248
              refine W.widen (k := 0) (n := 200 * (0)) (by omega) (by omega) ?_
              have hF := hF.trans hF250 (by omega) (fun q hq => (fun h => h ▸ rfl))
              exact g_iret C hI hS (by omega) ⟨0, ir, 2, rfl, (by omega), hF, c251, (by simp [qBest, c_177, tj_a1, c_178, c_191, c_222, c_235, c_244])⟩ dX4_bestBait_55
            · exact absurd (by decide) c_244
  · skip
    refine lv_aload_n hx hb dX4_bestBait_10 rfl (lv_at hl 0 rfl) ?_
    refine lv_iconst (v := 1) hx hb dX4_bestBait_11 (by decide) ?_
    refine g_V (As := [.int 1]) (rest := []) (lv := [(0, .ref mm), (1, .int a1)]) C hI hS (c_X4_fails l hB G n mm ag ab ah ch asv hs aas ain ty er awy ir ali ln th pl wr ato 1 c0_ (by omega)) c0_ rfl rfl q2637 q2639 qs34 q94 q2640 (⟨by decide, by decide, by decide⟩ : gArg _ 1) rfl ⟨by decide, by decide⟩ (by omega) hl rfl (Nat.le_of_ble_eq_true rfl) dX4_bestBait_12 (fun v252 G253 n254 H locs hp255 hI hS => ?_) gKx.no
    obtain ⟨rfl, hn256, hF257, c258⟩ := hp255
    refine W.widen (k := 0) (n := 200 * (0)) (by omega) (by omega) ?_
    have hF := hF.trans hF257 (by omega) (fun q hq => (fun h => h ▸ rfl))
    exact g_iret C hI hS (by omega) ⟨1, 0, 0, rfl, (by omega), hF, c258, (by simp [qBest, c_177])⟩ dX4_bestBait_15
set_option maxHeartbeats 4000000 in
set_option maxRecDepth 100000 in
theorem c_X4_boatOf (l : Launch) {D : gD} (hB : gBs D) (G : gH) (n : Nat) (mm : Nat) (ag : Nat) (ab : Nat) (ah : Nat) (ch : Int32) (asv : Nat) (hs : Int32) (aas : Nat) (ain : Nat) (ty : Int32) (er : Int32) (awy : Nat) (ir : Int32) (ali : Nat) (ln : Int32) (th : Int32) (pl : Int32) (wr : Int32) (ato : Nat) (f : Nat → Int32) (nb : Nat) (a1 : Int32) (a2 : Int32) (c0_ : G mm = some (.inl (23, [.ref ag, .ref ab, .ref ah, .int ch, .ref asv, .int hs, .ref aas, .ref ain, .int ty, .int er, .ref awy, .int ir, .ref ali, .int ln, .int th, .int pl, .int wr, .ref ato]))) (c1_ : G ag = some (aI 112 f)) (hz : gz D ≤ mm) (hnb : f 24 = nI nb) (hb3 : nb ≤ 3) : gMet l D yX4_boatOf (ws_ yX4_boatOf cX4_boatOf 3 (some FieldType.int)) 3 0 G n [.ref mm, .int a1, .int a2] (fun (v : Option Value) (G1 : gH) (n1 : Nat) => ∃ (th2 : Int32) (ir2 : Int32) (r : Int32), v = some (.int r) ∧ n ≤ n1 ∧ gF G G1 n (fun q : Nat => q = mm) ∧ G1 mm = some (.inl (23, [.ref ag, .ref ab, .ref ah, .int ch, .ref asv, .int hs, .ref aas, .ref ain, .int ty, .int er, .ref awy, .int ir2, .ref ali, .int ln, .int th2, .int pl, .int wr, .ref ato])) ∧ qBoat f a1 a2 = (th2, r)) gNox := by
  refine g_start (by decide) (Nat.le_of_ble_eq_true rfl) ?_
  intro p e s m below meth c ls C hnm hxt hI hl
  have hx := C.x
  have hb := C.b
  have hS : va_S (gA D) s.heap s.heap [] := va_S.rf
  have hz0 := hI.z
  have lc0_ := hI.lt c0_
  have lc1_ := hI.lt c1_
  have hF : gF G G n (fun q : Nat => q = mm) := gF.rf _ _ _
  have hl : lv_has ls 3 [(0, .ref mm), (1, .int a1), (2, .int a2)] := hl
  refine lv_aload_n hx hb dX4_boatOf_0 rfl (lv_at hl 0 rfl) ?_
  refine lv_iload_n hx hb dX4_boatOf_1 rfl (lv_at hl 1 rfl) ?_
  refine g_V (As := [.int a1]) (rest := []) (lv := [(0, .ref mm), (1, .int a1), (2, .int a2)]) C hI hS (c_X4_isBoat l hB G n mm ag ab ah ch asv hs aas ain ty er awy ir ali ln th pl wr ato f a1 c0_ c1_ ) c0_ rfl rfl q2702 q2704 qs40 q94 q2705 (⟨by decide, by decide, by decide⟩ : gArg _ 1) rfl ⟨by decide, by decide⟩ (by omega) hl rfl (Nat.le_of_ble_eq_true rfl) dX4_boatOf_2 (fun v259 G260 n261 H locs hp262 hI hS => ?_) gKx.no
  obtain ⟨rfl, eG260, en261⟩ := hp262
  refine W.widen (k := 0) (n := 200 * (0)) (by omega) (by omega) ?_
  rw [eG260, en261] at hI
  refine lv_if_ne (tgt := 14) hx hb dX4_boatOf_5 (by decide) (fun c_265 => ?_) (fun c_265 => ?_)
  · skip
    obtain ⟨j_a1, hj_a1, ej_a1⟩ := gin_lt (n := nb) c_265 hnb (by omega)
    have tj_a1 : a1.toNatClampNeg = j_a1 := by rw [ej_a1]; exact nI_clamp (by omega)
    refine lv_iload_n hx hb dX4_boatOf_14 rfl (lv_at hl 2 rfl) ?_
    refine lv_iconst (v := 0) hx hb dX4_boatOf_15 (by decide) ?_
    refine lv_bipush (v := 6) hx hb dX4_boatOf_16 (by decide) ?_
    refine g_S (As := [.int a2, .int 0, .int 6]) (rest := []) (lv := [(0, .ref mm), (1, .int a1), (2, .int a2)]) C hI hS (c_X4_in l hB G n a2 0 6  ) q2634 q2635 q94 q2636 (⟨by decide, by decide, by decide⟩ : gArg _ 3) rfl ⟨by decide, by decide⟩ (by omega) hl rfl (Nat.le_of_ble_eq_true rfl) dX4_boatOf_18 (fun v266 G267 n268 H locs hp269 hI hS => ?_) gKx.no
    obtain ⟨rfl, eG267, en268⟩ := hp269
    refine W.widen (k := 0) (n := 200 * (0)) (by omega) (by omega) ?_
    rw [eG267, en268] at hI
    refine lv_if_eq (tgt := 44) hx hb dX4_boatOf_21 (by decide) (fun c_272 => ?_) (fun c_272 => ?_)
    · skip
      refine lv_aload_n hx hb dX4_boatOf_44 rfl (lv_at hl 0 rfl) ?_
      refine lv_iconst (v := 2) hx hb dX4_boatOf_45 (by decide) ?_
      refine g_V (As := [.int 2]) (rest := []) (lv := [(0, .ref mm), (1, .int a1), (2, .int a2)]) C hI hS (c_X4_fails l hB G n mm ag ab ah ch asv hs aas ain ty er awy ir ali ln th pl wr ato 2 c0_ (by omega)) c0_ rfl rfl q2637 q2639 qs34 q94 q2640 (⟨by decide, by decide, by decide⟩ : gArg _ 1) rfl ⟨by decide, by decide⟩ (by omega) hl rfl (Nat.le_of_ble_eq_true rfl) dX4_boatOf_46 (fun v273 G274 n275 H locs hp276 hI hS => ?_) gKx.no
      obtain ⟨rfl, hn277, hF278, c279⟩ := hp276
      refine W.widen (k := 0) (n := 200 * (0)) (by omega) (by omega) ?_
      have c1_ := hF278.at c1_ (by omega) (g_on c1_ c0_)
      have hF := hF.trans hF278 (by omega) (fun q hq => (fun h => h ▸ rfl))
      exact g_iret C hI hS (by omega) ⟨2, 0, 0, rfl, (by omega), hF, c279, (by simp [qBoat, c_265, tj_a1, c_272])⟩ dX4_boatOf_49
    · skip
      obtain ⟨j_a2, hj_a2, ej_a2⟩ := gin_ok (k := 6) c_272 (by decide)
      have tj_a2 : a2.toNatClampNeg = j_a2 := by rw [ej_a2]; exact nI_clamp (by omega)
      refine lv_aload_n hx hb dX4_boatOf_24 rfl (lv_at hl 0 rfl) ?_
      refine lv_aload_n hx hb dX4_boatOf_25 rfl (lv_at hl 0 rfl) ?_
      refine g_get C hI c0_ kc23 0 rfl q2567 (fun _ h9 => h9) dX4_boatOf_26 ?_
      refine lv_bipush (v := 25) hx hb dX4_boatOf_29 (by decide) ?_
      refine lv_iconst (v := 3) hx hb dX4_boatOf_31 (by decide) ?_
      refine lv_iload_n hx hb dX4_boatOf_32 rfl (lv_at hl 2 rfl) ?_
      refine lv_imul hx hb dX4_boatOf_33 ?_
      refine lv_iadd hx hb dX4_boatOf_34 ?_
      refine lv_iload_n hx hb dX4_boatOf_35 rfl (lv_at hl 1 rfl) ?_
      refine lv_iadd hx hb dX4_boatOf_36 ?_
      refine g_iald (v := .int (f ((25 + (3 * j_a2)) + j_a1))) C hI c1_ (gix (gadd (gadd nl25 (gmul nl3 ej_a2)) ej_a1) (by omega) (by omega)) (congrArg Value.int (gixv (f := f) (gadd (gadd nl25 (gmul nl3 ej_a2)) ej_a1) (by omega))) dX4_boatOf_37 ?_
      refine g_V (As := [.int (f ((25 + (3 * j_a2)) + j_a1))]) (rest := []) (lv := [(0, .ref mm), (1, .int a1), (2, .int a2)]) C hI hS (c_X4_done l hB G n mm ag ab ah ch asv hs aas ain ty er awy ir ali ln th pl wr ato (f ((25 + (3 * j_a2)) + j_a1)) c0_ (by omega)) c0_ rfl rfl q2644 q2646 qs35 q94 q2647 (⟨by decide, by decide, by decide⟩ : gArg _ 1) rfl ⟨by decide, by decide⟩ (by omega) hl rfl (Nat.le_of_ble_eq_true rfl) dX4_boatOf_38 (fun v280 G281 n282 H locs hp283 hI hS => ?_) gKx.no
      obtain ⟨rfl, hn284, hF285, c286⟩ := hp283
      refine W.widen (k := 0) (n := 200 * (0)) (by omega) (by omega) ?_
      have c1_ := hF285.at c1_ (by omega) (g_on c1_ c0_)
      have hF := hF.trans hF285 (by omega) (fun q hq => (fun h => h ▸ rfl))
      refine lv_goto (tgt := 49) hx hb dX4_boatOf_41 (by decide) ?_
      exact g_iret C hI hS (by omega) ⟨0, ir, f ((25 + (3 * j_a2)) + j_a1), rfl, (by omega), hF, c286, (by simp [qBoat, c_265, tj_a1, c_272, tj_a2])⟩ dX4_boatOf_49
  · skip
    refine lv_aload_n hx hb dX4_boatOf_8 rfl (lv_at hl 0 rfl) ?_
    refine lv_iconst (v := 1) hx hb dX4_boatOf_9 (by decide) ?_
    refine g_V (As := [.int 1]) (rest := []) (lv := [(0, .ref mm), (1, .int a1), (2, .int a2)]) C hI hS (c_X4_fails l hB G n mm ag ab ah ch asv hs aas ain ty er awy ir ali ln th pl wr ato 1 c0_ (by omega)) c0_ rfl rfl q2637 q2639 qs34 q94 q2640 (⟨by decide, by decide, by decide⟩ : gArg _ 1) rfl ⟨by decide, by decide⟩ (by omega) hl rfl (Nat.le_of_ble_eq_true rfl) dX4_boatOf_10 (fun v287 G288 n289 H locs hp290 hI hS => ?_) gKx.no
    obtain ⟨rfl, hn291, hF292, c293⟩ := hp290
    refine W.widen (k := 0) (n := 200 * (0)) (by omega) (by omega) ?_
    have c1_ := hF292.at c1_ (by omega) (g_on c1_ c0_)
    have hF := hF.trans hF292 (by omega) (fun q hq => (fun h => h ▸ rfl))
    exact g_iret C hI hS (by omega) ⟨1, 0, 0, rfl, (by omega), hF, c293, (by simp [qBoat, c_265])⟩ dX4_boatOf_13
set_option maxHeartbeats 4000000 in
set_option maxRecDepth 100000 in
theorem c_X4_daysAt (l : Launch) {D : gD} (hB : gBs D) (G : gH) (n : Nat) (mm : Nat) (ag : Nat) (ab : Nat) (ah : Nat) (ch : Int32) (asv : Nat) (hs : Int32) (aas : Nat) (ain : Nat) (ty : Int32) (er : Int32) (awy : Nat) (ir : Int32) (ali : Nat) (ln : Int32) (th : Int32) (pl : Int32) (wr : Int32) (ato : Nat) (f : Nat → Int32) (j1 : Nat) (a1 : Int32) (c0_ : G mm = some (.inl (23, [.ref ag, .ref ab, .ref ah, .int ch, .ref asv, .int hs, .ref aas, .ref ain, .int ty, .int er, .ref awy, .int ir, .ref ali, .int ln, .int th, .int pl, .int wr, .ref ato]))) (c1_ : G ag = some (aI 112 f)) (hj : j1 < 10) (ej : a1 = nI j1) : gMet l D yX4_daysAt (ws_ yX4_daysAt cX4_daysAt 2 (some FieldType.int)) 1 0 G n [.ref mm, .int a1] (fun (v : Option Value) (G1 : gH) (n1 : Nat) => v = some (.int (sDays f j1)) ∧ G1 = G ∧ n1 = n) gNox := by
  refine g_start (by decide) (Nat.le_of_ble_eq_true rfl) ?_
  intro p e s m below meth c ls C hnm hxt hI hl
  have hx := C.x
  have hb := C.b
  have hS : va_S (gA D) s.heap s.heap [] := va_S.rf
  have hz0 := hI.z
  have lc0_ := hI.lt c0_
  have lc1_ := hI.lt c1_
  have hF : gF G G n gNone := gF.rf _ _ _
  have hl : lv_has ls 2 [(0, .ref mm), (1, .int a1)] := hl
  refine lv_aload_n hx hb dX4_daysAt_0 rfl (lv_at hl 0 rfl) ?_
  refine g_get C hI c0_ kc23 0 rfl q2567 (fun _ h9 => h9) dX4_daysAt_1 ?_
  refine lv_bipush (v := 57) hx hb dX4_daysAt_4 (by decide) ?_
  refine lv_iload_n hx hb dX4_daysAt_6 rfl (lv_at hl 1 rfl) ?_
  refine lv_iadd hx hb dX4_daysAt_7 ?_
  refine g_iald (v := .int (f (57 + j1))) C hI c1_ (gix (gadd nl57 ej) (by omega) (by omega)) (congrArg Value.int (gixv (f := f) (gadd nl57 ej) (by omega))) dX4_daysAt_8 ?_
  refine lv_iconst (v := (-1)) hx hb dX4_daysAt_9 (by decide) ?_
  refine lv_icmp_ne (tgt := 17) hx hb dX4_daysAt_10 (by decide) (fun c_294 => ?_) (fun c_294 => ?_)
  · skip
    refine lv_aload_n hx hb dX4_daysAt_17 rfl (lv_at hl 0 rfl) ?_
    refine g_get C hI c0_ kc23 0 rfl q2567 (fun _ h9 => h9) dX4_daysAt_18 ?_
    refine lv_iconst (v := 0) hx hb dX4_daysAt_21 (by decide) ?_
    refine g_iald (v := .int (f 0)) C hI c1_ (gix nl0 (by omega) (by omega)) (congrArg Value.int (gixv (f := f) nl0 (by omega))) dX4_daysAt_22 ?_
    refine lv_aload_n hx hb dX4_daysAt_23 rfl (lv_at hl 0 rfl) ?_
    refine g_get C hI c0_ kc23 0 rfl q2567 (fun _ h9 => h9) dX4_daysAt_24 ?_
    refine lv_bipush (v := 77) hx hb dX4_daysAt_27 (by decide) ?_
    refine lv_iload_n hx hb dX4_daysAt_29 rfl (lv_at hl 1 rfl) ?_
    refine lv_iadd hx hb dX4_daysAt_30 ?_
    refine g_iald (v := .int (f (77 + j1))) C hI c1_ (gix (gadd nl77 ej) (by omega) (by omega)) (congrArg Value.int (gixv (f := f) (gadd nl77 ej) (by omega))) dX4_daysAt_31 ?_
    refine lv_isub hx hb dX4_daysAt_32 ?_
    exact g_iret C hI hS (by omega) ⟨(by simp [sDays, c_294]), rfl, rfl⟩ dX4_daysAt_33
  · skip
    refine lv_iconst (v := 0) hx hb dX4_daysAt_13 (by decide) ?_
    refine lv_goto (tgt := 33) hx hb dX4_daysAt_14 (by decide) ?_
    exact g_iret C hI hS (by omega) ⟨(by simp [sDays, c_294]), rfl, rfl⟩ dX4_daysAt_33
set_option maxHeartbeats 4000000 in
set_option maxRecDepth 100000 in
theorem c_X4_stringOf (l : Launch) {D : gD} (hB : gBs D) (G : gH) (n : Nat) (mm : Nat) (ag : Nat) (ab : Nat) (ah : Nat) (ch : Int32) (asv : Nat) (hs : Int32) (aas : Nat) (ain : Nat) (ty : Int32) (er : Int32) (awy : Nat) (ir : Int32) (ali : Nat) (ln : Int32) (th : Int32) (pl : Int32) (wr : Int32) (ato : Nat) (f : Nat → Int32) (ns : Nat) (a1 : Int32) (a2 : Int32) (c0_ : G mm = some (.inl (23, [.ref ag, .ref ab, .ref ah, .int ch, .ref asv, .int hs, .ref aas, .ref ain, .int ty, .int er, .ref awy, .int ir, .ref ali, .int ln, .int th, .int pl, .int wr, .ref ato]))) (c1_ : G ag = some (aI 112 f)) (hz : gz D ≤ mm) (hns : f 46 = nI ns) (hs10 : ns ≤ 10) : gMet l D yX4_stringOf (ws_ yX4_stringOf cX4_stringOf 3 (some FieldType.int)) 3 0 G n [.ref mm, .int a1, .int a2] (fun (v : Option Value) (G1 : gH) (n1 : Nat) => ∃ (th2 : Int32) (ir2 : Int32) (r : Int32), v = some (.int r) ∧ n ≤ n1 ∧ gF G G1 n (fun q : Nat => q = mm) ∧ G1 mm = some (.inl (23, [.ref ag, .ref ab, .ref ah, .int ch, .ref asv, .int hs, .ref aas, .ref ain, .int ty, .int er, .ref awy, .int ir2, .ref ali, .int ln, .int th2, .int pl, .int wr, .ref ato])) ∧ qString f a1 a2 = (th2, r)) gNox := by
  refine g_start (by decide) (Nat.le_of_ble_eq_true rfl) ?_
  intro p e s m below meth c ls C hnm hxt hI hl
  have hx := C.x
  have hb := C.b
  have hS : va_S (gA D) s.heap s.heap [] := va_S.rf
  have hz0 := hI.z
  have lc0_ := hI.lt c0_
  have lc1_ := hI.lt c1_
  have hF : gF G G n (fun q : Nat => q = mm) := gF.rf _ _ _
  have hl : lv_has ls 3 [(0, .ref mm), (1, .int a1), (2, .int a2)] := hl
  refine lv_aload_n hx hb dX4_stringOf_0 rfl (lv_at hl 0 rfl) ?_
  refine lv_iload_n hx hb dX4_stringOf_1 rfl (lv_at hl 1 rfl) ?_
  refine g_V (As := [.int a1]) (rest := []) (lv := [(0, .ref mm), (1, .int a1), (2, .int a2)]) C hI hS (c_X4_isString l hB G n mm ag ab ah ch asv hs aas ain ty er awy ir ali ln th pl wr ato f a1 c0_ c1_ ) c0_ rfl rfl q2710 q2712 qs41 q94 q2713 (⟨by decide, by decide, by decide⟩ : gArg _ 1) rfl ⟨by decide, by decide⟩ (by omega) hl rfl (Nat.le_of_ble_eq_true rfl) dX4_stringOf_2 (fun v295 G296 n297 H locs hp298 hI hS => ?_) gKx.no
  obtain ⟨rfl, eG296, en297⟩ := hp298
  refine W.widen (k := 0) (n := 200 * (0)) (by omega) (by omega) ?_
  rw [eG296, en297] at hI
  refine lv_if_ne (tgt := 14) hx hb dX4_stringOf_5 (by decide) (fun c_301 => ?_) (fun c_301 => ?_)
  · skip
    obtain ⟨j_a1, hj_a1, ej_a1⟩ := gin_lt (n := ns) c_301 hns (by omega)
    have tj_a1 : a1.toNatClampNeg = j_a1 := by rw [ej_a1]; exact nI_clamp (by omega)
    refine lv_iload_n hx hb dX4_stringOf_14 rfl (lv_at hl 2 rfl) ?_
    refine lv_iconst (v := 3) hx hb dX4_stringOf_15 (by decide) ?_
    refine lv_icmp_ne (tgt := 29) hx hb dX4_stringOf_16 (by decide) (fun c_302 => ?_) (fun c_302 => ?_)
    · skip
      refine lv_iload_n hx hb dX4_stringOf_29 rfl (lv_at hl 2 rfl) ?_
      refine lv_iconst (v := 0) hx hb dX4_stringOf_30 (by decide) ?_
      refine lv_iconst (v := 5) hx hb dX4_stringOf_31 (by decide) ?_
      refine g_S (As := [.int a2, .int 0, .int 5]) (rest := []) (lv := [(0, .ref mm), (1, .int a1), (2, .int a2)]) C hI hS (c_X4_in l hB G n a2 0 5  ) q2634 q2635 q94 q2636 (⟨by decide, by decide, by decide⟩ : gArg _ 3) rfl ⟨by decide, by decide⟩ (by omega) hl rfl (Nat.le_of_ble_eq_true rfl) dX4_stringOf_32 (fun v303 G304 n305 H locs hp306 hI hS => ?_) gKx.no
      obtain ⟨rfl, eG304, en305⟩ := hp306
      refine W.widen (k := 0) (n := 200 * (0)) (by omega) (by omega) ?_
      rw [eG304, en305] at hI
      refine lv_if_eq (tgt := 59) hx hb dX4_stringOf_35 (by decide) (fun c_309 => ?_) (fun c_309 => ?_)
      · skip
        refine lv_aload_n hx hb dX4_stringOf_59 rfl (lv_at hl 0 rfl) ?_
        refine lv_iconst (v := 2) hx hb dX4_stringOf_60 (by decide) ?_
        refine g_V (As := [.int 2]) (rest := []) (lv := [(0, .ref mm), (1, .int a1), (2, .int a2)]) C hI hS (c_X4_fails l hB G n mm ag ab ah ch asv hs aas ain ty er awy ir ali ln th pl wr ato 2 c0_ (by omega)) c0_ rfl rfl q2637 q2639 qs34 q94 q2640 (⟨by decide, by decide, by decide⟩ : gArg _ 1) rfl ⟨by decide, by decide⟩ (by omega) hl rfl (Nat.le_of_ble_eq_true rfl) dX4_stringOf_61 (fun v310 G311 n312 H locs hp313 hI hS => ?_) gKx.no
        obtain ⟨rfl, hn314, hF315, c316⟩ := hp313
        refine W.widen (k := 0) (n := 200 * (0)) (by omega) (by omega) ?_
        have c1_ := hF315.at c1_ (by omega) (g_on c1_ c0_)
        have hF := hF.trans hF315 (by omega) (fun q hq => (fun h => h ▸ rfl))
        exact g_iret C hI hS (by omega) ⟨2, 0, 0, rfl, (by omega), hF, c316, (by simp [qString, c_301, tj_a1, c_302, c_309])⟩ dX4_stringOf_64
      · skip
        obtain ⟨j_a2, hj_a2, ej_a2⟩ := gin_ok (k := 5) c_309 (by decide)
        have tj_a2 : a2.toNatClampNeg = j_a2 := by rw [ej_a2]; exact nI_clamp (by omega)
        refine lv_aload_n hx hb dX4_stringOf_38 rfl (lv_at hl 0 rfl) ?_
        refine lv_aload_n hx hb dX4_stringOf_39 rfl (lv_at hl 0 rfl) ?_
        refine g_get C hI c0_ kc23 0 rfl q2567 (fun _ h9 => h9) dX4_stringOf_40 ?_
        refine lv_bipush (v := 47) hx hb dX4_stringOf_43 (by decide) ?_
        refine lv_bipush (v := 10) hx hb dX4_stringOf_45 (by decide) ?_
        refine lv_iload_n hx hb dX4_stringOf_47 rfl (lv_at hl 2 rfl) ?_
        refine lv_imul hx hb dX4_stringOf_48 ?_
        refine lv_iadd hx hb dX4_stringOf_49 ?_
        refine lv_iload_n hx hb dX4_stringOf_50 rfl (lv_at hl 1 rfl) ?_
        refine lv_iadd hx hb dX4_stringOf_51 ?_
        refine g_iald (v := .int (f ((47 + (10 * j_a2)) + j_a1))) C hI c1_ (gix (gadd (gadd nl47 (gmul nl10 ej_a2)) ej_a1) (by omega) (by omega)) (congrArg Value.int (gixv (f := f) (gadd (gadd nl47 (gmul nl10 ej_a2)) ej_a1) (by omega))) dX4_stringOf_52 ?_
        refine g_V (As := [.int (f ((47 + (10 * j_a2)) + j_a1))]) (rest := []) (lv := [(0, .ref mm), (1, .int a1), (2, .int a2)]) C hI hS (c_X4_done l hB G n mm ag ab ah ch asv hs aas ain ty er awy ir ali ln th pl wr ato (f ((47 + (10 * j_a2)) + j_a1)) c0_ (by omega)) c0_ rfl rfl q2644 q2646 qs35 q94 q2647 (⟨by decide, by decide, by decide⟩ : gArg _ 1) rfl ⟨by decide, by decide⟩ (by omega) hl rfl (Nat.le_of_ble_eq_true rfl) dX4_stringOf_53 (fun v317 G318 n319 H locs hp320 hI hS => ?_) gKx.no
        obtain ⟨rfl, hn321, hF322, c323⟩ := hp320
        refine W.widen (k := 0) (n := 200 * (0)) (by omega) (by omega) ?_
        have c1_ := hF322.at c1_ (by omega) (g_on c1_ c0_)
        have hF := hF.trans hF322 (by omega) (fun q hq => (fun h => h ▸ rfl))
        refine lv_goto (tgt := 64) hx hb dX4_stringOf_56 (by decide) ?_
        exact g_iret C hI hS (by omega) ⟨0, ir, f ((47 + (10 * j_a2)) + j_a1), rfl, (by omega), hF, c323, (by simp [qString, c_301, tj_a1, c_302, c_309, tj_a2])⟩ dX4_stringOf_64
    · skip
      refine lv_aload_n hx hb dX4_stringOf_19 rfl (lv_at hl 0 rfl) ?_
      refine lv_aload_n hx hb dX4_stringOf_20 rfl (lv_at hl 0 rfl) ?_
      refine lv_iload_n hx hb dX4_stringOf_21 rfl (lv_at hl 1 rfl) ?_
      refine g_V (As := [.int a1]) (rest := [.ref mm]) (lv := [(0, .ref mm), (1, .int a1), (2, .int a2)]) C hI hS (c_X4_daysAt l hB G n mm ag ab ah ch asv hs aas ain ty er awy ir ali ln th pl wr ato f j_a1 a1 c0_ c1_ (by omega) ej_a1) c0_ rfl rfl q2714 q2716 qs42 q94 q2717 (⟨by decide, by decide, by decide⟩ : gArg _ 1) rfl ⟨by decide, by decide⟩ (by omega) hl rfl (Nat.le_of_ble_eq_true rfl) dX4_stringOf_22 (fun v324 G325 n326 H locs hp327 hI hS => ?_) gKx.no
      obtain ⟨rfl, eG325, en326⟩ := hp327
      refine W.widen (k := 0) (n := 200 * (0)) (by omega) (by omega) ?_
      rw [eG325, en326] at hI
      refine g_V (As := [.int (sDays f j_a1)]) (rest := []) (lv := [(0, .ref mm), (1, .int a1), (2, .int a2)]) C hI hS (c_X4_done l hB G n mm ag ab ah ch asv hs aas ain ty er awy ir ali ln th pl wr ato (sDays f j_a1) c0_ (by omega)) c0_ rfl rfl q2644 q2646 qs35 q94 q2647 (⟨by decide, by decide, by decide⟩ : gArg _ 1) rfl ⟨by decide, by decide⟩ (by omega) hl rfl (Nat.le_of_ble_eq_true rfl) dX4_stringOf_25 (fun v330 G331 n332 H locs hp333 hI hS => ?_) gKx.no
      obtain ⟨rfl, hn334, hF335, c336⟩ := hp333
      refine W.widen (k := 0) (n := 200 * (0)) (by omega) (by omega) ?_
      have c1_ := hF335.at c1_ (by omega) (g_on c1_ c0_)
      have hF := hF.trans hF335 (by omega) (fun q hq => (fun h => h ▸ rfl))
      exact g_iret C hI hS (by omega) ⟨0, ir, sDays f j_a1, rfl, (by omega), hF, c336, (by simp [qString, c_301, tj_a1, c_302])⟩ dX4_stringOf_28
  · skip
    refine lv_aload_n hx hb dX4_stringOf_8 rfl (lv_at hl 0 rfl) ?_
    refine lv_iconst (v := 1) hx hb dX4_stringOf_9 (by decide) ?_
    refine g_V (As := [.int 1]) (rest := []) (lv := [(0, .ref mm), (1, .int a1), (2, .int a2)]) C hI hS (c_X4_fails l hB G n mm ag ab ah ch asv hs aas ain ty er awy ir ali ln th pl wr ato 1 c0_ (by omega)) c0_ rfl rfl q2637 q2639 qs34 q94 q2640 (⟨by decide, by decide, by decide⟩ : gArg _ 1) rfl ⟨by decide, by decide⟩ (by omega) hl rfl (Nat.le_of_ble_eq_true rfl) dX4_stringOf_10 (fun v337 G338 n339 H locs hp340 hI hS => ?_) gKx.no
    obtain ⟨rfl, hn341, hF342, c343⟩ := hp340
    refine W.widen (k := 0) (n := 200 * (0)) (by omega) (by omega) ?_
    have c1_ := hF342.at c1_ (by omega) (g_on c1_ c0_)
    have hF := hF.trans hF342 (by omega) (fun q hq => (fun h => h ▸ rfl))
    exact g_iret C hI hS (by omega) ⟨1, 0, 0, rfl, (by omega), hF, c343, (by simp [qString, c_301])⟩ dX4_stringOf_13
set_option maxHeartbeats 4000000 in
set_option maxRecDepth 100000 in
theorem c_X4_copy (l : Launch) {D : gD} (hB : gBs D) (G : gH) (n : Nat) (sa : Nat) (da : Nat) (N : Nat) (M : Nat) (x : Nat → Int32) (y : Nat → Int32) (a : Nat) (t : Nat) (va : Int32) (vt : Int32) (c0_ : G sa = some (aI N x)) (c1_ : G da = some (aI M y)) (hz : gz D ≤ da) (hne : sa ≠ da) (ha : a + 112 ≤ N) (ht : t + 112 ≤ M) (hN : N ≤ 1000) (hM : M ≤ 1000) (ea : va = nI a) (et : vt = nI t) : gMet l D yX4_copy (ws_ yX4_copy cX4_copy 5 none) 1 0 G n [.ref sa, .int va, .ref da, .int vt] (fun (v : Option Value) (G1 : gH) (n1 : Nat) => v = none ∧ n ≤ n1 ∧ gF G G1 n (fun q : Nat => q = da) ∧ G1 da = some (aI M (va_cpy x y a t 112))) gNox := by
  refine g_start (by decide) (Nat.le_of_ble_eq_true rfl) ?_
  intro p e s m below meth c ls C hnm hxt hI hl
  have hx := C.x
  have hb := C.b
  have hS : va_S (gA D) s.heap s.heap [] := va_S.rf
  have hz0 := hI.z
  have lc0_ := hI.lt c0_
  have lc1_ := hI.lt c1_
  have hF : gF G G n (fun q : Nat => q = da) := gF.rf _ _ _
  have hl : lv_has ls 5 [(0, .ref sa), (1, .int va), (2, .ref da), (3, .int vt)] := hl
  refine lv_iconst (v := 0) hx hb dX4_copy_0 (by decide) ?_
  refine lv_istore (lv' := [(4, .int 0), (0, .ref sa), (1, .int va), (2, .ref da), (3, .int vt)]) hx hb dX4_copy_1 hl (by decide) rfl (fun ls hl => ?_)
  have key344 : ∀ (r : Nat) (i : Nat) (xi : Int32), (i ≤ 112) → (112 < i + r) → (xi = nI i) → ∀ (G345 : gH) (n346 : Nat) (H : Heap) (locs : List Loc) (ls : Array Slot), G345 sa = some (aI N x) → G345 da = some (aI M (va_cpy x y a t i)) → n ≤ n346 → gI D G345 n346 H → va_S (gA D) s.heap H locs → gF G G345 n (fun q : Nat => q = da) → lv_has ls 5 [(4, .int xi), (0, .ref sa), (1, .int va), (2, .ref da), (3, .int vt)] → W p l e (gR 1 0) s m ([.ref sa, .int va, .ref da, .int vt] : List Value).toArray below meth c H locs (0) (200 * (0)) (gM below D (fun (v : Option Value) (G1 : gH) (n1 : Nat) => v = none ∧ n ≤ n1 ∧ gF G G1 n (fun q : Nat => q = da) ∧ G1 da = some (aI M (va_cpy x y a t 112))) gNox ([.ref sa, .int va, .ref da, .int vt] : List Value).toArray s 0) (F0 m 3 ls []) := by
    intro r
    induction r with
    | zero =>
      intro i xi hi hr hxi
      exact absurd trivial (fun _ => (by omega))
    | succ r ih349 =>
      intro i xi hi hr hxi
      intro G345 n346 H locs ls c347 c348 hn350 hI hS hF hl
      refine lv_iload hx hb dX4_copy_3 (lv_at hl 0 rfl) ?_
      refine lv_bipush (v := 112) hx hb dX4_copy_5 (by decide) ?_
      refine lv_icmp_ge (tgt := 28) hx hb dX4_copy_7 (by decide) (fun c_351 => ?_) (fun c_351 => ?_)
      · skip
        have hi2 : i = 112 := by rcases Nat.lt_or_ge i 112 with h | h; exact absurd c_351 (by rw [hxi]; exact nI_ge h (by decide)); omega
        subst hi2
        exact g_vret C hI hS (by omega) ⟨rfl, (by omega), hF, c348⟩ dX4_copy_28
      · skip
        have hi2 : i < 112 := by rcases Nat.lt_or_ge i 112 with h | h; exact h; exact absurd (by rw [hxi]; exact nI_le h (by omega)) c_351
        refine lv_aload_n hx hb dX4_copy_10 rfl (lv_at hl 3 rfl) ?_
        refine lv_iload_n hx hb dX4_copy_11 rfl (lv_at hl 4 rfl) ?_
        refine lv_iload hx hb dX4_copy_12 (lv_at hl 0 rfl) ?_
        refine lv_iadd hx hb dX4_copy_14 ?_
        refine lv_aload_n hx hb dX4_copy_15 rfl (lv_at hl 1 rfl) ?_
        refine lv_iload_n hx hb dX4_copy_16 rfl (lv_at hl 2 rfl) ?_
        refine lv_iload hx hb dX4_copy_17 (lv_at hl 0 rfl) ?_
        refine lv_iadd hx hb dX4_copy_19 ?_
        refine g_iald (v := .int (x (a + i))) C hI c347 (gix (gadd ea hxi) (by omega) (by omega)) (congrArg Value.int (gixv (f := x) (gadd ea hxi) (by omega))) dX4_copy_20 ?_
        refine g_iast C hI hS c348 (by omega) (gix (gadd et hxi) (by omega) (by omega)) dX4_copy_21 (fun G352 H locs e353 hI hS => ?_)
        rw [gup_e (gadd et hxi) (by omega)] at e353
        have c347 := gE_k e353 c347 hne
        have c348 : G352 da = some (aI M (gup (va_cpy x y a t i) (t + i) (x (a + i)))) := gE_s e353
        have hF := gE_F e353 hF (Or.inr rfl)
        refine lv_iinc (v := xi + 1) (lv' := [(4, .int (xi + 1)), (0, .ref sa), (1, .int va), (2, .ref da), (3, .int vt)]) hx hb dX4_copy_22 hl (k := 0) rfl (by first | rfl | decide) (by decide) rfl (fun ls hl => ?_)
        refine lv_goto (tgt := 3) hx hb dX4_copy_25 (by decide) ?_
        rw [cpy_s] at c348
        exact ih349 (i + 1) (xi + 1) (by omega) (by omega) (gadd hxi nl1) _ _ _ _ _ c347 c348 (by omega) hI hS hF (lv_sub hl [0, 1, 2, 3, 4] rfl)
  exact key344 113 0 0 (by omega) (by omega) nl0 _ _ _ _ _ c0_ (by rw [cpy_0]; exact c1_) (Nat.le_refl _) hI hS hF (lv_sub hl [0, 1, 2, 3, 4] rfl)
