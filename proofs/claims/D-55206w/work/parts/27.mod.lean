/-! THE REFERENCE, 13: meanPots, backShare -/
set_option maxHeartbeats 4000000 in
set_option maxRecDepth 100000 in
theorem c_X4_meanPots (l : Launch) {D : gD} (hB : gBs D) (G : gH) (n : Nat) (mm : Nat) (ag : Nat) (ab : Nat) (ah : Nat) (ch : Int32) (asv : Nat) (hs : Int32) (aas : Nat) (ain : Nat) (ty : Int32) (er : Int32) (awy : Nat) (ir : Int32) (ali : Nat) (ln : Int32) (th : Int32) (pl : Int32) (wr : Int32) (ato : Nat) (f : Nat → Int32) (c0_ : G mm = some (.inl (23, [.ref ag, .ref ab, .ref ah, .int ch, .ref asv, .int hs, .ref aas, .ref ain, .int ty, .int er, .ref awy, .int ir, .ref ali, .int ln, .int th, .int pl, .int wr, .ref ato]))) (c1_ : G ag = some (aI 112 f)) (hz : gz D ≤ mm) : gMet l D yX4_meanPots (ws_ yX4_meanPots cX4_meanPots 1 (some FieldType.double)) 2 0 G n [.ref mm] (fun (v : Option Value) (G1 : gH) (n1 : Nat) => ∃ (th2 : Int32) (v0 : UInt64), v = some (.double v0) ∧ n ≤ n1 ∧ gF G G1 n (fun q : Nat => q = mm) ∧ G1 mm = some (.inl (23, [.ref ag, .ref ab, .ref ah, .int ch, .ref asv, .int hs, .ref aas, .ref ain, .int ty, .int er, .ref awy, .int ir, .ref ali, .int ln, .int th2, .int pl, .int wr, .ref ato])) ∧ (if f 46 = 0 then (1, 0) else (0, FP.ddiv (FP.i2d (sSum f 47 10)) (FP.i2d (f 46)))) = (th2, v0)) gNox := by
  refine g_start (by decide) (Nat.le_of_ble_eq_true rfl) ?_
  intro p e s m below meth c ls C hnm hxt hI hl
  have hx := C.x
  have hb := C.b
  have hS : va_S (gA D) s.heap s.heap [] := va_S.rf
  have hz0 := hI.z
  have lc0_ := hI.lt c0_
  have lc1_ := hI.lt c1_
  have hF : gF G G n (fun q : Nat => q = mm) := gF.rf _ _ _
  have hl : lv_has ls 1 [(0, .ref mm)] := hl
  refine lv_aload_n hx hb dX4_meanPots_0 rfl (lv_at hl 0 rfl) ?_
  refine lv_aload_n hx hb dX4_meanPots_1 rfl (lv_at hl 0 rfl) ?_
  refine g_get C hI c0_ kc23 0 rfl q2567 (fun _ h9 => h9) dX4_meanPots_2 ?_
  refine lv_bipush (v := 46) hx hb dX4_meanPots_5 (by decide) ?_
  refine g_iald (v := .int (f 46)) C hI c1_ (gix nl46 (by omega) (by omega)) (congrArg Value.int (gixv (f := f) nl46 (by omega))) dX4_meanPots_7 ?_
  refine lv_if_ne (tgt := 15) hx hb dX4_meanPots_8 (by decide) (fun c_4432 => ?_) (fun c_4432 => ?_)
  · skip
    refine lv_iconst (v := 0) hx hb dX4_meanPots_15 (by decide) ?_
    refine g_put (fs2 := [.ref ag, .ref ab, .ref ah, .int ch, .ref asv, .int hs, .ref aas, .ref ain, .int ty, .int er, .ref awy, .int ir, .ref ali, .int ln, .int 0, .int pl, .int wr, .ref ato]) C hI hS c0_ (by omega) kc23 14 (Nat.le_of_ble_eq_true rfl) q2581 (fun _ h9 => h9) rfl rfl rfl rfl dX4_meanPots_16 (fun G4433 H locs e4434 hI hS => ?_)
    have c1_ := gE_k e4434 c1_ (g_on c1_ c0_)
    have c0_ : G4433 mm = some (.inl (23, [.ref ag, .ref ab, .ref ah, .int ch, .ref asv, .int hs, .ref aas, .ref ain, .int ty, .int er, .ref awy, .int ir, .ref ali, .int ln, .int 0, .int pl, .int wr, .ref ato])) := gE_s e4434
    have hF := gE_F e4434 hF (Or.inr rfl)
    refine lv_aload_n hx hb dX4_meanPots_19 rfl (lv_at hl 0 rfl) ?_
    refine g_get C hI c0_ kc23 14 rfl q2581 (fun _ h9 => h9) dX4_meanPots_20 ?_
    refine lv_if_eq (tgt := 30) hx hb dX4_meanPots_23 (by decide) (fun c_4435 => ?_) (fun c_4435 => ?_)
    · skip
      refine lv_aload_n hx hb dX4_meanPots_30 rfl (lv_at hl 0 rfl) ?_
      refine lv_bipush (v := 47) hx hb dX4_meanPots_31 (by decide) ?_
      refine lv_bipush (v := 10) hx hb dX4_meanPots_33 (by decide) ?_
      refine g_V (As := [.int 47, .int 10]) (rest := []) (lv := [(0, .ref mm)]) C hI hS (c_X4_sum l hB G4433 n mm ag ab ah ch asv hs aas ain ty er awy ir ali ln 0 pl wr ato f 47 10 47 10 c0_ c1_ nl47 nl10 (by omega)) c0_ rfl rfl q2947 q2949 qs75 q94 q2950 (⟨by decide, by decide, by decide⟩ : gArg _ 2) rfl ⟨by decide, by decide⟩ (by omega) hl rfl (Nat.le_of_ble_eq_true rfl) dX4_meanPots_35 (fun v4436 G4437 n4438 H locs hp4439 hI hS => ?_) gKx.no
      obtain ⟨rfl, eG4437, en4438⟩ := hp4439
      refine W.widen (k := 0) (n := 200 * (0)) (by omega) (by omega) ?_
      rw [eG4437, en4438] at hI
      refine lv_i2d hx hb dX4_meanPots_38 ?_
      refine lv_aload_n hx hb dX4_meanPots_39 rfl (lv_at hl 0 rfl) ?_
      refine g_get C hI c0_ kc23 0 rfl q2567 (fun _ h9 => h9) dX4_meanPots_40 ?_
      refine lv_bipush (v := 46) hx hb dX4_meanPots_43 (by decide) ?_
      refine g_iald (v := .int (f 46)) C hI c1_ (gix nl46 (by omega) (by omega)) (congrArg Value.int (gixv (f := f) nl46 (by omega))) dX4_meanPots_45 ?_
      refine lv_i2d hx hb dX4_meanPots_46 ?_
      refine lv_ddiv hx hb dX4_meanPots_47 (fl_ddiv _ (by assumption)) ?_
      exact g_dret C hI hS (by omega) ⟨0, FP.ddiv (FP.i2d (sSum f 47 10)) (FP.i2d (f 46)), rfl, (by omega), hF, c0_, (by simp [c_4432, eq_true c_4435])⟩ dX4_meanPots_48
    · exact absurd (by decide) c_4435
  · skip
    refine lv_iconst (v := 1) hx hb dX4_meanPots_11 (by decide) ?_
    refine lv_goto (tgt := 16) hx hb dX4_meanPots_12 (by decide) ?_
    refine g_put (fs2 := [.ref ag, .ref ab, .ref ah, .int ch, .ref asv, .int hs, .ref aas, .ref ain, .int ty, .int er, .ref awy, .int ir, .ref ali, .int ln, .int 1, .int pl, .int wr, .ref ato]) C hI hS c0_ (by omega) kc23 14 (Nat.le_of_ble_eq_true rfl) q2581 (fun _ h9 => h9) rfl rfl rfl rfl dX4_meanPots_16 (fun G4442 H locs e4443 hI hS => ?_)
    have c1_ := gE_k e4443 c1_ (g_on c1_ c0_)
    have c0_ : G4442 mm = some (.inl (23, [.ref ag, .ref ab, .ref ah, .int ch, .ref asv, .int hs, .ref aas, .ref ain, .int ty, .int er, .ref awy, .int ir, .ref ali, .int ln, .int 1, .int pl, .int wr, .ref ato])) := gE_s e4443
    have hF := gE_F e4443 hF (Or.inr rfl)
    refine lv_aload_n hx hb dX4_meanPots_19 rfl (lv_at hl 0 rfl) ?_
    refine g_get C hI c0_ kc23 14 rfl q2581 (fun _ h9 => h9) dX4_meanPots_20 ?_
    refine lv_if_eq (tgt := 30) hx hb dX4_meanPots_23 (by decide) (fun c_4444 => ?_) (fun c_4444 => ?_)
    · exact absurd c_4444 (by decide)
    · skip
      refine lv_dconst0 hx hb dX4_meanPots_26 ?_
      refine lv_goto (tgt := 48) hx hb dX4_meanPots_27 (by decide) ?_
      exact g_dret C hI hS (by omega) ⟨1, 0, rfl, (by omega), hF, c0_, (by simp [eq_true c_4432, c_4444])⟩ dX4_meanPots_48
set_option maxHeartbeats 4000000 in
set_option maxRecDepth 100000 in
theorem c_X4_backShare (l : Launch) {D : gD} (hB : gBs D) (G : gH) (n : Nat) (mm : Nat) (ag : Nat) (ab : Nat) (ah : Nat) (ch : Int32) (asv : Nat) (hs : Int32) (aas : Nat) (ain : Nat) (ty : Int32) (er : Int32) (awy : Nat) (ir : Int32) (ali : Nat) (ln : Int32) (th : Int32) (pl : Int32) (wr : Int32) (ato : Nat) (f : Nat → Int32) (c0_ : G mm = some (.inl (23, [.ref ag, .ref ab, .ref ah, .int ch, .ref asv, .int hs, .ref aas, .ref ain, .int ty, .int er, .ref awy, .int ir, .ref ali, .int ln, .int th, .int pl, .int wr, .ref ato]))) (c1_ : G ag = some (aI 112 f)) (hz : gz D ≤ mm) : gMet l D yX4_backShare (ws_ yX4_backShare cX4_backShare 1 (some FieldType.float)) 1 0 G n [.ref mm] (fun (v : Option Value) (G1 : gH) (n1 : Nat) => ∃ (th2 : Int32) (v0 : UInt32), v = some (.float v0) ∧ n ≤ n1 ∧ gF G G1 n (fun q : Nat => q = mm) ∧ G1 mm = some (.inl (23, [.ref ag, .ref ab, .ref ah, .int ch, .ref asv, .int hs, .ref aas, .ref ain, .int ty, .int er, .ref awy, .int ir, .ref ali, .int ln, .int th2, .int pl, .int wr, .ref ato])) ∧ (if f 108 = 0 then (1, 0) else (0, FP.fdiv (FP.i2f (f 109)) (FP.i2f (f 108)))) = (th2, v0)) gNox := by
  refine g_start (by decide) (Nat.le_of_ble_eq_true rfl) ?_
  intro p e s m below meth c ls C hnm hxt hI hl
  have hx := C.x
  have hb := C.b
  have hS : va_S (gA D) s.heap s.heap [] := va_S.rf
  have hz0 := hI.z
  have lc0_ := hI.lt c0_
  have lc1_ := hI.lt c1_
  have hF : gF G G n (fun q : Nat => q = mm) := gF.rf _ _ _
  have hl : lv_has ls 1 [(0, .ref mm)] := hl
  refine lv_aload_n hx hb dX4_backShare_0 rfl (lv_at hl 0 rfl) ?_
  refine lv_aload_n hx hb dX4_backShare_1 rfl (lv_at hl 0 rfl) ?_
  refine g_get C hI c0_ kc23 0 rfl q2567 (fun _ h9 => h9) dX4_backShare_2 ?_
  refine lv_bipush (v := 108) hx hb dX4_backShare_5 (by decide) ?_
  refine g_iald (v := .int (f 108)) C hI c1_ (gix nl108 (by omega) (by omega)) (congrArg Value.int (gixv (f := f) nl108 (by omega))) dX4_backShare_7 ?_
  refine lv_if_ne (tgt := 15) hx hb dX4_backShare_8 (by decide) (fun c_4445 => ?_) (fun c_4445 => ?_)
  · skip
    refine lv_iconst (v := 0) hx hb dX4_backShare_15 (by decide) ?_
    refine g_put (fs2 := [.ref ag, .ref ab, .ref ah, .int ch, .ref asv, .int hs, .ref aas, .ref ain, .int ty, .int er, .ref awy, .int ir, .ref ali, .int ln, .int 0, .int pl, .int wr, .ref ato]) C hI hS c0_ (by omega) kc23 14 (Nat.le_of_ble_eq_true rfl) q2581 (fun _ h9 => h9) rfl rfl rfl rfl dX4_backShare_16 (fun G4446 H locs e4447 hI hS => ?_)
    have c1_ := gE_k e4447 c1_ (g_on c1_ c0_)
    have c0_ : G4446 mm = some (.inl (23, [.ref ag, .ref ab, .ref ah, .int ch, .ref asv, .int hs, .ref aas, .ref ain, .int ty, .int er, .ref awy, .int ir, .ref ali, .int ln, .int 0, .int pl, .int wr, .ref ato])) := gE_s e4447
    have hF := gE_F e4447 hF (Or.inr rfl)
    refine lv_aload_n hx hb dX4_backShare_19 rfl (lv_at hl 0 rfl) ?_
    refine g_get C hI c0_ kc23 14 rfl q2581 (fun _ h9 => h9) dX4_backShare_20 ?_
    refine lv_if_eq (tgt := 30) hx hb dX4_backShare_23 (by decide) (fun c_4448 => ?_) (fun c_4448 => ?_)
    · skip
      refine lv_aload_n hx hb dX4_backShare_30 rfl (lv_at hl 0 rfl) ?_
      refine g_get C hI c0_ kc23 0 rfl q2567 (fun _ h9 => h9) dX4_backShare_31 ?_
      refine lv_bipush (v := 109) hx hb dX4_backShare_34 (by decide) ?_
      refine g_iald (v := .int (f 109)) C hI c1_ (gix nl109 (by omega) (by omega)) (congrArg Value.int (gixv (f := f) nl109 (by omega))) dX4_backShare_36 ?_
      refine lv_i2f hx hb dX4_backShare_37 ?_
      refine lv_aload_n hx hb dX4_backShare_38 rfl (lv_at hl 0 rfl) ?_
      refine g_get C hI c0_ kc23 0 rfl q2567 (fun _ h9 => h9) dX4_backShare_39 ?_
      refine lv_bipush (v := 108) hx hb dX4_backShare_42 (by decide) ?_
      refine g_iald (v := .int (f 108)) C hI c1_ (gix nl108 (by omega) (by omega)) (congrArg Value.int (gixv (f := f) nl108 (by omega))) dX4_backShare_44 ?_
      refine lv_i2f hx hb dX4_backShare_45 ?_
      refine lv_fdiv hx hb dX4_backShare_46 (fl_fdiv _ (by assumption)) ?_
      exact g_fret C hI hS (by omega) ⟨0, FP.fdiv (FP.i2f (f 109)) (FP.i2f (f 108)), rfl, (by omega), hF, c0_, (by simp [c_4445, eq_true c_4448])⟩ dX4_backShare_47
    · exact absurd (by decide) c_4448
  · skip
    refine lv_iconst (v := 1) hx hb dX4_backShare_11 (by decide) ?_
    refine lv_goto (tgt := 16) hx hb dX4_backShare_12 (by decide) ?_
    refine g_put (fs2 := [.ref ag, .ref ab, .ref ah, .int ch, .ref asv, .int hs, .ref aas, .ref ain, .int ty, .int er, .ref awy, .int ir, .ref ali, .int ln, .int 1, .int pl, .int wr, .ref ato]) C hI hS c0_ (by omega) kc23 14 (Nat.le_of_ble_eq_true rfl) q2581 (fun _ h9 => h9) rfl rfl rfl rfl dX4_backShare_16 (fun G4449 H locs e4450 hI hS => ?_)
    have c1_ := gE_k e4450 c1_ (g_on c1_ c0_)
    have c0_ : G4449 mm = some (.inl (23, [.ref ag, .ref ab, .ref ah, .int ch, .ref asv, .int hs, .ref aas, .ref ain, .int ty, .int er, .ref awy, .int ir, .ref ali, .int ln, .int 1, .int pl, .int wr, .ref ato])) := gE_s e4450
    have hF := gE_F e4450 hF (Or.inr rfl)
    refine lv_aload_n hx hb dX4_backShare_19 rfl (lv_at hl 0 rfl) ?_
    refine g_get C hI c0_ kc23 14 rfl q2581 (fun _ h9 => h9) dX4_backShare_20 ?_
    refine lv_if_eq (tgt := 30) hx hb dX4_backShare_23 (by decide) (fun c_4451 => ?_) (fun c_4451 => ?_)
    · exact absurd c_4451 (by decide)
    · skip
      refine lv_fconst0 hx hb dX4_backShare_26 ?_
      refine lv_goto (tgt := 47) hx hb dX4_backShare_27 (by decide) ?_
      exact g_fret C hI hS (by omega) ⟨1, 0, rfl, (by omega), hF, c0_, (by simp [eq_true c_4445, c_4451])⟩ dX4_backShare_47
