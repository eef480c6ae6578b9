/-! THROWN ON -/
theorem xRf.up {D : gD} {re de : Int32} {P P' : Prop} {ms ms' : Nat → Prop} {G G0 G1 : gH} {n n0 n1 q : Nat} {E : String} (h : xRf D re de P ms G0 n0 E q G1 n1) (hP : P → P') (hn : n ≤ n0) (hF : gF G G0 n ms') (hm : ∀ q, q < n → ms q → ms' q) : xRf D re de P' ms' G n E q G1 n1 :=
  ⟨hP h.1, h.2.1, Nat.le_trans hn h.2.2.1, Nat.le_trans hn h.2.2.2.1, hF.trans h.2.2.2.2.1 hn hm, h.2.2.2.2.2⟩
theorem xPl.up {cls : String} {P P' : Prop} {G G1 : gH} {n n1 q : Nat} {E : String} (h : xPl cls P G n E q G1 n1) (hP : P → P') : xPl cls P' G n E q G1 n1 := ⟨hP h.1, h.2⟩
set_option maxHeartbeats 4000000 in
set_option maxRecDepth 100000 in
theorem c_X5_checkHours (l : Launch) {D : gD} (hB : gBs D) (hfl : l.stackTraces = false) (G : gH) (n : Nat) (bn : Nat) (bo : Int32) (pq : Nat) (hu : Int32) (mi : Int32) (lg : Int32) (sk : Int32) (hd : Int32) (a1 : Int32) (c0_ : G bn = some (.inl (3, [.int bo, .ref pq, .int hu, .int mi, .int lg, .int sk, .int hd]))) : gMet l D yX5_checkHours (ws_ yX5_checkHours cX5_checkHours 2 none) 16 1 G n [.ref bn, .int a1] (fun (v : Option Value) (G1 : gH) (n1 : Nat) => v = none ∧ G1 = G ∧ n1 = n ∧ ¬ hu < a1) (xRf D 4 (a1 - hu) (hu < a1) gNone G n) := by
  refine g_start (by decide) (Nat.le_of_ble_eq_true rfl) ?_
  intro p e s m below meth c ls C hnm hxt hI hl
  have hx := C.x
  have hb := C.b
  have hS : va_S (gA D) s.heap s.heap [] := va_S.rf
  have hz0 := hI.z
  have lc0_ := hI.lt c0_
  have hF : gF G G n gNone := gF.rf _ _ _
  have hl : lv_has ls 2 [(0, .ref bn), (1, .int a1)] := hl
  refine lv_aload_n hx hb dX5_checkHours_0 rfl (lv_at hl 0 rfl) ?_
  refine g_get C hI c0_ kc3 2 rfl q1148 (fun _ h9 => h9) dX5_checkHours_1 ?_
  refine lv_iload_n hx hb dX5_checkHours_4 rfl (lv_at hl 1 rfl) ?_
  refine lv_icmp_lt (tgt := 12) hx hb dX5_checkHours_5 (by decide) (fun c_5479 => ?_) (fun c_5479 => ?_)
  · skip
    refine lv_iconst (v := 0) hx hb dX5_checkHours_12 (by decide) ?_
    refine lv_iconst (v := 4) hx hb dX5_checkHours_13 (by decide) ?_
    refine lv_iload_n hx hb dX5_checkHours_14 rfl (lv_at hl 1 rfl) ?_
    refine lv_aload_n hx hb dX5_checkHours_15 rfl (lv_at hl 0 rfl) ?_
    refine g_get C hI c0_ kc3 2 rfl q1148 (fun _ h9 => h9) dX5_checkHours_16 ?_
    refine lv_isub hx hb dX5_checkHours_19 ?_
    refine g_SN (As := [.int 0, .int 4, .int (a1 - hu)]) (rest := []) (lv := [(0, .ref bn), (1, .int a1)]) C hI hS (c_X1_meet l hB hfl G n 0 4 (a1 - hu)  ) (gNw_in q1367 rfl) q1356 q77 q1357 (⟨by decide, by decide, by decide⟩ : gArg _ 3) rfl ⟨by decide, by decide⟩ (by omega) hl rfl (Nat.le_of_ble_eq_true rfl) dX5_checkHours_20 (fun v5480 G5481 n5482 H locs hp5483 hI hS => ?_) ?_
    · skip
      obtain ⟨rfl, eG5481, en5482, hh5486⟩ := hp5483
      refine W.widen (k := 1) (n := 200 * (1)) (by omega) (by omega) ?_
      rw [eG5481, en5482] at hI
      exact absurd rfl hh5486
    · skip
      intro E5487 q5488 G5489 n5490 H locs hp5491 hI hS
      exact g_out0 C hxt hI hS (by omega) (hp5491.up (fun h => c_5479) (by omega) hF (fun _ _ h => h.elim))
  · skip
    refine lv_iconst (v := 1) hx hb dX5_checkHours_8 (by decide) ?_
    refine lv_goto (tgt := 13) hx hb dX5_checkHours_9 (by decide) ?_
    refine lv_iconst (v := 4) hx hb dX5_checkHours_13 (by decide) ?_
    refine lv_iload_n hx hb dX5_checkHours_14 rfl (lv_at hl 1 rfl) ?_
    refine lv_aload_n hx hb dX5_checkHours_15 rfl (lv_at hl 0 rfl) ?_
    refine g_get C hI c0_ kc3 2 rfl q1148 (fun _ h9 => h9) dX5_checkHours_16 ?_
    refine lv_isub hx hb dX5_checkHours_19 ?_
    refine g_SN (As := [.int 1, .int 4, .int (a1 - hu)]) (rest := []) (lv := [(0, .ref bn), (1, .int a1)]) C hI hS (c_X1_meet l hB hfl G n 1 4 (a1 - hu)  ) (gNw_in q1367 rfl) q1356 q77 q1357 (⟨by decide, by decide, by decide⟩ : gArg _ 3) rfl ⟨by decide, by decide⟩ (by omega) hl rfl (Nat.le_of_ble_eq_true rfl) dX5_checkHours_20 (fun v5492 G5493 n5494 H locs hp5495 hI hS => ?_) ?_
    · skip
      obtain ⟨rfl, eG5493, en5494, hh5498⟩ := hp5495
      refine W.widen (k := 1) (n := 200 * (1)) (by omega) (by omega) ?_
      rw [eG5493, en5494] at hI
      exact g_vret C hI hS (by omega) ⟨rfl, rfl, rfl, c_5479⟩ dX5_checkHours_23
    · skip
      intro E5499 q5500 G5501 n5502 H locs hp5503 hI hS
      exact absurd (hp5503).1 (by decide)
set_option maxHeartbeats 4000000 in
set_option maxRecDepth 100000 in
theorem c_X1_call (l : Launch) {D : gD} (hB : gBs D) (hfl : l.stackTraces = false) (G : gH) (n : Nat) (h0 : Int32) : gMet l D yX1_call (ws_ yX1_call cX1_call 1 none) 16 1 G n [.int h0] (fun (v : Option Value) (G1 : gH) (n1 : Nat) => v = none ∧ G1 = G ∧ n1 = n ∧ ¬ h0 = 0) (xRf D 12 0 (h0 = 0) gNone G n) := by
  refine g_start (by decide) (Nat.le_of_ble_eq_true rfl) ?_
  intro p e s m below meth c ls C hnm hxt hI hl
  have hx := C.x
  have hb := C.b
  have hS : va_S (gA D) s.heap s.heap [] := va_S.rf
  have hz0 := hI.z
  have hF : gF G G n gNone := gF.rf _ _ _
  have hl : lv_has ls 1 [(0, .int h0)] := hl
  refine lv_iload_n hx hb dX1_call_0 rfl (lv_at hl 0 rfl) ?_
  refine lv_bipush (v := 12) hx hb dX1_call_1 (by decide) ?_
  refine lv_iconst (v := 0) hx hb dX1_call_3 (by decide) ?_
  refine g_S (As := [.int h0, .int 12, .int 0]) (rest := []) (lv := [(0, .int h0)]) C hI hS (c_X1_meet l hB hfl G n h0 12 0  ) q2324 q1356 q77 q1357 (⟨by decide, by decide, by decide⟩ : gArg _ 3) rfl ⟨by decide, by decide⟩ (by omega) hl rfl (Nat.le_of_ble_eq_true rfl) dX1_call_4 (fun v5504 G5505 n5506 H locs hp5507 hI hS => ?_) ?_
  · skip
    obtain ⟨rfl, eG5505, en5506, hh5510⟩ := hp5507
    refine W.widen (k := 1) (n := 200 * (1)) (by omega) (by omega) ?_
    rw [eG5505, en5506] at hI
    exact g_vret C hI hS (by omega) ⟨rfl, rfl, rfl, hh5510⟩ dX1_call_7
  · skip
    intro E5511 q5512 G5513 n5514 H locs hp5515 hI hS
    exact g_out0 C hxt hI hS (by omega) (hp5515.up (fun h => h) (by omega) hF (fun _ _ h => h.elim))
set_option maxHeartbeats 4000000 in
set_option maxRecDepth 100000 in
theorem c_X1_isSize (l : Launch) {D : gD} (hB : gBs D) (G : gH) (n : Nat) (v0 : Int32) : gMet l D yX1_isSize (ws_ yX1_isSize cX1_isSize 1 (some FieldType.boolean)) 2 0 G n [.int v0] (fun (v : Option Value) (G1 : gH) (n1 : Nat) => v = some (.int (gin v0 0 2)) ∧ G1 = G ∧ n1 = n) gNox := by
  refine g_start (by decide) (Nat.le_of_ble_eq_true rfl) ?_
  intro p e s m below meth c ls C hnm hxt hI hl
  have hx := C.x
  have hb := C.b
  have hS : va_S (gA D) s.heap s.heap [] := va_S.rf
  have hz0 := hI.z
  have hF : gF G G n gNone := gF.rf _ _ _
  have hl : lv_has ls 1 [(0, .int v0)] := hl
  refine lv_iload_n hx hb dX1_isSize_0 rfl (lv_at hl 0 rfl) ?_
  refine lv_iconst (v := 0) hx hb dX1_isSize_1 (by decide) ?_
  refine lv_iconst (v := 2) hx hb dX1_isSize_2 (by decide) ?_
  refine g_S (As := [.int v0, .int 0, .int 2]) (rest := []) (lv := [(0, .int v0)]) C hI hS (c_X1_isIn l hB G n v0 0 2  ) q537 q538 q77 q539 (⟨by decide, by decide, by decide⟩ : gArg _ 3) rfl ⟨by decide, by decide⟩ (by omega) hl rfl (Nat.le_of_ble_eq_true rfl) dX1_isSize_3 (fun v5516 G5517 n5518 H locs hp5519 hI hS => ?_) gKx.no
  obtain ⟨rfl, eG5517, en5518⟩ := hp5519
  refine W.widen (k := 0) (n := 200 * (0)) (by omega) (by omega) ?_
  rw [eG5517, en5518] at hI
  exact g_zret C hI hS (by omega) (gin_nar _ _ _) ⟨rfl, rfl, rfl⟩ dX1_isSize_6
set_option maxHeartbeats 4000000 in
set_option maxRecDepth 100000 in
theorem c_X1_isBait (l : Launch) {D : gD} (hB : gBs D) (G : gH) (n : Nat) (v0 : Int32) : gMet l D yX1_isBait (ws_ yX1_isBait cX1_isBait 1 (some FieldType.boolean)) 2 0 G n [.int v0] (fun (v : Option Value) (G1 : gH) (n1 : Nat) => v = some (.int (gin v0 0 2)) ∧ G1 = G ∧ n1 = n) gNox := by
  refine g_start (by decide) (Nat.le_of_ble_eq_true rfl) ?_
  intro p e s m below meth c ls C hnm hxt hI hl
  have hx := C.x
  have hb := C.b
  have hS : va_S (gA D) s.heap s.heap [] := va_S.rf
  have hz0 := hI.z
  have hF : gF G G n gNone := gF.rf _ _ _
  have hl : lv_has ls 1 [(0, .int v0)] := hl
  refine lv_iload_n hx hb dX1_isBait_0 rfl (lv_at hl 0 rfl) ?_
  refine lv_iconst (v := 0) hx hb dX1_isBait_1 (by decide) ?_
  refine lv_iconst (v := 2) hx hb dX1_isBait_2 (by decide) ?_
  refine g_S (As := [.int v0, .int 0, .int 2]) (rest := []) (lv := [(0, .int v0)]) C hI hS (c_X1_isIn l hB G n v0 0 2  ) q537 q538 q77 q539 (⟨by decide, by decide, by decide⟩ : gArg _ 3) rfl ⟨by decide, by decide⟩ (by omega) hl rfl (Nat.le_of_ble_eq_true rfl) dX1_isBait_3 (fun v5522 G5523 n5524 H locs hp5525 hI hS => ?_) gKx.no
  obtain ⟨rfl, eG5523, en5524⟩ := hp5525
  refine W.widen (k := 0) (n := 200 * (0)) (by omega) (by omega) ?_
  rw [eG5523, en5524] at hI
  exact g_zret C hI hS (by omega) (gin_nar _ _ _) ⟨rfl, rfl, rfl⟩ dX1_isBait_6
set_option maxHeartbeats 4000000 in
set_option maxRecDepth 100000 in
theorem c_X1_requireGround (l : Launch) {D : gD} (hB : gBs D) (hfl : l.stackTraces = false) (G : gH) (n : Nat) (v0 : Int32) : gMet l D yX1_requireGround (ws_ yX1_requireGround cX1_requireGround 1 none) 15 1 G n [.int v0] (fun (v : Option Value) (G1 : gH) (n1 : Nat) => v = none ∧ G1 = G ∧ n1 = n ∧ ¬ gin v0 0 5 = 0) (xPl "java/lang/IndexOutOfBoundsException" (gin v0 0 5 = 0) G n) := by
  refine g_start (by decide) (Nat.le_of_ble_eq_true rfl) ?_
  intro p e s m below meth c ls C hnm hxt hI hl
  have hx := C.x
  have hb := C.b
  have hS : va_S (gA D) s.heap s.heap [] := va_S.rf
  have hz0 := hI.z
  have hF : gF G G n gNone := gF.rf _ _ _
  have hl : lv_has ls 1 [(0, .int v0)] := hl
  refine lv_iload_n hx hb dX1_requireGround_0 rfl (lv_at hl 0 rfl) ?_
  refine lv_iconst (v := 0) hx hb dX1_requireGround_1 (by decide) ?_
  refine lv_iconst (v := 5) hx hb dX1_requireGround_2 (by decide) ?_
  refine g_S (As := [.int v0, .int 0, .int 5]) (rest := []) (lv := [(0, .int v0)]) C hI hS (c_X1_isIn l hB G n v0 0 5  ) q537 q538 q77 q539 (⟨by decide, by decide, by decide⟩ : gArg _ 3) rfl ⟨by decide, by decide⟩ (by omega) hl rfl (Nat.le_of_ble_eq_true rfl) dX1_requireGround_3 (fun v5528 G5529 n5530 H locs hp5531 hI hS => ?_) gKx.no
  obtain ⟨rfl, eG5529, en5530⟩ := hp5531
  refine W.widen (k := 0) (n := 200 * (0)) (by omega) (by omega) ?_
  rw [eG5529, en5530] at hI
  refine g_S (As := [.int (gin v0 0 5)]) (rest := []) (lv := [(0, .int v0)]) C hI hS (c_X1_requireIndex l hB hfl G n (gin v0 0 5)  ) q540 q541 q77 q542 (⟨by decide, by decide, by decide⟩ : gArg _ 1) rfl ⟨by decide, by decide⟩ (by omega) hl rfl (Nat.le_of_ble_eq_true rfl) dX1_requireGround_6 (fun v5534 G5535 n5536 H locs hp5537 hI hS => ?_) ?_
  · skip
    obtain ⟨rfl, eG5535, en5536, hh5540⟩ := hp5537
    refine W.widen (k := 1) (n := 200 * (1)) (by omega) (by omega) ?_
    rw [eG5535, en5536] at hI
    obtain ⟨j_v0, hj_v0, ej_v0⟩ := gin_ok (k := 5) hh5540 (by decide)
    have tj_v0 : v0.toNatClampNeg = j_v0 := by rw [ej_v0]; exact nI_clamp (by omega)
    exact g_vret C hI hS (by omega) ⟨rfl, rfl, rfl, hh5540⟩ dX1_requireGround_9
  · skip
    intro E5541 q5542 G5543 n5544 H locs hp5545 hI hS
    exact g_out0 C hxt hI hS (by omega) (hp5545.up (fun h => h))
