/-! THE CLASS, 3: the fleet, cell by cell -/
set_option maxHeartbeats 4000000 in
set_option maxRecDepth 100000 in
theorem c_X2_boat (l : Launch) {D : gD} (hB : gBs D) (G : gH) (n : Nat) (fa : Nat) (gl : Nat) (bl : Nat) (sl : Nat) (bx : Nat) (dy : Int32) (sw : Int32) (rd : Int32) (dw : Int32) (bck : Int32) (ldd : Int32) (co : Int32) (um : Int32) (ua : Nat) (us : Int32) (uv : Nat → Value) (uk : Nat) (jx : Nat) (el : Nat) (fv : List Value) (a1 : Int32) (c0_ : G fa = some (.inl (1, [.ref gl, .ref bl, .ref sl, .ref bx, .int dy, .int sw, .int rd, .int dw, .int bck, .int ldd, .int co]))) (c1_ : G bl = some (.inl (15, [.int um, .ref ua, .int us]))) (c2_ : G ua = some (aR 10 uv)) (c3_ : G el = some (.inl (3, fv))) (ej : a1 = nI jx) (hus : us = nI uk) (huk : uk ≤ 10) (huj : jx < uk) (huv : uv jx = .ref el) : gMet l D yX2_boat (ws_ yX2_boat cX2_boat 2 (some (FieldType.object "WhelkFleet$Boat"))) 4 0 G n [.ref fa, .int a1] (fun (v : Option Value) (G1 : gH) (n1 : Nat) => v = some (.ref el) ∧ G1 = G ∧ n1 = n) gNox := by
  refine g_start (by decide) (Nat.le_of_ble_eq_true rfl) ?_
  intro p e s m below meth c ls C hnm hxt hI hl
  have hx := C.x
  have hb := C.b
  have hS : va_S (gA D) s.heap s.heap [] := va_S.rf
  have hz0 := hI.z
  have lc0_ := hI.lt c0_
  have lc1_ := hI.lt c1_
  have lc2_ := hI.lt c2_
  have lc3_ := hI.lt c3_
  have hF : gF G G n gNone := gF.rf _ _ _
  have hl : lv_has ls 2 [(0, .ref fa), (1, .int a1)] := hl
  refine lv_aload_n hx hb dX2_boat_0 rfl (lv_at hl 0 rfl) ?_
  refine g_get C hI c0_ kc1 1 rfl q180 (fun _ h9 => h9) dX2_boat_1 ?_
  refine lv_iload_n hx hb dX2_boat_4 rfl (lv_at hl 1 rfl) ?_
  refine g_Fi (As := [.int a1]) (rest := []) (lv := [(0, .ref fa), (1, .int a1)]) C hI hS (c_J2_get l hB G n bl um ua us uv uk jx el a1 c1_ c2_ ej hus huk huj huv) c1_ rfl (by decide) fw0 q590 q595 q593 q81 q597 (⟨by decide, by decide, by decide⟩ : gArg _ 1) rfl ⟨by decide, by decide⟩ (by omega) hl rfl (Nat.le_of_ble_eq_true rfl) dX2_boat_5 (fun v5546 G5547 n5548 H locs hp5549 hI hS => ?_) gKx.no
  obtain ⟨rfl, eG5547, en5548⟩ := hp5549
  refine W.widen (k := 0) (n := 200 * (0)) (by omega) (by omega) ?_
  rw [eG5547, en5548] at hI
  refine g_chk C hI c3_ rfl q1128 dX2_boat_10 ?_
  exact g_aret C hI hS (by omega) (by first | exact Or.inl ⟨_, rfl⟩ | exact Or.inr ⟨_, rfl⟩) (Or.inr ⟨_, rfl⟩) ⟨rfl, rfl, rfl⟩ dX2_boat_13
set_option maxHeartbeats 4000000 in
set_option maxRecDepth 100000 in
theorem c_X2_string (l : Launch) {D : gD} (hB : gBs D) (G : gH) (n : Nat) (fa : Nat) (gl : Nat) (bl : Nat) (sl : Nat) (bx : Nat) (dy : Int32) (sw : Int32) (rd : Int32) (dw : Int32) (bck : Int32) (ldd : Int32) (co : Int32) (wm : Int32) (wa : Nat) (ws : Int32) (wv : Nat → Value) (wk : Nat) (jx : Nat) (el : Nat) (fv : List Value) (a1 : Int32) (c0_ : G fa = some (.inl (1, [.ref gl, .ref bl, .ref sl, .ref bx, .int dy, .int sw, .int rd, .int dw, .int bck, .int ldd, .int co]))) (c1_ : G sl = some (.inl (15, [.int wm, .ref wa, .int ws]))) (c2_ : G wa = some (aR 10 wv)) (c3_ : G el = some (.inl (5, fv))) (ej : a1 = nI jx) (hws : ws = nI wk) (hwk : wk ≤ 10) (hwj : jx < wk) (hwv : wv jx = .ref el) : gMet l D yX2_string (ws_ yX2_string cX2_string 2 (some (FieldType.object "WhelkFleet$Line"))) 4 0 G n [.ref fa, .int a1] (fun (v : Option Value) (G1 : gH) (n1 : Nat) => v = some (.ref el) ∧ G1 = G ∧ n1 = n) gNox := by
  refine g_start (by decide) (Nat.le_of_ble_eq_true rfl) ?_
  intro p e s m below meth c ls C hnm hxt hI hl
  have hx := C.x
  have hb := C.b
  have hS : va_S (gA D) s.heap s.heap [] := va_S.rf
  have hz0 := hI.z
  have lc0_ := hI.lt c0_
  have lc1_ := hI.lt c1_
  have lc2_ := hI.lt c2_
  have lc3_ := hI.lt c3_
  have hF : gF G G n gNone := gF.rf _ _ _
  have hl : lv_has ls 2 [(0, .ref fa), (1, .int a1)] := hl
  refine lv_aload_n hx hb dX2_string_0 rfl (lv_at hl 0 rfl) ?_
  refine g_get C hI c0_ kc1 2 rfl q181 (fun _ h9 => h9) dX2_string_1 ?_
  refine lv_iload_n hx hb dX2_string_4 rfl (lv_at hl 1 rfl) ?_
  refine g_Fi (As := [.int a1]) (rest := []) (lv := [(0, .ref fa), (1, .int a1)]) C hI hS (c_J2_get l hB G n sl wm wa ws wv wk jx el a1 c1_ c2_ ej hws hwk hwj hwv) c1_ rfl (by decide) fw0 q590 q595 q593 q81 q597 (⟨by decide, by decide, by decide⟩ : gArg _ 1) rfl ⟨by decide, by decide⟩ (by omega) hl rfl (Nat.le_of_ble_eq_true rfl) dX2_string_5 (fun v5552 G5553 n5554 H locs hp5555 hI hS => ?_) gKx.no
  obtain ⟨rfl, eG5553, en5554⟩ := hp5555
  refine W.widen (k := 0) (n := 200 * (0)) (by omega) (by omega) ?_
  rw [eG5553, en5554] at hI
  refine g_chk C hI c3_ rfl q1168 dX2_string_10 ?_
  exact g_aret C hI hS (by omega) (by first | exact Or.inl ⟨_, rfl⟩ | exact Or.inr ⟨_, rfl⟩) (Or.inr ⟨_, rfl⟩) ⟨rfl, rfl, rfl⟩ dX2_string_13
set_option maxHeartbeats 4000000 in
set_option maxRecDepth 100000 in
theorem c_X2_ground (l : Launch) {D : gD} (hB : gBs D) (G : gH) (n : Nat) (fa : Nat) (gl : Nat) (bl : Nat) (sl : Nat) (bx : Nat) (dy : Int32) (sw : Int32) (rd : Int32) (dw : Int32) (bck : Int32) (ldd : Int32) (co : Int32) (ym : Int32) (ya : Nat) (ys : Int32) (yv : Nat → Value) (yk : Nat) (jx : Nat) (el : Nat) (fv : List Value) (a1 : Int32) (c0_ : G fa = some (.inl (1, [.ref gl, .ref bl, .ref sl, .ref bx, .int dy, .int sw, .int rd, .int dw, .int bck, .int ldd, .int co]))) (c1_ : G gl = some (.inl (15, [.int ym, .ref ya, .int ys]))) (c2_ : G ya = some (aR 10 yv)) (c3_ : G el = some (.inl (2, fv))) (ej : a1 = nI jx) (hys : ys = nI yk) (hyk : yk ≤ 10) (hyj : jx < yk) (hyv : yv jx = .ref el) : gMet l D yX2_ground (ws_ yX2_ground cX2_ground 2 (some (FieldType.object "WhelkFleet$Ground"))) 4 0 G n [.ref fa, .int a1] (fun (v : Option Value) (G1 : gH) (n1 : Nat) => v = some (.ref el) ∧ G1 = G ∧ n1 = n) gNox := by
  refine g_start (by decide) (Nat.le_of_ble_eq_true rfl) ?_
  intro p e s m below meth c ls C hnm hxt hI hl
  have hx := C.x
  have hb := C.b
  have hS : va_S (gA D) s.heap s.heap [] := va_S.rf
  have hz0 := hI.z
  have lc0_ := hI.lt c0_
  have lc1_ := hI.lt c1_
  have lc2_ := hI.lt c2_
  have lc3_ := hI.lt c3_
  have hF : gF G G n gNone := gF.rf _ _ _
  have hl : lv_has ls 2 [(0, .ref fa), (1, .int a1)] := hl
  refine lv_aload_n hx hb dX2_ground_0 rfl (lv_at hl 0 rfl) ?_
  refine g_get C hI c0_ kc1 0 rfl q179 (fun _ h9 => h9) dX2_ground_1 ?_
  refine lv_iload_n hx hb dX2_ground_4 rfl (lv_at hl 1 rfl) ?_
  refine g_Fi (As := [.int a1]) (rest := []) (lv := [(0, .ref fa), (1, .int a1)]) C hI hS (c_J2_get l hB G n gl ym ya ys yv yk jx el a1 c1_ c2_ ej hys hyk hyj hyv) c1_ rfl (by decide) fw0 q590 q595 q593 q81 q597 (⟨by decide, by decide, by decide⟩ : gArg _ 1) rfl ⟨by decide, by decide⟩ (by omega) hl rfl (Nat.le_of_ble_eq_true rfl) dX2_ground_5 (fun v5558 G5559 n5560 H locs hp5561 hI hS => ?_) gKx.no
  obtain ⟨rfl, eG5559, en5560⟩ := hp5561
  refine W.widen (k := 0) (n := 200 * (0)) (by omega) (by omega) ?_
  rw [eG5559, en5560] at hI
  refine g_chk C hI c3_ rfl q214 dX2_ground_10 ?_
  exact g_aret C hI hS (by omega) (by first | exact Or.inl ⟨_, rfl⟩ | exact Or.inr ⟨_, rfl⟩) (Or.inr ⟨_, rfl⟩) ⟨rfl, rfl, rfl⟩ dX2_ground_13
set_option maxHeartbeats 4000000 in
set_option maxRecDepth 100000 in
theorem c_X2_box (l : Launch) {D : gD} (hB : gBs D) (G : gH) (n : Nat) (fa : Nat) (gl : Nat) (bl : Nat) (sl : Nat) (bx : Nat) (dy : Int32) (sw : Int32) (rd : Int32) (dw : Int32) (bck : Int32) (ldd : Int32) (co : Int32) (x : Nat → Int32) (jx : Nat) (a1 : Int32) (c0_ : G fa = some (.inl (1, [.ref gl, .ref bl, .ref sl, .ref bx, .int dy, .int sw, .int rd, .int dw, .int bck, .int ldd, .int co]))) (c1_ : G bx = some (aI 3 x)) (hj : jx < 3) (ej : a1 = nI jx) : gMet l D yX2_box (ws_ yX2_box cX2_box 2 (some FieldType.int)) 1 0 G n [.ref fa, .int a1] (fun (v : Option Value) (G1 : gH) (n1 : Nat) => v = some (.int (x jx)) ∧ G1 = G ∧ n1 = n) gNox := by
  refine g_start (by decide) (Nat.le_of_ble_eq_true rfl) ?_
  intro p e s m below meth c ls C hnm hxt hI hl
  have hx := C.x
  have hb := C.b
  have hS : va_S (gA D) s.heap s.heap [] := va_S.rf
  have hz0 := hI.z
  have lc0_ := hI.lt c0_
  have lc1_ := hI.lt c1_
  have hF : gF G G n gNone := gF.rf _ _ _
  have hl : lv_has ls 2 [(0, .ref fa), (1, .int a1)] := hl
  refine lv_aload_n hx hb dX2_box_0 rfl (lv_at hl 0 rfl) ?_
  refine g_get C hI c0_ kc1 3 rfl q182 (fun _ h9 => h9) dX2_box_1 ?_
  refine lv_iload_n hx hb dX2_box_4 rfl (lv_at hl 1 rfl) ?_
  refine g_iald (v := .int (x jx)) C hI c1_ (gix ej (by omega) (by omega)) (congrArg Value.int (gixv (f := x) ej (by omega))) dX2_box_5 ?_
  exact g_iret C hI hS (by omega) ⟨rfl, rfl, rfl⟩ dX2_box_6
set_option maxHeartbeats 4000000 in
set_option maxRecDepth 100000 in
theorem c_X2_boats (l : Launch) {D : gD} (hB : gBs D) (G : gH) (n : Nat) (fa : Nat) (gl : Nat) (bl : Nat) (sl : Nat) (bx : Nat) (dy : Int32) (sw : Int32) (rd : Int32) (dw : Int32) (bck : Int32) (ldd : Int32) (co : Int32) (c0_ : G fa = some (.inl (1, [.ref gl, .ref bl, .ref sl, .ref bx, .int dy, .int sw, .int rd, .int dw, .int bck, .int ldd, .int co]))) : gMet l D yX2_boats (ws_ yX2_boats cX2_boats 1 (some (FieldType.object "java/util/List"))) 1 0 G n [.ref fa] (fun (v : Option Value) (G1 : gH) (n1 : Nat) => v = some (.ref bl) ∧ G1 = G ∧ n1 = n) gNox := by
  refine g_start (by decide) (Nat.le_of_ble_eq_true rfl) ?_
  intro p e s m below meth c ls C hnm hxt hI hl
  have hx := C.x
  have hb := C.b
  have hS : va_S (gA D) s.heap s.heap [] := va_S.rf
  have hz0 := hI.z
  have lc0_ := hI.lt c0_
  have hF : gF G G n gNone := gF.rf _ _ _
  have hl : lv_has ls 1 [(0, .ref fa)] := hl
  refine lv_aload_n hx hb dX2_boats_0 rfl (lv_at hl 0 rfl) ?_
  refine g_get C hI c0_ kc1 1 rfl q180 (fun _ h9 => h9) dX2_boats_1 ?_
  exact g_aret C hI hS (by omega) (by first | exact Or.inl ⟨_, rfl⟩ | exact Or.inr ⟨_, rfl⟩) (Or.inr ⟨_, rfl⟩) ⟨rfl, rfl, rfl⟩ dX2_boats_4
set_option maxHeartbeats 4000000 in
set_option maxRecDepth 100000 in
theorem c_X2_strings (l : Launch) {D : gD} (hB : gBs D) (G : gH) (n : Nat) (fa : Nat) (gl : Nat) (bl : Nat) (sl : Nat) (bx : Nat) (dy : Int32) (sw : Int32) (rd : Int32) (dw : Int32) (bck : Int32) (ldd : Int32) (co : Int32) (c0_ : G fa = some (.inl (1, [.ref gl, .ref bl, .ref sl, .ref bx, .int dy, .int sw, .int rd, .int dw, .int bck, .int ldd, .int co]))) : gMet l D yX2_strings (ws_ yX2_strings cX2_strings 1 (some (FieldType.object "java/util/List"))) 1 0 G n [.ref fa] (fun (v : Option Value) (G1 : gH) (n1 : Nat) => v = some (.ref sl) ∧ G1 = G ∧ n1 = n) gNox := by
  refine g_start (by decide) (Nat.le_of_ble_eq_true rfl) ?_
  intro p e s m below meth c ls C hnm hxt hI hl
  have hx := C.x
  have hb := C.b
  have hS : va_S (gA D) s.heap s.heap [] := va_S.rf
  have hz0 := hI.z
  have lc0_ := hI.lt c0_
  have hF : gF G G n gNone := gF.rf _ _ _
  have hl : lv_has ls 1 [(0, .ref fa)] := hl
  refine lv_aload_n hx hb dX2_strings_0 rfl (lv_at hl 0 rfl) ?_
  refine g_get C hI c0_ kc1 2 rfl q181 (fun _ h9 => h9) dX2_strings_1 ?_
  exact g_aret C hI hS (by omega) (by first | exact Or.inl ⟨_, rfl⟩ | exact Or.inr ⟨_, rfl⟩) (Or.inr ⟨_, rfl⟩) ⟨rfl, rfl, rfl⟩ dX2_strings_4
set_option maxHeartbeats 4000000 in
set_option maxRecDepth 100000 in
theorem c_X2_day (l : Launch) {D : gD} (hB : gBs D) (G : gH) (n : Nat) (fa : Nat) (gl : Nat) (bl : Nat) (sl : Nat) (bx : Nat) (dy : Int32) (sw : Int32) (rd : Int32) (dw : Int32) (bck : Int32) (ldd : Int32) (co : Int32) (c0_ : G fa = some (.inl (1, [.ref gl, .ref bl, .ref sl, .ref bx, .int dy, .int sw, .int rd, .int dw, .int bck, .int ldd, .int co]))) : gMet l D yX2_day (ws_ yX2_day cX2_day 1 (some FieldType.int)) 1 0 G n [.ref fa] (fun (v : Option Value) (G1 : gH) (n1 : Nat) => v = some (.int dy) ∧ G1 = G ∧ n1 = n) gNox := by
  refine g_start (by decide) (Nat.le_of_ble_eq_true rfl) ?_
  intro p e s m below meth c ls C hnm hxt hI hl
  have hx := C.x
  have hb := C.b
  have hS : va_S (gA D) s.heap s.heap [] := va_S.rf
  have hz0 := hI.z
  have lc0_ := hI.lt c0_
  have hF : gF G G n gNone := gF.rf _ _ _
  have hl : lv_has ls 1 [(0, .ref fa)] := hl
  refine lv_aload_n hx hb dX2_day_0 rfl (lv_at hl 0 rfl) ?_
  refine g_get C hI c0_ kc1 4 rfl q183 (fun _ h9 => h9) dX2_day_1 ?_
  exact g_iret C hI hS (by omega) ⟨rfl, rfl, rfl⟩ dX2_day_4
set_option maxHeartbeats 4000000 in
set_option maxRecDepth 100000 in
theorem c_X2_swellNow (l : Launch) {D : gD} (hB : gBs D) (G : gH) (n : Nat) (fa : Nat) (gl : Nat) (bl : Nat) (sl : Nat) (bx : Nat) (dy : Int32) (sw : Int32) (rd : Int32) (dw : Int32) (bck : Int32) (ldd : Int32) (co : Int32) (c0_ : G fa = some (.inl (1, [.ref gl, .ref bl, .ref sl, .ref bx, .int dy, .int sw, .int rd, .int dw, .int bck, .int ldd, .int co]))) : gMet l D yX2_swellNow (ws_ yX2_swellNow cX2_swellNow 1 (some FieldType.int)) 1 0 G n [.ref fa] (fun (v : Option Value) (G1 : gH) (n1 : Nat) => v = some (.int sw) ∧ G1 = G ∧ n1 = n) gNox := by
  refine g_start (by decide) (Nat.le_of_ble_eq_true rfl) ?_
  intro p e s m below meth c ls C hnm hxt hI hl
  have hx := C.x
  have hb := C.b
  have hS : va_S (gA D) s.heap s.heap [] := va_S.rf
  have hz0 := hI.z
  have lc0_ := hI.lt c0_
  have hF : gF G G n gNone := gF.rf _ _ _
  have hl : lv_has ls 1 [(0, .ref fa)] := hl
  refine lv_aload_n hx hb dX2_swellNow_0 rfl (lv_at hl 0 rfl) ?_
  refine g_get C hI c0_ kc1 5 rfl q184 (fun _ h9 => h9) dX2_swellNow_1 ?_
  exact g_iret C hI hS (by omega) ⟨rfl, rfl, rfl⟩ dX2_swellNow_4
set_option maxHeartbeats 4000000 in
set_option maxRecDepth 100000 in
theorem c_X2_riddleNow (l : Launch) {D : gD} (hB : gBs D) (G : gH) (n : Nat) (fa : Nat) (gl : Nat) (bl : Nat) (sl : Nat) (bx : Nat) (dy : Int32) (sw : Int32) (rd : Int32) (dw : Int32) (bck : Int32) (ldd : Int32) (co : Int32) (c0_ : G fa = some (.inl (1, [.ref gl, .ref bl, .ref sl, .ref bx, .int dy, .int sw, .int rd, .int dw, .int bck, .int ldd, .int co]))) : gMet l D yX2_riddleNow (ws_ yX2_riddleNow cX2_riddleNow 1 (some FieldType.int)) 1 0 G n [.ref fa] (fun (v : Option Value) (G1 : gH) (n1 : Nat) => v = some (.int rd) ∧ G1 = G ∧ n1 = n) gNox := by
  refine g_start (by decide) (Nat.le_of_ble_eq_true rfl) ?_
  intro p e s m below meth c ls C hnm hxt hI hl
  have hx := C.x
  have hb := C.b
  have hS : va_S (gA D) s.heap s.heap [] := va_S.rf
  have hz0 := hI.z
  have lc0_ := hI.lt c0_
  have hF : gF G G n gNone := gF.rf _ _ _
  have hl : lv_has ls 1 [(0, .ref fa)] := hl
  refine lv_aload_n hx hb dX2_riddleNow_0 rfl (lv_at hl 0 rfl) ?_
  refine g_get C hI c0_ kc1 6 rfl q185 (fun _ h9 => h9) dX2_riddleNow_1 ?_
  exact g_iret C hI hS (by omega) ⟨rfl, rfl, rfl⟩ dX2_riddleNow_4
set_option maxHeartbeats 4000000 in
set_option maxRecDepth 100000 in
theorem c_X2_drawn (l : Launch) {D : gD} (hB : gBs D) (G : gH) (n : Nat) (fa : Nat) (gl : Nat) (bl : Nat) (sl : Nat) (bx : Nat) (dy : Int32) (sw : Int32) (rd : Int32) (dw : Int32) (bck : Int32) (ldd : Int32) (co : Int32) (c0_ : G fa = some (.inl (1, [.ref gl, .ref bl, .ref sl, .ref bx, .int dy, .int sw, .int rd, .int dw, .int bck, .int ldd, .int co]))) : gMet l D yX2_drawn (ws_ yX2_drawn cX2_drawn 1 (some FieldType.int)) 1 0 G n [.ref fa] (fun (v : Option Value) (G1 : gH) (n1 : Nat) => v = some (.int dw) ∧ G1 = G ∧ n1 = n) gNox := by
  refine g_start (by decide) (Nat.le_of_ble_eq_true rfl) ?_
  intro p e s m below meth c ls C hnm hxt hI hl
  have hx := C.x
  have hb := C.b
  have hS : va_S (gA D) s.heap s.heap [] := va_S.rf
  have hz0 := hI.z
  have lc0_ := hI.lt c0_
  have hF : gF G G n gNone := gF.rf _ _ _
  have hl : lv_has ls 1 [(0, .ref fa)] := hl
  refine lv_aload_n hx hb dX2_drawn_0 rfl (lv_at hl 0 rfl) ?_
  refine g_get C hI c0_ kc1 7 rfl q186 (fun _ h9 => h9) dX2_drawn_1 ?_
  exact g_iret C hI hS (by omega) ⟨rfl, rfl, rfl⟩ dX2_drawn_4
set_option maxHeartbeats 4000000 in
set_option maxRecDepth 100000 in
theorem c_X2_back (l : Launch) {D : gD} (hB : gBs D) (G : gH) (n : Nat) (fa : Nat) (gl : Nat) (bl : Nat) (sl : Nat) (bx : Nat) (dy : Int32) (sw : Int32) (rd : Int32) (dw : Int32) (bck : Int32) (ldd : Int32) (co : Int32) (c0_ : G fa = some (.inl (1, [.ref gl, .ref bl, .ref sl, .ref bx, .int dy, .int sw, .int rd, .int dw, .int bck, .int ldd, .int co]))) : gMet l D yX2_back (ws_ yX2_back cX2_back 1 (some FieldType.int)) 1 0 G n [.ref fa] (fun (v : Option Value) (G1 : gH) (n1 : Nat) => v = some (.int bck) ∧ G1 = G ∧ n1 = n) gNox := by
  refine g_start (by decide) (Nat.le_of_ble_eq_true rfl) ?_
  intro p e s m below meth c ls C hnm hxt hI hl
  have hx := C.x
  have hb := C.b
  have hS : va_S (gA D) s.heap s.heap [] := va_S.rf
  have hz0 := hI.z
  have lc0_ := hI.lt c0_
  have hF : gF G G n gNone := gF.rf _ _ _
  have hl : lv_has ls 1 [(0, .ref fa)] := hl
  refine lv_aload_n hx hb dX2_back_0 rfl (lv_at hl 0 rfl) ?_
  refine g_get C hI c0_ kc1 8 rfl q187 (fun _ h9 => h9) dX2_back_1 ?_
  exact g_iret C hI hS (by omega) ⟨rfl, rfl, rfl⟩ dX2_back_4
set_option maxHeartbeats 4000000 in
set_option maxRecDepth 100000 in
theorem c_X2_landed (l : Launch) {D : gD} (hB : gBs D) (G : gH) (n : Nat) (fa : Nat) (gl : Nat) (bl : Nat) (sl : Nat) (bx : Nat) (dy : Int32) (sw : Int32) (rd : Int32) (dw : Int32) (bck : Int32) (ldd : Int32) (co : Int32) (c0_ : G fa = some (.inl (1, [.ref gl, .ref bl, .ref sl, .ref bx, .int dy, .int sw, .int rd, .int dw, .int bck, .int ldd, .int co]))) : gMet l D yX2_landed (ws_ yX2_landed cX2_landed 1 (some FieldType.int)) 1 0 G n [.ref fa] (fun (v : Option Value) (G1 : gH) (n1 : Nat) => v = some (.int ldd) ∧ G1 = G ∧ n1 = n) gNox := by
  refine g_start (by decide) (Nat.le_of_ble_eq_true rfl) ?_
  intro p e s m below meth c ls C hnm hxt hI hl
  have hx := C.x
  have hb := C.b
  have hS : va_S (gA D) s.heap s.heap [] := va_S.rf
  have hz0 := hI.z
  have lc0_ := hI.lt c0_
  have hF : gF G G n gNone := gF.rf _ _ _
  have hl : lv_has ls 1 [(0, .ref fa)] := hl
  refine lv_aload_n hx hb dX2_landed_0 rfl (lv_at hl 0 rfl) ?_
  refine g_get C hI c0_ kc1 9 rfl q188 (fun _ h9 => h9) dX2_landed_1 ?_
  exact g_iret C hI hS (by omega) ⟨rfl, rfl, rfl⟩ dX2_landed_4
set_option maxHeartbeats 4000000 in
set_option maxRecDepth 100000 in
theorem c_X2_coins (l : Launch) {D : gD} (hB : gBs D) (G : gH) (n : Nat) (fa : Nat) (gl : Nat) (bl : Nat) (sl : Nat) (bx : Nat) (dy : Int32) (sw : Int32) (rd : Int32) (dw : Int32) (bck : Int32) (ldd : Int32) (co : Int32) (c0_ : G fa = some (.inl (1, [.ref gl, .ref bl, .ref sl, .ref bx, .int dy, .int sw, .int rd, .int dw, .int bck, .int ldd, .int co]))) : gMet l D yX2_coins (ws_ yX2_coins cX2_coins 1 (some FieldType.int)) 1 0 G n [.ref fa] (fun (v : Option Value) (G1 : gH) (n1 : Nat) => v = some (.int co) ∧ G1 = G ∧ n1 = n) gNox := by
  refine g_start (by decide) (Nat.le_of_ble_eq_true rfl) ?_
  intro p e s m below meth c ls C hnm hxt hI hl
  have hx := C.x
  have hb := C.b
  have hS : va_S (gA D) s.heap s.heap [] := va_S.rf
  have hz0 := hI.z
  have lc0_ := hI.lt c0_
  have hF : gF G G n gNone := gF.rf _ _ _
  have hl : lv_has ls 1 [(0, .ref fa)] := hl
  refine lv_aload_n hx hb dX2_coins_0 rfl (lv_at hl 0 rfl) ?_
  refine g_get C hI c0_ kc1 10 rfl q189 (fun _ h9 => h9) dX2_coins_1 ?_
  exact g_iret C hI hS (by omega) ⟨rfl, rfl, rfl⟩ dX2_coins_4
set_option maxHeartbeats 4000000 in
set_option maxRecDepth 100000 in
theorem c_X2_swells (l : Launch) {D : gD} (hB : gBs D) (G : gH) (n : Nat) (fa : Nat) (gl : Nat) (bl : Nat) (sl : Nat) (bx : Nat) (dy : Int32) (sw : Int32) (rd : Int32) (dw : Int32) (bck : Int32) (ldd : Int32) (co : Int32) (a1 : Int32) (c0_ : G fa = some (.inl (1, [.ref gl, .ref bl, .ref sl, .ref bx, .int dy, .int sw, .int rd, .int dw, .int bck, .int ldd, .int co]))) (hz : gz D ≤ fa) : gMet l D yX2_swells (ws_ yX2_swells cX2_swells 3 (some FieldType.int)) 1 0 G n [.ref fa, .int a1] (fun (v : Option Value) (G1 : gH) (n1 : Nat) => v = some (.int sw) ∧ n ≤ n1 ∧ gF G G1 n (fun q : Nat => q = fa) ∧ G1 fa = some (.inl (1, [.ref gl, .ref bl, .ref sl, .ref bx, .int dy, .int a1, .int rd, .int dw, .int bck, .int ldd, .int co]))) gNox := by
  refine g_start (by decide) (Nat.le_of_ble_eq_true rfl) ?_
  intro p e s m below meth c ls C hnm hxt hI hl
  have hx := C.x
  have hb := C.b
  have hS : va_S (gA D) s.heap s.heap [] := va_S.rf
  have hz0 := hI.z
  have lc0_ := hI.lt c0_
  have hF : gF G G n (fun q : Nat => q = fa) := gF.rf _ _ _
  have hl : lv_has ls 3 [(0, .ref fa), (1, .int a1)] := hl
  refine lv_aload_n hx hb dX2_swells_0 rfl (lv_at hl 0 rfl) ?_
  refine g_get C hI c0_ kc1 5 rfl q184 (fun _ h9 => h9) dX2_swells_1 ?_
  refine lv_istore_n (lv' := [(2, .int sw), (0, .ref fa), (1, .int a1)]) hx hb dX2_swells_4 rfl hl (by decide) rfl (fun ls hl => ?_)
  refine lv_aload_n hx hb dX2_swells_5 rfl (lv_at hl 1 rfl) ?_
  refine lv_iload_n hx hb dX2_swells_6 rfl (lv_at hl 2 rfl) ?_
  refine g_put (fs2 := [.ref gl, .ref bl, .ref sl, .ref bx, .int dy, .int a1, .int rd, .int dw, .int bck, .int ldd, .int co]) C hI hS c0_ (by omega) kc1 5 (Nat.le_of_ble_eq_true rfl) q184 (fun _ h9 => h9) rfl rfl rfl rfl dX2_swells_7 (fun G5564 H locs e5565 hI hS => ?_)
  have c0_ : G5564 fa = some (.inl (1, [.ref gl, .ref bl, .ref sl, .ref bx, .int dy, .int a1, .int rd, .int dw, .int bck, .int ldd, .int co])) := gE_s e5565
  have hF := gE_F e5565 hF (Or.inr rfl)
  refine lv_iload_n hx hb dX2_swells_10 rfl (lv_at hl 0 rfl) ?_
  exact g_iret C hI hS (by omega) ⟨rfl, (by omega), hF, c0_⟩ dX2_swells_11
set_option maxHeartbeats 4000000 in
set_option maxRecDepth 100000 in
theorem c_X2_riddles (l : Launch) {D : gD} (hB : gBs D) (G : gH) (n : Nat) (fa : Nat) (gl : Nat) (bl : Nat) (sl : Nat) (bx : Nat) (dy : Int32) (sw : Int32) (rd : Int32) (dw : Int32) (bck : Int32) (ldd : Int32) (co : Int32) (a1 : Int32) (c0_ : G fa = some (.inl (1, [.ref gl, .ref bl, .ref sl, .ref bx, .int dy, .int sw, .int rd, .int dw, .int bck, .int ldd, .int co]))) (hz : gz D ≤ fa) : gMet l D yX2_riddles (ws_ yX2_riddles cX2_riddles 3 (some FieldType.int)) 1 0 G n [.ref fa, .int a1] (fun (v : Option Value) (G1 : gH) (n1 : Nat) => v = some (.int rd) ∧ n ≤ n1 ∧ gF G G1 n (fun q : Nat => q = fa) ∧ G1 fa = some (.inl (1, [.ref gl, .ref bl, .ref sl, .ref bx, .int dy, .int sw, .int a1, .int dw, .int bck, .int ldd, .int co]))) gNox := by
  refine g_start (by decide) (Nat.le_of_ble_eq_true rfl) ?_
  intro p e s m below meth c ls C hnm hxt hI hl
  have hx := C.x
  have hb := C.b
  have hS : va_S (gA D) s.heap s.heap [] := va_S.rf
  have hz0 := hI.z
  have lc0_ := hI.lt c0_
  have hF : gF G G n (fun q : Nat => q = fa) := gF.rf _ _ _
  have hl : lv_has ls 3 [(0, .ref fa), (1, .int a1)] := hl
  refine lv_aload_n hx hb dX2_riddles_0 rfl (lv_at hl 0 rfl) ?_
  refine g_get C hI c0_ kc1 6 rfl q185 (fun _ h9 => h9) dX2_riddles_1 ?_
  refine lv_istore_n (lv' := [(2, .int rd), (0, .ref fa), (1, .int a1)]) hx hb dX2_riddles_4 rfl hl (by decide) rfl (fun ls hl => ?_)
  refine lv_aload_n hx hb dX2_riddles_5 rfl (lv_at hl 1 rfl) ?_
  refine lv_iload_n hx hb dX2_riddles_6 rfl (lv_at hl 2 rfl) ?_
  refine g_put (fs2 := [.ref gl, .ref bl, .ref sl, .ref bx, .int dy, .int sw, .int a1, .int dw, .int bck, .int ldd, .int co]) C hI hS c0_ (by omega) kc1 6 (Nat.le_of_ble_eq_true rfl) q185 (fun _ h9 => h9) rfl rfl rfl rfl dX2_riddles_7 (fun G5566 H locs e5567 hI hS => ?_)
  have c0_ : G5566 fa = some (.inl (1, [.ref gl, .ref bl, .ref sl, .ref bx, .int dy, .int sw, .int a1, .int dw, .int bck, .int ldd, .int co])) := gE_s e5567
  have hF := gE_F e5567 hF (Or.inr rfl)
  refine lv_iload_n hx hb dX2_riddles_10 rfl (lv_at hl 0 rfl) ?_
  exact g_iret C hI hS (by omega) ⟨rfl, (by omega), hF, c0_⟩ dX2_riddles_11
set_option maxHeartbeats 4000000 in
set_option maxRecDepth 100000 in
theorem c_X2_fills (l : Launch) {D : gD} (hB : gBs D) (G : gH) (n : Nat) (fa : Nat) (gl : Nat) (bl : Nat) (sl : Nat) (bx : Nat) (dy : Int32) (sw : Int32) (rd : Int32) (dw : Int32) (bck : Int32) (ldd : Int32) (co : Int32) (x : Nat → Int32) (jx : Nat) (a1 : Int32) (a2 : Int32) (c0_ : G fa = some (.inl (1, [.ref gl, .ref bl, .ref sl, .ref bx, .int dy, .int sw, .int rd, .int dw, .int bck, .int ldd, .int co]))) (c1_ : G bx = some (aI 3 x)) (hzx : gz D ≤ bx) (hj : jx < 3) (ej : a1 = nI jx) : gMet l D yX2_fills (ws_ yX2_fills cX2_fills 3 (some FieldType.int)) 1 0 G n [.ref fa, .int a1, .int a2] (fun (v : Option Value) (G1 : gH) (n1 : Nat) => v = some (.int (sMin 99 (x jx + a2))) ∧ n ≤ n1 ∧ gF G G1 n (fun q : Nat => q = bx) ∧ G1 bx = some (aI 3 (gup x jx (sMin 99 (x jx + a2))))) gNox := by
  refine g_start (by decide) (Nat.le_of_ble_eq_true rfl) ?_
  intro p e s m below meth c ls C hnm hxt hI hl
  have hx := C.x
  have hb := C.b
  have hS : va_S (gA D) s.heap s.heap [] := va_S.rf
  have hz0 := hI.z
  have lc0_ := hI.lt c0_
  have lc1_ := hI.lt c1_
  have hF : gF G G n (fun q : Nat => q = bx) := gF.rf _ _ _
  have hl : lv_has ls 3 [(0, .ref fa), (1, .int a1), (2, .int a2)] := hl
  refine lv_aload_n hx hb dX2_fills_0 rfl (lv_at hl 0 rfl) ?_
  refine g_get C hI c0_ kc1 3 rfl q182 (fun _ h9 => h9) dX2_fills_1 ?_
  refine lv_iload_n hx hb dX2_fills_4 rfl (lv_at hl 1 rfl) ?_
  refine lv_bipush (v := 99) hx hb dX2_fills_5 (by decide) ?_
  refine lv_aload_n hx hb dX2_fills_7 rfl (lv_at hl 0 rfl) ?_
  refine g_get C hI c0_ kc1 3 rfl q182 (fun _ h9 => h9) dX2_fills_8 ?_
  refine lv_iload_n hx hb dX2_fills_11 rfl (lv_at hl 1 rfl) ?_
  refine g_iald (v := .int (x jx)) C hI c1_ (gix ej (by omega) (by omega)) (congrArg Value.int (gixv (f := x) ej (by omega))) dX2_fills_12 ?_
  refine lv_iload_n hx hb dX2_fills_13 rfl (lv_at hl 2 rfl) ?_
  refine lv_iadd hx hb dX2_fills_14 ?_
  refine g_min C hl q1719 (by decide) (by omega) (Nat.le_of_ble_eq_true rfl) dX2_fills_15 ?_
  refine g_iast C hI hS c1_ (by omega) (gix ej (by omega) (by omega)) dX2_fills_18 (fun G5568 H locs e5569 hI hS => ?_)
  rw [gup_e ej (by omega)] at e5569
  have c0_ := gE_k e5569 c0_ (g_no c0_ c1_)
  have c1_ : G5568 bx = some (aI 3 (gup x jx (sMin 99 ((x jx) + a2)))) := gE_s e5569
  have hF := gE_F e5569 hF (Or.inr rfl)
  refine lv_aload_n hx hb dX2_fills_19 rfl (lv_at hl 0 rfl) ?_
  refine g_get C hI c0_ kc1 3 rfl q182 (fun _ h9 => h9) dX2_fills_20 ?_
  refine lv_iload_n hx hb dX2_fills_23 rfl (lv_at hl 1 rfl) ?_
  refine g_iald (v := .int ((gup x jx (sMin 99 ((x jx) + a2))) jx)) C hI c1_ (gix ej (by omega) (by omega)) (congrArg Value.int (gixv (f := gup x jx (sMin 99 ((x jx) + a2))) ej (by omega))) dX2_fills_24 ?_
  exact g_iret C hI hS (by omega) ⟨(by rw [gup_s]), (by omega), hF, c1_⟩ dX2_fills_25
set_option maxHeartbeats 4000000 in
set_option maxRecDepth 100000 in
theorem c_X2_checkHomeA (l : Launch) {D : gD} (hB : gBs D) (hfl : l.stackTraces = false) (G : gH) (n : Nat) (bn : Nat) (bo : Int32) (pq : Nat) (hu : Int32) (mi : Int32) (lg : Int32) (sk : Int32) (hd : Int32) (c0_ : G bn = some (.inl (3, [.int bo, .ref pq, .int hu, .int mi, .int lg, .int sk, .int hd]))) (c1_ : G pq = some (.inl (4, []))) : gMet l D yX2_checkHome (ws_ yX2_checkHome cX2_checkHome 3 none) 15 0 G n [.ref bn] (fun (v : Option Value) (G1 : gH) (n1 : Nat) => v = none ∧ G1 = G ∧ n1 = n) gNox := by
  refine g_start (by decide) (Nat.le_of_ble_eq_true rfl) ?_
  intro p e s m below meth c ls C hnm hxt hI hl
  have hx := C.x
  have hb := C.b
  have hS : va_S (gA D) s.heap s.heap [] := va_S.rf
  have hz0 := hI.z
  have lc0_ := hI.lt c0_
  have lc1_ := hI.lt c1_
  have hF : gF G G n gNone := gF.rf _ _ _
  have hl : lv_has ls 3 [(0, .ref bn)] := hl
  refine lv_aload_n hx hb dX2_checkHome_0 rfl (lv_at hl 0 rfl) ?_
  refine g_V (As := []) (rest := []) (lv := [(0, .ref bn)]) C hI hS (c_X5_place l hB G n bn bo pq hu mi lg sk hd c0_ ) c0_ rfl rfl q1322 q1323 q1324 q112 q1325 (⟨by decide, by decide, by decide⟩ : gArg _ 0) rfl ⟨by decide, by decide⟩ (by omega) hl rfl (Nat.le_of_ble_eq_true rfl) dX2_checkHome_1 (fun v5571 G5572 n5573 H locs hp5574 hI hS => ?_) gKx.no
  obtain ⟨rfl, eG5572, en5573⟩ := hp5574
  refine W.widen (k := 0) (n := 200 * (0)) (by omega) (by omega) ?_
  rw [eG5572, en5573] at hI
  refine lv_astore_n (lv' := [(2, .ref pq), (0, .ref bn)]) hx hb dX2_checkHome_4 rfl hl (by decide) rfl (fun ls hl => ?_)
  refine lv_aload_n hx hb dX2_checkHome_5 rfl (lv_at hl 0 rfl) ?_
  refine g_instNo C hI c1_ rfl q1309 nc0 dX2_checkHome_6 ?_
  refine lv_if_eq (tgt := 30) hx hb dX2_checkHome_9 (by decide) (fun c_5577 => ?_) (fun c_5577 => ?_)
  · skip
    exact g_vret C hI hS (by omega) ⟨rfl, rfl, rfl⟩ dX2_checkHome_30
  · exact absurd (by decide) c_5577
set_option maxHeartbeats 4000000 in
set_option maxRecDepth 100000 in
theorem c_X2_checkHomeG (l : Launch) {D : gD} (hB : gBs D) (hfl : l.stackTraces = false) (G : gH) (n : Nat) (bn : Nat) (bo : Int32) (pq : Nat) (hu : Int32) (mi : Int32) (lg : Int32) (sk : Int32) (hd : Int32) (pv : Int32) (c0_ : G bn = some (.inl (3, [.int bo, .ref pq, .int hu, .int mi, .int lg, .int sk, .int hd]))) (c1_ : G pq = some (.inl (7, [.int pv]))) : gMet l D yX2_checkHome (ws_ yX2_checkHome cX2_checkHome 3 none) 15 1 G n [.ref bn] (fun (v : Option Value) (G1 : gH) (n1 : Nat) => v = none ∧ G1 = G ∧ n1 = n ∧ False) (xRf D 2 pv True gNone G n) := by
  refine g_start (by decide) (Nat.le_of_ble_eq_true rfl) ?_
  intro p e s m below meth c ls C hnm hxt hI hl
  have hx := C.x
  have hb := C.b
  have hS : va_S (gA D) s.heap s.heap [] := va_S.rf
  have hz0 := hI.z
  have lc0_ := hI.lt c0_
  have lc1_ := hI.lt c1_
  have hF : gF G G n gNone := gF.rf _ _ _
  have hl : lv_has ls 3 [(0, .ref bn)] := hl
  refine lv_aload_n hx hb dX2_checkHome_0 rfl (lv_at hl 0 rfl) ?_
  refine g_V (As := []) (rest := []) (lv := [(0, .ref bn)]) C hI hS (c_X5_place l hB G n bn bo pq hu mi lg sk hd c0_ ) c0_ rfl rfl q1322 q1323 q1324 q112 q1325 (⟨by decide, by decide, by decide⟩ : gArg _ 0) rfl ⟨by decide, by decide⟩ (by omega) hl rfl (Nat.le_of_ble_eq_true rfl) dX2_checkHome_1 (fun v5578 G5579 n5580 H locs hp5581 hI hS => ?_) gKx.no
  obtain ⟨rfl, eG5579, en5580⟩ := hp5581
  refine W.widen (k := 0) (n := 200 * (0)) (by omega) (by omega) ?_
  rw [eG5579, en5580] at hI
  refine lv_astore_n (lv' := [(2, .ref pq), (0, .ref bn)]) hx hb dX2_checkHome_4 rfl hl (by decide) rfl (fun ls hl => ?_)
  refine lv_aload_n hx hb dX2_checkHome_5 rfl (lv_at hl 0 rfl) ?_
  refine g_inst C hI c1_ rfl q1309 dX2_checkHome_6 ?_
  refine lv_if_eq (tgt := 30) hx hb dX2_checkHome_9 (by decide) (fun c_5584 => ?_) (fun c_5584 => ?_)
  · exact absurd c_5584 (by decide)
  · skip
    refine lv_aload_n hx hb dX2_checkHome_12 rfl (lv_at hl 0 rfl) ?_
    refine g_chk C hI c1_ rfl q1309 dX2_checkHome_13 ?_
    refine lv_astore_n (lv' := [(1, .ref pq), (2, .ref pq), (0, .ref bn)]) hx hb dX2_checkHome_16 rfl hl (by decide) rfl (fun ls hl => ?_)
    refine g_new (fs := [.null, .null, .null, .null, .null, .int 0, .int 0, .int 0]) C hI hS kc8 rfl q1326 q1327 q117 (by decide) (by omega) dX2_checkHome_17 (fun G5585 H e5586 hI hS => ?_)
    have c0_ := gE_k e5586 c0_ (by omega)
    have c1_ := gE_k e5586 c1_ (by omega)
    have c5587 : G5585 n = some (.inl (8, [.null, .null, .null, .null, .null, .int 0, .int 0, .int 0])) := gE_s e5586
    have hF := gE_F e5586 hF (Or.inl (by omega))
    refine lv_dup hx hb dX2_checkHome_20 rfl ?_
    refine lv_iconst (v := 2) hx hb dX2_checkHome_21 (by decide) ?_
    refine lv_aload_n hx hb dX2_checkHome_22 rfl (lv_at hl 0 rfl) ?_
    refine g_V (As := []) (rest := [.int 2, .ref n, .ref n]) (lv := [(1, .ref pq), (2, .ref pq), (0, .ref bn)]) C hI hS (c_X9_ground l hB G5585 (n + 1) pq pv c1_ ) c1_ rfl rfl q1335 q1336 q1337 q116 q1338 (⟨by decide, by decide, by decide⟩ : gArg _ 0) rfl ⟨by decide, by decide⟩ (by omega) hl rfl (Nat.le_of_ble_eq_true rfl) dX2_checkHome_23 (fun v5588 G5589 n5590 H locs hp5591 hI hS => ?_) gKx.no
    obtain ⟨rfl, eG5589, en5590⟩ := hp5591
    refine W.widen (k := 1) (n := 200 * (1)) (by omega) (by omega) ?_
    rw [eG5589, en5590] at hI
    refine g_I (As := [.int 2, .int pv]) (rest := [.ref n]) (lv := [(1, .ref pq), (2, .ref pq), (0, .ref bn)]) C hI hS (c_X10_init l hB hfl G5585 (n + 1) n 2 pv c5587 (by omega)) rfl q1339 q1340 q117 q1341 (⟨by decide, by decide, by decide⟩ : gArg _ 2) rfl ⟨by decide, by decide⟩ (by omega) hl rfl (Nat.le_of_ble_eq_true rfl) dX2_checkHome_26 (fun v5594 G5595 n5596 H locs hp5597 hI hS => ?_) gKx.no
    obtain ⟨rfl, hn5598, hF5599, c5600⟩ := hp5597
    refine W.widen (k := 1) (n := 200 * (1)) (by omega) (by omega) ?_
    have c0_ := hF5599.at c0_ (by omega) (g_nc c0_ c5587 (by decide))
    have c1_ := hF5599.at c1_ (by omega) (g_nc c1_ c5587 (by decide))
    have hF := hF.trans hF5599 (by omega) (fun q hq => (fun h => by exfalso; omega))
    exact g_athrow C hI c5600 (r := (RX10, TX10, 8)) rfl (by omega) dX2_checkHome_29 (g_out0 C hxt hI hS (by omega) ⟨trivial, rfl, Nat.le_refl _, by omega, hF, c5600⟩)
set_option maxHeartbeats 4000000 in
set_option maxRecDepth 100000 in
theorem c_X2_checkOutG (l : Launch) {D : gD} (hB : gBs D) (hfl : l.stackTraces = false) (G : gH) (n : Nat) (fa : Nat) (gl : Nat) (bl : Nat) (sl : Nat) (bx : Nat) (dy : Int32) (sw : Int32) (rd : Int32) (dw : Int32) (bck : Int32) (ldd : Int32) (co : Int32) (um : Int32) (ua : Nat) (us : Int32) (uv : Nat → Value) (uk : Nat) (jx : Nat) (a1 : Int32) (bn : Nat) (bo : Int32) (pq : Nat) (hu : Int32) (mi : Int32) (lg : Int32) (sk : Int32) (hd : Int32) (pv : Int32) (c0_ : G fa = some (.inl (1, [.ref gl, .ref bl, .ref sl, .ref bx, .int dy, .int sw, .int rd, .int dw, .int bck, .int ldd, .int co]))) (c1_ : G bl = some (.inl (15, [.int um, .ref ua, .int us]))) (c2_ : G ua = some (aR 10 uv)) (c3_ : G bn = some (.inl (3, [.int bo, .ref pq, .int hu, .int mi, .int lg, .int sk, .int hd]))) (c4_ : G pq = some (.inl (7, [.int pv]))) (ej : a1 = nI jx) (hus : us = nI uk) (huk : uk ≤ 10) (huj : jx < uk) (huv : uv jx = .ref bn) : gMet l D yX2_checkOut (ws_ yX2_checkOut cX2_checkOut 2 none) 16 1 G n [.ref fa, .int a1] (fun (v : Option Value) (G1 : gH) (n1 : Nat) => v = none ∧ G1 = G ∧ n1 = n) gNox := by
  refine g_start (by decide) (Nat.le_of_ble_eq_true rfl) ?_
  intro p e s m below meth c ls C hnm hxt hI hl
  have hx := C.x
  have hb := C.b
  have hS : va_S (gA D) s.heap s.heap [] := va_S.rf
  have hz0 := hI.z
  have lc0_ := hI.lt c0_
  have lc1_ := hI.lt c1_
  have lc2_ := hI.lt c2_
  have lc3_ := hI.lt c3_
  have lc4_ := hI.lt c4_
  have hF : gF G G n gNone := gF.rf _ _ _
  have hl : lv_has ls 2 [(0, .ref fa), (1, .int a1)] := hl
  refine lv_aload_n hx hb dX2_checkOut_0 rfl (lv_at hl 0 rfl) ?_
  refine lv_iload_n hx hb dX2_checkOut_1 rfl (lv_at hl 1 rfl) ?_
  refine g_V (As := [.int a1]) (rest := []) (lv := [(0, .ref fa), (1, .int a1)]) C hI hS (c_X2_boat l hB G n fa gl bl sl bx dy sw rd dw bck ldd co um ua us uv _ jx bn ([.int bo, .ref pq, .int hu, .int mi, .int lg, .int sk, .int hd]) a1 c0_ c1_ c2_ c3_ ej hus huk huj huv) c0_ rfl rfl q1305 q1306 q1307 q78 q1308 (⟨by decide, by decide, by decide⟩ : gArg _ 1) rfl ⟨by decide, by decide⟩ (by omega) hl rfl (Nat.le_of_ble_eq_true rfl) dX2_checkOut_2 (fun v5601 G5602 n5603 H locs hp5604 hI hS => ?_) gKx.no
  obtain ⟨rfl, eG5602, en5603⟩ := hp5604
  refine W.widen (k := 0) (n := 200 * (0)) (by omega) (by omega) ?_
  rw [eG5602, en5603] at hI
  refine g_V (As := []) (rest := []) (lv := [(0, .ref fa), (1, .int a1)]) C hI hS (c_X5_place l hB G n bn bo pq hu mi lg sk hd c3_ ) c3_ rfl rfl q1322 q1323 q1324 q112 q1325 (⟨by decide, by decide, by decide⟩ : gArg _ 0) rfl ⟨by decide, by decide⟩ (by omega) hl rfl (Nat.le_of_ble_eq_true rfl) dX2_checkOut_5 (fun v5607 G5608 n5609 H locs hp5610 hI hS => ?_) gKx.no
  obtain ⟨rfl, eG5608, en5609⟩ := hp5610
  refine W.widen (k := 0) (n := 200 * (0)) (by omega) (by omega) ?_
  rw [eG5608, en5609] at hI
  refine g_inst C hI c4_ rfl q1309 dX2_checkOut_8 ?_
  refine lv_iconst (v := 5) hx hb dX2_checkOut_11 (by decide) ?_
  refine lv_iload_n hx hb dX2_checkOut_12 rfl (lv_at hl 1 rfl) ?_
  refine g_SN (As := [.int 1, .int 5, .int a1]) (rest := []) (lv := [(0, .ref fa), (1, .int a1)]) C hI hS (c_X1_meet l hB hfl G n 1 5 a1  ) (gNw_in q1355 rfl) q1356 q77 q1357 (⟨by decide, by decide, by decide⟩ : gArg _ 3) rfl ⟨by decide, by decide⟩ (by omega) hl rfl (Nat.le_of_ble_eq_true rfl) dX2_checkOut_13 (fun v5613 G5614 n5615 H locs hp5616 hI hS => ?_) ?_
  · skip
    obtain ⟨rfl, eG5614, en5615, hh5619⟩ := hp5616
    refine W.widen (k := 1) (n := 200 * (1)) (by omega) (by omega) ?_
    rw [eG5614, en5615] at hI
    exact g_vret C hI hS (by omega) ⟨rfl, rfl, rfl⟩ dX2_checkOut_16
  · skip
    intro E5620 q5621 G5622 n5623 H locs hp5624 hI hS
    exact absurd (hp5624).1 (by decide)
set_option maxHeartbeats 4000000 in
set_option maxRecDepth 100000 in
theorem c_X2_checkOutA (l : Launch) {D : gD} (hB : gBs D) (hfl : l.stackTraces = false) (G : gH) (n : Nat) (fa : Nat) (gl : Nat) (bl : Nat) (sl : Nat) (bx : Nat) (dy : Int32) (sw : Int32) (rd : Int32) (dw : Int32) (bck : Int32) (ldd : Int32) (co : Int32) (um : Int32) (ua : Nat) (us : Int32) (uv : Nat → Value) (uk : Nat) (jx : Nat) (a1 : Int32) (bn : Nat) (bo : Int32) (pq : Nat) (hu : Int32) (mi : Int32) (lg : Int32) (sk : Int32) (hd : Int32) (c0_ : G fa = some (.inl (1, [.ref gl, .ref bl, .ref sl, .ref bx, .int dy, .int sw, .int rd, .int dw, .int bck, .int ldd, .int co]))) (c1_ : G bl = some (.inl (15, [.int um, .ref ua, .int us]))) (c2_ : G ua = some (aR 10 uv)) (c3_ : G bn = some (.inl (3, [.int bo, .ref pq, .int hu, .int mi, .int lg, .int sk, .int hd]))) (c4_ : G pq = some (.inl (4, []))) (ej : a1 = nI jx) (hus : us = nI uk) (huk : uk ≤ 10) (huj : jx < uk) (huv : uv jx = .ref bn) : gMet l D yX2_checkOut (ws_ yX2_checkOut cX2_checkOut 2 none) 16 1 G n [.ref fa, .int a1] (fun (v : Option Value) (G1 : gH) (n1 : Nat) => v = none ∧ G1 = G ∧ n1 = n ∧ False) (xRf D 5 a1 True gNone G n) := by
  refine g_start (by decide) (Nat.le_of_ble_eq_true rfl) ?_
  intro p e s m below meth c ls C hnm hxt hI hl
  have hx := C.x
  have hb := C.b
  have hS : va_S (gA D) s.heap s.heap [] := va_S.rf
  have hz0 := hI.z
  have lc0_ := hI.lt c0_
  have lc1_ := hI.lt c1_
  have lc2_ := hI.lt c2_
  have lc3_ := hI.lt c3_
  have lc4_ := hI.lt c4_
  have hF : gF G G n gNone := gF.rf _ _ _
  have hl : lv_has ls 2 [(0, .ref fa), (1, .int a1)] := hl
  refine lv_aload_n hx hb dX2_checkOut_0 rfl (lv_at hl 0 rfl) ?_
  refine lv_iload_n hx hb dX2_checkOut_1 rfl (lv_at hl 1 rfl) ?_
  refine g_V (As := [.int a1]) (rest := []) (lv := [(0, .ref fa), (1, .int a1)]) C hI hS (c_X2_boat l hB G n fa gl bl sl bx dy sw rd dw bck ldd co um ua us uv _ jx bn ([.int bo, .ref pq, .int hu, .int mi, .int lg, .int sk, .int hd]) a1 c0_ c1_ c2_ c3_ ej hus huk huj huv) c0_ rfl rfl q1305 q1306 q1307 q78 q1308 (⟨by decide, by decide, by decide⟩ : gArg _ 1) rfl ⟨by decide, by decide⟩ (by omega) hl rfl (Nat.le_of_ble_eq_true rfl) dX2_checkOut_2 (fun v5625 G5626 n5627 H locs hp5628 hI hS => ?_) gKx.no
  obtain ⟨rfl, eG5626, en5627⟩ := hp5628
  refine W.widen (k := 0) (n := 200 * (0)) (by omega) (by omega) ?_
  rw [eG5626, en5627] at hI
  refine g_V (As := []) (rest := []) (lv := [(0, .ref fa), (1, .int a1)]) C hI hS (c_X5_place l hB G n bn bo pq hu mi lg sk hd c3_ ) c3_ rfl rfl q1322 q1323 q1324 q112 q1325 (⟨by decide, by decide, by decide⟩ : gArg _ 0) rfl ⟨by decide, by decide⟩ (by omega) hl rfl (Nat.le_of_ble_eq_true rfl) dX2_checkOut_5 (fun v5631 G5632 n5633 H locs hp5634 hI hS => ?_) gKx.no
  obtain ⟨rfl, eG5632, en5633⟩ := hp5634
  refine W.widen (k := 0) (n := 200 * (0)) (by omega) (by omega) ?_
  rw [eG5632, en5633] at hI
  refine g_instNo C hI c4_ rfl q1309 nc0 dX2_checkOut_8 ?_
  refine lv_iconst (v := 5) hx hb dX2_checkOut_11 (by decide) ?_
  refine lv_iload_n hx hb dX2_checkOut_12 rfl (lv_at hl 1 rfl) ?_
  refine g_SN (As := [.int 0, .int 5, .int a1]) (rest := []) (lv := [(0, .ref fa), (1, .int a1)]) C hI hS (c_X1_meet l hB hfl G n 0 5 a1  ) (gNw_in q1355 rfl) q1356 q77 q1357 (⟨by decide, by decide, by decide⟩ : gArg _ 3) rfl ⟨by decide, by decide⟩ (by omega) hl rfl (Nat.le_of_ble_eq_true rfl) dX2_checkOut_13 (fun v5637 G5638 n5639 H locs hp5640 hI hS => ?_) ?_
  · skip
    obtain ⟨rfl, eG5638, en5639, hh5643⟩ := hp5640
    refine W.widen (k := 1) (n := 200 * (1)) (by omega) (by omega) ?_
    rw [eG5638, en5639] at hI
    exact absurd rfl hh5643
  · skip
    intro E5644 q5645 G5646 n5647 H locs hp5648 hI hS
    exact g_out0 C hxt hI hS (by omega) (hp5648.up (fun _ => trivial) (by omega) hF (fun _ _ h => h.elim))
set_option maxHeartbeats 4000000 in
set_option maxRecDepth 100000 in
theorem c_X2_goesOutA (l : Launch) {D : gD} (hB : gBs D) (hfl : l.stackTraces = false) (G : gH) (n : Nat) (fa : Nat) (gl : Nat) (bl : Nat) (sl : Nat) (bx : Nat) (dy : Int32) (sw : Int32) (rd : Int32) (dw : Int32) (bck : Int32) (ldd : Int32) (co : Int32) (um : Int32) (ua : Nat) (us : Int32) (uv : Nat → Value) (uk : Nat) (jx : Nat) (a1 : Int32) (bn : Nat) (bo : Int32) (pq : Nat) (hu : Int32) (mi : Int32) (lg : Int32) (sk : Int32) (hd : Int32) (a2 : Int32) (c0_ : G fa = some (.inl (1, [.ref gl, .ref bl, .ref sl, .ref bx, .int dy, .int sw, .int rd, .int dw, .int bck, .int ldd, .int co]))) (c1_ : G bl = some (.inl (15, [.int um, .ref ua, .int us]))) (c2_ : G ua = some (aR 10 uv)) (c3_ : G bn = some (.inl (3, [.int bo, .ref pq, .int hu, .int mi, .int lg, .int sk, .int hd]))) (c4_ : G pq = some (.inl (4, []))) (ej : a1 = nI jx) (hus : us = nI uk) (huk : uk ≤ 10) (huj : jx < uk) (huv : uv jx = .ref bn) (hz : gz D ≤ bn) : gMet l D yX2_goesOut (ws_ yX2_goesOut cX2_goesOut 5 (some FieldType.int)) 17 3 G n [.ref fa, .int a1, .int a2] (fun (v : Option Value) (G1 : gH) (n1 : Nat) => v = some (.int (hu - (a2 + 1))) ∧ n ≤ n1 ∧ gF G G1 n (fun q : Nat => q = bn) ∧ G1 bn = some (.inl (3, [.int bo, .ref n, .int (hu - (a2 + 1)), .int mi, .int lg, .int sk, .int hd])) ∧ G1 n = some (.inl (7, [.int a2])) ∧ ¬ bo < sw ∧ ¬ hu < a2 + 1) (xRf D (if bo < sw then 3 else 4) (if bo < sw then sw else a2 + 1 - hu) (bo < sw ∨ hu < a2 + 1) (fun q => q = bn) G n) := by
  refine g_start (by decide) (Nat.le_of_ble_eq_true rfl) ?_
  intro p e s m below meth c ls C hnm hxt hI hl
  have hx := C.x
  have hb := C.b
  have hS : va_S (gA D) s.heap s.heap [] := va_S.rf
  have hz0 := hI.z
  have lc0_ := hI.lt c0_
  have lc1_ := hI.lt c1_
  have lc2_ := hI.lt c2_
  have lc3_ := hI.lt c3_
  have lc4_ := hI.lt c4_
  have hF : gF G G n (fun q : Nat => q = bn) := gF.rf _ _ _
  have hl : lv_has ls 5 [(0, .ref fa), (1, .int a1), (2, .int a2)] := hl
  refine lv_aload_n hx hb dX2_goesOut_0 rfl (lv_at hl 0 rfl) ?_
  refine lv_iload_n hx hb dX2_goesOut_1 rfl (lv_at hl 1 rfl) ?_
  refine g_V (As := [.int a1]) (rest := []) (lv := [(0, .ref fa), (1, .int a1), (2, .int a2)]) C hI hS (c_X2_boat l hB G n fa gl bl sl bx dy sw rd dw bck ldd co um ua us uv _ jx bn ([.int bo, .ref pq, .int hu, .int mi, .int lg, .int sk, .int hd]) a1 c0_ c1_ c2_ c3_ ej hus huk huj huv) c0_ rfl rfl q1305 q1306 q1307 q78 q1308 (⟨by decide, by decide, by decide⟩ : gArg _ 1) rfl ⟨by decide, by decide⟩ (by omega) hl rfl (Nat.le_of_ble_eq_true rfl) dX2_goesOut_2 (fun v5649 G5650 n5651 H locs hp5652 hI hS => ?_) gKx.no
  obtain ⟨rfl, eG5650, en5651⟩ := hp5652
  refine W.widen (k := 0) (n := 200 * (0)) (by omega) (by omega) ?_
  rw [eG5650, en5651] at hI
  refine lv_astore_n (lv' := [(3, .ref bn), (0, .ref fa), (1, .int a1), (2, .int a2)]) hx hb dX2_goesOut_5 rfl hl (by decide) rfl (fun ls hl => ?_)
  refine g_new (fs := [.int 0]) C hI hS kc7 rfl q1309 q1310 q116 (by decide) (by omega) dX2_goesOut_6 (fun G5655 H e5656 hI hS => ?_)
  have c0_ := gE_k e5656 c0_ (by omega)
  have c1_ := gE_k e5656 c1_ (by omega)
  have c2_ := gE_k e5656 c2_ (by omega)
  have c3_ := gE_k e5656 c3_ (by omega)
  have c4_ := gE_k e5656 c4_ (by omega)
  have c5657 : G5655 n = some (.inl (7, [.int 0])) := gE_s e5656
  have hF := gE_F e5656 hF (Or.inl (by omega))
  refine lv_dup hx hb dX2_goesOut_9 rfl ?_
  refine lv_iload_n hx hb dX2_goesOut_10 rfl (lv_at hl 3 rfl) ?_
  refine g_I (As := [.int a2]) (rest := [.ref n]) (lv := [(3, .ref bn), (0, .ref fa), (1, .int a1), (2, .int a2)]) C hI hS (c_X9_init l hB G5655 (n + 1) n a2 c5657 (by omega)) rfl q1311 q1312 q116 q1313 (⟨by decide, by decide, by decide⟩ : gArg _ 1) rfl ⟨by decide, by decide⟩ (by omega) hl rfl (Nat.le_of_ble_eq_true rfl) dX2_goesOut_11 (fun v5658 G5659 n5660 H locs hp5661 hI hS => ?_) gKx.no
  obtain ⟨rfl, hn5662, hF5663, c5664⟩ := hp5661
  refine W.widen (k := 1) (n := 200 * (1)) (by omega) (by omega) ?_
  have c0_ := hF5663.at c0_ (by omega) (g_nc c0_ c5657 (by decide))
  have c1_ := hF5663.at c1_ (by omega) (g_nc c1_ c5657 (by decide))
  have c2_ := hF5663.at c2_ (by omega) (g_on c2_ c5657)
  have c3_ := hF5663.at c3_ (by omega) (g_nc c3_ c5657 (by decide))
  have c4_ := hF5663.at c4_ (by omega) (g_nc c4_ c5657 (by decide))
  have hF := hF.trans hF5663 (by omega) (fun q hq => (fun h => by exfalso; omega))
  refine lv_astore (lv' := [(4, .ref n), (3, .ref bn), (0, .ref fa), (1, .int a1), (2, .int a2)]) hx hb dX2_goesOut_14 hl (by decide) rfl (fun ls hl => ?_)
  refine lv_aload_n hx hb dX2_goesOut_16 rfl (lv_at hl 1 rfl) ?_
  refine g_S (As := [.ref bn]) (rest := []) (lv := [(4, .ref n), (3, .ref bn), (0, .ref fa), (1, .int a1), (2, .int a2)]) C hI hS (c_X2_checkHomeA l hB hfl G5659 n5660 bn bo pq hu mi lg sk hd c3_ c4_ ) q1319 q1320 q78 q1321 (⟨by decide, by decide, by decide⟩ : gArg _ 1) rfl ⟨by decide, by decide⟩ (by omega) hl rfl (Nat.le_of_ble_eq_true rfl) dX2_goesOut_17 (fun v5665 G5666 n5667 H locs hp5668 hI hS => ?_) gKx.no
  obtain ⟨rfl, eG5666, en5667⟩ := hp5668
  refine W.widen (k := 1) (n := 200 * (1)) (by omega) (by omega) ?_
  rw [eG5666, en5667] at hI
  refine lv_aload_n hx hb dX2_goesOut_20 rfl (lv_at hl 2 rfl) ?_
  refine g_get C hI c0_ kc1 5 rfl q184 (fun _ h9 => h9) dX2_goesOut_21 ?_
  refine lv_aload_n hx hb dX2_goesOut_24 rfl (lv_at hl 1 rfl) ?_
  refine g_V (As := []) (rest := [.int sw]) (lv := [(4, .ref n), (3, .ref bn), (0, .ref fa), (1, .int a1), (2, .int a2)]) C hI hS (c_X5_bound l hB G5659 n5660 bn bo pq hu mi lg sk hd c3_ ) c3_ rfl rfl q1351 q1352 q1353 q112 q1354 (⟨by decide, by decide, by decide⟩ : gArg _ 0) rfl ⟨by decide, by decide⟩ (by omega) hl rfl (Nat.le_of_ble_eq_true rfl) dX2_goesOut_25 (fun v5671 G5672 n5673 H locs hp5674 hI hS => ?_) gKx.no
  obtain ⟨rfl, eG5672, en5673⟩ := hp5674
  refine W.widen (k := 1) (n := 200 * (1)) (by omega) (by omega) ?_
  rw [eG5672, en5673] at hI
  refine lv_icmp_gt (tgt := 35) hx hb dX2_goesOut_28 (by decide) (fun c_5677 => ?_) (fun c_5677 => ?_)
  · skip
    refine lv_iconst (v := 0) hx hb dX2_goesOut_35 (by decide) ?_
    refine lv_iconst (v := 3) hx hb dX2_goesOut_36 (by decide) ?_
    refine lv_aload_n hx hb dX2_goesOut_37 rfl (lv_at hl 2 rfl) ?_
    refine g_get C hI c0_ kc1 5 rfl q184 (fun _ h9 => h9) dX2_goesOut_38 ?_
    refine g_SN (As := [.int 0, .int 3, .int sw]) (rest := []) (lv := [(4, .ref n), (3, .ref bn), (0, .ref fa), (1, .int a1), (2, .int a2)]) C hI hS (c_X1_meet l hB hfl G5659 n5660 0 3 sw  ) (gNw_in q1355 rfl) q1356 q77 q1357 (⟨by decide, by decide, by decide⟩ : gArg _ 3) rfl ⟨by decide, by decide⟩ (by omega) hl rfl (Nat.le_of_ble_eq_true rfl) dX2_goesOut_41 (fun v5678 G5679 n5680 H locs hp5681 hI hS => ?_) ?_
    · skip
      obtain ⟨rfl, eG5679, en5680, hh5684⟩ := hp5681
      refine W.widen (k := 2) (n := 200 * (2)) (by omega) (by omega) ?_
      rw [eG5679, en5680] at hI
      exact absurd rfl hh5684
    · skip
      intro E5685 q5686 G5687 n5688 H locs hp5689 hI hS
      exact g_out0 C hxt hI hS (by omega) (by rw [if_pos c_5677, if_pos c_5677]; exact hp5689.up (fun h => Or.inl c_5677) (by omega) hF (fun _ _ h => h.elim))
  · skip
    refine lv_iconst (v := 1) hx hb dX2_goesOut_31 (by decide) ?_
    refine lv_goto (tgt := 36) hx hb dX2_goesOut_32 (by decide) ?_
    refine lv_iconst (v := 3) hx hb dX2_goesOut_36 (by decide) ?_
    refine lv_aload_n hx hb dX2_goesOut_37 rfl (lv_at hl 2 rfl) ?_
    refine g_get C hI c0_ kc1 5 rfl q184 (fun _ h9 => h9) dX2_goesOut_38 ?_
    refine g_SN (As := [.int 1, .int 3, .int sw]) (rest := []) (lv := [(4, .ref n), (3, .ref bn), (0, .ref fa), (1, .int a1), (2, .int a2)]) C hI hS (c_X1_meet l hB hfl G5659 n5660 1 3 sw  ) (gNw_in q1355 rfl) q1356 q77 q1357 (⟨by decide, by decide, by decide⟩ : gArg _ 3) rfl ⟨by decide, by decide⟩ (by omega) hl rfl (Nat.le_of_ble_eq_true rfl) dX2_goesOut_41 (fun v5690 G5691 n5692 H locs hp5693 hI hS => ?_) ?_
    · skip
      obtain ⟨rfl, eG5691, en5692, hh5696⟩ := hp5693
      refine W.widen (k := 2) (n := 200 * (2)) (by omega) (by omega) ?_
      rw [eG5691, en5692] at hI
      refine lv_aload_n hx hb dX2_goesOut_44 rfl (lv_at hl 1 rfl) ?_
      refine lv_aload hx hb dX2_goesOut_45 (lv_at hl 0 rfl) ?_
      refine g_V (As := []) (rest := [.ref bn]) (lv := [(4, .ref n), (3, .ref bn), (0, .ref fa), (1, .int a1), (2, .int a2)]) C hI hS (c_X9_hours l hB G5659 n5660 n a2 c5664 ) c5664 rfl rfl q1359 q1360 q1361 q116 q1362 (⟨by decide, by decide, by decide⟩ : gArg _ 0) rfl ⟨by decide, by decide⟩ (by omega) hl rfl (Nat.le_of_ble_eq_true rfl) dX2_goesOut_47 (fun v5697 G5698 n5699 H locs hp5700 hI hS => ?_) gKx.no
      obtain ⟨rfl, eG5698, en5699⟩ := hp5700
      refine W.widen (k := 2) (n := 200 * (2)) (by omega) (by omega) ?_
      rw [eG5698, en5699] at hI
      refine g_V (As := [.int (a2 + 1)]) (rest := []) (lv := [(4, .ref n), (3, .ref bn), (0, .ref fa), (1, .int a1), (2, .int a2)]) C hI hS (c_X5_checkHours l hB hfl G5659 n5660 bn bo pq hu mi lg sk hd (a2 + 1) c3_ ) c3_ rfl rfl q1363 q1364 q1365 q112 q1366 (⟨by decide, by decide, by decide⟩ : gArg _ 1) rfl ⟨by decide, by decide⟩ (by omega) hl rfl (Nat.le_of_ble_eq_true rfl) dX2_goesOut_50 (fun v5703 G5704 n5705 H locs hp5706 hI hS => ?_) ?_
      · skip
        obtain ⟨rfl, eG5704, en5705, hh5709⟩ := hp5706
        refine W.widen (k := 3) (n := 200 * (3)) (by omega) (by omega) ?_
        rw [eG5704, en5705] at hI
        refine lv_aload_n hx hb dX2_goesOut_53 rfl (lv_at hl 1 rfl) ?_
        refine lv_aload hx hb dX2_goesOut_54 (lv_at hl 0 rfl) ?_
        refine g_V (As := [.ref n]) (rest := []) (lv := [(4, .ref n), (3, .ref bn), (0, .ref fa), (1, .int a1), (2, .int a2)]) C hI hS (c_X5_goesTo l hB G5659 n5660 bn bo pq hu mi lg sk hd n c3_ (by omega)) c3_ rfl rfl q1368 q1369 q1370 q112 q1371 (⟨by decide, by decide, by decide⟩ : gArg _ 1) rfl ⟨by decide, by decide⟩ (by omega) hl rfl (Nat.le_of_ble_eq_true rfl) dX2_goesOut_56 (fun v5710 G5711 n5712 H locs hp5713 hI hS => ?_) gKx.no
        obtain ⟨rfl, hn5714, hF5715, c5716⟩ := hp5713
        refine W.widen (k := 3) (n := 200 * (3)) (by omega) (by omega) ?_
        have c0_ := hF5715.at c0_ (by omega) (g_nc c0_ c3_ (by decide))
        have c1_ := hF5715.at c1_ (by omega) (g_nc c1_ c3_ (by decide))
        have c2_ := hF5715.at c2_ (by omega) (g_on c2_ c3_)
        have c4_ := hF5715.at c4_ (by omega) (g_nc c4_ c3_ (by decide))
        have c5664 := hF5715.at c5664 (by omega) (g_nc c5664 c3_ (by decide))
        have hF := hF.trans hF5715 (by omega) (fun q hq => (fun h => h ▸ rfl))
        refine lv_aload_n hx hb dX2_goesOut_59 rfl (lv_at hl 1 rfl) ?_
        refine lv_aload hx hb dX2_goesOut_60 (lv_at hl 0 rfl) ?_
        refine g_V (As := []) (rest := [.ref bn]) (lv := [(4, .ref n), (3, .ref bn), (0, .ref fa), (1, .int a1), (2, .int a2)]) C hI hS (c_X9_hours l hB G5711 n5712 n a2 c5664 ) c5664 rfl rfl q1359 q1360 q1361 q116 q1362 (⟨by decide, by decide, by decide⟩ : gArg _ 0) rfl ⟨by decide, by decide⟩ (by omega) hl rfl (Nat.le_of_ble_eq_true rfl) dX2_goesOut_62 (fun v5717 G5718 n5719 H locs hp5720 hI hS => ?_) gKx.no
        obtain ⟨rfl, eG5718, en5719⟩ := hp5720
        refine W.widen (k := 3) (n := 200 * (3)) (by omega) (by omega) ?_
        rw [eG5718, en5719] at hI
        refine g_V (As := [.int (a2 + 1)]) (rest := []) (lv := [(4, .ref n), (3, .ref bn), (0, .ref fa), (1, .int a1), (2, .int a2)]) C hI hS (c_X5_works l hB G5711 n5712 bn bo n hu mi lg sk hd (a2 + 1) c5716 (by omega)) c5716 rfl rfl q1372 q1373 q1374 q112 q1375 (⟨by decide, by decide, by decide⟩ : gArg _ 1) rfl ⟨by decide, by decide⟩ (by omega) hl rfl (Nat.le_of_ble_eq_true rfl) dX2_goesOut_65 (fun v5723 G5724 n5725 H locs hp5726 hI hS => ?_) gKx.no
        obtain ⟨rfl, hn5727, hF5728, c5729⟩ := hp5726
        refine W.widen (k := 3) (n := 200 * (3)) (by omega) (by omega) ?_
        have c0_ := hF5728.at c0_ (by omega) (g_nc c0_ c5716 (by decide))
        have c1_ := hF5728.at c1_ (by omega) (g_nc c1_ c5716 (by decide))
        have c2_ := hF5728.at c2_ (by omega) (g_on c2_ c5716)
        have c4_ := hF5728.at c4_ (by omega) (g_nc c4_ c5716 (by decide))
        have c5664 := hF5728.at c5664 (by omega) (g_nc c5664 c5716 (by decide))
        have hF := hF.trans hF5728 (by omega) (fun q hq => (fun h => h ▸ rfl))
        exact g_iret C hI hS (by omega) ⟨rfl, (by omega), hF, c5729, c5664, c_5677, hh5709⟩ dX2_goesOut_68
      · skip
        intro E5730 q5731 G5732 n5733 H locs hp5734 hI hS
        exact g_out0 C hxt hI hS (by omega) (by rw [if_neg c_5677, if_neg c_5677]; exact hp5734.up (fun h => Or.inr h) (by omega) hF (fun _ _ h => h.elim))
    · skip
      intro E5735 q5736 G5737 n5738 H locs hp5739 hI hS
      exact absurd (hp5739).1 (by decide)
set_option maxHeartbeats 4000000 in
set_option maxRecDepth 100000 in
theorem c_X2_goesOutG (l : Launch) {D : gD} (hB : gBs D) (hfl : l.stackTraces = false) (G : gH) (n : Nat) (fa : Nat) (gl : Nat) (bl : Nat) (sl : Nat) (bx : Nat) (dy : Int32) (sw : Int32) (rd : Int32) (dw : Int32) (bck : Int32) (ldd : Int32) (co : Int32) (um : Int32) (ua : Nat) (us : Int32) (uv : Nat → Value) (uk : Nat) (jx : Nat) (a1 : Int32) (bn : Nat) (bo : Int32) (pq : Nat) (hu : Int32) (mi : Int32) (lg : Int32) (sk : Int32) (hd : Int32) (a2 : Int32) (pv : Int32) (c0_ : G fa = some (.inl (1, [.ref gl, .ref bl, .ref sl, .ref bx, .int dy, .int sw, .int rd, .int dw, .int bck, .int ldd, .int co]))) (c1_ : G bl = some (.inl (15, [.int um, .ref ua, .int us]))) (c2_ : G ua = some (aR 10 uv)) (c3_ : G bn = some (.inl (3, [.int bo, .ref pq, .int hu, .int mi, .int lg, .int sk, .int hd]))) (c4_ : G pq = some (.inl (7, [.int pv]))) (ej : a1 = nI jx) (hus : us = nI uk) (huk : uk ≤ 10) (huj : jx < uk) (huv : uv jx = .ref bn) : gMet l D yX2_goesOut (ws_ yX2_goesOut cX2_goesOut 5 (some FieldType.int)) 17 2 G n [.ref fa, .int a1, .int a2] (fun (v : Option Value) (G1 : gH) (n1 : Nat) => v = none ∧ G1 = G ∧ n1 = n ∧ False) (xRf D 2 pv True gNone G n) := by
  refine g_start (by decide) (Nat.le_of_ble_eq_true rfl) ?_
  intro p e s m below meth c ls C hnm hxt hI hl
  have hx := C.x
  have hb := C.b
  have hS : va_S (gA D) s.heap s.heap [] := va_S.rf
  have hz0 := hI.z
  have lc0_ := hI.lt c0_
  have lc1_ := hI.lt c1_
  have lc2_ := hI.lt c2_
  have lc3_ := hI.lt c3_
  have lc4_ := hI.lt c4_
  have hF : gF G G n gNone := gF.rf _ _ _
  have hl : lv_has ls 5 [(0, .ref fa), (1, .int a1), (2, .int a2)] := hl
  refine lv_aload_n hx hb dX2_goesOut_0 rfl (lv_at hl 0 rfl) ?_
  refine lv_iload_n hx hb dX2_goesOut_1 rfl (lv_at hl 1 rfl) ?_
  refine g_V (As := [.int a1]) (rest := []) (lv := [(0, .ref fa), (1, .int a1), (2, .int a2)]) C hI hS (c_X2_boat l hB G n fa gl bl sl bx dy sw rd dw bck ldd co um ua us uv _ jx bn ([.int bo, .ref pq, .int hu, .int mi, .int lg, .int sk, .int hd]) a1 c0_ c1_ c2_ c3_ ej hus huk huj huv) c0_ rfl rfl q1305 q1306 q1307 q78 q1308 (⟨by decide, by decide, by decide⟩ : gArg _ 1) rfl ⟨by decide, by decide⟩ (by omega) hl rfl (Nat.le_of_ble_eq_true rfl) dX2_goesOut_2 (fun v5740 G5741 n5742 H locs hp5743 hI hS => ?_) gKx.no
  obtain ⟨rfl, eG5741, en5742⟩ := hp5743
  refine W.widen (k := 0) (n := 200 * (0)) (by omega) (by omega) ?_
  rw [eG5741, en5742] at hI
  refine lv_astore_n (lv' := [(3, .ref bn), (0, .ref fa), (1, .int a1), (2, .int a2)]) hx hb dX2_goesOut_5 rfl hl (by decide) rfl (fun ls hl => ?_)
  refine g_new (fs := [.int 0]) C hI hS kc7 rfl q1309 q1310 q116 (by decide) (by omega) dX2_goesOut_6 (fun G5746 H e5747 hI hS => ?_)
  have c0_ := gE_k e5747 c0_ (by omega)
  have c1_ := gE_k e5747 c1_ (by omega)
  have c2_ := gE_k e5747 c2_ (by omega)
  have c3_ := gE_k e5747 c3_ (by omega)
  have c4_ := gE_k e5747 c4_ (by omega)
  have c5748 : G5746 n = some (.inl (7, [.int 0])) := gE_s e5747
  have hF := gE_F e5747 hF (Or.inl (by omega))
  refine lv_dup hx hb dX2_goesOut_9 rfl ?_
  refine lv_iload_n hx hb dX2_goesOut_10 rfl (lv_at hl 3 rfl) ?_
  refine g_I (As := [.int a2]) (rest := [.ref n]) (lv := [(3, .ref bn), (0, .ref fa), (1, .int a1), (2, .int a2)]) C hI hS (c_X9_init l hB G5746 (n + 1) n a2 c5748 (by omega)) rfl q1311 q1312 q116 q1313 (⟨by decide, by decide, by decide⟩ : gArg _ 1) rfl ⟨by decide, by decide⟩ (by omega) hl rfl (Nat.le_of_ble_eq_true rfl) dX2_goesOut_11 (fun v5749 G5750 n5751 H locs hp5752 hI hS => ?_) gKx.no
  obtain ⟨rfl, hn5753, hF5754, c5755⟩ := hp5752
  refine W.widen (k := 1) (n := 200 * (1)) (by omega) (by omega) ?_
  have c0_ := hF5754.at c0_ (by omega) (g_nc c0_ c5748 (by decide))
  have c1_ := hF5754.at c1_ (by omega) (g_nc c1_ c5748 (by decide))
  have c2_ := hF5754.at c2_ (by omega) (g_on c2_ c5748)
  have c3_ := hF5754.at c3_ (by omega) (g_nc c3_ c5748 (by decide))
  have c4_ := hF5754.at c4_ (by omega) (by omega)
  have hF := hF.trans hF5754 (by omega) (fun q hq => (fun h => by exfalso; omega))
  refine lv_astore (lv' := [(4, .ref n), (3, .ref bn), (0, .ref fa), (1, .int a1), (2, .int a2)]) hx hb dX2_goesOut_14 hl (by decide) rfl (fun ls hl => ?_)
  refine lv_aload_n hx hb dX2_goesOut_16 rfl (lv_at hl 1 rfl) ?_
  refine g_S (As := [.ref bn]) (rest := []) (lv := [(4, .ref n), (3, .ref bn), (0, .ref fa), (1, .int a1), (2, .int a2)]) C hI hS (c_X2_checkHomeG l hB hfl G5750 n5751 bn bo pq hu mi lg sk hd pv c3_ c4_ ) q1319 q1320 q78 q1321 (⟨by decide, by decide, by decide⟩ : gArg _ 1) rfl ⟨by decide, by decide⟩ (by omega) hl rfl (Nat.le_of_ble_eq_true rfl) dX2_goesOut_17 (fun v5756 G5757 n5758 H locs hp5759 hI hS => ?_) ?_
  · skip
    obtain ⟨rfl, eG5757, en5758, hno5762⟩ := hp5759
    refine W.widen (k := 2) (n := 200 * (2)) (by omega) (by omega) ?_
    rw [eG5757, en5758] at hI
    exact (hno5762).elim
  · skip
    intro E5763 q5764 G5765 n5766 H locs hp5767 hI hS
    exact g_out0 C hxt hI hS (by omega) (hp5767.up (fun _ => trivial) (by omega) hF (fun _ _ h => h.elim))
set_option maxHeartbeats 4000000 in
set_option maxRecDepth 100000 in
theorem c_X2_goesHomeA (l : Launch) {D : gD} (hB : gBs D) (hfl : l.stackTraces = false) (G : gH) (n : Nat) (fa : Nat) (gl : Nat) (bl : Nat) (sl : Nat) (bx : Nat) (dy : Int32) (sw : Int32) (rd : Int32) (dw : Int32) (bck : Int32) (ldd : Int32) (co : Int32) (um : Int32) (ua : Nat) (us : Int32) (uv : Nat → Value) (uk : Nat) (jx : Nat) (a1 : Int32) (bn : Nat) (bo : Int32) (pq : Nat) (hu : Int32) (mi : Int32) (lg : Int32) (sk : Int32) (hd : Int32) (c0_ : G fa = some (.inl (1, [.ref gl, .ref bl, .ref sl, .ref bx, .int dy, .int sw, .int rd, .int dw, .int bck, .int ldd, .int co]))) (c1_ : G bl = some (.inl (15, [.int um, .ref ua, .int us]))) (c2_ : G ua = some (aR 10 uv)) (c3_ : G bn = some (.inl (3, [.int bo, .ref pq, .int hu, .int mi, .int lg, .int sk, .int hd]))) (c4_ : G pq = some (.inl (4, []))) (ej : a1 = nI jx) (hus : us = nI uk) (huk : uk ≤ 10) (huj : jx < uk) (huv : uv jx = .ref bn) : gMet l D yX2_goesHome (ws_ yX2_goesHome cX2_goesHome 6 (some FieldType.int)) 17 1 G n [.ref fa, .int a1] (fun (v : Option Value) (G1 : gH) (n1 : Nat) => v = none ∧ G1 = G ∧ n1 = n ∧ False) (xRf D 5 a1 True gNone G n) := by
  refine g_start (by decide) (Nat.le_of_ble_eq_true rfl) ?_
  intro p e s m below meth c ls C hnm hxt hI hl
  have hx := C.x
  have hb := C.b
  have hS : va_S (gA D) s.heap s.heap [] := va_S.rf
  have hz0 := hI.z
  have lc0_ := hI.lt c0_
  have lc1_ := hI.lt c1_
  have lc2_ := hI.lt c2_
  have lc3_ := hI.lt c3_
  have lc4_ := hI.lt c4_
  have hF : gF G G n gNone := gF.rf _ _ _
  have hl : lv_has ls 6 [(0, .ref fa), (1, .int a1)] := hl
  refine lv_aload_n hx hb dX2_goesHome_0 rfl (lv_at hl 0 rfl) ?_
  refine lv_iload_n hx hb dX2_goesHome_1 rfl (lv_at hl 1 rfl) ?_
  refine g_V (As := [.int a1]) (rest := []) (lv := [(0, .ref fa), (1, .int a1)]) C hI hS (c_X2_boat l hB G n fa gl bl sl bx dy sw rd dw bck ldd co um ua us uv _ jx bn ([.int bo, .ref pq, .int hu, .int mi, .int lg, .int sk, .int hd]) a1 c0_ c1_ c2_ c3_ ej hus huk huj huv) c0_ rfl rfl q1305 q1306 q1307 q78 q1308 (⟨by decide, by decide, by decide⟩ : gArg _ 1) rfl ⟨by decide, by decide⟩ (by omega) hl rfl (Nat.le_of_ble_eq_true rfl) dX2_goesHome_2 (fun v5768 G5769 n5770 H locs hp5771 hI hS => ?_) gKx.no
  obtain ⟨rfl, eG5769, en5770⟩ := hp5771
  refine W.widen (k := 0) (n := 200 * (0)) (by omega) (by omega) ?_
  rw [eG5769, en5770] at hI
  refine lv_astore_n (lv' := [(2, .ref bn), (0, .ref fa), (1, .int a1)]) hx hb dX2_goesHome_5 rfl hl (by decide) rfl (fun ls hl => ?_)
  refine lv_aload_n hx hb dX2_goesHome_6 rfl (lv_at hl 1 rfl) ?_
  refine lv_iload_n hx hb dX2_goesHome_7 rfl (lv_at hl 2 rfl) ?_
  refine g_V (As := [.int a1]) (rest := []) (lv := [(2, .ref bn), (0, .ref fa), (1, .int a1)]) C hI hS (c_X2_checkOutA l hB hfl G n fa gl bl sl bx dy sw rd dw bck ldd co um ua us uv _ jx a1 _ bo pq hu mi lg sk hd c0_ c1_ c2_ c3_ c4_ ej hus huk huj huv) c0_ rfl rfl q1380 q1382 qs12 q78 q1383 (⟨by decide, by decide, by decide⟩ : gArg _ 1) rfl ⟨by decide, by decide⟩ (by omega) hl rfl (Nat.le_of_ble_eq_true rfl) dX2_goesHome_8 (fun v5774 G5775 n5776 H locs hp5777 hI hS => ?_) ?_
  · skip
    obtain ⟨rfl, eG5775, en5776, hno5780⟩ := hp5777
    refine W.widen (k := 1) (n := 200 * (1)) (by omega) (by omega) ?_
    rw [eG5775, en5776] at hI
    exact (hno5780).elim
  · skip
    intro E5781 q5782 G5783 n5784 H locs hp5785 hI hS
    exact g_out0 C hxt hI hS (by omega) (hp5785.up (fun _ => trivial) (by omega) hF (fun _ _ h => h.elim))
set_option maxHeartbeats 4000000 in
set_option maxRecDepth 100000 in
theorem c_X2_goesHomeG (l : Launch) {D : gD} (hB : gBs D) (hfl : l.stackTraces = false) (G : gH) (n : Nat) (fa : Nat) (gl : Nat) (bl : Nat) (sl : Nat) (bx : Nat) (dy : Int32) (sw : Int32) (rd : Int32) (dw : Int32) (bck : Int32) (ldd : Int32) (co : Int32) (um : Int32) (ua : Nat) (us : Int32) (uv : Nat → Value) (uk : Nat) (jx : Nat) (a1 : Int32) (bn : Nat) (bo : Int32) (pq : Nat) (hu : Int32) (mi : Int32) (lg : Int32) (sk : Int32) (hd : Int32) (pv : Int32) (c0_ : G fa = some (.inl (1, [.ref gl, .ref bl, .ref sl, .ref bx, .int dy, .int sw, .int rd, .int dw, .int bck, .int ldd, .int co]))) (c1_ : G bl = some (.inl (15, [.int um, .ref ua, .int us]))) (c2_ : G ua = some (aR 10 uv)) (c3_ : G bn = some (.inl (3, [.int bo, .ref pq, .int hu, .int mi, .int lg, .int sk, .int hd]))) (c4_ : G pq = some (.inl (7, [.int pv]))) (ej : a1 = nI jx) (hus : us = nI uk) (huk : uk ≤ 10) (huj : jx < uk) (huv : uv jx = .ref bn) (hz : gz D ≤ bn) : gMet l D yX2_goesHome (ws_ yX2_goesHome cX2_goesHome 6 (some FieldType.int)) 17 3 G n [.ref fa, .int a1] (fun (v : Option Value) (G1 : gH) (n1 : Nat) => v = some (.int (hu - (pv + 1))) ∧ n ≤ n1 ∧ gF G G1 n (fun q : Nat => q = bn) ∧ G1 bn = some (.inl (3, [.int bo, .ref n, .int (hu - (pv + 1)), .int mi, .int lg, .int sk, .int hd])) ∧ G1 n = some (.inl (4, [])) ∧ ¬ hu < pv + 1) (xRf D 4 (pv + 1 - hu) (hu < pv + 1) (fun q => q = bn) G n) := by
  refine g_start (by decide) (Nat.le_of_ble_eq_true rfl) ?_
  intro p e s m below meth c ls C hnm hxt hI hl
  have hx := C.x
  have hb := C.b
  have hS : va_S (gA D) s.heap s.heap [] := va_S.rf
  have hz0 := hI.z
  have lc0_ := hI.lt c0_
  have lc1_ := hI.lt c1_
  have lc2_ := hI.lt c2_
  have lc3_ := hI.lt c3_
  have lc4_ := hI.lt c4_
  have hF : gF G G n (fun q : Nat => q = bn) := gF.rf _ _ _
  have hl : lv_has ls 6 [(0, .ref fa), (1, .int a1)] := hl
  refine lv_aload_n hx hb dX2_goesHome_0 rfl (lv_at hl 0 rfl) ?_
  refine lv_iload_n hx hb dX2_goesHome_1 rfl (lv_at hl 1 rfl) ?_
  refine g_V (As := [.int a1]) (rest := []) (lv := [(0, .ref fa), (1, .int a1)]) C hI hS (c_X2_boat l hB G n fa gl bl sl bx dy sw rd dw bck ldd co um ua us uv _ jx bn ([.int bo, .ref pq, .int hu, .int mi, .int lg, .int sk, .int hd]) a1 c0_ c1_ c2_ c3_ ej hus huk huj huv) c0_ rfl rfl q1305 q1306 q1307 q78 q1308 (⟨by decide, by decide, by decide⟩ : gArg _ 1) rfl ⟨by decide, by decide⟩ (by omega) hl rfl (Nat.le_of_ble_eq_true rfl) dX2_goesHome_2 (fun v5786 G5787 n5788 H locs hp5789 hI hS => ?_) gKx.no
  obtain ⟨rfl, eG5787, en5788⟩ := hp5789
  refine W.widen (k := 0) (n := 200 * (0)) (by omega) (by omega) ?_
  rw [eG5787, en5788] at hI
  refine lv_astore_n (lv' := [(2, .ref bn), (0, .ref fa), (1, .int a1)]) hx hb dX2_goesHome_5 rfl hl (by decide) rfl (fun ls hl => ?_)
  refine lv_aload_n hx hb dX2_goesHome_6 rfl (lv_at hl 1 rfl) ?_
  refine lv_iload_n hx hb dX2_goesHome_7 rfl (lv_at hl 2 rfl) ?_
  refine g_V (As := [.int a1]) (rest := []) (lv := [(2, .ref bn), (0, .ref fa), (1, .int a1)]) C hI hS (c_X2_checkOutG l hB hfl G n fa gl bl sl bx dy sw rd dw bck ldd co um ua us uv _ jx a1 _ bo pq hu mi lg sk hd pv c0_ c1_ c2_ c3_ c4_ ej hus huk huj huv) c0_ rfl rfl q1380 q1382 qs12 q78 q1383 (⟨by decide, by decide, by decide⟩ : gArg _ 1) rfl ⟨by decide, by decide⟩ (by omega) hl rfl (Nat.le_of_ble_eq_true rfl) dX2_goesHome_8 (fun v5792 G5793 n5794 H locs hp5795 hI hS => ?_) gKx.no
  obtain ⟨rfl, eG5793, en5794⟩ := hp5795
  refine W.widen (k := 1) (n := 200 * (1)) (by omega) (by omega) ?_
  rw [eG5793, en5794] at hI
  refine lv_aload_n hx hb dX2_goesHome_11 rfl (lv_at hl 0 rfl) ?_
  refine g_V (As := []) (rest := []) (lv := [(2, .ref bn), (0, .ref fa), (1, .int a1)]) C hI hS (c_X5_place l hB G n bn bo pq hu mi lg sk hd c3_ ) c3_ rfl rfl q1322 q1323 q1324 q112 q1325 (⟨by decide, by decide, by decide⟩ : gArg _ 0) rfl ⟨by decide, by decide⟩ (by omega) hl rfl (Nat.le_of_ble_eq_true rfl) dX2_goesHome_12 (fun v5798 G5799 n5800 H locs hp5801 hI hS => ?_) gKx.no
  obtain ⟨rfl, eG5799, en5800⟩ := hp5801
  refine W.widen (k := 1) (n := 200 * (1)) (by omega) (by omega) ?_
  rw [eG5799, en5800] at hI
  refine lv_astore (lv' := [(5, .ref pq), (2, .ref bn), (0, .ref fa), (1, .int a1)]) hx hb dX2_goesHome_15 hl (by decide) rfl (fun ls hl => ?_)
  refine lv_aload hx hb dX2_goesHome_17 (lv_at hl 0 rfl) ?_
  refine g_inst C hI c4_ rfl q1309 dX2_goesHome_19 ?_
  refine lv_if_eq (tgt := 40) hx hb dX2_goesHome_22 (by decide) (fun c_5804 => ?_) (fun c_5804 => ?_)
  · exact absurd c_5804 (by decide)
  · skip
    refine lv_aload hx hb dX2_goesHome_25 (lv_at hl 0 rfl) ?_
    refine g_chk C hI c4_ rfl q1309 dX2_goesHome_27 ?_
    refine lv_astore (lv' := [(4, .ref pq), (5, .ref pq), (2, .ref bn), (0, .ref fa), (1, .int a1)]) hx hb dX2_goesHome_30 hl (by decide) rfl (fun ls hl => ?_)
    refine lv_aload hx hb dX2_goesHome_32 (lv_at hl 0 rfl) ?_
    refine g_V (As := []) (rest := []) (lv := [(4, .ref pq), (5, .ref pq), (2, .ref bn), (0, .ref fa), (1, .int a1)]) C hI hS (c_X9_hours l hB G n pq pv c4_ ) c4_ rfl rfl q1359 q1360 q1361 q116 q1362 (⟨by decide, by decide, by decide⟩ : gArg _ 0) rfl ⟨by decide, by decide⟩ (by omega) hl rfl (Nat.le_of_ble_eq_true rfl) dX2_goesHome_34 (fun v5805 G5806 n5807 H locs hp5808 hI hS => ?_) gKx.no
    obtain ⟨rfl, eG5806, en5807⟩ := hp5808
    refine W.widen (k := 1) (n := 200 * (1)) (by omega) (by omega) ?_
    rw [eG5806, en5807] at hI
    refine lv_goto (tgt := 41) hx hb dX2_goesHome_37 (by decide) ?_
    refine lv_istore_n (lv' := [(3, .int (pv + 1)), (4, .ref pq), (5, .ref pq), (2, .ref bn), (0, .ref fa), (1, .int a1)]) hx hb dX2_goesHome_41 rfl hl (by decide) rfl (fun ls hl => ?_)
    refine lv_aload_n hx hb dX2_goesHome_42 rfl (lv_at hl 3 rfl) ?_
    refine lv_iload_n hx hb dX2_goesHome_43 rfl (lv_at hl 0 rfl) ?_
    refine g_V (As := [.int (pv + 1)]) (rest := []) (lv := [(3, .int (pv + 1)), (4, .ref pq), (5, .ref pq), (2, .ref bn), (0, .ref fa), (1, .int a1)]) C hI hS (c_X5_checkHours l hB hfl G n bn bo pq hu mi lg sk hd (pv + 1) c3_ ) c3_ rfl rfl q1363 q1364 q1365 q112 q1366 (⟨by decide, by decide, by decide⟩ : gArg _ 1) rfl ⟨by decide, by decide⟩ (by omega) hl rfl (Nat.le_of_ble_eq_true rfl) dX2_goesHome_44 (fun v5811 G5812 n5813 H locs hp5814 hI hS => ?_) ?_
    · skip
      obtain ⟨rfl, eG5812, en5813, hh5817⟩ := hp5814
      refine W.widen (k := 2) (n := 200 * (2)) (by omega) (by omega) ?_
      rw [eG5812, en5813] at hI
      refine lv_aload_n hx hb dX2_goesHome_47 rfl (lv_at hl 3 rfl) ?_
      refine g_new0 C hI hS kc4 q1384 q1140 q113 (by decide) (by omega) dX2_goesHome_48 (fun G5818 H e5819 hI hS => ?_)
      have c0_ := gE_k e5819 c0_ (by omega)
      have c1_ := gE_k e5819 c1_ (by omega)
      have c2_ := gE_k e5819 c2_ (by omega)
      have c3_ := gE_k e5819 c3_ (by omega)
      have c4_ := gE_k e5819 c4_ (by omega)
      have c5820 : G5818 n = some (.inl (4, [])) := gE_s e5819
      have hF := gE_F e5819 hF (Or.inl (by omega))
      refine lv_dup hx hb dX2_goesHome_51 rfl ?_
      refine g_IN (As := []) (rest := [.ref n, .ref bn]) (lv := [(3, .int (pv + 1)), (4, .ref pq), (5, .ref pq), (2, .ref bn), (0, .ref fa), (1, .int a1)]) C hI hS (c_X6_init l hB G5818 (n + 1) n c5820 ) rfl (gNw_in q1385 rfl) q1142 q113 q1143 (⟨by decide, by decide, by decide⟩ : gArg _ 0) rfl ⟨by decide, by decide⟩ (by omega) hl rfl (Nat.le_of_ble_eq_true rfl) dX2_goesHome_52 (fun v5821 G5822 n5823 H locs hp5824 hI hS => ?_) gKx.no
      obtain ⟨rfl, eG5822, en5823⟩ := hp5824
      refine W.widen (k := 3) (n := 200 * (3)) (by omega) (by omega) ?_
      rw [eG5822, en5823] at hI
      refine g_V (As := [.ref n]) (rest := []) (lv := [(3, .int (pv + 1)), (4, .ref pq), (5, .ref pq), (2, .ref bn), (0, .ref fa), (1, .int a1)]) C hI hS (c_X5_goesTo l hB G5818 (n + 1) bn bo pq hu mi lg sk hd n c3_ (by omega)) c3_ rfl rfl q1368 q1369 q1370 q112 q1371 (⟨by decide, by decide, by decide⟩ : gArg _ 1) rfl ⟨by decide, by decide⟩ (by omega) hl rfl (Nat.le_of_ble_eq_true rfl) dX2_goesHome_55 (fun v5827 G5828 n5829 H locs hp5830 hI hS => ?_) gKx.no
      obtain ⟨rfl, hn5831, hF5832, c5833⟩ := hp5830
      refine W.widen (k := 3) (n := 200 * (3)) (by omega) (by omega) ?_
      have c0_ := hF5832.at c0_ (by omega) (g_nc c0_ c3_ (by decide))
      have c1_ := hF5832.at c1_ (by omega) (g_nc c1_ c3_ (by decide))
      have c2_ := hF5832.at c2_ (by omega) (g_on c2_ c3_)
      have c4_ := hF5832.at c4_ (by omega) (g_nc c4_ c3_ (by decide))
      have c5820 := hF5832.at c5820 (by omega) (g_nc c5820 c3_ (by decide))
      have hF := hF.trans hF5832 (by omega) (fun q hq => (fun h => h ▸ rfl))
      refine lv_aload_n hx hb dX2_goesHome_58 rfl (lv_at hl 3 rfl) ?_
      refine lv_iload_n hx hb dX2_goesHome_59 rfl (lv_at hl 0 rfl) ?_
      refine g_V (As := [.int (pv + 1)]) (rest := []) (lv := [(3, .int (pv + 1)), (4, .ref pq), (5, .ref pq), (2, .ref bn), (0, .ref fa), (1, .int a1)]) C hI hS (c_X5_works l hB G5828 n5829 bn bo n hu mi lg sk hd (pv + 1) c5833 (by omega)) c5833 rfl rfl q1372 q1373 q1374 q112 q1375 (⟨by decide, by decide, by decide⟩ : gArg _ 1) rfl ⟨by decide, by decide⟩ (by omega) hl rfl (Nat.le_of_ble_eq_true rfl) dX2_goesHome_60 (fun v5834 G5835 n5836 H locs hp5837 hI hS => ?_) gKx.no
      obtain ⟨rfl, hn5838, hF5839, c5840⟩ := hp5837
      refine W.widen (k := 3) (n := 200 * (3)) (by omega) (by omega) ?_
      have c0_ := hF5839.at c0_ (by omega) (g_nc c0_ c5833 (by decide))
      have c1_ := hF5839.at c1_ (by omega) (g_nc c1_ c5833 (by decide))
      have c2_ := hF5839.at c2_ (by omega) (g_on c2_ c5833)
      have c4_ := hF5839.at c4_ (by omega) (g_nc c4_ c5833 (by decide))
      have c5820 := hF5839.at c5820 (by omega) (g_nc c5820 c5833 (by decide))
      have hF := hF.trans hF5839 (by omega) (fun q hq => (fun h => h ▸ rfl))
      exact g_iret C hI hS (by omega) ⟨rfl, (by omega), hF, c5840, c5820, hh5817⟩ dX2_goesHome_63
    · skip
      intro E5841 q5842 G5843 n5844 H locs hp5845 hI hS
      exact g_out0 C hxt hI hS (by omega) (hp5845.up (fun h => h) (by omega) hF (fun _ _ h => h.elim))
set_option maxHeartbeats 4000000 in
set_option maxRecDepth 100000 in
theorem c_X2_landsG (l : Launch) {D : gD} (hB : gBs D) (hfl : l.stackTraces = false) (G : gH) (n : Nat) (fa : Nat) (gl : Nat) (bl : Nat) (sl : Nat) (bx : Nat) (dy : Int32) (sw : Int32) (rd : Int32) (dw : Int32) (bck : Int32) (ldd : Int32) (co : Int32) (um : Int32) (ua : Nat) (us : Int32) (uv : Nat → Value) (uk : Nat) (jx : Nat) (a1 : Int32) (bn : Nat) (bo : Int32) (pq : Nat) (hu : Int32) (mi : Int32) (lg : Int32) (sk : Int32) (hd : Int32) (pv : Int32) (c0_ : G fa = some (.inl (1, [.ref gl, .ref bl, .ref sl, .ref bx, .int dy, .int sw, .int rd, .int dw, .int bck, .int ldd, .int co]))) (c1_ : G bl = some (.inl (15, [.int um, .ref ua, .int us]))) (c2_ : G ua = some (aR 10 uv)) (c3_ : G bn = some (.inl (3, [.int bo, .ref pq, .int hu, .int mi, .int lg, .int sk, .int hd]))) (c4_ : G pq = some (.inl (7, [.int pv]))) (ej : a1 = nI jx) (hus : us = nI uk) (huk : uk ≤ 10) (huj : jx < uk) (huv : uv jx = .ref bn) : gMet l D yX2_lands (ws_ yX2_lands cX2_lands 5 (some FieldType.int)) 16 1 G n [.ref fa, .int a1] (fun (v : Option Value) (G1 : gH) (n1 : Nat) => v = none ∧ G1 = G ∧ n1 = n ∧ False) (xRf D 2 pv True gNone G n) := by
  refine g_start (by decide) (Nat.le_of_ble_eq_true rfl) ?_
  intro p e s m below meth c ls C hnm hxt hI hl
  have hx := C.x
  have hb := C.b
  have hS : va_S (gA D) s.heap s.heap [] := va_S.rf
  have hz0 := hI.z
  have lc0_ := hI.lt c0_
  have lc1_ := hI.lt c1_
  have lc2_ := hI.lt c2_
  have lc3_ := hI.lt c3_
  have lc4_ := hI.lt c4_
  have hF : gF G G n gNone := gF.rf _ _ _
  have hl : lv_has ls 5 [(0, .ref fa), (1, .int a1)] := hl
  refine lv_aload_n hx hb dX2_lands_0 rfl (lv_at hl 0 rfl) ?_
  refine lv_iload_n hx hb dX2_lands_1 rfl (lv_at hl 1 rfl) ?_
  refine g_V (As := [.int a1]) (rest := []) (lv := [(0, .ref fa), (1, .int a1)]) C hI hS (c_X2_boat l hB G n fa gl bl sl bx dy sw rd dw bck ldd co um ua us uv _ jx bn ([.int bo, .ref pq, .int hu, .int mi, .int lg, .int sk, .int hd]) a1 c0_ c1_ c2_ c3_ ej hus huk huj huv) c0_ rfl rfl q1305 q1306 q1307 q78 q1308 (⟨by decide, by decide, by decide⟩ : gArg _ 1) rfl ⟨by decide, by decide⟩ (by omega) hl rfl (Nat.le_of_ble_eq_true rfl) dX2_lands_2 (fun v5846 G5847 n5848 H locs hp5849 hI hS => ?_) gKx.no
  obtain ⟨rfl, eG5847, en5848⟩ := hp5849
  refine W.widen (k := 0) (n := 200 * (0)) (by omega) (by omega) ?_
  rw [eG5847, en5848] at hI
  refine lv_astore_n (lv' := [(2, .ref bn), (0, .ref fa), (1, .int a1)]) hx hb dX2_lands_5 rfl hl (by decide) rfl (fun ls hl => ?_)
  refine lv_aload_n hx hb dX2_lands_6 rfl (lv_at hl 0 rfl) ?_
  refine g_S (As := [.ref bn]) (rest := []) (lv := [(2, .ref bn), (0, .ref fa), (1, .int a1)]) C hI hS (c_X2_checkHomeG l hB hfl G n bn bo pq hu mi lg sk hd pv c3_ c4_ ) q1319 q1320 q78 q1321 (⟨by decide, by decide, by decide⟩ : gArg _ 1) rfl ⟨by decide, by decide⟩ (by omega) hl rfl (Nat.le_of_ble_eq_true rfl) dX2_lands_7 (fun v5852 G5853 n5854 H locs hp5855 hI hS => ?_) ?_
  · skip
    obtain ⟨rfl, eG5853, en5854, hno5858⟩ := hp5855
    refine W.widen (k := 1) (n := 200 * (1)) (by omega) (by omega) ?_
    rw [eG5853, en5854] at hI
    exact (hno5858).elim
  · skip
    intro E5859 q5860 G5861 n5862 H locs hp5863 hI hS
    exact g_out0 C hxt hI hS (by omega) (hp5863.up (fun _ => trivial) (by omega) hF (fun _ _ h => h.elim))
set_option maxHeartbeats 4000000 in
set_option maxRecDepth 100000 in
theorem c_X2_landsA (l : Launch) {D : gD} (hB : gBs D) (hfl : l.stackTraces = false) (G : gH) (n : Nat) (fa : Nat) (gl : Nat) (bl : Nat) (sl : Nat) (bx : Nat) (dy : Int32) (sw : Int32) (rd : Int32) (dw : Int32) (bck : Int32) (ldd : Int32) (co : Int32) (um : Int32) (ua : Nat) (us : Int32) (uv : Nat → Value) (uk : Nat) (jx : Nat) (a1 : Int32) (bn : Nat) (bo : Int32) (pq : Nat) (hu : Int32) (mi : Int32) (lg : Int32) (sk : Int32) (hd : Int32) (c0_ : G fa = some (.inl (1, [.ref gl, .ref bl, .ref sl, .ref bx, .int dy, .int sw, .int rd, .int dw, .int bck, .int ldd, .int co]))) (c1_ : G bl = some (.inl (15, [.int um, .ref ua, .int us]))) (c2_ : G ua = some (aR 10 uv)) (c3_ : G bn = some (.inl (3, [.int bo, .ref pq, .int hu, .int mi, .int lg, .int sk, .int hd]))) (c4_ : G pq = some (.inl (4, []))) (ej : a1 = nI jx) (hus : us = nI uk) (huk : uk ≤ 10) (huj : jx < uk) (huv : uv jx = .ref bn) (hz : gz D ≤ bn) (hzf : gz D ≤ fa) : gMet l D yX2_lands (ws_ yX2_lands cX2_lands 5 (some FieldType.int)) 16 1 G n [.ref fa, .int a1] (fun (v : Option Value) (G1 : gH) (n1 : Nat) => v = some (.int (8 * (mi / 25) + 12 * (lg / 25))) ∧ n ≤ n1 ∧ gF G G1 n (fun q : Nat => q = bn ∨ q = fa) ∧ G1 bn = some (.inl (3, [.int bo, .ref pq, .int hu, .int (mi - 25 * (mi / 25)), .int (lg - 25 * (lg / 25)), .int (sk + (mi / 25 + lg / 25)), .int hd])) ∧ G1 fa = some (.inl (1, [.ref gl, .ref bl, .ref sl, .ref bx, .int dy, .int sw, .int rd, .int dw, .int bck, .int (ldd + (mi + lg - (mi - 25 * (mi / 25) + (lg - 25 * (lg / 25))))), .int (co + (8 * (mi / 25) + 12 * (lg / 25)))])) ∧ (25 ≤ mi ∨ 25 ≤ lg)) (xRf D 10 (mi + lg) (¬ (25 ≤ mi ∨ 25 ≤ lg)) (fun q => q = bn ∨ q = fa) G n) := by
  refine g_start (by decide) (Nat.le_of_ble_eq_true rfl) ?_
  intro p e s m below meth c ls C hnm hxt hI hl
  have hx := C.x
  have hb := C.b
  have hS : va_S (gA D) s.heap s.heap [] := va_S.rf
  have hz0 := hI.z
  have lc0_ := hI.lt c0_
  have lc1_ := hI.lt c1_
  have lc2_ := hI.lt c2_
  have lc3_ := hI.lt c3_
  have lc4_ := hI.lt c4_
  have hF : gF G G n (fun q : Nat => q = bn ∨ q = fa) := gF.rf _ _ _
  have hl : lv_has ls 5 [(0, .ref fa), (1, .int a1)] := hl
  refine lv_aload_n hx hb dX2_lands_0 rfl (lv_at hl 0 rfl) ?_
  refine lv_iload_n hx hb dX2_lands_1 rfl (lv_at hl 1 rfl) ?_
  refine g_V (As := [.int a1]) (rest := []) (lv := [(0, .ref fa), (1, .int a1)]) C hI hS (c_X2_boat l hB G n fa gl bl sl bx dy sw rd dw bck ldd co um ua us uv _ jx bn ([.int bo, .ref pq, .int hu, .int mi, .int lg, .int sk, .int hd]) a1 c0_ c1_ c2_ c3_ ej hus huk huj huv) c0_ rfl rfl q1305 q1306 q1307 q78 q1308 (⟨by decide, by decide, by decide⟩ : gArg _ 1) rfl ⟨by decide, by decide⟩ (by omega) hl rfl (Nat.le_of_ble_eq_true rfl) dX2_lands_2 (fun v5864 G5865 n5866 H locs hp5867 hI hS => ?_) gKx.no
  obtain ⟨rfl, eG5865, en5866⟩ := hp5867
  refine W.widen (k := 0) (n := 200 * (0)) (by omega) (by omega) ?_
  rw [eG5865, en5866] at hI
  refine lv_astore_n (lv' := [(2, .ref bn), (0, .ref fa), (1, .int a1)]) hx hb dX2_lands_5 rfl hl (by decide) rfl (fun ls hl => ?_)
  refine lv_aload_n hx hb dX2_lands_6 rfl (lv_at hl 0 rfl) ?_
  refine g_S (As := [.ref bn]) (rest := []) (lv := [(2, .ref bn), (0, .ref fa), (1, .int a1)]) C hI hS (c_X2_checkHomeA l hB hfl G n bn bo pq hu mi lg sk hd c3_ c4_ ) q1319 q1320 q78 q1321 (⟨by decide, by decide, by decide⟩ : gArg _ 1) rfl ⟨by decide, by decide⟩ (by omega) hl rfl (Nat.le_of_ble_eq_true rfl) dX2_lands_7 (fun v5870 G5871 n5872 H locs hp5873 hI hS => ?_) gKx.no
  obtain ⟨rfl, eG5871, en5872⟩ := hp5873
  refine W.widen (k := 0) (n := 200 * (0)) (by omega) (by omega) ?_
  rw [eG5871, en5872] at hI
  refine lv_aload_n hx hb dX2_lands_10 rfl (lv_at hl 0 rfl) ?_
  refine g_V (As := []) (rest := []) (lv := [(2, .ref bn), (0, .ref fa), (1, .int a1)]) C hI hS (c_X5_shells l hB G n bn bo pq hu mi lg sk hd c3_ ) c3_ rfl rfl q1640 q1641 q1642 q112 q1643 (⟨by decide, by decide, by decide⟩ : gArg _ 0) rfl ⟨by decide, by decide⟩ (by omega) hl rfl (Nat.le_of_ble_eq_true rfl) dX2_lands_11 (fun v5876 G5877 n5878 H locs hp5879 hI hS => ?_) gKx.no
  obtain ⟨rfl, eG5877, en5878⟩ := hp5879
  refine W.widen (k := 0) (n := 200 * (0)) (by omega) (by omega) ?_
  rw [eG5877, en5878] at hI
  refine lv_istore_n (lv' := [(3, .int (mi + lg)), (2, .ref bn), (0, .ref fa), (1, .int a1)]) hx hb dX2_lands_14 rfl hl (by decide) rfl (fun ls hl => ?_)
  refine lv_aload_n hx hb dX2_lands_15 rfl (lv_at hl 1 rfl) ?_
  refine g_V (As := []) (rest := []) (lv := [(3, .int (mi + lg)), (2, .ref bn), (0, .ref fa), (1, .int a1)]) C hI hS (c_X5_middle l hB G n bn bo pq hu mi lg sk hd c3_ ) c3_ rfl rfl q1644 q1645 q1646 q112 q1647 (⟨by decide, by decide, by decide⟩ : gArg _ 0) rfl ⟨by decide, by decide⟩ (by omega) hl rfl (Nat.le_of_ble_eq_true rfl) dX2_lands_16 (fun v5882 G5883 n5884 H locs hp5885 hI hS => ?_) gKx.no
  obtain ⟨rfl, eG5883, en5884⟩ := hp5885
  refine W.widen (k := 0) (n := 200 * (0)) (by omega) (by omega) ?_
  rw [eG5883, en5884] at hI
  refine lv_bipush (v := 25) hx hb dX2_lands_19 (by decide) ?_
  refine lv_icmp_ge (tgt := 33) hx hb dX2_lands_21 (by decide) (fun c_5888 => ?_) (fun c_5888 => ?_)
  · skip
    refine lv_iconst (v := 1) hx hb dX2_lands_33 (by decide) ?_
    refine lv_goto (tgt := 38) hx hb dX2_lands_34 (by decide) ?_
    refine lv_bipush (v := 10) hx hb dX2_lands_38 (by decide) ?_
    refine lv_iload_n hx hb dX2_lands_40 rfl (lv_at hl 0 rfl) ?_
    refine g_SN (As := [.int 1, .int 10, .int (mi + lg)]) (rest := []) (lv := [(3, .int (mi + lg)), (2, .ref bn), (0, .ref fa), (1, .int a1)]) C hI hS (c_X1_meet l hB hfl G n 1 10 (mi + lg)  ) (gNw_in q1355 rfl) q1356 q77 q1357 (⟨by decide, by decide, by decide⟩ : gArg _ 3) rfl ⟨by decide, by decide⟩ (by omega) hl rfl (Nat.le_of_ble_eq_true rfl) dX2_lands_41 (fun v5889 G5890 n5891 H locs hp5892 hI hS => ?_) ?_
    · skip
      obtain ⟨rfl, eG5890, en5891, hh5895⟩ := hp5892
      refine W.widen (k := 1) (n := 200 * (1)) (by omega) (by omega) ?_
      rw [eG5890, en5891] at hI
      refine lv_aload_n hx hb dX2_lands_44 rfl (lv_at hl 1 rfl) ?_
      refine g_V (As := []) (rest := []) (lv := [(3, .int (mi + lg)), (2, .ref bn), (0, .ref fa), (1, .int a1)]) C hI hS (c_X5_lands l hB G n bn bo pq hu mi lg sk hd c3_ (by omega)) c3_ rfl rfl q1652 q1653 q1654 q112 q1655 (⟨by decide, by decide, by decide⟩ : gArg _ 0) rfl ⟨by decide, by decide⟩ (by omega) hl rfl (Nat.le_of_ble_eq_true rfl) dX2_lands_45 (fun v5896 G5897 n5898 H locs hp5899 hI hS => ?_) gKx.no
      obtain ⟨rfl, hn5900, hF5901, c5902⟩ := hp5899
      refine W.widen (k := 1) (n := 200 * (1)) (by omega) (by omega) ?_
      have c0_ := hF5901.at c0_ (by omega) (g_nc c0_ c3_ (by decide))
      have c1_ := hF5901.at c1_ (by omega) (g_nc c1_ c3_ (by decide))
      have c2_ := hF5901.at c2_ (by omega) (g_on c2_ c3_)
      have c4_ := hF5901.at c4_ (by omega) (g_nc c4_ c3_ (by decide))
      have hF := hF.trans hF5901 (by omega) (fun q hq => (fun h => h ▸ (Or.inl rfl)))
      refine lv_istore (lv' := [(4, .int (8 * (mi / 25) + 12 * (lg / 25))), (3, .int (mi + lg)), (2, .ref bn), (0, .ref fa), (1, .int a1)]) hx hb dX2_lands_48 hl (by decide) rfl (fun ls hl => ?_)
      refine lv_aload_n hx hb dX2_lands_50 rfl (lv_at hl 3 rfl) ?_
      refine lv_dup hx hb dX2_lands_51 rfl ?_
      refine g_get C hI c0_ kc1 9 rfl q188 (fun _ h9 => h9) dX2_lands_52 ?_
      refine lv_iload_n hx hb dX2_lands_55 rfl (lv_at hl 1 rfl) ?_
      refine lv_aload_n hx hb dX2_lands_56 rfl (lv_at hl 2 rfl) ?_
      refine g_V (As := []) (rest := [.int (mi + lg), .int ldd, .ref fa]) (lv := [(4, .int (8 * (mi / 25) + 12 * (lg / 25))), (3, .int (mi + lg)), (2, .ref bn), (0, .ref fa), (1, .int a1)]) C hI hS (c_X5_shells l hB G5897 n5898 bn bo pq hu (mi - 25 * (mi / 25)) (lg - 25 * (lg / 25)) (sk + (mi / 25 + lg / 25)) hd c5902 ) c5902 rfl rfl q1640 q1641 q1642 q112 q1643 (⟨by decide, by decide, by decide⟩ : gArg _ 0) rfl ⟨by decide, by decide⟩ (by omega) hl rfl (Nat.le_of_ble_eq_true rfl) dX2_lands_57 (fun v5903 G5904 n5905 H locs hp5906 hI hS => ?_) gKx.no
      obtain ⟨rfl, eG5904, en5905⟩ := hp5906
      refine W.widen (k := 1) (n := 200 * (1)) (by omega) (by omega) ?_
      rw [eG5904, en5905] at hI
      refine lv_isub hx hb dX2_lands_60 ?_
      refine lv_iadd hx hb dX2_lands_61 ?_
      refine g_put (fs2 := [.ref gl, .ref bl, .ref sl, .ref bx, .int dy, .int sw, .int rd, .int dw, .int bck, .int (ldd + ((mi + lg) - ((mi - 25 * (mi / 25)) + (lg - 25 * (lg / 25))))), .int co]) C hI hS c0_ (by omega) kc1 9 (Nat.le_of_ble_eq_true rfl) q188 (fun _ h9 => h9) rfl rfl rfl rfl dX2_lands_62 (fun G5909 H locs e5910 hI hS => ?_)
      have c1_ := gE_k e5910 c1_ (g_nc c1_ c0_ (by decide))
      have c2_ := gE_k e5910 c2_ (g_on c2_ c0_)
      have c4_ := gE_k e5910 c4_ (g_nc c4_ c0_ (by decide))
      have c5902 := gE_k e5910 c5902 (g_nc c5902 c0_ (by decide))
      have c0_ : G5909 fa = some (.inl (1, [.ref gl, .ref bl, .ref sl, .ref bx, .int dy, .int sw, .int rd, .int dw, .int bck, .int (ldd + ((mi + lg) - ((mi - 25 * (mi / 25)) + (lg - 25 * (lg / 25))))), .int co])) := gE_s e5910
      have hF := gE_F e5910 hF (Or.inr (Or.inr (rfl)))
      refine lv_aload_n hx hb dX2_lands_65 rfl (lv_at hl 3 rfl) ?_
      refine lv_dup hx hb dX2_lands_66 rfl ?_
      refine g_get C hI c0_ kc1 10 rfl q189 (fun _ h9 => h9) dX2_lands_67 ?_
      refine lv_iload hx hb dX2_lands_70 (lv_at hl 0 rfl) ?_
      refine lv_iadd hx hb dX2_lands_72 ?_
      refine g_put (fs2 := [.ref gl, .ref bl, .ref sl, .ref bx, .int dy, .int sw, .int rd, .int dw, .int bck, .int (ldd + ((mi + lg) - ((mi - 25 * (mi / 25)) + (lg - 25 * (lg / 25))))), .int (co + (8 * (mi / 25) + 12 * (lg / 25)))]) C hI hS c0_ (by omega) kc1 10 (Nat.le_of_ble_eq_true rfl) q189 (fun _ h9 => h9) rfl rfl rfl rfl dX2_lands_73 (fun G5911 H locs e5912 hI hS => ?_)
      have c1_ := gE_k e5912 c1_ (g_nc c1_ c0_ (by decide))
      have c2_ := gE_k e5912 c2_ (g_on c2_ c0_)
      have c4_ := gE_k e5912 c4_ (g_nc c4_ c0_ (by decide))
      have c5902 := gE_k e5912 c5902 (g_nc c5902 c0_ (by decide))
      have c0_ : G5911 fa = some (.inl (1, [.ref gl, .ref bl, .ref sl, .ref bx, .int dy, .int sw, .int rd, .int dw, .int bck, .int (ldd + ((mi + lg) - ((mi - 25 * (mi / 25)) + (lg - 25 * (lg / 25))))), .int (co + (8 * (mi / 25) + 12 * (lg / 25)))])) := gE_s e5912
      have hF := gE_F e5912 hF (Or.inr (Or.inr (rfl)))
      refine lv_iload hx hb dX2_lands_76 (lv_at hl 0 rfl) ?_
      exact g_iret C hI hS (by omega) ⟨rfl, (by omega), hF, c5902, c0_, (Or.inl c_5888)⟩ dX2_lands_78
    · skip
      intro E5913 q5914 G5915 n5916 H locs hp5917 hI hS
      exact absurd (hp5917).1 (by decide)
  · skip
    refine lv_aload_n hx hb dX2_lands_24 rfl (lv_at hl 1 rfl) ?_
    refine g_V (As := []) (rest := []) (lv := [(3, .int (mi + lg)), (2, .ref bn), (0, .ref fa), (1, .int a1)]) C hI hS (c_X5_large l hB G n bn bo pq hu mi lg sk hd c3_ ) c3_ rfl rfl q1648 q1649 q1650 q112 q1651 (⟨by decide, by decide, by decide⟩ : gArg _ 0) rfl ⟨by decide, by decide⟩ (by omega) hl rfl (Nat.le_of_ble_eq_true rfl) dX2_lands_25 (fun v5918 G5919 n5920 H locs hp5921 hI hS => ?_) gKx.no
    obtain ⟨rfl, eG5919, en5920⟩ := hp5921
    refine W.widen (k := 0) (n := 200 * (0)) (by omega) (by omega) ?_
    rw [eG5919, en5920] at hI
    refine lv_bipush (v := 25) hx hb dX2_lands_28 (by decide) ?_
    refine lv_icmp_lt (tgt := 37) hx hb dX2_lands_30 (by decide) (fun c_5924 => ?_) (fun c_5924 => ?_)
    · skip
      refine lv_iconst (v := 0) hx hb dX2_lands_37 (by decide) ?_
      refine lv_bipush (v := 10) hx hb dX2_lands_38 (by decide) ?_
      refine lv_iload_n hx hb dX2_lands_40 rfl (lv_at hl 0 rfl) ?_
      refine g_SN (As := [.int 0, .int 10, .int (mi + lg)]) (rest := []) (lv := [(3, .int (mi + lg)), (2, .ref bn), (0, .ref fa), (1, .int a1)]) C hI hS (c_X1_meet l hB hfl G n 0 10 (mi + lg)  ) (gNw_in q1355 rfl) q1356 q77 q1357 (⟨by decide, by decide, by decide⟩ : gArg _ 3) rfl ⟨by decide, by decide⟩ (by omega) hl rfl (Nat.le_of_ble_eq_true rfl) dX2_lands_41 (fun v5925 G5926 n5927 H locs hp5928 hI hS => ?_) ?_
      · skip
        obtain ⟨rfl, eG5926, en5927, hh5931⟩ := hp5928
        refine W.widen (k := 1) (n := 200 * (1)) (by omega) (by omega) ?_
        rw [eG5926, en5927] at hI
        exact absurd rfl hh5931
      · skip
        intro E5932 q5933 G5934 n5935 H locs hp5936 hI hS
        exact g_out0 C hxt hI hS (by omega) (hp5936.up (fun _ h => h.elim (fun z => c_5888 z) (fun z => absurd z (Int32.not_le.mpr c_5924))) (by omega) hF (fun _ _ h => h.elim))
    · skip
      refine lv_iconst (v := 1) hx hb dX2_lands_33 (by decide) ?_
      refine lv_goto (tgt := 38) hx hb dX2_lands_34 (by decide) ?_
      refine lv_bipush (v := 10) hx hb dX2_lands_38 (by decide) ?_
      refine lv_iload_n hx hb dX2_lands_40 rfl (lv_at hl 0 rfl) ?_
      refine g_SN (As := [.int 1, .int 10, .int (mi + lg)]) (rest := []) (lv := [(3, .int (mi + lg)), (2, .ref bn), (0, .ref fa), (1, .int a1)]) C hI hS (c_X1_meet l hB hfl G n 1 10 (mi + lg)  ) (gNw_in q1355 rfl) q1356 q77 q1357 (⟨by decide, by decide, by decide⟩ : gArg _ 3) rfl ⟨by decide, by decide⟩ (by omega) hl rfl (Nat.le_of_ble_eq_true rfl) dX2_lands_41 (fun v5937 G5938 n5939 H locs hp5940 hI hS => ?_) ?_
      · skip
        obtain ⟨rfl, eG5938, en5939, hh5943⟩ := hp5940
        refine W.widen (k := 1) (n := 200 * (1)) (by omega) (by omega) ?_
        rw [eG5938, en5939] at hI
        refine lv_aload_n hx hb dX2_lands_44 rfl (lv_at hl 1 rfl) ?_
        refine g_V (As := []) (rest := []) (lv := [(3, .int (mi + lg)), (2, .ref bn), (0, .ref fa), (1, .int a1)]) C hI hS (c_X5_lands l hB G n bn bo pq hu mi lg sk hd c3_ (by omega)) c3_ rfl rfl q1652 q1653 q1654 q112 q1655 (⟨by decide, by decide, by decide⟩ : gArg _ 0) rfl ⟨by decide, by decide⟩ (by omega) hl rfl (Nat.le_of_ble_eq_true rfl) dX2_lands_45 (fun v5944 G5945 n5946 H locs hp5947 hI hS => ?_) gKx.no
        obtain ⟨rfl, hn5948, hF5949, c5950⟩ := hp5947
        refine W.widen (k := 1) (n := 200 * (1)) (by omega) (by omega) ?_
        have c0_ := hF5949.at c0_ (by omega) (g_nc c0_ c3_ (by decide))
        have c1_ := hF5949.at c1_ (by omega) (g_nc c1_ c3_ (by decide))
        have c2_ := hF5949.at c2_ (by omega) (g_on c2_ c3_)
        have c4_ := hF5949.at c4_ (by omega) (g_nc c4_ c3_ (by decide))
        have hF := hF.trans hF5949 (by omega) (fun q hq => (fun h => h ▸ (Or.inl rfl)))
        refine lv_istore (lv' := [(4, .int (8 * (mi / 25) + 12 * (lg / 25))), (3, .int (mi + lg)), (2, .ref bn), (0, .ref fa), (1, .int a1)]) hx hb dX2_lands_48 hl (by decide) rfl (fun ls hl => ?_)
        refine lv_aload_n hx hb dX2_lands_50 rfl (lv_at hl 3 rfl) ?_
        refine lv_dup hx hb dX2_lands_51 rfl ?_
        refine g_get C hI c0_ kc1 9 rfl q188 (fun _ h9 => h9) dX2_lands_52 ?_
        refine lv_iload_n hx hb dX2_lands_55 rfl (lv_at hl 1 rfl) ?_
        refine lv_aload_n hx hb dX2_lands_56 rfl (lv_at hl 2 rfl) ?_
        refine g_V (As := []) (rest := [.int (mi + lg), .int ldd, .ref fa]) (lv := [(4, .int (8 * (mi / 25) + 12 * (lg / 25))), (3, .int (mi + lg)), (2, .ref bn), (0, .ref fa), (1, .int a1)]) C hI hS (c_X5_shells l hB G5945 n5946 bn bo pq hu (mi - 25 * (mi / 25)) (lg - 25 * (lg / 25)) (sk + (mi / 25 + lg / 25)) hd c5950 ) c5950 rfl rfl q1640 q1641 q1642 q112 q1643 (⟨by decide, by decide, by decide⟩ : gArg _ 0) rfl ⟨by decide, by decide⟩ (by omega) hl rfl (Nat.le_of_ble_eq_true rfl) dX2_lands_57 (fun v5951 G5952 n5953 H locs hp5954 hI hS => ?_) gKx.no
        obtain ⟨rfl, eG5952, en5953⟩ := hp5954
        refine W.widen (k := 1) (n := 200 * (1)) (by omega) (by omega) ?_
        rw [eG5952, en5953] at hI
        refine lv_isub hx hb dX2_lands_60 ?_
        refine lv_iadd hx hb dX2_lands_61 ?_
        refine g_put (fs2 := [.ref gl, .ref bl, .ref sl, .ref bx, .int dy, .int sw, .int rd, .int dw, .int bck, .int (ldd + ((mi + lg) - ((mi - 25 * (mi / 25)) + (lg - 25 * (lg / 25))))), .int co]) C hI hS c0_ (by omega) kc1 9 (Nat.le_of_ble_eq_true rfl) q188 (fun _ h9 => h9) rfl rfl rfl rfl dX2_lands_62 (fun G5957 H locs e5958 hI hS => ?_)
        have c1_ := gE_k e5958 c1_ (g_nc c1_ c0_ (by decide))
        have c2_ := gE_k e5958 c2_ (g_on c2_ c0_)
        have c4_ := gE_k e5958 c4_ (g_nc c4_ c0_ (by decide))
        have c5950 := gE_k e5958 c5950 (g_nc c5950 c0_ (by decide))
        have c0_ : G5957 fa = some (.inl (1, [.ref gl, .ref bl, .ref sl, .ref bx, .int dy, .int sw, .int rd, .int dw, .int bck, .int (ldd + ((mi + lg) - ((mi - 25 * (mi / 25)) + (lg - 25 * (lg / 25))))), .int co])) := gE_s e5958
        have hF := gE_F e5958 hF (Or.inr (Or.inr (rfl)))
        refine lv_aload_n hx hb dX2_lands_65 rfl (lv_at hl 3 rfl) ?_
        refine lv_dup hx hb dX2_lands_66 rfl ?_
        refine g_get C hI c0_ kc1 10 rfl q189 (fun _ h9 => h9) dX2_lands_67 ?_
        refine lv_iload hx hb dX2_lands_70 (lv_at hl 0 rfl) ?_
        refine lv_iadd hx hb dX2_lands_72 ?_
        refine g_put (fs2 := [.ref gl, .ref bl, .ref sl, .ref bx, .int dy, .int sw, .int rd, .int dw, .int bck, .int (ldd + ((mi + lg) - ((mi - 25 * (mi / 25)) + (lg - 25 * (lg / 25))))), .int (co + (8 * (mi / 25) + 12 * (lg / 25)))]) C hI hS c0_ (by omega) kc1 10 (Nat.le_of_ble_eq_true rfl) q189 (fun _ h9 => h9) rfl rfl rfl rfl dX2_lands_73 (fun G5959 H locs e5960 hI hS => ?_)
        have c1_ := gE_k e5960 c1_ (g_nc c1_ c0_ (by decide))
        have c2_ := gE_k e5960 c2_ (g_on c2_ c0_)
        have c4_ := gE_k e5960 c4_ (g_nc c4_ c0_ (by decide))
        have c5950 := gE_k e5960 c5950 (g_nc c5950 c0_ (by decide))
        have c0_ : G5959 fa = some (.inl (1, [.ref gl, .ref bl, .ref sl, .ref bx, .int dy, .int sw, .int rd, .int dw, .int bck, .int (ldd + ((mi + lg) - ((mi - 25 * (mi / 25)) + (lg - 25 * (lg / 25))))), .int (co + (8 * (mi / 25) + 12 * (lg / 25)))])) := gE_s e5960
        have hF := gE_F e5960 hF (Or.inr (Or.inr (rfl)))
        refine lv_iload hx hb dX2_lands_76 (lv_at hl 0 rfl) ?_
        exact g_iret C hI hS (by omega) ⟨rfl, (by omega), hF, c5950, c0_, (Or.inr (Int32.not_lt.mp c_5924))⟩ dX2_lands_78
      · skip
        intro E5961 q5962 G5963 n5964 H locs hp5965 hI hS
        exact absurd (hp5965).1 (by decide)
set_option maxHeartbeats 4000000 in
set_option maxRecDepth 100000 in
theorem c_X2_shootsA (l : Launch) {D : gD} (hB : gBs D) (hfl : l.stackTraces = false) (G : gH) (n : Nat) (fa : Nat) (gl : Nat) (bl : Nat) (sl : Nat) (bx : Nat) (dy : Int32) (sw : Int32) (rd : Int32) (dw : Int32) (bck : Int32) (ldd : Int32) (co : Int32) (um : Int32) (ua : Nat) (us : Int32) (uv : Nat → Value) (uk : Nat) (jx : Nat) (a1 : Int32) (bn : Nat) (bo : Int32) (pq : Nat) (hu : Int32) (mi : Int32) (lg : Int32) (sk : Int32) (hd : Int32) (wm : Int32) (wa : Nat) (ws : Int32) (wv : Nat → Value) (wk : Nat) (ix : Nat) (a2 : Int32) (a3 : Int32) (ln : Nat) (po : Int32) (lq : Nat) (ba : Int32) (si : Int32) (lo : Int32) (dr : Int32) (c0_ : G fa = some (.inl (1, [.ref gl, .ref bl, .ref sl, .ref bx, .int dy, .int sw, .int rd, .int dw, .int bck, .int ldd, .int co]))) (c1_ : G bl = some (.inl (15, [.int um, .ref ua, .int us]))) (c2_ : G ua = some (aR 10 uv)) (c3_ : G bn = some (.inl (3, [.int bo, .ref pq, .int hu, .int mi, .int lg, .int sk, .int hd]))) (c4_ : G sl = some (.inl (15, [.int wm, .ref wa, .int ws]))) (c5_ : G wa = some (aR 10 wv)) (c6_ : G ln = some (.inl (5, [.int po, .ref lq, .int ba, .int si, .int lo, .int dr]))) (c7_ : G pq = some (.inl (4, []))) (ej : a1 = nI jx) (hus : us = nI uk) (huk : uk ≤ 10) (huj : jx < uk) (huv : uv jx = .ref bn) (ei : a2 = nI ix) (hws : ws = nI wk) (hwk : wk ≤ 10) (hwj : ix < wk) (hwv : wv ix = .ref ln) : gMet l D yX2_shoots (ws_ yX2_shoots cX2_shoots 8 (some FieldType.int)) 17 1 G n [.ref fa, .int a1, .int a2, .int a3] (fun (v : Option Value) (G1 : gH) (n1 : Nat) => v = none ∧ G1 = G ∧ n1 = n ∧ False) (xRf D 5 a1 True gNone G n) := by
  refine g_start (by decide) (Nat.le_of_ble_eq_true rfl) ?_
  intro p e s m below meth c ls C hnm hxt hI hl
  have hx := C.x
  have hb := C.b
  have hS : va_S (gA D) s.heap s.heap [] := va_S.rf
  have hz0 := hI.z
  have lc0_ := hI.lt c0_
  have lc1_ := hI.lt c1_
  have lc2_ := hI.lt c2_
  have lc3_ := hI.lt c3_
  have lc4_ := hI.lt c4_
  have lc5_ := hI.lt c5_
  have lc6_ := hI.lt c6_
  have lc7_ := hI.lt c7_
  have hF : gF G G n gNone := gF.rf _ _ _
  have hl : lv_has ls 8 [(0, .ref fa), (1, .int a1), (2, .int a2), (3, .int a3)] := hl
  refine lv_aload_n hx hb dX2_shoots_0 rfl (lv_at hl 0 rfl) ?_
  refine lv_iload_n hx hb dX2_shoots_1 rfl (lv_at hl 1 rfl) ?_
  refine g_V (As := [.int a1]) (rest := []) (lv := [(0, .ref fa), (1, .int a1), (2, .int a2), (3, .int a3)]) C hI hS (c_X2_boat l hB G n fa gl bl sl bx dy sw rd dw bck ldd co um ua us uv _ jx bn ([.int bo, .ref pq, .int hu, .int mi, .int lg, .int sk, .int hd]) a1 c0_ c1_ c2_ c3_ ej hus huk huj huv) c0_ rfl rfl q1305 q1306 q1307 q78 q1308 (⟨by decide, by decide, by decide⟩ : gArg _ 1) rfl ⟨by decide, by decide⟩ (by omega) hl rfl (Nat.le_of_ble_eq_true rfl) dX2_shoots_2 (fun v5966 G5967 n5968 H locs hp5969 hI hS => ?_) gKx.no
  obtain ⟨rfl, eG5967, en5968⟩ := hp5969
  refine W.widen (k := 0) (n := 200 * (0)) (by omega) (by omega) ?_
  rw [eG5967, en5968] at hI
  refine lv_astore (lv' := [(4, .ref bn), (0, .ref fa), (1, .int a1), (2, .int a2), (3, .int a3)]) hx hb dX2_shoots_5 hl (by decide) rfl (fun ls hl => ?_)
  refine lv_aload_n hx hb dX2_shoots_7 rfl (lv_at hl 1 rfl) ?_
  refine lv_iload_n hx hb dX2_shoots_8 rfl (lv_at hl 3 rfl) ?_
  refine g_V (As := [.int a2]) (rest := []) (lv := [(4, .ref bn), (0, .ref fa), (1, .int a1), (2, .int a2), (3, .int a3)]) C hI hS (c_X2_string l hB G n fa gl bl sl bx dy sw rd dw bck ldd co wm wa ws wv _ ix ln ([.int po, .ref lq, .int ba, .int si, .int lo, .int dr]) a2 c0_ c4_ c5_ c6_ ei hws hwk hwj hwv) c0_ rfl rfl q1390 q1391 q1392 q78 q1393 (⟨by decide, by decide, by decide⟩ : gArg _ 1) rfl ⟨by decide, by decide⟩ (by omega) hl rfl (Nat.le_of_ble_eq_true rfl) dX2_shoots_9 (fun v5972 G5973 n5974 H locs hp5975 hI hS => ?_) gKx.no
  obtain ⟨rfl, eG5973, en5974⟩ := hp5975
  refine W.widen (k := 0) (n := 200 * (0)) (by omega) (by omega) ?_
  rw [eG5973, en5974] at hI
  refine lv_astore (lv' := [(5, .ref ln), (4, .ref bn), (0, .ref fa), (1, .int a1), (2, .int a2), (3, .int a3)]) hx hb dX2_shoots_12 hl (by decide) rfl (fun ls hl => ?_)
  refine lv_aload_n hx hb dX2_shoots_14 rfl (lv_at hl 2 rfl) ?_
  refine lv_iload_n hx hb dX2_shoots_15 rfl (lv_at hl 3 rfl) ?_
  refine g_V (As := [.int a1]) (rest := []) (lv := [(5, .ref ln), (4, .ref bn), (0, .ref fa), (1, .int a1), (2, .int a2), (3, .int a3)]) C hI hS (c_X2_checkOutA l hB hfl G n fa gl bl sl bx dy sw rd dw bck ldd co um ua us uv _ jx a1 _ bo pq hu mi lg sk hd c0_ c1_ c2_ c3_ c7_ ej hus huk huj huv) c0_ rfl rfl q1380 q1382 qs12 q78 q1383 (⟨by decide, by decide, by decide⟩ : gArg _ 1) rfl ⟨by decide, by decide⟩ (by omega) hl rfl (Nat.le_of_ble_eq_true rfl) dX2_shoots_16 (fun v5978 G5979 n5980 H locs hp5981 hI hS => ?_) ?_
  · skip
    obtain ⟨rfl, eG5979, en5980, hno5984⟩ := hp5981
    refine W.widen (k := 1) (n := 200 * (1)) (by omega) (by omega) ?_
    rw [eG5979, en5980] at hI
    exact (hno5984).elim
  · skip
    intro E5985 q5986 G5987 n5988 H locs hp5989 hI hS
    exact g_out0 C hxt hI hS (by omega) (hp5989.up (fun _ => trivial) (by omega) hF (fun _ _ h => h.elim))
set_option maxHeartbeats 4000000 in
set_option maxRecDepth 100000 in
theorem c_X2_shootsGG (l : Launch) {D : gD} (hB : gBs D) (hfl : l.stackTraces = false) (G : gH) (n : Nat) (fa : Nat) (gl : Nat) (bl : Nat) (sl : Nat) (bx : Nat) (dy : Int32) (sw : Int32) (rd : Int32) (dw : Int32) (bck : Int32) (ldd : Int32) (co : Int32) (um : Int32) (ua : Nat) (us : Int32) (uv : Nat → Value) (uk : Nat) (jx : Nat) (a1 : Int32) (bn : Nat) (bo : Int32) (pq : Nat) (hu : Int32) (mi : Int32) (lg : Int32) (sk : Int32) (hd : Int32) (wm : Int32) (wa : Nat) (ws : Int32) (wv : Nat → Value) (wk : Nat) (ix : Nat) (a2 : Int32) (a3 : Int32) (ln : Nat) (po : Int32) (lq : Nat) (ba : Int32) (si : Int32) (lo : Int32) (dr : Int32) (pv : Int32) (qv : Int32) (c0_ : G fa = some (.inl (1, [.ref gl, .ref bl, .ref sl, .ref bx, .int dy, .int sw, .int rd, .int dw, .int bck, .int ldd, .int co]))) (c1_ : G bl = some (.inl (15, [.int um, .ref ua, .int us]))) (c2_ : G ua = some (aR 10 uv)) (c3_ : G bn = some (.inl (3, [.int bo, .ref pq, .int hu, .int mi, .int lg, .int sk, .int hd]))) (c4_ : G sl = some (.inl (15, [.int wm, .ref wa, .int ws]))) (c5_ : G wa = some (aR 10 wv)) (c6_ : G ln = some (.inl (5, [.int po, .ref lq, .int ba, .int si, .int lo, .int dr]))) (c7_ : G pq = some (.inl (7, [.int pv]))) (c8_ : G lq = some (.inl (7, [.int qv]))) (ej : a1 = nI jx) (hus : us = nI uk) (huk : uk ≤ 10) (huj : jx < uk) (huv : uv jx = .ref bn) (ei : a2 = nI ix) (hws : ws = nI wk) (hwk : wk ≤ 10) (hwj : ix < wk) (hwv : wv ix = .ref ln) : gMet l D yX2_shoots (ws_ yX2_shoots cX2_shoots 8 (some FieldType.int)) 17 2 G n [.ref fa, .int a1, .int a2, .int a3] (fun (v : Option Value) (G1 : gH) (n1 : Nat) => v = none ∧ G1 = G ∧ n1 = n ∧ False) (xRf D 6 qv True gNone G n) := by
  refine g_start (by decide) (Nat.le_of_ble_eq_true rfl) ?_
  intro p e s m below meth c ls C hnm hxt hI hl
  have hx := C.x
  have hb := C.b
  have hS : va_S (gA D) s.heap s.heap [] := va_S.rf
  have hz0 := hI.z
  have lc0_ := hI.lt c0_
  have lc1_ := hI.lt c1_
  have lc2_ := hI.lt c2_
  have lc3_ := hI.lt c3_
  have lc4_ := hI.lt c4_
  have lc5_ := hI.lt c5_
  have lc6_ := hI.lt c6_
  have lc7_ := hI.lt c7_
  have lc8_ := hI.lt c8_
  have hF : gF G G n gNone := gF.rf _ _ _
  have hl : lv_has ls 8 [(0, .ref fa), (1, .int a1), (2, .int a2), (3, .int a3)] := hl
  refine lv_aload_n hx hb dX2_shoots_0 rfl (lv_at hl 0 rfl) ?_
  refine lv_iload_n hx hb dX2_shoots_1 rfl (lv_at hl 1 rfl) ?_
  refine g_V (As := [.int a1]) (rest := []) (lv := [(0, .ref fa), (1, .int a1), (2, .int a2), (3, .int a3)]) C hI hS (c_X2_boat l hB G n fa gl bl sl bx dy sw rd dw bck ldd co um ua us uv _ jx bn ([.int bo, .ref pq, .int hu, .int mi, .int lg, .int sk, .int hd]) a1 c0_ c1_ c2_ c3_ ej hus huk huj huv) c0_ rfl rfl q1305 q1306 q1307 q78 q1308 (⟨by decide, by decide, by decide⟩ : gArg _ 1) rfl ⟨by decide, by decide⟩ (by omega) hl rfl (Nat.le_of_ble_eq_true rfl) dX2_shoots_2 (fun v5990 G5991 n5992 H locs hp5993 hI hS => ?_) gKx.no
  obtain ⟨rfl, eG5991, en5992⟩ := hp5993
  refine W.widen (k := 0) (n := 200 * (0)) (by omega) (by omega) ?_
  rw [eG5991, en5992] at hI
  refine lv_astore (lv' := [(4, .ref bn), (0, .ref fa), (1, .int a1), (2, .int a2), (3, .int a3)]) hx hb dX2_shoots_5 hl (by decide) rfl (fun ls hl => ?_)
  refine lv_aload_n hx hb dX2_shoots_7 rfl (lv_at hl 1 rfl) ?_
  refine lv_iload_n hx hb dX2_shoots_8 rfl (lv_at hl 3 rfl) ?_
  refine g_V (As := [.int a2]) (rest := []) (lv := [(4, .ref bn), (0, .ref fa), (1, .int a1), (2, .int a2), (3, .int a3)]) C hI hS (c_X2_string l hB G n fa gl bl sl bx dy sw rd dw bck ldd co wm wa ws wv _ ix ln ([.int po, .ref lq, .int ba, .int si, .int lo, .int dr]) a2 c0_ c4_ c5_ c6_ ei hws hwk hwj hwv) c0_ rfl rfl q1390 q1391 q1392 q78 q1393 (⟨by decide, by decide, by decide⟩ : gArg _ 1) rfl ⟨by decide, by decide⟩ (by omega) hl rfl (Nat.le_of_ble_eq_true rfl) dX2_shoots_9 (fun v5996 G5997 n5998 H locs hp5999 hI hS => ?_) gKx.no
  obtain ⟨rfl, eG5997, en5998⟩ := hp5999
  refine W.widen (k := 0) (n := 200 * (0)) (by omega) (by omega) ?_
  rw [eG5997, en5998] at hI
  refine lv_astore (lv' := [(5, .ref ln), (4, .ref bn), (0, .ref fa), (1, .int a1), (2, .int a2), (3, .int a3)]) hx hb dX2_shoots_12 hl (by decide) rfl (fun ls hl => ?_)
  refine lv_aload_n hx hb dX2_shoots_14 rfl (lv_at hl 2 rfl) ?_
  refine lv_iload_n hx hb dX2_shoots_15 rfl (lv_at hl 3 rfl) ?_
  refine g_V (As := [.int a1]) (rest := []) (lv := [(5, .ref ln), (4, .ref bn), (0, .ref fa), (1, .int a1), (2, .int a2), (3, .int a3)]) C hI hS (c_X2_checkOutG l hB hfl G n fa gl bl sl bx dy sw rd dw bck ldd co um ua us uv _ jx a1 _ bo pq hu mi lg sk hd pv c0_ c1_ c2_ c3_ c7_ ej hus huk huj huv) c0_ rfl rfl q1380 q1382 qs12 q78 q1383 (⟨by decide, by decide, by decide⟩ : gArg _ 1) rfl ⟨by decide, by decide⟩ (by omega) hl rfl (Nat.le_of_ble_eq_true rfl) dX2_shoots_16 (fun v6002 G6003 n6004 H locs hp6005 hI hS => ?_) gKx.no
  obtain ⟨rfl, eG6003, en6004⟩ := hp6005
  refine W.widen (k := 1) (n := 200 * (1)) (by omega) (by omega) ?_
  rw [eG6003, en6004] at hI
  refine lv_aload hx hb dX2_shoots_19 (lv_at hl 0 rfl) ?_
  refine g_V (As := []) (rest := []) (lv := [(5, .ref ln), (4, .ref bn), (0, .ref fa), (1, .int a1), (2, .int a2), (3, .int a3)]) C hI hS (c_X7_place l hB G n ln po lq ba si lo dr c6_ ) c6_ rfl rfl q1394 q1395 q1396 q114 q1397 (⟨by decide, by decide, by decide⟩ : gArg _ 0) rfl ⟨by decide, by decide⟩ (by omega) hl rfl (Nat.le_of_ble_eq_true rfl) dX2_shoots_21 (fun v6008 G6009 n6010 H locs hp6011 hI hS => ?_) gKx.no
  obtain ⟨rfl, eG6009, en6010⟩ := hp6011
  refine W.widen (k := 1) (n := 200 * (1)) (by omega) (by omega) ?_
  rw [eG6009, en6010] at hI
  refine lv_astore (lv' := [(7, .ref lq), (5, .ref ln), (4, .ref bn), (0, .ref fa), (1, .int a1), (2, .int a2), (3, .int a3)]) hx hb dX2_shoots_24 hl (by decide) rfl (fun ls hl => ?_)
  refine lv_aload hx hb dX2_shoots_26 (lv_at hl 0 rfl) ?_
  refine g_inst C hI c8_ rfl q1309 dX2_shoots_28 ?_
  refine lv_if_eq (tgt := 56) hx hb dX2_shoots_31 (by decide) (fun c_6014 => ?_) (fun c_6014 => ?_)
  · exact absurd c_6014 (by decide)
  · skip
    refine lv_aload hx hb dX2_shoots_34 (lv_at hl 0 rfl) ?_
    refine g_chk C hI c8_ rfl q1309 dX2_shoots_36 ?_
    refine lv_astore (lv' := [(6, .ref lq), (7, .ref lq), (5, .ref ln), (4, .ref bn), (0, .ref fa), (1, .int a1), (2, .int a2), (3, .int a3)]) hx hb dX2_shoots_39 hl (by decide) rfl (fun ls hl => ?_)
    refine g_new (fs := [.null, .null, .null, .null, .null, .int 0, .int 0, .int 0]) C hI hS kc8 rfl q1326 q1327 q117 (by decide) (by omega) dX2_shoots_41 (fun G6015 H e6016 hI hS => ?_)
    have c0_ := gE_k e6016 c0_ (by omega)
    have c1_ := gE_k e6016 c1_ (by omega)
    have c2_ := gE_k e6016 c2_ (by omega)
    have c3_ := gE_k e6016 c3_ (by omega)
    have c4_ := gE_k e6016 c4_ (by omega)
    have c5_ := gE_k e6016 c5_ (by omega)
    have c6_ := gE_k e6016 c6_ (by omega)
    have c7_ := gE_k e6016 c7_ (by omega)
    have c8_ := gE_k e6016 c8_ (by omega)
    have c6017 : G6015 n = some (.inl (8, [.null, .null, .null, .null, .null, .int 0, .int 0, .int 0])) := gE_s e6016
    have hF := gE_F e6016 hF (Or.inl (by omega))
    refine lv_dup hx hb dX2_shoots_44 rfl ?_
    refine lv_bipush (v := 6) hx hb dX2_shoots_45 (by decide) ?_
    refine lv_aload hx hb dX2_shoots_47 (lv_at hl 0 rfl) ?_
    refine g_V (As := []) (rest := [.int 6, .ref n, .ref n]) (lv := [(6, .ref lq), (7, .ref lq), (5, .ref ln), (4, .ref bn), (0, .ref fa), (1, .int a1), (2, .int a2), (3, .int a3)]) C hI hS (c_X9_ground l hB G6015 (n + 1) lq qv c8_ ) c8_ rfl rfl q1335 q1336 q1337 q116 q1338 (⟨by decide, by decide, by decide⟩ : gArg _ 0) rfl ⟨by decide, by decide⟩ (by omega) hl rfl (Nat.le_of_ble_eq_true rfl) dX2_shoots_49 (fun v6018 G6019 n6020 H locs hp6021 hI hS => ?_) gKx.no
    obtain ⟨rfl, eG6019, en6020⟩ := hp6021
    refine W.widen (k := 2) (n := 200 * (2)) (by omega) (by omega) ?_
    rw [eG6019, en6020] at hI
    refine g_I (As := [.int 6, .int qv]) (rest := [.ref n]) (lv := [(6, .ref lq), (7, .ref lq), (5, .ref ln), (4, .ref bn), (0, .ref fa), (1, .int a1), (2, .int a2), (3, .int a3)]) C hI hS (c_X10_init l hB hfl G6015 (n + 1) n 6 qv c6017 (by omega)) rfl q1339 q1340 q117 q1341 (⟨by decide, by decide, by decide⟩ : gArg _ 2) rfl ⟨by decide, by decide⟩ (by omega) hl rfl (Nat.le_of_ble_eq_true rfl) dX2_shoots_52 (fun v6024 G6025 n6026 H locs hp6027 hI hS => ?_) gKx.no
    obtain ⟨rfl, hn6028, hF6029, c6030⟩ := hp6027
    refine W.widen (k := 2) (n := 200 * (2)) (by omega) (by omega) ?_
    have c0_ := hF6029.at c0_ (by omega) (g_nc c0_ c6017 (by decide))
    have c1_ := hF6029.at c1_ (by omega) (g_nc c1_ c6017 (by decide))
    have c2_ := hF6029.at c2_ (by omega) (g_on c2_ c6017)
    have c3_ := hF6029.at c3_ (by omega) (g_nc c3_ c6017 (by decide))
    have c4_ := hF6029.at c4_ (by omega) (g_nc c4_ c6017 (by decide))
    have c5_ := hF6029.at c5_ (by omega) (g_on c5_ c6017)
    have c6_ := hF6029.at c6_ (by omega) (g_nc c6_ c6017 (by decide))
    have c7_ := hF6029.at c7_ (by omega) (g_nc c7_ c6017 (by decide))
    have c8_ := hF6029.at c8_ (by omega) (g_nc c8_ c6017 (by decide))
    have hF := hF.trans hF6029 (by omega) (fun q hq => (fun h => by exfalso; omega))
    exact g_athrow C hI c6030 (r := (RX10, TX10, 8)) rfl (by omega) dX2_shoots_55 (g_out0 C hxt hI hS (by omega) ⟨trivial, rfl, Nat.le_refl _, by omega, hF, c6030⟩)
set_option maxHeartbeats 4000000 in
set_option maxRecDepth 100000 in
theorem c_X2_shootsGA (l : Launch) {D : gD} (hB : gBs D) (hfl : l.stackTraces = false) (G : gH) (n : Nat) (fa : Nat) (gl : Nat) (bl : Nat) (sl : Nat) (bx : Nat) (dy : Int32) (sw : Int32) (rd : Int32) (dw : Int32) (bck : Int32) (ldd : Int32) (co : Int32) (um : Int32) (ua : Nat) (us : Int32) (uv : Nat → Value) (uk : Nat) (jx : Nat) (a1 : Int32) (bn : Nat) (bo : Int32) (pq : Nat) (hu : Int32) (mi : Int32) (lg : Int32) (sk : Int32) (hd : Int32) (wm : Int32) (wa : Nat) (ws : Int32) (wv : Nat → Value) (wk : Nat) (ix : Nat) (a2 : Int32) (a3 : Int32) (ln : Nat) (po : Int32) (lq : Nat) (ba : Int32) (si : Int32) (lo : Int32) (dr : Int32) (pv : Int32) (x : Nat → Int32) (kx : Nat) (c0_ : G fa = some (.inl (1, [.ref gl, .ref bl, .ref sl, .ref bx, .int dy, .int sw, .int rd, .int dw, .int bck, .int ldd, .int co]))) (c1_ : G bl = some (.inl (15, [.int um, .ref ua, .int us]))) (c2_ : G ua = some (aR 10 uv)) (c3_ : G bn = some (.inl (3, [.int bo, .ref pq, .int hu, .int mi, .int lg, .int sk, .int hd]))) (c4_ : G sl = some (.inl (15, [.int wm, .ref wa, .int ws]))) (c5_ : G wa = some (aR 10 wv)) (c6_ : G ln = some (.inl (5, [.int po, .ref lq, .int ba, .int si, .int lo, .int dr]))) (c7_ : G pq = some (.inl (7, [.int pv]))) (c8_ : G lq = some (.inl (4, []))) (c9_ : G bx = some (aI 3 x)) (ej : a1 = nI jx) (hus : us = nI uk) (huk : uk ≤ 10) (huj : jx < uk) (huv : uv jx = .ref bn) (ei : a2 = nI ix) (hws : ws = nI wk) (hwk : wk ≤ 10) (hwj : ix < wk) (hwv : wv ix = .ref ln) (hzb : gz D ≤ bn) (hzn : gz D ≤ ln) (hzx : gz D ≤ bx) (ek : a3 = nI kx) (hk3 : kx < 3) : gMet l D yX2_shoots (ws_ yX2_shoots cX2_shoots 8 (some FieldType.int)) 17 3 G n [.ref fa, .int a1, .int a2, .int a3] (fun (v : Option Value) (G1 : gH) (n1 : Nat) => v = some (.int (hu - 1)) ∧ n ≤ n1 ∧ gF G G1 n (fun q : Nat => q = bn ∨ q = ln ∨ q = bx) ∧ G1 bn = some (.inl (3, [.int bo, .ref pq, .int (hu - 1), .int mi, .int lg, .int sk, .int hd])) ∧ G1 ln = some (.inl (5, [.int po, .ref pq, .int a3, .int dy, .int lo, .int dr])) ∧ G1 bx = some (aI 3 (gup x kx (x kx - ((po + 4) / 5)))) ∧ ¬ hu < 1 ∧ ¬ x kx < ((po + 4) / 5)) (xRf D (if hu < 1 then 4 else 7) (if hu < 1 then 1 - hu else ((po + 4) / 5) - x kx) (hu < 1 ∨ x kx < ((po + 4) / 5)) (fun q => q = bn ∨ q = ln ∨ q = bx) G n) := by
  refine g_start (by decide) (Nat.le_of_ble_eq_true rfl) ?_
  intro p e s m below meth c ls C hnm hxt hI hl
  have hx := C.x
  have hb := C.b
  have hS : va_S (gA D) s.heap s.heap [] := va_S.rf
  have hz0 := hI.z
  have lc0_ := hI.lt c0_
  have lc1_ := hI.lt c1_
  have lc2_ := hI.lt c2_
  have lc3_ := hI.lt c3_
  have lc4_ := hI.lt c4_
  have lc5_ := hI.lt c5_
  have lc6_ := hI.lt c6_
  have lc7_ := hI.lt c7_
  have lc8_ := hI.lt c8_
  have lc9_ := hI.lt c9_
  have hF : gF G G n (fun q : Nat => q = bn ∨ q = ln ∨ q = bx) := gF.rf _ _ _
  have hl : lv_has ls 8 [(0, .ref fa), (1, .int a1), (2, .int a2), (3, .int a3)] := hl
  refine lv_aload_n hx hb dX2_shoots_0 rfl (lv_at hl 0 rfl) ?_
  refine lv_iload_n hx hb dX2_shoots_1 rfl (lv_at hl 1 rfl) ?_
  refine g_V (As := [.int a1]) (rest := []) (lv := [(0, .ref fa), (1, .int a1), (2, .int a2), (3, .int a3)]) C hI hS (c_X2_boat l hB G n fa gl bl sl bx dy sw rd dw bck ldd co um ua us uv _ jx bn ([.int bo, .ref pq, .int hu, .int mi, .int lg, .int sk, .int hd]) a1 c0_ c1_ c2_ c3_ ej hus huk huj huv) c0_ rfl rfl q1305 q1306 q1307 q78 q1308 (⟨by decide, by decide, by decide⟩ : gArg _ 1) rfl ⟨by decide, by decide⟩ (by omega) hl rfl (Nat.le_of_ble_eq_true rfl) dX2_shoots_2 (fun v6031 G6032 n6033 H locs hp6034 hI hS => ?_) gKx.no
  obtain ⟨rfl, eG6032, en6033⟩ := hp6034
  refine W.widen (k := 0) (n := 200 * (0)) (by omega) (by omega) ?_
  rw [eG6032, en6033] at hI
  refine lv_astore (lv' := [(4, .ref bn), (0, .ref fa), (1, .int a1), (2, .int a2), (3, .int a3)]) hx hb dX2_shoots_5 hl (by decide) rfl (fun ls hl => ?_)
  refine lv_aload_n hx hb dX2_shoots_7 rfl (lv_at hl 1 rfl) ?_
  refine lv_iload_n hx hb dX2_shoots_8 rfl (lv_at hl 3 rfl) ?_
  refine g_V (As := [.int a2]) (rest := []) (lv := [(4, .ref bn), (0, .ref fa), (1, .int a1), (2, .int a2), (3, .int a3)]) C hI hS (c_X2_string l hB G n fa gl bl sl bx dy sw rd dw bck ldd co wm wa ws wv _ ix ln ([.int po, .ref lq, .int ba, .int si, .int lo, .int dr]) a2 c0_ c4_ c5_ c6_ ei hws hwk hwj hwv) c0_ rfl rfl q1390 q1391 q1392 q78 q1393 (⟨by decide, by decide, by decide⟩ : gArg _ 1) rfl ⟨by decide, by decide⟩ (by omega) hl rfl (Nat.le_of_ble_eq_true rfl) dX2_shoots_9 (fun v6037 G6038 n6039 H locs hp6040 hI hS => ?_) gKx.no
  obtain ⟨rfl, eG6038, en6039⟩ := hp6040
  refine W.widen (k := 0) (n := 200 * (0)) (by omega) (by omega) ?_
  rw [eG6038, en6039] at hI
  refine lv_astore (lv' := [(5, .ref ln), (4, .ref bn), (0, .ref fa), (1, .int a1), (2, .int a2), (3, .int a3)]) hx hb dX2_shoots_12 hl (by decide) rfl (fun ls hl => ?_)
  refine lv_aload_n hx hb dX2_shoots_14 rfl (lv_at hl 2 rfl) ?_
  refine lv_iload_n hx hb dX2_shoots_15 rfl (lv_at hl 3 rfl) ?_
  refine g_V (As := [.int a1]) (rest := []) (lv := [(5, .ref ln), (4, .ref bn), (0, .ref fa), (1, .int a1), (2, .int a2), (3, .int a3)]) C hI hS (c_X2_checkOutG l hB hfl G n fa gl bl sl bx dy sw rd dw bck ldd co um ua us uv _ jx a1 _ bo pq hu mi lg sk hd pv c0_ c1_ c2_ c3_ c7_ ej hus huk huj huv) c0_ rfl rfl q1380 q1382 qs12 q78 q1383 (⟨by decide, by decide, by decide⟩ : gArg _ 1) rfl ⟨by decide, by decide⟩ (by omega) hl rfl (Nat.le_of_ble_eq_true rfl) dX2_shoots_16 (fun v6043 G6044 n6045 H locs hp6046 hI hS => ?_) gKx.no
  obtain ⟨rfl, eG6044, en6045⟩ := hp6046
  refine W.widen (k := 1) (n := 200 * (1)) (by omega) (by omega) ?_
  rw [eG6044, en6045] at hI
  refine lv_aload hx hb dX2_shoots_19 (lv_at hl 0 rfl) ?_
  refine g_V (As := []) (rest := []) (lv := [(5, .ref ln), (4, .ref bn), (0, .ref fa), (1, .int a1), (2, .int a2), (3, .int a3)]) C hI hS (c_X7_place l hB G n ln po lq ba si lo dr c6_ ) c6_ rfl rfl q1394 q1395 q1396 q114 q1397 (⟨by decide, by decide, by decide⟩ : gArg _ 0) rfl ⟨by decide, by decide⟩ (by omega) hl rfl (Nat.le_of_ble_eq_true rfl) dX2_shoots_21 (fun v6049 G6050 n6051 H locs hp6052 hI hS => ?_) gKx.no
  obtain ⟨rfl, eG6050, en6051⟩ := hp6052
  refine W.widen (k := 1) (n := 200 * (1)) (by omega) (by omega) ?_
  rw [eG6050, en6051] at hI
  refine lv_astore (lv' := [(7, .ref lq), (5, .ref ln), (4, .ref bn), (0, .ref fa), (1, .int a1), (2, .int a2), (3, .int a3)]) hx hb dX2_shoots_24 hl (by decide) rfl (fun ls hl => ?_)
  refine lv_aload hx hb dX2_shoots_26 (lv_at hl 0 rfl) ?_
  refine g_instNo C hI c8_ rfl q1309 nc0 dX2_shoots_28 ?_
  refine lv_if_eq (tgt := 56) hx hb dX2_shoots_31 (by decide) (fun c_6055 => ?_) (fun c_6055 => ?_)
  · skip
    refine lv_aload hx hb dX2_shoots_56 (lv_at hl 2 rfl) ?_
    refine lv_iconst (v := 1) hx hb dX2_shoots_58 (by decide) ?_
    refine g_V (As := [.int 1]) (rest := []) (lv := [(7, .ref lq), (5, .ref ln), (4, .ref bn), (0, .ref fa), (1, .int a1), (2, .int a2), (3, .int a3)]) C hI hS (c_X5_checkHours l hB hfl G n bn bo pq hu mi lg sk hd 1 c3_ ) c3_ rfl rfl q1363 q1364 q1365 q112 q1366 (⟨by decide, by decide, by decide⟩ : gArg _ 1) rfl ⟨by decide, by decide⟩ (by omega) hl rfl (Nat.le_of_ble_eq_true rfl) dX2_shoots_59 (fun v6056 G6057 n6058 H locs hp6059 hI hS => ?_) ?_
    · skip
      obtain ⟨rfl, eG6057, en6058, hh6062⟩ := hp6059
      refine W.widen (k := 2) (n := 200 * (2)) (by omega) (by omega) ?_
      rw [eG6057, en6058] at hI
      refine lv_aload hx hb dX2_shoots_62 (lv_at hl 1 rfl) ?_
      refine g_V (As := []) (rest := []) (lv := [(7, .ref lq), (5, .ref ln), (4, .ref bn), (0, .ref fa), (1, .int a1), (2, .int a2), (3, .int a3)]) C hI hS (c_X7_unitsOfBait l hB G n ln po lq ba si lo dr c6_ ) c6_ rfl rfl q1398 q1399 q1400 q114 q1401 (⟨by decide, by decide, by decide⟩ : gArg _ 0) rfl ⟨by decide, by decide⟩ (by omega) hl rfl (Nat.le_of_ble_eq_true rfl) dX2_shoots_64 (fun v6063 G6064 n6065 H locs hp6066 hI hS => ?_) gKx.no
      obtain ⟨rfl, eG6064, en6065⟩ := hp6066
      refine W.widen (k := 2) (n := 200 * (2)) (by omega) (by omega) ?_
      rw [eG6064, en6065] at hI
      refine lv_istore (lv' := [(6, .int ((po + 4) / 5)), (7, .ref lq), (5, .ref ln), (4, .ref bn), (0, .ref fa), (1, .int a1), (2, .int a2), (3, .int a3)]) hx hb dX2_shoots_67 hl (by decide) rfl (fun ls hl => ?_)
      refine lv_aload_n hx hb dX2_shoots_69 rfl (lv_at hl 4 rfl) ?_
      refine g_get C hI c0_ kc1 3 rfl q182 (fun _ h9 => h9) dX2_shoots_70 ?_
      refine lv_iload_n hx hb dX2_shoots_73 rfl (lv_at hl 7 rfl) ?_
      refine g_iald (v := .int (x kx)) C hI c9_ (gix ek (by omega) (by omega)) (congrArg Value.int (gixv (f := x) ek (by omega))) dX2_shoots_74 ?_
      refine lv_iload hx hb dX2_shoots_75 (lv_at hl 0 rfl) ?_
      refine lv_icmp_lt (tgt := 84) hx hb dX2_shoots_77 (by decide) (fun c_6069 => ?_) (fun c_6069 => ?_)
      · skip
        refine lv_iconst (v := 0) hx hb dX2_shoots_84 (by decide) ?_
        refine lv_bipush (v := 7) hx hb dX2_shoots_85 (by decide) ?_
        refine lv_iload hx hb dX2_shoots_87 (lv_at hl 0 rfl) ?_
        refine lv_aload_n hx hb dX2_shoots_89 rfl (lv_at hl 4 rfl) ?_
        refine g_get C hI c0_ kc1 3 rfl q182 (fun _ h9 => h9) dX2_shoots_90 ?_
        refine lv_iload_n hx hb dX2_shoots_93 rfl (lv_at hl 7 rfl) ?_
        refine g_iald (v := .int (x kx)) C hI c9_ (gix ek (by omega) (by omega)) (congrArg Value.int (gixv (f := x) ek (by omega))) dX2_shoots_94 ?_
        refine lv_isub hx hb dX2_shoots_95 ?_
        refine g_SN (As := [.int 0, .int 7, .int (((po + 4) / 5) - (x kx))]) (rest := []) (lv := [(6, .int ((po + 4) / 5)), (7, .ref lq), (5, .ref ln), (4, .ref bn), (0, .ref fa), (1, .int a1), (2, .int a2), (3, .int a3)]) C hI hS (c_X1_meet l hB hfl G n 0 7 (((po + 4) / 5) - (x kx))  ) (gNw_in q1355 rfl) q1356 q77 q1357 (⟨by decide, by decide, by decide⟩ : gArg _ 3) rfl ⟨by decide, by decide⟩ (by omega) hl rfl (Nat.le_of_ble_eq_true rfl) dX2_shoots_96 (fun v6070 G6071 n6072 H locs hp6073 hI hS => ?_) ?_
        · skip
          obtain ⟨rfl, eG6071, en6072, hh6076⟩ := hp6073
          refine W.widen (k := 3) (n := 200 * (3)) (by omega) (by omega) ?_
          rw [eG6071, en6072] at hI
          exact absurd rfl hh6076
        · skip
          intro E6077 q6078 G6079 n6080 H locs hp6081 hI hS
          exact g_out0 C hxt hI hS (by omega) (by rw [if_neg hh6062, if_neg hh6062]; exact hp6081.up (fun _ => Or.inr c_6069) (by omega) hF (fun _ _ h => h.elim))
      · skip
        refine lv_iconst (v := 1) hx hb dX2_shoots_80 (by decide) ?_
        refine lv_goto (tgt := 85) hx hb dX2_shoots_81 (by decide) ?_
        refine lv_bipush (v := 7) hx hb dX2_shoots_85 (by decide) ?_
        refine lv_iload hx hb dX2_shoots_87 (lv_at hl 0 rfl) ?_
        refine lv_aload_n hx hb dX2_shoots_89 rfl (lv_at hl 4 rfl) ?_
        refine g_get C hI c0_ kc1 3 rfl q182 (fun _ h9 => h9) dX2_shoots_90 ?_
        refine lv_iload_n hx hb dX2_shoots_93 rfl (lv_at hl 7 rfl) ?_
        refine g_iald (v := .int (x kx)) C hI c9_ (gix ek (by omega) (by omega)) (congrArg Value.int (gixv (f := x) ek (by omega))) dX2_shoots_94 ?_
        refine lv_isub hx hb dX2_shoots_95 ?_
        refine g_SN (As := [.int 1, .int 7, .int (((po + 4) / 5) - (x kx))]) (rest := []) (lv := [(6, .int ((po + 4) / 5)), (7, .ref lq), (5, .ref ln), (4, .ref bn), (0, .ref fa), (1, .int a1), (2, .int a2), (3, .int a3)]) C hI hS (c_X1_meet l hB hfl G n 1 7 (((po + 4) / 5) - (x kx))  ) (gNw_in q1355 rfl) q1356 q77 q1357 (⟨by decide, by decide, by decide⟩ : gArg _ 3) rfl ⟨by decide, by decide⟩ (by omega) hl rfl (Nat.le_of_ble_eq_true rfl) dX2_shoots_96 (fun v6082 G6083 n6084 H locs hp6085 hI hS => ?_) ?_
        · skip
          obtain ⟨rfl, eG6083, en6084, hh6088⟩ := hp6085
          refine W.widen (k := 3) (n := 200 * (3)) (by omega) (by omega) ?_
          rw [eG6083, en6084] at hI
          refine lv_aload_n hx hb dX2_shoots_99 rfl (lv_at hl 4 rfl) ?_
          refine g_get C hI c0_ kc1 3 rfl q182 (fun _ h9 => h9) dX2_shoots_100 ?_
          refine lv_iload_n hx hb dX2_shoots_103 rfl (lv_at hl 7 rfl) ?_
          refine lv_dup2_11 hx hb dX2_shoots_104 rfl rfl ?_
          refine g_iald (v := .int (x kx)) C hI c9_ (gix ek (by omega) (by omega)) (congrArg Value.int (gixv (f := x) ek (by omega))) dX2_shoots_105 ?_
          refine lv_iload hx hb dX2_shoots_106 (lv_at hl 0 rfl) ?_
          refine lv_isub hx hb dX2_shoots_108 ?_
          refine g_iast C hI hS c9_ (by omega) (gix ek (by omega) (by omega)) dX2_shoots_109 (fun G6089 H locs e6090 hI hS => ?_)
          rw [gup_e ek (by omega)] at e6090
          have c0_ := gE_k e6090 c0_ (g_no c0_ c9_)
          have c1_ := gE_k e6090 c1_ (g_no c1_ c9_)
          have c2_ := gE_k e6090 c2_ (g_na c2_ c9_ (Or.inl (by decide)))
          have c3_ := gE_k e6090 c3_ (g_no c3_ c9_)
          have c4_ := gE_k e6090 c4_ (g_no c4_ c9_)
          have c5_ := gE_k e6090 c5_ (g_na c5_ c9_ (Or.inl (by decide)))
          have c6_ := gE_k e6090 c6_ (g_no c6_ c9_)
          have c7_ := gE_k e6090 c7_ (g_no c7_ c9_)
          have c8_ := gE_k e6090 c8_ (g_no c8_ c9_)
          have c9_ : G6089 bx = some (aI 3 (gup x kx ((x kx) - ((po + 4) / 5)))) := gE_s e6090
          have hF := gE_F e6090 hF (Or.inr (Or.inr (Or.inr (rfl))))
          refine lv_aload hx hb dX2_shoots_110 (lv_at hl 2 rfl) ?_
          refine lv_aload hx hb dX2_shoots_112 (lv_at hl 3 rfl) ?_
          refine g_V (As := []) (rest := [.ref ln]) (lv := [(6, .int ((po + 4) / 5)), (7, .ref lq), (5, .ref ln), (4, .ref bn), (0, .ref fa), (1, .int a1), (2, .int a2), (3, .int a3)]) C hI hS (c_X5_place l hB G6089 n bn bo pq hu mi lg sk hd c3_ ) c3_ rfl rfl q1322 q1323 q1324 q112 q1325 (⟨by decide, by decide, by decide⟩ : gArg _ 0) rfl ⟨by decide, by decide⟩ (by omega) hl rfl (Nat.le_of_ble_eq_true rfl) dX2_shoots_114 (fun v6092 G6093 n6094 H locs hp6095 hI hS => ?_) gKx.no
          obtain ⟨rfl, eG6093, en6094⟩ := hp6095
          refine W.widen (k := 3) (n := 200 * (3)) (by omega) (by omega) ?_
          rw [eG6093, en6094] at hI
          refine lv_iload_n hx hb dX2_shoots_117 rfl (lv_at hl 7 rfl) ?_
          refine lv_aload_n hx hb dX2_shoots_118 rfl (lv_at hl 4 rfl) ?_
          refine g_get C hI c0_ kc1 4 rfl q183 (fun _ h9 => h9) dX2_shoots_119 ?_
          refine g_V (As := [.ref pq, .int a3, .int dy]) (rest := []) (lv := [(6, .int ((po + 4) / 5)), (7, .ref lq), (5, .ref ln), (4, .ref bn), (0, .ref fa), (1, .int a1), (2, .int a2), (3, .int a3)]) C hI hS (c_X7_isShot l hB G6089 n ln po lq ba si lo dr pq a3 dy c6_ (by omega)) c6_ rfl rfl q1402 q1403 q1404 q114 q1405 (⟨by decide, by decide, by decide⟩ : gArg _ 3) rfl ⟨by decide, by decide⟩ (by omega) hl rfl (Nat.le_of_ble_eq_true rfl) dX2_shoots_122 (fun v6098 G6099 n6100 H locs hp6101 hI hS => ?_) gKx.no
          obtain ⟨rfl, hn6102, hF6103, c6104⟩ := hp6101
          refine W.widen (k := 3) (n := 200 * (3)) (by omega) (by omega) ?_
          have c0_ := hF6103.at c0_ (by omega) (g_nc c0_ c6_ (by decide))
          have c1_ := hF6103.at c1_ (by omega) (g_nc c1_ c6_ (by decide))
          have c2_ := hF6103.at c2_ (by omega) (g_on c2_ c6_)
          have c3_ := hF6103.at c3_ (by omega) (g_nc c3_ c6_ (by decide))
          have c4_ := hF6103.at c4_ (by omega) (g_nc c4_ c6_ (by decide))
          have c5_ := hF6103.at c5_ (by omega) (g_on c5_ c6_)
          have c7_ := hF6103.at c7_ (by omega) (g_nc c7_ c6_ (by decide))
          have c8_ := hF6103.at c8_ (by omega) (g_nc c8_ c6_ (by decide))
          have c9_ := hF6103.at c9_ (by omega) (g_on c9_ c6_)
          have hF := hF.trans hF6103 (by omega) (fun q hq => (fun h => h ▸ (Or.inr (Or.inl rfl))))
          refine lv_aload hx hb dX2_shoots_125 (lv_at hl 3 rfl) ?_
          refine lv_iconst (v := 1) hx hb dX2_shoots_127 (by decide) ?_
          refine g_V (As := [.int 1]) (rest := []) (lv := [(6, .int ((po + 4) / 5)), (7, .ref lq), (5, .ref ln), (4, .ref bn), (0, .ref fa), (1, .int a1), (2, .int a2), (3, .int a3)]) C hI hS (c_X5_works l hB G6099 n6100 bn bo pq hu mi lg sk hd 1 c3_ (by omega)) c3_ rfl rfl q1372 q1373 q1374 q112 q1375 (⟨by decide, by decide, by decide⟩ : gArg _ 1) rfl ⟨by decide, by decide⟩ (by omega) hl rfl (Nat.le_of_ble_eq_true rfl) dX2_shoots_128 (fun v6105 G6106 n6107 H locs hp6108 hI hS => ?_) gKx.no
          obtain ⟨rfl, hn6109, hF6110, c6111⟩ := hp6108
          refine W.widen (k := 3) (n := 200 * (3)) (by omega) (by omega) ?_
          have c0_ := hF6110.at c0_ (by omega) (g_nc c0_ c3_ (by decide))
          have c1_ := hF6110.at c1_ (by omega) (g_nc c1_ c3_ (by decide))
          have c2_ := hF6110.at c2_ (by omega) (g_on c2_ c3_)
          have c4_ := hF6110.at c4_ (by omega) (g_nc c4_ c3_ (by decide))
          have c5_ := hF6110.at c5_ (by omega) (g_on c5_ c3_)
          have c7_ := hF6110.at c7_ (by omega) (g_nc c7_ c3_ (by decide))
          have c8_ := hF6110.at c8_ (by omega) (g_nc c8_ c3_ (by decide))
          have c9_ := hF6110.at c9_ (by omega) (g_on c9_ c3_)
          have c6104 := hF6110.at c6104 (by omega) (g_nc c6104 c3_ (by decide))
          have hF := hF.trans hF6110 (by omega) (fun q hq => (fun h => h ▸ (Or.inl rfl)))
          exact g_iret C hI hS (by omega) ⟨rfl, (by omega), hF, c6111, c6104, c9_, hh6062, c_6069⟩ dX2_shoots_131
        · skip
          intro E6112 q6113 G6114 n6115 H locs hp6116 hI hS
          exact absurd (hp6116).1 (by decide)
    · skip
      intro E6117 q6118 G6119 n6120 H locs hp6121 hI hS
      exact g_out0 C hxt hI hS (by omega) (by rw [if_pos hp6121.1, if_pos hp6121.1]; exact hp6121.up (fun h => Or.inl h) (by omega) hF (fun _ _ h => h.elim))
  · exact absurd (by decide) c_6055
