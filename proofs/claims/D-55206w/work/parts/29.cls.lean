/-! THE CLASS, 1: small objects -/
def cDraws (b d : Int32) : Int32 := if b = 0 then sMin 6 (2 * d) else if b = 1 then sMax 0 (5 - d) else sMin 5 (d + 1)
def cG0 : Nat → Int32 := gup (gup (gup (fun _ => 0) 0 200) 1 150) 2 60
def cGrow (x : Nat → Int32) : Nat → Int32 :=
  let f1 := gup x 0 (sMin 999 (x 0 - x 0 / 20 + (x 1 + x 2) / 25))
  let f2 := gup f1 1 (sMin 999 (f1 1 + x 0 / 20 - x 1 / 20))
  gup f2 2 (sMin 999 (f2 2 + x 1 / 20))
def cLose (x : Nat → Int32) (a b : Int32) : Nat → Int32 :=
  let f1 := gup x 1 (x 1 - a)
  gup f1 2 (f1 2 - b)
set_option maxHeartbeats 4000000 in
set_option maxRecDepth 100000 in
theorem c_X11_isAshoreA (l : Launch) {D : gD} (hB : gBs D) (G : gH) (n : Nat) (pa : Nat) (c0_ : G pa = some (.inl (4, []))) : gMet l D yX11_isAshore (ws_ yX11_isAshore cX11_isAshore 1 (some FieldType.boolean)) 1 0 G n [.ref pa] (fun (v : Option Value) (G1 : gH) (n1 : Nat) => v = some (.int 1) ∧ G1 = G ∧ n1 = n) gNox := by
  refine g_start (by decide) (Nat.le_of_ble_eq_true rfl) ?_
  intro p e s m below meth c ls C hnm hxt hI hl
  have hx := C.x
  have hb := C.b
  have hS : va_S (gA D) s.heap s.heap [] := va_S.rf
  have hz0 := hI.z
  have lc0_ := hI.lt c0_
  have hF : gF G G n gNone := gF.rf _ _ _
  have hl : lv_has ls 1 [(0, .ref pa)] := hl
  refine lv_aload_n hx hb dX11_isAshore_0 rfl (lv_at hl 0 rfl) ?_
  refine g_inst C hI c0_ rfl q1419 dX11_isAshore_1 ?_
  exact g_zret C hI hS (by omega) rfl ⟨rfl, rfl, rfl⟩ dX11_isAshore_4
set_option maxHeartbeats 4000000 in
set_option maxRecDepth 100000 in
theorem c_X11_groundOfA (l : Launch) {D : gD} (hB : gBs D) (G : gH) (n : Nat) (pa : Nat) (c0_ : G pa = some (.inl (4, []))) : gMet l D yX11_groundOf (ws_ yX11_groundOf cX11_groundOf 2 (some FieldType.int)) 1 0 G n [.ref pa] (fun (v : Option Value) (G1 : gH) (n1 : Nat) => v = some (.int (-1)) ∧ G1 = G ∧ n1 = n) gNox := by
  refine g_start (by decide) (Nat.le_of_ble_eq_true rfl) ?_
  intro p e s m below meth c ls C hnm hxt hI hl
  have hx := C.x
  have hb := C.b
  have hS : va_S (gA D) s.heap s.heap [] := va_S.rf
  have hz0 := hI.z
  have lc0_ := hI.lt c0_
  have hF : gF G G n gNone := gF.rf _ _ _
  have hl : lv_has ls 2 [(0, .ref pa)] := hl
  refine lv_aload_n hx hb dX11_groundOf_0 rfl (lv_at hl 0 rfl) ?_
  refine g_instNo C hI c0_ rfl q1445 nc0 dX11_groundOf_1 ?_
  refine lv_if_eq (tgt := 19) hx hb dX11_groundOf_4 (by decide) (fun c_4700 => ?_) (fun c_4700 => ?_)
  · skip
    refine lv_iconst (v := (-1)) hx hb dX11_groundOf_19 (by decide) ?_
    exact g_iret C hI hS (by omega) ⟨rfl, rfl, rfl⟩ dX11_groundOf_20
  · exact absurd (by decide) c_4700
set_option maxHeartbeats 4000000 in
set_option maxRecDepth 100000 in
theorem c_X11_numberA (l : Launch) {D : gD} (hB : gBs D) (G : gH) (n : Nat) (pa : Nat) (c0_ : G pa = some (.inl (4, []))) : gMet l D yX11_number (ws_ yX11_number cX11_number 1 (some FieldType.int)) 2 0 G n [.ref pa] (fun (v : Option Value) (G1 : gH) (n1 : Nat) => v = some (.int (-1)) ∧ G1 = G ∧ n1 = n) gNox := by
  refine g_start (by decide) (Nat.le_of_ble_eq_true rfl) ?_
  intro p e s m below meth c ls C hnm hxt hI hl
  have hx := C.x
  have hb := C.b
  have hS : va_S (gA D) s.heap s.heap [] := va_S.rf
  have hz0 := hI.z
  have lc0_ := hI.lt c0_
  have hF : gF G G n gNone := gF.rf _ _ _
  have hl : lv_has ls 1 [(0, .ref pa)] := hl
  refine lv_aload_n hx hb dX11_number_0 rfl (lv_at hl 0 rfl) ?_
  refine g_S (As := [.ref pa]) (rest := []) (lv := [(0, .ref pa)]) C hI hS (c_X11_groundOfA l hB G n pa c0_ ) q1442 q1443 q118 q1444 (⟨by decide, by decide, by decide⟩ : gArg _ 1) rfl ⟨by decide, by decide⟩ (by omega) hl rfl (Nat.le_of_ble_eq_true rfl) dX11_number_1 (fun v4701 G4702 n4703 H locs hp4704 hI hS => ?_) gKx.no
  obtain ⟨rfl, eG4702, en4703⟩ := hp4704
  refine W.widen (k := 0) (n := 200 * (0)) (by omega) (by omega) ?_
  rw [eG4702, en4703] at hI
  exact g_iret C hI hS (by omega) ⟨rfl, rfl, rfl⟩ dX11_number_4
set_option maxHeartbeats 4000000 in
set_option maxRecDepth 100000 in
theorem c_X11_isAshoreG (l : Launch) {D : gD} (hB : gBs D) (G : gH) (n : Nat) (pa : Nat) (pv : Int32) (c0_ : G pa = some (.inl (7, [.int pv]))) : gMet l D yX11_isAshore (ws_ yX11_isAshore cX11_isAshore 1 (some FieldType.boolean)) 1 0 G n [.ref pa] (fun (v : Option Value) (G1 : gH) (n1 : Nat) => v = some (.int 0) ∧ G1 = G ∧ n1 = n) gNox := by
  refine g_start (by decide) (Nat.le_of_ble_eq_true rfl) ?_
  intro p e s m below meth c ls C hnm hxt hI hl
  have hx := C.x
  have hb := C.b
  have hS : va_S (gA D) s.heap s.heap [] := va_S.rf
  have hz0 := hI.z
  have lc0_ := hI.lt c0_
  have hF : gF G G n gNone := gF.rf _ _ _
  have hl : lv_has ls 1 [(0, .ref pa)] := hl
  refine lv_aload_n hx hb dX11_isAshore_0 rfl (lv_at hl 0 rfl) ?_
  refine g_instNo C hI c0_ rfl q1419 nc1 dX11_isAshore_1 ?_
  exact g_zret C hI hS (by omega) rfl ⟨rfl, rfl, rfl⟩ dX11_isAshore_4
set_option maxHeartbeats 4000000 in
set_option maxRecDepth 100000 in
theorem c_X9_ground (l : Launch) {D : gD} (hB : gBs D) (G : gH) (n : Nat) (pa : Nat) (pv : Int32) (c0_ : G pa = some (.inl (7, [.int pv]))) : gMet l D yX9_ground (ws_ yX9_ground cX9_ground 1 (some FieldType.int)) 1 0 G n [.ref pa] (fun (v : Option Value) (G1 : gH) (n1 : Nat) => v = some (.int pv) ∧ G1 = G ∧ n1 = n) gNox := by
  refine g_start (by decide) (Nat.le_of_ble_eq_true rfl) ?_
  intro p e s m below meth c ls C hnm hxt hI hl
  have hx := C.x
  have hb := C.b
  have hS : va_S (gA D) s.heap s.heap [] := va_S.rf
  have hz0 := hI.z
  have lc0_ := hI.lt c0_
  have hF : gF G G n gNone := gF.rf _ _ _
  have hl : lv_has ls 1 [(0, .ref pa)] := hl
  refine lv_aload_n hx hb dX9_ground_0 rfl (lv_at hl 0 rfl) ?_
  refine g_get C hI c0_ kc7 0 rfl q1315 (fun _ h9 => h9) dX9_ground_1 ?_
  exact g_iret C hI hS (by omega) ⟨rfl, rfl, rfl⟩ dX9_ground_4
set_option maxHeartbeats 4000000 in
set_option maxRecDepth 100000 in
theorem c_X9_hours (l : Launch) {D : gD} (hB : gBs D) (G : gH) (n : Nat) (pa : Nat) (pv : Int32) (c0_ : G pa = some (.inl (7, [.int pv]))) : gMet l D yX9_hours (ws_ yX9_hours cX9_hours 1 (some FieldType.int)) 1 0 G n [.ref pa] (fun (v : Option Value) (G1 : gH) (n1 : Nat) => v = some (.int (pv + 1)) ∧ G1 = G ∧ n1 = n) gNox := by
  refine g_start (by decide) (Nat.le_of_ble_eq_true rfl) ?_
  intro p e s m below meth c ls C hnm hxt hI hl
  have hx := C.x
  have hb := C.b
  have hS : va_S (gA D) s.heap s.heap [] := va_S.rf
  have hz0 := hI.z
  have lc0_ := hI.lt c0_
  have hF : gF G G n gNone := gF.rf _ _ _
  have hl : lv_has ls 1 [(0, .ref pa)] := hl
  refine lv_aload_n hx hb dX9_hours_0 rfl (lv_at hl 0 rfl) ?_
  refine g_get C hI c0_ kc7 0 rfl q1315 (fun _ h9 => h9) dX9_hours_1 ?_
  refine lv_iconst (v := 1) hx hb dX9_hours_4 (by decide) ?_
  refine lv_iadd hx hb dX9_hours_5 ?_
  exact g_iret C hI hS (by omega) ⟨rfl, rfl, rfl⟩ dX9_hours_6
set_option maxHeartbeats 4000000 in
set_option maxRecDepth 100000 in
theorem c_X11_groundOfG (l : Launch) {D : gD} (hB : gBs D) (G : gH) (n : Nat) (pa : Nat) (pv : Int32) (c0_ : G pa = some (.inl (7, [.int pv]))) : gMet l D yX11_groundOf (ws_ yX11_groundOf cX11_groundOf 2 (some FieldType.int)) 2 0 G n [.ref pa] (fun (v : Option Value) (G1 : gH) (n1 : Nat) => v = some (.int (pv)) ∧ G1 = G ∧ n1 = n) gNox := by
  refine g_start (by decide) (Nat.le_of_ble_eq_true rfl) ?_
  intro p e s m below meth c ls C hnm hxt hI hl
  have hx := C.x
  have hb := C.b
  have hS : va_S (gA D) s.heap s.heap [] := va_S.rf
  have hz0 := hI.z
  have lc0_ := hI.lt c0_
  have hF : gF G G n gNone := gF.rf _ _ _
  have hl : lv_has ls 2 [(0, .ref pa)] := hl
  refine lv_aload_n hx hb dX11_groundOf_0 rfl (lv_at hl 0 rfl) ?_
  refine g_inst C hI c0_ rfl q1445 dX11_groundOf_1 ?_
  refine lv_if_eq (tgt := 19) hx hb dX11_groundOf_4 (by decide) (fun c_4707 => ?_) (fun c_4707 => ?_)
  · exact absurd c_4707 (by decide)
  · skip
    refine lv_aload_n hx hb dX11_groundOf_7 rfl (lv_at hl 0 rfl) ?_
    refine g_chk C hI c0_ rfl q1445 dX11_groundOf_8 ?_
    refine lv_astore_n (lv' := [(1, .ref pa), (0, .ref pa)]) hx hb dX11_groundOf_11 rfl hl (by decide) rfl (fun ls hl => ?_)
    refine lv_aload_n hx hb dX11_groundOf_12 rfl (lv_at hl 0 rfl) ?_
    refine g_V (As := []) (rest := []) (lv := [(1, .ref pa), (0, .ref pa)]) C hI hS (c_X9_ground l hB G n pa pv c0_ ) c0_ rfl rfl q1446 q1336 q1337 q116 q1338 (⟨by decide, by decide, by decide⟩ : gArg _ 0) rfl ⟨by decide, by decide⟩ (by omega) hl rfl (Nat.le_of_ble_eq_true rfl) dX11_groundOf_13 (fun v4708 G4709 n4710 H locs hp4711 hI hS => ?_) gKx.no
    obtain ⟨rfl, eG4709, en4710⟩ := hp4711
    refine W.widen (k := 0) (n := 200 * (0)) (by omega) (by omega) ?_
    rw [eG4709, en4710] at hI
    refine lv_goto (tgt := 20) hx hb dX11_groundOf_16 (by decide) ?_
    exact g_iret C hI hS (by omega) ⟨rfl, rfl, rfl⟩ dX11_groundOf_20
set_option maxHeartbeats 4000000 in
set_option maxRecDepth 100000 in
theorem c_X11_numberG (l : Launch) {D : gD} (hB : gBs D) (G : gH) (n : Nat) (pa : Nat) (pv : Int32) (c0_ : G pa = some (.inl (7, [.int pv]))) : gMet l D yX11_number (ws_ yX11_number cX11_number 1 (some FieldType.int)) 3 0 G n [.ref pa] (fun (v : Option Value) (G1 : gH) (n1 : Nat) => v = some (.int (pv)) ∧ G1 = G ∧ n1 = n) gNox := by
  refine g_start (by decide) (Nat.le_of_ble_eq_true rfl) ?_
  intro p e s m below meth c ls C hnm hxt hI hl
  have hx := C.x
  have hb := C.b
  have hS : va_S (gA D) s.heap s.heap [] := va_S.rf
  have hz0 := hI.z
  have lc0_ := hI.lt c0_
  have hF : gF G G n gNone := gF.rf _ _ _
  have hl : lv_has ls 1 [(0, .ref pa)] := hl
  refine lv_aload_n hx hb dX11_number_0 rfl (lv_at hl 0 rfl) ?_
  refine g_S (As := [.ref pa]) (rest := []) (lv := [(0, .ref pa)]) C hI hS (c_X11_groundOfG l hB G n pa pv c0_ ) q1442 q1443 q118 q1444 (⟨by decide, by decide, by decide⟩ : gArg _ 1) rfl ⟨by decide, by decide⟩ (by omega) hl rfl (Nat.le_of_ble_eq_true rfl) dX11_number_1 (fun v4714 G4715 n4716 H locs hp4717 hI hS => ?_) gKx.no
  obtain ⟨rfl, eG4715, en4716⟩ := hp4717
  refine W.widen (k := 0) (n := 200 * (0)) (by omega) (by omega) ?_
  rw [eG4715, en4716] at hI
  exact g_iret C hI hS (by omega) ⟨rfl, rfl, rfl⟩ dX11_number_4
set_option maxHeartbeats 4000000 in
set_option maxRecDepth 100000 in
theorem c_X11_isSameAsAA (l : Launch) {D : gD} (hB : gBs D) (G : gH) (n : Nat) (pa : Nat) (pb : Nat) (c0_ : G pa = some (.inl (4, []))) (c1_ : G pb = some (.inl (4, []))) : gMet l D yX11_isSameAs (ws_ yX11_isSameAs cX11_isSameAs 2 (some FieldType.boolean)) 4 0 G n [.ref pa, .ref pb] (fun (v : Option Value) (G1 : gH) (n1 : Nat) => v = some (.int 1) ∧ G1 = G ∧ n1 = n) gNox := by
  refine g_start (by decide) (Nat.le_of_ble_eq_true rfl) ?_
  intro p e s m below meth c ls C hnm hxt hI hl
  have hx := C.x
  have hb := C.b
  have hS : va_S (gA D) s.heap s.heap [] := va_S.rf
  have hz0 := hI.z
  have lc0_ := hI.lt c0_
  have lc1_ := hI.lt c1_
  have hF : gF G G n gNone := gF.rf _ _ _
  have hl : lv_has ls 2 [(0, .ref pa), (1, .ref pb)] := hl
  refine lv_aload_n hx hb dX11_isSameAs_0 rfl (lv_at hl 0 rfl) ?_
  refine g_FD (As := []) (rest := []) (lv := [(0, .ref pa), (1, .ref pb)]) C hI hS (c_X11_numberA l hB G n pa c0_ ) c0_ rfl fw13 ld0 q1435 q1439 q118 q1441 (⟨by decide, by decide, by decide⟩ : gArg _ 0) rfl ⟨by decide, by decide⟩ (by omega) hl rfl (Nat.le_of_ble_eq_true rfl) dX11_isSameAs_1 (fun v4720 G4721 n4722 H locs hp4723 hI hS => ?_)
  obtain ⟨rfl, eG4721, en4722⟩ := hp4723
  refine W.widen (k := 0) (n := 200 * (0)) (by omega) (by omega) ?_
  rw [eG4721, en4722] at hI
  refine lv_aload_n hx hb dX11_isSameAs_6 rfl (lv_at hl 1 rfl) ?_
  refine g_FD (As := []) (rest := [.int (-1)]) (lv := [(0, .ref pa), (1, .ref pb)]) C hI hS (c_X11_numberA l hB G n pb c1_ ) c1_ rfl fw13 ld0 q1435 q1439 q118 q1441 (⟨by decide, by decide, by decide⟩ : gArg _ 0) rfl ⟨by decide, by decide⟩ (by omega) hl rfl (Nat.le_of_ble_eq_true rfl) dX11_isSameAs_7 (fun v4726 G4727 n4728 H locs hp4729 hI hS => ?_)
  obtain ⟨rfl, eG4727, en4728⟩ := hp4729
  refine W.widen (k := 0) (n := 200 * (0)) (by omega) (by omega) ?_
  rw [eG4727, en4728] at hI
  refine lv_icmp_ne (tgt := 19) hx hb dX11_isSameAs_12 (by decide) (fun c_4732 => ?_) (fun c_4732 => ?_)
  · exact absurd (by decide) c_4732
  · skip
    refine lv_iconst (v := 1) hx hb dX11_isSameAs_15 (by decide) ?_
    refine lv_goto (tgt := 20) hx hb dX11_isSameAs_16 (by decide) ?_
    exact g_zret C hI hS (by omega) rfl ⟨(by simp [eq_true c_4732]), rfl, rfl⟩ dX11_isSameAs_20
set_option maxHeartbeats 4000000 in
set_option maxRecDepth 100000 in
theorem c_X11_isSameAsAG (l : Launch) {D : gD} (hB : gBs D) (G : gH) (n : Nat) (pa : Nat) (pb : Nat) (qv : Int32) (c0_ : G pa = some (.inl (4, []))) (c1_ : G pb = some (.inl (7, [.int qv]))) : gMet l D yX11_isSameAs (ws_ yX11_isSameAs cX11_isSameAs 2 (some FieldType.boolean)) 4 0 G n [.ref pa, .ref pb] (fun (v : Option Value) (G1 : gH) (n1 : Nat) => v = some (.int (if ¬ (-1) = qv then 0 else 1)) ∧ G1 = G ∧ n1 = n) gNox := by
  refine g_start (by decide) (Nat.le_of_ble_eq_true rfl) ?_
  intro p e s m below meth c ls C hnm hxt hI hl
  have hx := C.x
  have hb := C.b
  have hS : va_S (gA D) s.heap s.heap [] := va_S.rf
  have hz0 := hI.z
  have lc0_ := hI.lt c0_
  have lc1_ := hI.lt c1_
  have hF : gF G G n gNone := gF.rf _ _ _
  have hl : lv_has ls 2 [(0, .ref pa), (1, .ref pb)] := hl
  refine lv_aload_n hx hb dX11_isSameAs_0 rfl (lv_at hl 0 rfl) ?_
  refine g_FD (As := []) (rest := []) (lv := [(0, .ref pa), (1, .ref pb)]) C hI hS (c_X11_numberA l hB G n pa c0_ ) c0_ rfl fw13 ld0 q1435 q1439 q118 q1441 (⟨by decide, by decide, by decide⟩ : gArg _ 0) rfl ⟨by decide, by decide⟩ (by omega) hl rfl (Nat.le_of_ble_eq_true rfl) dX11_isSameAs_1 (fun v4733 G4734 n4735 H locs hp4736 hI hS => ?_)
  obtain ⟨rfl, eG4734, en4735⟩ := hp4736
  refine W.widen (k := 0) (n := 200 * (0)) (by omega) (by omega) ?_
  rw [eG4734, en4735] at hI
  refine lv_aload_n hx hb dX11_isSameAs_6 rfl (lv_at hl 1 rfl) ?_
  refine g_FD (As := []) (rest := [.int (-1)]) (lv := [(0, .ref pa), (1, .ref pb)]) C hI hS (c_X11_numberG l hB G n pb qv c1_ ) c1_ rfl fw16 ld3 q1435 q1439 q118 q1441 (⟨by decide, by decide, by decide⟩ : gArg _ 0) rfl ⟨by decide, by decide⟩ (by omega) hl rfl (Nat.le_of_ble_eq_true rfl) dX11_isSameAs_7 (fun v4739 G4740 n4741 H locs hp4742 hI hS => ?_)
  obtain ⟨rfl, eG4740, en4741⟩ := hp4742
  refine W.widen (k := 0) (n := 200 * (0)) (by omega) (by omega) ?_
  rw [eG4740, en4741] at hI
  refine lv_icmp_ne (tgt := 19) hx hb dX11_isSameAs_12 (by decide) (fun c_4745 => ?_) (fun c_4745 => ?_)
  · skip
    refine lv_iconst (v := 0) hx hb dX11_isSameAs_19 (by decide) ?_
    exact g_zret C hI hS (by omega) rfl ⟨(by simp [c_4745]), rfl, rfl⟩ dX11_isSameAs_20
  · skip
    refine lv_iconst (v := 1) hx hb dX11_isSameAs_15 (by decide) ?_
    refine lv_goto (tgt := 20) hx hb dX11_isSameAs_16 (by decide) ?_
    exact g_zret C hI hS (by omega) rfl ⟨(by simp [eq_true c_4745]), rfl, rfl⟩ dX11_isSameAs_20
set_option maxHeartbeats 4000000 in
set_option maxRecDepth 100000 in
theorem c_X11_isSameAsGA (l : Launch) {D : gD} (hB : gBs D) (G : gH) (n : Nat) (pa : Nat) (pb : Nat) (pv : Int32) (c0_ : G pa = some (.inl (7, [.int pv]))) (c1_ : G pb = some (.inl (4, []))) : gMet l D yX11_isSameAs (ws_ yX11_isSameAs cX11_isSameAs 2 (some FieldType.boolean)) 4 0 G n [.ref pa, .ref pb] (fun (v : Option Value) (G1 : gH) (n1 : Nat) => v = some (.int (if ¬ pv = (-1) then 0 else 1)) ∧ G1 = G ∧ n1 = n) gNox := by
  refine g_start (by decide) (Nat.le_of_ble_eq_true rfl) ?_
  intro p e s m below meth c ls C hnm hxt hI hl
  have hx := C.x
  have hb := C.b
  have hS : va_S (gA D) s.heap s.heap [] := va_S.rf
  have hz0 := hI.z
  have lc0_ := hI.lt c0_
  have lc1_ := hI.lt c1_
  have hF : gF G G n gNone := gF.rf _ _ _
  have hl : lv_has ls 2 [(0, .ref pa), (1, .ref pb)] := hl
  refine lv_aload_n hx hb dX11_isSameAs_0 rfl (lv_at hl 0 rfl) ?_
  refine g_FD (As := []) (rest := []) (lv := [(0, .ref pa), (1, .ref pb)]) C hI hS (c_X11_numberG l hB G n pa pv c0_ ) c0_ rfl fw16 ld3 q1435 q1439 q118 q1441 (⟨by decide, by decide, by decide⟩ : gArg _ 0) rfl ⟨by decide, by decide⟩ (by omega) hl rfl (Nat.le_of_ble_eq_true rfl) dX11_isSameAs_1 (fun v4746 G4747 n4748 H locs hp4749 hI hS => ?_)
  obtain ⟨rfl, eG4747, en4748⟩ := hp4749
  refine W.widen (k := 0) (n := 200 * (0)) (by omega) (by omega) ?_
  rw [eG4747, en4748] at hI
  refine lv_aload_n hx hb dX11_isSameAs_6 rfl (lv_at hl 1 rfl) ?_
  refine g_FD (As := []) (rest := [.int pv]) (lv := [(0, .ref pa), (1, .ref pb)]) C hI hS (c_X11_numberA l hB G n pb c1_ ) c1_ rfl fw13 ld0 q1435 q1439 q118 q1441 (⟨by decide, by decide, by decide⟩ : gArg _ 0) rfl ⟨by decide, by decide⟩ (by omega) hl rfl (Nat.le_of_ble_eq_true rfl) dX11_isSameAs_7 (fun v4752 G4753 n4754 H locs hp4755 hI hS => ?_)
  obtain ⟨rfl, eG4753, en4754⟩ := hp4755
  refine W.widen (k := 0) (n := 200 * (0)) (by omega) (by omega) ?_
  rw [eG4753, en4754] at hI
  refine lv_icmp_ne (tgt := 19) hx hb dX11_isSameAs_12 (by decide) (fun c_4758 => ?_) (fun c_4758 => ?_)
  · skip
    refine lv_iconst (v := 0) hx hb dX11_isSameAs_19 (by decide) ?_
    exact g_zret C hI hS (by omega) rfl ⟨(by simp [c_4758]), rfl, rfl⟩ dX11_isSameAs_20
  · skip
    refine lv_iconst (v := 1) hx hb dX11_isSameAs_15 (by decide) ?_
    refine lv_goto (tgt := 20) hx hb dX11_isSameAs_16 (by decide) ?_
    exact g_zret C hI hS (by omega) rfl ⟨(by simp [eq_true c_4758]), rfl, rfl⟩ dX11_isSameAs_20
set_option maxHeartbeats 4000000 in
set_option maxRecDepth 100000 in
theorem c_X11_isSameAsGG (l : Launch) {D : gD} (hB : gBs D) (G : gH) (n : Nat) (pa : Nat) (pb : Nat) (pv : Int32) (qv : Int32) (c0_ : G pa = some (.inl (7, [.int pv]))) (c1_ : G pb = some (.inl (7, [.int qv]))) : gMet l D yX11_isSameAs (ws_ yX11_isSameAs cX11_isSameAs 2 (some FieldType.boolean)) 4 0 G n [.ref pa, .ref pb] (fun (v : Option Value) (G1 : gH) (n1 : Nat) => v = some (.int (if ¬ pv = qv then 0 else 1)) ∧ G1 = G ∧ n1 = n) gNox := by
  refine g_start (by decide) (Nat.le_of_ble_eq_true rfl) ?_
  intro p e s m below meth c ls C hnm hxt hI hl
  have hx := C.x
  have hb := C.b
  have hS : va_S (gA D) s.heap s.heap [] := va_S.rf
  have hz0 := hI.z
  have lc0_ := hI.lt c0_
  have lc1_ := hI.lt c1_
  have hF : gF G G n gNone := gF.rf _ _ _
  have hl : lv_has ls 2 [(0, .ref pa), (1, .ref pb)] := hl
  refine lv_aload_n hx hb dX11_isSameAs_0 rfl (lv_at hl 0 rfl) ?_
  refine g_FD (As := []) (rest := []) (lv := [(0, .ref pa), (1, .ref pb)]) C hI hS (c_X11_numberG l hB G n pa pv c0_ ) c0_ rfl fw16 ld3 q1435 q1439 q118 q1441 (⟨by decide, by decide, by decide⟩ : gArg _ 0) rfl ⟨by decide, by decide⟩ (by omega) hl rfl (Nat.le_of_ble_eq_true rfl) dX11_isSameAs_1 (fun v4759 G4760 n4761 H locs hp4762 hI hS => ?_)
  obtain ⟨rfl, eG4760, en4761⟩ := hp4762
  refine W.widen (k := 0) (n := 200 * (0)) (by omega) (by omega) ?_
  rw [eG4760, en4761] at hI
  refine lv_aload_n hx hb dX11_isSameAs_6 rfl (lv_at hl 1 rfl) ?_
  refine g_FD (As := []) (rest := [.int pv]) (lv := [(0, .ref pa), (1, .ref pb)]) C hI hS (c_X11_numberG l hB G n pb qv c1_ ) c1_ rfl fw16 ld3 q1435 q1439 q118 q1441 (⟨by decide, by decide, by decide⟩ : gArg _ 0) rfl ⟨by decide, by decide⟩ (by omega) hl rfl (Nat.le_of_ble_eq_true rfl) dX11_isSameAs_7 (fun v4765 G4766 n4767 H locs hp4768 hI hS => ?_)
  obtain ⟨rfl, eG4766, en4767⟩ := hp4768
  refine W.widen (k := 0) (n := 200 * (0)) (by omega) (by omega) ?_
  rw [eG4766, en4767] at hI
  refine lv_icmp_ne (tgt := 19) hx hb dX11_isSameAs_12 (by decide) (fun c_4771 => ?_) (fun c_4771 => ?_)
  · skip
    refine lv_iconst (v := 0) hx hb dX11_isSameAs_19 (by decide) ?_
    exact g_zret C hI hS (by omega) rfl ⟨(by simp [c_4771]), rfl, rfl⟩ dX11_isSameAs_20
  · skip
    refine lv_iconst (v := 1) hx hb dX11_isSameAs_15 (by decide) ?_
    refine lv_goto (tgt := 20) hx hb dX11_isSameAs_16 (by decide) ?_
    exact g_zret C hI hS (by omega) rfl ⟨(by simp [eq_true c_4771]), rfl, rfl⟩ dX11_isSameAs_20
set_option maxHeartbeats 4000000 in
set_option maxRecDepth 100000 in
theorem c_X6_init (l : Launch) {D : gD} (hB : gBs D) (G : gH) (n : Nat) (pa : Nat) (c0_ : G pa = some (.inl (4, []))) : gMet l D yX6_init (ws_ yX6_init cX6_init 1 none) 2 0 G n [.ref pa] (fun (v : Option Value) (G1 : gH) (n1 : Nat) => v = none ∧ G1 = G ∧ n1 = n) gNox := by
  refine g_start (by decide) (Nat.le_of_ble_eq_true rfl) ?_
  intro p e s m below meth c ls C hnm hxt hI hl
  have hx := C.x
  have hb := C.b
  have hS : va_S (gA D) s.heap s.heap [] := va_S.rf
  have hz0 := hI.z
  have lc0_ := hI.lt c0_
  have hF : gF G G n gNone := gF.rf _ _ _
  have hl : lv_has ls 1 [(0, .ref pa)] := hl
  refine lv_aload_n hx hb dX6_init_0 rfl (lv_at hl 0 rfl) ?_
  refine W.objInit hx hb C.ow (C.ts _ q1144) (C.ts _ q135) (C.ts _ q136) rfl (by rw [C.ml]; exact hl.1) rfl dX6_init_1 (show 1 ≤ 2 by decide) (show _ ≤ 60 * 2 by simp [Value.category]) ?_
  refine W.eq (g2 := F0 m 4 ls []) rfl ?_
  exact g_vret C hI hS (by omega) ⟨rfl, rfl, rfl⟩ dX6_init_4
set_option maxHeartbeats 4000000 in
set_option maxRecDepth 100000 in
theorem c_X9_init (l : Launch) {D : gD} (hB : gBs D) (G : gH) (n : Nat) (pa : Nat) (pv : Int32) (c0_ : G pa = some (.inl (7, [.int 0]))) (hz : gz D ≤ pa) : gMet l D yX9_init (ws_ yX9_init cX9_init 2 none) 2 0 G n [.ref pa, .int pv] (fun (v : Option Value) (G1 : gH) (n1 : Nat) => v = none ∧ n ≤ n1 ∧ gF G G1 n (fun q : Nat => q = pa) ∧ G1 pa = some (.inl (7, [.int pv]))) gNox := by
  refine g_start (by decide) (Nat.le_of_ble_eq_true rfl) ?_
  intro p e s m below meth c ls C hnm hxt hI hl
  have hx := C.x
  have hb := C.b
  have hS : va_S (gA D) s.heap s.heap [] := va_S.rf
  have hz0 := hI.z
  have lc0_ := hI.lt c0_
  have hF : gF G G n (fun q : Nat => q = pa) := gF.rf _ _ _
  have hl : lv_has ls 2 [(0, .ref pa), (1, .int pv)] := hl
  refine lv_aload_n hx hb dX9_init_0 rfl (lv_at hl 0 rfl) ?_
  refine W.objInit hx hb C.ow (C.ts _ q1314) (C.ts _ q135) (C.ts _ q136) rfl (by rw [C.ml]; exact hl.1) rfl dX9_init_1 (show 1 ≤ 2 by decide) (show _ ≤ 60 * 2 by simp [Value.category]) ?_
  refine W.eq (g2 := F0 m 4 ls []) rfl ?_
  refine lv_aload_n hx hb dX9_init_4 rfl (lv_at hl 0 rfl) ?_
  refine lv_iload_n hx hb dX9_init_5 rfl (lv_at hl 1 rfl) ?_
  refine g_putF (fs2 := [.int pv]) C hnm hI hS c0_ (by omega) kc7 0 (Nat.le_of_ble_eq_true rfl) q1315 (fun _ h9 => h9) rfl rfl rfl rfl rfl dX9_init_6 (fun G4772 H locs e4773 hI hS => ?_)
  have c0_ : G4772 pa = some (.inl (7, [.int pv])) := gE_s e4773
  have hF := gE_F e4773 hF (Or.inr rfl)
  exact g_vret C hI hS (by omega) ⟨rfl, (by omega), hF, c0_⟩ dX9_init_9
set_option maxHeartbeats 4000000 in
set_option maxRecDepth 100000 in
theorem c_X5_init (l : Launch) {D : gD} (hB : gBs D) (G : gH) (n : Nat) (bn : Nat) (bo : Int32) (c0_ : G bn = some (.inl (3, [.int 0, .null, .int 0, .int 0, .int 0, .int 0, .int 0]))) (hz : gz D ≤ bn) : gMet l D yX5_init (ws_ yX5_init cX5_init 2 none) 6 1 G n [.ref bn, .int bo] (fun (v : Option Value) (G1 : gH) (n1 : Nat) => v = none ∧ n ≤ n1 ∧ gF G G1 n (fun q : Nat => q = bn) ∧ G1 bn = some (.inl (3, [.int bo, .ref n, .int 10, .int 0, .int 0, .int 0, .int 0])) ∧ G1 n = some (.inl (4, []))) gNox := by
  refine g_start (by decide) (Nat.le_of_ble_eq_true rfl) ?_
  intro p e s m below meth c ls C hnm hxt hI hl
  have hx := C.x
  have hb := C.b
  have hS : va_S (gA D) s.heap s.heap [] := va_S.rf
  have hz0 := hI.z
  have lc0_ := hI.lt c0_
  have hF : gF G G n (fun q : Nat => q = bn) := gF.rf _ _ _
  have hl : lv_has ls 2 [(0, .ref bn), (1, .int bo)] := hl
  refine lv_aload_n hx hb dX5_init_0 rfl (lv_at hl 0 rfl) ?_
  refine W.objInit hx hb C.ow (C.ts _ q1138) (C.ts _ q135) (C.ts _ q136) rfl (by rw [C.ml]; exact hl.1) rfl dX5_init_1 (show 1 ≤ 6 by decide) (show _ ≤ 60 * 6 by simp [Value.category]) ?_
  refine W.eq (g2 := F0 m 4 ls []) rfl ?_
  refine lv_aload_n hx hb dX5_init_4 rfl (lv_at hl 0 rfl) ?_
  refine g_new0 C hI hS kc4 q1139 q1140 q113 (by decide) (by omega) dX5_init_5 (fun G4774 H e4775 hI hS => ?_)
  have c0_ := gE_k e4775 c0_ (by omega)
  have c4776 : G4774 n = some (.inl (4, [])) := gE_s e4775
  have hF := gE_F e4775 hF (Or.inl (by omega))
  refine lv_dup hx hb dX5_init_8 rfl ?_
  refine g_IN (As := []) (rest := [.ref n, .ref bn]) (lv := [(0, .ref bn), (1, .int bo)]) C hI hS (c_X6_init l hB G4774 (n + 1) n c4776 ) rfl (gNw_in q1141 rfl) q1142 q113 q1143 (⟨by decide, by decide, by decide⟩ : gArg _ 0) rfl ⟨by decide, by decide⟩ (by omega) hl rfl (Nat.le_of_ble_eq_true rfl) dX5_init_9 (fun v4777 G4778 n4779 H locs hp4780 hI hS => ?_) gKx.no
  obtain ⟨rfl, eG4778, en4779⟩ := hp4780
  refine W.widen (k := 1) (n := 200 * (1)) (by omega) (by omega) ?_
  rw [eG4778, en4779] at hI
  refine g_put (fs2 := [.int 0, .ref n, .int 0, .int 0, .int 0, .int 0, .int 0]) C hI hS c0_ (by omega) kc3 1 (Nat.le_of_ble_eq_true rfl) q1147 (fun _ h9 => h9) rfl rfl rfl rfl dX5_init_12 (fun G4783 H locs e4784 hI hS => ?_)
  have c4776 := gE_k e4784 c4776 (g_nc c4776 c0_ (by decide))
  have c0_ : G4783 bn = some (.inl (3, [.int 0, .ref n, .int 0, .int 0, .int 0, .int 0, .int 0])) := gE_s e4784
  have hF := gE_F e4784 hF (Or.inr rfl)
  refine lv_aload_n hx hb dX5_init_15 rfl (lv_at hl 0 rfl) ?_
  refine lv_bipush (v := 10) hx hb dX5_init_16 (by decide) ?_
  refine g_put (fs2 := [.int 0, .ref n, .int 10, .int 0, .int 0, .int 0, .int 0]) C hI hS c0_ (by omega) kc3 2 (Nat.le_of_ble_eq_true rfl) q1148 (fun _ h9 => h9) rfl rfl rfl rfl dX5_init_18 (fun G4785 H locs e4786 hI hS => ?_)
  have c4776 := gE_k e4786 c4776 (g_nc c4776 c0_ (by decide))
  have c0_ : G4785 bn = some (.inl (3, [.int 0, .ref n, .int 10, .int 0, .int 0, .int 0, .int 0])) := gE_s e4786
  have hF := gE_F e4786 hF (Or.inr rfl)
  refine lv_aload_n hx hb dX5_init_21 rfl (lv_at hl 0 rfl) ?_
  refine lv_iload_n hx hb dX5_init_22 rfl (lv_at hl 1 rfl) ?_
  refine g_putF (fs2 := [.int bo, .ref n, .int 10, .int 0, .int 0, .int 0, .int 0]) C hnm hI hS c0_ (by omega) kc3 0 (Nat.le_of_ble_eq_true rfl) q1146 (fun _ h9 => h9) rfl rfl rfl rfl rfl dX5_init_23 (fun G4787 H locs e4788 hI hS => ?_)
  have c4776 := gE_k e4788 c4776 (g_nc c4776 c0_ (by decide))
  have c0_ : G4787 bn = some (.inl (3, [.int bo, .ref n, .int 10, .int 0, .int 0, .int 0, .int 0])) := gE_s e4788
  have hF := gE_F e4788 hF (Or.inr rfl)
  exact g_vret C hI hS (by omega) ⟨rfl, (by omega), hF, c0_, c4776⟩ dX5_init_26
set_option maxHeartbeats 4000000 in
set_option maxRecDepth 100000 in
theorem c_X5_copy (l : Launch) {D : gD} (hB : gBs D) (G : gH) (n : Nat) (bn : Nat) (bo : Int32) (pq : Nat) (hu : Int32) (mi : Int32) (lg : Int32) (sk : Int32) (hd : Int32) (c0_ : G bn = some (.inl (3, [.int bo, .ref pq, .int hu, .int mi, .int lg, .int sk, .int hd]))) : gMet l D yX5_copy (ws_ yX5_copy cX5_copy 2 (some (FieldType.object "WhelkFleet$Boat"))) 7 2 G n [.ref bn] (fun (v : Option Value) (G1 : gH) (n1 : Nat) => v = some (.ref n) ∧ n ≤ n1 ∧ gF G G1 n gNone ∧ G1 n = some (.inl (3, [.int bo, .ref pq, .int hu, .int mi, .int lg, .int sk, .int hd]))) gNox := by
  refine g_start (by decide) (Nat.le_of_ble_eq_true rfl) ?_
  intro p e s m below meth c ls C hnm hxt hI hl
  have hx := C.x
  have hb := C.b
  have hS : va_S (gA D) s.heap s.heap [] := va_S.rf
  have hz0 := hI.z
  have lc0_ := hI.lt c0_
  have hF : gF G G n gNone := gF.rf _ _ _
  have hl : lv_has ls 2 [(0, .ref bn)] := hl
  refine g_new (fs := [.int 0, .null, .int 0, .int 0, .int 0, .int 0, .int 0]) C hI hS kc3 rfl q1133 q1134 q112 (by decide) (by omega) dX5_copy_0 (fun G4789 H e4790 hI hS => ?_)
  have c0_ := gE_k e4790 c0_ (by omega)
  have c4791 : G4789 n = some (.inl (3, [.int 0, .null, .int 0, .int 0, .int 0, .int 0, .int 0])) := gE_s e4790
  have hF := gE_F e4790 hF (Or.inl (by omega))
  refine lv_dup hx hb dX5_copy_3 rfl ?_
  refine lv_aload_n hx hb dX5_copy_4 rfl (lv_at hl 0 rfl) ?_
  refine g_get C hI c0_ kc3 0 rfl q1146 (fun _ h9 => h9) dX5_copy_5 ?_
  refine g_I (As := [.int bo]) (rest := [.ref n]) (lv := [(0, .ref bn)]) C hI hS (c_X5_init l hB G4789 (n + 1) n bo c4791 (by omega)) rfl q1135 q1136 q112 q1137 (⟨by decide, by decide, by decide⟩ : gArg _ 1) rfl ⟨by decide, by decide⟩ (by omega) hl rfl (Nat.le_of_ble_eq_true rfl) dX5_copy_8 (fun v4792 G4793 n4794 H locs hp4795 hI hS => ?_) gKx.no
  obtain ⟨rfl, hn4796, hF4797, c4798, c4799⟩ := hp4795
  refine W.widen (k := 2) (n := 200 * (2)) (by omega) (by omega) ?_
  have c0_ := hF4797.at c0_ (by omega) (by omega)
  have hF := hF.trans hF4797 (by omega) (fun q hq => (fun h => by exfalso; omega))
  refine lv_astore_n (lv' := [(1, .ref n), (0, .ref bn)]) hx hb dX5_copy_11 rfl hl (by decide) rfl (fun ls hl => ?_)
  refine lv_aload_n hx hb dX5_copy_12 rfl (lv_at hl 0 rfl) ?_
  refine lv_aload_n hx hb dX5_copy_13 rfl (lv_at hl 1 rfl) ?_
  refine g_get C hI c0_ kc3 1 rfl q1147 (fun _ h9 => h9) dX5_copy_14 ?_
  refine g_put (fs2 := [.int bo, .ref pq, .int 10, .int 0, .int 0, .int 0, .int 0]) C hI hS c4798 (by omega) kc3 1 (Nat.le_of_ble_eq_true rfl) q1147 (fun _ h9 => h9) rfl rfl rfl rfl dX5_copy_17 (fun G4800 H locs e4801 hI hS => ?_)
  have c0_ := gE_k e4801 c0_ (by omega)
  have c4799 := gE_k e4801 c4799 (g_nc c4799 c4798 (by decide))
  have c4798 : G4800 n = some (.inl (3, [.int bo, .ref pq, .int 10, .int 0, .int 0, .int 0, .int 0])) := gE_s e4801
  have hF := gE_F e4801 hF (Or.inl (by omega))
  refine lv_aload_n hx hb dX5_copy_20 rfl (lv_at hl 0 rfl) ?_
  refine lv_aload_n hx hb dX5_copy_21 rfl (lv_at hl 1 rfl) ?_
  refine g_get C hI c0_ kc3 2 rfl q1148 (fun _ h9 => h9) dX5_copy_22 ?_
  refine g_put (fs2 := [.int bo, .ref pq, .int hu, .int 0, .int 0, .int 0, .int 0]) C hI hS c4798 (by omega) kc3 2 (Nat.le_of_ble_eq_true rfl) q1148 (fun _ h9 => h9) rfl rfl rfl rfl dX5_copy_25 (fun G4802 H locs e4803 hI hS => ?_)
  have c0_ := gE_k e4803 c0_ (by omega)
  have c4799 := gE_k e4803 c4799 (g_nc c4799 c4798 (by decide))
  have c4798 : G4802 n = some (.inl (3, [.int bo, .ref pq, .int hu, .int 0, .int 0, .int 0, .int 0])) := gE_s e4803
  have hF := gE_F e4803 hF (Or.inl (by omega))
  refine lv_aload_n hx hb dX5_copy_28 rfl (lv_at hl 0 rfl) ?_
  refine lv_aload_n hx hb dX5_copy_29 rfl (lv_at hl 1 rfl) ?_
  refine g_get C hI c0_ kc3 3 rfl q1149 (fun _ h9 => h9) dX5_copy_30 ?_
  refine g_put (fs2 := [.int bo, .ref pq, .int hu, .int mi, .int 0, .int 0, .int 0]) C hI hS c4798 (by omega) kc3 3 (Nat.le_of_ble_eq_true rfl) q1149 (fun _ h9 => h9) rfl rfl rfl rfl dX5_copy_33 (fun G4804 H locs e4805 hI hS => ?_)
  have c0_ := gE_k e4805 c0_ (by omega)
  have c4799 := gE_k e4805 c4799 (g_nc c4799 c4798 (by decide))
  have c4798 : G4804 n = some (.inl (3, [.int bo, .ref pq, .int hu, .int mi, .int 0, .int 0, .int 0])) := gE_s e4805
  have hF := gE_F e4805 hF (Or.inl (by omega))
  refine lv_aload_n hx hb dX5_copy_36 rfl (lv_at hl 0 rfl) ?_
  refine lv_aload_n hx hb dX5_copy_37 rfl (lv_at hl 1 rfl) ?_
  refine g_get C hI c0_ kc3 4 rfl q1150 (fun _ h9 => h9) dX5_copy_38 ?_
  refine g_put (fs2 := [.int bo, .ref pq, .int hu, .int mi, .int lg, .int 0, .int 0]) C hI hS c4798 (by omega) kc3 4 (Nat.le_of_ble_eq_true rfl) q1150 (fun _ h9 => h9) rfl rfl rfl rfl dX5_copy_41 (fun G4806 H locs e4807 hI hS => ?_)
  have c0_ := gE_k e4807 c0_ (by omega)
  have c4799 := gE_k e4807 c4799 (g_nc c4799 c4798 (by decide))
  have c4798 : G4806 n = some (.inl (3, [.int bo, .ref pq, .int hu, .int mi, .int lg, .int 0, .int 0])) := gE_s e4807
  have hF := gE_F e4807 hF (Or.inl (by omega))
  refine lv_aload_n hx hb dX5_copy_44 rfl (lv_at hl 0 rfl) ?_
  refine lv_aload_n hx hb dX5_copy_45 rfl (lv_at hl 1 rfl) ?_
  refine g_get C hI c0_ kc3 5 rfl q1151 (fun _ h9 => h9) dX5_copy_46 ?_
  refine g_put (fs2 := [.int bo, .ref pq, .int hu, .int mi, .int lg, .int sk, .int 0]) C hI hS c4798 (by omega) kc3 5 (Nat.le_of_ble_eq_true rfl) q1151 (fun _ h9 => h9) rfl rfl rfl rfl dX5_copy_49 (fun G4808 H locs e4809 hI hS => ?_)
  have c0_ := gE_k e4809 c0_ (by omega)
  have c4799 := gE_k e4809 c4799 (g_nc c4799 c4798 (by decide))
  have c4798 : G4808 n = some (.inl (3, [.int bo, .ref pq, .int hu, .int mi, .int lg, .int sk, .int 0])) := gE_s e4809
  have hF := gE_F e4809 hF (Or.inl (by omega))
  refine lv_aload_n hx hb dX5_copy_52 rfl (lv_at hl 0 rfl) ?_
  refine lv_aload_n hx hb dX5_copy_53 rfl (lv_at hl 1 rfl) ?_
  refine g_get C hI c0_ kc3 6 rfl q1152 (fun _ h9 => h9) dX5_copy_54 ?_
  refine g_put (fs2 := [.int bo, .ref pq, .int hu, .int mi, .int lg, .int sk, .int hd]) C hI hS c4798 (by omega) kc3 6 (Nat.le_of_ble_eq_true rfl) q1152 (fun _ h9 => h9) rfl rfl rfl rfl dX5_copy_57 (fun G4810 H locs e4811 hI hS => ?_)
  have c0_ := gE_k e4811 c0_ (by omega)
  have c4799 := gE_k e4811 c4799 (g_nc c4799 c4798 (by decide))
  have c4798 : G4810 n = some (.inl (3, [.int bo, .ref pq, .int hu, .int mi, .int lg, .int sk, .int hd])) := gE_s e4811
  have hF := gE_F e4811 hF (Or.inl (by omega))
  refine lv_aload_n hx hb dX5_copy_60 rfl (lv_at hl 0 rfl) ?_
  exact g_aret C hI hS (by omega) (by first | exact Or.inl ⟨_, rfl⟩ | exact Or.inr ⟨_, rfl⟩) (Or.inr ⟨_, rfl⟩) ⟨rfl, (by omega), hF, c4798⟩ dX5_copy_61
set_option maxHeartbeats 4000000 in
set_option maxRecDepth 100000 in
theorem c_X5_bound (l : Launch) {D : gD} (hB : gBs D) (G : gH) (n : Nat) (bn : Nat) (bo : Int32) (pq : Nat) (hu : Int32) (mi : Int32) (lg : Int32) (sk : Int32) (hd : Int32) (c0_ : G bn = some (.inl (3, [.int bo, .ref pq, .int hu, .int mi, .int lg, .int sk, .int hd]))) : gMet l D yX5_bound (ws_ yX5_bound cX5_bound 1 (some FieldType.int)) 1 0 G n [.ref bn] (fun (v : Option Value) (G1 : gH) (n1 : Nat) => v = some (.int bo) ∧ G1 = G ∧ n1 = n) gNox := by
  refine g_start (by decide) (Nat.le_of_ble_eq_true rfl) ?_
  intro p e s m below meth c ls C hnm hxt hI hl
  have hx := C.x
  have hb := C.b
  have hS : va_S (gA D) s.heap s.heap [] := va_S.rf
  have hz0 := hI.z
  have lc0_ := hI.lt c0_
  have hF : gF G G n gNone := gF.rf _ _ _
  have hl : lv_has ls 1 [(0, .ref bn)] := hl
  refine lv_aload_n hx hb dX5_bound_0 rfl (lv_at hl 0 rfl) ?_
  refine g_get C hI c0_ kc3 0 rfl q1146 (fun _ h9 => h9) dX5_bound_1 ?_
  exact g_iret C hI hS (by omega) ⟨rfl, rfl, rfl⟩ dX5_bound_4
set_option maxHeartbeats 4000000 in
set_option maxRecDepth 100000 in
theorem c_X5_hours (l : Launch) {D : gD} (hB : gBs D) (G : gH) (n : Nat) (bn : Nat) (bo : Int32) (pq : Nat) (hu : Int32) (mi : Int32) (lg : Int32) (sk : Int32) (hd : Int32) (c0_ : G bn = some (.inl (3, [.int bo, .ref pq, .int hu, .int mi, .int lg, .int sk, .int hd]))) : gMet l D yX5_hours (ws_ yX5_hours cX5_hours 1 (some FieldType.int)) 1 0 G n [.ref bn] (fun (v : Option Value) (G1 : gH) (n1 : Nat) => v = some (.int hu) ∧ G1 = G ∧ n1 = n) gNox := by
  refine g_start (by decide) (Nat.le_of_ble_eq_true rfl) ?_
  intro p e s m below meth c ls C hnm hxt hI hl
  have hx := C.x
  have hb := C.b
  have hS : va_S (gA D) s.heap s.heap [] := va_S.rf
  have hz0 := hI.z
  have lc0_ := hI.lt c0_
  have hF : gF G G n gNone := gF.rf _ _ _
  have hl : lv_has ls 1 [(0, .ref bn)] := hl
  refine lv_aload_n hx hb dX5_hours_0 rfl (lv_at hl 0 rfl) ?_
  refine g_get C hI c0_ kc3 2 rfl q1148 (fun _ h9 => h9) dX5_hours_1 ?_
  exact g_iret C hI hS (by omega) ⟨rfl, rfl, rfl⟩ dX5_hours_4
set_option maxHeartbeats 4000000 in
set_option maxRecDepth 100000 in
theorem c_X5_middle (l : Launch) {D : gD} (hB : gBs D) (G : gH) (n : Nat) (bn : Nat) (bo : Int32) (pq : Nat) (hu : Int32) (mi : Int32) (lg : Int32) (sk : Int32) (hd : Int32) (c0_ : G bn = some (.inl (3, [.int bo, .ref pq, .int hu, .int mi, .int lg, .int sk, .int hd]))) : gMet l D yX5_middle (ws_ yX5_middle cX5_middle 1 (some FieldType.int)) 1 0 G n [.ref bn] (fun (v : Option Value) (G1 : gH) (n1 : Nat) => v = some (.int mi) ∧ G1 = G ∧ n1 = n) gNox := by
  refine g_start (by decide) (Nat.le_of_ble_eq_true rfl) ?_
  intro p e s m below meth c ls C hnm hxt hI hl
  have hx := C.x
  have hb := C.b
  have hS : va_S (gA D) s.heap s.heap [] := va_S.rf
  have hz0 := hI.z
  have lc0_ := hI.lt c0_
  have hF : gF G G n gNone := gF.rf _ _ _
  have hl : lv_has ls 1 [(0, .ref bn)] := hl
  refine lv_aload_n hx hb dX5_middle_0 rfl (lv_at hl 0 rfl) ?_
  refine g_get C hI c0_ kc3 3 rfl q1149 (fun _ h9 => h9) dX5_middle_1 ?_
  exact g_iret C hI hS (by omega) ⟨rfl, rfl, rfl⟩ dX5_middle_4
set_option maxHeartbeats 4000000 in
set_option maxRecDepth 100000 in
theorem c_X5_large (l : Launch) {D : gD} (hB : gBs D) (G : gH) (n : Nat) (bn : Nat) (bo : Int32) (pq : Nat) (hu : Int32) (mi : Int32) (lg : Int32) (sk : Int32) (hd : Int32) (c0_ : G bn = some (.inl (3, [.int bo, .ref pq, .int hu, .int mi, .int lg, .int sk, .int hd]))) : gMet l D yX5_large (ws_ yX5_large cX5_large 1 (some FieldType.int)) 1 0 G n [.ref bn] (fun (v : Option Value) (G1 : gH) (n1 : Nat) => v = some (.int lg) ∧ G1 = G ∧ n1 = n) gNox := by
  refine g_start (by decide) (Nat.le_of_ble_eq_true rfl) ?_
  intro p e s m below meth c ls C hnm hxt hI hl
  have hx := C.x
  have hb := C.b
  have hS : va_S (gA D) s.heap s.heap [] := va_S.rf
  have hz0 := hI.z
  have lc0_ := hI.lt c0_
  have hF : gF G G n gNone := gF.rf _ _ _
  have hl : lv_has ls 1 [(0, .ref bn)] := hl
  refine lv_aload_n hx hb dX5_large_0 rfl (lv_at hl 0 rfl) ?_
  refine g_get C hI c0_ kc3 4 rfl q1150 (fun _ h9 => h9) dX5_large_1 ?_
  exact g_iret C hI hS (by omega) ⟨rfl, rfl, rfl⟩ dX5_large_4
set_option maxHeartbeats 4000000 in
set_option maxRecDepth 100000 in
theorem c_X5_sacks (l : Launch) {D : gD} (hB : gBs D) (G : gH) (n : Nat) (bn : Nat) (bo : Int32) (pq : Nat) (hu : Int32) (mi : Int32) (lg : Int32) (sk : Int32) (hd : Int32) (c0_ : G bn = some (.inl (3, [.int bo, .ref pq, .int hu, .int mi, .int lg, .int sk, .int hd]))) : gMet l D yX5_sacks (ws_ yX5_sacks cX5_sacks 1 (some FieldType.int)) 1 0 G n [.ref bn] (fun (v : Option Value) (G1 : gH) (n1 : Nat) => v = some (.int sk) ∧ G1 = G ∧ n1 = n) gNox := by
  refine g_start (by decide) (Nat.le_of_ble_eq_true rfl) ?_
  intro p e s m below meth c ls C hnm hxt hI hl
  have hx := C.x
  have hb := C.b
  have hS : va_S (gA D) s.heap s.heap [] := va_S.rf
  have hz0 := hI.z
  have lc0_ := hI.lt c0_
  have hF : gF G G n gNone := gF.rf _ _ _
  have hl : lv_has ls 1 [(0, .ref bn)] := hl
  refine lv_aload_n hx hb dX5_sacks_0 rfl (lv_at hl 0 rfl) ?_
  refine g_get C hI c0_ kc3 5 rfl q1151 (fun _ h9 => h9) dX5_sacks_1 ?_
  exact g_iret C hI hS (by omega) ⟨rfl, rfl, rfl⟩ dX5_sacks_4
set_option maxHeartbeats 4000000 in
set_option maxRecDepth 100000 in
theorem c_X5_hauled (l : Launch) {D : gD} (hB : gBs D) (G : gH) (n : Nat) (bn : Nat) (bo : Int32) (pq : Nat) (hu : Int32) (mi : Int32) (lg : Int32) (sk : Int32) (hd : Int32) (c0_ : G bn = some (.inl (3, [.int bo, .ref pq, .int hu, .int mi, .int lg, .int sk, .int hd]))) : gMet l D yX5_hauled (ws_ yX5_hauled cX5_hauled 1 (some FieldType.int)) 1 0 G n [.ref bn] (fun (v : Option Value) (G1 : gH) (n1 : Nat) => v = some (.int hd) ∧ G1 = G ∧ n1 = n) gNox := by
  refine g_start (by decide) (Nat.le_of_ble_eq_true rfl) ?_
  intro p e s m below meth c ls C hnm hxt hI hl
  have hx := C.x
  have hb := C.b
  have hS : va_S (gA D) s.heap s.heap [] := va_S.rf
  have hz0 := hI.z
  have lc0_ := hI.lt c0_
  have hF : gF G G n gNone := gF.rf _ _ _
  have hl : lv_has ls 1 [(0, .ref bn)] := hl
  refine lv_aload_n hx hb dX5_hauled_0 rfl (lv_at hl 0 rfl) ?_
  refine g_get C hI c0_ kc3 6 rfl q1152 (fun _ h9 => h9) dX5_hauled_1 ?_
  exact g_iret C hI hS (by omega) ⟨rfl, rfl, rfl⟩ dX5_hauled_4
set_option maxHeartbeats 4000000 in
set_option maxRecDepth 100000 in
theorem c_X5_place (l : Launch) {D : gD} (hB : gBs D) (G : gH) (n : Nat) (bn : Nat) (bo : Int32) (pq : Nat) (hu : Int32) (mi : Int32) (lg : Int32) (sk : Int32) (hd : Int32) (c0_ : G bn = some (.inl (3, [.int bo, .ref pq, .int hu, .int mi, .int lg, .int sk, .int hd]))) : gMet l D yX5_place (ws_ yX5_place cX5_place 1 (some (FieldType.object "WhelkFleet$Place"))) 1 0 G n [.ref bn] (fun (v : Option Value) (G1 : gH) (n1 : Nat) => v = some (.ref pq) ∧ G1 = G ∧ n1 = n) gNox := by
  refine g_start (by decide) (Nat.le_of_ble_eq_true rfl) ?_
  intro p e s m below meth c ls C hnm hxt hI hl
  have hx := C.x
  have hb := C.b
  have hS : va_S (gA D) s.heap s.heap [] := va_S.rf
  have hz0 := hI.z
  have lc0_ := hI.lt c0_
  have hF : gF G G n gNone := gF.rf _ _ _
  have hl : lv_has ls 1 [(0, .ref bn)] := hl
  refine lv_aload_n hx hb dX5_place_0 rfl (lv_at hl 0 rfl) ?_
  refine g_get C hI c0_ kc3 1 rfl q1147 (fun _ h9 => h9) dX5_place_1 ?_
  exact g_aret C hI hS (by omega) (by first | exact Or.inl ⟨_, rfl⟩ | exact Or.inr ⟨_, rfl⟩) (Or.inr ⟨_, rfl⟩) ⟨rfl, rfl, rfl⟩ dX5_place_4
set_option maxHeartbeats 4000000 in
set_option maxRecDepth 100000 in
theorem c_X5_shells (l : Launch) {D : gD} (hB : gBs D) (G : gH) (n : Nat) (bn : Nat) (bo : Int32) (pq : Nat) (hu : Int32) (mi : Int32) (lg : Int32) (sk : Int32) (hd : Int32) (c0_ : G bn = some (.inl (3, [.int bo, .ref pq, .int hu, .int mi, .int lg, .int sk, .int hd]))) : gMet l D yX5_shells (ws_ yX5_shells cX5_shells 1 (some FieldType.int)) 1 0 G n [.ref bn] (fun (v : Option Value) (G1 : gH) (n1 : Nat) => v = some (.int (mi + lg)) ∧ G1 = G ∧ n1 = n) gNox := by
  refine g_start (by decide) (Nat.le_of_ble_eq_true rfl) ?_
  intro p e s m below meth c ls C hnm hxt hI hl
  have hx := C.x
  have hb := C.b
  have hS : va_S (gA D) s.heap s.heap [] := va_S.rf
  have hz0 := hI.z
  have lc0_ := hI.lt c0_
  have hF : gF G G n gNone := gF.rf _ _ _
  have hl : lv_has ls 1 [(0, .ref bn)] := hl
  refine lv_aload_n hx hb dX5_shells_0 rfl (lv_at hl 0 rfl) ?_
  refine g_get C hI c0_ kc3 3 rfl q1149 (fun _ h9 => h9) dX5_shells_1 ?_
  refine lv_aload_n hx hb dX5_shells_4 rfl (lv_at hl 0 rfl) ?_
  refine g_get C hI c0_ kc3 4 rfl q1150 (fun _ h9 => h9) dX5_shells_5 ?_
  refine lv_iadd hx hb dX5_shells_8 ?_
  exact g_iret C hI hS (by omega) ⟨rfl, rfl, rfl⟩ dX5_shells_9
set_option maxHeartbeats 4000000 in
set_option maxRecDepth 100000 in
theorem c_X5_works (l : Launch) {D : gD} (hB : gBs D) (G : gH) (n : Nat) (bn : Nat) (bo : Int32) (pq : Nat) (hu : Int32) (mi : Int32) (lg : Int32) (sk : Int32) (hd : Int32) (a1 : Int32) (c0_ : G bn = some (.inl (3, [.int bo, .ref pq, .int hu, .int mi, .int lg, .int sk, .int hd]))) (hz : gz D ≤ bn) : gMet l D yX5_works (ws_ yX5_works cX5_works 2 (some FieldType.int)) 1 0 G n [.ref bn, .int a1] (fun (v : Option Value) (G1 : gH) (n1 : Nat) => v = some (.int (hu - a1)) ∧ n ≤ n1 ∧ gF G G1 n (fun q : Nat => q = bn) ∧ G1 bn = some (.inl (3, [.int bo, .ref pq, .int (hu - a1), .int mi, .int lg, .int sk, .int hd]))) gNox := by
  refine g_start (by decide) (Nat.le_of_ble_eq_true rfl) ?_
  intro p e s m below meth c ls C hnm hxt hI hl
  have hx := C.x
  have hb := C.b
  have hS : va_S (gA D) s.heap s.heap [] := va_S.rf
  have hz0 := hI.z
  have lc0_ := hI.lt c0_
  have hF : gF G G n (fun q : Nat => q = bn) := gF.rf _ _ _
  have hl : lv_has ls 2 [(0, .ref bn), (1, .int a1)] := hl
  refine lv_aload_n hx hb dX5_works_0 rfl (lv_at hl 0 rfl) ?_
  refine lv_dup hx hb dX5_works_1 rfl ?_
  refine g_get C hI c0_ kc3 2 rfl q1148 (fun _ h9 => h9) dX5_works_2 ?_
  refine lv_iload_n hx hb dX5_works_5 rfl (lv_at hl 1 rfl) ?_
  refine lv_isub hx hb dX5_works_6 ?_
  refine g_put (fs2 := [.int bo, .ref pq, .int (hu - a1), .int mi, .int lg, .int sk, .int hd]) C hI hS c0_ (by omega) kc3 2 (Nat.le_of_ble_eq_true rfl) q1148 (fun _ h9 => h9) rfl rfl rfl rfl dX5_works_7 (fun G4812 H locs e4813 hI hS => ?_)
  have c0_ : G4812 bn = some (.inl (3, [.int bo, .ref pq, .int (hu - a1), .int mi, .int lg, .int sk, .int hd])) := gE_s e4813
  have hF := gE_F e4813 hF (Or.inr rfl)
  refine lv_aload_n hx hb dX5_works_10 rfl (lv_at hl 0 rfl) ?_
  refine g_get C hI c0_ kc3 2 rfl q1148 (fun _ h9 => h9) dX5_works_11 ?_
  exact g_iret C hI hS (by omega) ⟨rfl, (by omega), hF, c0_⟩ dX5_works_14
set_option maxHeartbeats 4000000 in
set_option maxRecDepth 100000 in
theorem c_X5_goesTo (l : Launch) {D : gD} (hB : gBs D) (G : gH) (n : Nat) (bn : Nat) (bo : Int32) (pq : Nat) (hu : Int32) (mi : Int32) (lg : Int32) (sk : Int32) (hd : Int32) (q1 : Nat) (c0_ : G bn = some (.inl (3, [.int bo, .ref pq, .int hu, .int mi, .int lg, .int sk, .int hd]))) (hz : gz D ≤ bn) : gMet l D yX5_goesTo (ws_ yX5_goesTo cX5_goesTo 2 none) 1 0 G n [.ref bn, .ref q1] (fun (v : Option Value) (G1 : gH) (n1 : Nat) => v = none ∧ n ≤ n1 ∧ gF G G1 n (fun q : Nat => q = bn) ∧ G1 bn = some (.inl (3, [.int bo, .ref q1, .int hu, .int mi, .int lg, .int sk, .int hd]))) gNox := by
  refine g_start (by decide) (Nat.le_of_ble_eq_true rfl) ?_
  intro p e s m below meth c ls C hnm hxt hI hl
  have hx := C.x
  have hb := C.b
  have hS : va_S (gA D) s.heap s.heap [] := va_S.rf
  have hz0 := hI.z
  have lc0_ := hI.lt c0_
  have hF : gF G G n (fun q : Nat => q = bn) := gF.rf _ _ _
  have hl : lv_has ls 2 [(0, .ref bn), (1, .ref q1)] := hl
  refine lv_aload_n hx hb dX5_goesTo_0 rfl (lv_at hl 0 rfl) ?_
  refine lv_aload_n hx hb dX5_goesTo_1 rfl (lv_at hl 1 rfl) ?_
  refine g_put (fs2 := [.int bo, .ref q1, .int hu, .int mi, .int lg, .int sk, .int hd]) C hI hS c0_ (by omega) kc3 1 (Nat.le_of_ble_eq_true rfl) q1147 (fun _ h9 => h9) rfl rfl rfl rfl dX5_goesTo_2 (fun G4814 H locs e4815 hI hS => ?_)
  have c0_ : G4814 bn = some (.inl (3, [.int bo, .ref q1, .int hu, .int mi, .int lg, .int sk, .int hd])) := gE_s e4815
  have hF := gE_F e4815 hF (Or.inr rfl)
  exact g_vret C hI hS (by omega) ⟨rfl, (by omega), hF, c0_⟩ dX5_goesTo_5
set_option maxHeartbeats 4000000 in
set_option maxRecDepth 100000 in
theorem c_X5_dayBegins (l : Launch) {D : gD} (hB : gBs D) (G : gH) (n : Nat) (bn : Nat) (bo : Int32) (pq : Nat) (hu : Int32) (mi : Int32) (lg : Int32) (sk : Int32) (hd : Int32) (c0_ : G bn = some (.inl (3, [.int bo, .ref pq, .int hu, .int mi, .int lg, .int sk, .int hd]))) (hz : gz D ≤ bn) : gMet l D yX5_dayBegins (ws_ yX5_dayBegins cX5_dayBegins 1 none) 6 1 G n [.ref bn] (fun (v : Option Value) (G1 : gH) (n1 : Nat) => v = none ∧ n ≤ n1 ∧ gF G G1 n (fun q : Nat => q = bn) ∧ G1 bn = some (.inl (3, [.int bo, .ref n, .int 10, .int mi, .int lg, .int sk, .int hd])) ∧ G1 n = some (.inl (4, []))) gNox := by
  refine g_start (by decide) (Nat.le_of_ble_eq_true rfl) ?_
  intro p e s m below meth c ls C hnm hxt hI hl
  have hx := C.x
  have hb := C.b
  have hS : va_S (gA D) s.heap s.heap [] := va_S.rf
  have hz0 := hI.z
  have lc0_ := hI.lt c0_
  have hF : gF G G n (fun q : Nat => q = bn) := gF.rf _ _ _
  have hl : lv_has ls 1 [(0, .ref bn)] := hl
  refine lv_aload_n hx hb dX5_dayBegins_0 rfl (lv_at hl 0 rfl) ?_
  refine g_new0 C hI hS kc4 q1139 q1140 q113 (by decide) (by omega) dX5_dayBegins_1 (fun G4816 H e4817 hI hS => ?_)
  have c0_ := gE_k e4817 c0_ (by omega)
  have c4818 : G4816 n = some (.inl (4, [])) := gE_s e4817
  have hF := gE_F e4817 hF (Or.inl (by omega))
  refine lv_dup hx hb dX5_dayBegins_4 rfl ?_
  refine g_IN (As := []) (rest := [.ref n, .ref bn]) (lv := [(0, .ref bn)]) C hI hS (c_X6_init l hB G4816 (n + 1) n c4818 ) rfl (gNw_in q1141 rfl) q1142 q113 q1143 (⟨by decide, by decide, by decide⟩ : gArg _ 0) rfl ⟨by decide, by decide⟩ (by omega) hl rfl (Nat.le_of_ble_eq_true rfl) dX5_dayBegins_5 (fun v4819 G4820 n4821 H locs hp4822 hI hS => ?_) gKx.no
  obtain ⟨rfl, eG4820, en4821⟩ := hp4822
  refine W.widen (k := 1) (n := 200 * (1)) (by omega) (by omega) ?_
  rw [eG4820, en4821] at hI
  refine g_put (fs2 := [.int bo, .ref n, .int hu, .int mi, .int lg, .int sk, .int hd]) C hI hS c0_ (by omega) kc3 1 (Nat.le_of_ble_eq_true rfl) q1147 (fun _ h9 => h9) rfl rfl rfl rfl dX5_dayBegins_8 (fun G4825 H locs e4826 hI hS => ?_)
  have c4818 := gE_k e4826 c4818 (g_nc c4818 c0_ (by decide))
  have c0_ : G4825 bn = some (.inl (3, [.int bo, .ref n, .int hu, .int mi, .int lg, .int sk, .int hd])) := gE_s e4826
  have hF := gE_F e4826 hF (Or.inr rfl)
  refine lv_aload_n hx hb dX5_dayBegins_11 rfl (lv_at hl 0 rfl) ?_
  refine lv_bipush (v := 10) hx hb dX5_dayBegins_12 (by decide) ?_
  refine g_put (fs2 := [.int bo, .ref n, .int 10, .int mi, .int lg, .int sk, .int hd]) C hI hS c0_ (by omega) kc3 2 (Nat.le_of_ble_eq_true rfl) q1148 (fun _ h9 => h9) rfl rfl rfl rfl dX5_dayBegins_14 (fun G4827 H locs e4828 hI hS => ?_)
  have c4818 := gE_k e4828 c4818 (g_nc c4818 c0_ (by decide))
  have c0_ : G4827 bn = some (.inl (3, [.int bo, .ref n, .int 10, .int mi, .int lg, .int sk, .int hd])) := gE_s e4828
  have hF := gE_F e4828 hF (Or.inr rfl)
  exact g_vret C hI hS (by omega) ⟨rfl, (by omega), hF, c0_, c4818⟩ dX5_dayBegins_17
set_option maxHeartbeats 4000000 in
set_option maxRecDepth 100000 in
theorem c_X5_holds (l : Launch) {D : gD} (hB : gBs D) (G : gH) (n : Nat) (bn : Nat) (bo : Int32) (pq : Nat) (hu : Int32) (mi : Int32) (lg : Int32) (sk : Int32) (hd : Int32) (a1 : Int32) (a2 : Int32) (c0_ : G bn = some (.inl (3, [.int bo, .ref pq, .int hu, .int mi, .int lg, .int sk, .int hd]))) (hz : gz D ≤ bn) : gMet l D yX5_holds (ws_ yX5_holds cX5_holds 3 none) 1 0 G n [.ref bn, .int a1, .int a2] (fun (v : Option Value) (G1 : gH) (n1 : Nat) => v = none ∧ n ≤ n1 ∧ gF G G1 n (fun q : Nat => q = bn) ∧ G1 bn = some (.inl (3, [.int bo, .ref pq, .int hu, .int (mi + a1), .int (lg + a2), .int sk, .int (hd + 1)]))) gNox := by
  refine g_start (by decide) (Nat.le_of_ble_eq_true rfl) ?_
  intro p e s m below meth c ls C hnm hxt hI hl
  have hx := C.x
  have hb := C.b
  have hS : va_S (gA D) s.heap s.heap [] := va_S.rf
  have hz0 := hI.z
  have lc0_ := hI.lt c0_
  have hF : gF G G n (fun q : Nat => q = bn) := gF.rf _ _ _
  have hl : lv_has ls 3 [(0, .ref bn), (1, .int a1), (2, .int a2)] := hl
  refine lv_aload_n hx hb dX5_holds_0 rfl (lv_at hl 0 rfl) ?_
  refine lv_dup hx hb dX5_holds_1 rfl ?_
  refine g_get C hI c0_ kc3 3 rfl q1149 (fun _ h9 => h9) dX5_holds_2 ?_
  refine lv_iload_n hx hb dX5_holds_5 rfl (lv_at hl 1 rfl) ?_
  refine lv_iadd hx hb dX5_holds_6 ?_
  refine g_put (fs2 := [.int bo, .ref pq, .int hu, .int (mi + a1), .int lg, .int sk, .int hd]) C hI hS c0_ (by omega) kc3 3 (Nat.le_of_ble_eq_true rfl) q1149 (fun _ h9 => h9) rfl rfl rfl rfl dX5_holds_7 (fun G4829 H locs e4830 hI hS => ?_)
  have c0_ : G4829 bn = some (.inl (3, [.int bo, .ref pq, .int hu, .int (mi + a1), .int lg, .int sk, .int hd])) := gE_s e4830
  have hF := gE_F e4830 hF (Or.inr rfl)
  refine lv_aload_n hx hb dX5_holds_10 rfl (lv_at hl 0 rfl) ?_
  refine lv_dup hx hb dX5_holds_11 rfl ?_
  refine g_get C hI c0_ kc3 4 rfl q1150 (fun _ h9 => h9) dX5_holds_12 ?_
  refine lv_iload_n hx hb dX5_holds_15 rfl (lv_at hl 2 rfl) ?_
  refine lv_iadd hx hb dX5_holds_16 ?_
  refine g_put (fs2 := [.int bo, .ref pq, .int hu, .int (mi + a1), .int (lg + a2), .int sk, .int hd]) C hI hS c0_ (by omega) kc3 4 (Nat.le_of_ble_eq_true rfl) q1150 (fun _ h9 => h9) rfl rfl rfl rfl dX5_holds_17 (fun G4831 H locs e4832 hI hS => ?_)
  have c0_ : G4831 bn = some (.inl (3, [.int bo, .ref pq, .int hu, .int (mi + a1), .int (lg + a2), .int sk, .int hd])) := gE_s e4832
  have hF := gE_F e4832 hF (Or.inr rfl)
  refine lv_aload_n hx hb dX5_holds_20 rfl (lv_at hl 0 rfl) ?_
  refine lv_dup hx hb dX5_holds_21 rfl ?_
  refine g_get C hI c0_ kc3 6 rfl q1152 (fun _ h9 => h9) dX5_holds_22 ?_
  refine lv_iconst (v := 1) hx hb dX5_holds_25 (by decide) ?_
  refine lv_iadd hx hb dX5_holds_26 ?_
  refine g_put (fs2 := [.int bo, .ref pq, .int hu, .int (mi + a1), .int (lg + a2), .int sk, .int (hd + 1)]) C hI hS c0_ (by omega) kc3 6 (Nat.le_of_ble_eq_true rfl) q1152 (fun _ h9 => h9) rfl rfl rfl rfl dX5_holds_27 (fun G4833 H locs e4834 hI hS => ?_)
  have c0_ : G4833 bn = some (.inl (3, [.int bo, .ref pq, .int hu, .int (mi + a1), .int (lg + a2), .int sk, .int (hd + 1)])) := gE_s e4834
  have hF := gE_F e4834 hF (Or.inr rfl)
  exact g_vret C hI hS (by omega) ⟨rfl, (by omega), hF, c0_⟩ dX5_holds_30
set_option maxHeartbeats 4000000 in
set_option maxRecDepth 100000 in
theorem c_X5_lands (l : Launch) {D : gD} (hB : gBs D) (G : gH) (n : Nat) (bn : Nat) (bo : Int32) (pq : Nat) (hu : Int32) (mi : Int32) (lg : Int32) (sk : Int32) (hd : Int32) (c0_ : G bn = some (.inl (3, [.int bo, .ref pq, .int hu, .int mi, .int lg, .int sk, .int hd]))) (hz : gz D ≤ bn) : gMet l D yX5_lands (ws_ yX5_lands cX5_lands 3 (some FieldType.int)) 1 0 G n [.ref bn] (fun (v : Option Value) (G1 : gH) (n1 : Nat) => v = some (.int (8 * (mi / 25) + 12 * (lg / 25))) ∧ n ≤ n1 ∧ gF G G1 n (fun q : Nat => q = bn) ∧ G1 bn = some (.inl (3, [.int bo, .ref pq, .int hu, .int (mi - 25 * (mi / 25)), .int (lg - 25 * (lg / 25)), .int (sk + (mi / 25 + lg / 25)), .int hd]))) gNox := by
  refine g_start (by decide) (Nat.le_of_ble_eq_true rfl) ?_
  intro p e s m below meth c ls C hnm hxt hI hl
  have hx := C.x
  have hb := C.b
  have hS : va_S (gA D) s.heap s.heap [] := va_S.rf
  have hz0 := hI.z
  have lc0_ := hI.lt c0_
  have hF : gF G G n (fun q : Nat => q = bn) := gF.rf _ _ _
  have hl : lv_has ls 3 [(0, .ref bn)] := hl
  refine lv_aload_n hx hb dX5_lands_0 rfl (lv_at hl 0 rfl) ?_
  refine g_get C hI c0_ kc3 3 rfl q1149 (fun _ h9 => h9) dX5_lands_1 ?_
  refine lv_bipush (v := 25) hx hb dX5_lands_4 (by decide) ?_
  refine lv_idiv hx hb dX5_lands_6 (by decide) ?_
  refine lv_istore_n (lv' := [(1, .int (mi / 25)), (0, .ref bn)]) hx hb dX5_lands_7 rfl hl (by decide) rfl (fun ls hl => ?_)
  refine lv_aload_n hx hb dX5_lands_8 rfl (lv_at hl 1 rfl) ?_
  refine g_get C hI c0_ kc3 4 rfl q1150 (fun _ h9 => h9) dX5_lands_9 ?_
  refine lv_bipush (v := 25) hx hb dX5_lands_12 (by decide) ?_
  refine lv_idiv hx hb dX5_lands_14 (by decide) ?_
  refine lv_istore_n (lv' := [(2, .int (lg / 25)), (1, .int (mi / 25)), (0, .ref bn)]) hx hb dX5_lands_15 rfl hl (by decide) rfl (fun ls hl => ?_)
  refine lv_aload_n hx hb dX5_lands_16 rfl (lv_at hl 2 rfl) ?_
  refine lv_dup hx hb dX5_lands_17 rfl ?_
  refine g_get C hI c0_ kc3 3 rfl q1149 (fun _ h9 => h9) dX5_lands_18 ?_
  refine lv_bipush (v := 25) hx hb dX5_lands_21 (by decide) ?_
  refine lv_iload_n hx hb dX5_lands_23 rfl (lv_at hl 1 rfl) ?_
  refine lv_imul hx hb dX5_lands_24 ?_
  refine lv_isub hx hb dX5_lands_25 ?_
  refine g_put (fs2 := [.int bo, .ref pq, .int hu, .int (mi - (25 * (mi / 25))), .int lg, .int sk, .int hd]) C hI hS c0_ (by omega) kc3 3 (Nat.le_of_ble_eq_true rfl) q1149 (fun _ h9 => h9) rfl rfl rfl rfl dX5_lands_26 (fun G4835 H locs e4836 hI hS => ?_)
  have c0_ : G4835 bn = some (.inl (3, [.int bo, .ref pq, .int hu, .int (mi - (25 * (mi / 25))), .int lg, .int sk, .int hd])) := gE_s e4836
  have hF := gE_F e4836 hF (Or.inr rfl)
  refine lv_aload_n hx hb dX5_lands_29 rfl (lv_at hl 2 rfl) ?_
  refine lv_dup hx hb dX5_lands_30 rfl ?_
  refine g_get C hI c0_ kc3 4 rfl q1150 (fun _ h9 => h9) dX5_lands_31 ?_
  refine lv_bipush (v := 25) hx hb dX5_lands_34 (by decide) ?_
  refine lv_iload_n hx hb dX5_lands_36 rfl (lv_at hl 0 rfl) ?_
  refine lv_imul hx hb dX5_lands_37 ?_
  refine lv_isub hx hb dX5_lands_38 ?_
  refine g_put (fs2 := [.int bo, .ref pq, .int hu, .int (mi - (25 * (mi / 25))), .int (lg - (25 * (lg / 25))), .int sk, .int hd]) C hI hS c0_ (by omega) kc3 4 (Nat.le_of_ble_eq_true rfl) q1150 (fun _ h9 => h9) rfl rfl rfl rfl dX5_lands_39 (fun G4837 H locs e4838 hI hS => ?_)
  have c0_ : G4837 bn = some (.inl (3, [.int bo, .ref pq, .int hu, .int (mi - (25 * (mi / 25))), .int (lg - (25 * (lg / 25))), .int sk, .int hd])) := gE_s e4838
  have hF := gE_F e4838 hF (Or.inr rfl)
  refine lv_aload_n hx hb dX5_lands_42 rfl (lv_at hl 2 rfl) ?_
  refine lv_dup hx hb dX5_lands_43 rfl ?_
  refine g_get C hI c0_ kc3 5 rfl q1151 (fun _ h9 => h9) dX5_lands_44 ?_
  refine lv_iload_n hx hb dX5_lands_47 rfl (lv_at hl 1 rfl) ?_
  refine lv_iload_n hx hb dX5_lands_48 rfl (lv_at hl 0 rfl) ?_
  refine lv_iadd hx hb dX5_lands_49 ?_
  refine lv_iadd hx hb dX5_lands_50 ?_
  refine g_put (fs2 := [.int bo, .ref pq, .int hu, .int (mi - (25 * (mi / 25))), .int (lg - (25 * (lg / 25))), .int (sk + ((mi / 25) + (lg / 25))), .int hd]) C hI hS c0_ (by omega) kc3 5 (Nat.le_of_ble_eq_true rfl) q1151 (fun _ h9 => h9) rfl rfl rfl rfl dX5_lands_51 (fun G4839 H locs e4840 hI hS => ?_)
  have c0_ : G4839 bn = some (.inl (3, [.int bo, .ref pq, .int hu, .int (mi - (25 * (mi / 25))), .int (lg - (25 * (lg / 25))), .int (sk + ((mi / 25) + (lg / 25))), .int hd])) := gE_s e4840
  have hF := gE_F e4840 hF (Or.inr rfl)
  refine lv_bipush (v := 8) hx hb dX5_lands_54 (by decide) ?_
  refine lv_iload_n hx hb dX5_lands_56 rfl (lv_at hl 1 rfl) ?_
  refine lv_imul hx hb dX5_lands_57 ?_
  refine lv_bipush (v := 12) hx hb dX5_lands_58 (by decide) ?_
  refine lv_iload_n hx hb dX5_lands_60 rfl (lv_at hl 0 rfl) ?_
  refine lv_imul hx hb dX5_lands_61 ?_
  refine lv_iadd hx hb dX5_lands_62 ?_
  exact g_iret C hI hS (by omega) ⟨rfl, (by omega), hF, c0_⟩ dX5_lands_63
set_option maxHeartbeats 4000000 in
set_option maxRecDepth 100000 in
theorem c_X7_init (l : Launch) {D : gD} (hB : gBs D) (G : gH) (n : Nat) (ln : Nat) (po : Int32) (c0_ : G ln = some (.inl (5, [.int 0, .null, .int 0, .int 0, .int 0, .int 0]))) (hz : gz D ≤ ln) : gMet l D yX7_init (ws_ yX7_init cX7_init 2 none) 6 1 G n [.ref ln, .int po] (fun (v : Option Value) (G1 : gH) (n1 : Nat) => v = none ∧ n ≤ n1 ∧ gF G G1 n (fun q : Nat => q = ln) ∧ G1 ln = some (.inl (5, [.int po, .ref n, .int (-1), .int 0, .int 0, .int 0])) ∧ G1 n = some (.inl (4, []))) gNox := by
  refine g_start (by decide) (Nat.le_of_ble_eq_true rfl) ?_
  intro p e s m below meth c ls C hnm hxt hI hl
  have hx := C.x
  have hb := C.b
  have hS : va_S (gA D) s.heap s.heap [] := va_S.rf
  have hz0 := hI.z
  have lc0_ := hI.lt c0_
  have hF : gF G G n (fun q : Nat => q = ln) := gF.rf _ _ _
  have hl : lv_has ls 2 [(0, .ref ln), (1, .int po)] := hl
  refine lv_aload_n hx hb dX7_init_0 rfl (lv_at hl 0 rfl) ?_
  refine W.objInit hx hb C.ow (C.ts _ q1178) (C.ts _ q135) (C.ts _ q136) rfl (by rw [C.ml]; exact hl.1) rfl dX7_init_1 (show 1 ≤ 6 by decide) (show _ ≤ 60 * 6 by simp [Value.category]) ?_
  refine W.eq (g2 := F0 m 4 ls []) rfl ?_
  refine lv_aload_n hx hb dX7_init_4 rfl (lv_at hl 0 rfl) ?_
  refine g_new0 C hI hS kc4 q1179 q1140 q113 (by decide) (by omega) dX7_init_5 (fun G4841 H e4842 hI hS => ?_)
  have c0_ := gE_k e4842 c0_ (by omega)
  have c4843 : G4841 n = some (.inl (4, [])) := gE_s e4842
  have hF := gE_F e4842 hF (Or.inl (by omega))
  refine lv_dup hx hb dX7_init_8 rfl ?_
  refine g_IN (As := []) (rest := [.ref n, .ref ln]) (lv := [(0, .ref ln), (1, .int po)]) C hI hS (c_X6_init l hB G4841 (n + 1) n c4843 ) rfl (gNw_in q1180 rfl) q1142 q113 q1143 (⟨by decide, by decide, by decide⟩ : gArg _ 0) rfl ⟨by decide, by decide⟩ (by omega) hl rfl (Nat.le_of_ble_eq_true rfl) dX7_init_9 (fun v4844 G4845 n4846 H locs hp4847 hI hS => ?_) gKx.no
  obtain ⟨rfl, eG4845, en4846⟩ := hp4847
  refine W.widen (k := 1) (n := 200 * (1)) (by omega) (by omega) ?_
  rw [eG4845, en4846] at hI
  refine g_put (fs2 := [.int 0, .ref n, .int 0, .int 0, .int 0, .int 0]) C hI hS c0_ (by omega) kc5 1 (Nat.le_of_ble_eq_true rfl) q1182 (fun _ h9 => h9) rfl rfl rfl rfl dX7_init_12 (fun G4850 H locs e4851 hI hS => ?_)
  have c4843 := gE_k e4851 c4843 (g_nc c4843 c0_ (by decide))
  have c0_ : G4850 ln = some (.inl (5, [.int 0, .ref n, .int 0, .int 0, .int 0, .int 0])) := gE_s e4851
  have hF := gE_F e4851 hF (Or.inr rfl)
  refine lv_aload_n hx hb dX7_init_15 rfl (lv_at hl 0 rfl) ?_
  refine lv_iconst (v := (-1)) hx hb dX7_init_16 (by decide) ?_
  refine g_put (fs2 := [.int 0, .ref n, .int (-1), .int 0, .int 0, .int 0]) C hI hS c0_ (by omega) kc5 2 (Nat.le_of_ble_eq_true rfl) q1183 (fun _ h9 => h9) rfl rfl rfl rfl dX7_init_17 (fun G4852 H locs e4853 hI hS => ?_)
  have c4843 := gE_k e4853 c4843 (g_nc c4843 c0_ (by decide))
  have c0_ : G4852 ln = some (.inl (5, [.int 0, .ref n, .int (-1), .int 0, .int 0, .int 0])) := gE_s e4853
  have hF := gE_F e4853 hF (Or.inr rfl)
  refine lv_aload_n hx hb dX7_init_20 rfl (lv_at hl 0 rfl) ?_
  refine lv_iload_n hx hb dX7_init_21 rfl (lv_at hl 1 rfl) ?_
  refine g_put (fs2 := [.int po, .ref n, .int (-1), .int 0, .int 0, .int 0]) C hI hS c0_ (by omega) kc5 0 (Nat.le_of_ble_eq_true rfl) q1181 (fun _ h9 => h9) rfl rfl rfl rfl dX7_init_22 (fun G4854 H locs e4855 hI hS => ?_)
  have c4843 := gE_k e4855 c4843 (g_nc c4843 c0_ (by decide))
  have c0_ : G4854 ln = some (.inl (5, [.int po, .ref n, .int (-1), .int 0, .int 0, .int 0])) := gE_s e4855
  have hF := gE_F e4855 hF (Or.inr rfl)
  exact g_vret C hI hS (by omega) ⟨rfl, (by omega), hF, c0_, c4843⟩ dX7_init_25
set_option maxHeartbeats 4000000 in
set_option maxRecDepth 100000 in
theorem c_X7_copy (l : Launch) {D : gD} (hB : gBs D) (G : gH) (n : Nat) (ln : Nat) (po : Int32) (pq : Nat) (ba : Int32) (si : Int32) (lo : Int32) (dr : Int32) (c0_ : G ln = some (.inl (5, [.int po, .ref pq, .int ba, .int si, .int lo, .int dr]))) : gMet l D yX7_copy (ws_ yX7_copy cX7_copy 2 (some (FieldType.object "WhelkFleet$Line"))) 7 2 G n [.ref ln] (fun (v : Option Value) (G1 : gH) (n1 : Nat) => v = some (.ref n) ∧ n ≤ n1 ∧ gF G G1 n gNone ∧ G1 n = some (.inl (5, [.int po, .ref pq, .int ba, .int si, .int lo, .int dr]))) gNox := by
  refine g_start (by decide) (Nat.le_of_ble_eq_true rfl) ?_
  intro p e s m below meth c ls C hnm hxt hI hl
  have hx := C.x
  have hb := C.b
  have hS : va_S (gA D) s.heap s.heap [] := va_S.rf
  have hz0 := hI.z
  have lc0_ := hI.lt c0_
  have hF : gF G G n gNone := gF.rf _ _ _
  have hl : lv_has ls 2 [(0, .ref ln)] := hl
  refine g_new (fs := [.int 0, .null, .int 0, .int 0, .int 0, .int 0]) C hI hS kc5 rfl q1173 q1174 q114 (by decide) (by omega) dX7_copy_0 (fun G4856 H e4857 hI hS => ?_)
  have c0_ := gE_k e4857 c0_ (by omega)
  have c4858 : G4856 n = some (.inl (5, [.int 0, .null, .int 0, .int 0, .int 0, .int 0])) := gE_s e4857
  have hF := gE_F e4857 hF (Or.inl (by omega))
  refine lv_dup hx hb dX7_copy_3 rfl ?_
  refine lv_aload_n hx hb dX7_copy_4 rfl (lv_at hl 0 rfl) ?_
  refine g_get C hI c0_ kc5 0 rfl q1181 (fun _ h9 => h9) dX7_copy_5 ?_
  refine g_I (As := [.int po]) (rest := [.ref n]) (lv := [(0, .ref ln)]) C hI hS (c_X7_init l hB G4856 (n + 1) n po c4858 (by omega)) rfl q1175 q1176 q114 q1177 (⟨by decide, by decide, by decide⟩ : gArg _ 1) rfl ⟨by decide, by decide⟩ (by omega) hl rfl (Nat.le_of_ble_eq_true rfl) dX7_copy_8 (fun v4859 G4860 n4861 H locs hp4862 hI hS => ?_) gKx.no
  obtain ⟨rfl, hn4863, hF4864, c4865, c4866⟩ := hp4862
  refine W.widen (k := 2) (n := 200 * (2)) (by omega) (by omega) ?_
  have c0_ := hF4864.at c0_ (by omega) (by omega)
  have hF := hF.trans hF4864 (by omega) (fun q hq => (fun h => by exfalso; omega))
  refine lv_astore_n (lv' := [(1, .ref n), (0, .ref ln)]) hx hb dX7_copy_11 rfl hl (by decide) rfl (fun ls hl => ?_)
  refine lv_aload_n hx hb dX7_copy_12 rfl (lv_at hl 0 rfl) ?_
  refine lv_aload_n hx hb dX7_copy_13 rfl (lv_at hl 1 rfl) ?_
  refine g_get C hI c0_ kc5 1 rfl q1182 (fun _ h9 => h9) dX7_copy_14 ?_
  refine g_put (fs2 := [.int po, .ref pq, .int (-1), .int 0, .int 0, .int 0]) C hI hS c4865 (by omega) kc5 1 (Nat.le_of_ble_eq_true rfl) q1182 (fun _ h9 => h9) rfl rfl rfl rfl dX7_copy_17 (fun G4867 H locs e4868 hI hS => ?_)
  have c0_ := gE_k e4868 c0_ (by omega)
  have c4866 := gE_k e4868 c4866 (g_nc c4866 c4865 (by decide))
  have c4865 : G4867 n = some (.inl (5, [.int po, .ref pq, .int (-1), .int 0, .int 0, .int 0])) := gE_s e4868
  have hF := gE_F e4868 hF (Or.inl (by omega))
  refine lv_aload_n hx hb dX7_copy_20 rfl (lv_at hl 0 rfl) ?_
  refine lv_aload_n hx hb dX7_copy_21 rfl (lv_at hl 1 rfl) ?_
  refine g_get C hI c0_ kc5 2 rfl q1183 (fun _ h9 => h9) dX7_copy_22 ?_
  refine g_put (fs2 := [.int po, .ref pq, .int ba, .int 0, .int 0, .int 0]) C hI hS c4865 (by omega) kc5 2 (Nat.le_of_ble_eq_true rfl) q1183 (fun _ h9 => h9) rfl rfl rfl rfl dX7_copy_25 (fun G4869 H locs e4870 hI hS => ?_)
  have c0_ := gE_k e4870 c0_ (by omega)
  have c4866 := gE_k e4870 c4866 (g_nc c4866 c4865 (by decide))
  have c4865 : G4869 n = some (.inl (5, [.int po, .ref pq, .int ba, .int 0, .int 0, .int 0])) := gE_s e4870
  have hF := gE_F e4870 hF (Or.inl (by omega))
  refine lv_aload_n hx hb dX7_copy_28 rfl (lv_at hl 0 rfl) ?_
  refine lv_aload_n hx hb dX7_copy_29 rfl (lv_at hl 1 rfl) ?_
  refine g_get C hI c0_ kc5 3 rfl q1184 (fun _ h9 => h9) dX7_copy_30 ?_
  refine g_put (fs2 := [.int po, .ref pq, .int ba, .int si, .int 0, .int 0]) C hI hS c4865 (by omega) kc5 3 (Nat.le_of_ble_eq_true rfl) q1184 (fun _ h9 => h9) rfl rfl rfl rfl dX7_copy_33 (fun G4871 H locs e4872 hI hS => ?_)
  have c0_ := gE_k e4872 c0_ (by omega)
  have c4866 := gE_k e4872 c4866 (g_nc c4866 c4865 (by decide))
  have c4865 : G4871 n = some (.inl (5, [.int po, .ref pq, .int ba, .int si, .int 0, .int 0])) := gE_s e4872
  have hF := gE_F e4872 hF (Or.inl (by omega))
  refine lv_aload_n hx hb dX7_copy_36 rfl (lv_at hl 0 rfl) ?_
  refine lv_aload_n hx hb dX7_copy_37 rfl (lv_at hl 1 rfl) ?_
  refine g_get C hI c0_ kc5 4 rfl q1185 (fun _ h9 => h9) dX7_copy_38 ?_
  refine g_put (fs2 := [.int po, .ref pq, .int ba, .int si, .int lo, .int 0]) C hI hS c4865 (by omega) kc5 4 (Nat.le_of_ble_eq_true rfl) q1185 (fun _ h9 => h9) rfl rfl rfl rfl dX7_copy_41 (fun G4873 H locs e4874 hI hS => ?_)
  have c0_ := gE_k e4874 c0_ (by omega)
  have c4866 := gE_k e4874 c4866 (g_nc c4866 c4865 (by decide))
  have c4865 : G4873 n = some (.inl (5, [.int po, .ref pq, .int ba, .int si, .int lo, .int 0])) := gE_s e4874
  have hF := gE_F e4874 hF (Or.inl (by omega))
  refine lv_aload_n hx hb dX7_copy_44 rfl (lv_at hl 0 rfl) ?_
  refine lv_aload_n hx hb dX7_copy_45 rfl (lv_at hl 1 rfl) ?_
  refine g_get C hI c0_ kc5 5 rfl q1186 (fun _ h9 => h9) dX7_copy_46 ?_
  refine g_put (fs2 := [.int po, .ref pq, .int ba, .int si, .int lo, .int dr]) C hI hS c4865 (by omega) kc5 5 (Nat.le_of_ble_eq_true rfl) q1186 (fun _ h9 => h9) rfl rfl rfl rfl dX7_copy_49 (fun G4875 H locs e4876 hI hS => ?_)
  have c0_ := gE_k e4876 c0_ (by omega)
  have c4866 := gE_k e4876 c4866 (g_nc c4866 c4865 (by decide))
  have c4865 : G4875 n = some (.inl (5, [.int po, .ref pq, .int ba, .int si, .int lo, .int dr])) := gE_s e4876
  have hF := gE_F e4876 hF (Or.inl (by omega))
  refine lv_aload_n hx hb dX7_copy_52 rfl (lv_at hl 0 rfl) ?_
  exact g_aret C hI hS (by omega) (by first | exact Or.inl ⟨_, rfl⟩ | exact Or.inr ⟨_, rfl⟩) (Or.inr ⟨_, rfl⟩) ⟨rfl, (by omega), hF, c4865⟩ dX7_copy_53
set_option maxHeartbeats 4000000 in
set_option maxRecDepth 100000 in
theorem c_X7_pots (l : Launch) {D : gD} (hB : gBs D) (G : gH) (n : Nat) (ln : Nat) (po : Int32) (pq : Nat) (ba : Int32) (si : Int32) (lo : Int32) (dr : Int32) (c0_ : G ln = some (.inl (5, [.int po, .ref pq, .int ba, .int si, .int lo, .int dr]))) : gMet l D yX7_pots (ws_ yX7_pots cX7_pots 1 (some FieldType.int)) 1 0 G n [.ref ln] (fun (v : Option Value) (G1 : gH) (n1 : Nat) => v = some (.int po) ∧ G1 = G ∧ n1 = n) gNox := by
  refine g_start (by decide) (Nat.le_of_ble_eq_true rfl) ?_
  intro p e s m below meth c ls C hnm hxt hI hl
  have hx := C.x
  have hb := C.b
  have hS : va_S (gA D) s.heap s.heap [] := va_S.rf
  have hz0 := hI.z
  have lc0_ := hI.lt c0_
  have hF : gF G G n gNone := gF.rf _ _ _
  have hl : lv_has ls 1 [(0, .ref ln)] := hl
  refine lv_aload_n hx hb dX7_pots_0 rfl (lv_at hl 0 rfl) ?_
  refine g_get C hI c0_ kc5 0 rfl q1181 (fun _ h9 => h9) dX7_pots_1 ?_
  exact g_iret C hI hS (by omega) ⟨rfl, rfl, rfl⟩ dX7_pots_4
set_option maxHeartbeats 4000000 in
set_option maxRecDepth 100000 in
theorem c_X7_bait (l : Launch) {D : gD} (hB : gBs D) (G : gH) (n : Nat) (ln : Nat) (po : Int32) (pq : Nat) (ba : Int32) (si : Int32) (lo : Int32) (dr : Int32) (c0_ : G ln = some (.inl (5, [.int po, .ref pq, .int ba, .int si, .int lo, .int dr]))) : gMet l D yX7_bait (ws_ yX7_bait cX7_bait 1 (some FieldType.int)) 1 0 G n [.ref ln] (fun (v : Option Value) (G1 : gH) (n1 : Nat) => v = some (.int ba) ∧ G1 = G ∧ n1 = n) gNox := by
  refine g_start (by decide) (Nat.le_of_ble_eq_true rfl) ?_
  intro p e s m below meth c ls C hnm hxt hI hl
  have hx := C.x
  have hb := C.b
  have hS : va_S (gA D) s.heap s.heap [] := va_S.rf
  have hz0 := hI.z
  have lc0_ := hI.lt c0_
  have hF : gF G G n gNone := gF.rf _ _ _
  have hl : lv_has ls 1 [(0, .ref ln)] := hl
  refine lv_aload_n hx hb dX7_bait_0 rfl (lv_at hl 0 rfl) ?_
  refine g_get C hI c0_ kc5 2 rfl q1183 (fun _ h9 => h9) dX7_bait_1 ?_
  exact g_iret C hI hS (by omega) ⟨rfl, rfl, rfl⟩ dX7_bait_4
set_option maxHeartbeats 4000000 in
set_option maxRecDepth 100000 in
theorem c_X7_lost (l : Launch) {D : gD} (hB : gBs D) (G : gH) (n : Nat) (ln : Nat) (po : Int32) (pq : Nat) (ba : Int32) (si : Int32) (lo : Int32) (dr : Int32) (c0_ : G ln = some (.inl (5, [.int po, .ref pq, .int ba, .int si, .int lo, .int dr]))) : gMet l D yX7_lost (ws_ yX7_lost cX7_lost 1 (some FieldType.int)) 1 0 G n [.ref ln] (fun (v : Option Value) (G1 : gH) (n1 : Nat) => v = some (.int lo) ∧ G1 = G ∧ n1 = n) gNox := by
  refine g_start (by decide) (Nat.le_of_ble_eq_true rfl) ?_
  intro p e s m below meth c ls C hnm hxt hI hl
  have hx := C.x
  have hb := C.b
  have hS : va_S (gA D) s.heap s.heap [] := va_S.rf
  have hz0 := hI.z
  have lc0_ := hI.lt c0_
  have hF : gF G G n gNone := gF.rf _ _ _
  have hl : lv_has ls 1 [(0, .ref ln)] := hl
  refine lv_aload_n hx hb dX7_lost_0 rfl (lv_at hl 0 rfl) ?_
  refine g_get C hI c0_ kc5 4 rfl q1185 (fun _ h9 => h9) dX7_lost_1 ?_
  exact g_iret C hI hS (by omega) ⟨rfl, rfl, rfl⟩ dX7_lost_4
set_option maxHeartbeats 4000000 in
set_option maxRecDepth 100000 in
theorem c_X7_drawn (l : Launch) {D : gD} (hB : gBs D) (G : gH) (n : Nat) (ln : Nat) (po : Int32) (pq : Nat) (ba : Int32) (si : Int32) (lo : Int32) (dr : Int32) (c0_ : G ln = some (.inl (5, [.int po, .ref pq, .int ba, .int si, .int lo, .int dr]))) : gMet l D yX7_drawn (ws_ yX7_drawn cX7_drawn 1 (some FieldType.int)) 1 0 G n [.ref ln] (fun (v : Option Value) (G1 : gH) (n1 : Nat) => v = some (.int dr) ∧ G1 = G ∧ n1 = n) gNox := by
  refine g_start (by decide) (Nat.le_of_ble_eq_true rfl) ?_
  intro p e s m below meth c ls C hnm hxt hI hl
  have hx := C.x
  have hb := C.b
  have hS : va_S (gA D) s.heap s.heap [] := va_S.rf
  have hz0 := hI.z
  have lc0_ := hI.lt c0_
  have hF : gF G G n gNone := gF.rf _ _ _
  have hl : lv_has ls 1 [(0, .ref ln)] := hl
  refine lv_aload_n hx hb dX7_drawn_0 rfl (lv_at hl 0 rfl) ?_
  refine g_get C hI c0_ kc5 5 rfl q1186 (fun _ h9 => h9) dX7_drawn_1 ?_
  exact g_iret C hI hS (by omega) ⟨rfl, rfl, rfl⟩ dX7_drawn_4
set_option maxHeartbeats 4000000 in
set_option maxRecDepth 100000 in
theorem c_X7_place (l : Launch) {D : gD} (hB : gBs D) (G : gH) (n : Nat) (ln : Nat) (po : Int32) (pq : Nat) (ba : Int32) (si : Int32) (lo : Int32) (dr : Int32) (c0_ : G ln = some (.inl (5, [.int po, .ref pq, .int ba, .int si, .int lo, .int dr]))) : gMet l D yX7_place (ws_ yX7_place cX7_place 1 (some (FieldType.object "WhelkFleet$Place"))) 1 0 G n [.ref ln] (fun (v : Option Value) (G1 : gH) (n1 : Nat) => v = some (.ref pq) ∧ G1 = G ∧ n1 = n) gNox := by
  refine g_start (by decide) (Nat.le_of_ble_eq_true rfl) ?_
  intro p e s m below meth c ls C hnm hxt hI hl
  have hx := C.x
  have hb := C.b
  have hS : va_S (gA D) s.heap s.heap [] := va_S.rf
  have hz0 := hI.z
  have lc0_ := hI.lt c0_
  have hF : gF G G n gNone := gF.rf _ _ _
  have hl : lv_has ls 1 [(0, .ref ln)] := hl
  refine lv_aload_n hx hb dX7_place_0 rfl (lv_at hl 0 rfl) ?_
  refine g_get C hI c0_ kc5 1 rfl q1182 (fun _ h9 => h9) dX7_place_1 ?_
  exact g_aret C hI hS (by omega) (by first | exact Or.inl ⟨_, rfl⟩ | exact Or.inr ⟨_, rfl⟩) (Or.inr ⟨_, rfl⟩) ⟨rfl, rfl, rfl⟩ dX7_place_4
set_option maxHeartbeats 4000000 in
set_option maxRecDepth 100000 in
theorem c_X7_unitsOfBait (l : Launch) {D : gD} (hB : gBs D) (G : gH) (n : Nat) (ln : Nat) (po : Int32) (pq : Nat) (ba : Int32) (si : Int32) (lo : Int32) (dr : Int32) (c0_ : G ln = some (.inl (5, [.int po, .ref pq, .int ba, .int si, .int lo, .int dr]))) : gMet l D yX7_unitsOfBait (ws_ yX7_unitsOfBait cX7_unitsOfBait 1 (some FieldType.int)) 1 0 G n [.ref ln] (fun (v : Option Value) (G1 : gH) (n1 : Nat) => v = some (.int ((po + 4) / 5)) ∧ G1 = G ∧ n1 = n) gNox := by
  refine g_start (by decide) (Nat.le_of_ble_eq_true rfl) ?_
  intro p e s m below meth c ls C hnm hxt hI hl
  have hx := C.x
  have hb := C.b
  have hS : va_S (gA D) s.heap s.heap [] := va_S.rf
  have hz0 := hI.z
  have lc0_ := hI.lt c0_
  have hF : gF G G n gNone := gF.rf _ _ _
  have hl : lv_has ls 1 [(0, .ref ln)] := hl
  refine lv_aload_n hx hb dX7_unitsOfBait_0 rfl (lv_at hl 0 rfl) ?_
  refine g_get C hI c0_ kc5 0 rfl q1181 (fun _ h9 => h9) dX7_unitsOfBait_1 ?_
  refine lv_iconst (v := 4) hx hb dX7_unitsOfBait_4 (by decide) ?_
  refine lv_iadd hx hb dX7_unitsOfBait_5 ?_
  refine lv_iconst (v := 5) hx hb dX7_unitsOfBait_6 (by decide) ?_
  refine lv_idiv hx hb dX7_unitsOfBait_7 (by decide) ?_
  exact g_iret C hI hS (by omega) ⟨rfl, rfl, rfl⟩ dX7_unitsOfBait_8
set_option maxHeartbeats 4000000 in
set_option maxRecDepth 100000 in
theorem c_X7_hoursToHaul (l : Launch) {D : gD} (hB : gBs D) (G : gH) (n : Nat) (ln : Nat) (po : Int32) (pq : Nat) (ba : Int32) (si : Int32) (lo : Int32) (dr : Int32) (c0_ : G ln = some (.inl (5, [.int po, .ref pq, .int ba, .int si, .int lo, .int dr]))) : gMet l D yX7_hoursToHaul (ws_ yX7_hoursToHaul cX7_hoursToHaul 1 (some FieldType.int)) 1 0 G n [.ref ln] (fun (v : Option Value) (G1 : gH) (n1 : Nat) => v = some (.int (1 + po / 10)) ∧ G1 = G ∧ n1 = n) gNox := by
  refine g_start (by decide) (Nat.le_of_ble_eq_true rfl) ?_
  intro p e s m below meth c ls C hnm hxt hI hl
  have hx := C.x
  have hb := C.b
  have hS : va_S (gA D) s.heap s.heap [] := va_S.rf
  have hz0 := hI.z
  have lc0_ := hI.lt c0_
  have hF : gF G G n gNone := gF.rf _ _ _
  have hl : lv_has ls 1 [(0, .ref ln)] := hl
  refine lv_iconst (v := 1) hx hb dX7_hoursToHaul_0 (by decide) ?_
  refine lv_aload_n hx hb dX7_hoursToHaul_1 rfl (lv_at hl 0 rfl) ?_
  refine g_get C hI c0_ kc5 0 rfl q1181 (fun _ h9 => h9) dX7_hoursToHaul_2 ?_
  refine lv_bipush (v := 10) hx hb dX7_hoursToHaul_5 (by decide) ?_
  refine lv_idiv hx hb dX7_hoursToHaul_7 (by decide) ?_
  refine lv_iadd hx hb dX7_hoursToHaul_8 ?_
  exact g_iret C hI hS (by omega) ⟨rfl, rfl, rfl⟩ dX7_hoursToHaul_9
set_option maxHeartbeats 4000000 in
set_option maxRecDepth 100000 in
theorem c_X7_isShot (l : Launch) {D : gD} (hB : gBs D) (G : gH) (n : Nat) (ln : Nat) (po : Int32) (pq : Nat) (ba : Int32) (si : Int32) (lo : Int32) (dr : Int32) (q1 : Nat) (a1 : Int32) (a2 : Int32) (c0_ : G ln = some (.inl (5, [.int po, .ref pq, .int ba, .int si, .int lo, .int dr]))) (hz : gz D ≤ ln) : gMet l D yX7_isShot (ws_ yX7_isShot cX7_isShot 4 none) 1 0 G n [.ref ln, .ref q1, .int a1, .int a2] (fun (v : Option Value) (G1 : gH) (n1 : Nat) => v = none ∧ n ≤ n1 ∧ gF G G1 n (fun q : Nat => q = ln) ∧ G1 ln = some (.inl (5, [.int po, .ref q1, .int a1, .int a2, .int lo, .int dr]))) gNox := by
  refine g_start (by decide) (Nat.le_of_ble_eq_true rfl) ?_
  intro p e s m below meth c ls C hnm hxt hI hl
  have hx := C.x
  have hb := C.b
  have hS : va_S (gA D) s.heap s.heap [] := va_S.rf
  have hz0 := hI.z
  have lc0_ := hI.lt c0_
  have hF : gF G G n (fun q : Nat => q = ln) := gF.rf _ _ _
  have hl : lv_has ls 4 [(0, .ref ln), (1, .ref q1), (2, .int a1), (3, .int a2)] := hl
  refine lv_aload_n hx hb dX7_isShot_0 rfl (lv_at hl 0 rfl) ?_
  refine lv_aload_n hx hb dX7_isShot_1 rfl (lv_at hl 1 rfl) ?_
  refine g_put (fs2 := [.int po, .ref q1, .int ba, .int si, .int lo, .int dr]) C hI hS c0_ (by omega) kc5 1 (Nat.le_of_ble_eq_true rfl) q1182 (fun _ h9 => h9) rfl rfl rfl rfl dX7_isShot_2 (fun G4877 H locs e4878 hI hS => ?_)
  have c0_ : G4877 ln = some (.inl (5, [.int po, .ref q1, .int ba, .int si, .int lo, .int dr])) := gE_s e4878
  have hF := gE_F e4878 hF (Or.inr rfl)
  refine lv_aload_n hx hb dX7_isShot_5 rfl (lv_at hl 0 rfl) ?_
  refine lv_iload_n hx hb dX7_isShot_6 rfl (lv_at hl 2 rfl) ?_
  refine g_put (fs2 := [.int po, .ref q1, .int a1, .int si, .int lo, .int dr]) C hI hS c0_ (by omega) kc5 2 (Nat.le_of_ble_eq_true rfl) q1183 (fun _ h9 => h9) rfl rfl rfl rfl dX7_isShot_7 (fun G4879 H locs e4880 hI hS => ?_)
  have c0_ : G4879 ln = some (.inl (5, [.int po, .ref q1, .int a1, .int si, .int lo, .int dr])) := gE_s e4880
  have hF := gE_F e4880 hF (Or.inr rfl)
  refine lv_aload_n hx hb dX7_isShot_10 rfl (lv_at hl 0 rfl) ?_
  refine lv_iload_n hx hb dX7_isShot_11 rfl (lv_at hl 3 rfl) ?_
  refine g_put (fs2 := [.int po, .ref q1, .int a1, .int a2, .int lo, .int dr]) C hI hS c0_ (by omega) kc5 3 (Nat.le_of_ble_eq_true rfl) q1184 (fun _ h9 => h9) rfl rfl rfl rfl dX7_isShot_12 (fun G4881 H locs e4882 hI hS => ?_)
  have c0_ : G4881 ln = some (.inl (5, [.int po, .ref q1, .int a1, .int a2, .int lo, .int dr])) := gE_s e4882
  have hF := gE_F e4882 hF (Or.inr rfl)
  exact g_vret C hI hS (by omega) ⟨rfl, (by omega), hF, c0_⟩ dX7_isShot_15
set_option maxHeartbeats 4000000 in
set_option maxRecDepth 100000 in
theorem c_X7_isHauled (l : Launch) {D : gD} (hB : gBs D) (G : gH) (n : Nat) (ln : Nat) (po : Int32) (pq : Nat) (ba : Int32) (si : Int32) (lo : Int32) (dr : Int32) (a1 : Int32) (c0_ : G ln = some (.inl (5, [.int po, .ref pq, .int ba, .int si, .int lo, .int dr]))) (hz : gz D ≤ ln) : gMet l D yX7_isHauled (ws_ yX7_isHauled cX7_isHauled 2 none) 6 1 G n [.ref ln, .int a1] (fun (v : Option Value) (G1 : gH) (n1 : Nat) => v = none ∧ n ≤ n1 ∧ gF G G1 n (fun q : Nat => q = ln) ∧ G1 ln = some (.inl (5, [.int po, .ref n, .int (-1), .int si, .int lo, .int (dr + a1)])) ∧ G1 n = some (.inl (4, []))) gNox := by
  refine g_start (by decide) (Nat.le_of_ble_eq_true rfl) ?_
  intro p e s m below meth c ls C hnm hxt hI hl
  have hx := C.x
  have hb := C.b
  have hS : va_S (gA D) s.heap s.heap [] := va_S.rf
  have hz0 := hI.z
  have lc0_ := hI.lt c0_
  have hF : gF G G n (fun q : Nat => q = ln) := gF.rf _ _ _
  have hl : lv_has ls 2 [(0, .ref ln), (1, .int a1)] := hl
  refine lv_aload_n hx hb dX7_isHauled_0 rfl (lv_at hl 0 rfl) ?_
  refine lv_dup hx hb dX7_isHauled_1 rfl ?_
  refine g_get C hI c0_ kc5 5 rfl q1186 (fun _ h9 => h9) dX7_isHauled_2 ?_
  refine lv_iload_n hx hb dX7_isHauled_5 rfl (lv_at hl 1 rfl) ?_
  refine lv_iadd hx hb dX7_isHauled_6 ?_
  refine g_put (fs2 := [.int po, .ref pq, .int ba, .int si, .int lo, .int (dr + a1)]) C hI hS c0_ (by omega) kc5 5 (Nat.le_of_ble_eq_true rfl) q1186 (fun _ h9 => h9) rfl rfl rfl rfl dX7_isHauled_7 (fun G4883 H locs e4884 hI hS => ?_)
  have c0_ : G4883 ln = some (.inl (5, [.int po, .ref pq, .int ba, .int si, .int lo, .int (dr + a1)])) := gE_s e4884
  have hF := gE_F e4884 hF (Or.inr rfl)
  refine lv_aload_n hx hb dX7_isHauled_10 rfl (lv_at hl 0 rfl) ?_
  refine g_new0 C hI hS kc4 q1179 q1140 q113 (by decide) (by omega) dX7_isHauled_11 (fun G4885 H e4886 hI hS => ?_)
  have c0_ := gE_k e4886 c0_ (by omega)
  have c4887 : G4885 n = some (.inl (4, [])) := gE_s e4886
  have hF := gE_F e4886 hF (Or.inl (by omega))
  refine lv_dup hx hb dX7_isHauled_14 rfl ?_
  refine g_IN (As := []) (rest := [.ref n, .ref ln]) (lv := [(0, .ref ln), (1, .int a1)]) C hI hS (c_X6_init l hB G4885 (n + 1) n c4887 ) rfl (gNw_in q1180 rfl) q1142 q113 q1143 (⟨by decide, by decide, by decide⟩ : gArg _ 0) rfl ⟨by decide, by decide⟩ (by omega) hl rfl (Nat.le_of_ble_eq_true rfl) dX7_isHauled_15 (fun v4888 G4889 n4890 H locs hp4891 hI hS => ?_) gKx.no
  obtain ⟨rfl, eG4889, en4890⟩ := hp4891
  refine W.widen (k := 1) (n := 200 * (1)) (by omega) (by omega) ?_
  rw [eG4889, en4890] at hI
  refine g_put (fs2 := [.int po, .ref n, .int ba, .int si, .int lo, .int (dr + a1)]) C hI hS c0_ (by omega) kc5 1 (Nat.le_of_ble_eq_true rfl) q1182 (fun _ h9 => h9) rfl rfl rfl rfl dX7_isHauled_18 (fun G4894 H locs e4895 hI hS => ?_)
  have c4887 := gE_k e4895 c4887 (g_nc c4887 c0_ (by decide))
  have c0_ : G4894 ln = some (.inl (5, [.int po, .ref n, .int ba, .int si, .int lo, .int (dr + a1)])) := gE_s e4895
  have hF := gE_F e4895 hF (Or.inr rfl)
  refine lv_aload_n hx hb dX7_isHauled_21 rfl (lv_at hl 0 rfl) ?_
  refine lv_iconst (v := (-1)) hx hb dX7_isHauled_22 (by decide) ?_
  refine g_put (fs2 := [.int po, .ref n, .int (-1), .int si, .int lo, .int (dr + a1)]) C hI hS c0_ (by omega) kc5 2 (Nat.le_of_ble_eq_true rfl) q1183 (fun _ h9 => h9) rfl rfl rfl rfl dX7_isHauled_23 (fun G4896 H locs e4897 hI hS => ?_)
  have c4887 := gE_k e4897 c4887 (g_nc c4887 c0_ (by decide))
  have c0_ : G4896 ln = some (.inl (5, [.int po, .ref n, .int (-1), .int si, .int lo, .int (dr + a1)])) := gE_s e4897
  have hF := gE_F e4897 hF (Or.inr rfl)
  exact g_vret C hI hS (by omega) ⟨rfl, (by omega), hF, c0_, c4887⟩ dX7_isHauled_26
set_option maxHeartbeats 4000000 in
set_option maxRecDepth 100000 in
theorem c_X7_layA (l : Launch) {D : gD} (hB : gBs D) (G : gH) (n : Nat) (ln : Nat) (po : Int32) (pq : Nat) (ba : Int32) (si : Int32) (lo : Int32) (dr : Int32) (a1 : Int32) (c0_ : G ln = some (.inl (5, [.int po, .ref pq, .int ba, .int si, .int lo, .int dr]))) (c1_ : G pq = some (.inl (4, []))) : gMet l D yX7_lay (ws_ yX7_lay cX7_lay 2 (some FieldType.int)) 2 0 G n [.ref ln, .int a1] (fun (v : Option Value) (G1 : gH) (n1 : Nat) => v = some (.int 0) ∧ G1 = G ∧ n1 = n) gNox := by
  refine g_start (by decide) (Nat.le_of_ble_eq_true rfl) ?_
  intro p e s m below meth c ls C hnm hxt hI hl
  have hx := C.x
  have hb := C.b
  have hS : va_S (gA D) s.heap s.heap [] := va_S.rf
  have hz0 := hI.z
  have lc0_ := hI.lt c0_
  have lc1_ := hI.lt c1_
  have hF : gF G G n gNone := gF.rf _ _ _
  have hl : lv_has ls 2 [(0, .ref ln), (1, .int a1)] := hl
  refine lv_aload_n hx hb dX7_lay_0 rfl (lv_at hl 0 rfl) ?_
  refine g_get C hI c0_ kc5 1 rfl q1182 (fun _ h9 => h9) dX7_lay_1 ?_
  refine g_FD (As := []) (rest := []) (lv := [(0, .ref ln), (1, .int a1)]) C hI hS (c_X11_isAshoreA l hB G n pq c1_ ) c1_ rfl fw14 ld1 q1569 q1416 q118 q1418 (⟨by decide, by decide, by decide⟩ : gArg _ 0) rfl ⟨by decide, by decide⟩ (by omega) hl rfl (Nat.le_of_ble_eq_true rfl) dX7_lay_4 (fun v4898 G4899 n4900 H locs hp4901 hI hS => ?_)
  obtain ⟨rfl, eG4899, en4900⟩ := hp4901
  refine W.widen (k := 0) (n := 200 * (0)) (by omega) (by omega) ?_
  rw [eG4899, en4900] at hI
  refine lv_if_eq (tgt := 16) hx hb dX7_lay_9 (by decide) (fun c_4904 => ?_) (fun c_4904 => ?_)
  · exact absurd c_4904 (by decide)
  · skip
    refine lv_iconst (v := 0) hx hb dX7_lay_12 (by decide) ?_
    refine lv_goto (tgt := 22) hx hb dX7_lay_13 (by decide) ?_
    exact g_iret C hI hS (by omega) ⟨rfl, rfl, rfl⟩ dX7_lay_22
set_option maxHeartbeats 4000000 in
set_option maxRecDepth 100000 in
theorem c_X7_layG (l : Launch) {D : gD} (hB : gBs D) (G : gH) (n : Nat) (ln : Nat) (po : Int32) (pq : Nat) (ba : Int32) (si : Int32) (lo : Int32) (dr : Int32) (a1 : Int32) (pv : Int32) (c0_ : G ln = some (.inl (5, [.int po, .ref pq, .int ba, .int si, .int lo, .int dr]))) (c1_ : G pq = some (.inl (7, [.int pv]))) : gMet l D yX7_lay (ws_ yX7_lay cX7_lay 2 (some FieldType.int)) 2 0 G n [.ref ln, .int a1] (fun (v : Option Value) (G1 : gH) (n1 : Nat) => v = some (.int (a1 - si)) ∧ G1 = G ∧ n1 = n) gNox := by
  refine g_start (by decide) (Nat.le_of_ble_eq_true rfl) ?_
  intro p e s m below meth c ls C hnm hxt hI hl
  have hx := C.x
  have hb := C.b
  have hS : va_S (gA D) s.heap s.heap [] := va_S.rf
  have hz0 := hI.z
  have lc0_ := hI.lt c0_
  have lc1_ := hI.lt c1_
  have hF : gF G G n gNone := gF.rf _ _ _
  have hl : lv_has ls 2 [(0, .ref ln), (1, .int a1)] := hl
  refine lv_aload_n hx hb dX7_lay_0 rfl (lv_at hl 0 rfl) ?_
  refine g_get C hI c0_ kc5 1 rfl q1182 (fun _ h9 => h9) dX7_lay_1 ?_
  refine g_FD (As := []) (rest := []) (lv := [(0, .ref ln), (1, .int a1)]) C hI hS (c_X11_isAshoreG l hB G n pq pv c1_ ) c1_ rfl fw17 ld4 q1569 q1416 q118 q1418 (⟨by decide, by decide, by decide⟩ : gArg _ 0) rfl ⟨by decide, by decide⟩ (by omega) hl rfl (Nat.le_of_ble_eq_true rfl) dX7_lay_4 (fun v4905 G4906 n4907 H locs hp4908 hI hS => ?_)
  obtain ⟨rfl, eG4906, en4907⟩ := hp4908
  refine W.widen (k := 0) (n := 200 * (0)) (by omega) (by omega) ?_
  rw [eG4906, en4907] at hI
  refine lv_if_eq (tgt := 16) hx hb dX7_lay_9 (by decide) (fun c_4911 => ?_) (fun c_4911 => ?_)
  · skip
    refine lv_iload_n hx hb dX7_lay_16 rfl (lv_at hl 1 rfl) ?_
    refine lv_aload_n hx hb dX7_lay_17 rfl (lv_at hl 0 rfl) ?_
    refine g_get C hI c0_ kc5 3 rfl q1184 (fun _ h9 => h9) dX7_lay_18 ?_
    refine lv_isub hx hb dX7_lay_21 ?_
    exact g_iret C hI hS (by omega) ⟨rfl, rfl, rfl⟩ dX7_lay_22
  · exact absurd (by decide) c_4911
set_option maxHeartbeats 4000000 in
set_option maxRecDepth 100000 in
theorem c_X7_losesPotsA (l : Launch) {D : gD} (hB : gBs D) (G : gH) (n : Nat) (ln : Nat) (po : Int32) (pq : Nat) (ba : Int32) (si : Int32) (lo : Int32) (dr : Int32) (c0_ : G ln = some (.inl (5, [.int po, .ref pq, .int ba, .int si, .int lo, .int dr]))) (c1_ : G pq = some (.inl (4, []))) (hz : gz D ≤ ln) : gMet l D yX7_losesPots (ws_ yX7_losesPots cX7_losesPots 2 (some FieldType.int)) 2 0 G n [.ref ln] (fun (v : Option Value) (G1 : gH) (n1 : Nat) => v = some (.int 0) ∧ n ≤ n1 ∧ gF G G1 n (fun q : Nat => q = ln) ∧ G1 ln = some (.inl (5, [.int (po - 0), .ref pq, .int ba, .int si, .int (lo + 0), .int dr]))) gNox := by
  refine g_start (by decide) (Nat.le_of_ble_eq_true rfl) ?_
  intro p e s m below meth c ls C hnm hxt hI hl
  have hx := C.x
  have hb := C.b
  have hS : va_S (gA D) s.heap s.heap [] := va_S.rf
  have hz0 := hI.z
  have lc0_ := hI.lt c0_
  have lc1_ := hI.lt c1_
  have hF : gF G G n (fun q : Nat => q = ln) := gF.rf _ _ _
  have hl : lv_has ls 2 [(0, .ref ln)] := hl
  refine lv_aload_n hx hb dX7_losesPots_0 rfl (lv_at hl 0 rfl) ?_
  refine g_get C hI c0_ kc5 1 rfl q1182 (fun _ h9 => h9) dX7_losesPots_1 ?_
  refine g_FD (As := []) (rest := []) (lv := [(0, .ref ln)]) C hI hS (c_X11_isAshoreA l hB G n pq c1_ ) c1_ rfl fw14 ld1 q1569 q1416 q118 q1418 (⟨by decide, by decide, by decide⟩ : gArg _ 0) rfl ⟨by decide, by decide⟩ (by omega) hl rfl (Nat.le_of_ble_eq_true rfl) dX7_losesPots_4 (fun v4912 G4913 n4914 H locs hp4915 hI hS => ?_)
  obtain ⟨rfl, eG4913, en4914⟩ := hp4915
  refine W.widen (k := 0) (n := 200 * (0)) (by omega) (by omega) ?_
  rw [eG4913, en4914] at hI
  refine lv_if_eq (tgt := 16) hx hb dX7_losesPots_9 (by decide) (fun c_4918 => ?_) (fun c_4918 => ?_)
  · exact absurd c_4918 (by decide)
  · skip
    refine lv_iconst (v := 0) hx hb dX7_losesPots_12 (by decide) ?_
    refine lv_goto (tgt := 23) hx hb dX7_losesPots_13 (by decide) ?_
    refine lv_istore_n (lv' := [(1, .int 0), (0, .ref ln)]) hx hb dX7_losesPots_23 rfl hl (by decide) rfl (fun ls hl => ?_)
    refine lv_aload_n hx hb dX7_losesPots_24 rfl (lv_at hl 1 rfl) ?_
    refine lv_dup hx hb dX7_losesPots_25 rfl ?_
    refine g_get C hI c0_ kc5 0 rfl q1181 (fun _ h9 => h9) dX7_losesPots_26 ?_
    refine lv_iload_n hx hb dX7_losesPots_29 rfl (lv_at hl 0 rfl) ?_
    refine lv_isub hx hb dX7_losesPots_30 ?_
    refine g_put (fs2 := [.int (po - 0), .ref pq, .int ba, .int si, .int lo, .int dr]) C hI hS c0_ (by omega) kc5 0 (Nat.le_of_ble_eq_true rfl) q1181 (fun _ h9 => h9) rfl rfl rfl rfl dX7_losesPots_31 (fun G4919 H locs e4920 hI hS => ?_)
    have c1_ := gE_k e4920 c1_ (g_nc c1_ c0_ (by decide))
    have c0_ : G4919 ln = some (.inl (5, [.int (po - 0), .ref pq, .int ba, .int si, .int lo, .int dr])) := gE_s e4920
    have hF := gE_F e4920 hF (Or.inr rfl)
    refine lv_aload_n hx hb dX7_losesPots_34 rfl (lv_at hl 1 rfl) ?_
    refine lv_dup hx hb dX7_losesPots_35 rfl ?_
    refine g_get C hI c0_ kc5 4 rfl q1185 (fun _ h9 => h9) dX7_losesPots_36 ?_
    refine lv_iload_n hx hb dX7_losesPots_39 rfl (lv_at hl 0 rfl) ?_
    refine lv_iadd hx hb dX7_losesPots_40 ?_
    refine g_put (fs2 := [.int (po - 0), .ref pq, .int ba, .int si, .int (lo + 0), .int dr]) C hI hS c0_ (by omega) kc5 4 (Nat.le_of_ble_eq_true rfl) q1185 (fun _ h9 => h9) rfl rfl rfl rfl dX7_losesPots_41 (fun G4921 H locs e4922 hI hS => ?_)
    have c1_ := gE_k e4922 c1_ (g_nc c1_ c0_ (by decide))
    have c0_ : G4921 ln = some (.inl (5, [.int (po - 0), .ref pq, .int ba, .int si, .int (lo + 0), .int dr])) := gE_s e4922
    have hF := gE_F e4922 hF (Or.inr rfl)
    refine lv_iload_n hx hb dX7_losesPots_44 rfl (lv_at hl 0 rfl) ?_
    exact g_iret C hI hS (by omega) ⟨rfl, (by omega), hF, c0_⟩ dX7_losesPots_45
set_option maxHeartbeats 4000000 in
set_option maxRecDepth 100000 in
theorem c_X7_losesPotsG (l : Launch) {D : gD} (hB : gBs D) (G : gH) (n : Nat) (ln : Nat) (po : Int32) (pq : Nat) (ba : Int32) (si : Int32) (lo : Int32) (dr : Int32) (pv : Int32) (c0_ : G ln = some (.inl (5, [.int po, .ref pq, .int ba, .int si, .int lo, .int dr]))) (c1_ : G pq = some (.inl (7, [.int pv]))) (hz : gz D ≤ ln) : gMet l D yX7_losesPots (ws_ yX7_losesPots cX7_losesPots 2 (some FieldType.int)) 2 0 G n [.ref ln] (fun (v : Option Value) (G1 : gH) (n1 : Nat) => v = some (.int (po / 8)) ∧ n ≤ n1 ∧ gF G G1 n (fun q : Nat => q = ln) ∧ G1 ln = some (.inl (5, [.int (po - po / 8), .ref pq, .int ba, .int si, .int (lo + po / 8), .int dr]))) gNox := by
  refine g_start (by decide) (Nat.le_of_ble_eq_true rfl) ?_
  intro p e s m below meth c ls C hnm hxt hI hl
  have hx := C.x
  have hb := C.b
  have hS : va_S (gA D) s.heap s.heap [] := va_S.rf
  have hz0 := hI.z
  have lc0_ := hI.lt c0_
  have lc1_ := hI.lt c1_
  have hF : gF G G n (fun q : Nat => q = ln) := gF.rf _ _ _
  have hl : lv_has ls 2 [(0, .ref ln)] := hl
  refine lv_aload_n hx hb dX7_losesPots_0 rfl (lv_at hl 0 rfl) ?_
  refine g_get C hI c0_ kc5 1 rfl q1182 (fun _ h9 => h9) dX7_losesPots_1 ?_
  refine g_FD (As := []) (rest := []) (lv := [(0, .ref ln)]) C hI hS (c_X11_isAshoreG l hB G n pq pv c1_ ) c1_ rfl fw17 ld4 q1569 q1416 q118 q1418 (⟨by decide, by decide, by decide⟩ : gArg _ 0) rfl ⟨by decide, by decide⟩ (by omega) hl rfl (Nat.le_of_ble_eq_true rfl) dX7_losesPots_4 (fun v4923 G4924 n4925 H locs hp4926 hI hS => ?_)
  obtain ⟨rfl, eG4924, en4925⟩ := hp4926
  refine W.widen (k := 0) (n := 200 * (0)) (by omega) (by omega) ?_
  rw [eG4924, en4925] at hI
  refine lv_if_eq (tgt := 16) hx hb dX7_losesPots_9 (by decide) (fun c_4929 => ?_) (fun c_4929 => ?_)
  · skip
    refine lv_aload_n hx hb dX7_losesPots_16 rfl (lv_at hl 0 rfl) ?_
    refine g_get C hI c0_ kc5 0 rfl q1181 (fun _ h9 => h9) dX7_losesPots_17 ?_
    refine lv_bipush (v := 8) hx hb dX7_losesPots_20 (by decide) ?_
    refine lv_idiv hx hb dX7_losesPots_22 (by decide) ?_
    refine lv_istore_n (lv' := [(1, .int (po / 8)), (0, .ref ln)]) hx hb dX7_losesPots_23 rfl hl (by decide) rfl (fun ls hl => ?_)
    refine lv_aload_n hx hb dX7_losesPots_24 rfl (lv_at hl 1 rfl) ?_
    refine lv_dup hx hb dX7_losesPots_25 rfl ?_
    refine g_get C hI c0_ kc5 0 rfl q1181 (fun _ h9 => h9) dX7_losesPots_26 ?_
    refine lv_iload_n hx hb dX7_losesPots_29 rfl (lv_at hl 0 rfl) ?_
    refine lv_isub hx hb dX7_losesPots_30 ?_
    refine g_put (fs2 := [.int (po - (po / 8)), .ref pq, .int ba, .int si, .int lo, .int dr]) C hI hS c0_ (by omega) kc5 0 (Nat.le_of_ble_eq_true rfl) q1181 (fun _ h9 => h9) rfl rfl rfl rfl dX7_losesPots_31 (fun G4930 H locs e4931 hI hS => ?_)
    have c1_ := gE_k e4931 c1_ (g_nc c1_ c0_ (by decide))
    have c0_ : G4930 ln = some (.inl (5, [.int (po - (po / 8)), .ref pq, .int ba, .int si, .int lo, .int dr])) := gE_s e4931
    have hF := gE_F e4931 hF (Or.inr rfl)
    refine lv_aload_n hx hb dX7_losesPots_34 rfl (lv_at hl 1 rfl) ?_
    refine lv_dup hx hb dX7_losesPots_35 rfl ?_
    refine g_get C hI c0_ kc5 4 rfl q1185 (fun _ h9 => h9) dX7_losesPots_36 ?_
    refine lv_iload_n hx hb dX7_losesPots_39 rfl (lv_at hl 0 rfl) ?_
    refine lv_iadd hx hb dX7_losesPots_40 ?_
    refine g_put (fs2 := [.int (po - (po / 8)), .ref pq, .int ba, .int si, .int (lo + (po / 8)), .int dr]) C hI hS c0_ (by omega) kc5 4 (Nat.le_of_ble_eq_true rfl) q1185 (fun _ h9 => h9) rfl rfl rfl rfl dX7_losesPots_41 (fun G4932 H locs e4933 hI hS => ?_)
    have c1_ := gE_k e4933 c1_ (g_nc c1_ c0_ (by decide))
    have c0_ : G4932 ln = some (.inl (5, [.int (po - (po / 8)), .ref pq, .int ba, .int si, .int (lo + (po / 8)), .int dr])) := gE_s e4933
    have hF := gE_F e4933 hF (Or.inr rfl)
    refine lv_iload_n hx hb dX7_losesPots_44 rfl (lv_at hl 0 rfl) ?_
    exact g_iret C hI hS (by omega) ⟨rfl, (by omega), hF, c0_⟩ dX7_losesPots_45
  · exact absurd (by decide) c_4929
set_option maxHeartbeats 4000000 in
set_option maxRecDepth 100000 in
theorem c_X13_init (l : Launch) {D : gD} (hB : gBs D) (G : gH) (n : Nat) (da : Nat) (ds : Int32) (dm : Int32) (dl : Int32) (c0_ : G da = some (.inl (9, [.int 0, .int 0, .int 0]))) (hz : gz D ≤ da) : gMet l D yX13_init (ws_ yX13_init cX13_init 4 none) 2 0 G n [.ref da, .int ds, .int dm, .int dl] (fun (v : Option Value) (G1 : gH) (n1 : Nat) => v = none ∧ n ≤ n1 ∧ gF G G1 n (fun q : Nat => q = da) ∧ G1 da = some (.inl (9, [.int ds, .int dm, .int dl]))) gNox := by
  refine g_start (by decide) (Nat.le_of_ble_eq_true rfl) ?_
  intro p e s m below meth c ls C hnm hxt hI hl
  have hx := C.x
  have hb := C.b
  have hS : va_S (gA D) s.heap s.heap [] := va_S.rf
  have hz0 := hI.z
  have lc0_ := hI.lt c0_
  have hF : gF G G n (fun q : Nat => q = da) := gF.rf _ _ _
  have hl : lv_has ls 4 [(0, .ref da), (1, .int ds), (2, .int dm), (3, .int dl)] := hl
  refine lv_aload_n hx hb dX13_init_0 rfl (lv_at hl 0 rfl) ?_
  refine W.objInit hx hb C.ow (C.ts _ q1596) (C.ts _ q135) (C.ts _ q136) rfl (by rw [C.ml]; exact hl.1) rfl dX13_init_1 (show 1 ≤ 2 by decide) (show _ ≤ 60 * 2 by simp [Value.category]) ?_
  refine W.eq (g2 := F0 m 4 ls []) rfl ?_
  refine lv_aload_n hx hb dX13_init_4 rfl (lv_at hl 0 rfl) ?_
  refine lv_iload_n hx hb dX13_init_5 rfl (lv_at hl 1 rfl) ?_
  refine g_putF (fs2 := [.int ds, .int 0, .int 0]) C hnm hI hS c0_ (by omega) kc9 0 (Nat.le_of_ble_eq_true rfl) q1597 (fun _ h9 => h9) rfl rfl rfl rfl rfl dX13_init_6 (fun G4934 H locs e4935 hI hS => ?_)
  have c0_ : G4934 da = some (.inl (9, [.int ds, .int 0, .int 0])) := gE_s e4935
  have hF := gE_F e4935 hF (Or.inr rfl)
  refine lv_aload_n hx hb dX13_init_9 rfl (lv_at hl 0 rfl) ?_
  refine lv_iload_n hx hb dX13_init_10 rfl (lv_at hl 2 rfl) ?_
  refine g_putF (fs2 := [.int ds, .int dm, .int 0]) C hnm hI hS c0_ (by omega) kc9 1 (Nat.le_of_ble_eq_true rfl) q1598 (fun _ h9 => h9) rfl rfl rfl rfl rfl dX13_init_11 (fun G4936 H locs e4937 hI hS => ?_)
  have c0_ : G4936 da = some (.inl (9, [.int ds, .int dm, .int 0])) := gE_s e4937
  have hF := gE_F e4937 hF (Or.inr rfl)
  refine lv_aload_n hx hb dX13_init_14 rfl (lv_at hl 0 rfl) ?_
  refine lv_iload_n hx hb dX13_init_15 rfl (lv_at hl 3 rfl) ?_
  refine g_putF (fs2 := [.int ds, .int dm, .int dl]) C hnm hI hS c0_ (by omega) kc9 2 (Nat.le_of_ble_eq_true rfl) q1599 (fun _ h9 => h9) rfl rfl rfl rfl rfl dX13_init_16 (fun G4938 H locs e4939 hI hS => ?_)
  have c0_ : G4938 da = some (.inl (9, [.int ds, .int dm, .int dl])) := gE_s e4939
  have hF := gE_F e4939 hF (Or.inr rfl)
  exact g_vret C hI hS (by omega) ⟨rfl, (by omega), hF, c0_⟩ dX13_init_19
set_option maxHeartbeats 4000000 in
set_option maxRecDepth 100000 in
theorem c_X13_all (l : Launch) {D : gD} (hB : gBs D) (G : gH) (n : Nat) (da : Nat) (ds : Int32) (dm : Int32) (dl : Int32) (c0_ : G da = some (.inl (9, [.int ds, .int dm, .int dl]))) : gMet l D yX13_all (ws_ yX13_all cX13_all 1 (some FieldType.int)) 1 0 G n [.ref da] (fun (v : Option Value) (G1 : gH) (n1 : Nat) => v = some (.int (ds + dm + dl)) ∧ G1 = G ∧ n1 = n) gNox := by
  refine g_start (by decide) (Nat.le_of_ble_eq_true rfl) ?_
  intro p e s m below meth c ls C hnm hxt hI hl
  have hx := C.x
  have hb := C.b
  have hS : va_S (gA D) s.heap s.heap [] := va_S.rf
  have hz0 := hI.z
  have lc0_ := hI.lt c0_
  have hF : gF G G n gNone := gF.rf _ _ _
  have hl : lv_has ls 1 [(0, .ref da)] := hl
  refine lv_aload_n hx hb dX13_all_0 rfl (lv_at hl 0 rfl) ?_
  refine g_get C hI c0_ kc9 0 rfl q1597 (fun _ h9 => h9) dX13_all_1 ?_
  refine lv_aload_n hx hb dX13_all_4 rfl (lv_at hl 0 rfl) ?_
  refine g_get C hI c0_ kc9 1 rfl q1598 (fun _ h9 => h9) dX13_all_5 ?_
  refine lv_iadd hx hb dX13_all_8 ?_
  refine lv_aload_n hx hb dX13_all_9 rfl (lv_at hl 0 rfl) ?_
  refine g_get C hI c0_ kc9 2 rfl q1599 (fun _ h9 => h9) dX13_all_10 ?_
  refine lv_iadd hx hb dX13_all_13 ?_
  exact g_iret C hI hS (by omega) ⟨rfl, rfl, rfl⟩ dX13_all_14
set_option maxHeartbeats 4000000 in
set_option maxRecDepth 100000 in
theorem c_X13_large (l : Launch) {D : gD} (hB : gBs D) (G : gH) (n : Nat) (da : Nat) (ds : Int32) (dm : Int32) (dl : Int32) (c0_ : G da = some (.inl (9, [.int ds, .int dm, .int dl]))) : gMet l D yX13_large (ws_ yX13_large cX13_large 1 (some FieldType.int)) 1 0 G n [.ref da] (fun (v : Option Value) (G1 : gH) (n1 : Nat) => v = some (.int dl) ∧ G1 = G ∧ n1 = n) gNox := by
  refine g_start (by decide) (Nat.le_of_ble_eq_true rfl) ?_
  intro p e s m below meth c ls C hnm hxt hI hl
  have hx := C.x
  have hb := C.b
  have hS : va_S (gA D) s.heap s.heap [] := va_S.rf
  have hz0 := hI.z
  have lc0_ := hI.lt c0_
  have hF : gF G G n gNone := gF.rf _ _ _
  have hl : lv_has ls 1 [(0, .ref da)] := hl
  refine lv_aload_n hx hb dX13_large_0 rfl (lv_at hl 0 rfl) ?_
  refine g_get C hI c0_ kc9 2 rfl q1599 (fun _ h9 => h9) dX13_large_1 ?_
  exact g_iret C hI hS (by omega) ⟨rfl, rfl, rfl⟩ dX13_large_4
set_option maxHeartbeats 4000000 in
set_option maxRecDepth 100000 in
theorem c_X13_middleKept (l : Launch) {D : gD} (hB : gBs D) (G : gH) (n : Nat) (da : Nat) (ds : Int32) (dm : Int32) (dl : Int32) (a1 : Int32) (c0_ : G da = some (.inl (9, [.int ds, .int dm, .int dl]))) : gMet l D yX13_middleKept (ws_ yX13_middleKept cX13_middleKept 2 (some FieldType.int)) 1 0 G n [.ref da, .int a1] (fun (v : Option Value) (G1 : gH) (n1 : Nat) => v = some (.int (if ¬ a1 = 2 then dm else 0)) ∧ G1 = G ∧ n1 = n) gNox := by
  refine g_start (by decide) (Nat.le_of_ble_eq_true rfl) ?_
  intro p e s m below meth c ls C hnm hxt hI hl
  have hx := C.x
  have hb := C.b
  have hS : va_S (gA D) s.heap s.heap [] := va_S.rf
  have hz0 := hI.z
  have lc0_ := hI.lt c0_
  have hF : gF G G n gNone := gF.rf _ _ _
  have hl : lv_has ls 2 [(0, .ref da), (1, .int a1)] := hl
  refine lv_iload_n hx hb dX13_middleKept_0 rfl (lv_at hl 1 rfl) ?_
  refine lv_iconst (v := 2) hx hb dX13_middleKept_1 (by decide) ?_
  refine lv_icmp_ne (tgt := 9) hx hb dX13_middleKept_2 (by decide) (fun c_4940 => ?_) (fun c_4940 => ?_)
  · skip
    refine lv_aload_n hx hb dX13_middleKept_9 rfl (lv_at hl 0 rfl) ?_
    refine g_get C hI c0_ kc9 1 rfl q1598 (fun _ h9 => h9) dX13_middleKept_10 ?_
    exact g_iret C hI hS (by omega) ⟨(by simp [c_4940]), rfl, rfl⟩ dX13_middleKept_13
  · skip
    refine lv_iconst (v := 0) hx hb dX13_middleKept_5 (by decide) ?_
    refine lv_goto (tgt := 13) hx hb dX13_middleKept_6 (by decide) ?_
    exact g_iret C hI hS (by omega) ⟨(by simp [eq_true c_4940]), rfl, rfl⟩ dX13_middleKept_13
set_option maxHeartbeats 4000000 in
set_option maxRecDepth 100000 in
theorem c_X13_kept (l : Launch) {D : gD} (hB : gBs D) (G : gH) (n : Nat) (da : Nat) (ds : Int32) (dm : Int32) (dl : Int32) (a1 : Int32) (c0_ : G da = some (.inl (9, [.int ds, .int dm, .int dl]))) : gMet l D yX13_kept (ws_ yX13_kept cX13_kept 2 (some FieldType.int)) 2 0 G n [.ref da, .int a1] (fun (v : Option Value) (G1 : gH) (n1 : Nat) => v = some (.int ((if ¬ a1 = 2 then dm else 0) + dl)) ∧ G1 = G ∧ n1 = n) gNox := by
  refine g_start (by decide) (Nat.le_of_ble_eq_true rfl) ?_
  intro p e s m below meth c ls C hnm hxt hI hl
  have hx := C.x
  have hb := C.b
  have hS : va_S (gA D) s.heap s.heap [] := va_S.rf
  have hz0 := hI.z
  have lc0_ := hI.lt c0_
  have hF : gF G G n gNone := gF.rf _ _ _
  have hl : lv_has ls 2 [(0, .ref da), (1, .int a1)] := hl
  refine lv_aload_n hx hb dX13_kept_0 rfl (lv_at hl 0 rfl) ?_
  refine lv_iload_n hx hb dX13_kept_1 rfl (lv_at hl 1 rfl) ?_
  refine g_V (As := [.int a1]) (rest := []) (lv := [(0, .ref da), (1, .int a1)]) C hI hS (c_X13_middleKept l hB G n da ds dm dl a1 c0_ ) c0_ rfl rfl q1611 q1612 q1613 q122 q1614 (⟨by decide, by decide, by decide⟩ : gArg _ 1) rfl ⟨by decide, by decide⟩ (by omega) hl rfl (Nat.le_of_ble_eq_true rfl) dX13_kept_2 (fun v4941 G4942 n4943 H locs hp4944 hI hS => ?_) gKx.no
  obtain ⟨rfl, eG4942, en4943⟩ := hp4944
  refine W.widen (k := 0) (n := 200 * (0)) (by omega) (by omega) ?_
  rw [eG4942, en4943] at hI
  refine lv_aload_n hx hb dX13_kept_5 rfl (lv_at hl 0 rfl) ?_
  refine g_get C hI c0_ kc9 2 rfl q1599 (fun _ h9 => h9) dX13_kept_6 ?_
  refine lv_iadd hx hb dX13_kept_9 ?_
  exact g_iret C hI hS (by omega) ⟨rfl, rfl, rfl⟩ dX13_kept_10
set_option maxHeartbeats 4000000 in
set_option maxRecDepth 100000 in
theorem c_X1_isIn (l : Launch) {D : gD} (hB : gBs D) (G : gH) (n : Nat) (v0 : Int32) (v1 : Int32) (v2 : Int32) : gMet l D yX1_isIn (ws_ yX1_isIn cX1_isIn 3 (some FieldType.boolean)) 1 0 G n [.int v0, .int v1, .int v2] (fun (v : Option Value) (G1 : gH) (n1 : Nat) => v = some (.int (gin v0 v1 v2)) ∧ G1 = G ∧ n1 = n) gNox := by
  refine g_start (by decide) (Nat.le_of_ble_eq_true rfl) ?_
  intro p e s m below meth c ls C hnm hxt hI hl
  have hx := C.x
  have hb := C.b
  have hS : va_S (gA D) s.heap s.heap [] := va_S.rf
  have hz0 := hI.z
  have hF : gF G G n gNone := gF.rf _ _ _
  have hl : lv_has ls 3 [(0, .int v0), (1, .int v1), (2, .int v2)] := hl
  refine lv_iload_n hx hb dX1_isIn_0 rfl (lv_at hl 0 rfl) ?_
  refine lv_iload_n hx hb dX1_isIn_1 rfl (lv_at hl 1 rfl) ?_
  refine lv_icmp_lt (tgt := 14) hx hb dX1_isIn_2 (by decide) (fun c_4947 => ?_) (fun c_4947 => ?_)
  · skip
    refine lv_iconst (v := 0) hx hb dX1_isIn_14 (by decide) ?_
    exact g_zret C hI hS (by omega) rfl ⟨(by rw [gin_f1 c_4947]), rfl, rfl⟩ dX1_isIn_15
  · skip
    refine lv_iload_n hx hb dX1_isIn_5 rfl (lv_at hl 0 rfl) ?_
    refine lv_iload_n hx hb dX1_isIn_6 rfl (lv_at hl 2 rfl) ?_
    refine lv_icmp_gt (tgt := 14) hx hb dX1_isIn_7 (by decide) (fun c_4948 => ?_) (fun c_4948 => ?_)
    · skip
      refine lv_iconst (v := 0) hx hb dX1_isIn_14 (by decide) ?_
      exact g_zret C hI hS (by omega) rfl ⟨(by rw [gin_f2 c_4948]), rfl, rfl⟩ dX1_isIn_15
    · skip
      refine lv_iconst (v := 1) hx hb dX1_isIn_10 (by decide) ?_
      refine lv_goto (tgt := 15) hx hb dX1_isIn_11 (by decide) ?_
      exact g_zret C hI hS (by omega) rfl ⟨(by rw [gin_t c_4947 c_4948]), rfl, rfl⟩ dX1_isIn_15
set_option maxHeartbeats 4000000 in
set_option maxRecDepth 100000 in
theorem c_X1_held (l : Launch) {D : gD} (hB : gBs D) (G : gH) (n : Nat) (v0 : Int32) : gMet l D yX1_held (ws_ yX1_held cX1_held 1 (some FieldType.int)) 1 0 G n [.int v0] (fun (v : Option Value) (G1 : gH) (n1 : Nat) => v = some (.int (sMin 999 v0)) ∧ G1 = G ∧ n1 = n) gNox := by
  refine g_start (by decide) (Nat.le_of_ble_eq_true rfl) ?_
  intro p e s m below meth c ls C hnm hxt hI hl
  have hx := C.x
  have hb := C.b
  have hS : va_S (gA D) s.heap s.heap [] := va_S.rf
  have hz0 := hI.z
  have hF : gF G G n gNone := gF.rf _ _ _
  have hl : lv_has ls 1 [(0, .int v0)] := hl
  refine lv_sipush (v := 999) hx hb dX1_held_0 (by decide) ?_
  refine lv_iload_n hx hb dX1_held_3 rfl (lv_at hl 0 rfl) ?_
  refine g_min C hl q1687 (by decide) (by omega) (Nat.le_of_ble_eq_true rfl) dX1_held_4 ?_
  exact g_iret C hI hS (by omega) ⟨rfl, rfl, rfl⟩ dX1_held_7
set_option maxHeartbeats 4000000 in
set_option maxRecDepth 100000 in
theorem c_X3_init (l : Launch) {D : gD} (hB : gBs D) (G : gH) (n : Nat) (gr : Nat) (c0_ : G gr = some (.inl (2, [.null]))) (hz : gz D ≤ gr) : gMet l D yX3_init (ws_ yX3_init cX3_init 1 none) 2 1 G n [.ref gr] (fun (v : Option Value) (G1 : gH) (n1 : Nat) => v = none ∧ n ≤ n1 ∧ gF G G1 n (fun q : Nat => q = gr) ∧ G1 gr = some (.inl (2, [.ref n])) ∧ G1 n = some (aI 3 cG0)) gNox := by
  refine g_start (by decide) (Nat.le_of_ble_eq_true rfl) ?_
  intro p e s m below meth c ls C hnm hxt hI hl
  have hx := C.x
  have hb := C.b
  have hS : va_S (gA D) s.heap s.heap [] := va_S.rf
  have hz0 := hI.z
  have lc0_ := hI.lt c0_
  have hF : gF G G n (fun q : Nat => q = gr) := gF.rf _ _ _
  have hl : lv_has ls 1 [(0, .ref gr)] := hl
  refine lv_aload_n hx hb dX3_init_0 rfl (lv_at hl 0 rfl) ?_
  refine W.objInit hx hb C.ow (C.ts _ q219) (C.ts _ q135) (C.ts _ q136) rfl (by rw [C.ml]; exact hl.1) rfl dX3_init_1 (show 1 ≤ 2 by decide) (show _ ≤ 60 * 2 by simp [Value.category]) ?_
  refine W.eq (g2 := F0 m 4 ls []) rfl ?_
  refine lv_aload_n hx hb dX3_init_4 rfl (lv_at hl 0 rfl) ?_
  refine lv_iconst (v := 3) hx hb dX3_init_5 (by decide) ?_
  refine g_newa (atype := .int) (t := 0) (N := 3) (u := 1) (dv := .int 0) C hI hS (by decide) rfl q213 (by rw [show (3 : Int32) = nI 3 from nl3]; exact nI_pos (by omega)) (by rw [show (3 : Int32) = nI 3 from nl3]; exact nI_clamp (by omega)) (by omega) (by decide) (by omega) (by omega) rfl dX3_init_6 (fun G4949 H e4950 hI hS => ?_)
  have c0_ := gE_k e4950 c0_ (by omega)
  have c4951 : G4949 n = some (aI 3 (fun _ => 0)) := gE_s e4950
  have hF := gE_F e4950 hF (Or.inl (by omega))
  refine g_putF (fs2 := [.ref n]) C hnm hI hS c0_ (by omega) kc2 0 (Nat.le_of_ble_eq_true rfl) q220 (fun _ h9 => h9) rfl rfl rfl rfl rfl dX3_init_8 (fun G4952 H locs e4953 hI hS => ?_)
  have c4951 := gE_k e4953 c4951 (g_on c4951 c0_)
  have c0_ : G4952 gr = some (.inl (2, [.ref n])) := gE_s e4953
  have hF := gE_F e4953 hF (Or.inr rfl)
  refine lv_aload_n hx hb dX3_init_11 rfl (lv_at hl 0 rfl) ?_
  refine g_get C hI c0_ kc2 0 rfl q220 (fun _ h9 => h9) dX3_init_12 ?_
  refine lv_iconst (v := 0) hx hb dX3_init_15 (by decide) ?_
  refine lv_sipush (v := 200) hx hb dX3_init_16 (by decide) ?_
  refine g_iast C hI hS c4951 (by omega) (gix nl0 (by omega) (by omega)) dX3_init_19 (fun G4954 H locs e4955 hI hS => ?_)
  rw [gup_e nl0 (by omega)] at e4955
  have c0_ := gE_k e4955 c0_ (g_no c0_ c4951)
  have c4951 : G4954 n = some (aI 3 (gup (fun _ => 0) 0 200)) := gE_s e4955
  have hF := gE_F e4955 hF (Or.inl (by omega))
  refine lv_aload_n hx hb dX3_init_20 rfl (lv_at hl 0 rfl) ?_
  refine g_get C hI c0_ kc2 0 rfl q220 (fun _ h9 => h9) dX3_init_21 ?_
  refine lv_iconst (v := 1) hx hb dX3_init_24 (by decide) ?_
  refine lv_sipush (v := 150) hx hb dX3_init_25 (by decide) ?_
  refine g_iast C hI hS c4951 (by omega) (gix nl1 (by omega) (by omega)) dX3_init_28 (fun G4957 H locs e4958 hI hS => ?_)
  rw [gup_e nl1 (by omega)] at e4958
  have c0_ := gE_k e4958 c0_ (g_no c0_ c4951)
  have c4951 : G4957 n = some (aI 3 (gup (gup (fun _ => 0) 0 200) 1 150)) := gE_s e4958
  have hF := gE_F e4958 hF (Or.inl (by omega))
  refine lv_aload_n hx hb dX3_init_29 rfl (lv_at hl 0 rfl) ?_
  refine g_get C hI c0_ kc2 0 rfl q220 (fun _ h9 => h9) dX3_init_30 ?_
  refine lv_iconst (v := 2) hx hb dX3_init_33 (by decide) ?_
  refine lv_bipush (v := 60) hx hb dX3_init_34 (by decide) ?_
  refine g_iast C hI hS c4951 (by omega) (gix nl2 (by omega) (by omega)) dX3_init_36 (fun G4960 H locs e4961 hI hS => ?_)
  rw [gup_e nl2 (by omega)] at e4961
  have c0_ := gE_k e4961 c0_ (g_no c0_ c4951)
  have c4951 : G4960 n = some (aI 3 (gup (gup (gup (fun _ => 0) 0 200) 1 150) 2 60)) := gE_s e4961
  have hF := gE_F e4961 hF (Or.inl (by omega))
  exact g_vret C hI hS (by omega) ⟨rfl, (by omega), hF, c0_, c4951⟩ dX3_init_37
set_option maxHeartbeats 4000000 in
set_option maxRecDepth 100000 in
theorem c_X3_copy (l : Launch) {D : gD} (hB : gBs D) (G : gH) (n : Nat) (gr : Nat) (gw : Nat) (x : Nat → Int32) (c0_ : G gr = some (.inl (2, [.ref gw]))) (c1_ : G gw = some (aI 3 x)) : gMet l D yX3_copy (ws_ yX3_copy cX3_copy 2 (some (FieldType.object "WhelkFleet$Ground"))) 6 2 G n [.ref gr] (fun (v : Option Value) (G1 : gH) (n1 : Nat) => v = some (.ref n) ∧ n ≤ n1 ∧ gF G G1 n gNone ∧ G1 n = some (.inl (2, [.ref (n + 1)])) ∧ G1 (n + 1) = some (aI 3 (va_cpy x cG0 0 0 3))) gNox := by
  refine g_start (by decide) (Nat.le_of_ble_eq_true rfl) ?_
  intro p e s m below meth c ls C hnm hxt hI hl
  have hx := C.x
  have hb := C.b
  have hS : va_S (gA D) s.heap s.heap [] := va_S.rf
  have hz0 := hI.z
  have lc0_ := hI.lt c0_
  have lc1_ := hI.lt c1_
  have hF : gF G G n gNone := gF.rf _ _ _
  have hl : lv_has ls 2 [(0, .ref gr)] := hl
  refine g_new (fs := [.null]) C hI hS kc2 rfl q1125 q215 q82 (by decide) (by omega) dX3_copy_0 (fun G4963 H e4964 hI hS => ?_)
  have c0_ := gE_k e4964 c0_ (by omega)
  have c1_ := gE_k e4964 c1_ (by omega)
  have c4965 : G4963 n = some (.inl (2, [.null])) := gE_s e4964
  have hF := gE_F e4964 hF (Or.inl (by omega))
  refine lv_dup hx hb dX3_copy_3 rfl ?_
  refine g_I (As := []) (rest := [.ref n]) (lv := [(0, .ref gr)]) C hI hS (c_X3_init l hB G4963 (n + 1) n c4965 (by omega)) rfl q1126 q217 q82 q218 (⟨by decide, by decide, by decide⟩ : gArg _ 0) rfl ⟨by decide, by decide⟩ (by omega) hl rfl (Nat.le_of_ble_eq_true rfl) dX3_copy_4 (fun v4966 G4967 n4968 H locs hp4969 hI hS => ?_) gKx.no
  obtain ⟨rfl, hn4970, hF4971, c4972, c4973⟩ := hp4969
  refine W.widen (k := 2) (n := 200 * (2)) (by omega) (by omega) ?_
  have c0_ := hF4971.at c0_ (by omega) (by omega)
  have c1_ := hF4971.at c1_ (by omega) (g_on c1_ c4965)
  have hF := hF.trans hF4971 (by omega) (fun q hq => (fun h => by exfalso; omega))
  refine lv_astore_n (lv' := [(1, .ref n), (0, .ref gr)]) hx hb dX3_copy_7 rfl hl (by decide) rfl (fun ls hl => ?_)
  refine lv_aload_n hx hb dX3_copy_8 rfl (lv_at hl 1 rfl) ?_
  refine g_get C hI c0_ kc2 0 rfl q220 (fun _ h9 => h9) dX3_copy_9 ?_
  refine lv_iconst (v := 0) hx hb dX3_copy_12 (by decide) ?_
  refine lv_aload_n hx hb dX3_copy_13 rfl (lv_at hl 0 rfl) ?_
  refine g_get C hI c4972 kc2 0 rfl q220 (fun _ h9 => h9) dX3_copy_14 ?_
  refine lv_iconst (v := 0) hx hb dX3_copy_17 (by decide) ?_
  refine lv_iconst (v := 3) hx hb dX3_copy_18 (by decide) ?_
  refine g_copy (t := 0) C hl hI hS q1127 (f := x) (g := cG0) c1_ c4973 rfl (by omega) nl0 nl0 nl3 (by omega) (by omega) (by omega) (by omega) (fun _ _ => rfl) (by decide) (by decide) dX3_copy_19 (fun G4974 H locs e4975 hI hS => ?_)
  have c0_ := gE_k e4975 c0_ (g_no c0_ c4973)
  have c1_ := gE_k e4975 c1_ (by omega)
  have c4972 := gE_k e4975 c4972 (g_no c4972 c4973)
  have c4973 : G4974 (n + 1) = some (aI 3 (va_cpy x cG0 0 0 3)) := gE_s e4975
  have hF := gE_F e4975 hF (Or.inl (by omega))
  refine lv_aload_n hx hb dX3_copy_22 rfl (lv_at hl 0 rfl) ?_
  exact g_aret C hI hS (by omega) (by first | exact Or.inl ⟨_, rfl⟩ | exact Or.inr ⟨_, rfl⟩) (Or.inr ⟨_, rfl⟩) ⟨rfl, (by omega), hF, c4972, c4973⟩ dX3_copy_23
set_option maxHeartbeats 4000000 in
set_option maxRecDepth 100000 in
theorem c_X3_whelks (l : Launch) {D : gD} (hB : gBs D) (G : gH) (n : Nat) (gr : Nat) (gw : Nat) (x : Nat → Int32) (jx : Nat) (a1 : Int32) (c0_ : G gr = some (.inl (2, [.ref gw]))) (c1_ : G gw = some (aI 3 x)) (hj : jx < 3) (ej : a1 = nI jx) : gMet l D yX3_whelks (ws_ yX3_whelks cX3_whelks 2 (some FieldType.int)) 1 0 G n [.ref gr, .int a1] (fun (v : Option Value) (G1 : gH) (n1 : Nat) => v = some (.int (x jx)) ∧ G1 = G ∧ n1 = n) gNox := by
  refine g_start (by decide) (Nat.le_of_ble_eq_true rfl) ?_
  intro p e s m below meth c ls C hnm hxt hI hl
  have hx := C.x
  have hb := C.b
  have hS : va_S (gA D) s.heap s.heap [] := va_S.rf
  have hz0 := hI.z
  have lc0_ := hI.lt c0_
  have lc1_ := hI.lt c1_
  have hF : gF G G n gNone := gF.rf _ _ _
  have hl : lv_has ls 2 [(0, .ref gr), (1, .int a1)] := hl
  refine lv_aload_n hx hb dX3_whelks_0 rfl (lv_at hl 0 rfl) ?_
  refine g_get C hI c0_ kc2 0 rfl q220 (fun _ h9 => h9) dX3_whelks_1 ?_
  refine lv_iload_n hx hb dX3_whelks_4 rfl (lv_at hl 1 rfl) ?_
  refine g_iald (v := .int (x jx)) C hI c1_ (gix ej (by omega) (by omega)) (congrArg Value.int (gixv (f := x) ej (by omega))) dX3_whelks_5 ?_
  exact g_iret C hI hS (by omega) ⟨rfl, rfl, rfl⟩ dX3_whelks_6
set_option maxHeartbeats 4000000 in
set_option maxRecDepth 100000 in
theorem c_X3_becomes (l : Launch) {D : gD} (hB : gBs D) (G : gH) (n : Nat) (gr : Nat) (gw : Nat) (x : Nat → Int32) (jx : Nat) (a1 : Int32) (a2 : Int32) (c0_ : G gr = some (.inl (2, [.ref gw]))) (c1_ : G gw = some (aI 3 x)) (hzw : gz D ≤ gw) (hj : jx < 3) (ej : a1 = nI jx) : gMet l D yX3_becomes (ws_ yX3_becomes cX3_becomes 4 (some FieldType.int)) 1 0 G n [.ref gr, .int a1, .int a2] (fun (v : Option Value) (G1 : gH) (n1 : Nat) => v = some (.int (x jx)) ∧ n ≤ n1 ∧ gF G G1 n (fun q : Nat => q = gw) ∧ G1 gw = some (aI 3 (gup x jx a2))) gNox := by
  refine g_start (by decide) (Nat.le_of_ble_eq_true rfl) ?_
  intro p e s m below meth c ls C hnm hxt hI hl
  have hx := C.x
  have hb := C.b
  have hS : va_S (gA D) s.heap s.heap [] := va_S.rf
  have hz0 := hI.z
  have lc0_ := hI.lt c0_
  have lc1_ := hI.lt c1_
  have hF : gF G G n (fun q : Nat => q = gw) := gF.rf _ _ _
  have hl : lv_has ls 4 [(0, .ref gr), (1, .int a1), (2, .int a2)] := hl
  refine lv_aload_n hx hb dX3_becomes_0 rfl (lv_at hl 0 rfl) ?_
  refine g_get C hI c0_ kc2 0 rfl q220 (fun _ h9 => h9) dX3_becomes_1 ?_
  refine lv_iload_n hx hb dX3_becomes_4 rfl (lv_at hl 1 rfl) ?_
  refine g_iald (v := .int (x jx)) C hI c1_ (gix ej (by omega) (by omega)) (congrArg Value.int (gixv (f := x) ej (by omega))) dX3_becomes_5 ?_
  refine lv_istore_n (lv' := [(3, .int (x jx)), (0, .ref gr), (1, .int a1), (2, .int a2)]) hx hb dX3_becomes_6 rfl hl (by decide) rfl (fun ls hl => ?_)
  refine lv_aload_n hx hb dX3_becomes_7 rfl (lv_at hl 1 rfl) ?_
  refine g_get C hI c0_ kc2 0 rfl q220 (fun _ h9 => h9) dX3_becomes_8 ?_
  refine lv_iload_n hx hb dX3_becomes_11 rfl (lv_at hl 2 rfl) ?_
  refine lv_iload_n hx hb dX3_becomes_12 rfl (lv_at hl 3 rfl) ?_
  refine g_iast C hI hS c1_ (by omega) (gix ej (by omega) (by omega)) dX3_becomes_13 (fun G4976 H locs e4977 hI hS => ?_)
  rw [gup_e ej (by omega)] at e4977
  have c0_ := gE_k e4977 c0_ (g_no c0_ c1_)
  have c1_ : G4976 gw = some (aI 3 (gup x jx a2)) := gE_s e4977
  have hF := gE_F e4977 hF (Or.inr rfl)
  refine lv_iload_n hx hb dX3_becomes_14 rfl (lv_at hl 0 rfl) ?_
  exact g_iret C hI hS (by omega) ⟨rfl, (by omega), hF, c1_⟩ dX3_becomes_15
set_option maxHeartbeats 4000000 in
set_option maxRecDepth 100000 in
theorem c_X3_all (l : Launch) {D : gD} (hB : gBs D) (G : gH) (n : Nat) (gr : Nat) (gw : Nat) (x : Nat → Int32) (c0_ : G gr = some (.inl (2, [.ref gw]))) (c1_ : G gw = some (aI 3 x)) : gMet l D yX3_all (ws_ yX3_all cX3_all 1 (some FieldType.int)) 1 0 G n [.ref gr] (fun (v : Option Value) (G1 : gH) (n1 : Nat) => v = some (.int (x 0 + x 1 + x 2)) ∧ G1 = G ∧ n1 = n) gNox := by
  refine g_start (by decide) (Nat.le_of_ble_eq_true rfl) ?_
  intro p e s m below meth c ls C hnm hxt hI hl
  have hx := C.x
  have hb := C.b
  have hS : va_S (gA D) s.heap s.heap [] := va_S.rf
  have hz0 := hI.z
  have lc0_ := hI.lt c0_
  have lc1_ := hI.lt c1_
  have hF : gF G G n gNone := gF.rf _ _ _
  have hl : lv_has ls 1 [(0, .ref gr)] := hl
  refine lv_aload_n hx hb dX3_all_0 rfl (lv_at hl 0 rfl) ?_
  refine g_get C hI c0_ kc2 0 rfl q220 (fun _ h9 => h9) dX3_all_1 ?_
  refine lv_iconst (v := 0) hx hb dX3_all_4 (by decide) ?_
  refine g_iald (v := .int (x 0)) C hI c1_ (gix nl0 (by omega) (by omega)) (congrArg Value.int (gixv (f := x) nl0 (by omega))) dX3_all_5 ?_
  refine lv_aload_n hx hb dX3_all_6 rfl (lv_at hl 0 rfl) ?_
  refine g_get C hI c0_ kc2 0 rfl q220 (fun _ h9 => h9) dX3_all_7 ?_
  refine lv_iconst (v := 1) hx hb dX3_all_10 (by decide) ?_
  refine g_iald (v := .int (x 1)) C hI c1_ (gix nl1 (by omega) (by omega)) (congrArg Value.int (gixv (f := x) nl1 (by omega))) dX3_all_11 ?_
  refine lv_iadd hx hb dX3_all_12 ?_
  refine lv_aload_n hx hb dX3_all_13 rfl (lv_at hl 0 rfl) ?_
  refine g_get C hI c0_ kc2 0 rfl q220 (fun _ h9 => h9) dX3_all_14 ?_
  refine lv_iconst (v := 2) hx hb dX3_all_17 (by decide) ?_
  refine g_iald (v := .int (x 2)) C hI c1_ (gix nl2 (by omega) (by omega)) (congrArg Value.int (gixv (f := x) nl2 (by omega))) dX3_all_18 ?_
  refine lv_iadd hx hb dX3_all_19 ?_
  exact g_iret C hI hS (by omega) ⟨rfl, rfl, rfl⟩ dX3_all_20
set_option maxHeartbeats 4000000 in
set_option maxRecDepth 100000 in
theorem c_X3_draughtOf (l : Launch) {D : gD} (hB : gBs D) (G : gH) (n : Nat) (gr : Nat) (gw : Nat) (x : Nat → Int32) (a1 : Int32) (c0_ : G gr = some (.inl (2, [.ref gw]))) (c1_ : G gw = some (aI 3 x)) : gMet l D yX3_draughtOf (ws_ yX3_draughtOf cX3_draughtOf 2 (some (FieldType.object "WhelkFleet$Draught"))) 3 1 G n [.ref gr, .int a1] (fun (v : Option Value) (G1 : gH) (n1 : Nat) => v = some (.ref n) ∧ n ≤ n1 ∧ gF G G1 n gNone ∧ G1 n = some (.inl (9, [.int (sMin (x 0) (a1 / 2)), .int (sMin (x 1) (a1 / 3)), .int (sMin (x 2) (a1 / 6))]))) gNox := by
  refine g_start (by decide) (Nat.le_of_ble_eq_true rfl) ?_
  intro p e s m below meth c ls C hnm hxt hI hl
  have hx := C.x
  have hb := C.b
  have hS : va_S (gA D) s.heap s.heap [] := va_S.rf
  have hz0 := hI.z
  have lc0_ := hI.lt c0_
  have lc1_ := hI.lt c1_
  have hF : gF G G n gNone := gF.rf _ _ _
  have hl : lv_has ls 2 [(0, .ref gr), (1, .int a1)] := hl
  refine g_new (fs := [.int 0, .int 0, .int 0]) C hI hS kc9 rfl q1590 q1591 q122 (by decide) (by omega) dX3_draughtOf_0 (fun G4979 H e4980 hI hS => ?_)
  have c0_ := gE_k e4980 c0_ (by omega)
  have c1_ := gE_k e4980 c1_ (by omega)
  have c4981 : G4979 n = some (.inl (9, [.int 0, .int 0, .int 0])) := gE_s e4980
  have hF := gE_F e4980 hF (Or.inl (by omega))
  refine lv_dup hx hb dX3_draughtOf_3 rfl ?_
  refine lv_aload_n hx hb dX3_draughtOf_4 rfl (lv_at hl 0 rfl) ?_
  refine g_get C hI c0_ kc2 0 rfl q220 (fun _ h9 => h9) dX3_draughtOf_5 ?_
  refine lv_iconst (v := 0) hx hb dX3_draughtOf_8 (by decide) ?_
  refine g_iald (v := .int (x 0)) C hI c1_ (gix nl0 (by omega) (by omega)) (congrArg Value.int (gixv (f := x) nl0 (by omega))) dX3_draughtOf_9 ?_
  refine lv_iload_n hx hb dX3_draughtOf_10 rfl (lv_at hl 1 rfl) ?_
  refine lv_iconst (v := 2) hx hb dX3_draughtOf_11 (by decide) ?_
  refine lv_idiv hx hb dX3_draughtOf_12 (by decide) ?_
  refine g_min C hl q1592 (by decide) (by omega) (Nat.le_of_ble_eq_true rfl) dX3_draughtOf_13 ?_
  refine lv_aload_n hx hb dX3_draughtOf_16 rfl (lv_at hl 0 rfl) ?_
  refine g_get C hI c0_ kc2 0 rfl q220 (fun _ h9 => h9) dX3_draughtOf_17 ?_
  refine lv_iconst (v := 1) hx hb dX3_draughtOf_20 (by decide) ?_
  refine g_iald (v := .int (x 1)) C hI c1_ (gix nl1 (by omega) (by omega)) (congrArg Value.int (gixv (f := x) nl1 (by omega))) dX3_draughtOf_21 ?_
  refine lv_iload_n hx hb dX3_draughtOf_22 rfl (lv_at hl 1 rfl) ?_
  refine lv_iconst (v := 3) hx hb dX3_draughtOf_23 (by decide) ?_
  refine lv_idiv hx hb dX3_draughtOf_24 (by decide) ?_
  refine g_min C hl q1592 (by decide) (by omega) (Nat.le_of_ble_eq_true rfl) dX3_draughtOf_25 ?_
  refine lv_aload_n hx hb dX3_draughtOf_28 rfl (lv_at hl 0 rfl) ?_
  refine g_get C hI c0_ kc2 0 rfl q220 (fun _ h9 => h9) dX3_draughtOf_29 ?_
  refine lv_iconst (v := 2) hx hb dX3_draughtOf_32 (by decide) ?_
  refine g_iald (v := .int (x 2)) C hI c1_ (gix nl2 (by omega) (by omega)) (congrArg Value.int (gixv (f := x) nl2 (by omega))) dX3_draughtOf_33 ?_
  refine lv_iload_n hx hb dX3_draughtOf_34 rfl (lv_at hl 1 rfl) ?_
  refine lv_bipush (v := 6) hx hb dX3_draughtOf_35 (by decide) ?_
  refine lv_idiv hx hb dX3_draughtOf_37 (by decide) ?_
  refine g_min C hl q1592 (by decide) (by omega) (Nat.le_of_ble_eq_true rfl) dX3_draughtOf_38 ?_
  refine g_I (As := [.int (sMin (x 0) (a1 / 2)), .int (sMin (x 1) (a1 / 3)), .int (sMin (x 2) (a1 / 6))]) (rest := [.ref n]) (lv := [(0, .ref gr), (1, .int a1)]) C hI hS (c_X13_init l hB G4979 (n + 1) n (sMin (x 0) (a1 / 2)) (sMin (x 1) (a1 / 3)) (sMin (x 2) (a1 / 6)) c4981 (by omega)) rfl q1593 q1594 q122 q1595 (⟨by decide, by decide, by decide⟩ : gArg _ 3) rfl ⟨by decide, by decide⟩ (by omega) hl rfl (Nat.le_of_ble_eq_true rfl) dX3_draughtOf_41 (fun v4982 G4983 n4984 H locs hp4985 hI hS => ?_) gKx.no
  obtain ⟨rfl, hn4986, hF4987, c4988⟩ := hp4985
  refine W.widen (k := 1) (n := 200 * (1)) (by omega) (by omega) ?_
  have c0_ := hF4987.at c0_ (by omega) (g_nc c0_ c4981 (by decide))
  have c1_ := hF4987.at c1_ (by omega) (g_on c1_ c4981)
  have hF := hF.trans hF4987 (by omega) (fun q hq => (fun h => by exfalso; omega))
  exact g_aret C hI hS (by omega) (by first | exact Or.inl ⟨_, rfl⟩ | exact Or.inr ⟨_, rfl⟩) (Or.inr ⟨_, rfl⟩) ⟨rfl, (by omega), hF, c4988⟩ dX3_draughtOf_44
set_option maxHeartbeats 4000000 in
set_option maxRecDepth 100000 in
theorem c_X3_loses (l : Launch) {D : gD} (hB : gBs D) (G : gH) (n : Nat) (gr : Nat) (gw : Nat) (x : Nat → Int32) (a1 : Int32) (a2 : Int32) (c0_ : G gr = some (.inl (2, [.ref gw]))) (c1_ : G gw = some (aI 3 x)) (hzw : gz D ≤ gw) : gMet l D yX3_loses (ws_ yX3_loses cX3_loses 3 none) 1 0 G n [.ref gr, .int a1, .int a2] (fun (v : Option Value) (G1 : gH) (n1 : Nat) => v = none ∧ n ≤ n1 ∧ gF G G1 n (fun q : Nat => q = gw) ∧ G1 gw = some (aI 3 (cLose x a1 a2))) gNox := by
  refine g_start (by decide) (Nat.le_of_ble_eq_true rfl) ?_
  intro p e s m below meth c ls C hnm hxt hI hl
  have hx := C.x
  have hb := C.b
  have hS : va_S (gA D) s.heap s.heap [] := va_S.rf
  have hz0 := hI.z
  have lc0_ := hI.lt c0_
  have lc1_ := hI.lt c1_
  have hF : gF G G n (fun q : Nat => q = gw) := gF.rf _ _ _
  have hl : lv_has ls 3 [(0, .ref gr), (1, .int a1), (2, .int a2)] := hl
  refine lv_aload_n hx hb dX3_loses_0 rfl (lv_at hl 0 rfl) ?_
  refine g_get C hI c0_ kc2 0 rfl q220 (fun _ h9 => h9) dX3_loses_1 ?_
  refine lv_iconst (v := 1) hx hb dX3_loses_4 (by decide) ?_
  refine lv_dup2_11 hx hb dX3_loses_5 rfl rfl ?_
  refine g_iald (v := .int (x 1)) C hI c1_ (gix nl1 (by omega) (by omega)) (congrArg Value.int (gixv (f := x) nl1 (by omega))) dX3_loses_6 ?_
  refine lv_iload_n hx hb dX3_loses_7 rfl (lv_at hl 1 rfl) ?_
  refine lv_isub hx hb dX3_loses_8 ?_
  refine g_iast C hI hS c1_ (by omega) (gix nl1 (by omega) (by omega)) dX3_loses_9 (fun G4989 H locs e4990 hI hS => ?_)
  rw [gup_e nl1 (by omega)] at e4990
  have c0_ := gE_k e4990 c0_ (g_no c0_ c1_)
  have c1_ : G4989 gw = some (aI 3 (gup x 1 ((x 1) - a1))) := gE_s e4990
  have hF := gE_F e4990 hF (Or.inr rfl)
  refine lv_aload_n hx hb dX3_loses_10 rfl (lv_at hl 0 rfl) ?_
  refine g_get C hI c0_ kc2 0 rfl q220 (fun _ h9 => h9) dX3_loses_11 ?_
  refine lv_iconst (v := 2) hx hb dX3_loses_14 (by decide) ?_
  refine lv_dup2_11 hx hb dX3_loses_15 rfl rfl ?_
  refine g_iald (v := .int ((gup x 1 ((x 1) - a1)) 2)) C hI c1_ (gix nl2 (by omega) (by omega)) (congrArg Value.int (gixv (f := gup x 1 ((x 1) - a1)) nl2 (by omega))) dX3_loses_16 ?_
  refine lv_iload_n hx hb dX3_loses_17 rfl (lv_at hl 2 rfl) ?_
  refine lv_isub hx hb dX3_loses_18 ?_
  refine g_iast C hI hS c1_ (by omega) (gix nl2 (by omega) (by omega)) dX3_loses_19 (fun G4992 H locs e4993 hI hS => ?_)
  rw [gup_e nl2 (by omega)] at e4993
  have c0_ := gE_k e4993 c0_ (g_no c0_ c1_)
  have c1_ : G4992 gw = some (aI 3 (gup (gup x 1 ((x 1) - a1)) 2 (((gup x 1 ((x 1) - a1)) 2) - a2))) := gE_s e4993
  have hF := gE_F e4993 hF (Or.inr rfl)
  exact g_vret C hI hS (by omega) ⟨rfl, (by omega), hF, c1_⟩ dX3_loses_20
set_option maxHeartbeats 4000000 in
set_option maxRecDepth 100000 in
theorem c_X3_grows (l : Launch) {D : gD} (hB : gBs D) (G : gH) (n : Nat) (gr : Nat) (gw : Nat) (x : Nat → Int32) (c0_ : G gr = some (.inl (2, [.ref gw]))) (c1_ : G gw = some (aI 3 x)) (hzw : gz D ≤ gw) : gMet l D yX3_grows (ws_ yX3_grows cX3_grows 4 none) 2 0 G n [.ref gr] (fun (v : Option Value) (G1 : gH) (n1 : Nat) => v = none ∧ n ≤ n1 ∧ gF G G1 n (fun q : Nat => q = gw) ∧ G1 gw = some (aI 3 (cGrow x))) gNox := by
  refine g_start (by decide) (Nat.le_of_ble_eq_true rfl) ?_
  intro p e s m below meth c ls C hnm hxt hI hl
  have hx := C.x
  have hb := C.b
  have hS : va_S (gA D) s.heap s.heap [] := va_S.rf
  have hz0 := hI.z
  have lc0_ := hI.lt c0_
  have lc1_ := hI.lt c1_
  have hF : gF G G n (fun q : Nat => q = gw) := gF.rf _ _ _
  have hl : lv_has ls 4 [(0, .ref gr)] := hl
  refine lv_aload_n hx hb dX3_grows_0 rfl (lv_at hl 0 rfl) ?_
  refine g_get C hI c0_ kc2 0 rfl q220 (fun _ h9 => h9) dX3_grows_1 ?_
  refine lv_iconst (v := 0) hx hb dX3_grows_4 (by decide) ?_
  refine g_iald (v := .int (x 0)) C hI c1_ (gix nl0 (by omega) (by omega)) (congrArg Value.int (gixv (f := x) nl0 (by omega))) dX3_grows_5 ?_
  refine lv_bipush (v := 20) hx hb dX3_grows_6 (by decide) ?_
  refine lv_idiv hx hb dX3_grows_8 (by decide) ?_
  refine lv_istore_n (lv' := [(1, .int ((x 0) / 20)), (0, .ref gr)]) hx hb dX3_grows_9 rfl hl (by decide) rfl (fun ls hl => ?_)
  refine lv_aload_n hx hb dX3_grows_10 rfl (lv_at hl 1 rfl) ?_
  refine g_get C hI c0_ kc2 0 rfl q220 (fun _ h9 => h9) dX3_grows_11 ?_
  refine lv_iconst (v := 1) hx hb dX3_grows_14 (by decide) ?_
  refine g_iald (v := .int (x 1)) C hI c1_ (gix nl1 (by omega) (by omega)) (congrArg Value.int (gixv (f := x) nl1 (by omega))) dX3_grows_15 ?_
  refine lv_bipush (v := 20) hx hb dX3_grows_16 (by decide) ?_
  refine lv_idiv hx hb dX3_grows_18 (by decide) ?_
  refine lv_istore_n (lv' := [(2, .int ((x 1) / 20)), (1, .int ((x 0) / 20)), (0, .ref gr)]) hx hb dX3_grows_19 rfl hl (by decide) rfl (fun ls hl => ?_)
  refine lv_aload_n hx hb dX3_grows_20 rfl (lv_at hl 2 rfl) ?_
  refine g_get C hI c0_ kc2 0 rfl q220 (fun _ h9 => h9) dX3_grows_21 ?_
  refine lv_iconst (v := 1) hx hb dX3_grows_24 (by decide) ?_
  refine g_iald (v := .int (x 1)) C hI c1_ (gix nl1 (by omega) (by omega)) (congrArg Value.int (gixv (f := x) nl1 (by omega))) dX3_grows_25 ?_
  refine lv_aload_n hx hb dX3_grows_26 rfl (lv_at hl 2 rfl) ?_
  refine g_get C hI c0_ kc2 0 rfl q220 (fun _ h9 => h9) dX3_grows_27 ?_
  refine lv_iconst (v := 2) hx hb dX3_grows_30 (by decide) ?_
  refine g_iald (v := .int (x 2)) C hI c1_ (gix nl2 (by omega) (by omega)) (congrArg Value.int (gixv (f := x) nl2 (by omega))) dX3_grows_31 ?_
  refine lv_iadd hx hb dX3_grows_32 ?_
  refine lv_bipush (v := 25) hx hb dX3_grows_33 (by decide) ?_
  refine lv_idiv hx hb dX3_grows_35 (by decide) ?_
  refine lv_istore_n (lv' := [(3, .int (((x 1) + (x 2)) / 25)), (2, .int ((x 1) / 20)), (1, .int ((x 0) / 20)), (0, .ref gr)]) hx hb dX3_grows_36 rfl hl (by decide) rfl (fun ls hl => ?_)
  refine lv_aload_n hx hb dX3_grows_37 rfl (lv_at hl 3 rfl) ?_
  refine g_get C hI c0_ kc2 0 rfl q220 (fun _ h9 => h9) dX3_grows_38 ?_
  refine lv_iconst (v := 0) hx hb dX3_grows_41 (by decide) ?_
  refine lv_aload_n hx hb dX3_grows_42 rfl (lv_at hl 3 rfl) ?_
  refine g_get C hI c0_ kc2 0 rfl q220 (fun _ h9 => h9) dX3_grows_43 ?_
  refine lv_iconst (v := 0) hx hb dX3_grows_46 (by decide) ?_
  refine g_iald (v := .int (x 0)) C hI c1_ (gix nl0 (by omega) (by omega)) (congrArg Value.int (gixv (f := x) nl0 (by omega))) dX3_grows_47 ?_
  refine lv_iload_n hx hb dX3_grows_48 rfl (lv_at hl 2 rfl) ?_
  refine lv_isub hx hb dX3_grows_49 ?_
  refine lv_iload_n hx hb dX3_grows_50 rfl (lv_at hl 0 rfl) ?_
  refine lv_iadd hx hb dX3_grows_51 ?_
  refine g_SN (As := [.int (((x 0) - ((x 0) / 20)) + (((x 1) + (x 2)) / 25))]) (rest := [.int 0, .ref gw]) (lv := [(3, .int (((x 1) + (x 2)) / 25)), (2, .int ((x 1) / 20)), (1, .int ((x 0) / 20)), (0, .ref gr)]) C hI hS (c_X1_held l hB G n (((x 0) - ((x 0) / 20)) + (((x 1) + (x 2)) / 25))  ) (gNw_in q1684 rfl) q1685 q77 q1686 (⟨by decide, by decide, by decide⟩ : gArg _ 1) rfl ⟨by decide, by decide⟩ (by omega) hl rfl (Nat.le_of_ble_eq_true rfl) dX3_grows_52 (fun v4995 G4996 n4997 H locs hp4998 hI hS => ?_) gKx.no
  obtain ⟨rfl, eG4996, en4997⟩ := hp4998
  refine W.widen (k := 0) (n := 200 * (0)) (by omega) (by omega) ?_
  rw [eG4996, en4997] at hI
  refine g_iast C hI hS c1_ (by omega) (gix nl0 (by omega) (by omega)) dX3_grows_55 (fun G5001 H locs e5002 hI hS => ?_)
  rw [gup_e nl0 (by omega)] at e5002
  have c0_ := gE_k e5002 c0_ (g_no c0_ c1_)
  have c1_ : G5001 gw = some (aI 3 (gup x 0 (sMin 999 (((x 0) - ((x 0) / 20)) + (((x 1) + (x 2)) / 25))))) := gE_s e5002
  have hF := gE_F e5002 hF (Or.inr rfl)
  refine lv_aload_n hx hb dX3_grows_56 rfl (lv_at hl 3 rfl) ?_
  refine g_get C hI c0_ kc2 0 rfl q220 (fun _ h9 => h9) dX3_grows_57 ?_
  refine lv_iconst (v := 1) hx hb dX3_grows_60 (by decide) ?_
  refine lv_aload_n hx hb dX3_grows_61 rfl (lv_at hl 3 rfl) ?_
  refine g_get C hI c0_ kc2 0 rfl q220 (fun _ h9 => h9) dX3_grows_62 ?_
  refine lv_iconst (v := 1) hx hb dX3_grows_65 (by decide) ?_
  refine g_iald (v := .int ((gup x 0 (sMin 999 (((x 0) - ((x 0) / 20)) + (((x 1) + (x 2)) / 25)))) 1)) C hI c1_ (gix nl1 (by omega) (by omega)) (congrArg Value.int (gixv (f := gup x 0 (sMin 999 (((x 0) - ((x 0) / 20)) + (((x 1) + (x 2)) / 25)))) nl1 (by omega))) dX3_grows_66 ?_
  refine lv_iload_n hx hb dX3_grows_67 rfl (lv_at hl 2 rfl) ?_
  refine lv_iadd hx hb dX3_grows_68 ?_
  refine lv_iload_n hx hb dX3_grows_69 rfl (lv_at hl 1 rfl) ?_
  refine lv_isub hx hb dX3_grows_70 ?_
  refine g_SN (As := [.int ((((gup x 0 (sMin 999 (((x 0) - ((x 0) / 20)) + (((x 1) + (x 2)) / 25)))) 1) + ((x 0) / 20)) - ((x 1) / 20))]) (rest := [.int 1, .ref gw]) (lv := [(3, .int (((x 1) + (x 2)) / 25)), (2, .int ((x 1) / 20)), (1, .int ((x 0) / 20)), (0, .ref gr)]) C hI hS (c_X1_held l hB G5001 n ((((gup x 0 (sMin 999 (((x 0) - ((x 0) / 20)) + (((x 1) + (x 2)) / 25)))) 1) + ((x 0) / 20)) - ((x 1) / 20))  ) (gNw_in q1684 rfl) q1685 q77 q1686 (⟨by decide, by decide, by decide⟩ : gArg _ 1) rfl ⟨by decide, by decide⟩ (by omega) hl rfl (Nat.le_of_ble_eq_true rfl) dX3_grows_71 (fun v5004 G5005 n5006 H locs hp5007 hI hS => ?_) gKx.no
  obtain ⟨rfl, eG5005, en5006⟩ := hp5007
  refine W.widen (k := 0) (n := 200 * (0)) (by omega) (by omega) ?_
  rw [eG5005, en5006] at hI
  refine g_iast C hI hS c1_ (by omega) (gix nl1 (by omega) (by omega)) dX3_grows_74 (fun G5010 H locs e5011 hI hS => ?_)
  rw [gup_e nl1 (by omega)] at e5011
  have c0_ := gE_k e5011 c0_ (g_no c0_ c1_)
  have c1_ : G5010 gw = some (aI 3 (gup (gup x 0 (sMin 999 (((x 0) - ((x 0) / 20)) + (((x 1) + (x 2)) / 25)))) 1 (sMin 999 ((((gup x 0 (sMin 999 (((x 0) - ((x 0) / 20)) + (((x 1) + (x 2)) / 25)))) 1) + ((x 0) / 20)) - ((x 1) / 20))))) := gE_s e5011
  have hF := gE_F e5011 hF (Or.inr rfl)
  refine lv_aload_n hx hb dX3_grows_75 rfl (lv_at hl 3 rfl) ?_
  refine g_get C hI c0_ kc2 0 rfl q220 (fun _ h9 => h9) dX3_grows_76 ?_
  refine lv_iconst (v := 2) hx hb dX3_grows_79 (by decide) ?_
  refine lv_aload_n hx hb dX3_grows_80 rfl (lv_at hl 3 rfl) ?_
  refine g_get C hI c0_ kc2 0 rfl q220 (fun _ h9 => h9) dX3_grows_81 ?_
  refine lv_iconst (v := 2) hx hb dX3_grows_84 (by decide) ?_
  refine g_iald (v := .int ((gup (gup x 0 (sMin 999 (((x 0) - ((x 0) / 20)) + (((x 1) + (x 2)) / 25)))) 1 (sMin 999 ((((gup x 0 (sMin 999 (((x 0) - ((x 0) / 20)) + (((x 1) + (x 2)) / 25)))) 1) + ((x 0) / 20)) - ((x 1) / 20)))) 2)) C hI c1_ (gix nl2 (by omega) (by omega)) (congrArg Value.int (gixv (f := gup (gup x 0 (sMin 999 (((x 0) - ((x 0) / 20)) + (((x 1) + (x 2)) / 25)))) 1 (sMin 999 ((((gup x 0 (sMin 999 (((x 0) - ((x 0) / 20)) + (((x 1) + (x 2)) / 25)))) 1) + ((x 0) / 20)) - ((x 1) / 20)))) nl2 (by omega))) dX3_grows_85 ?_
  refine lv_iload_n hx hb dX3_grows_86 rfl (lv_at hl 1 rfl) ?_
  refine lv_iadd hx hb dX3_grows_87 ?_
  refine g_SN (As := [.int (((gup (gup x 0 (sMin 999 (((x 0) - ((x 0) / 20)) + (((x 1) + (x 2)) / 25)))) 1 (sMin 999 ((((gup x 0 (sMin 999 (((x 0) - ((x 0) / 20)) + (((x 1) + (x 2)) / 25)))) 1) + ((x 0) / 20)) - ((x 1) / 20)))) 2) + ((x 1) / 20))]) (rest := [.int 2, .ref gw]) (lv := [(3, .int (((x 1) + (x 2)) / 25)), (2, .int ((x 1) / 20)), (1, .int ((x 0) / 20)), (0, .ref gr)]) C hI hS (c_X1_held l hB G5010 n (((gup (gup x 0 (sMin 999 (((x 0) - ((x 0) / 20)) + (((x 1) + (x 2)) / 25)))) 1 (sMin 999 ((((gup x 0 (sMin 999 (((x 0) - ((x 0) / 20)) + (((x 1) + (x 2)) / 25)))) 1) + ((x 0) / 20)) - ((x 1) / 20)))) 2) + ((x 1) / 20))  ) (gNw_in q1684 rfl) q1685 q77 q1686 (⟨by decide, by decide, by decide⟩ : gArg _ 1) rfl ⟨by decide, by decide⟩ (by omega) hl rfl (Nat.le_of_ble_eq_true rfl) dX3_grows_88 (fun v5013 G5014 n5015 H locs hp5016 hI hS => ?_) gKx.no
  obtain ⟨rfl, eG5014, en5015⟩ := hp5016
  refine W.widen (k := 0) (n := 200 * (0)) (by omega) (by omega) ?_
  rw [eG5014, en5015] at hI
  refine g_iast C hI hS c1_ (by omega) (gix nl2 (by omega) (by omega)) dX3_grows_91 (fun G5019 H locs e5020 hI hS => ?_)
  rw [gup_e nl2 (by omega)] at e5020
  have c0_ := gE_k e5020 c0_ (g_no c0_ c1_)
  have c1_ : G5019 gw = some (aI 3 (gup (gup (gup x 0 (sMin 999 (((x 0) - ((x 0) / 20)) + (((x 1) + (x 2)) / 25)))) 1 (sMin 999 ((((gup x 0 (sMin 999 (((x 0) - ((x 0) / 20)) + (((x 1) + (x 2)) / 25)))) 1) + ((x 0) / 20)) - ((x 1) / 20)))) 2 (sMin 999 (((gup (gup x 0 (sMin 999 (((x 0) - ((x 0) / 20)) + (((x 1) + (x 2)) / 25)))) 1 (sMin 999 ((((gup x 0 (sMin 999 (((x 0) - ((x 0) / 20)) + (((x 1) + (x 2)) / 25)))) 1) + ((x 0) / 20)) - ((x 1) / 20)))) 2) + ((x 1) / 20))))) := gE_s e5020
  have hF := gE_F e5020 hF (Or.inr rfl)
  exact g_vret C hI hS (by omega) ⟨rfl, (by omega), hF, c1_⟩ dX3_grows_92
set_option maxHeartbeats 4000000 in
set_option maxRecDepth 100000 in
theorem c_X16_draws (l : Launch) {D : gD} (hB : gBs D) (G : gH) (n : Nat) (ba : Nat) (a1 : Int32) (c0_ : G ba = some (.inl (12, []))) : gMet l D yX16_draws (ws_ yX16_draws cX16_draws 2 (some FieldType.int)) 1 0 G n [.ref ba, .int a1] (fun (v : Option Value) (G1 : gH) (n1 : Nat) => v = some (.int (sMin 6 (2 * a1))) ∧ G1 = G ∧ n1 = n) gNox := by
  refine g_start (by decide) (Nat.le_of_ble_eq_true rfl) ?_
  intro p e s m below meth c ls C hnm hxt hI hl
  have hx := C.x
  have hb := C.b
  have hS : va_S (gA D) s.heap s.heap [] := va_S.rf
  have hz0 := hI.z
  have lc0_ := hI.lt c0_
  have hF : gF G G n gNone := gF.rf _ _ _
  have hl : lv_has ls 2 [(0, .ref ba), (1, .int a1)] := hl
  refine lv_bipush (v := 6) hx hb dX16_draws_0 (by decide) ?_
  refine lv_iconst (v := 2) hx hb dX16_draws_2 (by decide) ?_
  refine lv_iload_n hx hb dX16_draws_3 rfl (lv_at hl 1 rfl) ?_
  refine lv_imul hx hb dX16_draws_4 ?_
  refine g_min C hl q1576 (by decide) (by omega) (Nat.le_of_ble_eq_true rfl) dX16_draws_5 ?_
  exact g_iret C hI hS (by omega) ⟨rfl, rfl, rfl⟩ dX16_draws_8
set_option maxHeartbeats 4000000 in
set_option maxRecDepth 100000 in
theorem c_X17_draws (l : Launch) {D : gD} (hB : gBs D) (G : gH) (n : Nat) (ba : Nat) (a1 : Int32) (c0_ : G ba = some (.inl (13, []))) : gMet l D yX17_draws (ws_ yX17_draws cX17_draws 2 (some FieldType.int)) 1 0 G n [.ref ba, .int a1] (fun (v : Option Value) (G1 : gH) (n1 : Nat) => v = some (.int (sMax 0 (5 - a1))) ∧ G1 = G ∧ n1 = n) gNox := by
  refine g_start (by decide) (Nat.le_of_ble_eq_true rfl) ?_
  intro p e s m below meth c ls C hnm hxt hI hl
  have hx := C.x
  have hb := C.b
  have hS : va_S (gA D) s.heap s.heap [] := va_S.rf
  have hz0 := hI.z
  have lc0_ := hI.lt c0_
  have hF : gF G G n gNone := gF.rf _ _ _
  have hl : lv_has ls 2 [(0, .ref ba), (1, .int a1)] := hl
  refine lv_iconst (v := 0) hx hb dX17_draws_0 (by decide) ?_
  refine lv_iconst (v := 5) hx hb dX17_draws_1 (by decide) ?_
  refine lv_iload_n hx hb dX17_draws_2 rfl (lv_at hl 1 rfl) ?_
  refine lv_isub hx hb dX17_draws_3 ?_
  refine g_max C hl q1580 (by decide) (by omega) (Nat.le_of_ble_eq_true rfl) dX17_draws_4 ?_
  exact g_iret C hI hS (by omega) ⟨rfl, rfl, rfl⟩ dX17_draws_7
set_option maxHeartbeats 4000000 in
set_option maxRecDepth 100000 in
theorem c_X18_draws (l : Launch) {D : gD} (hB : gBs D) (G : gH) (n : Nat) (ba : Nat) (a1 : Int32) (c0_ : G ba = some (.inl (14, []))) : gMet l D yX18_draws (ws_ yX18_draws cX18_draws 2 (some FieldType.int)) 1 0 G n [.ref ba, .int a1] (fun (v : Option Value) (G1 : gH) (n1 : Nat) => v = some (.int (sMin 5 (a1 + 1))) ∧ G1 = G ∧ n1 = n) gNox := by
  refine g_start (by decide) (Nat.le_of_ble_eq_true rfl) ?_
  intro p e s m below meth c ls C hnm hxt hI hl
  have hx := C.x
  have hb := C.b
  have hS : va_S (gA D) s.heap s.heap [] := va_S.rf
  have hz0 := hI.z
  have lc0_ := hI.lt c0_
  have hF : gF G G n gNone := gF.rf _ _ _
  have hl : lv_has ls 2 [(0, .ref ba), (1, .int a1)] := hl
  refine lv_iconst (v := 5) hx hb dX18_draws_0 (by decide) ?_
  refine lv_iload_n hx hb dX18_draws_1 rfl (lv_at hl 1 rfl) ?_
  refine lv_iconst (v := 1) hx hb dX18_draws_2 (by decide) ?_
  refine lv_iadd hx hb dX18_draws_3 ?_
  refine g_min C hl q1584 (by decide) (by omega) (Nat.le_of_ble_eq_true rfl) dX18_draws_4 ?_
  exact g_iret C hI hS (by omega) ⟨rfl, rfl, rfl⟩ dX18_draws_7
set_option maxHeartbeats 4000000 in
set_option maxRecDepth 100000 in
theorem c_X16_word (l : Launch) {D : gD} (hB : gBs D) (G : gH) (n : Nat) (ba : Nat) : gMet l D yX16_word (ws_ yX16_word cX16_word 1 (some (FieldType.object "java/lang/String"))) 1 0 G n [.ref ba] (fun (v : Option Value) (G1 : gH) (n1 : Nat) => v = some (.ref (gk D 119)) ∧ G1 = G ∧ n1 = n) gNox := by
  refine g_start (by decide) (Nat.le_of_ble_eq_true rfl) ?_
  intro p e s m below meth c ls C hnm hxt hI hl
  have hx := C.x
  have hb := C.b
  have hS : va_S (gA D) s.heap s.heap [] := va_S.rf
  have hz0 := hI.z
  have hF : gF G G n gNone := gF.rf _ _ _
  have hl : lv_has ls 1 [(0, .ref ba)] := hl
  refine g_ldcS C (sr_WhelkFleet_Bait_1_13 D) dX16_word_0 ?_
  have lc5022 : gk D 119 < gz D := (hB.tx (j := 19) rfl).1
  have lc5023 : gk D 219 < gz D := (hB.tx (j := 19) rfl).2.1
  have c5022 : G (gk D 119) = some (.inl (21, [.ref (gk D 219), .int 0, .int 3061968, .int 0])) := hI.bs ⟨lc5022, (hB.tx (j := 19) rfl).2.2.1⟩
  have c5023 : G (gk D 219) = some (aB (([99, 114, 97, 98] : List Nat).length) (fun i => nI (([99, 114, 97, 98] : List Nat).getD i 0))) := hI.bs ⟨lc5023, (hB.tx (j := 19) rfl).2.2.2⟩
  exact g_aret C hI hS (by omega) (by first | exact Or.inl ⟨_, rfl⟩ | exact Or.inr ⟨_, rfl⟩) (Or.inr ⟨_, rfl⟩) ⟨rfl, rfl, rfl⟩ dX16_word_2
set_option maxHeartbeats 4000000 in
set_option maxRecDepth 100000 in
theorem c_X17_word (l : Launch) {D : gD} (hB : gBs D) (G : gH) (n : Nat) (ba : Nat) : gMet l D yX17_word (ws_ yX17_word cX17_word 1 (some (FieldType.object "java/lang/String"))) 1 0 G n [.ref ba] (fun (v : Option Value) (G1 : gH) (n1 : Nat) => v = some (.ref (gk D 120)) ∧ G1 = G ∧ n1 = n) gNox := by
  refine g_start (by decide) (Nat.le_of_ble_eq_true rfl) ?_
  intro p e s m below meth c ls C hnm hxt hI hl
  have hx := C.x
  have hb := C.b
  have hS : va_S (gA D) s.heap s.heap [] := va_S.rf
  have hz0 := hI.z
  have hF : gF G G n gNone := gF.rf _ _ _
  have hl : lv_has ls 1 [(0, .ref ba)] := hl
  refine g_ldcS C (sr_WhelkFleet_Bait_2_13 D) dX17_word_0 ?_
  have lc5024 : gk D 120 < gz D := (hB.tx (j := 20) rfl).1
  have lc5025 : gk D 220 < gz D := (hB.tx (j := 20) rfl).2.1
  have c5024 : G (gk D 120) = some (.inl (21, [.ref (gk D 220), .int 0, .int 3143256, .int 0])) := hI.bs ⟨lc5024, (hB.tx (j := 20) rfl).2.2.1⟩
  have c5025 : G (gk D 220) = some (aB (([102, 105, 115, 104] : List Nat).length) (fun i => nI (([102, 105, 115, 104] : List Nat).getD i 0))) := hI.bs ⟨lc5025, (hB.tx (j := 20) rfl).2.2.2⟩
  exact g_aret C hI hS (by omega) (by first | exact Or.inl ⟨_, rfl⟩ | exact Or.inr ⟨_, rfl⟩) (Or.inr ⟨_, rfl⟩) ⟨rfl, rfl, rfl⟩ dX17_word_2
set_option maxHeartbeats 4000000 in
set_option maxRecDepth 100000 in
theorem c_X18_word (l : Launch) {D : gD} (hB : gBs D) (G : gH) (n : Nat) (ba : Nat) : gMet l D yX18_word (ws_ yX18_word cX18_word 1 (some (FieldType.object "java/lang/String"))) 1 0 G n [.ref ba] (fun (v : Option Value) (G1 : gH) (n1 : Nat) => v = some (.ref (gk D 121)) ∧ G1 = G ∧ n1 = n) gNox := by
  refine g_start (by decide) (Nat.le_of_ble_eq_true rfl) ?_
  intro p e s m below meth c ls C hnm hxt hI hl
  have hx := C.x
  have hb := C.b
  have hS : va_S (gA D) s.heap s.heap [] := va_S.rf
  have hz0 := hI.z
  have hF : gF G G n gNone := gF.rf _ _ _
  have hl : lv_has ls 1 [(0, .ref ba)] := hl
  refine g_ldcS C (sr_WhelkFleet_Bait_3_13 D) dX18_word_0 ?_
  have lc5026 : gk D 121 < gz D := (hB.tx (j := 21) rfl).1
  have lc5027 : gk D 221 < gz D := (hB.tx (j := 21) rfl).2.1
  have c5026 : G (gk D 121) = some (.inl (21, [.ref (gk D 221), .int 0, .int 103910395, .int 0])) := hI.bs ⟨lc5026, (hB.tx (j := 21) rfl).2.2.1⟩
  have c5027 : G (gk D 221) = some (aB (([109, 105, 120, 101, 100] : List Nat).length) (fun i => nI (([109, 105, 120, 101, 100] : List Nat).getD i 0))) := hI.bs ⟨lc5027, (hB.tx (j := 21) rfl).2.2.2⟩
  exact g_aret C hI hS (by omega) (by first | exact Or.inl ⟨_, rfl⟩ | exact Or.inr ⟨_, rfl⟩) (Or.inr ⟨_, rfl⟩) ⟨rfl, rfl, rfl⟩ dX18_word_2
set_option maxHeartbeats 4000000 in
set_option maxRecDepth 100000 in
theorem c_X12_of (l : Launch) {D : gD} (hB : gBs D) (G : gH) (n : Nat) (a1 : Int32) : gMet l D yX12_of (ws_ yX12_of cX12_of 1 (some (FieldType.object "WhelkFleet$Bait"))) 1 0 G n [.int a1] (fun (v : Option Value) (G1 : gH) (n1 : Nat) => v = some (.ref (if a1 = 0 then gk D 4 else if a1 = 1 then gk D 5 else gk D 6)) ∧ G1 = G ∧ n1 = n) gNox := by
  refine g_start (by decide) (Nat.le_of_ble_eq_true rfl) ?_
  intro p e s m below meth c ls C hnm hxt hI hl
  have hx := C.x
  have hb := C.b
  have hS : va_S (gA D) s.heap s.heap [] := va_S.rf
  have hz0 := hI.z
  have hF : gF G G n gNone := gF.rf _ _ _
  have hl : lv_has ls 1 [(0, .int a1)] := hl
  refine lv_iload_n hx hb dX12_of_0 rfl (lv_at hl 0 rfl) ?_
  by_cases c_5028 : a1 = 0
  · skip
    refine lv_lookup (off := 27) (tgt := 28) hx hb dX12_of_1 (by decide) (by rw [c_5028]; decide) (by decide) ?_
    refine g_gets C hS (st_CRAB D) q1558 (fun _ h9 => h9) dX12_of_28 ?_
    exact g_aret C hI hS (by omega) (by first | exact Or.inl ⟨_, rfl⟩ | exact Or.inr ⟨_, rfl⟩) (Or.inr ⟨_, rfl⟩) ⟨(by simp [eq_true c_5028]), rfl, rfl⟩ dX12_of_31
  by_cases c_5029 : a1 = 1
  · skip
    refine lv_lookup (off := 31) (tgt := 32) hx hb dX12_of_1 (by decide) (by rw [c_5029]; decide) (by decide) ?_
    refine g_gets C hS (st_FISH D) q1560 (fun _ h9 => h9) dX12_of_32 ?_
    exact g_aret C hI hS (by omega) (by first | exact Or.inl ⟨_, rfl⟩ | exact Or.inr ⟨_, rfl⟩) (Or.inr ⟨_, rfl⟩) ⟨(by simp [c_5028, eq_true c_5029]), rfl, rfl⟩ dX12_of_35
  refine lv_lookup (off := 35) (tgt := 36) hx hb dX12_of_1 (by decide) ((lv_osw c_5028 (by decide)).trans ((lv_osw c_5029 (by decide)).trans (rfl))) (by decide) ?_
  refine g_gets C hS (st_MIXED D) q1562 (fun _ h9 => h9) dX12_of_36 ?_
  exact g_aret C hI hS (by omega) (by first | exact Or.inl ⟨_, rfl⟩ | exact Or.inr ⟨_, rfl⟩) (Or.inr ⟨_, rfl⟩) ⟨(by simp [c_5028, c_5029]), rfl, rfl⟩ dX12_of_39
