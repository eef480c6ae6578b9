/-! THE JDK, 2: ArrayList -/
theorem gBs.e0 {D : gD} (h : gBs D) : gk D 0 < gz D ∧ gbase D (gk D 0) = some (aR 0 (fun _ => .null)) := h.2.1
set_option maxHeartbeats 4000000 in
set_option maxRecDepth 100000 in
theorem c_J0_init (l : Launch) {D : gD} (hB : gBs D) (G : gH) (n : Nat) (la : Nat) : gMet l D yJ0_init (ws_ yJ0_init cJ0_init 1 none) 2 0 G n [.ref la] (fun (v : Option Value) (G1 : gH) (n1 : Nat) => v = none ∧ G1 = G ∧ n1 = n) gNox := by
  refine g_start (by decide) (Nat.le_of_ble_eq_true rfl) ?_
  intro p e s m below meth c ls C hnm hxt hI hl
  have hx := C.x
  have hb := C.b
  have hS : va_S (gA D) s.heap s.heap [] := va_S.rf
  have hz0 := hI.z
  have hF : gF G G n gNone := gF.rf _ _ _
  have hl : lv_has ls 1 [(0, .ref la)] := hl
  refine lv_aload_n hx hb dJ0_init_0 rfl (lv_at hl 0 rfl) ?_
  refine W.objInit hx hb C.ow (C.ts _ q157) (C.ts _ q135) (C.ts _ q136) rfl (by rw [C.ml]; exact hl.1) rfl dJ0_init_1 (show 1 ≤ 2 by decide) (show _ ≤ 60 * 2 by simp [Value.category]) ?_
  refine W.eq (g2 := F0 m 4 ls []) rfl ?_
  exact g_vret C hI hS (by omega) ⟨rfl, rfl, rfl⟩ dJ0_init_4
set_option maxHeartbeats 4000000 in
set_option maxRecDepth 100000 in
theorem c_J1_initA (l : Launch) {D : gD} (hB : gBs D) (G : gH) (n : Nat) (la : Nat) (v0 : Int32) (c0_ : G la = some (.inl (15, [.int v0, .null, .int 0]))) (hzl : gz D ≤ la) : gMet l D yJ1_init (ws_ yJ1_init cJ1_init 1 none) 3 0 G n [.ref la] (fun (v : Option Value) (G1 : gH) (n1 : Nat) => v = none ∧ n ≤ n1 ∧ gF G G1 n (fun q : Nat => q = la) ∧ G1 la = some (.inl (15, [.int 0, .null, .int 0]))) gNox := by
  refine g_start (by decide) (Nat.le_of_ble_eq_true rfl) ?_
  intro p e s m below meth c ls C hnm hxt hI hl
  have hx := C.x
  have hb := C.b
  have hS : va_S (gA D) s.heap s.heap [] := va_S.rf
  have hz0 := hI.z
  have lc0_ := hI.lt c0_
  have hF : gF G G n (fun q : Nat => q = la) := gF.rf _ _ _
  have hl : lv_has ls 1 [(0, .ref la)] := hl
  refine lv_aload_n hx hb dJ1_init_0 rfl (lv_at hl 0 rfl) ?_
  refine g_I (As := []) (rest := []) (lv := [(0, .ref la)]) C hI hS (c_J0_init l hB G n la  ) rfl q154 q155 q79 q156 (⟨by decide, by decide, by decide⟩ : gArg _ 0) rfl ⟨by decide, by decide⟩ (by omega) hl rfl (Nat.le_of_ble_eq_true rfl) dJ1_init_1 (fun v4452 G4453 n4454 H locs hp4455 hI hS => ?_) gKx.no
  obtain ⟨rfl, eG4453, en4454⟩ := hp4455
  refine W.widen (k := 0) (n := 200 * (0)) (by omega) (by omega) ?_
  rw [eG4453, en4454] at hI
  refine lv_aload_n hx hb dJ1_init_4 rfl (lv_at hl 0 rfl) ?_
  refine lv_iconst (v := 0) hx hb dJ1_init_5 (by decide) ?_
  refine g_put (fs2 := [.int 0, .null, .int 0]) C hI hS c0_ (by omega) kc15 0 (Nat.le_of_ble_eq_true rfl) q164 (fun _ h9 => h9) rfl rfl rfl rfl dJ1_init_6 (fun G4458 H locs e4459 hI hS => ?_)
  have c0_ : G4458 la = some (.inl (15, [.int 0, .null, .int 0])) := gE_s e4459
  have hF := gE_F e4459 hF (Or.inr rfl)
  exact g_vret C hI hS (by omega) ⟨rfl, (by omega), hF, c0_⟩ dJ1_init_9
set_option maxHeartbeats 4000000 in
set_option maxRecDepth 100000 in
theorem c_J1_initL (l : Launch) {D : gD} (hB : gBs D) (G : gH) (n : Nat) (la : Nat) (v0 : Int32) (c0_ : G la = some (.inl (16, [.int v0, .int 0, .null, .null]))) (hzl : gz D ≤ la) : gMet l D yJ1_init (ws_ yJ1_init cJ1_init 1 none) 4 0 G n [.ref la] (fun (v : Option Value) (G1 : gH) (n1 : Nat) => v = none ∧ n ≤ n1 ∧ gF G G1 n (fun q : Nat => q = la) ∧ G1 la = some (.inl (16, [.int 0, .int 0, .null, .null]))) gNox := by
  refine g_start (by decide) (Nat.le_of_ble_eq_true rfl) ?_
  intro p e s m below meth c ls C hnm hxt hI hl
  have hx := C.x
  have hb := C.b
  have hS : va_S (gA D) s.heap s.heap [] := va_S.rf
  have hz0 := hI.z
  have lc0_ := hI.lt c0_
  have hF : gF G G n (fun q : Nat => q = la) := gF.rf _ _ _
  have hl : lv_has ls 1 [(0, .ref la)] := hl
  refine lv_aload_n hx hb dJ1_init_0 rfl (lv_at hl 0 rfl) ?_
  refine g_I (As := []) (rest := []) (lv := [(0, .ref la)]) C hI hS (c_J0_init l hB G n la  ) rfl q154 q155 q79 q156 (⟨by decide, by decide, by decide⟩ : gArg _ 0) rfl ⟨by decide, by decide⟩ (by omega) hl rfl (Nat.le_of_ble_eq_true rfl) dJ1_init_1 (fun v4460 G4461 n4462 H locs hp4463 hI hS => ?_) gKx.no
  obtain ⟨rfl, eG4461, en4462⟩ := hp4463
  refine W.widen (k := 0) (n := 200 * (0)) (by omega) (by omega) ?_
  rw [eG4461, en4462] at hI
  refine lv_aload_n hx hb dJ1_init_4 rfl (lv_at hl 0 rfl) ?_
  refine lv_iconst (v := 0) hx hb dJ1_init_5 (by decide) ?_
  refine g_put (fs2 := [.int 0, .int 0, .null, .null]) C hI hS c0_ (by omega) kc16 0 (Nat.le_of_ble_eq_true rfl) q164 (fun _ h9 => h9) rfl rfl rfl rfl dJ1_init_6 (fun G4466 H locs e4467 hI hS => ?_)
  have c0_ : G4466 la = some (.inl (16, [.int 0, .int 0, .null, .null])) := gE_s e4467
  have hF := gE_F e4467 hF (Or.inr rfl)
  exact g_vret C hI hS (by omega) ⟨rfl, (by omega), hF, c0_⟩ dJ1_init_9
set_option maxHeartbeats 4000000 in
set_option maxRecDepth 100000 in
theorem c_J2_init (l : Launch) {D : gD} (hB : gBs D) (G : gH) (n : Nat) (la : Nat) (c0_ : G la = some (.inl (15, [.int 0, .null, .int 0]))) (hzl : gz D ≤ la) : gMet l D yJ2_init (ws_ yJ2_init cJ2_init 1 none) 5 0 G n [.ref la] (fun (v : Option Value) (G1 : gH) (n1 : Nat) => v = none ∧ n ≤ n1 ∧ gF G G1 n (fun q : Nat => q = la) ∧ G1 la = some (.inl (15, [.int 0, .ref (gk D 0), .int 0]))) gNox := by
  refine g_start (by decide) (Nat.le_of_ble_eq_true rfl) ?_
  intro p e s m below meth c ls C hnm hxt hI hl
  have hx := C.x
  have hb := C.b
  have hS : va_S (gA D) s.heap s.heap [] := va_S.rf
  have hz0 := hI.z
  have lc0_ := hI.lt c0_
  have hF : gF G G n (fun q : Nat => q = la) := gF.rf _ _ _
  have hl : lv_has ls 1 [(0, .ref la)] := hl
  refine lv_aload_n hx hb dJ2_init_0 rfl (lv_at hl 0 rfl) ?_
  refine g_I (As := []) (rest := []) (lv := [(0, .ref la)]) C hI hS (c_J1_initA l hB G n la 0 c0_ (by omega)) rfl q151 q152 q80 q153 (⟨by decide, by decide, by decide⟩ : gArg _ 0) rfl ⟨by decide, by decide⟩ (by omega) hl rfl (Nat.le_of_ble_eq_true rfl) dJ2_init_1 (fun v4468 G4469 n4470 H locs hp4471 hI hS => ?_) gKx.no
  obtain ⟨rfl, hn4472, hF4473, c4474⟩ := hp4471
  refine W.widen (k := 0) (n := 200 * (0)) (by omega) (by omega) ?_
  have hF := hF.trans hF4473 (by omega) (fun q hq => (fun h => h ▸ rfl))
  refine lv_aload_n hx hb dJ2_init_4 rfl (lv_at hl 0 rfl) ?_
  refine g_gets C hS (st_DEFAULTCAPACITY_EMPTY_ELEMENTDATA D) q158 (fun _ h9 => h9) dJ2_init_5 ?_
  refine g_put (fs2 := [.int 0, .ref (gk D 0), .int 0]) C hI hS c4474 (by omega) kc15 1 (Nat.le_of_ble_eq_true rfl) q160 (fun _ h9 => h9) rfl rfl rfl rfl dJ2_init_8 (fun G4475 H locs e4476 hI hS => ?_)
  have c4474 : G4475 la = some (.inl (15, [.int 0, .ref (gk D 0), .int 0])) := gE_s e4476
  have hF := gE_F e4476 hF (Or.inr rfl)
  exact g_vret C hI hS (by omega) ⟨rfl, (by omega), hF, c4474⟩ dJ2_init_11
set_option maxHeartbeats 4000000 in
set_option maxRecDepth 100000 in
theorem c_J2_grow_2 (l : Launch) {D : gD} (hB : gBs D) (G : gH) (n : Nat) (la : Nat) (mc : Int32) (c0_ : G la = some (.inl (15, [.int mc, .ref (gk D 0), .int 0]))) (hzl : gz D ≤ la) : gMet l D yJ2_grow_2 (ws_ yJ2_grow_2 cJ2_grow_2 4 (some (FieldType.array (FieldType.object "java/lang/Object")))) 1 1 G n [.ref la, .int 1] (fun (v : Option Value) (G1 : gH) (n1 : Nat) => v = some (.ref n) ∧ n ≤ n1 ∧ gF G G1 n (fun q : Nat => q = la) ∧ G1 la = some (.inl (15, [.int mc, .ref n, .int 0])) ∧ G1 n = some (aR 10 (fun _ => .null))) gNox := by
  refine g_start (by decide) (Nat.le_of_ble_eq_true rfl) ?_
  intro p e s m below meth c ls C hnm hxt hI hl
  have hx := C.x
  have hb := C.b
  have hS : va_S (gA D) s.heap s.heap [] := va_S.rf
  have hz0 := hI.z
  have lc0_ := hI.lt c0_
  have hF : gF G G n (fun q : Nat => q = la) := gF.rf _ _ _
  have hl : lv_has ls 4 [(0, .ref la), (1, .int 1)] := hl
  have le0 : gk D 0 < gz D := hB.e0.1
  have ce0 : G (gk D 0) = some (aR 0 (fun _ => .null)) := hI.bs hB.e0
  refine lv_aload_n hx hb dJ2_grow_2_0 rfl (lv_at hl 0 rfl) ?_
  refine g_get C hI c0_ kc15 1 rfl q160 (fun _ h9 => h9) dJ2_grow_2_1 ?_
  refine g_alen (v := 0) C hI ce0 (by rfl) dJ2_grow_2_4 ?_
  refine lv_istore_n (lv' := [(2, .int 0), (0, .ref la), (1, .int 1)]) hx hb dJ2_grow_2_5 rfl hl (by decide) rfl (fun ls hl => ?_)
  refine lv_iload_n hx hb dJ2_grow_2_6 rfl (lv_at hl 0 rfl) ?_
  refine lv_if_gt (tgt := 20) hx hb dJ2_grow_2_7 (by decide) (fun c_4477 => ?_) (fun c_4477 => ?_)
  · exact absurd c_4477 (by decide)
  · skip
    refine lv_aload_n hx hb dJ2_grow_2_10 rfl (lv_at hl 1 rfl) ?_
    refine g_get C hI c0_ kc15 1 rfl q160 (fun _ h9 => h9) dJ2_grow_2_11 ?_
    refine g_gets C hS (st_DEFAULTCAPACITY_EMPTY_ELEMENTDATA D) q158 (fun _ h9 => h9) dJ2_grow_2_14 ?_
    refine lv_acmp_eq (rx := (some (gk D 0))) (ry := (some (gk D 0))) (tgt := 45) hx hb dJ2_grow_2_17 (by decide) (fun c_4478 => ?_) (fun c_4478 => ?_)
    · skip
      refine lv_aload_n hx hb dJ2_grow_2_45 rfl (lv_at hl 1 rfl) ?_
      refine lv_bipush (v := 10) hx hb dJ2_grow_2_46 (by decide) ?_
      refine lv_iload_n hx hb dJ2_grow_2_48 rfl (lv_at hl 2 rfl) ?_
      refine g_max C hl q310 (by decide) (by omega) (Nat.le_of_ble_eq_true rfl) dJ2_grow_2_49 ?_
      rw [show sMax 10 1 = 10 from by decide]
      refine g_newq (N := 10) (u := 1) C hI hS q311 (by rw [show (10 : Int32) = nI 10 from nl10]; exact nI_pos (by omega)) (by rw [show (10 : Int32) = nI 10 from nl10]; exact nI_clamp (by omega)) (by omega) (by decide) (by omega) (by omega) dJ2_grow_2_52 (fun G4479 H e4480 hI hS => ?_)
      have c0_ := gE_k e4480 c0_ (by omega)
      have ce0 := gE_k e4480 ce0 (by omega)
      have c4481 : G4479 n = some (aR 10 (fun _ => .null)) := gE_s e4480
      have hF := gE_F e4480 hF (Or.inl (by omega))
      refine lv_dup_x1 hx hb dJ2_grow_2_55 rfl rfl ?_
      refine g_put (fs2 := [.int mc, .ref n, .int 0]) C hI hS c0_ (by omega) kc15 1 (Nat.le_of_ble_eq_true rfl) q160 (fun _ h9 => h9) rfl rfl rfl rfl dJ2_grow_2_56 (fun G4482 H locs e4483 hI hS => ?_)
      have ce0 := gE_k e4483 ce0 (g_on ce0 c0_)
      have c4481 := gE_k e4483 c4481 (g_on c4481 c0_)
      have c0_ : G4482 la = some (.inl (15, [.int mc, .ref n, .int 0])) := gE_s e4483
      have hF := gE_F e4483 hF (Or.inr rfl)
      exact g_aret C hI hS (by omega) (by first | exact Or.inl ⟨_, rfl⟩ | exact Or.inr ⟨_, rfl⟩) (Or.inr ⟨_, rfl⟩) ⟨rfl, (by omega), hF, c0_, c4481⟩ dJ2_grow_2_59
    · exact absurd rfl c_4478
set_option maxHeartbeats 4000000 in
set_option maxRecDepth 100000 in
theorem c_J2_grow (l : Launch) {D : gD} (hB : gBs D) (G : gH) (n : Nat) (la : Nat) (mc : Int32) (c0_ : G la = some (.inl (15, [.int mc, .ref (gk D 0), .int 0]))) (hzl : gz D ≤ la) : gMet l D yJ2_grow (ws_ yJ2_grow cJ2_grow 1 (some (FieldType.array (FieldType.object "java/lang/Object")))) 2 1 G n [.ref la] (fun (v : Option Value) (G1 : gH) (n1 : Nat) => v = some (.ref n) ∧ n ≤ n1 ∧ gF G G1 n (fun q : Nat => q = la) ∧ G1 la = some (.inl (15, [.int mc, .ref n, .int 0])) ∧ G1 n = some (aR 10 (fun _ => .null))) gNox := by
  refine g_start (by decide) (Nat.le_of_ble_eq_true rfl) ?_
  intro p e s m below meth c ls C hnm hxt hI hl
  have hx := C.x
  have hb := C.b
  have hS : va_S (gA D) s.heap s.heap [] := va_S.rf
  have hz0 := hI.z
  have lc0_ := hI.lt c0_
  have hF : gF G G n (fun q : Nat => q = la) := gF.rf _ _ _
  have hl : lv_has ls 1 [(0, .ref la)] := hl
  refine lv_aload_n hx hb dJ2_grow_0 rfl (lv_at hl 0 rfl) ?_
  refine lv_aload_n hx hb dJ2_grow_1 rfl (lv_at hl 0 rfl) ?_
  refine g_get C hI c0_ kc15 2 rfl q163 (fun _ h9 => h9) dJ2_grow_2 ?_
  refine lv_iconst (v := 1) hx hb dJ2_grow_5 (by decide) ?_
  refine lv_iadd hx hb dJ2_grow_6 ?_
  rw [show ((0 : Int32) + 1 : Int32) = 1 from by decide]
  refine g_V (As := [.int 1]) (rest := []) (lv := [(0, .ref la)]) C hI hS (c_J2_grow_2 l hB G n la mc c0_ (by omega)) c0_ rfl rfl q242 q244 qs2 q81 q245 (⟨by decide, by decide, by decide⟩ : gArg _ 1) rfl ⟨by decide, by decide⟩ (by omega) hl rfl (Nat.le_of_ble_eq_true rfl) dJ2_grow_7 (fun v4484 G4485 n4486 H locs hp4487 hI hS => ?_) gKx.no
  obtain ⟨rfl, hn4488, hF4489, c4490, c4491⟩ := hp4487
  refine W.widen (k := 1) (n := 200 * (1)) (by omega) (by omega) ?_
  have hF := hF.trans hF4489 (by omega) (fun q hq => (fun h => h ▸ rfl))
  exact g_aret C hI hS (by omega) (by first | exact Or.inl ⟨_, rfl⟩ | exact Or.inr ⟨_, rfl⟩) (Or.inr ⟨_, rfl⟩) ⟨rfl, (by omega), hF, c4490, c4491⟩ dJ2_grow_10
set_option maxHeartbeats 4000000 in
set_option maxRecDepth 100000 in
theorem c_J2_add_2E2 (l : Launch) {D : gD} (hB : gBs D) (G : gH) (n : Nat) (la : Nat) (mc : Int32) (e1 : Nat) (fv : List Value) (c0_ : G la = some (.inl (15, [.int mc, .ref (gk D 0), .int 0]))) (c1_ : G e1 = some (.inl (2, fv))) (hzl : gz D ≤ la) : gMet l D yJ2_add_2 (ws_ yJ2_add_2 cJ2_add_2 4 none) 3 1 G n [.ref la, .ref e1, .ref (gk D 0), .int 0] (fun (v : Option Value) (G1 : gH) (n1 : Nat) => v = none ∧ n ≤ n1 ∧ gF G G1 n (fun q : Nat => q = la) ∧ G1 la = some (.inl (15, [.int mc, .ref n, .int 1])) ∧ G1 n = some (aR 10 (gup (fun _ => .null) 0 (.ref e1)))) gNox := by
  refine g_start (by decide) (Nat.le_of_ble_eq_true rfl) ?_
  intro p e s m below meth c ls C hnm hxt hI hl
  have hx := C.x
  have hb := C.b
  have hS : va_S (gA D) s.heap s.heap [] := va_S.rf
  have hz0 := hI.z
  have lc0_ := hI.lt c0_
  have lc1_ := hI.lt c1_
  have hF : gF G G n (fun q : Nat => q = la) := gF.rf _ _ _
  have hl : lv_has ls 4 [(0, .ref la), (1, .ref e1), (2, .ref (gk D 0)), (3, .int 0)] := hl
  have le0 : gk D 0 < gz D := hB.e0.1
  have ce0 : G (gk D 0) = some (aR 0 (fun _ => .null)) := hI.bs hB.e0
  refine lv_iload_n hx hb dJ2_add_2_0 rfl (lv_at hl 3 rfl) ?_
  refine lv_aload_n hx hb dJ2_add_2_1 rfl (lv_at hl 2 rfl) ?_
  refine g_alen (v := 0) C hI ce0 (by rfl) dJ2_add_2_2 ?_
  refine lv_icmp_ne (tgt := 11) hx hb dJ2_add_2_3 (by decide) (fun c_4492 => ?_) (fun c_4492 => ?_)
  · exact absurd (by decide) c_4492
  · skip
    refine lv_aload_n hx hb dJ2_add_2_6 rfl (lv_at hl 0 rfl) ?_
    refine g_V (As := []) (rest := []) (lv := [(0, .ref la), (1, .ref e1), (2, .ref (gk D 0)), (3, .int 0)]) C hI hS (c_J2_grow l hB G n la mc c0_ (by omega)) c0_ rfl rfl q238 q240 qs1 q81 q241 (⟨by decide, by decide, by decide⟩ : gArg _ 0) rfl ⟨by decide, by decide⟩ (by omega) hl rfl (Nat.le_of_ble_eq_true rfl) dJ2_add_2_7 (fun v4493 G4494 n4495 H locs hp4496 hI hS => ?_) gKx.no
    obtain ⟨rfl, hn4497, hF4498, c4499, c4500⟩ := hp4496
    refine W.widen (k := 1) (n := 200 * (1)) (by omega) (by omega) ?_
    have c1_ := hF4498.at c1_ (by omega) (g_nc c1_ c0_ (by decide))
    have ce0 := hF4498.at ce0 (by omega) (g_on ce0 c0_)
    have hF := hF.trans hF4498 (by omega) (fun q hq => (fun h => h ▸ rfl))
    refine lv_astore_n (lv' := [(2, .ref n), (0, .ref la), (1, .ref e1), (3, .int 0)]) hx hb dJ2_add_2_10 rfl hl (by decide) rfl (fun ls hl => ?_)
    refine lv_aload_n hx hb dJ2_add_2_11 rfl (lv_at hl 0 rfl) ?_
    refine lv_iload_n hx hb dJ2_add_2_12 rfl (lv_at hl 3 rfl) ?_
    refine lv_aload_n hx hb dJ2_add_2_13 rfl (lv_at hl 2 rfl) ?_
    refine g_aast C hI hS c4500 (by omega) c1_ rfl (gNw_in q3003 rfl) (gix nl0 (by omega) (by omega)) dJ2_add_2_14 (fun G4501 H locs e4502 hI hS => ?_)
    rw [gup_e nl0 (by omega)] at e4502
    have c1_ := gE_k e4502 c1_ (g_no c1_ c4500)
    have ce0 := gE_k e4502 ce0 (g_na ce0 c4500 (Or.inr (by decide)))
    have c4499 := gE_k e4502 c4499 (g_no c4499 c4500)
    have c4500 : G4501 n = some (aR 10 (gup (fun _ => .null) 0 (.ref e1))) := gE_s e4502
    have hF := gE_F e4502 hF (Or.inl (by omega))
    refine lv_aload_n hx hb dJ2_add_2_15 rfl (lv_at hl 1 rfl) ?_
    refine lv_iload_n hx hb dJ2_add_2_16 rfl (lv_at hl 3 rfl) ?_
    refine lv_iconst (v := 1) hx hb dJ2_add_2_17 (by decide) ?_
    refine lv_iadd hx hb dJ2_add_2_18 ?_
    rw [show ((0 : Int32) + 1 : Int32) = 1 from by decide]
    refine g_put (fs2 := [.int mc, .ref n, .int 1]) C hI hS c4499 (by omega) kc15 2 (Nat.le_of_ble_eq_true rfl) q163 (fun _ h9 => h9) rfl rfl rfl rfl dJ2_add_2_19 (fun G4504 H locs e4505 hI hS => ?_)
    have c1_ := gE_k e4505 c1_ (g_nc c1_ c4499 (by decide))
    have ce0 := gE_k e4505 ce0 (g_on ce0 c4499)
    have c4500 := gE_k e4505 c4500 (g_on c4500 c4499)
    have c4499 : G4504 la = some (.inl (15, [.int mc, .ref n, .int 1])) := gE_s e4505
    have hF := gE_F e4505 hF (Or.inr rfl)
    exact g_vret C hI hS (by omega) ⟨rfl, (by omega), hF, c4499, c4500⟩ dJ2_add_2_22
set_option maxHeartbeats 4000000 in
set_option maxRecDepth 100000 in
theorem c_J2_add_2N2 (l : Launch) {D : gD} (hB : gBs D) (G : gH) (n : Nat) (la : Nat) (mc : Int32) (ea : Nat) (sz : Int32) (e1 : Nat) (fv : List Value) (ev : Nat → Value) (kx : Nat) (c0_ : G la = some (.inl (15, [.int mc, .ref ea, .int sz]))) (c1_ : G ea = some (aR 10 ev)) (c2_ : G e1 = some (.inl (2, fv))) (hzl : gz D ≤ la) (hze : gz D ≤ ea) (hsz : sz = nI kx) (hk : kx < 10) : gMet l D yJ2_add_2 (ws_ yJ2_add_2 cJ2_add_2 4 none) 3 0 G n [.ref la, .ref e1, .ref ea, .int sz] (fun (v : Option Value) (G1 : gH) (n1 : Nat) => v = none ∧ n ≤ n1 ∧ gF G G1 n (fun q : Nat => q = la ∨ q = ea) ∧ G1 la = some (.inl (15, [.int mc, .ref ea, .int (nI (kx + 1))])) ∧ G1 ea = some (aR 10 (gup ev kx (.ref e1)))) gNox := by
  refine g_start (by decide) (Nat.le_of_ble_eq_true rfl) ?_
  intro p e s m below meth c ls C hnm hxt hI hl
  have hx := C.x
  have hb := C.b
  have hS : va_S (gA D) s.heap s.heap [] := va_S.rf
  have hz0 := hI.z
  have lc0_ := hI.lt c0_
  have lc1_ := hI.lt c1_
  have lc2_ := hI.lt c2_
  have hF : gF G G n (fun q : Nat => q = la ∨ q = ea) := gF.rf _ _ _
  have hl : lv_has ls 4 [(0, .ref la), (1, .ref e1), (2, .ref ea), (3, .int sz)] := hl
  refine lv_iload_n hx hb dJ2_add_2_0 rfl (lv_at hl 3 rfl) ?_
  refine lv_aload_n hx hb dJ2_add_2_1 rfl (lv_at hl 2 rfl) ?_
  refine g_alen (v := 10) C hI c1_ (by rfl) dJ2_add_2_2 ?_
  refine lv_icmp_ne (tgt := 11) hx hb dJ2_add_2_3 (by decide) (fun c_4506 => ?_) (fun c_4506 => ?_)
  · skip
    try have k_4507 : ¬ (kx = 10) := (not_congr (nI_eqE hsz nl10 (by omega) (by omega))).mp c_4506
    refine lv_aload_n hx hb dJ2_add_2_11 rfl (lv_at hl 2 rfl) ?_
    refine lv_iload_n hx hb dJ2_add_2_12 rfl (lv_at hl 3 rfl) ?_
    refine lv_aload_n hx hb dJ2_add_2_13 rfl (lv_at hl 1 rfl) ?_
    refine g_aast C hI hS c1_ (by omega) c2_ rfl (gNw_in q3003 rfl) (gix hsz (by omega) (by omega)) dJ2_add_2_14 (fun G4508 H locs e4509 hI hS => ?_)
    rw [gup_e hsz (by omega)] at e4509
    have c0_ := gE_k e4509 c0_ (g_no c0_ c1_)
    have c2_ := gE_k e4509 c2_ (g_no c2_ c1_)
    have c1_ : G4508 ea = some (aR 10 (gup ev kx (.ref e1))) := gE_s e4509
    have hF := gE_F e4509 hF (Or.inr (Or.inr (rfl)))
    refine lv_aload_n hx hb dJ2_add_2_15 rfl (lv_at hl 0 rfl) ?_
    refine lv_iload_n hx hb dJ2_add_2_16 rfl (lv_at hl 3 rfl) ?_
    refine lv_iconst (v := 1) hx hb dJ2_add_2_17 (by decide) ?_
    refine lv_iadd hx hb dJ2_add_2_18 ?_
    refine g_put (fs2 := [.int mc, .ref ea, .int (sz + 1)]) C hI hS c0_ (by omega) kc15 2 (Nat.le_of_ble_eq_true rfl) q163 (fun _ h9 => h9) rfl rfl rfl rfl dJ2_add_2_19 (fun G4511 H locs e4512 hI hS => ?_)
    have c1_ := gE_k e4512 c1_ (g_on c1_ c0_)
    have c2_ := gE_k e4512 c2_ (g_nc c2_ c0_ (by decide))
    have c0_ : G4511 la = some (.inl (15, [.int mc, .ref ea, .int (sz + 1)])) := gE_s e4512
    have hF := gE_F e4512 hF (Or.inr (Or.inl rfl))
    exact g_vret C hI hS (by omega) ⟨rfl, (by omega), hF, (by rw [show nI (kx + 1) = sz + 1 from (gadd hsz nl1).symm]; exact c0_), c1_⟩ dJ2_add_2_22
  · exact absurd c_4506 (by rw [hsz]; exact fun h => absurd ((nI_eq (by omega) (by omega)).mp (h.trans nl10)) (by omega))
set_option maxHeartbeats 4000000 in
set_option maxRecDepth 100000 in
theorem c_J2_addE2 (l : Launch) {D : gD} (hB : gBs D) (G : gH) (n : Nat) (la : Nat) (mc : Int32) (e1 : Nat) (fv : List Value) (c0_ : G la = some (.inl (15, [.int mc, .ref (gk D 0), .int 0]))) (c1_ : G e1 = some (.inl (2, fv))) (hzl : gz D ≤ la) : gMet l D yJ2_add (ws_ yJ2_add cJ2_add 2 (some FieldType.boolean)) 4 1 G n [.ref la, .ref e1] (fun (v : Option Value) (G1 : gH) (n1 : Nat) => v = some (.int 1) ∧ n ≤ n1 ∧ gF G G1 n (fun q : Nat => q = la) ∧ G1 la = some (.inl (15, [.int (mc + 1), .ref n, .int 1])) ∧ G1 n = some (aR 10 (gup (fun _ => .null) 0 (.ref e1)))) gNox := by
  refine g_start (by decide) (Nat.le_of_ble_eq_true rfl) ?_
  intro p e s m below meth c ls C hnm hxt hI hl
  have hx := C.x
  have hb := C.b
  have hS : va_S (gA D) s.heap s.heap [] := va_S.rf
  have hz0 := hI.z
  have lc0_ := hI.lt c0_
  have lc1_ := hI.lt c1_
  have hF : gF G G n (fun q : Nat => q = la) := gF.rf _ _ _
  have hl : lv_has ls 2 [(0, .ref la), (1, .ref e1)] := hl
  refine lv_aload_n hx hb dJ2_add_0 rfl (lv_at hl 0 rfl) ?_
  refine lv_dup hx hb dJ2_add_1 rfl ?_
  refine g_get C hI c0_ kc15 0 rfl q171 (u_same (C.ts _ q168)) dJ2_add_2 ?_
  refine lv_iconst (v := 1) hx hb dJ2_add_5 (by decide) ?_
  refine lv_iadd hx hb dJ2_add_6 ?_
  refine g_put (fs2 := [.int (mc + 1), .ref (gk D 0), .int 0]) C hI hS c0_ (by omega) kc15 0 (Nat.le_of_ble_eq_true rfl) q171 (u_same (C.ts _ q168)) rfl rfl rfl rfl dJ2_add_7 (fun G4513 H locs e4514 hI hS => ?_)
  have c1_ := gE_k e4514 c1_ (g_nc c1_ c0_ (by decide))
  have c0_ : G4513 la = some (.inl (15, [.int (mc + 1), .ref (gk D 0), .int 0])) := gE_s e4514
  have hF := gE_F e4514 hF (Or.inr rfl)
  refine lv_aload_n hx hb dJ2_add_10 rfl (lv_at hl 0 rfl) ?_
  refine lv_aload_n hx hb dJ2_add_11 rfl (lv_at hl 1 rfl) ?_
  refine lv_aload_n hx hb dJ2_add_12 rfl (lv_at hl 0 rfl) ?_
  refine g_get C hI c0_ kc15 1 rfl q160 (fun _ h9 => h9) dJ2_add_13 ?_
  refine lv_aload_n hx hb dJ2_add_16 rfl (lv_at hl 0 rfl) ?_
  refine g_get C hI c0_ kc15 2 rfl q163 (fun _ h9 => h9) dJ2_add_17 ?_
  refine g_V (As := [.ref e1, .ref (gk D 0), .int 0]) (rest := []) (lv := [(0, .ref la), (1, .ref e1)]) C hI hS (c_J2_add_2E2 l hB G4513 n la (mc + 1) e1 fv c0_ c1_ (by omega)) c0_ rfl rfl q234 q236 qs0 q81 q237 (⟨by decide, by decide, by decide⟩ : gArg _ 3) rfl ⟨by decide, by decide⟩ (by omega) hl rfl (Nat.le_of_ble_eq_true rfl) dJ2_add_20 (fun v4515 G4516 n4517 H locs hp4518 hI hS => ?_) gKx.no
  obtain ⟨rfl, hn4519, hF4520, c4521, c4522⟩ := hp4518
  refine W.widen (k := 1) (n := 200 * (1)) (by omega) (by omega) ?_
  have c1_ := hF4520.at c1_ (by omega) (g_nc c1_ c0_ (by decide))
  have hF := hF.trans hF4520 (by omega) (fun q hq => (fun h => h ▸ rfl))
  refine lv_iconst (v := 1) hx hb dJ2_add_23 (by decide) ?_
  exact g_zret C hI hS (by omega) rfl ⟨rfl, (by omega), hF, c4521, c4522⟩ dJ2_add_24
set_option maxHeartbeats 4000000 in
set_option maxRecDepth 100000 in
theorem c_J2_addN2 (l : Launch) {D : gD} (hB : gBs D) (G : gH) (n : Nat) (la : Nat) (mc : Int32) (ea : Nat) (sz : Int32) (e1 : Nat) (fv : List Value) (ev : Nat → Value) (kx : Nat) (c0_ : G la = some (.inl (15, [.int mc, .ref ea, .int sz]))) (c1_ : G ea = some (aR 10 ev)) (c2_ : G e1 = some (.inl (2, fv))) (hzl : gz D ≤ la) (hze : gz D ≤ ea) (hsz : sz = nI kx) (hk : kx < 10) : gMet l D yJ2_add (ws_ yJ2_add cJ2_add 2 (some FieldType.boolean)) 4 0 G n [.ref la, .ref e1] (fun (v : Option Value) (G1 : gH) (n1 : Nat) => v = some (.int 1) ∧ n ≤ n1 ∧ gF G G1 n (fun q : Nat => q = la ∨ q = ea) ∧ G1 la = some (.inl (15, [.int (mc + 1), .ref ea, .int (nI (kx + 1))])) ∧ G1 ea = some (aR 10 (gup ev kx (.ref e1)))) gNox := by
  refine g_start (by decide) (Nat.le_of_ble_eq_true rfl) ?_
  intro p e s m below meth c ls C hnm hxt hI hl
  have hx := C.x
  have hb := C.b
  have hS : va_S (gA D) s.heap s.heap [] := va_S.rf
  have hz0 := hI.z
  have lc0_ := hI.lt c0_
  have lc1_ := hI.lt c1_
  have lc2_ := hI.lt c2_
  have hF : gF G G n (fun q : Nat => q = la ∨ q = ea) := gF.rf _ _ _
  have hl : lv_has ls 2 [(0, .ref la), (1, .ref e1)] := hl
  refine lv_aload_n hx hb dJ2_add_0 rfl (lv_at hl 0 rfl) ?_
  refine lv_dup hx hb dJ2_add_1 rfl ?_
  refine g_get C hI c0_ kc15 0 rfl q171 (u_same (C.ts _ q168)) dJ2_add_2 ?_
  refine lv_iconst (v := 1) hx hb dJ2_add_5 (by decide) ?_
  refine lv_iadd hx hb dJ2_add_6 ?_
  refine g_put (fs2 := [.int (mc + 1), .ref ea, .int sz]) C hI hS c0_ (by omega) kc15 0 (Nat.le_of_ble_eq_true rfl) q171 (u_same (C.ts _ q168)) rfl rfl rfl rfl dJ2_add_7 (fun G4523 H locs e4524 hI hS => ?_)
  have c1_ := gE_k e4524 c1_ (g_on c1_ c0_)
  have c2_ := gE_k e4524 c2_ (g_nc c2_ c0_ (by decide))
  have c0_ : G4523 la = some (.inl (15, [.int (mc + 1), .ref ea, .int sz])) := gE_s e4524
  have hF := gE_F e4524 hF (Or.inr (Or.inl rfl))
  refine lv_aload_n hx hb dJ2_add_10 rfl (lv_at hl 0 rfl) ?_
  refine lv_aload_n hx hb dJ2_add_11 rfl (lv_at hl 1 rfl) ?_
  refine lv_aload_n hx hb dJ2_add_12 rfl (lv_at hl 0 rfl) ?_
  refine g_get C hI c0_ kc15 1 rfl q160 (fun _ h9 => h9) dJ2_add_13 ?_
  refine lv_aload_n hx hb dJ2_add_16 rfl (lv_at hl 0 rfl) ?_
  refine g_get C hI c0_ kc15 2 rfl q163 (fun _ h9 => h9) dJ2_add_17 ?_
  refine g_V (As := [.ref e1, .ref ea, .int sz]) (rest := []) (lv := [(0, .ref la), (1, .ref e1)]) C hI hS (c_J2_add_2N2 l hB G4523 n la (mc + 1) ea sz e1 fv ev kx c0_ c1_ c2_ (by omega) (by omega) hsz (by omega)) c0_ rfl rfl q234 q236 qs0 q81 q237 (⟨by decide, by decide, by decide⟩ : gArg _ 3) rfl ⟨by decide, by decide⟩ (by omega) hl rfl (Nat.le_of_ble_eq_true rfl) dJ2_add_20 (fun v4525 G4526 n4527 H locs hp4528 hI hS => ?_) gKx.no
  obtain ⟨rfl, hn4529, hF4530, c4531, c4532⟩ := hp4528
  refine W.widen (k := 0) (n := 200 * (0)) (by omega) (by omega) ?_
  have c2_ := hF4530.at c2_ (by omega) (fun h => h.elim (g_nc c2_ c0_ (by decide)) (g_no c2_ c1_))
  have hF := hF.trans hF4530 (by omega) (fun q hq => (fun h => h.elim (fun h => h ▸ (Or.inl rfl)) (fun h => h ▸ (Or.inr (rfl)))))
  refine lv_iconst (v := 1) hx hb dJ2_add_23 (by decide) ?_
  exact g_zret C hI hS (by omega) rfl ⟨rfl, (by omega), hF, c4531, c4532⟩ dJ2_add_24
set_option maxHeartbeats 4000000 in
set_option maxRecDepth 100000 in
theorem c_J2_add_2E3 (l : Launch) {D : gD} (hB : gBs D) (G : gH) (n : Nat) (la : Nat) (mc : Int32) (e1 : Nat) (fv : List Value) (c0_ : G la = some (.inl (15, [.int mc, .ref (gk D 0), .int 0]))) (c1_ : G e1 = some (.inl (3, fv))) (hzl : gz D ≤ la) : gMet l D yJ2_add_2 (ws_ yJ2_add_2 cJ2_add_2 4 none) 3 1 G n [.ref la, .ref e1, .ref (gk D 0), .int 0] (fun (v : Option Value) (G1 : gH) (n1 : Nat) => v = none ∧ n ≤ n1 ∧ gF G G1 n (fun q : Nat => q = la) ∧ G1 la = some (.inl (15, [.int mc, .ref n, .int 1])) ∧ G1 n = some (aR 10 (gup (fun _ => .null) 0 (.ref e1)))) gNox := by
  refine g_start (by decide) (Nat.le_of_ble_eq_true rfl) ?_
  intro p e s m below meth c ls C hnm hxt hI hl
  have hx := C.x
  have hb := C.b
  have hS : va_S (gA D) s.heap s.heap [] := va_S.rf
  have hz0 := hI.z
  have lc0_ := hI.lt c0_
  have lc1_ := hI.lt c1_
  have hF : gF G G n (fun q : Nat => q = la) := gF.rf _ _ _
  have hl : lv_has ls 4 [(0, .ref la), (1, .ref e1), (2, .ref (gk D 0)), (3, .int 0)] := hl
  have le0 : gk D 0 < gz D := hB.e0.1
  have ce0 : G (gk D 0) = some (aR 0 (fun _ => .null)) := hI.bs hB.e0
  refine lv_iload_n hx hb dJ2_add_2_0 rfl (lv_at hl 3 rfl) ?_
  refine lv_aload_n hx hb dJ2_add_2_1 rfl (lv_at hl 2 rfl) ?_
  refine g_alen (v := 0) C hI ce0 (by rfl) dJ2_add_2_2 ?_
  refine lv_icmp_ne (tgt := 11) hx hb dJ2_add_2_3 (by decide) (fun c_4533 => ?_) (fun c_4533 => ?_)
  · exact absurd (by decide) c_4533
  · skip
    refine lv_aload_n hx hb dJ2_add_2_6 rfl (lv_at hl 0 rfl) ?_
    refine g_V (As := []) (rest := []) (lv := [(0, .ref la), (1, .ref e1), (2, .ref (gk D 0)), (3, .int 0)]) C hI hS (c_J2_grow l hB G n la mc c0_ (by omega)) c0_ rfl rfl q238 q240 qs1 q81 q241 (⟨by decide, by decide, by decide⟩ : gArg _ 0) rfl ⟨by decide, by decide⟩ (by omega) hl rfl (Nat.le_of_ble_eq_true rfl) dJ2_add_2_7 (fun v4534 G4535 n4536 H locs hp4537 hI hS => ?_) gKx.no
    obtain ⟨rfl, hn4538, hF4539, c4540, c4541⟩ := hp4537
    refine W.widen (k := 1) (n := 200 * (1)) (by omega) (by omega) ?_
    have c1_ := hF4539.at c1_ (by omega) (g_nc c1_ c0_ (by decide))
    have ce0 := hF4539.at ce0 (by omega) (g_on ce0 c0_)
    have hF := hF.trans hF4539 (by omega) (fun q hq => (fun h => h ▸ rfl))
    refine lv_astore_n (lv' := [(2, .ref n), (0, .ref la), (1, .ref e1), (3, .int 0)]) hx hb dJ2_add_2_10 rfl hl (by decide) rfl (fun ls hl => ?_)
    refine lv_aload_n hx hb dJ2_add_2_11 rfl (lv_at hl 0 rfl) ?_
    refine lv_iload_n hx hb dJ2_add_2_12 rfl (lv_at hl 3 rfl) ?_
    refine lv_aload_n hx hb dJ2_add_2_13 rfl (lv_at hl 2 rfl) ?_
    refine g_aast C hI hS c4541 (by omega) c1_ rfl (gNw_in q3017 rfl) (gix nl0 (by omega) (by omega)) dJ2_add_2_14 (fun G4542 H locs e4543 hI hS => ?_)
    rw [gup_e nl0 (by omega)] at e4543
    have c1_ := gE_k e4543 c1_ (g_no c1_ c4541)
    have ce0 := gE_k e4543 ce0 (g_na ce0 c4541 (Or.inr (by decide)))
    have c4540 := gE_k e4543 c4540 (g_no c4540 c4541)
    have c4541 : G4542 n = some (aR 10 (gup (fun _ => .null) 0 (.ref e1))) := gE_s e4543
    have hF := gE_F e4543 hF (Or.inl (by omega))
    refine lv_aload_n hx hb dJ2_add_2_15 rfl (lv_at hl 1 rfl) ?_
    refine lv_iload_n hx hb dJ2_add_2_16 rfl (lv_at hl 3 rfl) ?_
    refine lv_iconst (v := 1) hx hb dJ2_add_2_17 (by decide) ?_
    refine lv_iadd hx hb dJ2_add_2_18 ?_
    rw [show ((0 : Int32) + 1 : Int32) = 1 from by decide]
    refine g_put (fs2 := [.int mc, .ref n, .int 1]) C hI hS c4540 (by omega) kc15 2 (Nat.le_of_ble_eq_true rfl) q163 (fun _ h9 => h9) rfl rfl rfl rfl dJ2_add_2_19 (fun G4545 H locs e4546 hI hS => ?_)
    have c1_ := gE_k e4546 c1_ (g_nc c1_ c4540 (by decide))
    have ce0 := gE_k e4546 ce0 (g_on ce0 c4540)
    have c4541 := gE_k e4546 c4541 (g_on c4541 c4540)
    have c4540 : G4545 la = some (.inl (15, [.int mc, .ref n, .int 1])) := gE_s e4546
    have hF := gE_F e4546 hF (Or.inr rfl)
    exact g_vret C hI hS (by omega) ⟨rfl, (by omega), hF, c4540, c4541⟩ dJ2_add_2_22
set_option maxHeartbeats 4000000 in
set_option maxRecDepth 100000 in
theorem c_J2_add_2N3 (l : Launch) {D : gD} (hB : gBs D) (G : gH) (n : Nat) (la : Nat) (mc : Int32) (ea : Nat) (sz : Int32) (e1 : Nat) (fv : List Value) (ev : Nat → Value) (kx : Nat) (c0_ : G la = some (.inl (15, [.int mc, .ref ea, .int sz]))) (c1_ : G ea = some (aR 10 ev)) (c2_ : G e1 = some (.inl (3, fv))) (hzl : gz D ≤ la) (hze : gz D ≤ ea) (hsz : sz = nI kx) (hk : kx < 10) : gMet l D yJ2_add_2 (ws_ yJ2_add_2 cJ2_add_2 4 none) 3 0 G n [.ref la, .ref e1, .ref ea, .int sz] (fun (v : Option Value) (G1 : gH) (n1 : Nat) => v = none ∧ n ≤ n1 ∧ gF G G1 n (fun q : Nat => q = la ∨ q = ea) ∧ G1 la = some (.inl (15, [.int mc, .ref ea, .int (nI (kx + 1))])) ∧ G1 ea = some (aR 10 (gup ev kx (.ref e1)))) gNox := by
  refine g_start (by decide) (Nat.le_of_ble_eq_true rfl) ?_
  intro p e s m below meth c ls C hnm hxt hI hl
  have hx := C.x
  have hb := C.b
  have hS : va_S (gA D) s.heap s.heap [] := va_S.rf
  have hz0 := hI.z
  have lc0_ := hI.lt c0_
  have lc1_ := hI.lt c1_
  have lc2_ := hI.lt c2_
  have hF : gF G G n (fun q : Nat => q = la ∨ q = ea) := gF.rf _ _ _
  have hl : lv_has ls 4 [(0, .ref la), (1, .ref e1), (2, .ref ea), (3, .int sz)] := hl
  refine lv_iload_n hx hb dJ2_add_2_0 rfl (lv_at hl 3 rfl) ?_
  refine lv_aload_n hx hb dJ2_add_2_1 rfl (lv_at hl 2 rfl) ?_
  refine g_alen (v := 10) C hI c1_ (by rfl) dJ2_add_2_2 ?_
  refine lv_icmp_ne (tgt := 11) hx hb dJ2_add_2_3 (by decide) (fun c_4547 => ?_) (fun c_4547 => ?_)
  · skip
    try have k_4548 : ¬ (kx = 10) := (not_congr (nI_eqE hsz nl10 (by omega) (by omega))).mp c_4547
    refine lv_aload_n hx hb dJ2_add_2_11 rfl (lv_at hl 2 rfl) ?_
    refine lv_iload_n hx hb dJ2_add_2_12 rfl (lv_at hl 3 rfl) ?_
    refine lv_aload_n hx hb dJ2_add_2_13 rfl (lv_at hl 1 rfl) ?_
    refine g_aast C hI hS c1_ (by omega) c2_ rfl (gNw_in q3017 rfl) (gix hsz (by omega) (by omega)) dJ2_add_2_14 (fun G4549 H locs e4550 hI hS => ?_)
    rw [gup_e hsz (by omega)] at e4550
    have c0_ := gE_k e4550 c0_ (g_no c0_ c1_)
    have c2_ := gE_k e4550 c2_ (g_no c2_ c1_)
    have c1_ : G4549 ea = some (aR 10 (gup ev kx (.ref e1))) := gE_s e4550
    have hF := gE_F e4550 hF (Or.inr (Or.inr (rfl)))
    refine lv_aload_n hx hb dJ2_add_2_15 rfl (lv_at hl 0 rfl) ?_
    refine lv_iload_n hx hb dJ2_add_2_16 rfl (lv_at hl 3 rfl) ?_
    refine lv_iconst (v := 1) hx hb dJ2_add_2_17 (by decide) ?_
    refine lv_iadd hx hb dJ2_add_2_18 ?_
    refine g_put (fs2 := [.int mc, .ref ea, .int (sz + 1)]) C hI hS c0_ (by omega) kc15 2 (Nat.le_of_ble_eq_true rfl) q163 (fun _ h9 => h9) rfl rfl rfl rfl dJ2_add_2_19 (fun G4552 H locs e4553 hI hS => ?_)
    have c1_ := gE_k e4553 c1_ (g_on c1_ c0_)
    have c2_ := gE_k e4553 c2_ (g_nc c2_ c0_ (by decide))
    have c0_ : G4552 la = some (.inl (15, [.int mc, .ref ea, .int (sz + 1)])) := gE_s e4553
    have hF := gE_F e4553 hF (Or.inr (Or.inl rfl))
    exact g_vret C hI hS (by omega) ⟨rfl, (by omega), hF, (by rw [show nI (kx + 1) = sz + 1 from (gadd hsz nl1).symm]; exact c0_), c1_⟩ dJ2_add_2_22
  · exact absurd c_4547 (by rw [hsz]; exact fun h => absurd ((nI_eq (by omega) (by omega)).mp (h.trans nl10)) (by omega))
set_option maxHeartbeats 4000000 in
set_option maxRecDepth 100000 in
theorem c_J2_addE3 (l : Launch) {D : gD} (hB : gBs D) (G : gH) (n : Nat) (la : Nat) (mc : Int32) (e1 : Nat) (fv : List Value) (c0_ : G la = some (.inl (15, [.int mc, .ref (gk D 0), .int 0]))) (c1_ : G e1 = some (.inl (3, fv))) (hzl : gz D ≤ la) : gMet l D yJ2_add (ws_ yJ2_add cJ2_add 2 (some FieldType.boolean)) 4 1 G n [.ref la, .ref e1] (fun (v : Option Value) (G1 : gH) (n1 : Nat) => v = some (.int 1) ∧ n ≤ n1 ∧ gF G G1 n (fun q : Nat => q = la) ∧ G1 la = some (.inl (15, [.int (mc + 1), .ref n, .int 1])) ∧ G1 n = some (aR 10 (gup (fun _ => .null) 0 (.ref e1)))) gNox := by
  refine g_start (by decide) (Nat.le_of_ble_eq_true rfl) ?_
  intro p e s m below meth c ls C hnm hxt hI hl
  have hx := C.x
  have hb := C.b
  have hS : va_S (gA D) s.heap s.heap [] := va_S.rf
  have hz0 := hI.z
  have lc0_ := hI.lt c0_
  have lc1_ := hI.lt c1_
  have hF : gF G G n (fun q : Nat => q = la) := gF.rf _ _ _
  have hl : lv_has ls 2 [(0, .ref la), (1, .ref e1)] := hl
  refine lv_aload_n hx hb dJ2_add_0 rfl (lv_at hl 0 rfl) ?_
  refine lv_dup hx hb dJ2_add_1 rfl ?_
  refine g_get C hI c0_ kc15 0 rfl q171 (u_same (C.ts _ q168)) dJ2_add_2 ?_
  refine lv_iconst (v := 1) hx hb dJ2_add_5 (by decide) ?_
  refine lv_iadd hx hb dJ2_add_6 ?_
  refine g_put (fs2 := [.int (mc + 1), .ref (gk D 0), .int 0]) C hI hS c0_ (by omega) kc15 0 (Nat.le_of_ble_eq_true rfl) q171 (u_same (C.ts _ q168)) rfl rfl rfl rfl dJ2_add_7 (fun G4554 H locs e4555 hI hS => ?_)
  have c1_ := gE_k e4555 c1_ (g_nc c1_ c0_ (by decide))
  have c0_ : G4554 la = some (.inl (15, [.int (mc + 1), .ref (gk D 0), .int 0])) := gE_s e4555
  have hF := gE_F e4555 hF (Or.inr rfl)
  refine lv_aload_n hx hb dJ2_add_10 rfl (lv_at hl 0 rfl) ?_
  refine lv_aload_n hx hb dJ2_add_11 rfl (lv_at hl 1 rfl) ?_
  refine lv_aload_n hx hb dJ2_add_12 rfl (lv_at hl 0 rfl) ?_
  refine g_get C hI c0_ kc15 1 rfl q160 (fun _ h9 => h9) dJ2_add_13 ?_
  refine lv_aload_n hx hb dJ2_add_16 rfl (lv_at hl 0 rfl) ?_
  refine g_get C hI c0_ kc15 2 rfl q163 (fun _ h9 => h9) dJ2_add_17 ?_
  refine g_V (As := [.ref e1, .ref (gk D 0), .int 0]) (rest := []) (lv := [(0, .ref la), (1, .ref e1)]) C hI hS (c_J2_add_2E3 l hB G4554 n la (mc + 1) e1 fv c0_ c1_ (by omega)) c0_ rfl rfl q234 q236 qs0 q81 q237 (⟨by decide, by decide, by decide⟩ : gArg _ 3) rfl ⟨by decide, by decide⟩ (by omega) hl rfl (Nat.le_of_ble_eq_true rfl) dJ2_add_20 (fun v4556 G4557 n4558 H locs hp4559 hI hS => ?_) gKx.no
  obtain ⟨rfl, hn4560, hF4561, c4562, c4563⟩ := hp4559
  refine W.widen (k := 1) (n := 200 * (1)) (by omega) (by omega) ?_
  have c1_ := hF4561.at c1_ (by omega) (g_nc c1_ c0_ (by decide))
  have hF := hF.trans hF4561 (by omega) (fun q hq => (fun h => h ▸ rfl))
  refine lv_iconst (v := 1) hx hb dJ2_add_23 (by decide) ?_
  exact g_zret C hI hS (by omega) rfl ⟨rfl, (by omega), hF, c4562, c4563⟩ dJ2_add_24
set_option maxHeartbeats 4000000 in
set_option maxRecDepth 100000 in
theorem c_J2_addN3 (l : Launch) {D : gD} (hB : gBs D) (G : gH) (n : Nat) (la : Nat) (mc : Int32) (ea : Nat) (sz : Int32) (e1 : Nat) (fv : List Value) (ev : Nat → Value) (kx : Nat) (c0_ : G la = some (.inl (15, [.int mc, .ref ea, .int sz]))) (c1_ : G ea = some (aR 10 ev)) (c2_ : G e1 = some (.inl (3, fv))) (hzl : gz D ≤ la) (hze : gz D ≤ ea) (hsz : sz = nI kx) (hk : kx < 10) : gMet l D yJ2_add (ws_ yJ2_add cJ2_add 2 (some FieldType.boolean)) 4 0 G n [.ref la, .ref e1] (fun (v : Option Value) (G1 : gH) (n1 : Nat) => v = some (.int 1) ∧ n ≤ n1 ∧ gF G G1 n (fun q : Nat => q = la ∨ q = ea) ∧ G1 la = some (.inl (15, [.int (mc + 1), .ref ea, .int (nI (kx + 1))])) ∧ G1 ea = some (aR 10 (gup ev kx (.ref e1)))) gNox := by
  refine g_start (by decide) (Nat.le_of_ble_eq_true rfl) ?_
  intro p e s m below meth c ls C hnm hxt hI hl
  have hx := C.x
  have hb := C.b
  have hS : va_S (gA D) s.heap s.heap [] := va_S.rf
  have hz0 := hI.z
  have lc0_ := hI.lt c0_
  have lc1_ := hI.lt c1_
  have lc2_ := hI.lt c2_
  have hF : gF G G n (fun q : Nat => q = la ∨ q = ea) := gF.rf _ _ _
  have hl : lv_has ls 2 [(0, .ref la), (1, .ref e1)] := hl
  refine lv_aload_n hx hb dJ2_add_0 rfl (lv_at hl 0 rfl) ?_
  refine lv_dup hx hb dJ2_add_1 rfl ?_
  refine g_get C hI c0_ kc15 0 rfl q171 (u_same (C.ts _ q168)) dJ2_add_2 ?_
  refine lv_iconst (v := 1) hx hb dJ2_add_5 (by decide) ?_
  refine lv_iadd hx hb dJ2_add_6 ?_
  refine g_put (fs2 := [.int (mc + 1), .ref ea, .int sz]) C hI hS c0_ (by omega) kc15 0 (Nat.le_of_ble_eq_true rfl) q171 (u_same (C.ts _ q168)) rfl rfl rfl rfl dJ2_add_7 (fun G4564 H locs e4565 hI hS => ?_)
  have c1_ := gE_k e4565 c1_ (g_on c1_ c0_)
  have c2_ := gE_k e4565 c2_ (g_nc c2_ c0_ (by decide))
  have c0_ : G4564 la = some (.inl (15, [.int (mc + 1), .ref ea, .int sz])) := gE_s e4565
  have hF := gE_F e4565 hF (Or.inr (Or.inl rfl))
  refine lv_aload_n hx hb dJ2_add_10 rfl (lv_at hl 0 rfl) ?_
  refine lv_aload_n hx hb dJ2_add_11 rfl (lv_at hl 1 rfl) ?_
  refine lv_aload_n hx hb dJ2_add_12 rfl (lv_at hl 0 rfl) ?_
  refine g_get C hI c0_ kc15 1 rfl q160 (fun _ h9 => h9) dJ2_add_13 ?_
  refine lv_aload_n hx hb dJ2_add_16 rfl (lv_at hl 0 rfl) ?_
  refine g_get C hI c0_ kc15 2 rfl q163 (fun _ h9 => h9) dJ2_add_17 ?_
  refine g_V (As := [.ref e1, .ref ea, .int sz]) (rest := []) (lv := [(0, .ref la), (1, .ref e1)]) C hI hS (c_J2_add_2N3 l hB G4564 n la (mc + 1) ea sz e1 fv ev kx c0_ c1_ c2_ (by omega) (by omega) hsz (by omega)) c0_ rfl rfl q234 q236 qs0 q81 q237 (⟨by decide, by decide, by decide⟩ : gArg _ 3) rfl ⟨by decide, by decide⟩ (by omega) hl rfl (Nat.le_of_ble_eq_true rfl) dJ2_add_20 (fun v4566 G4567 n4568 H locs hp4569 hI hS => ?_) gKx.no
  obtain ⟨rfl, hn4570, hF4571, c4572, c4573⟩ := hp4569
  refine W.widen (k := 0) (n := 200 * (0)) (by omega) (by omega) ?_
  have c2_ := hF4571.at c2_ (by omega) (fun h => h.elim (g_nc c2_ c0_ (by decide)) (g_no c2_ c1_))
  have hF := hF.trans hF4571 (by omega) (fun q hq => (fun h => h.elim (fun h => h ▸ (Or.inl rfl)) (fun h => h ▸ (Or.inr (rfl)))))
  refine lv_iconst (v := 1) hx hb dJ2_add_23 (by decide) ?_
  exact g_zret C hI hS (by omega) rfl ⟨rfl, (by omega), hF, c4572, c4573⟩ dJ2_add_24
set_option maxHeartbeats 4000000 in
set_option maxRecDepth 100000 in
theorem c_J2_add_2E5 (l : Launch) {D : gD} (hB : gBs D) (G : gH) (n : Nat) (la : Nat) (mc : Int32) (e1 : Nat) (fv : List Value) (c0_ : G la = some (.inl (15, [.int mc, .ref (gk D 0), .int 0]))) (c1_ : G e1 = some (.inl (5, fv))) (hzl : gz D ≤ la) : gMet l D yJ2_add_2 (ws_ yJ2_add_2 cJ2_add_2 4 none) 3 1 G n [.ref la, .ref e1, .ref (gk D 0), .int 0] (fun (v : Option Value) (G1 : gH) (n1 : Nat) => v = none ∧ n ≤ n1 ∧ gF G G1 n (fun q : Nat => q = la) ∧ G1 la = some (.inl (15, [.int mc, .ref n, .int 1])) ∧ G1 n = some (aR 10 (gup (fun _ => .null) 0 (.ref e1)))) gNox := by
  refine g_start (by decide) (Nat.le_of_ble_eq_true rfl) ?_
  intro p e s m below meth c ls C hnm hxt hI hl
  have hx := C.x
  have hb := C.b
  have hS : va_S (gA D) s.heap s.heap [] := va_S.rf
  have hz0 := hI.z
  have lc0_ := hI.lt c0_
  have lc1_ := hI.lt c1_
  have hF : gF G G n (fun q : Nat => q = la) := gF.rf _ _ _
  have hl : lv_has ls 4 [(0, .ref la), (1, .ref e1), (2, .ref (gk D 0)), (3, .int 0)] := hl
  have le0 : gk D 0 < gz D := hB.e0.1
  have ce0 : G (gk D 0) = some (aR 0 (fun _ => .null)) := hI.bs hB.e0
  refine lv_iload_n hx hb dJ2_add_2_0 rfl (lv_at hl 3 rfl) ?_
  refine lv_aload_n hx hb dJ2_add_2_1 rfl (lv_at hl 2 rfl) ?_
  refine g_alen (v := 0) C hI ce0 (by rfl) dJ2_add_2_2 ?_
  refine lv_icmp_ne (tgt := 11) hx hb dJ2_add_2_3 (by decide) (fun c_4574 => ?_) (fun c_4574 => ?_)
  · exact absurd (by decide) c_4574
  · skip
    refine lv_aload_n hx hb dJ2_add_2_6 rfl (lv_at hl 0 rfl) ?_
    refine g_V (As := []) (rest := []) (lv := [(0, .ref la), (1, .ref e1), (2, .ref (gk D 0)), (3, .int 0)]) C hI hS (c_J2_grow l hB G n la mc c0_ (by omega)) c0_ rfl rfl q238 q240 qs1 q81 q241 (⟨by decide, by decide, by decide⟩ : gArg _ 0) rfl ⟨by decide, by decide⟩ (by omega) hl rfl (Nat.le_of_ble_eq_true rfl) dJ2_add_2_7 (fun v4575 G4576 n4577 H locs hp4578 hI hS => ?_) gKx.no
    obtain ⟨rfl, hn4579, hF4580, c4581, c4582⟩ := hp4578
    refine W.widen (k := 1) (n := 200 * (1)) (by omega) (by omega) ?_
    have c1_ := hF4580.at c1_ (by omega) (g_nc c1_ c0_ (by decide))
    have ce0 := hF4580.at ce0 (by omega) (g_on ce0 c0_)
    have hF := hF.trans hF4580 (by omega) (fun q hq => (fun h => h ▸ rfl))
    refine lv_astore_n (lv' := [(2, .ref n), (0, .ref la), (1, .ref e1), (3, .int 0)]) hx hb dJ2_add_2_10 rfl hl (by decide) rfl (fun ls hl => ?_)
    refine lv_aload_n hx hb dJ2_add_2_11 rfl (lv_at hl 0 rfl) ?_
    refine lv_iload_n hx hb dJ2_add_2_12 rfl (lv_at hl 3 rfl) ?_
    refine lv_aload_n hx hb dJ2_add_2_13 rfl (lv_at hl 2 rfl) ?_
    refine g_aast C hI hS c4582 (by omega) c1_ rfl (gNw_in q3019 rfl) (gix nl0 (by omega) (by omega)) dJ2_add_2_14 (fun G4583 H locs e4584 hI hS => ?_)
    rw [gup_e nl0 (by omega)] at e4584
    have c1_ := gE_k e4584 c1_ (g_no c1_ c4582)
    have ce0 := gE_k e4584 ce0 (g_na ce0 c4582 (Or.inr (by decide)))
    have c4581 := gE_k e4584 c4581 (g_no c4581 c4582)
    have c4582 : G4583 n = some (aR 10 (gup (fun _ => .null) 0 (.ref e1))) := gE_s e4584
    have hF := gE_F e4584 hF (Or.inl (by omega))
    refine lv_aload_n hx hb dJ2_add_2_15 rfl (lv_at hl 1 rfl) ?_
    refine lv_iload_n hx hb dJ2_add_2_16 rfl (lv_at hl 3 rfl) ?_
    refine lv_iconst (v := 1) hx hb dJ2_add_2_17 (by decide) ?_
    refine lv_iadd hx hb dJ2_add_2_18 ?_
    rw [show ((0 : Int32) + 1 : Int32) = 1 from by decide]
    refine g_put (fs2 := [.int mc, .ref n, .int 1]) C hI hS c4581 (by omega) kc15 2 (Nat.le_of_ble_eq_true rfl) q163 (fun _ h9 => h9) rfl rfl rfl rfl dJ2_add_2_19 (fun G4586 H locs e4587 hI hS => ?_)
    have c1_ := gE_k e4587 c1_ (g_nc c1_ c4581 (by decide))
    have ce0 := gE_k e4587 ce0 (g_on ce0 c4581)
    have c4582 := gE_k e4587 c4582 (g_on c4582 c4581)
    have c4581 : G4586 la = some (.inl (15, [.int mc, .ref n, .int 1])) := gE_s e4587
    have hF := gE_F e4587 hF (Or.inr rfl)
    exact g_vret C hI hS (by omega) ⟨rfl, (by omega), hF, c4581, c4582⟩ dJ2_add_2_22
set_option maxHeartbeats 4000000 in
set_option maxRecDepth 100000 in
theorem c_J2_add_2N5 (l : Launch) {D : gD} (hB : gBs D) (G : gH) (n : Nat) (la : Nat) (mc : Int32) (ea : Nat) (sz : Int32) (e1 : Nat) (fv : List Value) (ev : Nat → Value) (kx : Nat) (c0_ : G la = some (.inl (15, [.int mc, .ref ea, .int sz]))) (c1_ : G ea = some (aR 10 ev)) (c2_ : G e1 = some (.inl (5, fv))) (hzl : gz D ≤ la) (hze : gz D ≤ ea) (hsz : sz = nI kx) (hk : kx < 10) : gMet l D yJ2_add_2 (ws_ yJ2_add_2 cJ2_add_2 4 none) 3 0 G n [.ref la, .ref e1, .ref ea, .int sz] (fun (v : Option Value) (G1 : gH) (n1 : Nat) => v = none ∧ n ≤ n1 ∧ gF G G1 n (fun q : Nat => q = la ∨ q = ea) ∧ G1 la = some (.inl (15, [.int mc, .ref ea, .int (nI (kx + 1))])) ∧ G1 ea = some (aR 10 (gup ev kx (.ref e1)))) gNox := by
  refine g_start (by decide) (Nat.le_of_ble_eq_true rfl) ?_
  intro p e s m below meth c ls C hnm hxt hI hl
  have hx := C.x
  have hb := C.b
  have hS : va_S (gA D) s.heap s.heap [] := va_S.rf
  have hz0 := hI.z
  have lc0_ := hI.lt c0_
  have lc1_ := hI.lt c1_
  have lc2_ := hI.lt c2_
  have hF : gF G G n (fun q : Nat => q = la ∨ q = ea) := gF.rf _ _ _
  have hl : lv_has ls 4 [(0, .ref la), (1, .ref e1), (2, .ref ea), (3, .int sz)] := hl
  refine lv_iload_n hx hb dJ2_add_2_0 rfl (lv_at hl 3 rfl) ?_
  refine lv_aload_n hx hb dJ2_add_2_1 rfl (lv_at hl 2 rfl) ?_
  refine g_alen (v := 10) C hI c1_ (by rfl) dJ2_add_2_2 ?_
  refine lv_icmp_ne (tgt := 11) hx hb dJ2_add_2_3 (by decide) (fun c_4588 => ?_) (fun c_4588 => ?_)
  · skip
    try have k_4589 : ¬ (kx = 10) := (not_congr (nI_eqE hsz nl10 (by omega) (by omega))).mp c_4588
    refine lv_aload_n hx hb dJ2_add_2_11 rfl (lv_at hl 2 rfl) ?_
    refine lv_iload_n hx hb dJ2_add_2_12 rfl (lv_at hl 3 rfl) ?_
    refine lv_aload_n hx hb dJ2_add_2_13 rfl (lv_at hl 1 rfl) ?_
    refine g_aast C hI hS c1_ (by omega) c2_ rfl (gNw_in q3019 rfl) (gix hsz (by omega) (by omega)) dJ2_add_2_14 (fun G4590 H locs e4591 hI hS => ?_)
    rw [gup_e hsz (by omega)] at e4591
    have c0_ := gE_k e4591 c0_ (g_no c0_ c1_)
    have c2_ := gE_k e4591 c2_ (g_no c2_ c1_)
    have c1_ : G4590 ea = some (aR 10 (gup ev kx (.ref e1))) := gE_s e4591
    have hF := gE_F e4591 hF (Or.inr (Or.inr (rfl)))
    refine lv_aload_n hx hb dJ2_add_2_15 rfl (lv_at hl 0 rfl) ?_
    refine lv_iload_n hx hb dJ2_add_2_16 rfl (lv_at hl 3 rfl) ?_
    refine lv_iconst (v := 1) hx hb dJ2_add_2_17 (by decide) ?_
    refine lv_iadd hx hb dJ2_add_2_18 ?_
    refine g_put (fs2 := [.int mc, .ref ea, .int (sz + 1)]) C hI hS c0_ (by omega) kc15 2 (Nat.le_of_ble_eq_true rfl) q163 (fun _ h9 => h9) rfl rfl rfl rfl dJ2_add_2_19 (fun G4593 H locs e4594 hI hS => ?_)
    have c1_ := gE_k e4594 c1_ (g_on c1_ c0_)
    have c2_ := gE_k e4594 c2_ (g_nc c2_ c0_ (by decide))
    have c0_ : G4593 la = some (.inl (15, [.int mc, .ref ea, .int (sz + 1)])) := gE_s e4594
    have hF := gE_F e4594 hF (Or.inr (Or.inl rfl))
    exact g_vret C hI hS (by omega) ⟨rfl, (by omega), hF, (by rw [show nI (kx + 1) = sz + 1 from (gadd hsz nl1).symm]; exact c0_), c1_⟩ dJ2_add_2_22
  · exact absurd c_4588 (by rw [hsz]; exact fun h => absurd ((nI_eq (by omega) (by omega)).mp (h.trans nl10)) (by omega))
set_option maxHeartbeats 4000000 in
set_option maxRecDepth 100000 in
theorem c_J2_addE5 (l : Launch) {D : gD} (hB : gBs D) (G : gH) (n : Nat) (la : Nat) (mc : Int32) (e1 : Nat) (fv : List Value) (c0_ : G la = some (.inl (15, [.int mc, .ref (gk D 0), .int 0]))) (c1_ : G e1 = some (.inl (5, fv))) (hzl : gz D ≤ la) : gMet l D yJ2_add (ws_ yJ2_add cJ2_add 2 (some FieldType.boolean)) 4 1 G n [.ref la, .ref e1] (fun (v : Option Value) (G1 : gH) (n1 : Nat) => v = some (.int 1) ∧ n ≤ n1 ∧ gF G G1 n (fun q : Nat => q = la) ∧ G1 la = some (.inl (15, [.int (mc + 1), .ref n, .int 1])) ∧ G1 n = some (aR 10 (gup (fun _ => .null) 0 (.ref e1)))) gNox := by
  refine g_start (by decide) (Nat.le_of_ble_eq_true rfl) ?_
  intro p e s m below meth c ls C hnm hxt hI hl
  have hx := C.x
  have hb := C.b
  have hS : va_S (gA D) s.heap s.heap [] := va_S.rf
  have hz0 := hI.z
  have lc0_ := hI.lt c0_
  have lc1_ := hI.lt c1_
  have hF : gF G G n (fun q : Nat => q = la) := gF.rf _ _ _
  have hl : lv_has ls 2 [(0, .ref la), (1, .ref e1)] := hl
  refine lv_aload_n hx hb dJ2_add_0 rfl (lv_at hl 0 rfl) ?_
  refine lv_dup hx hb dJ2_add_1 rfl ?_
  refine g_get C hI c0_ kc15 0 rfl q171 (u_same (C.ts _ q168)) dJ2_add_2 ?_
  refine lv_iconst (v := 1) hx hb dJ2_add_5 (by decide) ?_
  refine lv_iadd hx hb dJ2_add_6 ?_
  refine g_put (fs2 := [.int (mc + 1), .ref (gk D 0), .int 0]) C hI hS c0_ (by omega) kc15 0 (Nat.le_of_ble_eq_true rfl) q171 (u_same (C.ts _ q168)) rfl rfl rfl rfl dJ2_add_7 (fun G4595 H locs e4596 hI hS => ?_)
  have c1_ := gE_k e4596 c1_ (g_nc c1_ c0_ (by decide))
  have c0_ : G4595 la = some (.inl (15, [.int (mc + 1), .ref (gk D 0), .int 0])) := gE_s e4596
  have hF := gE_F e4596 hF (Or.inr rfl)
  refine lv_aload_n hx hb dJ2_add_10 rfl (lv_at hl 0 rfl) ?_
  refine lv_aload_n hx hb dJ2_add_11 rfl (lv_at hl 1 rfl) ?_
  refine lv_aload_n hx hb dJ2_add_12 rfl (lv_at hl 0 rfl) ?_
  refine g_get C hI c0_ kc15 1 rfl q160 (fun _ h9 => h9) dJ2_add_13 ?_
  refine lv_aload_n hx hb dJ2_add_16 rfl (lv_at hl 0 rfl) ?_
  refine g_get C hI c0_ kc15 2 rfl q163 (fun _ h9 => h9) dJ2_add_17 ?_
  refine g_V (As := [.ref e1, .ref (gk D 0), .int 0]) (rest := []) (lv := [(0, .ref la), (1, .ref e1)]) C hI hS (c_J2_add_2E5 l hB G4595 n la (mc + 1) e1 fv c0_ c1_ (by omega)) c0_ rfl rfl q234 q236 qs0 q81 q237 (⟨by decide, by decide, by decide⟩ : gArg _ 3) rfl ⟨by decide, by decide⟩ (by omega) hl rfl (Nat.le_of_ble_eq_true rfl) dJ2_add_20 (fun v4597 G4598 n4599 H locs hp4600 hI hS => ?_) gKx.no
  obtain ⟨rfl, hn4601, hF4602, c4603, c4604⟩ := hp4600
  refine W.widen (k := 1) (n := 200 * (1)) (by omega) (by omega) ?_
  have c1_ := hF4602.at c1_ (by omega) (g_nc c1_ c0_ (by decide))
  have hF := hF.trans hF4602 (by omega) (fun q hq => (fun h => h ▸ rfl))
  refine lv_iconst (v := 1) hx hb dJ2_add_23 (by decide) ?_
  exact g_zret C hI hS (by omega) rfl ⟨rfl, (by omega), hF, c4603, c4604⟩ dJ2_add_24
set_option maxHeartbeats 4000000 in
set_option maxRecDepth 100000 in
theorem c_J2_addN5 (l : Launch) {D : gD} (hB : gBs D) (G : gH) (n : Nat) (la : Nat) (mc : Int32) (ea : Nat) (sz : Int32) (e1 : Nat) (fv : List Value) (ev : Nat → Value) (kx : Nat) (c0_ : G la = some (.inl (15, [.int mc, .ref ea, .int sz]))) (c1_ : G ea = some (aR 10 ev)) (c2_ : G e1 = some (.inl (5, fv))) (hzl : gz D ≤ la) (hze : gz D ≤ ea) (hsz : sz = nI kx) (hk : kx < 10) : gMet l D yJ2_add (ws_ yJ2_add cJ2_add 2 (some FieldType.boolean)) 4 0 G n [.ref la, .ref e1] (fun (v : Option Value) (G1 : gH) (n1 : Nat) => v = some (.int 1) ∧ n ≤ n1 ∧ gF G G1 n (fun q : Nat => q = la ∨ q = ea) ∧ G1 la = some (.inl (15, [.int (mc + 1), .ref ea, .int (nI (kx + 1))])) ∧ G1 ea = some (aR 10 (gup ev kx (.ref e1)))) gNox := by
  refine g_start (by decide) (Nat.le_of_ble_eq_true rfl) ?_
  intro p e s m below meth c ls C hnm hxt hI hl
  have hx := C.x
  have hb := C.b
  have hS : va_S (gA D) s.heap s.heap [] := va_S.rf
  have hz0 := hI.z
  have lc0_ := hI.lt c0_
  have lc1_ := hI.lt c1_
  have lc2_ := hI.lt c2_
  have hF : gF G G n (fun q : Nat => q = la ∨ q = ea) := gF.rf _ _ _
  have hl : lv_has ls 2 [(0, .ref la), (1, .ref e1)] := hl
  refine lv_aload_n hx hb dJ2_add_0 rfl (lv_at hl 0 rfl) ?_
  refine lv_dup hx hb dJ2_add_1 rfl ?_
  refine g_get C hI c0_ kc15 0 rfl q171 (u_same (C.ts _ q168)) dJ2_add_2 ?_
  refine lv_iconst (v := 1) hx hb dJ2_add_5 (by decide) ?_
  refine lv_iadd hx hb dJ2_add_6 ?_
  refine g_put (fs2 := [.int (mc + 1), .ref ea, .int sz]) C hI hS c0_ (by omega) kc15 0 (Nat.le_of_ble_eq_true rfl) q171 (u_same (C.ts _ q168)) rfl rfl rfl rfl dJ2_add_7 (fun G4605 H locs e4606 hI hS => ?_)
  have c1_ := gE_k e4606 c1_ (g_on c1_ c0_)
  have c2_ := gE_k e4606 c2_ (g_nc c2_ c0_ (by decide))
  have c0_ : G4605 la = some (.inl (15, [.int (mc + 1), .ref ea, .int sz])) := gE_s e4606
  have hF := gE_F e4606 hF (Or.inr (Or.inl rfl))
  refine lv_aload_n hx hb dJ2_add_10 rfl (lv_at hl 0 rfl) ?_
  refine lv_aload_n hx hb dJ2_add_11 rfl (lv_at hl 1 rfl) ?_
  refine lv_aload_n hx hb dJ2_add_12 rfl (lv_at hl 0 rfl) ?_
  refine g_get C hI c0_ kc15 1 rfl q160 (fun _ h9 => h9) dJ2_add_13 ?_
  refine lv_aload_n hx hb dJ2_add_16 rfl (lv_at hl 0 rfl) ?_
  refine g_get C hI c0_ kc15 2 rfl q163 (fun _ h9 => h9) dJ2_add_17 ?_
  refine g_V (As := [.ref e1, .ref ea, .int sz]) (rest := []) (lv := [(0, .ref la), (1, .ref e1)]) C hI hS (c_J2_add_2N5 l hB G4605 n la (mc + 1) ea sz e1 fv ev kx c0_ c1_ c2_ (by omega) (by omega) hsz (by omega)) c0_ rfl rfl q234 q236 qs0 q81 q237 (⟨by decide, by decide, by decide⟩ : gArg _ 3) rfl ⟨by decide, by decide⟩ (by omega) hl rfl (Nat.le_of_ble_eq_true rfl) dJ2_add_20 (fun v4607 G4608 n4609 H locs hp4610 hI hS => ?_) gKx.no
  obtain ⟨rfl, hn4611, hF4612, c4613, c4614⟩ := hp4610
  refine W.widen (k := 0) (n := 200 * (0)) (by omega) (by omega) ?_
  have c2_ := hF4612.at c2_ (by omega) (fun h => h.elim (g_nc c2_ c0_ (by decide)) (g_no c2_ c1_))
  have hF := hF.trans hF4612 (by omega) (fun q hq => (fun h => h.elim (fun h => h ▸ (Or.inl rfl)) (fun h => h ▸ (Or.inr (rfl)))))
  refine lv_iconst (v := 1) hx hb dJ2_add_23 (by decide) ?_
  exact g_zret C hI hS (by omega) rfl ⟨rfl, (by omega), hF, c4613, c4614⟩ dJ2_add_24
set_option maxHeartbeats 4000000 in
set_option maxRecDepth 100000 in
theorem c_J2_add_2E6 (l : Launch) {D : gD} (hB : gBs D) (G : gH) (n : Nat) (la : Nat) (mc : Int32) (e1 : Nat) (fv : List Value) (c0_ : G la = some (.inl (15, [.int mc, .ref (gk D 0), .int 0]))) (c1_ : G e1 = some (.inl (6, fv))) (hzl : gz D ≤ la) : gMet l D yJ2_add_2 (ws_ yJ2_add_2 cJ2_add_2 4 none) 3 1 G n [.ref la, .ref e1, .ref (gk D 0), .int 0] (fun (v : Option Value) (G1 : gH) (n1 : Nat) => v = none ∧ n ≤ n1 ∧ gF G G1 n (fun q : Nat => q = la) ∧ G1 la = some (.inl (15, [.int mc, .ref n, .int 1])) ∧ G1 n = some (aR 10 (gup (fun _ => .null) 0 (.ref e1)))) gNox := by
  refine g_start (by decide) (Nat.le_of_ble_eq_true rfl) ?_
  intro p e s m below meth c ls C hnm hxt hI hl
  have hx := C.x
  have hb := C.b
  have hS : va_S (gA D) s.heap s.heap [] := va_S.rf
  have hz0 := hI.z
  have lc0_ := hI.lt c0_
  have lc1_ := hI.lt c1_
  have hF : gF G G n (fun q : Nat => q = la) := gF.rf _ _ _
  have hl : lv_has ls 4 [(0, .ref la), (1, .ref e1), (2, .ref (gk D 0)), (3, .int 0)] := hl
  have le0 : gk D 0 < gz D := hB.e0.1
  have ce0 : G (gk D 0) = some (aR 0 (fun _ => .null)) := hI.bs hB.e0
  refine lv_iload_n hx hb dJ2_add_2_0 rfl (lv_at hl 3 rfl) ?_
  refine lv_aload_n hx hb dJ2_add_2_1 rfl (lv_at hl 2 rfl) ?_
  refine g_alen (v := 0) C hI ce0 (by rfl) dJ2_add_2_2 ?_
  refine lv_icmp_ne (tgt := 11) hx hb dJ2_add_2_3 (by decide) (fun c_4615 => ?_) (fun c_4615 => ?_)
  · exact absurd (by decide) c_4615
  · skip
    refine lv_aload_n hx hb dJ2_add_2_6 rfl (lv_at hl 0 rfl) ?_
    refine g_V (As := []) (rest := []) (lv := [(0, .ref la), (1, .ref e1), (2, .ref (gk D 0)), (3, .int 0)]) C hI hS (c_J2_grow l hB G n la mc c0_ (by omega)) c0_ rfl rfl q238 q240 qs1 q81 q241 (⟨by decide, by decide, by decide⟩ : gArg _ 0) rfl ⟨by decide, by decide⟩ (by omega) hl rfl (Nat.le_of_ble_eq_true rfl) dJ2_add_2_7 (fun v4616 G4617 n4618 H locs hp4619 hI hS => ?_) gKx.no
    obtain ⟨rfl, hn4620, hF4621, c4622, c4623⟩ := hp4619
    refine W.widen (k := 1) (n := 200 * (1)) (by omega) (by omega) ?_
    have c1_ := hF4621.at c1_ (by omega) (g_nc c1_ c0_ (by decide))
    have ce0 := hF4621.at ce0 (by omega) (g_on ce0 c0_)
    have hF := hF.trans hF4621 (by omega) (fun q hq => (fun h => h ▸ rfl))
    refine lv_astore_n (lv' := [(2, .ref n), (0, .ref la), (1, .ref e1), (3, .int 0)]) hx hb dJ2_add_2_10 rfl hl (by decide) rfl (fun ls hl => ?_)
    refine lv_aload_n hx hb dJ2_add_2_11 rfl (lv_at hl 0 rfl) ?_
    refine lv_iload_n hx hb dJ2_add_2_12 rfl (lv_at hl 3 rfl) ?_
    refine lv_aload_n hx hb dJ2_add_2_13 rfl (lv_at hl 2 rfl) ?_
    refine g_aast C hI hS c4623 (by omega) c1_ rfl (gNw_in q3020 rfl) (gix nl0 (by omega) (by omega)) dJ2_add_2_14 (fun G4624 H locs e4625 hI hS => ?_)
    rw [gup_e nl0 (by omega)] at e4625
    have c1_ := gE_k e4625 c1_ (g_no c1_ c4623)
    have ce0 := gE_k e4625 ce0 (g_na ce0 c4623 (Or.inr (by decide)))
    have c4622 := gE_k e4625 c4622 (g_no c4622 c4623)
    have c4623 : G4624 n = some (aR 10 (gup (fun _ => .null) 0 (.ref e1))) := gE_s e4625
    have hF := gE_F e4625 hF (Or.inl (by omega))
    refine lv_aload_n hx hb dJ2_add_2_15 rfl (lv_at hl 1 rfl) ?_
    refine lv_iload_n hx hb dJ2_add_2_16 rfl (lv_at hl 3 rfl) ?_
    refine lv_iconst (v := 1) hx hb dJ2_add_2_17 (by decide) ?_
    refine lv_iadd hx hb dJ2_add_2_18 ?_
    rw [show ((0 : Int32) + 1 : Int32) = 1 from by decide]
    refine g_put (fs2 := [.int mc, .ref n, .int 1]) C hI hS c4622 (by omega) kc15 2 (Nat.le_of_ble_eq_true rfl) q163 (fun _ h9 => h9) rfl rfl rfl rfl dJ2_add_2_19 (fun G4627 H locs e4628 hI hS => ?_)
    have c1_ := gE_k e4628 c1_ (g_nc c1_ c4622 (by decide))
    have ce0 := gE_k e4628 ce0 (g_on ce0 c4622)
    have c4623 := gE_k e4628 c4623 (g_on c4623 c4622)
    have c4622 : G4627 la = some (.inl (15, [.int mc, .ref n, .int 1])) := gE_s e4628
    have hF := gE_F e4628 hF (Or.inr rfl)
    exact g_vret C hI hS (by omega) ⟨rfl, (by omega), hF, c4622, c4623⟩ dJ2_add_2_22
set_option maxHeartbeats 4000000 in
set_option maxRecDepth 100000 in
theorem c_J2_add_2N6 (l : Launch) {D : gD} (hB : gBs D) (G : gH) (n : Nat) (la : Nat) (mc : Int32) (ea : Nat) (sz : Int32) (e1 : Nat) (fv : List Value) (ev : Nat → Value) (kx : Nat) (c0_ : G la = some (.inl (15, [.int mc, .ref ea, .int sz]))) (c1_ : G ea = some (aR 10 ev)) (c2_ : G e1 = some (.inl (6, fv))) (hzl : gz D ≤ la) (hze : gz D ≤ ea) (hsz : sz = nI kx) (hk : kx < 10) : gMet l D yJ2_add_2 (ws_ yJ2_add_2 cJ2_add_2 4 none) 3 0 G n [.ref la, .ref e1, .ref ea, .int sz] (fun (v : Option Value) (G1 : gH) (n1 : Nat) => v = none ∧ n ≤ n1 ∧ gF G G1 n (fun q : Nat => q = la ∨ q = ea) ∧ G1 la = some (.inl (15, [.int mc, .ref ea, .int (nI (kx + 1))])) ∧ G1 ea = some (aR 10 (gup ev kx (.ref e1)))) gNox := by
  refine g_start (by decide) (Nat.le_of_ble_eq_true rfl) ?_
  intro p e s m below meth c ls C hnm hxt hI hl
  have hx := C.x
  have hb := C.b
  have hS : va_S (gA D) s.heap s.heap [] := va_S.rf
  have hz0 := hI.z
  have lc0_ := hI.lt c0_
  have lc1_ := hI.lt c1_
  have lc2_ := hI.lt c2_
  have hF : gF G G n (fun q : Nat => q = la ∨ q = ea) := gF.rf _ _ _
  have hl : lv_has ls 4 [(0, .ref la), (1, .ref e1), (2, .ref ea), (3, .int sz)] := hl
  refine lv_iload_n hx hb dJ2_add_2_0 rfl (lv_at hl 3 rfl) ?_
  refine lv_aload_n hx hb dJ2_add_2_1 rfl (lv_at hl 2 rfl) ?_
  refine g_alen (v := 10) C hI c1_ (by rfl) dJ2_add_2_2 ?_
  refine lv_icmp_ne (tgt := 11) hx hb dJ2_add_2_3 (by decide) (fun c_4629 => ?_) (fun c_4629 => ?_)
  · skip
    try have k_4630 : ¬ (kx = 10) := (not_congr (nI_eqE hsz nl10 (by omega) (by omega))).mp c_4629
    refine lv_aload_n hx hb dJ2_add_2_11 rfl (lv_at hl 2 rfl) ?_
    refine lv_iload_n hx hb dJ2_add_2_12 rfl (lv_at hl 3 rfl) ?_
    refine lv_aload_n hx hb dJ2_add_2_13 rfl (lv_at hl 1 rfl) ?_
    refine g_aast C hI hS c1_ (by omega) c2_ rfl (gNw_in q3020 rfl) (gix hsz (by omega) (by omega)) dJ2_add_2_14 (fun G4631 H locs e4632 hI hS => ?_)
    rw [gup_e hsz (by omega)] at e4632
    have c0_ := gE_k e4632 c0_ (g_no c0_ c1_)
    have c2_ := gE_k e4632 c2_ (g_no c2_ c1_)
    have c1_ : G4631 ea = some (aR 10 (gup ev kx (.ref e1))) := gE_s e4632
    have hF := gE_F e4632 hF (Or.inr (Or.inr (rfl)))
    refine lv_aload_n hx hb dJ2_add_2_15 rfl (lv_at hl 0 rfl) ?_
    refine lv_iload_n hx hb dJ2_add_2_16 rfl (lv_at hl 3 rfl) ?_
    refine lv_iconst (v := 1) hx hb dJ2_add_2_17 (by decide) ?_
    refine lv_iadd hx hb dJ2_add_2_18 ?_
    refine g_put (fs2 := [.int mc, .ref ea, .int (sz + 1)]) C hI hS c0_ (by omega) kc15 2 (Nat.le_of_ble_eq_true rfl) q163 (fun _ h9 => h9) rfl rfl rfl rfl dJ2_add_2_19 (fun G4634 H locs e4635 hI hS => ?_)
    have c1_ := gE_k e4635 c1_ (g_on c1_ c0_)
    have c2_ := gE_k e4635 c2_ (g_nc c2_ c0_ (by decide))
    have c0_ : G4634 la = some (.inl (15, [.int mc, .ref ea, .int (sz + 1)])) := gE_s e4635
    have hF := gE_F e4635 hF (Or.inr (Or.inl rfl))
    exact g_vret C hI hS (by omega) ⟨rfl, (by omega), hF, (by rw [show nI (kx + 1) = sz + 1 from (gadd hsz nl1).symm]; exact c0_), c1_⟩ dJ2_add_2_22
  · exact absurd c_4629 (by rw [hsz]; exact fun h => absurd ((nI_eq (by omega) (by omega)).mp (h.trans nl10)) (by omega))
set_option maxHeartbeats 4000000 in
set_option maxRecDepth 100000 in
theorem c_J2_addE6 (l : Launch) {D : gD} (hB : gBs D) (G : gH) (n : Nat) (la : Nat) (mc : Int32) (e1 : Nat) (fv : List Value) (c0_ : G la = some (.inl (15, [.int mc, .ref (gk D 0), .int 0]))) (c1_ : G e1 = some (.inl (6, fv))) (hzl : gz D ≤ la) : gMet l D yJ2_add (ws_ yJ2_add cJ2_add 2 (some FieldType.boolean)) 4 1 G n [.ref la, .ref e1] (fun (v : Option Value) (G1 : gH) (n1 : Nat) => v = some (.int 1) ∧ n ≤ n1 ∧ gF G G1 n (fun q : Nat => q = la) ∧ G1 la = some (.inl (15, [.int (mc + 1), .ref n, .int 1])) ∧ G1 n = some (aR 10 (gup (fun _ => .null) 0 (.ref e1)))) gNox := by
  refine g_start (by decide) (Nat.le_of_ble_eq_true rfl) ?_
  intro p e s m below meth c ls C hnm hxt hI hl
  have hx := C.x
  have hb := C.b
  have hS : va_S (gA D) s.heap s.heap [] := va_S.rf
  have hz0 := hI.z
  have lc0_ := hI.lt c0_
  have lc1_ := hI.lt c1_
  have hF : gF G G n (fun q : Nat => q = la) := gF.rf _ _ _
  have hl : lv_has ls 2 [(0, .ref la), (1, .ref e1)] := hl
  refine lv_aload_n hx hb dJ2_add_0 rfl (lv_at hl 0 rfl) ?_
  refine lv_dup hx hb dJ2_add_1 rfl ?_
  refine g_get C hI c0_ kc15 0 rfl q171 (u_same (C.ts _ q168)) dJ2_add_2 ?_
  refine lv_iconst (v := 1) hx hb dJ2_add_5 (by decide) ?_
  refine lv_iadd hx hb dJ2_add_6 ?_
  refine g_put (fs2 := [.int (mc + 1), .ref (gk D 0), .int 0]) C hI hS c0_ (by omega) kc15 0 (Nat.le_of_ble_eq_true rfl) q171 (u_same (C.ts _ q168)) rfl rfl rfl rfl dJ2_add_7 (fun G4636 H locs e4637 hI hS => ?_)
  have c1_ := gE_k e4637 c1_ (g_nc c1_ c0_ (by decide))
  have c0_ : G4636 la = some (.inl (15, [.int (mc + 1), .ref (gk D 0), .int 0])) := gE_s e4637
  have hF := gE_F e4637 hF (Or.inr rfl)
  refine lv_aload_n hx hb dJ2_add_10 rfl (lv_at hl 0 rfl) ?_
  refine lv_aload_n hx hb dJ2_add_11 rfl (lv_at hl 1 rfl) ?_
  refine lv_aload_n hx hb dJ2_add_12 rfl (lv_at hl 0 rfl) ?_
  refine g_get C hI c0_ kc15 1 rfl q160 (fun _ h9 => h9) dJ2_add_13 ?_
  refine lv_aload_n hx hb dJ2_add_16 rfl (lv_at hl 0 rfl) ?_
  refine g_get C hI c0_ kc15 2 rfl q163 (fun _ h9 => h9) dJ2_add_17 ?_
  refine g_V (As := [.ref e1, .ref (gk D 0), .int 0]) (rest := []) (lv := [(0, .ref la), (1, .ref e1)]) C hI hS (c_J2_add_2E6 l hB G4636 n la (mc + 1) e1 fv c0_ c1_ (by omega)) c0_ rfl rfl q234 q236 qs0 q81 q237 (⟨by decide, by decide, by decide⟩ : gArg _ 3) rfl ⟨by decide, by decide⟩ (by omega) hl rfl (Nat.le_of_ble_eq_true rfl) dJ2_add_20 (fun v4638 G4639 n4640 H locs hp4641 hI hS => ?_) gKx.no
  obtain ⟨rfl, hn4642, hF4643, c4644, c4645⟩ := hp4641
  refine W.widen (k := 1) (n := 200 * (1)) (by omega) (by omega) ?_
  have c1_ := hF4643.at c1_ (by omega) (g_nc c1_ c0_ (by decide))
  have hF := hF.trans hF4643 (by omega) (fun q hq => (fun h => h ▸ rfl))
  refine lv_iconst (v := 1) hx hb dJ2_add_23 (by decide) ?_
  exact g_zret C hI hS (by omega) rfl ⟨rfl, (by omega), hF, c4644, c4645⟩ dJ2_add_24
set_option maxHeartbeats 4000000 in
set_option maxRecDepth 100000 in
theorem c_J2_addN6 (l : Launch) {D : gD} (hB : gBs D) (G : gH) (n : Nat) (la : Nat) (mc : Int32) (ea : Nat) (sz : Int32) (e1 : Nat) (fv : List Value) (ev : Nat → Value) (kx : Nat) (c0_ : G la = some (.inl (15, [.int mc, .ref ea, .int sz]))) (c1_ : G ea = some (aR 10 ev)) (c2_ : G e1 = some (.inl (6, fv))) (hzl : gz D ≤ la) (hze : gz D ≤ ea) (hsz : sz = nI kx) (hk : kx < 10) : gMet l D yJ2_add (ws_ yJ2_add cJ2_add 2 (some FieldType.boolean)) 4 0 G n [.ref la, .ref e1] (fun (v : Option Value) (G1 : gH) (n1 : Nat) => v = some (.int 1) ∧ n ≤ n1 ∧ gF G G1 n (fun q : Nat => q = la ∨ q = ea) ∧ G1 la = some (.inl (15, [.int (mc + 1), .ref ea, .int (nI (kx + 1))])) ∧ G1 ea = some (aR 10 (gup ev kx (.ref e1)))) gNox := by
  refine g_start (by decide) (Nat.le_of_ble_eq_true rfl) ?_
  intro p e s m below meth c ls C hnm hxt hI hl
  have hx := C.x
  have hb := C.b
  have hS : va_S (gA D) s.heap s.heap [] := va_S.rf
  have hz0 := hI.z
  have lc0_ := hI.lt c0_
  have lc1_ := hI.lt c1_
  have lc2_ := hI.lt c2_
  have hF : gF G G n (fun q : Nat => q = la ∨ q = ea) := gF.rf _ _ _
  have hl : lv_has ls 2 [(0, .ref la), (1, .ref e1)] := hl
  refine lv_aload_n hx hb dJ2_add_0 rfl (lv_at hl 0 rfl) ?_
  refine lv_dup hx hb dJ2_add_1 rfl ?_
  refine g_get C hI c0_ kc15 0 rfl q171 (u_same (C.ts _ q168)) dJ2_add_2 ?_
  refine lv_iconst (v := 1) hx hb dJ2_add_5 (by decide) ?_
  refine lv_iadd hx hb dJ2_add_6 ?_
  refine g_put (fs2 := [.int (mc + 1), .ref ea, .int sz]) C hI hS c0_ (by omega) kc15 0 (Nat.le_of_ble_eq_true rfl) q171 (u_same (C.ts _ q168)) rfl rfl rfl rfl dJ2_add_7 (fun G4646 H locs e4647 hI hS => ?_)
  have c1_ := gE_k e4647 c1_ (g_on c1_ c0_)
  have c2_ := gE_k e4647 c2_ (g_nc c2_ c0_ (by decide))
  have c0_ : G4646 la = some (.inl (15, [.int (mc + 1), .ref ea, .int sz])) := gE_s e4647
  have hF := gE_F e4647 hF (Or.inr (Or.inl rfl))
  refine lv_aload_n hx hb dJ2_add_10 rfl (lv_at hl 0 rfl) ?_
  refine lv_aload_n hx hb dJ2_add_11 rfl (lv_at hl 1 rfl) ?_
  refine lv_aload_n hx hb dJ2_add_12 rfl (lv_at hl 0 rfl) ?_
  refine g_get C hI c0_ kc15 1 rfl q160 (fun _ h9 => h9) dJ2_add_13 ?_
  refine lv_aload_n hx hb dJ2_add_16 rfl (lv_at hl 0 rfl) ?_
  refine g_get C hI c0_ kc15 2 rfl q163 (fun _ h9 => h9) dJ2_add_17 ?_
  refine g_V (As := [.ref e1, .ref ea, .int sz]) (rest := []) (lv := [(0, .ref la), (1, .ref e1)]) C hI hS (c_J2_add_2N6 l hB G4646 n la (mc + 1) ea sz e1 fv ev kx c0_ c1_ c2_ (by omega) (by omega) hsz (by omega)) c0_ rfl rfl q234 q236 qs0 q81 q237 (⟨by decide, by decide, by decide⟩ : gArg _ 3) rfl ⟨by decide, by decide⟩ (by omega) hl rfl (Nat.le_of_ble_eq_true rfl) dJ2_add_20 (fun v4648 G4649 n4650 H locs hp4651 hI hS => ?_) gKx.no
  obtain ⟨rfl, hn4652, hF4653, c4654, c4655⟩ := hp4651
  refine W.widen (k := 0) (n := 200 * (0)) (by omega) (by omega) ?_
  have c2_ := hF4653.at c2_ (by omega) (fun h => h.elim (g_nc c2_ c0_ (by decide)) (g_no c2_ c1_))
  have hF := hF.trans hF4653 (by omega) (fun q hq => (fun h => h.elim (fun h => h ▸ (Or.inl rfl)) (fun h => h ▸ (Or.inr (rfl)))))
  refine lv_iconst (v := 1) hx hb dJ2_add_23 (by decide) ?_
  exact g_zret C hI hS (by omega) rfl ⟨rfl, (by omega), hF, c4654, c4655⟩ dJ2_add_24
set_option maxHeartbeats 4000000 in
set_option maxRecDepth 100000 in
theorem c_J2_size (l : Launch) {D : gD} (hB : gBs D) (G : gH) (n : Nat) (la : Nat) (mc : Int32) (ea : Nat) (sz : Int32) (c0_ : G la = some (.inl (15, [.int mc, .ref ea, .int sz]))) : gMet l D yJ2_size (ws_ yJ2_size cJ2_size 1 (some FieldType.int)) 1 0 G n [.ref la] (fun (v : Option Value) (G1 : gH) (n1 : Nat) => v = some (.int sz) ∧ G1 = G ∧ n1 = n) gNox := by
  refine g_start (by decide) (Nat.le_of_ble_eq_true rfl) ?_
  intro p e s m below meth c ls C hnm hxt hI hl
  have hx := C.x
  have hb := C.b
  have hS : va_S (gA D) s.heap s.heap [] := va_S.rf
  have hz0 := hI.z
  have lc0_ := hI.lt c0_
  have hF : gF G G n gNone := gF.rf _ _ _
  have hl : lv_has ls 1 [(0, .ref la)] := hl
  refine lv_aload_n hx hb dJ2_size_0 rfl (lv_at hl 0 rfl) ?_
  refine g_get C hI c0_ kc15 2 rfl q163 (fun _ h9 => h9) dJ2_size_1 ?_
  exact g_iret C hI hS (by omega) ⟨rfl, rfl, rfl⟩ dJ2_size_4
set_option maxHeartbeats 4000000 in
set_option maxRecDepth 100000 in
theorem c_J2_elementData (l : Launch) {D : gD} (hB : gBs D) (G : gH) (n : Nat) (la : Nat) (mc : Int32) (ea : Nat) (sz : Int32) (ev : Nat → Value) (kx : Nat) (jx : Nat) (vx : Nat) (a1 : Int32) (c0_ : G la = some (.inl (15, [.int mc, .ref ea, .int sz]))) (c1_ : G ea = some (aR 10 ev)) (ej : a1 = nI jx) (hj : jx < 10) (hv : ev jx = .ref vx) : gMet l D yJ2_elementData (ws_ yJ2_elementData cJ2_elementData 2 (some (FieldType.object "java/lang/Object"))) 1 0 G n [.ref la, .int a1] (fun (v : Option Value) (G1 : gH) (n1 : Nat) => v = some (.ref vx) ∧ G1 = G ∧ n1 = n) gNox := by
  refine g_start (by decide) (Nat.le_of_ble_eq_true rfl) ?_
  intro p e s m below meth c ls C hnm hxt hI hl
  have hx := C.x
  have hb := C.b
  have hS : va_S (gA D) s.heap s.heap [] := va_S.rf
  have hz0 := hI.z
  have lc0_ := hI.lt c0_
  have lc1_ := hI.lt c1_
  have hF : gF G G n gNone := gF.rf _ _ _
  have hl : lv_has ls 2 [(0, .ref la), (1, .int a1)] := hl
  refine lv_aload_n hx hb dJ2_elementData_0 rfl (lv_at hl 0 rfl) ?_
  refine g_get C hI c0_ kc15 1 rfl q160 (fun _ h9 => h9) dJ2_elementData_1 ?_
  refine lv_iload_n hx hb dJ2_elementData_4 rfl (lv_at hl 1 rfl) ?_
  refine g_aald (v := .ref vx) C hI c1_ (gix ej (by omega) (by omega)) ((gixv (f := ev) ej (by omega)).trans hv) dJ2_elementData_5 ?_
  exact g_aret C hI hS (by omega) (by first | exact Or.inl ⟨_, rfl⟩ | exact Or.inr ⟨_, rfl⟩) (Or.inr ⟨_, rfl⟩) ⟨rfl, rfl, rfl⟩ dJ2_elementData_6
set_option maxHeartbeats 4000000 in
set_option maxRecDepth 100000 in
theorem c_J2_get (l : Launch) {D : gD} (hB : gBs D) (G : gH) (n : Nat) (la : Nat) (mc : Int32) (ea : Nat) (sz : Int32) (ev : Nat → Value) (kx : Nat) (jx : Nat) (vx : Nat) (a1 : Int32) (c0_ : G la = some (.inl (15, [.int mc, .ref ea, .int sz]))) (c1_ : G ea = some (aR 10 ev)) (ej : a1 = nI jx) (hsz : sz = nI kx) (hk : kx ≤ 10) (hj : jx < kx) (hv : ev jx = .ref vx) : gMet l D yJ2_get (ws_ yJ2_get cJ2_get 2 (some (FieldType.object "java/lang/Object"))) 3 0 G n [.ref la, .int a1] (fun (v : Option Value) (G1 : gH) (n1 : Nat) => v = some (.ref vx) ∧ G1 = G ∧ n1 = n) gNox := by
  refine g_start (by decide) (Nat.le_of_ble_eq_true rfl) ?_
  intro p e s m below meth c ls C hnm hxt hI hl
  have hx := C.x
  have hb := C.b
  have hS : va_S (gA D) s.heap s.heap [] := va_S.rf
  have hz0 := hI.z
  have lc0_ := hI.lt c0_
  have lc1_ := hI.lt c1_
  have hF : gF G G n gNone := gF.rf _ _ _
  have hl : lv_has ls 2 [(0, .ref la), (1, .int a1)] := hl
  refine lv_iload_n hx hb dJ2_get_0 rfl (lv_at hl 1 rfl) ?_
  refine lv_aload_n hx hb dJ2_get_1 rfl (lv_at hl 0 rfl) ?_
  refine g_get C hI c0_ kc15 2 rfl q163 (fun _ h9 => h9) dJ2_get_2 ?_
  refine g_S (As := [.int a1, .int sz]) (rest := []) (lv := [(0, .ref la), (1, .int a1)]) C hI hS (c_J19_checkIndex l hB G n jx kx a1 sz  ej hsz hj (by omega)) q598 q599 q101 q600 (⟨by decide, by decide, by decide⟩ : gArg _ 2) rfl ⟨by decide, by decide⟩ (by omega) hl rfl (Nat.le_of_ble_eq_true rfl) dJ2_get_5 (fun v4656 G4657 n4658 H locs hp4659 hI hS => ?_) gKx.no
  obtain ⟨rfl, eG4657, en4658⟩ := hp4659
  refine W.widen (k := 0) (n := 200 * (0)) (by omega) (by omega) ?_
  rw [eG4657, en4658] at hI
  refine lv_pop hx hb dJ2_get_8 rfl ?_
  refine lv_aload_n hx hb dJ2_get_9 rfl (lv_at hl 0 rfl) ?_
  refine lv_iload_n hx hb dJ2_get_10 rfl (lv_at hl 1 rfl) ?_
  refine g_V (As := [.int a1]) (rest := []) (lv := [(0, .ref la), (1, .int a1)]) C hI hS (c_J2_elementData l hB G n la mc ea sz ev kx jx vx a1 c0_ c1_ ej (by omega) hv) c0_ rfl rfl q604 q605 q606 q81 q607 (⟨by decide, by decide, by decide⟩ : gArg _ 1) rfl ⟨by decide, by decide⟩ (by omega) hl rfl (Nat.le_of_ble_eq_true rfl) dJ2_get_11 (fun v4662 G4663 n4664 H locs hp4665 hI hS => ?_) gKx.no
  obtain ⟨rfl, eG4663, en4664⟩ := hp4665
  refine W.widen (k := 0) (n := 200 * (0)) (by omega) (by omega) ?_
  rw [eG4663, en4664] at hI
  exact g_aret C hI hS (by omega) (by first | exact Or.inl ⟨_, rfl⟩ | exact Or.inr ⟨_, rfl⟩) (Or.inr ⟨_, rfl⟩) ⟨rfl, rfl, rfl⟩ dJ2_get_14
set_option maxHeartbeats 4000000 in
set_option maxRecDepth 100000 in
theorem c_J24_init (l : Launch) {D : gD} (hB : gBs D) (G : gH) (n : Nat) (la : Nat) (mc : Int32) (ea : Nat) (sz : Int32) (ia : Nat) (c0_ : G ia = some (.inl (18, [.int 0, .int 0, .int 0, .null]))) (c1_ : G la = some (.inl (15, [.int mc, .ref ea, .int sz]))) (hzi : gz D ≤ ia) : gMet l D yJ24_init (ws_ yJ24_init cJ24_init 2 none) 2 0 G n [.ref ia, .ref la] (fun (v : Option Value) (G1 : gH) (n1 : Nat) => v = none ∧ n ≤ n1 ∧ gF G G1 n (fun q : Nat => q = ia) ∧ G1 ia = some (.inl (18, [.int 0, .int (-1), .int mc, .ref la]))) gNox := by
  refine g_start (by decide) (Nat.le_of_ble_eq_true rfl) ?_
  intro p e s m below meth c ls C hnm hxt hI hl
  have hx := C.x
  have hb := C.b
  have hS : va_S (gA D) s.heap s.heap [] := va_S.rf
  have hz0 := hI.z
  have lc0_ := hI.lt c0_
  have lc1_ := hI.lt c1_
  have hF : gF G G n (fun q : Nat => q = ia) := gF.rf _ _ _
  have hl : lv_has ls 2 [(0, .ref ia), (1, .ref la)] := hl
  refine lv_aload_n hx hb dJ24_init_0 rfl (lv_at hl 0 rfl) ?_
  refine lv_aload_n hx hb dJ24_init_1 rfl (lv_at hl 1 rfl) ?_
  refine g_putF (fs2 := [.int 0, .int 0, .int 0, .ref la]) C hnm hI hS c0_ (by omega) kc18 3 (Nat.le_of_ble_eq_true rfl) q874 (fun _ h9 => h9) rfl rfl rfl rfl rfl dJ24_init_2 (fun G4668 H locs e4669 hI hS => ?_)
  have c1_ := gE_k e4669 c1_ (g_nc c1_ c0_ (by decide))
  have c0_ : G4668 ia = some (.inl (18, [.int 0, .int 0, .int 0, .ref la])) := gE_s e4669
  have hF := gE_F e4669 hF (Or.inr rfl)
  refine lv_aload_n hx hb dJ24_init_5 rfl (lv_at hl 0 rfl) ?_
  refine W.objInit hx hb C.ow (C.ts _ q868) (C.ts _ q135) (C.ts _ q136) rfl (by rw [C.ml]; exact hl.1) rfl dJ24_init_6 (show 1 ≤ 2 by decide) (show _ ≤ 60 * 2 by simp [Value.category]) ?_
  refine W.eq (g2 := F0 m 9 ls []) rfl ?_
  refine lv_aload_n hx hb dJ24_init_9 rfl (lv_at hl 0 rfl) ?_
  refine lv_iconst (v := (-1)) hx hb dJ24_init_10 (by decide) ?_
  refine g_put (fs2 := [.int 0, .int (-1), .int 0, .ref la]) C hI hS c0_ (by omega) kc18 1 (Nat.le_of_ble_eq_true rfl) q872 (fun _ h9 => h9) rfl rfl rfl rfl dJ24_init_11 (fun G4670 H locs e4671 hI hS => ?_)
  have c1_ := gE_k e4671 c1_ (g_nc c1_ c0_ (by decide))
  have c0_ : G4670 ia = some (.inl (18, [.int 0, .int (-1), .int 0, .ref la])) := gE_s e4671
  have hF := gE_F e4671 hF (Or.inr rfl)
  refine lv_aload_n hx hb dJ24_init_14 rfl (lv_at hl 0 rfl) ?_
  refine lv_aload_n hx hb dJ24_init_15 rfl (lv_at hl 0 rfl) ?_
  refine g_get C hI c0_ kc18 3 rfl q874 (fun _ h9 => h9) dJ24_init_16 ?_
  refine g_get C hI c1_ kc15 0 rfl q167 (u_same (C.ts _ q168)) dJ24_init_19 ?_
  refine g_put (fs2 := [.int 0, .int (-1), .int mc, .ref la]) C hI hS c0_ (by omega) kc18 2 (Nat.le_of_ble_eq_true rfl) q873 (fun _ h9 => h9) rfl rfl rfl rfl dJ24_init_22 (fun G4672 H locs e4673 hI hS => ?_)
  have c1_ := gE_k e4673 c1_ (g_nc c1_ c0_ (by decide))
  have c0_ : G4672 ia = some (.inl (18, [.int 0, .int (-1), .int mc, .ref la])) := gE_s e4673
  have hF := gE_F e4673 hF (Or.inr rfl)
  exact g_vret C hI hS (by omega) ⟨rfl, (by omega), hF, c0_⟩ dJ24_init_25
set_option maxHeartbeats 4000000 in
set_option maxRecDepth 100000 in
theorem c_J2_iterator (l : Launch) {D : gD} (hB : gBs D) (G : gH) (n : Nat) (la : Nat) (mc : Int32) (ea : Nat) (sz : Int32) (c0_ : G la = some (.inl (15, [.int mc, .ref ea, .int sz]))) : gMet l D yJ2_iterator (ws_ yJ2_iterator cJ2_iterator 1 (some (FieldType.object "java/util/Iterator"))) 3 1 G n [.ref la] (fun (v : Option Value) (G1 : gH) (n1 : Nat) => v = some (.ref n) ∧ n ≤ n1 ∧ gF G G1 n gNone ∧ G1 n = some (.inl (18, [.int 0, .int (-1), .int mc, .ref la]))) gNox := by
  refine g_start (by decide) (Nat.le_of_ble_eq_true rfl) ?_
  intro p e s m below meth c ls C hnm hxt hI hl
  have hx := C.x
  have hb := C.b
  have hS : va_S (gA D) s.heap s.heap [] := va_S.rf
  have hz0 := hI.z
  have lc0_ := hI.lt c0_
  have hF : gF G G n gNone := gF.rf _ _ _
  have hl : lv_has ls 1 [(0, .ref la)] := hl
  refine g_new (fs := [.int 0, .int 0, .int 0, .null]) C hI hS kc18 rfl q863 q864 q106 (by decide) (by omega) dJ2_iterator_0 (fun G4674 H e4675 hI hS => ?_)
  have c0_ := gE_k e4675 c0_ (by omega)
  have c4676 : G4674 n = some (.inl (18, [.int 0, .int 0, .int 0, .null])) := gE_s e4675
  have hF := gE_F e4675 hF (Or.inl (by omega))
  refine lv_dup hx hb dJ2_iterator_3 rfl ?_
  refine lv_aload_n hx hb dJ2_iterator_4 rfl (lv_at hl 0 rfl) ?_
  refine g_I (As := [.ref la]) (rest := [.ref n]) (lv := [(0, .ref la)]) C hI hS (c_J24_init l hB G4674 (n + 1) la mc ea sz n c4676 c0_ (by omega)) rfl q865 q866 q106 q867 (⟨by decide, by decide, by decide⟩ : gArg _ 1) rfl ⟨by decide, by decide⟩ (by omega) hl rfl (Nat.le_of_ble_eq_true rfl) dJ2_iterator_5 (fun v4677 G4678 n4679 H locs hp4680 hI hS => ?_) gKx.no
  obtain ⟨rfl, hn4681, hF4682, c4683⟩ := hp4680
  refine W.widen (k := 1) (n := 200 * (1)) (by omega) (by omega) ?_
  have c0_ := hF4682.at c0_ (by omega) (g_nc c0_ c4676 (by decide))
  have hF := hF.trans hF4682 (by omega) (fun q hq => (fun h => by exfalso; omega))
  exact g_aret C hI hS (by omega) (by first | exact Or.inl ⟨_, rfl⟩ | exact Or.inr ⟨_, rfl⟩) (Or.inr ⟨_, rfl⟩) ⟨rfl, (by omega), hF, c4683⟩ dJ2_iterator_8
set_option maxHeartbeats 4000000 in
set_option maxRecDepth 100000 in
theorem c_J24_hasNext (l : Launch) {D : gD} (hB : gBs D) (G : gH) (n : Nat) (la : Nat) (mc : Int32) (ea : Nat) (sz : Int32) (ia : Nat) (cur : Int32) (lr : Int32) (em : Int32) (c0_ : G ia = some (.inl (18, [.int cur, .int lr, .int em, .ref la]))) (c1_ : G la = some (.inl (15, [.int mc, .ref ea, .int sz]))) : gMet l D yJ24_hasNext (ws_ yJ24_hasNext cJ24_hasNext 1 (some FieldType.boolean)) 1 0 G n [.ref ia] (fun (v : Option Value) (G1 : gH) (n1 : Nat) => v = some (.int (if cur = sz then 0 else 1)) ∧ G1 = G ∧ n1 = n) gNox := by
  refine g_start (by decide) (Nat.le_of_ble_eq_true rfl) ?_
  intro p e s m below meth c ls C hnm hxt hI hl
  have hx := C.x
  have hb := C.b
  have hS : va_S (gA D) s.heap s.heap [] := va_S.rf
  have hz0 := hI.z
  have lc0_ := hI.lt c0_
  have lc1_ := hI.lt c1_
  have hF : gF G G n gNone := gF.rf _ _ _
  have hl : lv_has ls 1 [(0, .ref ia)] := hl
  refine lv_aload_n hx hb dJ24_hasNext_0 rfl (lv_at hl 0 rfl) ?_
  refine g_get C hI c0_ kc18 0 rfl q871 (fun _ h9 => h9) dJ24_hasNext_1 ?_
  refine lv_aload_n hx hb dJ24_hasNext_4 rfl (lv_at hl 0 rfl) ?_
  refine g_get C hI c0_ kc18 3 rfl q874 (fun _ h9 => h9) dJ24_hasNext_5 ?_
  refine g_getN C hI c1_ kc15 2 rfl (gNw_in q162 rfl) (fun _ h9 => h9) dJ24_hasNext_8 ?_
  refine lv_icmp_eq (tgt := 18) hx hb dJ24_hasNext_11 (by decide) (fun c_4684 => ?_) (fun c_4684 => ?_)
  · skip
    refine lv_iconst (v := 0) hx hb dJ24_hasNext_18 (by decide) ?_
    exact g_zret C hI hS (by omega) rfl ⟨(by simp [eq_true c_4684]), rfl, rfl⟩ dJ24_hasNext_19
  · skip
    refine lv_iconst (v := 1) hx hb dJ24_hasNext_14 (by decide) ?_
    refine lv_goto (tgt := 19) hx hb dJ24_hasNext_15 (by decide) ?_
    exact g_zret C hI hS (by omega) rfl ⟨(by simp [c_4684]), rfl, rfl⟩ dJ24_hasNext_19
set_option maxHeartbeats 4000000 in
set_option maxRecDepth 100000 in
theorem c_J24_checkForComodification (l : Launch) {D : gD} (hB : gBs D) (G : gH) (n : Nat) (la : Nat) (mc : Int32) (ea : Nat) (sz : Int32) (ia : Nat) (cur : Int32) (lr : Int32) (c0_ : G ia = some (.inl (18, [.int cur, .int lr, .int mc, .ref la]))) (c1_ : G la = some (.inl (15, [.int mc, .ref ea, .int sz]))) : gMet l D yJ24_checkForComodification (ws_ yJ24_checkForComodification cJ24_checkForComodification 1 none) 1 0 G n [.ref ia] (fun (v : Option Value) (G1 : gH) (n1 : Nat) => v = none ∧ G1 = G ∧ n1 = n) gNox := by
  refine g_start (by decide) (Nat.le_of_ble_eq_true rfl) ?_
  intro p e s m below meth c ls C hnm hxt hI hl
  have hx := C.x
  have hb := C.b
  have hS : va_S (gA D) s.heap s.heap [] := va_S.rf
  have hz0 := hI.z
  have lc0_ := hI.lt c0_
  have lc1_ := hI.lt c1_
  have hF : gF G G n gNone := gF.rf _ _ _
  have hl : lv_has ls 1 [(0, .ref ia)] := hl
  refine lv_aload_n hx hb dJ24_checkForComodification_0 rfl (lv_at hl 0 rfl) ?_
  refine g_get C hI c0_ kc18 3 rfl q874 (fun _ h9 => h9) dJ24_checkForComodification_1 ?_
  refine g_get C hI c1_ kc15 0 rfl q167 (u_same (C.ts _ q168)) dJ24_checkForComodification_4 ?_
  refine lv_aload_n hx hb dJ24_checkForComodification_7 rfl (lv_at hl 0 rfl) ?_
  refine g_get C hI c0_ kc18 2 rfl q873 (fun _ h9 => h9) dJ24_checkForComodification_8 ?_
  refine lv_icmp_eq (tgt := 22) hx hb dJ24_checkForComodification_11 (by decide) (fun c_4685 => ?_) (fun c_4685 => ?_)
  · skip
    exact g_vret C hI hS (by omega) ⟨rfl, rfl, rfl⟩ dJ24_checkForComodification_22
  · exact absurd rfl c_4685
set_option maxHeartbeats 4000000 in
set_option maxRecDepth 100000 in
theorem c_J24_next (l : Launch) {D : gD} (hB : gBs D) (G : gH) (n : Nat) (la : Nat) (mc : Int32) (ea : Nat) (sz : Int32) (ia : Nat) (cur : Int32) (lr : Int32) (ev : Nat → Value) (kx : Nat) (jx : Nat) (vx : Nat) (c0_ : G ia = some (.inl (18, [.int cur, .int lr, .int mc, .ref la]))) (c1_ : G la = some (.inl (15, [.int mc, .ref ea, .int sz]))) (c2_ : G ea = some (aR 10 ev)) (hzi : gz D ≤ ia) (ej : cur = nI jx) (hsz : sz = nI kx) (hk : kx ≤ 10) (hj : jx < kx) (hv : ev jx = .ref vx) : gMet l D yJ24_next (ws_ yJ24_next cJ24_next 3 (some (FieldType.object "java/lang/Object"))) 6 0 G n [.ref ia] (fun (v : Option Value) (G1 : gH) (n1 : Nat) => v = some (.ref vx) ∧ n ≤ n1 ∧ gF G G1 n (fun q : Nat => q = ia) ∧ G1 ia = some (.inl (18, [.int (nI (jx + 1)), .int cur, .int mc, .ref la]))) gNox := by
  refine g_start (by decide) (Nat.le_of_ble_eq_true rfl) ?_
  intro p e s m below meth c ls C hnm hxt hI hl
  have hx := C.x
  have hb := C.b
  have hS : va_S (gA D) s.heap s.heap [] := va_S.rf
  have hz0 := hI.z
  have lc0_ := hI.lt c0_
  have lc1_ := hI.lt c1_
  have lc2_ := hI.lt c2_
  have hF : gF G G n (fun q : Nat => q = ia) := gF.rf _ _ _
  have hl : lv_has ls 3 [(0, .ref ia)] := hl
  refine lv_aload_n hx hb dJ24_next_0 rfl (lv_at hl 0 rfl) ?_
  refine g_V (As := []) (rest := []) (lv := [(0, .ref ia)]) C hI hS (c_J24_checkForComodification l hB G n la mc ea sz ia cur lr c0_ c1_ ) c0_ rfl rfl q1096 q1097 q1098 q106 q1101 (⟨by decide, by decide, by decide⟩ : gArg _ 0) rfl ⟨by decide, by decide⟩ (by omega) hl rfl (Nat.le_of_ble_eq_true rfl) dJ24_next_1 (fun v4686 G4687 n4688 H locs hp4689 hI hS => ?_) gKx.no
  obtain ⟨rfl, eG4687, en4688⟩ := hp4689
  refine W.widen (k := 0) (n := 200 * (0)) (by omega) (by omega) ?_
  rw [eG4687, en4688] at hI
  refine lv_aload_n hx hb dJ24_next_4 rfl (lv_at hl 0 rfl) ?_
  refine g_get C hI c0_ kc18 0 rfl q871 (fun _ h9 => h9) dJ24_next_5 ?_
  refine lv_istore_n (lv' := [(1, .int cur), (0, .ref ia)]) hx hb dJ24_next_8 rfl hl (by decide) rfl (fun ls hl => ?_)
  refine lv_iload_n hx hb dJ24_next_9 rfl (lv_at hl 0 rfl) ?_
  refine lv_aload_n hx hb dJ24_next_10 rfl (lv_at hl 1 rfl) ?_
  refine g_get C hI c0_ kc18 3 rfl q874 (fun _ h9 => h9) dJ24_next_11 ?_
  refine g_getN C hI c1_ kc15 2 rfl (gNw_in q162 rfl) (fun _ h9 => h9) dJ24_next_14 ?_
  refine lv_icmp_lt (tgt := 28) hx hb dJ24_next_17 (by decide) (fun c_4692 => ?_) (fun c_4692 => ?_)
  · skip
    try have k_4693 : jx < kx := (nI_ltE ej hsz (by omega) (by omega)).mp c_4692
    refine lv_aload_n hx hb dJ24_next_28 rfl (lv_at hl 1 rfl) ?_
    refine g_get C hI c0_ kc18 3 rfl q874 (fun _ h9 => h9) dJ24_next_29 ?_
    refine g_get C hI c1_ kc15 1 rfl q161 (fun _ h9 => h9) dJ24_next_32 ?_
    refine lv_astore_n (lv' := [(2, .ref ea), (1, .int cur), (0, .ref ia)]) hx hb dJ24_next_35 rfl hl (by decide) rfl (fun ls hl => ?_)
    refine lv_iload_n hx hb dJ24_next_36 rfl (lv_at hl 1 rfl) ?_
    refine lv_aload_n hx hb dJ24_next_37 rfl (lv_at hl 0 rfl) ?_
    refine g_alen (v := 10) C hI c2_ (by rfl) dJ24_next_38 ?_
    refine lv_icmp_lt (tgt := 50) hx hb dJ24_next_39 (by decide) (fun c_4694 => ?_) (fun c_4694 => ?_)
    · skip
      try have k_4695 : jx < 10 := (nI_ltE ej nl10 (by omega) (by omega)).mp c_4694
      refine lv_aload_n hx hb dJ24_next_50 rfl (lv_at hl 2 rfl) ?_
      refine lv_iload_n hx hb dJ24_next_51 rfl (lv_at hl 1 rfl) ?_
      refine lv_iconst (v := 1) hx hb dJ24_next_52 (by decide) ?_
      refine lv_iadd hx hb dJ24_next_53 ?_
      refine g_put (fs2 := [.int (cur + 1), .int lr, .int mc, .ref la]) C hI hS c0_ (by omega) kc18 0 (Nat.le_of_ble_eq_true rfl) q871 (fun _ h9 => h9) rfl rfl rfl rfl dJ24_next_54 (fun G4696 H locs e4697 hI hS => ?_)
      have c1_ := gE_k e4697 c1_ (g_nc c1_ c0_ (by decide))
      have c2_ := gE_k e4697 c2_ (g_on c2_ c0_)
      have c0_ : G4696 ia = some (.inl (18, [.int (cur + 1), .int lr, .int mc, .ref la])) := gE_s e4697
      have hF := gE_F e4697 hF (Or.inr rfl)
      refine lv_aload_n hx hb dJ24_next_57 rfl (lv_at hl 0 rfl) ?_
      refine lv_aload_n hx hb dJ24_next_58 rfl (lv_at hl 2 rfl) ?_
      refine lv_iload_n hx hb dJ24_next_59 rfl (lv_at hl 1 rfl) ?_
      refine lv_dup_x1 hx hb dJ24_next_60 rfl rfl ?_
      refine g_put (fs2 := [.int (cur + 1), .int cur, .int mc, .ref la]) C hI hS c0_ (by omega) kc18 1 (Nat.le_of_ble_eq_true rfl) q872 (fun _ h9 => h9) rfl rfl rfl rfl dJ24_next_61 (fun G4698 H locs e4699 hI hS => ?_)
      have c1_ := gE_k e4699 c1_ (g_nc c1_ c0_ (by decide))
      have c2_ := gE_k e4699 c2_ (g_on c2_ c0_)
      have c0_ : G4698 ia = some (.inl (18, [.int (cur + 1), .int cur, .int mc, .ref la])) := gE_s e4699
      have hF := gE_F e4699 hF (Or.inr rfl)
      refine g_aald (v := .ref vx) C hI c2_ (gix ej (by omega) (by omega)) ((gixv (f := ev) ej (by omega)).trans hv) dJ24_next_64 ?_
      exact g_aret C hI hS (by omega) (by first | exact Or.inl ⟨_, rfl⟩ | exact Or.inr ⟨_, rfl⟩) (Or.inr ⟨_, rfl⟩) ⟨rfl, (by omega), hF, (by rw [show nI (jx + 1) = cur + 1 from (gadd ej nl1).symm]; exact c0_)⟩ dJ24_next_65
    · exact absurd (by rw [ej, nl10]; exact nI_lt (by omega) (by decide)) c_4694
  · exact absurd (by rw [ej, hsz]; exact nI_lt hj (by omega)) c_4692
