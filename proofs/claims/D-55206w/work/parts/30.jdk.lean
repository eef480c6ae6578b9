/-! THE JDK, 3: LinkedList -/
set_option maxHeartbeats 4000000 in
set_option maxRecDepth 100000 in
theorem c_J7_init (l : Launch) {D : gD} (hB : gBs D) (G : gH) (n : Nat) (la : Nat) (c0_ : G la = some (.inl (16, [.int 0, .int 0, .null, .null]))) (hzl : gz D ≤ la) : gMet l D yJ7_init (ws_ yJ7_init cJ7_init 1 none) 6 0 G n [.ref la] (fun (v : Option Value) (G1 : gH) (n1 : Nat) => v = none ∧ n ≤ n1 ∧ gF G G1 n (fun q : Nat => q = la) ∧ G1 la = some (.inl (16, [.int 0, .int 0, .null, .null]))) gNox := by
  refine g_start (by decide) (Nat.le_of_ble_eq_true rfl) ?_
  intro p e s m below meth c ls C hnm hxt hI hl
  have hx := C.x
  have hb := C.b
  have hS : va_S (gA D) s.heap s.heap [] := va_S.rf
  have hz0 := hI.z
  have lc0_ := hI.lt c0_
  have hF : gF G G n (fun q : Nat => q = la) := gF.rf _ _ _
  have hl : lv_has ls 1 [(0, .ref la)] := hl
  refine lv_aload_n hx hb dJ7_init_0 rfl (lv_at hl 0 rfl) ?_
  refine g_I (As := []) (rest := []) (lv := [(0, .ref la)]) C hI hS (c_J1_initL l hB G n la 0 c0_ (by omega)) rfl q351 q152 q80 q153 (⟨by decide, by decide, by decide⟩ : gArg _ 0) rfl ⟨by decide, by decide⟩ (by omega) hl rfl (Nat.le_of_ble_eq_true rfl) dJ7_init_1 (fun v5030 G5031 n5032 H locs hp5033 hI hS => ?_) gKx.no
  obtain ⟨rfl, hn5034, hF5035, c5036⟩ := hp5033
  refine W.widen (k := 0) (n := 200 * (0)) (by omega) (by omega) ?_
  have hF := hF.trans hF5035 (by omega) (fun q hq => (fun h => h ▸ rfl))
  exact g_vret C hI hS (by omega) ⟨rfl, (by omega), hF, c5036⟩ dJ7_init_4
set_option maxHeartbeats 4000000 in
set_option maxRecDepth 100000 in
theorem c_J8_init (l : Launch) {D : gD} (hB : gBs D) (G : gH) (n : Nat) (la : Nat) (c0_ : G la = some (.inl (16, [.int 0, .int 0, .null, .null]))) (hzl : gz D ≤ la) : gMet l D yJ8_init (ws_ yJ8_init cJ8_init 1 none) 7 0 G n [.ref la] (fun (v : Option Value) (G1 : gH) (n1 : Nat) => v = none ∧ n ≤ n1 ∧ gF G G1 n (fun q : Nat => q = la) ∧ G1 la = some (.inl (16, [.int 0, .int 0, .null, .null]))) gNox := by
  refine g_start (by decide) (Nat.le_of_ble_eq_true rfl) ?_
  intro p e s m below meth c ls C hnm hxt hI hl
  have hx := C.x
  have hb := C.b
  have hS : va_S (gA D) s.heap s.heap [] := va_S.rf
  have hz0 := hI.z
  have lc0_ := hI.lt c0_
  have hF : gF G G n (fun q : Nat => q = la) := gF.rf _ _ _
  have hl : lv_has ls 1 [(0, .ref la)] := hl
  refine lv_aload_n hx hb dJ8_init_0 rfl (lv_at hl 0 rfl) ?_
  refine g_I (As := []) (rest := []) (lv := [(0, .ref la)]) C hI hS (c_J7_init l hB G n la c0_ (by omega)) rfl q348 q349 q88 q350 (⟨by decide, by decide, by decide⟩ : gArg _ 0) rfl ⟨by decide, by decide⟩ (by omega) hl rfl (Nat.le_of_ble_eq_true rfl) dJ8_init_1 (fun v5037 G5038 n5039 H locs hp5040 hI hS => ?_) gKx.no
  obtain ⟨rfl, hn5041, hF5042, c5043⟩ := hp5040
  refine W.widen (k := 0) (n := 200 * (0)) (by omega) (by omega) ?_
  have hF := hF.trans hF5042 (by omega) (fun q hq => (fun h => h ▸ rfl))
  refine lv_aload_n hx hb dJ8_init_4 rfl (lv_at hl 0 rfl) ?_
  refine lv_iconst (v := 0) hx hb dJ8_init_5 (by decide) ?_
  refine g_put (fs2 := [.int 0, .int 0, .null, .null]) C hI hS c5043 (by omega) kc16 1 (Nat.le_of_ble_eq_true rfl) q352 (fun _ h9 => h9) rfl rfl rfl rfl dJ8_init_6 (fun G5044 H locs e5045 hI hS => ?_)
  have c5043 : G5044 la = some (.inl (16, [.int 0, .int 0, .null, .null])) := gE_s e5045
  have hF := gE_F e5045 hF (Or.inr rfl)
  exact g_vret C hI hS (by omega) ⟨rfl, (by omega), hF, c5043⟩ dJ8_init_9
set_option maxHeartbeats 4000000 in
set_option maxRecDepth 100000 in
theorem c_J8_size (l : Launch) {D : gD} (hB : gBs D) (G : gH) (n : Nat) (la : Nat) (mc : Int32) (sz : Int32) (v1 : Value) (v2 : Value) (c0_ : G la = some (.inl (16, [.int mc, .int sz, v1, v2]))) : gMet l D yJ8_size (ws_ yJ8_size cJ8_size 1 (some FieldType.int)) 1 0 G n [.ref la] (fun (v : Option Value) (G1 : gH) (n1 : Nat) => v = some (.int sz) ∧ G1 = G ∧ n1 = n) gNox := by
  refine g_start (by decide) (Nat.le_of_ble_eq_true rfl) ?_
  intro p e s m below meth c ls C hnm hxt hI hl
  have hx := C.x
  have hb := C.b
  have hS : va_S (gA D) s.heap s.heap [] := va_S.rf
  have hz0 := hI.z
  have lc0_ := hI.lt c0_
  have hF : gF G G n gNone := gF.rf _ _ _
  have hl : lv_has ls 1 [(0, .ref la)] := hl
  refine lv_aload_n hx hb dJ8_size_0 rfl (lv_at hl 0 rfl) ?_
  refine g_get C hI c0_ kc16 1 rfl q352 (fun _ h9 => h9) dJ8_size_1 ?_
  exact g_iret C hI hS (by omega) ⟨rfl, rfl, rfl⟩ dJ8_size_4
set_option maxHeartbeats 4000000 in
set_option maxRecDepth 100000 in
theorem c_J0_isEmpty (l : Launch) {D : gD} (hB : gBs D) (G : gH) (n : Nat) (la : Nat) (mc : Int32) (sz : Int32) (v1 : Value) (v2 : Value) (c0_ : G la = some (.inl (16, [.int mc, .int sz, v1, v2]))) : gMet l D yJ0_isEmpty (ws_ yJ0_isEmpty cJ0_isEmpty 1 (some FieldType.boolean)) 2 0 G n [.ref la] (fun (v : Option Value) (G1 : gH) (n1 : Nat) => v = some (.int (if ¬ sz = 0 then 0 else 1)) ∧ G1 = G ∧ n1 = n) gNox := by
  refine g_start (by decide) (Nat.le_of_ble_eq_true rfl) ?_
  intro p e s m below meth c ls C hnm hxt hI hl
  have hx := C.x
  have hb := C.b
  have hS : va_S (gA D) s.heap s.heap [] := va_S.rf
  have hz0 := hI.z
  have lc0_ := hI.lt c0_
  have hF : gF G G n gNone := gF.rf _ _ _
  have hl : lv_has ls 1 [(0, .ref la)] := hl
  refine lv_aload_n hx hb dJ0_isEmpty_0 rfl (lv_at hl 0 rfl) ?_
  refine g_U (owner := "java/util/AbstractCollection") (As := []) (rest := []) (lv := [(0, .ref la)]) C hI hS (c_J8_size l hB G n la mc sz v1 v2 c0_ ) c0_ rfl (g_decl C (gNw_in q979 rfl)) ⟨by decide, by decide⟩ q2540 q2994 q984 q2996 q89 q985 (⟨by decide, by decide, by decide⟩ : gArg _ 0) rfl ⟨by decide, by decide⟩ (by omega) hl rfl (Nat.le_of_ble_eq_true rfl) dJ0_isEmpty_1 (fun v5046 G5047 n5048 H locs hp5049 hI hS => ?_) gKx.no
  obtain ⟨rfl, eG5047, en5048⟩ := hp5049
  refine W.widen (k := 0) (n := 200 * (0)) (by omega) (by omega) ?_
  rw [eG5047, en5048] at hI
  refine lv_if_ne (tgt := 11) hx hb dJ0_isEmpty_4 (by decide) (fun c_5052 => ?_) (fun c_5052 => ?_)
  · skip
    refine lv_iconst (v := 0) hx hb dJ0_isEmpty_11 (by decide) ?_
    exact g_zret C hI hS (by omega) rfl ⟨(by simp [c_5052]), rfl, rfl⟩ dJ0_isEmpty_12
  · skip
    refine lv_iconst (v := 1) hx hb dJ0_isEmpty_7 (by decide) ?_
    refine lv_goto (tgt := 12) hx hb dJ0_isEmpty_8 (by decide) ?_
    exact g_zret C hI hS (by omega) rfl ⟨(by simp [eq_true c_5052]), rfl, rfl⟩ dJ0_isEmpty_12
set_option maxHeartbeats 4000000 in
set_option maxRecDepth 100000 in
theorem c_J6_initNN (l : Launch) {D : gD} (hB : gBs D) (G : gH) (n : Nat) (na : Nat) (it : Nat) (c0_ : G na = some (.inl (17, [.null, .null, .null]))) (hzna : gz D ≤ na) : gMet l D yJ6_init (ws_ yJ6_init cJ6_init 4 none) 2 0 G n [.ref na, .null, .ref it, .null] (fun (v : Option Value) (G1 : gH) (n1 : Nat) => v = none ∧ n ≤ n1 ∧ gF G G1 n (fun q : Nat => q = na) ∧ G1 na = some (.inl (17, [.ref it, .null, .null]))) gNox := by
  refine g_start (by decide) (Nat.le_of_ble_eq_true rfl) ?_
  intro p e s m below meth c ls C hnm hxt hI hl
  have hx := C.x
  have hb := C.b
  have hS : va_S (gA D) s.heap s.heap [] := va_S.rf
  have hz0 := hI.z
  have lc0_ := hI.lt c0_
  have hF : gF G G n (fun q : Nat => q = na) := gF.rf _ _ _
  have hl : lv_has ls 4 [(0, .ref na), (1, .null), (2, .ref it), (3, .null)] := hl
  refine lv_aload_n hx hb dJ6_init_0 rfl (lv_at hl 0 rfl) ?_
  refine W.objInit hx hb C.ow (C.ts _ q327) (C.ts _ q135) (C.ts _ q136) rfl (by rw [C.ml]; exact hl.1) rfl dJ6_init_1 (show 1 ≤ 2 by decide) (show _ ≤ 60 * 2 by simp [Value.category]) ?_
  refine W.eq (g2 := F0 m 4 ls []) rfl ?_
  refine lv_aload_n hx hb dJ6_init_4 rfl (lv_at hl 0 rfl) ?_
  refine lv_aload_n hx hb dJ6_init_5 rfl (lv_at hl 2 rfl) ?_
  refine g_put (fs2 := [.ref it, .null, .null]) C hI hS c0_ (by omega) kc17 0 (Nat.le_of_ble_eq_true rfl) q328 (fun _ h9 => h9) rfl rfl rfl rfl dJ6_init_6 (fun G5053 H locs e5054 hI hS => ?_)
  have c0_ : G5053 na = some (.inl (17, [.ref it, .null, .null])) := gE_s e5054
  have hF := gE_F e5054 hF (Or.inr rfl)
  refine lv_aload_n hx hb dJ6_init_9 rfl (lv_at hl 0 rfl) ?_
  refine lv_aload_nN hx hb dJ6_init_10 rfl (lv_at hl 3 rfl) ?_
  refine g_put (fs2 := [.ref it, .null, .null]) C hI hS c0_ (by omega) kc17 1 (Nat.le_of_ble_eq_true rfl) q331 (fun _ h9 => h9) rfl rfl rfl rfl dJ6_init_11 (fun G5055 H locs e5056 hI hS => ?_)
  have c0_ : G5055 na = some (.inl (17, [.ref it, .null, .null])) := gE_s e5056
  have hF := gE_F e5056 hF (Or.inr rfl)
  refine lv_aload_n hx hb dJ6_init_14 rfl (lv_at hl 0 rfl) ?_
  refine lv_aload_nN hx hb dJ6_init_15 rfl (lv_at hl 1 rfl) ?_
  refine g_put (fs2 := [.ref it, .null, .null]) C hI hS c0_ (by omega) kc17 2 (Nat.le_of_ble_eq_true rfl) q334 (fun _ h9 => h9) rfl rfl rfl rfl dJ6_init_16 (fun G5057 H locs e5058 hI hS => ?_)
  have c0_ : G5057 na = some (.inl (17, [.ref it, .null, .null])) := gE_s e5058
  have hF := gE_F e5058 hF (Or.inr rfl)
  exact g_vret C hI hS (by omega) ⟨rfl, (by omega), hF, c0_⟩ dJ6_init_19
set_option maxHeartbeats 4000000 in
set_option maxRecDepth 100000 in
theorem c_J6_initNR (l : Launch) {D : gD} (hB : gBs D) (G : gH) (n : Nat) (na : Nat) (it : Nat) (nx : Nat) (c0_ : G na = some (.inl (17, [.null, .null, .null]))) (hzna : gz D ≤ na) : gMet l D yJ6_init (ws_ yJ6_init cJ6_init 4 none) 2 0 G n [.ref na, .null, .ref it, .ref nx] (fun (v : Option Value) (G1 : gH) (n1 : Nat) => v = none ∧ n ≤ n1 ∧ gF G G1 n (fun q : Nat => q = na) ∧ G1 na = some (.inl (17, [.ref it, .ref nx, .null]))) gNox := by
  refine g_start (by decide) (Nat.le_of_ble_eq_true rfl) ?_
  intro p e s m below meth c ls C hnm hxt hI hl
  have hx := C.x
  have hb := C.b
  have hS : va_S (gA D) s.heap s.heap [] := va_S.rf
  have hz0 := hI.z
  have lc0_ := hI.lt c0_
  have hF : gF G G n (fun q : Nat => q = na) := gF.rf _ _ _
  have hl : lv_has ls 4 [(0, .ref na), (1, .null), (2, .ref it), (3, .ref nx)] := hl
  refine lv_aload_n hx hb dJ6_init_0 rfl (lv_at hl 0 rfl) ?_
  refine W.objInit hx hb C.ow (C.ts _ q327) (C.ts _ q135) (C.ts _ q136) rfl (by rw [C.ml]; exact hl.1) rfl dJ6_init_1 (show 1 ≤ 2 by decide) (show _ ≤ 60 * 2 by simp [Value.category]) ?_
  refine W.eq (g2 := F0 m 4 ls []) rfl ?_
  refine lv_aload_n hx hb dJ6_init_4 rfl (lv_at hl 0 rfl) ?_
  refine lv_aload_n hx hb dJ6_init_5 rfl (lv_at hl 2 rfl) ?_
  refine g_put (fs2 := [.ref it, .null, .null]) C hI hS c0_ (by omega) kc17 0 (Nat.le_of_ble_eq_true rfl) q328 (fun _ h9 => h9) rfl rfl rfl rfl dJ6_init_6 (fun G5059 H locs e5060 hI hS => ?_)
  have c0_ : G5059 na = some (.inl (17, [.ref it, .null, .null])) := gE_s e5060
  have hF := gE_F e5060 hF (Or.inr rfl)
  refine lv_aload_n hx hb dJ6_init_9 rfl (lv_at hl 0 rfl) ?_
  refine lv_aload_n hx hb dJ6_init_10 rfl (lv_at hl 3 rfl) ?_
  refine g_put (fs2 := [.ref it, .ref nx, .null]) C hI hS c0_ (by omega) kc17 1 (Nat.le_of_ble_eq_true rfl) q331 (fun _ h9 => h9) rfl rfl rfl rfl dJ6_init_11 (fun G5061 H locs e5062 hI hS => ?_)
  have c0_ : G5061 na = some (.inl (17, [.ref it, .ref nx, .null])) := gE_s e5062
  have hF := gE_F e5062 hF (Or.inr rfl)
  refine lv_aload_n hx hb dJ6_init_14 rfl (lv_at hl 0 rfl) ?_
  refine lv_aload_nN hx hb dJ6_init_15 rfl (lv_at hl 1 rfl) ?_
  refine g_put (fs2 := [.ref it, .ref nx, .null]) C hI hS c0_ (by omega) kc17 2 (Nat.le_of_ble_eq_true rfl) q334 (fun _ h9 => h9) rfl rfl rfl rfl dJ6_init_16 (fun G5063 H locs e5064 hI hS => ?_)
  have c0_ : G5063 na = some (.inl (17, [.ref it, .ref nx, .null])) := gE_s e5064
  have hF := gE_F e5064 hF (Or.inr rfl)
  exact g_vret C hI hS (by omega) ⟨rfl, (by omega), hF, c0_⟩ dJ6_init_19
set_option maxHeartbeats 4000000 in
set_option maxRecDepth 100000 in
theorem c_J6_initRN (l : Launch) {D : gD} (hB : gBs D) (G : gH) (n : Nat) (na : Nat) (it : Nat) (pv : Nat) (c0_ : G na = some (.inl (17, [.null, .null, .null]))) (hzna : gz D ≤ na) : gMet l D yJ6_init (ws_ yJ6_init cJ6_init 4 none) 2 0 G n [.ref na, .ref pv, .ref it, .null] (fun (v : Option Value) (G1 : gH) (n1 : Nat) => v = none ∧ n ≤ n1 ∧ gF G G1 n (fun q : Nat => q = na) ∧ G1 na = some (.inl (17, [.ref it, .null, .ref pv]))) gNox := by
  refine g_start (by decide) (Nat.le_of_ble_eq_true rfl) ?_
  intro p e s m below meth c ls C hnm hxt hI hl
  have hx := C.x
  have hb := C.b
  have hS : va_S (gA D) s.heap s.heap [] := va_S.rf
  have hz0 := hI.z
  have lc0_ := hI.lt c0_
  have hF : gF G G n (fun q : Nat => q = na) := gF.rf _ _ _
  have hl : lv_has ls 4 [(0, .ref na), (1, .ref pv), (2, .ref it), (3, .null)] := hl
  refine lv_aload_n hx hb dJ6_init_0 rfl (lv_at hl 0 rfl) ?_
  refine W.objInit hx hb C.ow (C.ts _ q327) (C.ts _ q135) (C.ts _ q136) rfl (by rw [C.ml]; exact hl.1) rfl dJ6_init_1 (show 1 ≤ 2 by decide) (show _ ≤ 60 * 2 by simp [Value.category]) ?_
  refine W.eq (g2 := F0 m 4 ls []) rfl ?_
  refine lv_aload_n hx hb dJ6_init_4 rfl (lv_at hl 0 rfl) ?_
  refine lv_aload_n hx hb dJ6_init_5 rfl (lv_at hl 2 rfl) ?_
  refine g_put (fs2 := [.ref it, .null, .null]) C hI hS c0_ (by omega) kc17 0 (Nat.le_of_ble_eq_true rfl) q328 (fun _ h9 => h9) rfl rfl rfl rfl dJ6_init_6 (fun G5065 H locs e5066 hI hS => ?_)
  have c0_ : G5065 na = some (.inl (17, [.ref it, .null, .null])) := gE_s e5066
  have hF := gE_F e5066 hF (Or.inr rfl)
  refine lv_aload_n hx hb dJ6_init_9 rfl (lv_at hl 0 rfl) ?_
  refine lv_aload_nN hx hb dJ6_init_10 rfl (lv_at hl 3 rfl) ?_
  refine g_put (fs2 := [.ref it, .null, .null]) C hI hS c0_ (by omega) kc17 1 (Nat.le_of_ble_eq_true rfl) q331 (fun _ h9 => h9) rfl rfl rfl rfl dJ6_init_11 (fun G5067 H locs e5068 hI hS => ?_)
  have c0_ : G5067 na = some (.inl (17, [.ref it, .null, .null])) := gE_s e5068
  have hF := gE_F e5068 hF (Or.inr rfl)
  refine lv_aload_n hx hb dJ6_init_14 rfl (lv_at hl 0 rfl) ?_
  refine lv_aload_n hx hb dJ6_init_15 rfl (lv_at hl 1 rfl) ?_
  refine g_put (fs2 := [.ref it, .null, .ref pv]) C hI hS c0_ (by omega) kc17 2 (Nat.le_of_ble_eq_true rfl) q334 (fun _ h9 => h9) rfl rfl rfl rfl dJ6_init_16 (fun G5069 H locs e5070 hI hS => ?_)
  have c0_ : G5069 na = some (.inl (17, [.ref it, .null, .ref pv])) := gE_s e5070
  have hF := gE_F e5070 hF (Or.inr rfl)
  exact g_vret C hI hS (by omega) ⟨rfl, (by omega), hF, c0_⟩ dJ6_init_19
set_option maxHeartbeats 4000000 in
set_option maxRecDepth 100000 in
theorem c_J6_initRR (l : Launch) {D : gD} (hB : gBs D) (G : gH) (n : Nat) (na : Nat) (it : Nat) (pv : Nat) (nx : Nat) (c0_ : G na = some (.inl (17, [.null, .null, .null]))) (hzna : gz D ≤ na) : gMet l D yJ6_init (ws_ yJ6_init cJ6_init 4 none) 2 0 G n [.ref na, .ref pv, .ref it, .ref nx] (fun (v : Option Value) (G1 : gH) (n1 : Nat) => v = none ∧ n ≤ n1 ∧ gF G G1 n (fun q : Nat => q = na) ∧ G1 na = some (.inl (17, [.ref it, .ref nx, .ref pv]))) gNox := by
  refine g_start (by decide) (Nat.le_of_ble_eq_true rfl) ?_
  intro p e s m below meth c ls C hnm hxt hI hl
  have hx := C.x
  have hb := C.b
  have hS : va_S (gA D) s.heap s.heap [] := va_S.rf
  have hz0 := hI.z
  have lc0_ := hI.lt c0_
  have hF : gF G G n (fun q : Nat => q = na) := gF.rf _ _ _
  have hl : lv_has ls 4 [(0, .ref na), (1, .ref pv), (2, .ref it), (3, .ref nx)] := hl
  refine lv_aload_n hx hb dJ6_init_0 rfl (lv_at hl 0 rfl) ?_
  refine W.objInit hx hb C.ow (C.ts _ q327) (C.ts _ q135) (C.ts _ q136) rfl (by rw [C.ml]; exact hl.1) rfl dJ6_init_1 (show 1 ≤ 2 by decide) (show _ ≤ 60 * 2 by simp [Value.category]) ?_
  refine W.eq (g2 := F0 m 4 ls []) rfl ?_
  refine lv_aload_n hx hb dJ6_init_4 rfl (lv_at hl 0 rfl) ?_
  refine lv_aload_n hx hb dJ6_init_5 rfl (lv_at hl 2 rfl) ?_
  refine g_put (fs2 := [.ref it, .null, .null]) C hI hS c0_ (by omega) kc17 0 (Nat.le_of_ble_eq_true rfl) q328 (fun _ h9 => h9) rfl rfl rfl rfl dJ6_init_6 (fun G5071 H locs e5072 hI hS => ?_)
  have c0_ : G5071 na = some (.inl (17, [.ref it, .null, .null])) := gE_s e5072
  have hF := gE_F e5072 hF (Or.inr rfl)
  refine lv_aload_n hx hb dJ6_init_9 rfl (lv_at hl 0 rfl) ?_
  refine lv_aload_n hx hb dJ6_init_10 rfl (lv_at hl 3 rfl) ?_
  refine g_put (fs2 := [.ref it, .ref nx, .null]) C hI hS c0_ (by omega) kc17 1 (Nat.le_of_ble_eq_true rfl) q331 (fun _ h9 => h9) rfl rfl rfl rfl dJ6_init_11 (fun G5073 H locs e5074 hI hS => ?_)
  have c0_ : G5073 na = some (.inl (17, [.ref it, .ref nx, .null])) := gE_s e5074
  have hF := gE_F e5074 hF (Or.inr rfl)
  refine lv_aload_n hx hb dJ6_init_14 rfl (lv_at hl 0 rfl) ?_
  refine lv_aload_n hx hb dJ6_init_15 rfl (lv_at hl 1 rfl) ?_
  refine g_put (fs2 := [.ref it, .ref nx, .ref pv]) C hI hS c0_ (by omega) kc17 2 (Nat.le_of_ble_eq_true rfl) q334 (fun _ h9 => h9) rfl rfl rfl rfl dJ6_init_16 (fun G5075 H locs e5076 hI hS => ?_)
  have c0_ : G5075 na = some (.inl (17, [.ref it, .ref nx, .ref pv])) := gE_s e5076
  have hF := gE_F e5076 hF (Or.inr rfl)
  exact g_vret C hI hS (by omega) ⟨rfl, (by omega), hF, c0_⟩ dJ6_init_19
set_option maxHeartbeats 4000000 in
set_option maxRecDepth 100000 in
theorem c_J8_linkLastE (l : Launch) {D : gD} (hB : gBs D) (G : gH) (n : Nat) (la : Nat) (mc : Int32) (sz : Int32) (e1 : Nat) (c0_ : G la = some (.inl (16, [.int mc, .int sz, .null, .null]))) (hzl : gz D ≤ la) : gMet l D yJ8_linkLast (ws_ yJ8_linkLast cJ8_linkLast 4 none) 3 1 G n [.ref la, .ref e1] (fun (v : Option Value) (G1 : gH) (n1 : Nat) => v = none ∧ n ≤ n1 ∧ gF G G1 n (fun q : Nat => q = la) ∧ G1 la = some (.inl (16, [.int (mc + 1), .int (sz + 1), .ref n, .ref n])) ∧ G1 n = some (.inl (17, [.ref e1, .null, .null]))) gNox := by
  refine g_start (by decide) (Nat.le_of_ble_eq_true rfl) ?_
  intro p e s m below meth c ls C hnm hxt hI hl
  have hx := C.x
  have hb := C.b
  have hS : va_S (gA D) s.heap s.heap [] := va_S.rf
  have hz0 := hI.z
  have lc0_ := hI.lt c0_
  have hF : gF G G n (fun q : Nat => q = la) := gF.rf _ _ _
  have hl : lv_has ls 4 [(0, .ref la), (1, .ref e1)] := hl
  refine lv_aload_n hx hb dJ8_linkLast_0 rfl (lv_at hl 0 rfl) ?_
  refine g_get C hI c0_ kc16 3 rfl q355 (fun _ h9 => h9) dJ8_linkLast_1 ?_
  refine lv_astore_nN (lv' := [(2, .null), (0, .ref la), (1, .ref e1)]) hx hb dJ8_linkLast_4 rfl hl (by decide) rfl (fun ls hl => ?_)
  refine g_new (fs := [.null, .null, .null]) C hI hS kc17 rfl q322 q323 q87 (by decide) (by omega) dJ8_linkLast_5 (fun G5077 H e5078 hI hS => ?_)
  have c0_ := gE_k e5078 c0_ (by omega)
  have c5079 : G5077 n = some (.inl (17, [.null, .null, .null])) := gE_s e5078
  have hF := gE_F e5078 hF (Or.inl (by omega))
  refine lv_dup hx hb dJ8_linkLast_8 rfl ?_
  refine lv_aload_nN hx hb dJ8_linkLast_9 rfl (lv_at hl 0 rfl) ?_
  refine lv_aload_n hx hb dJ8_linkLast_10 rfl (lv_at hl 2 rfl) ?_
  refine lv_null hx hb dJ8_linkLast_11 ?_
  refine g_I (As := [.null, .ref e1, .null]) (rest := [.ref n]) (lv := [(2, .null), (0, .ref la), (1, .ref e1)]) C hI hS (c_J6_initNN l hB G5077 (n + 1) n e1 c5079 (by omega)) rfl q324 q325 q87 q326 (⟨by decide, by decide, by decide⟩ : gArg _ 3) rfl ⟨by decide, by decide⟩ (by omega) hl rfl (Nat.le_of_ble_eq_true rfl) dJ8_linkLast_12 (fun v5080 G5081 n5082 H locs hp5083 hI hS => ?_) gKx.no
  obtain ⟨rfl, hn5084, hF5085, c5086⟩ := hp5083
  refine W.widen (k := 1) (n := 200 * (1)) (by omega) (by omega) ?_
  have c0_ := hF5085.at c0_ (by omega) (g_nc c0_ c5079 (by decide))
  have hF := hF.trans hF5085 (by omega) (fun q hq => (fun h => by exfalso; omega))
  refine lv_astore_n (lv' := [(3, .ref n), (2, .null), (0, .ref la), (1, .ref e1)]) hx hb dJ8_linkLast_15 rfl hl (by decide) rfl (fun ls hl => ?_)
  refine lv_aload_n hx hb dJ8_linkLast_16 rfl (lv_at hl 2 rfl) ?_
  refine lv_aload_n hx hb dJ8_linkLast_17 rfl (lv_at hl 0 rfl) ?_
  refine g_put (fs2 := [.int mc, .int sz, .null, .ref n]) C hI hS c0_ (by omega) kc16 3 (Nat.le_of_ble_eq_true rfl) q355 (fun _ h9 => h9) rfl rfl rfl rfl dJ8_linkLast_18 (fun G5087 H locs e5088 hI hS => ?_)
  have c5086 := gE_k e5088 c5086 (g_nc c5086 c0_ (by decide))
  have c0_ : G5087 la = some (.inl (16, [.int mc, .int sz, .null, .ref n])) := gE_s e5088
  have hF := gE_F e5088 hF (Or.inr rfl)
  refine lv_aload_nN hx hb dJ8_linkLast_21 rfl (lv_at hl 1 rfl) ?_
  refine lv_ifnonnullN hx hb dJ8_linkLast_22 ?_
  refine lv_aload_n hx hb dJ8_linkLast_25 rfl (lv_at hl 2 rfl) ?_
  refine lv_aload_n hx hb dJ8_linkLast_26 rfl (lv_at hl 0 rfl) ?_
  refine g_put (fs2 := [.int mc, .int sz, .ref n, .ref n]) C hI hS c0_ (by omega) kc16 2 (Nat.le_of_ble_eq_true rfl) q354 (fun _ h9 => h9) rfl rfl rfl rfl dJ8_linkLast_27 (fun G5089 H locs e5090 hI hS => ?_)
  have c5086 := gE_k e5090 c5086 (g_nc c5086 c0_ (by decide))
  have c0_ : G5089 la = some (.inl (16, [.int mc, .int sz, .ref n, .ref n])) := gE_s e5090
  have hF := gE_F e5090 hF (Or.inr rfl)
  refine lv_goto (tgt := 38) hx hb dJ8_linkLast_30 (by decide) ?_
  refine lv_aload_n hx hb dJ8_linkLast_38 rfl (lv_at hl 2 rfl) ?_
  refine lv_dup hx hb dJ8_linkLast_39 rfl ?_
  refine g_get C hI c0_ kc16 1 rfl q352 (fun _ h9 => h9) dJ8_linkLast_40 ?_
  refine lv_iconst (v := 1) hx hb dJ8_linkLast_43 (by decide) ?_
  refine lv_iadd hx hb dJ8_linkLast_44 ?_
  refine g_put (fs2 := [.int mc, .int (sz + 1), .ref n, .ref n]) C hI hS c0_ (by omega) kc16 1 (Nat.le_of_ble_eq_true rfl) q352 (fun _ h9 => h9) rfl rfl rfl rfl dJ8_linkLast_45 (fun G5091 H locs e5092 hI hS => ?_)
  have c5086 := gE_k e5092 c5086 (g_nc c5086 c0_ (by decide))
  have c0_ : G5091 la = some (.inl (16, [.int mc, .int (sz + 1), .ref n, .ref n])) := gE_s e5092
  have hF := gE_F e5092 hF (Or.inr rfl)
  refine lv_aload_n hx hb dJ8_linkLast_48 rfl (lv_at hl 2 rfl) ?_
  refine lv_dup hx hb dJ8_linkLast_49 rfl ?_
  refine g_get C hI c0_ kc16 0 rfl q170 (u_same (C.ts _ q166)) dJ8_linkLast_50 ?_
  refine lv_iconst (v := 1) hx hb dJ8_linkLast_53 (by decide) ?_
  refine lv_iadd hx hb dJ8_linkLast_54 ?_
  refine g_put (fs2 := [.int (mc + 1), .int (sz + 1), .ref n, .ref n]) C hI hS c0_ (by omega) kc16 0 (Nat.le_of_ble_eq_true rfl) q170 (u_same (C.ts _ q166)) rfl rfl rfl rfl dJ8_linkLast_55 (fun G5093 H locs e5094 hI hS => ?_)
  have c5086 := gE_k e5094 c5086 (g_nc c5086 c0_ (by decide))
  have c0_ : G5093 la = some (.inl (16, [.int (mc + 1), .int (sz + 1), .ref n, .ref n])) := gE_s e5094
  have hF := gE_F e5094 hF (Or.inr rfl)
  exact g_vret C hI hS (by omega) ⟨rfl, (by omega), hF, c0_, c5086⟩ dJ8_linkLast_58
set_option maxHeartbeats 4000000 in
set_option maxRecDepth 100000 in
theorem c_J8_linkLastN (l : Launch) {D : gD} (hB : gBs D) (G : gH) (n : Nat) (la : Nat) (mc : Int32) (sz : Int32) (fx : Nat) (lx : Nat) (e1 : Nat) (it : Nat) (c0_ : G la = some (.inl (16, [.int mc, .int sz, .ref fx, .ref lx]))) (c1_ : G lx = some (.inl (17, [.ref it, .null, .null]))) (hzl : gz D ≤ la) (hzlx : gz D ≤ lx) : gMet l D yJ8_linkLast (ws_ yJ8_linkLast cJ8_linkLast 4 none) 3 1 G n [.ref la, .ref e1] (fun (v : Option Value) (G1 : gH) (n1 : Nat) => v = none ∧ n ≤ n1 ∧ gF G G1 n (fun q : Nat => q = la ∨ q = lx) ∧ G1 la = some (.inl (16, [.int (mc + 1), .int (sz + 1), .ref fx, .ref n])) ∧ G1 lx = some (.inl (17, [.ref it, .ref n, .null])) ∧ G1 n = some (.inl (17, [.ref e1, .null, .ref lx]))) gNox := by
  refine g_start (by decide) (Nat.le_of_ble_eq_true rfl) ?_
  intro p e s m below meth c ls C hnm hxt hI hl
  have hx := C.x
  have hb := C.b
  have hS : va_S (gA D) s.heap s.heap [] := va_S.rf
  have hz0 := hI.z
  have lc0_ := hI.lt c0_
  have lc1_ := hI.lt c1_
  have hF : gF G G n (fun q : Nat => q = la ∨ q = lx) := gF.rf _ _ _
  have hl : lv_has ls 4 [(0, .ref la), (1, .ref e1)] := hl
  refine lv_aload_n hx hb dJ8_linkLast_0 rfl (lv_at hl 0 rfl) ?_
  refine g_get C hI c0_ kc16 3 rfl q355 (fun _ h9 => h9) dJ8_linkLast_1 ?_
  refine lv_astore_n (lv' := [(2, .ref lx), (0, .ref la), (1, .ref e1)]) hx hb dJ8_linkLast_4 rfl hl (by decide) rfl (fun ls hl => ?_)
  refine g_new (fs := [.null, .null, .null]) C hI hS kc17 rfl q322 q323 q87 (by decide) (by omega) dJ8_linkLast_5 (fun G5095 H e5096 hI hS => ?_)
  have c0_ := gE_k e5096 c0_ (by omega)
  have c1_ := gE_k e5096 c1_ (by omega)
  have c5097 : G5095 n = some (.inl (17, [.null, .null, .null])) := gE_s e5096
  have hF := gE_F e5096 hF (Or.inl (by omega))
  refine lv_dup hx hb dJ8_linkLast_8 rfl ?_
  refine lv_aload_n hx hb dJ8_linkLast_9 rfl (lv_at hl 0 rfl) ?_
  refine lv_aload_n hx hb dJ8_linkLast_10 rfl (lv_at hl 2 rfl) ?_
  refine lv_null hx hb dJ8_linkLast_11 ?_
  refine g_I (As := [.ref lx, .ref e1, .null]) (rest := [.ref n]) (lv := [(2, .ref lx), (0, .ref la), (1, .ref e1)]) C hI hS (c_J6_initRN l hB G5095 (n + 1) n e1 lx c5097 (by omega)) rfl q324 q325 q87 q326 (⟨by decide, by decide, by decide⟩ : gArg _ 3) rfl ⟨by decide, by decide⟩ (by omega) hl rfl (Nat.le_of_ble_eq_true rfl) dJ8_linkLast_12 (fun v5098 G5099 n5100 H locs hp5101 hI hS => ?_) gKx.no
  obtain ⟨rfl, hn5102, hF5103, c5104⟩ := hp5101
  refine W.widen (k := 1) (n := 200 * (1)) (by omega) (by omega) ?_
  have c0_ := hF5103.at c0_ (by omega) (g_nc c0_ c5097 (by decide))
  have c1_ := hF5103.at c1_ (by omega) (by omega)
  have hF := hF.trans hF5103 (by omega) (fun q hq => (fun h => by exfalso; omega))
  refine lv_astore_n (lv' := [(3, .ref n), (2, .ref lx), (0, .ref la), (1, .ref e1)]) hx hb dJ8_linkLast_15 rfl hl (by decide) rfl (fun ls hl => ?_)
  refine lv_aload_n hx hb dJ8_linkLast_16 rfl (lv_at hl 2 rfl) ?_
  refine lv_aload_n hx hb dJ8_linkLast_17 rfl (lv_at hl 0 rfl) ?_
  refine g_put (fs2 := [.int mc, .int sz, .ref fx, .ref n]) C hI hS c0_ (by omega) kc16 3 (Nat.le_of_ble_eq_true rfl) q355 (fun _ h9 => h9) rfl rfl rfl rfl dJ8_linkLast_18 (fun G5105 H locs e5106 hI hS => ?_)
  have c1_ := gE_k e5106 c1_ (g_nc c1_ c0_ (by decide))
  have c5104 := gE_k e5106 c5104 (g_nc c5104 c0_ (by decide))
  have c0_ : G5105 la = some (.inl (16, [.int mc, .int sz, .ref fx, .ref n])) := gE_s e5106
  have hF := gE_F e5106 hF (Or.inr (Or.inl rfl))
  refine lv_aload_n hx hb dJ8_linkLast_21 rfl (lv_at hl 1 rfl) ?_
  refine lv_ifnonnull (tgt := 33) hx hb dJ8_linkLast_22 (by decide) ?_
  refine lv_aload_n hx hb dJ8_linkLast_33 rfl (lv_at hl 1 rfl) ?_
  refine lv_aload_n hx hb dJ8_linkLast_34 rfl (lv_at hl 0 rfl) ?_
  refine g_put (fs2 := [.ref it, .ref n, .null]) C hI hS c1_ (by omega) kc17 1 (Nat.le_of_ble_eq_true rfl) q333 (fun _ h9 => h9) rfl rfl rfl rfl dJ8_linkLast_35 (fun G5107 H locs e5108 hI hS => ?_)
  have c0_ := gE_k e5108 c0_ (g_nc c0_ c1_ (by decide))
  have c5104 := gE_k e5108 c5104 (by omega)
  have c1_ : G5107 lx = some (.inl (17, [.ref it, .ref n, .null])) := gE_s e5108
  have hF := gE_F e5108 hF (Or.inr (Or.inr (rfl)))
  refine lv_aload_n hx hb dJ8_linkLast_38 rfl (lv_at hl 2 rfl) ?_
  refine lv_dup hx hb dJ8_linkLast_39 rfl ?_
  refine g_get C hI c0_ kc16 1 rfl q352 (fun _ h9 => h9) dJ8_linkLast_40 ?_
  refine lv_iconst (v := 1) hx hb dJ8_linkLast_43 (by decide) ?_
  refine lv_iadd hx hb dJ8_linkLast_44 ?_
  refine g_put (fs2 := [.int mc, .int (sz + 1), .ref fx, .ref n]) C hI hS c0_ (by omega) kc16 1 (Nat.le_of_ble_eq_true rfl) q352 (fun _ h9 => h9) rfl rfl rfl rfl dJ8_linkLast_45 (fun G5109 H locs e5110 hI hS => ?_)
  have c1_ := gE_k e5110 c1_ (g_nc c1_ c0_ (by decide))
  have c5104 := gE_k e5110 c5104 (g_nc c5104 c0_ (by decide))
  have c0_ : G5109 la = some (.inl (16, [.int mc, .int (sz + 1), .ref fx, .ref n])) := gE_s e5110
  have hF := gE_F e5110 hF (Or.inr (Or.inl rfl))
  refine lv_aload_n hx hb dJ8_linkLast_48 rfl (lv_at hl 2 rfl) ?_
  refine lv_dup hx hb dJ8_linkLast_49 rfl ?_
  refine g_get C hI c0_ kc16 0 rfl q170 (u_same (C.ts _ q166)) dJ8_linkLast_50 ?_
  refine lv_iconst (v := 1) hx hb dJ8_linkLast_53 (by decide) ?_
  refine lv_iadd hx hb dJ8_linkLast_54 ?_
  refine g_put (fs2 := [.int (mc + 1), .int (sz + 1), .ref fx, .ref n]) C hI hS c0_ (by omega) kc16 0 (Nat.le_of_ble_eq_true rfl) q170 (u_same (C.ts _ q166)) rfl rfl rfl rfl dJ8_linkLast_55 (fun G5111 H locs e5112 hI hS => ?_)
  have c1_ := gE_k e5112 c1_ (g_nc c1_ c0_ (by decide))
  have c5104 := gE_k e5112 c5104 (g_nc c5104 c0_ (by decide))
  have c0_ : G5111 la = some (.inl (16, [.int (mc + 1), .int (sz + 1), .ref fx, .ref n])) := gE_s e5112
  have hF := gE_F e5112 hF (Or.inr (Or.inl rfl))
  exact g_vret C hI hS (by omega) ⟨rfl, (by omega), hF, c0_, c1_, c5104⟩ dJ8_linkLast_58
set_option maxHeartbeats 4000000 in
set_option maxRecDepth 100000 in
theorem c_J8_addN (l : Launch) {D : gD} (hB : gBs D) (G : gH) (n : Nat) (la : Nat) (mc : Int32) (sz : Int32) (fx : Nat) (lx : Nat) (e1 : Nat) (it : Nat) (c0_ : G la = some (.inl (16, [.int mc, .int sz, .ref fx, .ref lx]))) (c1_ : G lx = some (.inl (17, [.ref it, .null, .null]))) (hzl : gz D ≤ la) (hzlx : gz D ≤ lx) : gMet l D yJ8_add (ws_ yJ8_add cJ8_add 2 (some FieldType.boolean)) 4 1 G n [.ref la, .ref e1] (fun (v : Option Value) (G1 : gH) (n1 : Nat) => v = some (.int 1) ∧ n ≤ n1 ∧ gF G G1 n (fun q : Nat => q = la ∨ q = lx) ∧ G1 la = some (.inl (16, [.int (mc + 1), .int (sz + 1), .ref fx, .ref n])) ∧ G1 lx = some (.inl (17, [.ref it, .ref n, .null])) ∧ G1 n = some (.inl (17, [.ref e1, .null, .ref lx]))) gNox := by
  refine g_start (by decide) (Nat.le_of_ble_eq_true rfl) ?_
  intro p e s m below meth c ls C hnm hxt hI hl
  have hx := C.x
  have hb := C.b
  have hS : va_S (gA D) s.heap s.heap [] := va_S.rf
  have hz0 := hI.z
  have lc0_ := hI.lt c0_
  have lc1_ := hI.lt c1_
  have hF : gF G G n (fun q : Nat => q = la ∨ q = lx) := gF.rf _ _ _
  have hl : lv_has ls 2 [(0, .ref la), (1, .ref e1)] := hl
  refine lv_aload_n hx hb dJ8_add_0 rfl (lv_at hl 0 rfl) ?_
  refine lv_aload_n hx hb dJ8_add_1 rfl (lv_at hl 1 rfl) ?_
  refine g_V (As := [.ref e1]) (rest := []) (lv := [(0, .ref la), (1, .ref e1)]) C hI hS (c_J8_linkLastN l hB G n la mc sz fx lx e1 it c0_ c1_ (by omega) (by omega)) c0_ rfl rfl q318 q319 q320 q89 q321 (⟨by decide, by decide, by decide⟩ : gArg _ 1) rfl ⟨by decide, by decide⟩ (by omega) hl rfl (Nat.le_of_ble_eq_true rfl) dJ8_add_2 (fun v5113 G5114 n5115 H locs hp5116 hI hS => ?_) gKx.no
  obtain ⟨rfl, hn5117, hF5118, c5119, c5120, c5121⟩ := hp5116
  refine W.widen (k := 1) (n := 200 * (1)) (by omega) (by omega) ?_
  have hF := hF.trans hF5118 (by omega) (fun q hq => (fun h => h.elim (fun h => h ▸ (Or.inl rfl)) (fun h => h ▸ (Or.inr (rfl)))))
  refine lv_iconst (v := 1) hx hb dJ8_add_5 (by decide) ?_
  exact g_zret C hI hS (by omega) rfl ⟨rfl, (by omega), hF, c5119, c5120, c5121⟩ dJ8_add_6
set_option maxHeartbeats 4000000 in
set_option maxRecDepth 100000 in
theorem c_J8_addLastN (l : Launch) {D : gD} (hB : gBs D) (G : gH) (n : Nat) (la : Nat) (mc : Int32) (sz : Int32) (fx : Nat) (lx : Nat) (e1 : Nat) (it : Nat) (c0_ : G la = some (.inl (16, [.int mc, .int sz, .ref fx, .ref lx]))) (c1_ : G lx = some (.inl (17, [.ref it, .null, .null]))) (hzl : gz D ≤ la) (hzlx : gz D ≤ lx) : gMet l D yJ8_addLast (ws_ yJ8_addLast cJ8_addLast 2 none) 4 1 G n [.ref la, .ref e1] (fun (v : Option Value) (G1 : gH) (n1 : Nat) => v = none ∧ n ≤ n1 ∧ gF G G1 n (fun q : Nat => q = la ∨ q = lx) ∧ G1 la = some (.inl (16, [.int (mc + 1), .int (sz + 1), .ref fx, .ref n])) ∧ G1 lx = some (.inl (17, [.ref it, .ref n, .null])) ∧ G1 n = some (.inl (17, [.ref e1, .null, .ref lx]))) gNox := by
  refine g_start (by decide) (Nat.le_of_ble_eq_true rfl) ?_
  intro p e s m below meth c ls C hnm hxt hI hl
  have hx := C.x
  have hb := C.b
  have hS : va_S (gA D) s.heap s.heap [] := va_S.rf
  have hz0 := hI.z
  have lc0_ := hI.lt c0_
  have lc1_ := hI.lt c1_
  have hF : gF G G n (fun q : Nat => q = la ∨ q = lx) := gF.rf _ _ _
  have hl : lv_has ls 2 [(0, .ref la), (1, .ref e1)] := hl
  refine lv_aload_n hx hb dJ8_addLast_0 rfl (lv_at hl 0 rfl) ?_
  refine lv_aload_n hx hb dJ8_addLast_1 rfl (lv_at hl 1 rfl) ?_
  refine g_V (As := [.ref e1]) (rest := []) (lv := [(0, .ref la), (1, .ref e1)]) C hI hS (c_J8_linkLastN l hB G n la mc sz fx lx e1 it c0_ c1_ (by omega) (by omega)) c0_ rfl rfl q318 q319 q320 q89 q321 (⟨by decide, by decide, by decide⟩ : gArg _ 1) rfl ⟨by decide, by decide⟩ (by omega) hl rfl (Nat.le_of_ble_eq_true rfl) dJ8_addLast_2 (fun v5122 G5123 n5124 H locs hp5125 hI hS => ?_) gKx.no
  obtain ⟨rfl, hn5126, hF5127, c5128, c5129, c5130⟩ := hp5125
  refine W.widen (k := 1) (n := 200 * (1)) (by omega) (by omega) ?_
  have hF := hF.trans hF5127 (by omega) (fun q hq => (fun h => h.elim (fun h => h ▸ (Or.inl rfl)) (fun h => h ▸ (Or.inr (rfl)))))
  exact g_vret C hI hS (by omega) ⟨rfl, (by omega), hF, c5128, c5129, c5130⟩ dJ8_addLast_5
set_option maxHeartbeats 4000000 in
set_option maxRecDepth 100000 in
theorem c_J8_linkLastR (l : Launch) {D : gD} (hB : gBs D) (G : gH) (n : Nat) (la : Nat) (mc : Int32) (sz : Int32) (fx : Nat) (lx : Nat) (e1 : Nat) (it : Nat) (pv : Nat) (c0_ : G la = some (.inl (16, [.int mc, .int sz, .ref fx, .ref lx]))) (c1_ : G lx = some (.inl (17, [.ref it, .null, .ref pv]))) (hzl : gz D ≤ la) (hzlx : gz D ≤ lx) : gMet l D yJ8_linkLast (ws_ yJ8_linkLast cJ8_linkLast 4 none) 3 1 G n [.ref la, .ref e1] (fun (v : Option Value) (G1 : gH) (n1 : Nat) => v = none ∧ n ≤ n1 ∧ gF G G1 n (fun q : Nat => q = la ∨ q = lx) ∧ G1 la = some (.inl (16, [.int (mc + 1), .int (sz + 1), .ref fx, .ref n])) ∧ G1 lx = some (.inl (17, [.ref it, .ref n, .ref pv])) ∧ G1 n = some (.inl (17, [.ref e1, .null, .ref lx]))) gNox := by
  refine g_start (by decide) (Nat.le_of_ble_eq_true rfl) ?_
  intro p e s m below meth c ls C hnm hxt hI hl
  have hx := C.x
  have hb := C.b
  have hS : va_S (gA D) s.heap s.heap [] := va_S.rf
  have hz0 := hI.z
  have lc0_ := hI.lt c0_
  have lc1_ := hI.lt c1_
  have hF : gF G G n (fun q : Nat => q = la ∨ q = lx) := gF.rf _ _ _
  have hl : lv_has ls 4 [(0, .ref la), (1, .ref e1)] := hl
  refine lv_aload_n hx hb dJ8_linkLast_0 rfl (lv_at hl 0 rfl) ?_
  refine g_get C hI c0_ kc16 3 rfl q355 (fun _ h9 => h9) dJ8_linkLast_1 ?_
  refine lv_astore_n (lv' := [(2, .ref lx), (0, .ref la), (1, .ref e1)]) hx hb dJ8_linkLast_4 rfl hl (by decide) rfl (fun ls hl => ?_)
  refine g_new (fs := [.null, .null, .null]) C hI hS kc17 rfl q322 q323 q87 (by decide) (by omega) dJ8_linkLast_5 (fun G5131 H e5132 hI hS => ?_)
  have c0_ := gE_k e5132 c0_ (by omega)
  have c1_ := gE_k e5132 c1_ (by omega)
  have c5133 : G5131 n = some (.inl (17, [.null, .null, .null])) := gE_s e5132
  have hF := gE_F e5132 hF (Or.inl (by omega))
  refine lv_dup hx hb dJ8_linkLast_8 rfl ?_
  refine lv_aload_n hx hb dJ8_linkLast_9 rfl (lv_at hl 0 rfl) ?_
  refine lv_aload_n hx hb dJ8_linkLast_10 rfl (lv_at hl 2 rfl) ?_
  refine lv_null hx hb dJ8_linkLast_11 ?_
  refine g_I (As := [.ref lx, .ref e1, .null]) (rest := [.ref n]) (lv := [(2, .ref lx), (0, .ref la), (1, .ref e1)]) C hI hS (c_J6_initRN l hB G5131 (n + 1) n e1 lx c5133 (by omega)) rfl q324 q325 q87 q326 (⟨by decide, by decide, by decide⟩ : gArg _ 3) rfl ⟨by decide, by decide⟩ (by omega) hl rfl (Nat.le_of_ble_eq_true rfl) dJ8_linkLast_12 (fun v5134 G5135 n5136 H locs hp5137 hI hS => ?_) gKx.no
  obtain ⟨rfl, hn5138, hF5139, c5140⟩ := hp5137
  refine W.widen (k := 1) (n := 200 * (1)) (by omega) (by omega) ?_
  have c0_ := hF5139.at c0_ (by omega) (g_nc c0_ c5133 (by decide))
  have c1_ := hF5139.at c1_ (by omega) (by omega)
  have hF := hF.trans hF5139 (by omega) (fun q hq => (fun h => by exfalso; omega))
  refine lv_astore_n (lv' := [(3, .ref n), (2, .ref lx), (0, .ref la), (1, .ref e1)]) hx hb dJ8_linkLast_15 rfl hl (by decide) rfl (fun ls hl => ?_)
  refine lv_aload_n hx hb dJ8_linkLast_16 rfl (lv_at hl 2 rfl) ?_
  refine lv_aload_n hx hb dJ8_linkLast_17 rfl (lv_at hl 0 rfl) ?_
  refine g_put (fs2 := [.int mc, .int sz, .ref fx, .ref n]) C hI hS c0_ (by omega) kc16 3 (Nat.le_of_ble_eq_true rfl) q355 (fun _ h9 => h9) rfl rfl rfl rfl dJ8_linkLast_18 (fun G5141 H locs e5142 hI hS => ?_)
  have c1_ := gE_k e5142 c1_ (g_nc c1_ c0_ (by decide))
  have c5140 := gE_k e5142 c5140 (g_nc c5140 c0_ (by decide))
  have c0_ : G5141 la = some (.inl (16, [.int mc, .int sz, .ref fx, .ref n])) := gE_s e5142
  have hF := gE_F e5142 hF (Or.inr (Or.inl rfl))
  refine lv_aload_n hx hb dJ8_linkLast_21 rfl (lv_at hl 1 rfl) ?_
  refine lv_ifnonnull (tgt := 33) hx hb dJ8_linkLast_22 (by decide) ?_
  refine lv_aload_n hx hb dJ8_linkLast_33 rfl (lv_at hl 1 rfl) ?_
  refine lv_aload_n hx hb dJ8_linkLast_34 rfl (lv_at hl 0 rfl) ?_
  refine g_put (fs2 := [.ref it, .ref n, .ref pv]) C hI hS c1_ (by omega) kc17 1 (Nat.le_of_ble_eq_true rfl) q333 (fun _ h9 => h9) rfl rfl rfl rfl dJ8_linkLast_35 (fun G5143 H locs e5144 hI hS => ?_)
  have c0_ := gE_k e5144 c0_ (g_nc c0_ c1_ (by decide))
  have c5140 := gE_k e5144 c5140 (by omega)
  have c1_ : G5143 lx = some (.inl (17, [.ref it, .ref n, .ref pv])) := gE_s e5144
  have hF := gE_F e5144 hF (Or.inr (Or.inr (rfl)))
  refine lv_aload_n hx hb dJ8_linkLast_38 rfl (lv_at hl 2 rfl) ?_
  refine lv_dup hx hb dJ8_linkLast_39 rfl ?_
  refine g_get C hI c0_ kc16 1 rfl q352 (fun _ h9 => h9) dJ8_linkLast_40 ?_
  refine lv_iconst (v := 1) hx hb dJ8_linkLast_43 (by decide) ?_
  refine lv_iadd hx hb dJ8_linkLast_44 ?_
  refine g_put (fs2 := [.int mc, .int (sz + 1), .ref fx, .ref n]) C hI hS c0_ (by omega) kc16 1 (Nat.le_of_ble_eq_true rfl) q352 (fun _ h9 => h9) rfl rfl rfl rfl dJ8_linkLast_45 (fun G5145 H locs e5146 hI hS => ?_)
  have c1_ := gE_k e5146 c1_ (g_nc c1_ c0_ (by decide))
  have c5140 := gE_k e5146 c5140 (g_nc c5140 c0_ (by decide))
  have c0_ : G5145 la = some (.inl (16, [.int mc, .int (sz + 1), .ref fx, .ref n])) := gE_s e5146
  have hF := gE_F e5146 hF (Or.inr (Or.inl rfl))
  refine lv_aload_n hx hb dJ8_linkLast_48 rfl (lv_at hl 2 rfl) ?_
  refine lv_dup hx hb dJ8_linkLast_49 rfl ?_
  refine g_get C hI c0_ kc16 0 rfl q170 (u_same (C.ts _ q166)) dJ8_linkLast_50 ?_
  refine lv_iconst (v := 1) hx hb dJ8_linkLast_53 (by decide) ?_
  refine lv_iadd hx hb dJ8_linkLast_54 ?_
  refine g_put (fs2 := [.int (mc + 1), .int (sz + 1), .ref fx, .ref n]) C hI hS c0_ (by omega) kc16 0 (Nat.le_of_ble_eq_true rfl) q170 (u_same (C.ts _ q166)) rfl rfl rfl rfl dJ8_linkLast_55 (fun G5147 H locs e5148 hI hS => ?_)
  have c1_ := gE_k e5148 c1_ (g_nc c1_ c0_ (by decide))
  have c5140 := gE_k e5148 c5140 (g_nc c5140 c0_ (by decide))
  have c0_ : G5147 la = some (.inl (16, [.int (mc + 1), .int (sz + 1), .ref fx, .ref n])) := gE_s e5148
  have hF := gE_F e5148 hF (Or.inr (Or.inl rfl))
  exact g_vret C hI hS (by omega) ⟨rfl, (by omega), hF, c0_, c1_, c5140⟩ dJ8_linkLast_58
set_option maxHeartbeats 4000000 in
set_option maxRecDepth 100000 in
theorem c_J8_addR (l : Launch) {D : gD} (hB : gBs D) (G : gH) (n : Nat) (la : Nat) (mc : Int32) (sz : Int32) (fx : Nat) (lx : Nat) (e1 : Nat) (it : Nat) (pv : Nat) (c0_ : G la = some (.inl (16, [.int mc, .int sz, .ref fx, .ref lx]))) (c1_ : G lx = some (.inl (17, [.ref it, .null, .ref pv]))) (hzl : gz D ≤ la) (hzlx : gz D ≤ lx) : gMet l D yJ8_add (ws_ yJ8_add cJ8_add 2 (some FieldType.boolean)) 4 1 G n [.ref la, .ref e1] (fun (v : Option Value) (G1 : gH) (n1 : Nat) => v = some (.int 1) ∧ n ≤ n1 ∧ gF G G1 n (fun q : Nat => q = la ∨ q = lx) ∧ G1 la = some (.inl (16, [.int (mc + 1), .int (sz + 1), .ref fx, .ref n])) ∧ G1 lx = some (.inl (17, [.ref it, .ref n, .ref pv])) ∧ G1 n = some (.inl (17, [.ref e1, .null, .ref lx]))) gNox := by
  refine g_start (by decide) (Nat.le_of_ble_eq_true rfl) ?_
  intro p e s m below meth c ls C hnm hxt hI hl
  have hx := C.x
  have hb := C.b
  have hS : va_S (gA D) s.heap s.heap [] := va_S.rf
  have hz0 := hI.z
  have lc0_ := hI.lt c0_
  have lc1_ := hI.lt c1_
  have hF : gF G G n (fun q : Nat => q = la ∨ q = lx) := gF.rf _ _ _
  have hl : lv_has ls 2 [(0, .ref la), (1, .ref e1)] := hl
  refine lv_aload_n hx hb dJ8_add_0 rfl (lv_at hl 0 rfl) ?_
  refine lv_aload_n hx hb dJ8_add_1 rfl (lv_at hl 1 rfl) ?_
  refine g_V (As := [.ref e1]) (rest := []) (lv := [(0, .ref la), (1, .ref e1)]) C hI hS (c_J8_linkLastR l hB G n la mc sz fx lx e1 it pv c0_ c1_ (by omega) (by omega)) c0_ rfl rfl q318 q319 q320 q89 q321 (⟨by decide, by decide, by decide⟩ : gArg _ 1) rfl ⟨by decide, by decide⟩ (by omega) hl rfl (Nat.le_of_ble_eq_true rfl) dJ8_add_2 (fun v5149 G5150 n5151 H locs hp5152 hI hS => ?_) gKx.no
  obtain ⟨rfl, hn5153, hF5154, c5155, c5156, c5157⟩ := hp5152
  refine W.widen (k := 1) (n := 200 * (1)) (by omega) (by omega) ?_
  have hF := hF.trans hF5154 (by omega) (fun q hq => (fun h => h.elim (fun h => h ▸ (Or.inl rfl)) (fun h => h ▸ (Or.inr (rfl)))))
  refine lv_iconst (v := 1) hx hb dJ8_add_5 (by decide) ?_
  exact g_zret C hI hS (by omega) rfl ⟨rfl, (by omega), hF, c5155, c5156, c5157⟩ dJ8_add_6
set_option maxHeartbeats 4000000 in
set_option maxRecDepth 100000 in
theorem c_J8_addLastR (l : Launch) {D : gD} (hB : gBs D) (G : gH) (n : Nat) (la : Nat) (mc : Int32) (sz : Int32) (fx : Nat) (lx : Nat) (e1 : Nat) (it : Nat) (pv : Nat) (c0_ : G la = some (.inl (16, [.int mc, .int sz, .ref fx, .ref lx]))) (c1_ : G lx = some (.inl (17, [.ref it, .null, .ref pv]))) (hzl : gz D ≤ la) (hzlx : gz D ≤ lx) : gMet l D yJ8_addLast (ws_ yJ8_addLast cJ8_addLast 2 none) 4 1 G n [.ref la, .ref e1] (fun (v : Option Value) (G1 : gH) (n1 : Nat) => v = none ∧ n ≤ n1 ∧ gF G G1 n (fun q : Nat => q = la ∨ q = lx) ∧ G1 la = some (.inl (16, [.int (mc + 1), .int (sz + 1), .ref fx, .ref n])) ∧ G1 lx = some (.inl (17, [.ref it, .ref n, .ref pv])) ∧ G1 n = some (.inl (17, [.ref e1, .null, .ref lx]))) gNox := by
  refine g_start (by decide) (Nat.le_of_ble_eq_true rfl) ?_
  intro p e s m below meth c ls C hnm hxt hI hl
  have hx := C.x
  have hb := C.b
  have hS : va_S (gA D) s.heap s.heap [] := va_S.rf
  have hz0 := hI.z
  have lc0_ := hI.lt c0_
  have lc1_ := hI.lt c1_
  have hF : gF G G n (fun q : Nat => q = la ∨ q = lx) := gF.rf _ _ _
  have hl : lv_has ls 2 [(0, .ref la), (1, .ref e1)] := hl
  refine lv_aload_n hx hb dJ8_addLast_0 rfl (lv_at hl 0 rfl) ?_
  refine lv_aload_n hx hb dJ8_addLast_1 rfl (lv_at hl 1 rfl) ?_
  refine g_V (As := [.ref e1]) (rest := []) (lv := [(0, .ref la), (1, .ref e1)]) C hI hS (c_J8_linkLastR l hB G n la mc sz fx lx e1 it pv c0_ c1_ (by omega) (by omega)) c0_ rfl rfl q318 q319 q320 q89 q321 (⟨by decide, by decide, by decide⟩ : gArg _ 1) rfl ⟨by decide, by decide⟩ (by omega) hl rfl (Nat.le_of_ble_eq_true rfl) dJ8_addLast_2 (fun v5158 G5159 n5160 H locs hp5161 hI hS => ?_) gKx.no
  obtain ⟨rfl, hn5162, hF5163, c5164, c5165, c5166⟩ := hp5161
  refine W.widen (k := 1) (n := 200 * (1)) (by omega) (by omega) ?_
  have hF := hF.trans hF5163 (by omega) (fun q hq => (fun h => h.elim (fun h => h ▸ (Or.inl rfl)) (fun h => h ▸ (Or.inr (rfl)))))
  exact g_vret C hI hS (by omega) ⟨rfl, (by omega), hF, c5164, c5165, c5166⟩ dJ8_addLast_5
set_option maxHeartbeats 4000000 in
set_option maxRecDepth 100000 in
theorem c_J8_addE (l : Launch) {D : gD} (hB : gBs D) (G : gH) (n : Nat) (la : Nat) (mc : Int32) (sz : Int32) (e1 : Nat) (c0_ : G la = some (.inl (16, [.int mc, .int sz, .null, .null]))) (hzl : gz D ≤ la) : gMet l D yJ8_add (ws_ yJ8_add cJ8_add 2 (some FieldType.boolean)) 4 1 G n [.ref la, .ref e1] (fun (v : Option Value) (G1 : gH) (n1 : Nat) => v = some (.int 1) ∧ n ≤ n1 ∧ gF G G1 n (fun q : Nat => q = la) ∧ G1 la = some (.inl (16, [.int (mc + 1), .int (sz + 1), .ref n, .ref n])) ∧ G1 n = some (.inl (17, [.ref e1, .null, .null]))) gNox := by
  refine g_start (by decide) (Nat.le_of_ble_eq_true rfl) ?_
  intro p e s m below meth c ls C hnm hxt hI hl
  have hx := C.x
  have hb := C.b
  have hS : va_S (gA D) s.heap s.heap [] := va_S.rf
  have hz0 := hI.z
  have lc0_ := hI.lt c0_
  have hF : gF G G n (fun q : Nat => q = la) := gF.rf _ _ _
  have hl : lv_has ls 2 [(0, .ref la), (1, .ref e1)] := hl
  refine lv_aload_n hx hb dJ8_add_0 rfl (lv_at hl 0 rfl) ?_
  refine lv_aload_n hx hb dJ8_add_1 rfl (lv_at hl 1 rfl) ?_
  refine g_V (As := [.ref e1]) (rest := []) (lv := [(0, .ref la), (1, .ref e1)]) C hI hS (c_J8_linkLastE l hB G n la mc sz e1 c0_ (by omega)) c0_ rfl rfl q318 q319 q320 q89 q321 (⟨by decide, by decide, by decide⟩ : gArg _ 1) rfl ⟨by decide, by decide⟩ (by omega) hl rfl (Nat.le_of_ble_eq_true rfl) dJ8_add_2 (fun v5167 G5168 n5169 H locs hp5170 hI hS => ?_) gKx.no
  obtain ⟨rfl, hn5171, hF5172, c5173, c5174⟩ := hp5170
  refine W.widen (k := 1) (n := 200 * (1)) (by omega) (by omega) ?_
  have hF := hF.trans hF5172 (by omega) (fun q hq => (fun h => h ▸ rfl))
  refine lv_iconst (v := 1) hx hb dJ8_add_5 (by decide) ?_
  exact g_zret C hI hS (by omega) rfl ⟨rfl, (by omega), hF, c5173, c5174⟩ dJ8_add_6
set_option maxHeartbeats 4000000 in
set_option maxRecDepth 100000 in
theorem c_J8_addLastE (l : Launch) {D : gD} (hB : gBs D) (G : gH) (n : Nat) (la : Nat) (mc : Int32) (sz : Int32) (e1 : Nat) (c0_ : G la = some (.inl (16, [.int mc, .int sz, .null, .null]))) (hzl : gz D ≤ la) : gMet l D yJ8_addLast (ws_ yJ8_addLast cJ8_addLast 2 none) 4 1 G n [.ref la, .ref e1] (fun (v : Option Value) (G1 : gH) (n1 : Nat) => v = none ∧ n ≤ n1 ∧ gF G G1 n (fun q : Nat => q = la) ∧ G1 la = some (.inl (16, [.int (mc + 1), .int (sz + 1), .ref n, .ref n])) ∧ G1 n = some (.inl (17, [.ref e1, .null, .null]))) gNox := by
  refine g_start (by decide) (Nat.le_of_ble_eq_true rfl) ?_
  intro p e s m below meth c ls C hnm hxt hI hl
  have hx := C.x
  have hb := C.b
  have hS : va_S (gA D) s.heap s.heap [] := va_S.rf
  have hz0 := hI.z
  have lc0_ := hI.lt c0_
  have hF : gF G G n (fun q : Nat => q = la) := gF.rf _ _ _
  have hl : lv_has ls 2 [(0, .ref la), (1, .ref e1)] := hl
  refine lv_aload_n hx hb dJ8_addLast_0 rfl (lv_at hl 0 rfl) ?_
  refine lv_aload_n hx hb dJ8_addLast_1 rfl (lv_at hl 1 rfl) ?_
  refine g_V (As := [.ref e1]) (rest := []) (lv := [(0, .ref la), (1, .ref e1)]) C hI hS (c_J8_linkLastE l hB G n la mc sz e1 c0_ (by omega)) c0_ rfl rfl q318 q319 q320 q89 q321 (⟨by decide, by decide, by decide⟩ : gArg _ 1) rfl ⟨by decide, by decide⟩ (by omega) hl rfl (Nat.le_of_ble_eq_true rfl) dJ8_addLast_2 (fun v5175 G5176 n5177 H locs hp5178 hI hS => ?_) gKx.no
  obtain ⟨rfl, hn5179, hF5180, c5181, c5182⟩ := hp5178
  refine W.widen (k := 1) (n := 200 * (1)) (by omega) (by omega) ?_
  have hF := hF.trans hF5180 (by omega) (fun q hq => (fun h => h ▸ rfl))
  exact g_vret C hI hS (by omega) ⟨rfl, (by omega), hF, c5181, c5182⟩ dJ8_addLast_5
set_option maxHeartbeats 4000000 in
set_option maxRecDepth 100000 in
theorem c_J8_unlinkFirstS (l : Launch) {D : gD} (hB : gBs D) (G : gH) (n : Nat) (la : Nat) (mc : Int32) (sz : Int32) (fx : Nat) (lx : Nat) (it : Nat) (c0_ : G la = some (.inl (16, [.int mc, .int sz, .ref fx, .ref lx]))) (c1_ : G fx = some (.inl (17, [.ref it, .null, .null]))) (hzl : gz D ≤ la) (hzfx : gz D ≤ fx) : gMet l D yJ8_unlinkFirst (ws_ yJ8_unlinkFirst cJ8_unlinkFirst 4 (some (FieldType.object "java/lang/Object"))) 1 0 G n [.ref la, .ref fx] (fun (v : Option Value) (G1 : gH) (n1 : Nat) => v = some (.ref it) ∧ n ≤ n1 ∧ gF G G1 n (fun q : Nat => q = la ∨ q = fx) ∧ G1 la = some (.inl (16, [.int (mc + 1), .int (sz - 1), .null, .null]))) gNox := by
  refine g_start (by decide) (Nat.le_of_ble_eq_true rfl) ?_
  intro p e s m below meth c ls C hnm hxt hI hl
  have hx := C.x
  have hb := C.b
  have hS : va_S (gA D) s.heap s.heap [] := va_S.rf
  have hz0 := hI.z
  have lc0_ := hI.lt c0_
  have lc1_ := hI.lt c1_
  have hF : gF G G n (fun q : Nat => q = la ∨ q = fx) := gF.rf _ _ _
  have hl : lv_has ls 4 [(0, .ref la), (1, .ref fx)] := hl
  refine lv_aload_n hx hb dJ8_unlinkFirst_0 rfl (lv_at hl 1 rfl) ?_
  refine g_get C hI c1_ kc17 0 rfl q330 (fun _ h9 => h9) dJ8_unlinkFirst_1 ?_
  refine lv_astore_n (lv' := [(2, .ref it), (0, .ref la), (1, .ref fx)]) hx hb dJ8_unlinkFirst_4 rfl hl (by decide) rfl (fun ls hl => ?_)
  refine lv_aload_n hx hb dJ8_unlinkFirst_5 rfl (lv_at hl 2 rfl) ?_
  refine g_get C hI c1_ kc17 1 rfl q333 (fun _ h9 => h9) dJ8_unlinkFirst_6 ?_
  refine lv_astore_nN (lv' := [(3, .null), (2, .ref it), (0, .ref la), (1, .ref fx)]) hx hb dJ8_unlinkFirst_9 rfl hl (by decide) rfl (fun ls hl => ?_)
  refine lv_aload_n hx hb dJ8_unlinkFirst_10 rfl (lv_at hl 3 rfl) ?_
  refine lv_null hx hb dJ8_unlinkFirst_11 ?_
  refine g_put (fs2 := [.null, .null, .null]) C hI hS c1_ (by omega) kc17 0 (Nat.le_of_ble_eq_true rfl) q330 (fun _ h9 => h9) rfl rfl rfl rfl dJ8_unlinkFirst_12 (fun G5183 H locs e5184 hI hS => ?_)
  have c0_ := gE_k e5184 c0_ (g_nc c0_ c1_ (by decide))
  have c1_ : G5183 fx = some (.inl (17, [.null, .null, .null])) := gE_s e5184
  have hF := gE_F e5184 hF (Or.inr (Or.inr (rfl)))
  refine lv_aload_n hx hb dJ8_unlinkFirst_15 rfl (lv_at hl 3 rfl) ?_
  refine lv_null hx hb dJ8_unlinkFirst_16 ?_
  refine g_put (fs2 := [.null, .null, .null]) C hI hS c1_ (by omega) kc17 1 (Nat.le_of_ble_eq_true rfl) q333 (fun _ h9 => h9) rfl rfl rfl rfl dJ8_unlinkFirst_17 (fun G5185 H locs e5186 hI hS => ?_)
  have c0_ := gE_k e5186 c0_ (g_nc c0_ c1_ (by decide))
  have c1_ : G5185 fx = some (.inl (17, [.null, .null, .null])) := gE_s e5186
  have hF := gE_F e5186 hF (Or.inr (Or.inr (rfl)))
  refine lv_aload_n hx hb dJ8_unlinkFirst_20 rfl (lv_at hl 2 rfl) ?_
  refine lv_aload_nN hx hb dJ8_unlinkFirst_21 rfl (lv_at hl 0 rfl) ?_
  refine g_put (fs2 := [.int mc, .int sz, .null, .ref lx]) C hI hS c0_ (by omega) kc16 2 (Nat.le_of_ble_eq_true rfl) q354 (fun _ h9 => h9) rfl rfl rfl rfl dJ8_unlinkFirst_22 (fun G5187 H locs e5188 hI hS => ?_)
  have c1_ := gE_k e5188 c1_ (g_nc c1_ c0_ (by decide))
  have c0_ : G5187 la = some (.inl (16, [.int mc, .int sz, .null, .ref lx])) := gE_s e5188
  have hF := gE_F e5188 hF (Or.inr (Or.inl rfl))
  refine lv_aload_nN hx hb dJ8_unlinkFirst_25 rfl (lv_at hl 0 rfl) ?_
  refine lv_ifnonnullN hx hb dJ8_unlinkFirst_26 ?_
  refine lv_aload_n hx hb dJ8_unlinkFirst_29 rfl (lv_at hl 2 rfl) ?_
  refine lv_null hx hb dJ8_unlinkFirst_30 ?_
  refine g_put (fs2 := [.int mc, .int sz, .null, .null]) C hI hS c0_ (by omega) kc16 3 (Nat.le_of_ble_eq_true rfl) q355 (fun _ h9 => h9) rfl rfl rfl rfl dJ8_unlinkFirst_31 (fun G5189 H locs e5190 hI hS => ?_)
  have c1_ := gE_k e5190 c1_ (g_nc c1_ c0_ (by decide))
  have c0_ : G5189 la = some (.inl (16, [.int mc, .int sz, .null, .null])) := gE_s e5190
  have hF := gE_F e5190 hF (Or.inr (Or.inl rfl))
  refine lv_goto (tgt := 42) hx hb dJ8_unlinkFirst_34 (by decide) ?_
  refine lv_aload_n hx hb dJ8_unlinkFirst_42 rfl (lv_at hl 2 rfl) ?_
  refine lv_dup hx hb dJ8_unlinkFirst_43 rfl ?_
  refine g_get C hI c0_ kc16 1 rfl q352 (fun _ h9 => h9) dJ8_unlinkFirst_44 ?_
  refine lv_iconst (v := 1) hx hb dJ8_unlinkFirst_47 (by decide) ?_
  refine lv_isub hx hb dJ8_unlinkFirst_48 ?_
  refine g_put (fs2 := [.int mc, .int (sz - 1), .null, .null]) C hI hS c0_ (by omega) kc16 1 (Nat.le_of_ble_eq_true rfl) q352 (fun _ h9 => h9) rfl rfl rfl rfl dJ8_unlinkFirst_49 (fun G5191 H locs e5192 hI hS => ?_)
  have c1_ := gE_k e5192 c1_ (g_nc c1_ c0_ (by decide))
  have c0_ : G5191 la = some (.inl (16, [.int mc, .int (sz - 1), .null, .null])) := gE_s e5192
  have hF := gE_F e5192 hF (Or.inr (Or.inl rfl))
  refine lv_aload_n hx hb dJ8_unlinkFirst_52 rfl (lv_at hl 2 rfl) ?_
  refine lv_dup hx hb dJ8_unlinkFirst_53 rfl ?_
  refine g_get C hI c0_ kc16 0 rfl q170 (u_same (C.ts _ q166)) dJ8_unlinkFirst_54 ?_
  refine lv_iconst (v := 1) hx hb dJ8_unlinkFirst_57 (by decide) ?_
  refine lv_iadd hx hb dJ8_unlinkFirst_58 ?_
  refine g_put (fs2 := [.int (mc + 1), .int (sz - 1), .null, .null]) C hI hS c0_ (by omega) kc16 0 (Nat.le_of_ble_eq_true rfl) q170 (u_same (C.ts _ q166)) rfl rfl rfl rfl dJ8_unlinkFirst_59 (fun G5193 H locs e5194 hI hS => ?_)
  have c1_ := gE_k e5194 c1_ (g_nc c1_ c0_ (by decide))
  have c0_ : G5193 la = some (.inl (16, [.int (mc + 1), .int (sz - 1), .null, .null])) := gE_s e5194
  have hF := gE_F e5194 hF (Or.inr (Or.inl rfl))
  refine lv_aload_n hx hb dJ8_unlinkFirst_62 rfl (lv_at hl 1 rfl) ?_
  exact g_aret C hI hS (by omega) (by first | exact Or.inl ⟨_, rfl⟩ | exact Or.inr ⟨_, rfl⟩) (Or.inr ⟨_, rfl⟩) ⟨rfl, (by omega), hF, c0_⟩ dJ8_unlinkFirst_63
set_option maxHeartbeats 4000000 in
set_option maxRecDepth 100000 in
theorem c_J8_removeFirstS (l : Launch) {D : gD} (hB : gBs D) (G : gH) (n : Nat) (la : Nat) (mc : Int32) (sz : Int32) (fx : Nat) (lx : Nat) (it : Nat) (c0_ : G la = some (.inl (16, [.int mc, .int sz, .ref fx, .ref lx]))) (c1_ : G fx = some (.inl (17, [.ref it, .null, .null]))) (hzl : gz D ≤ la) (hzfx : gz D ≤ fx) : gMet l D yJ8_removeFirst (ws_ yJ8_removeFirst cJ8_removeFirst 2 (some (FieldType.object "java/lang/Object"))) 8 0 G n [.ref la] (fun (v : Option Value) (G1 : gH) (n1 : Nat) => v = some (.ref it) ∧ n ≤ n1 ∧ gF G G1 n (fun q : Nat => q = la ∨ q = fx) ∧ G1 la = some (.inl (16, [.int (mc + 1), .int (sz - 1), .null, .null]))) gNox := by
  refine g_start (by decide) (Nat.le_of_ble_eq_true rfl) ?_
  intro p e s m below meth c ls C hnm hxt hI hl
  have hx := C.x
  have hb := C.b
  have hS : va_S (gA D) s.heap s.heap [] := va_S.rf
  have hz0 := hI.z
  have lc0_ := hI.lt c0_
  have lc1_ := hI.lt c1_
  have hF : gF G G n (fun q : Nat => q = la ∨ q = fx) := gF.rf _ _ _
  have hl : lv_has ls 2 [(0, .ref la)] := hl
  refine lv_aload_n hx hb dJ8_removeFirst_0 rfl (lv_at hl 0 rfl) ?_
  refine g_get C hI c0_ kc16 2 rfl q354 (fun _ h9 => h9) dJ8_removeFirst_1 ?_
  refine lv_astore_n (lv' := [(1, .ref fx), (0, .ref la)]) hx hb dJ8_removeFirst_4 rfl hl (by decide) rfl (fun ls hl => ?_)
  refine lv_aload_n hx hb dJ8_removeFirst_5 rfl (lv_at hl 0 rfl) ?_
  refine lv_ifnonnull (tgt := 17) hx hb dJ8_removeFirst_6 (by decide) ?_
  refine lv_aload_n hx hb dJ8_removeFirst_17 rfl (lv_at hl 1 rfl) ?_
  refine lv_aload_n hx hb dJ8_removeFirst_18 rfl (lv_at hl 0 rfl) ?_
  refine g_V (As := [.ref fx]) (rest := []) (lv := [(1, .ref fx), (0, .ref la)]) C hI hS (c_J8_unlinkFirstS l hB G n la mc sz fx lx it c0_ c1_ (by omega) (by omega)) c0_ rfl rfl q1736 q1738 qs18 q89 q1739 (⟨by decide, by decide, by decide⟩ : gArg _ 1) rfl ⟨by decide, by decide⟩ (by omega) hl rfl (Nat.le_of_ble_eq_true rfl) dJ8_removeFirst_19 (fun v5195 G5196 n5197 H locs hp5198 hI hS => ?_) gKx.no
  obtain ⟨rfl, hn5199, hF5200, c5201⟩ := hp5198
  refine W.widen (k := 0) (n := 200 * (0)) (by omega) (by omega) ?_
  have hF := hF.trans hF5200 (by omega) (fun q hq => (fun h => h.elim (fun h => h ▸ (Or.inl rfl)) (fun h => h ▸ (Or.inr (rfl)))))
  exact g_aret C hI hS (by omega) (by first | exact Or.inl ⟨_, rfl⟩ | exact Or.inr ⟨_, rfl⟩) (Or.inr ⟨_, rfl⟩) ⟨rfl, (by omega), hF, c5201⟩ dJ8_removeFirst_22
set_option maxHeartbeats 4000000 in
set_option maxRecDepth 100000 in
theorem c_J8_unlinkFirstN (l : Launch) {D : gD} (hB : gBs D) (G : gH) (n : Nat) (la : Nat) (mc : Int32) (sz : Int32) (fx : Nat) (lx : Nat) (it : Nat) (nx : Nat) (i2 : Nat) (c0_ : G la = some (.inl (16, [.int mc, .int sz, .ref fx, .ref lx]))) (c1_ : G fx = some (.inl (17, [.ref it, .ref nx, .null]))) (c2_ : G nx = some (.inl (17, [.ref i2, .null, .ref fx]))) (hzl : gz D ≤ la) (hzfx : gz D ≤ fx) (hznx : gz D ≤ nx) (hne : fx ≠ nx) : gMet l D yJ8_unlinkFirst (ws_ yJ8_unlinkFirst cJ8_unlinkFirst 4 (some (FieldType.object "java/lang/Object"))) 1 0 G n [.ref la, .ref fx] (fun (v : Option Value) (G1 : gH) (n1 : Nat) => v = some (.ref it) ∧ n ≤ n1 ∧ gF G G1 n (fun q : Nat => q = la ∨ q = fx ∨ q = nx) ∧ G1 la = some (.inl (16, [.int (mc + 1), .int (sz - 1), .ref nx, .ref lx])) ∧ G1 nx = some (.inl (17, [.ref i2, .null, .null]))) gNox := by
  refine g_start (by decide) (Nat.le_of_ble_eq_true rfl) ?_
  intro p e s m below meth c ls C hnm hxt hI hl
  have hx := C.x
  have hb := C.b
  have hS : va_S (gA D) s.heap s.heap [] := va_S.rf
  have hz0 := hI.z
  have lc0_ := hI.lt c0_
  have lc1_ := hI.lt c1_
  have lc2_ := hI.lt c2_
  have hF : gF G G n (fun q : Nat => q = la ∨ q = fx ∨ q = nx) := gF.rf _ _ _
  have hl : lv_has ls 4 [(0, .ref la), (1, .ref fx)] := hl
  refine lv_aload_n hx hb dJ8_unlinkFirst_0 rfl (lv_at hl 1 rfl) ?_
  refine g_get C hI c1_ kc17 0 rfl q330 (fun _ h9 => h9) dJ8_unlinkFirst_1 ?_
  refine lv_astore_n (lv' := [(2, .ref it), (0, .ref la), (1, .ref fx)]) hx hb dJ8_unlinkFirst_4 rfl hl (by decide) rfl (fun ls hl => ?_)
  refine lv_aload_n hx hb dJ8_unlinkFirst_5 rfl (lv_at hl 2 rfl) ?_
  refine g_get C hI c1_ kc17 1 rfl q333 (fun _ h9 => h9) dJ8_unlinkFirst_6 ?_
  refine lv_astore_n (lv' := [(3, .ref nx), (2, .ref it), (0, .ref la), (1, .ref fx)]) hx hb dJ8_unlinkFirst_9 rfl hl (by decide) rfl (fun ls hl => ?_)
  refine lv_aload_n hx hb dJ8_unlinkFirst_10 rfl (lv_at hl 3 rfl) ?_
  refine lv_null hx hb dJ8_unlinkFirst_11 ?_
  refine g_put (fs2 := [.null, .ref nx, .null]) C hI hS c1_ (by omega) kc17 0 (Nat.le_of_ble_eq_true rfl) q330 (fun _ h9 => h9) rfl rfl rfl rfl dJ8_unlinkFirst_12 (fun G5202 H locs e5203 hI hS => ?_)
  have c0_ := gE_k e5203 c0_ (g_nc c0_ c1_ (by decide))
  have c2_ := gE_k e5203 c2_ (Ne.symm hne)
  have c1_ : G5202 fx = some (.inl (17, [.null, .ref nx, .null])) := gE_s e5203
  have hF := gE_F e5203 hF (Or.inr (Or.inr (Or.inl rfl)))
  refine lv_aload_n hx hb dJ8_unlinkFirst_15 rfl (lv_at hl 3 rfl) ?_
  refine lv_null hx hb dJ8_unlinkFirst_16 ?_
  refine g_put (fs2 := [.null, .null, .null]) C hI hS c1_ (by omega) kc17 1 (Nat.le_of_ble_eq_true rfl) q333 (fun _ h9 => h9) rfl rfl rfl rfl dJ8_unlinkFirst_17 (fun G5204 H locs e5205 hI hS => ?_)
  have c0_ := gE_k e5205 c0_ (g_nc c0_ c1_ (by decide))
  have c2_ := gE_k e5205 c2_ (Ne.symm hne)
  have c1_ : G5204 fx = some (.inl (17, [.null, .null, .null])) := gE_s e5205
  have hF := gE_F e5205 hF (Or.inr (Or.inr (Or.inl rfl)))
  refine lv_aload_n hx hb dJ8_unlinkFirst_20 rfl (lv_at hl 2 rfl) ?_
  refine lv_aload_n hx hb dJ8_unlinkFirst_21 rfl (lv_at hl 0 rfl) ?_
  refine g_put (fs2 := [.int mc, .int sz, .ref nx, .ref lx]) C hI hS c0_ (by omega) kc16 2 (Nat.le_of_ble_eq_true rfl) q354 (fun _ h9 => h9) rfl rfl rfl rfl dJ8_unlinkFirst_22 (fun G5206 H locs e5207 hI hS => ?_)
  have c1_ := gE_k e5207 c1_ (g_nc c1_ c0_ (by decide))
  have c2_ := gE_k e5207 c2_ (g_nc c2_ c0_ (by decide))
  have c0_ : G5206 la = some (.inl (16, [.int mc, .int sz, .ref nx, .ref lx])) := gE_s e5207
  have hF := gE_F e5207 hF (Or.inr (Or.inl rfl))
  refine lv_aload_n hx hb dJ8_unlinkFirst_25 rfl (lv_at hl 0 rfl) ?_
  refine lv_ifnonnull (tgt := 37) hx hb dJ8_unlinkFirst_26 (by decide) ?_
  refine lv_aload_n hx hb dJ8_unlinkFirst_37 rfl (lv_at hl 0 rfl) ?_
  refine lv_null hx hb dJ8_unlinkFirst_38 ?_
  refine g_put (fs2 := [.ref i2, .null, .null]) C hI hS c2_ (by omega) kc17 2 (Nat.le_of_ble_eq_true rfl) q335 (fun _ h9 => h9) rfl rfl rfl rfl dJ8_unlinkFirst_39 (fun G5208 H locs e5209 hI hS => ?_)
  have c0_ := gE_k e5209 c0_ (g_nc c0_ c2_ (by decide))
  have c1_ := gE_k e5209 c1_ hne
  have c2_ : G5208 nx = some (.inl (17, [.ref i2, .null, .null])) := gE_s e5209
  have hF := gE_F e5209 hF (Or.inr (Or.inr (Or.inr (rfl))))
  refine lv_aload_n hx hb dJ8_unlinkFirst_42 rfl (lv_at hl 2 rfl) ?_
  refine lv_dup hx hb dJ8_unlinkFirst_43 rfl ?_
  refine g_get C hI c0_ kc16 1 rfl q352 (fun _ h9 => h9) dJ8_unlinkFirst_44 ?_
  refine lv_iconst (v := 1) hx hb dJ8_unlinkFirst_47 (by decide) ?_
  refine lv_isub hx hb dJ8_unlinkFirst_48 ?_
  refine g_put (fs2 := [.int mc, .int (sz - 1), .ref nx, .ref lx]) C hI hS c0_ (by omega) kc16 1 (Nat.le_of_ble_eq_true rfl) q352 (fun _ h9 => h9) rfl rfl rfl rfl dJ8_unlinkFirst_49 (fun G5210 H locs e5211 hI hS => ?_)
  have c1_ := gE_k e5211 c1_ (g_nc c1_ c0_ (by decide))
  have c2_ := gE_k e5211 c2_ (g_nc c2_ c0_ (by decide))
  have c0_ : G5210 la = some (.inl (16, [.int mc, .int (sz - 1), .ref nx, .ref lx])) := gE_s e5211
  have hF := gE_F e5211 hF (Or.inr (Or.inl rfl))
  refine lv_aload_n hx hb dJ8_unlinkFirst_52 rfl (lv_at hl 2 rfl) ?_
  refine lv_dup hx hb dJ8_unlinkFirst_53 rfl ?_
  refine g_get C hI c0_ kc16 0 rfl q170 (u_same (C.ts _ q166)) dJ8_unlinkFirst_54 ?_
  refine lv_iconst (v := 1) hx hb dJ8_unlinkFirst_57 (by decide) ?_
  refine lv_iadd hx hb dJ8_unlinkFirst_58 ?_
  refine g_put (fs2 := [.int (mc + 1), .int (sz - 1), .ref nx, .ref lx]) C hI hS c0_ (by omega) kc16 0 (Nat.le_of_ble_eq_true rfl) q170 (u_same (C.ts _ q166)) rfl rfl rfl rfl dJ8_unlinkFirst_59 (fun G5212 H locs e5213 hI hS => ?_)
  have c1_ := gE_k e5213 c1_ (g_nc c1_ c0_ (by decide))
  have c2_ := gE_k e5213 c2_ (g_nc c2_ c0_ (by decide))
  have c0_ : G5212 la = some (.inl (16, [.int (mc + 1), .int (sz - 1), .ref nx, .ref lx])) := gE_s e5213
  have hF := gE_F e5213 hF (Or.inr (Or.inl rfl))
  refine lv_aload_n hx hb dJ8_unlinkFirst_62 rfl (lv_at hl 1 rfl) ?_
  exact g_aret C hI hS (by omega) (by first | exact Or.inl ⟨_, rfl⟩ | exact Or.inr ⟨_, rfl⟩) (Or.inr ⟨_, rfl⟩) ⟨rfl, (by omega), hF, c0_, c2_⟩ dJ8_unlinkFirst_63
set_option maxHeartbeats 4000000 in
set_option maxRecDepth 100000 in
theorem c_J8_removeFirstN (l : Launch) {D : gD} (hB : gBs D) (G : gH) (n : Nat) (la : Nat) (mc : Int32) (sz : Int32) (fx : Nat) (lx : Nat) (it : Nat) (nx : Nat) (i2 : Nat) (c0_ : G la = some (.inl (16, [.int mc, .int sz, .ref fx, .ref lx]))) (c1_ : G fx = some (.inl (17, [.ref it, .ref nx, .null]))) (c2_ : G nx = some (.inl (17, [.ref i2, .null, .ref fx]))) (hzl : gz D ≤ la) (hzfx : gz D ≤ fx) (hznx : gz D ≤ nx) (hne : fx ≠ nx) : gMet l D yJ8_removeFirst (ws_ yJ8_removeFirst cJ8_removeFirst 2 (some (FieldType.object "java/lang/Object"))) 8 0 G n [.ref la] (fun (v : Option Value) (G1 : gH) (n1 : Nat) => v = some (.ref it) ∧ n ≤ n1 ∧ gF G G1 n (fun q : Nat => q = la ∨ q = fx ∨ q = nx) ∧ G1 la = some (.inl (16, [.int (mc + 1), .int (sz - 1), .ref nx, .ref lx])) ∧ G1 nx = some (.inl (17, [.ref i2, .null, .null]))) gNox := by
  refine g_start (by decide) (Nat.le_of_ble_eq_true rfl) ?_
  intro p e s m below meth c ls C hnm hxt hI hl
  have hx := C.x
  have hb := C.b
  have hS : va_S (gA D) s.heap s.heap [] := va_S.rf
  have hz0 := hI.z
  have lc0_ := hI.lt c0_
  have lc1_ := hI.lt c1_
  have lc2_ := hI.lt c2_
  have hF : gF G G n (fun q : Nat => q = la ∨ q = fx ∨ q = nx) := gF.rf _ _ _
  have hl : lv_has ls 2 [(0, .ref la)] := hl
  refine lv_aload_n hx hb dJ8_removeFirst_0 rfl (lv_at hl 0 rfl) ?_
  refine g_get C hI c0_ kc16 2 rfl q354 (fun _ h9 => h9) dJ8_removeFirst_1 ?_
  refine lv_astore_n (lv' := [(1, .ref fx), (0, .ref la)]) hx hb dJ8_removeFirst_4 rfl hl (by decide) rfl (fun ls hl => ?_)
  refine lv_aload_n hx hb dJ8_removeFirst_5 rfl (lv_at hl 0 rfl) ?_
  refine lv_ifnonnull (tgt := 17) hx hb dJ8_removeFirst_6 (by decide) ?_
  refine lv_aload_n hx hb dJ8_removeFirst_17 rfl (lv_at hl 1 rfl) ?_
  refine lv_aload_n hx hb dJ8_removeFirst_18 rfl (lv_at hl 0 rfl) ?_
  refine g_V (As := [.ref fx]) (rest := []) (lv := [(1, .ref fx), (0, .ref la)]) C hI hS (c_J8_unlinkFirstN l hB G n la mc sz fx lx it nx i2 c0_ c1_ c2_ (by omega) (by omega) (by omega) hne) c0_ rfl rfl q1736 q1738 qs18 q89 q1739 (⟨by decide, by decide, by decide⟩ : gArg _ 1) rfl ⟨by decide, by decide⟩ (by omega) hl rfl (Nat.le_of_ble_eq_true rfl) dJ8_removeFirst_19 (fun v5214 G5215 n5216 H locs hp5217 hI hS => ?_) gKx.no
  obtain ⟨rfl, hn5218, hF5219, c5220, c5221⟩ := hp5217
  refine W.widen (k := 0) (n := 200 * (0)) (by omega) (by omega) ?_
  have hF := hF.trans hF5219 (by omega) (fun q hq => (fun h => h.elim (fun h => h ▸ (Or.inl rfl)) (fun h => h.elim (fun h => h ▸ (Or.inr (Or.inl rfl))) (fun h => h ▸ (Or.inr (Or.inr (rfl)))))))
  exact g_aret C hI hS (by omega) (by first | exact Or.inl ⟨_, rfl⟩ | exact Or.inr ⟨_, rfl⟩) (Or.inr ⟨_, rfl⟩) ⟨rfl, (by omega), hF, c5220, c5221⟩ dJ8_removeFirst_22
set_option maxHeartbeats 4000000 in
set_option maxRecDepth 100000 in
theorem c_J8_unlinkFirstR (l : Launch) {D : gD} (hB : gBs D) (G : gH) (n : Nat) (la : Nat) (mc : Int32) (sz : Int32) (fx : Nat) (lx : Nat) (it : Nat) (nx : Nat) (i2 : Nat) (n2 : Nat) (c0_ : G la = some (.inl (16, [.int mc, .int sz, .ref fx, .ref lx]))) (c1_ : G fx = some (.inl (17, [.ref it, .ref nx, .null]))) (c2_ : G nx = some (.inl (17, [.ref i2, .ref n2, .ref fx]))) (hzl : gz D ≤ la) (hzfx : gz D ≤ fx) (hznx : gz D ≤ nx) (hne : fx ≠ nx) : gMet l D yJ8_unlinkFirst (ws_ yJ8_unlinkFirst cJ8_unlinkFirst 4 (some (FieldType.object "java/lang/Object"))) 1 0 G n [.ref la, .ref fx] (fun (v : Option Value) (G1 : gH) (n1 : Nat) => v = some (.ref it) ∧ n ≤ n1 ∧ gF G G1 n (fun q : Nat => q = la ∨ q = fx ∨ q = nx) ∧ G1 la = some (.inl (16, [.int (mc + 1), .int (sz - 1), .ref nx, .ref lx])) ∧ G1 nx = some (.inl (17, [.ref i2, .ref n2, .null]))) gNox := by
  refine g_start (by decide) (Nat.le_of_ble_eq_true rfl) ?_
  intro p e s m below meth c ls C hnm hxt hI hl
  have hx := C.x
  have hb := C.b
  have hS : va_S (gA D) s.heap s.heap [] := va_S.rf
  have hz0 := hI.z
  have lc0_ := hI.lt c0_
  have lc1_ := hI.lt c1_
  have lc2_ := hI.lt c2_
  have hF : gF G G n (fun q : Nat => q = la ∨ q = fx ∨ q = nx) := gF.rf _ _ _
  have hl : lv_has ls 4 [(0, .ref la), (1, .ref fx)] := hl
  refine lv_aload_n hx hb dJ8_unlinkFirst_0 rfl (lv_at hl 1 rfl) ?_
  refine g_get C hI c1_ kc17 0 rfl q330 (fun _ h9 => h9) dJ8_unlinkFirst_1 ?_
  refine lv_astore_n (lv' := [(2, .ref it), (0, .ref la), (1, .ref fx)]) hx hb dJ8_unlinkFirst_4 rfl hl (by decide) rfl (fun ls hl => ?_)
  refine lv_aload_n hx hb dJ8_unlinkFirst_5 rfl (lv_at hl 2 rfl) ?_
  refine g_get C hI c1_ kc17 1 rfl q333 (fun _ h9 => h9) dJ8_unlinkFirst_6 ?_
  refine lv_astore_n (lv' := [(3, .ref nx), (2, .ref it), (0, .ref la), (1, .ref fx)]) hx hb dJ8_unlinkFirst_9 rfl hl (by decide) rfl (fun ls hl => ?_)
  refine lv_aload_n hx hb dJ8_unlinkFirst_10 rfl (lv_at hl 3 rfl) ?_
  refine lv_null hx hb dJ8_unlinkFirst_11 ?_
  refine g_put (fs2 := [.null, .ref nx, .null]) C hI hS c1_ (by omega) kc17 0 (Nat.le_of_ble_eq_true rfl) q330 (fun _ h9 => h9) rfl rfl rfl rfl dJ8_unlinkFirst_12 (fun G5222 H locs e5223 hI hS => ?_)
  have c0_ := gE_k e5223 c0_ (g_nc c0_ c1_ (by decide))
  have c2_ := gE_k e5223 c2_ (Ne.symm hne)
  have c1_ : G5222 fx = some (.inl (17, [.null, .ref nx, .null])) := gE_s e5223
  have hF := gE_F e5223 hF (Or.inr (Or.inr (Or.inl rfl)))
  refine lv_aload_n hx hb dJ8_unlinkFirst_15 rfl (lv_at hl 3 rfl) ?_
  refine lv_null hx hb dJ8_unlinkFirst_16 ?_
  refine g_put (fs2 := [.null, .null, .null]) C hI hS c1_ (by omega) kc17 1 (Nat.le_of_ble_eq_true rfl) q333 (fun _ h9 => h9) rfl rfl rfl rfl dJ8_unlinkFirst_17 (fun G5224 H locs e5225 hI hS => ?_)
  have c0_ := gE_k e5225 c0_ (g_nc c0_ c1_ (by decide))
  have c2_ := gE_k e5225 c2_ (Ne.symm hne)
  have c1_ : G5224 fx = some (.inl (17, [.null, .null, .null])) := gE_s e5225
  have hF := gE_F e5225 hF (Or.inr (Or.inr (Or.inl rfl)))
  refine lv_aload_n hx hb dJ8_unlinkFirst_20 rfl (lv_at hl 2 rfl) ?_
  refine lv_aload_n hx hb dJ8_unlinkFirst_21 rfl (lv_at hl 0 rfl) ?_
  refine g_put (fs2 := [.int mc, .int sz, .ref nx, .ref lx]) C hI hS c0_ (by omega) kc16 2 (Nat.le_of_ble_eq_true rfl) q354 (fun _ h9 => h9) rfl rfl rfl rfl dJ8_unlinkFirst_22 (fun G5226 H locs e5227 hI hS => ?_)
  have c1_ := gE_k e5227 c1_ (g_nc c1_ c0_ (by decide))
  have c2_ := gE_k e5227 c2_ (g_nc c2_ c0_ (by decide))
  have c0_ : G5226 la = some (.inl (16, [.int mc, .int sz, .ref nx, .ref lx])) := gE_s e5227
  have hF := gE_F e5227 hF (Or.inr (Or.inl rfl))
  refine lv_aload_n hx hb dJ8_unlinkFirst_25 rfl (lv_at hl 0 rfl) ?_
  refine lv_ifnonnull (tgt := 37) hx hb dJ8_unlinkFirst_26 (by decide) ?_
  refine lv_aload_n hx hb dJ8_unlinkFirst_37 rfl (lv_at hl 0 rfl) ?_
  refine lv_null hx hb dJ8_unlinkFirst_38 ?_
  refine g_put (fs2 := [.ref i2, .ref n2, .null]) C hI hS c2_ (by omega) kc17 2 (Nat.le_of_ble_eq_true rfl) q335 (fun _ h9 => h9) rfl rfl rfl rfl dJ8_unlinkFirst_39 (fun G5228 H locs e5229 hI hS => ?_)
  have c0_ := gE_k e5229 c0_ (g_nc c0_ c2_ (by decide))
  have c1_ := gE_k e5229 c1_ hne
  have c2_ : G5228 nx = some (.inl (17, [.ref i2, .ref n2, .null])) := gE_s e5229
  have hF := gE_F e5229 hF (Or.inr (Or.inr (Or.inr (rfl))))
  refine lv_aload_n hx hb dJ8_unlinkFirst_42 rfl (lv_at hl 2 rfl) ?_
  refine lv_dup hx hb dJ8_unlinkFirst_43 rfl ?_
  refine g_get C hI c0_ kc16 1 rfl q352 (fun _ h9 => h9) dJ8_unlinkFirst_44 ?_
  refine lv_iconst (v := 1) hx hb dJ8_unlinkFirst_47 (by decide) ?_
  refine lv_isub hx hb dJ8_unlinkFirst_48 ?_
  refine g_put (fs2 := [.int mc, .int (sz - 1), .ref nx, .ref lx]) C hI hS c0_ (by omega) kc16 1 (Nat.le_of_ble_eq_true rfl) q352 (fun _ h9 => h9) rfl rfl rfl rfl dJ8_unlinkFirst_49 (fun G5230 H locs e5231 hI hS => ?_)
  have c1_ := gE_k e5231 c1_ (g_nc c1_ c0_ (by decide))
  have c2_ := gE_k e5231 c2_ (g_nc c2_ c0_ (by decide))
  have c0_ : G5230 la = some (.inl (16, [.int mc, .int (sz - 1), .ref nx, .ref lx])) := gE_s e5231
  have hF := gE_F e5231 hF (Or.inr (Or.inl rfl))
  refine lv_aload_n hx hb dJ8_unlinkFirst_52 rfl (lv_at hl 2 rfl) ?_
  refine lv_dup hx hb dJ8_unlinkFirst_53 rfl ?_
  refine g_get C hI c0_ kc16 0 rfl q170 (u_same (C.ts _ q166)) dJ8_unlinkFirst_54 ?_
  refine lv_iconst (v := 1) hx hb dJ8_unlinkFirst_57 (by decide) ?_
  refine lv_iadd hx hb dJ8_unlinkFirst_58 ?_
  refine g_put (fs2 := [.int (mc + 1), .int (sz - 1), .ref nx, .ref lx]) C hI hS c0_ (by omega) kc16 0 (Nat.le_of_ble_eq_true rfl) q170 (u_same (C.ts _ q166)) rfl rfl rfl rfl dJ8_unlinkFirst_59 (fun G5232 H locs e5233 hI hS => ?_)
  have c1_ := gE_k e5233 c1_ (g_nc c1_ c0_ (by decide))
  have c2_ := gE_k e5233 c2_ (g_nc c2_ c0_ (by decide))
  have c0_ : G5232 la = some (.inl (16, [.int (mc + 1), .int (sz - 1), .ref nx, .ref lx])) := gE_s e5233
  have hF := gE_F e5233 hF (Or.inr (Or.inl rfl))
  refine lv_aload_n hx hb dJ8_unlinkFirst_62 rfl (lv_at hl 1 rfl) ?_
  exact g_aret C hI hS (by omega) (by first | exact Or.inl ⟨_, rfl⟩ | exact Or.inr ⟨_, rfl⟩) (Or.inr ⟨_, rfl⟩) ⟨rfl, (by omega), hF, c0_, c2_⟩ dJ8_unlinkFirst_63
set_option maxHeartbeats 4000000 in
set_option maxRecDepth 100000 in
theorem c_J8_removeFirstR (l : Launch) {D : gD} (hB : gBs D) (G : gH) (n : Nat) (la : Nat) (mc : Int32) (sz : Int32) (fx : Nat) (lx : Nat) (it : Nat) (nx : Nat) (i2 : Nat) (n2 : Nat) (c0_ : G la = some (.inl (16, [.int mc, .int sz, .ref fx, .ref lx]))) (c1_ : G fx = some (.inl (17, [.ref it, .ref nx, .null]))) (c2_ : G nx = some (.inl (17, [.ref i2, .ref n2, .ref fx]))) (hzl : gz D ≤ la) (hzfx : gz D ≤ fx) (hznx : gz D ≤ nx) (hne : fx ≠ nx) : gMet l D yJ8_removeFirst (ws_ yJ8_removeFirst cJ8_removeFirst 2 (some (FieldType.object "java/lang/Object"))) 8 0 G n [.ref la] (fun (v : Option Value) (G1 : gH) (n1 : Nat) => v = some (.ref it) ∧ n ≤ n1 ∧ gF G G1 n (fun q : Nat => q = la ∨ q = fx ∨ q = nx) ∧ G1 la = some (.inl (16, [.int (mc + 1), .int (sz - 1), .ref nx, .ref lx])) ∧ G1 nx = some (.inl (17, [.ref i2, .ref n2, .null]))) gNox := by
  refine g_start (by decide) (Nat.le_of_ble_eq_true rfl) ?_
  intro p e s m below meth c ls C hnm hxt hI hl
  have hx := C.x
  have hb := C.b
  have hS : va_S (gA D) s.heap s.heap [] := va_S.rf
  have hz0 := hI.z
  have lc0_ := hI.lt c0_
  have lc1_ := hI.lt c1_
  have lc2_ := hI.lt c2_
  have hF : gF G G n (fun q : Nat => q = la ∨ q = fx ∨ q = nx) := gF.rf _ _ _
  have hl : lv_has ls 2 [(0, .ref la)] := hl
  refine lv_aload_n hx hb dJ8_removeFirst_0 rfl (lv_at hl 0 rfl) ?_
  refine g_get C hI c0_ kc16 2 rfl q354 (fun _ h9 => h9) dJ8_removeFirst_1 ?_
  refine lv_astore_n (lv' := [(1, .ref fx), (0, .ref la)]) hx hb dJ8_removeFirst_4 rfl hl (by decide) rfl (fun ls hl => ?_)
  refine lv_aload_n hx hb dJ8_removeFirst_5 rfl (lv_at hl 0 rfl) ?_
  refine lv_ifnonnull (tgt := 17) hx hb dJ8_removeFirst_6 (by decide) ?_
  refine lv_aload_n hx hb dJ8_removeFirst_17 rfl (lv_at hl 1 rfl) ?_
  refine lv_aload_n hx hb dJ8_removeFirst_18 rfl (lv_at hl 0 rfl) ?_
  refine g_V (As := [.ref fx]) (rest := []) (lv := [(1, .ref fx), (0, .ref la)]) C hI hS (c_J8_unlinkFirstR l hB G n la mc sz fx lx it nx i2 n2 c0_ c1_ c2_ (by omega) (by omega) (by omega) hne) c0_ rfl rfl q1736 q1738 qs18 q89 q1739 (⟨by decide, by decide, by decide⟩ : gArg _ 1) rfl ⟨by decide, by decide⟩ (by omega) hl rfl (Nat.le_of_ble_eq_true rfl) dJ8_removeFirst_19 (fun v5234 G5235 n5236 H locs hp5237 hI hS => ?_) gKx.no
  obtain ⟨rfl, hn5238, hF5239, c5240, c5241⟩ := hp5237
  refine W.widen (k := 0) (n := 200 * (0)) (by omega) (by omega) ?_
  have hF := hF.trans hF5239 (by omega) (fun q hq => (fun h => h.elim (fun h => h ▸ (Or.inl rfl)) (fun h => h.elim (fun h => h ▸ (Or.inr (Or.inl rfl))) (fun h => h ▸ (Or.inr (Or.inr (rfl)))))))
  exact g_aret C hI hS (by omega) (by first | exact Or.inl ⟨_, rfl⟩ | exact Or.inr ⟨_, rfl⟩) (Or.inr ⟨_, rfl⟩) ⟨rfl, (by omega), hF, c5240, c5241⟩ dJ8_removeFirst_22
set_option maxHeartbeats 4000000 in
set_option maxRecDepth 100000 in
theorem c_J8_unlinkLastS (l : Launch) {D : gD} (hB : gBs D) (G : gH) (n : Nat) (la : Nat) (mc : Int32) (sz : Int32) (fx : Nat) (lx : Nat) (it : Nat) (c0_ : G la = some (.inl (16, [.int mc, .int sz, .ref fx, .ref lx]))) (c1_ : G lx = some (.inl (17, [.ref it, .null, .null]))) (hzl : gz D ≤ la) (hzlx : gz D ≤ lx) : gMet l D yJ8_unlinkLast (ws_ yJ8_unlinkLast cJ8_unlinkLast 4 (some (FieldType.object "java/lang/Object"))) 1 0 G n [.ref la, .ref lx] (fun (v : Option Value) (G1 : gH) (n1 : Nat) => v = some (.ref it) ∧ n ≤ n1 ∧ gF G G1 n (fun q : Nat => q = la ∨ q = lx) ∧ G1 la = some (.inl (16, [.int (mc + 1), .int (sz - 1), .null, .null]))) gNox := by
  refine g_start (by decide) (Nat.le_of_ble_eq_true rfl) ?_
  intro p e s m below meth c ls C hnm hxt hI hl
  have hx := C.x
  have hb := C.b
  have hS : va_S (gA D) s.heap s.heap [] := va_S.rf
  have hz0 := hI.z
  have lc0_ := hI.lt c0_
  have lc1_ := hI.lt c1_
  have hF : gF G G n (fun q : Nat => q = la ∨ q = lx) := gF.rf _ _ _
  have hl : lv_has ls 4 [(0, .ref la), (1, .ref lx)] := hl
  refine lv_aload_n hx hb dJ8_unlinkLast_0 rfl (lv_at hl 1 rfl) ?_
  refine g_get C hI c1_ kc17 0 rfl q330 (fun _ h9 => h9) dJ8_unlinkLast_1 ?_
  refine lv_astore_n (lv' := [(2, .ref it), (0, .ref la), (1, .ref lx)]) hx hb dJ8_unlinkLast_4 rfl hl (by decide) rfl (fun ls hl => ?_)
  refine lv_aload_n hx hb dJ8_unlinkLast_5 rfl (lv_at hl 2 rfl) ?_
  refine g_get C hI c1_ kc17 2 rfl q335 (fun _ h9 => h9) dJ8_unlinkLast_6 ?_
  refine lv_astore_nN (lv' := [(3, .null), (2, .ref it), (0, .ref la), (1, .ref lx)]) hx hb dJ8_unlinkLast_9 rfl hl (by decide) rfl (fun ls hl => ?_)
  refine lv_aload_n hx hb dJ8_unlinkLast_10 rfl (lv_at hl 3 rfl) ?_
  refine lv_null hx hb dJ8_unlinkLast_11 ?_
  refine g_put (fs2 := [.null, .null, .null]) C hI hS c1_ (by omega) kc17 0 (Nat.le_of_ble_eq_true rfl) q330 (fun _ h9 => h9) rfl rfl rfl rfl dJ8_unlinkLast_12 (fun G5242 H locs e5243 hI hS => ?_)
  have c0_ := gE_k e5243 c0_ (g_nc c0_ c1_ (by decide))
  have c1_ : G5242 lx = some (.inl (17, [.null, .null, .null])) := gE_s e5243
  have hF := gE_F e5243 hF (Or.inr (Or.inr (rfl)))
  refine lv_aload_n hx hb dJ8_unlinkLast_15 rfl (lv_at hl 3 rfl) ?_
  refine lv_null hx hb dJ8_unlinkLast_16 ?_
  refine g_put (fs2 := [.null, .null, .null]) C hI hS c1_ (by omega) kc17 2 (Nat.le_of_ble_eq_true rfl) q335 (fun _ h9 => h9) rfl rfl rfl rfl dJ8_unlinkLast_17 (fun G5244 H locs e5245 hI hS => ?_)
  have c0_ := gE_k e5245 c0_ (g_nc c0_ c1_ (by decide))
  have c1_ : G5244 lx = some (.inl (17, [.null, .null, .null])) := gE_s e5245
  have hF := gE_F e5245 hF (Or.inr (Or.inr (rfl)))
  refine lv_aload_n hx hb dJ8_unlinkLast_20 rfl (lv_at hl 2 rfl) ?_
  refine lv_aload_nN hx hb dJ8_unlinkLast_21 rfl (lv_at hl 0 rfl) ?_
  refine g_put (fs2 := [.int mc, .int sz, .ref fx, .null]) C hI hS c0_ (by omega) kc16 3 (Nat.le_of_ble_eq_true rfl) q355 (fun _ h9 => h9) rfl rfl rfl rfl dJ8_unlinkLast_22 (fun G5246 H locs e5247 hI hS => ?_)
  have c1_ := gE_k e5247 c1_ (g_nc c1_ c0_ (by decide))
  have c0_ : G5246 la = some (.inl (16, [.int mc, .int sz, .ref fx, .null])) := gE_s e5247
  have hF := gE_F e5247 hF (Or.inr (Or.inl rfl))
  refine lv_aload_nN hx hb dJ8_unlinkLast_25 rfl (lv_at hl 0 rfl) ?_
  refine lv_ifnonnullN hx hb dJ8_unlinkLast_26 ?_
  refine lv_aload_n hx hb dJ8_unlinkLast_29 rfl (lv_at hl 2 rfl) ?_
  refine lv_null hx hb dJ8_unlinkLast_30 ?_
  refine g_put (fs2 := [.int mc, .int sz, .null, .null]) C hI hS c0_ (by omega) kc16 2 (Nat.le_of_ble_eq_true rfl) q354 (fun _ h9 => h9) rfl rfl rfl rfl dJ8_unlinkLast_31 (fun G5248 H locs e5249 hI hS => ?_)
  have c1_ := gE_k e5249 c1_ (g_nc c1_ c0_ (by decide))
  have c0_ : G5248 la = some (.inl (16, [.int mc, .int sz, .null, .null])) := gE_s e5249
  have hF := gE_F e5249 hF (Or.inr (Or.inl rfl))
  refine lv_goto (tgt := 42) hx hb dJ8_unlinkLast_34 (by decide) ?_
  refine lv_aload_n hx hb dJ8_unlinkLast_42 rfl (lv_at hl 2 rfl) ?_
  refine lv_dup hx hb dJ8_unlinkLast_43 rfl ?_
  refine g_get C hI c0_ kc16 1 rfl q352 (fun _ h9 => h9) dJ8_unlinkLast_44 ?_
  refine lv_iconst (v := 1) hx hb dJ8_unlinkLast_47 (by decide) ?_
  refine lv_isub hx hb dJ8_unlinkLast_48 ?_
  refine g_put (fs2 := [.int mc, .int (sz - 1), .null, .null]) C hI hS c0_ (by omega) kc16 1 (Nat.le_of_ble_eq_true rfl) q352 (fun _ h9 => h9) rfl rfl rfl rfl dJ8_unlinkLast_49 (fun G5250 H locs e5251 hI hS => ?_)
  have c1_ := gE_k e5251 c1_ (g_nc c1_ c0_ (by decide))
  have c0_ : G5250 la = some (.inl (16, [.int mc, .int (sz - 1), .null, .null])) := gE_s e5251
  have hF := gE_F e5251 hF (Or.inr (Or.inl rfl))
  refine lv_aload_n hx hb dJ8_unlinkLast_52 rfl (lv_at hl 2 rfl) ?_
  refine lv_dup hx hb dJ8_unlinkLast_53 rfl ?_
  refine g_get C hI c0_ kc16 0 rfl q170 (u_same (C.ts _ q166)) dJ8_unlinkLast_54 ?_
  refine lv_iconst (v := 1) hx hb dJ8_unlinkLast_57 (by decide) ?_
  refine lv_iadd hx hb dJ8_unlinkLast_58 ?_
  refine g_put (fs2 := [.int (mc + 1), .int (sz - 1), .null, .null]) C hI hS c0_ (by omega) kc16 0 (Nat.le_of_ble_eq_true rfl) q170 (u_same (C.ts _ q166)) rfl rfl rfl rfl dJ8_unlinkLast_59 (fun G5252 H locs e5253 hI hS => ?_)
  have c1_ := gE_k e5253 c1_ (g_nc c1_ c0_ (by decide))
  have c0_ : G5252 la = some (.inl (16, [.int (mc + 1), .int (sz - 1), .null, .null])) := gE_s e5253
  have hF := gE_F e5253 hF (Or.inr (Or.inl rfl))
  refine lv_aload_n hx hb dJ8_unlinkLast_62 rfl (lv_at hl 1 rfl) ?_
  exact g_aret C hI hS (by omega) (by first | exact Or.inl ⟨_, rfl⟩ | exact Or.inr ⟨_, rfl⟩) (Or.inr ⟨_, rfl⟩) ⟨rfl, (by omega), hF, c0_⟩ dJ8_unlinkLast_63
set_option maxHeartbeats 4000000 in
set_option maxRecDepth 100000 in
theorem c_J8_removeLastS (l : Launch) {D : gD} (hB : gBs D) (G : gH) (n : Nat) (la : Nat) (mc : Int32) (sz : Int32) (fx : Nat) (lx : Nat) (it : Nat) (c0_ : G la = some (.inl (16, [.int mc, .int sz, .ref fx, .ref lx]))) (c1_ : G lx = some (.inl (17, [.ref it, .null, .null]))) (hzl : gz D ≤ la) (hzlx : gz D ≤ lx) : gMet l D yJ8_removeLast (ws_ yJ8_removeLast cJ8_removeLast 2 (some (FieldType.object "java/lang/Object"))) 8 0 G n [.ref la] (fun (v : Option Value) (G1 : gH) (n1 : Nat) => v = some (.ref it) ∧ n ≤ n1 ∧ gF G G1 n (fun q : Nat => q = la ∨ q = lx) ∧ G1 la = some (.inl (16, [.int (mc + 1), .int (sz - 1), .null, .null]))) gNox := by
  refine g_start (by decide) (Nat.le_of_ble_eq_true rfl) ?_
  intro p e s m below meth c ls C hnm hxt hI hl
  have hx := C.x
  have hb := C.b
  have hS : va_S (gA D) s.heap s.heap [] := va_S.rf
  have hz0 := hI.z
  have lc0_ := hI.lt c0_
  have lc1_ := hI.lt c1_
  have hF : gF G G n (fun q : Nat => q = la ∨ q = lx) := gF.rf _ _ _
  have hl : lv_has ls 2 [(0, .ref la)] := hl
  refine lv_aload_n hx hb dJ8_removeLast_0 rfl (lv_at hl 0 rfl) ?_
  refine g_get C hI c0_ kc16 3 rfl q355 (fun _ h9 => h9) dJ8_removeLast_1 ?_
  refine lv_astore_n (lv' := [(1, .ref lx), (0, .ref la)]) hx hb dJ8_removeLast_4 rfl hl (by decide) rfl (fun ls hl => ?_)
  refine lv_aload_n hx hb dJ8_removeLast_5 rfl (lv_at hl 0 rfl) ?_
  refine lv_ifnonnull (tgt := 17) hx hb dJ8_removeLast_6 (by decide) ?_
  refine lv_aload_n hx hb dJ8_removeLast_17 rfl (lv_at hl 1 rfl) ?_
  refine lv_aload_n hx hb dJ8_removeLast_18 rfl (lv_at hl 0 rfl) ?_
  refine g_V (As := [.ref lx]) (rest := []) (lv := [(1, .ref lx), (0, .ref la)]) C hI hS (c_J8_unlinkLastS l hB G n la mc sz fx lx it c0_ c1_ (by omega) (by omega)) c0_ rfl rfl q2545 q2547 qs33 q89 q2548 (⟨by decide, by decide, by decide⟩ : gArg _ 1) rfl ⟨by decide, by decide⟩ (by omega) hl rfl (Nat.le_of_ble_eq_true rfl) dJ8_removeLast_19 (fun v5254 G5255 n5256 H locs hp5257 hI hS => ?_) gKx.no
  obtain ⟨rfl, hn5258, hF5259, c5260⟩ := hp5257
  refine W.widen (k := 0) (n := 200 * (0)) (by omega) (by omega) ?_
  have hF := hF.trans hF5259 (by omega) (fun q hq => (fun h => h.elim (fun h => h ▸ (Or.inl rfl)) (fun h => h ▸ (Or.inr (rfl)))))
  exact g_aret C hI hS (by omega) (by first | exact Or.inl ⟨_, rfl⟩ | exact Or.inr ⟨_, rfl⟩) (Or.inr ⟨_, rfl⟩) ⟨rfl, (by omega), hF, c5260⟩ dJ8_removeLast_22
set_option maxHeartbeats 4000000 in
set_option maxRecDepth 100000 in
theorem c_J8_unlinkLastN (l : Launch) {D : gD} (hB : gBs D) (G : gH) (n : Nat) (la : Nat) (mc : Int32) (sz : Int32) (fx : Nat) (lx : Nat) (it : Nat) (pv : Nat) (i2 : Nat) (c0_ : G la = some (.inl (16, [.int mc, .int sz, .ref fx, .ref lx]))) (c1_ : G lx = some (.inl (17, [.ref it, .null, .ref pv]))) (c2_ : G pv = some (.inl (17, [.ref i2, .ref lx, .null]))) (hzl : gz D ≤ la) (hzlx : gz D ≤ lx) (hzpv : gz D ≤ pv) (hne : lx ≠ pv) : gMet l D yJ8_unlinkLast (ws_ yJ8_unlinkLast cJ8_unlinkLast 4 (some (FieldType.object "java/lang/Object"))) 1 0 G n [.ref la, .ref lx] (fun (v : Option Value) (G1 : gH) (n1 : Nat) => v = some (.ref it) ∧ n ≤ n1 ∧ gF G G1 n (fun q : Nat => q = la ∨ q = lx ∨ q = pv) ∧ G1 la = some (.inl (16, [.int (mc + 1), .int (sz - 1), .ref fx, .ref pv])) ∧ G1 pv = some (.inl (17, [.ref i2, .null, .null]))) gNox := by
  refine g_start (by decide) (Nat.le_of_ble_eq_true rfl) ?_
  intro p e s m below meth c ls C hnm hxt hI hl
  have hx := C.x
  have hb := C.b
  have hS : va_S (gA D) s.heap s.heap [] := va_S.rf
  have hz0 := hI.z
  have lc0_ := hI.lt c0_
  have lc1_ := hI.lt c1_
  have lc2_ := hI.lt c2_
  have hF : gF G G n (fun q : Nat => q = la ∨ q = lx ∨ q = pv) := gF.rf _ _ _
  have hl : lv_has ls 4 [(0, .ref la), (1, .ref lx)] := hl
  refine lv_aload_n hx hb dJ8_unlinkLast_0 rfl (lv_at hl 1 rfl) ?_
  refine g_get C hI c1_ kc17 0 rfl q330 (fun _ h9 => h9) dJ8_unlinkLast_1 ?_
  refine lv_astore_n (lv' := [(2, .ref it), (0, .ref la), (1, .ref lx)]) hx hb dJ8_unlinkLast_4 rfl hl (by decide) rfl (fun ls hl => ?_)
  refine lv_aload_n hx hb dJ8_unlinkLast_5 rfl (lv_at hl 2 rfl) ?_
  refine g_get C hI c1_ kc17 2 rfl q335 (fun _ h9 => h9) dJ8_unlinkLast_6 ?_
  refine lv_astore_n (lv' := [(3, .ref pv), (2, .ref it), (0, .ref la), (1, .ref lx)]) hx hb dJ8_unlinkLast_9 rfl hl (by decide) rfl (fun ls hl => ?_)
  refine lv_aload_n hx hb dJ8_unlinkLast_10 rfl (lv_at hl 3 rfl) ?_
  refine lv_null hx hb dJ8_unlinkLast_11 ?_
  refine g_put (fs2 := [.null, .null, .ref pv]) C hI hS c1_ (by omega) kc17 0 (Nat.le_of_ble_eq_true rfl) q330 (fun _ h9 => h9) rfl rfl rfl rfl dJ8_unlinkLast_12 (fun G5261 H locs e5262 hI hS => ?_)
  have c0_ := gE_k e5262 c0_ (g_nc c0_ c1_ (by decide))
  have c2_ := gE_k e5262 c2_ (Ne.symm hne)
  have c1_ : G5261 lx = some (.inl (17, [.null, .null, .ref pv])) := gE_s e5262
  have hF := gE_F e5262 hF (Or.inr (Or.inr (Or.inl rfl)))
  refine lv_aload_n hx hb dJ8_unlinkLast_15 rfl (lv_at hl 3 rfl) ?_
  refine lv_null hx hb dJ8_unlinkLast_16 ?_
  refine g_put (fs2 := [.null, .null, .null]) C hI hS c1_ (by omega) kc17 2 (Nat.le_of_ble_eq_true rfl) q335 (fun _ h9 => h9) rfl rfl rfl rfl dJ8_unlinkLast_17 (fun G5263 H locs e5264 hI hS => ?_)
  have c0_ := gE_k e5264 c0_ (g_nc c0_ c1_ (by decide))
  have c2_ := gE_k e5264 c2_ (Ne.symm hne)
  have c1_ : G5263 lx = some (.inl (17, [.null, .null, .null])) := gE_s e5264
  have hF := gE_F e5264 hF (Or.inr (Or.inr (Or.inl rfl)))
  refine lv_aload_n hx hb dJ8_unlinkLast_20 rfl (lv_at hl 2 rfl) ?_
  refine lv_aload_n hx hb dJ8_unlinkLast_21 rfl (lv_at hl 0 rfl) ?_
  refine g_put (fs2 := [.int mc, .int sz, .ref fx, .ref pv]) C hI hS c0_ (by omega) kc16 3 (Nat.le_of_ble_eq_true rfl) q355 (fun _ h9 => h9) rfl rfl rfl rfl dJ8_unlinkLast_22 (fun G5265 H locs e5266 hI hS => ?_)
  have c1_ := gE_k e5266 c1_ (g_nc c1_ c0_ (by decide))
  have c2_ := gE_k e5266 c2_ (g_nc c2_ c0_ (by decide))
  have c0_ : G5265 la = some (.inl (16, [.int mc, .int sz, .ref fx, .ref pv])) := gE_s e5266
  have hF := gE_F e5266 hF (Or.inr (Or.inl rfl))
  refine lv_aload_n hx hb dJ8_unlinkLast_25 rfl (lv_at hl 0 rfl) ?_
  refine lv_ifnonnull (tgt := 37) hx hb dJ8_unlinkLast_26 (by decide) ?_
  refine lv_aload_n hx hb dJ8_unlinkLast_37 rfl (lv_at hl 0 rfl) ?_
  refine lv_null hx hb dJ8_unlinkLast_38 ?_
  refine g_put (fs2 := [.ref i2, .null, .null]) C hI hS c2_ (by omega) kc17 1 (Nat.le_of_ble_eq_true rfl) q333 (fun _ h9 => h9) rfl rfl rfl rfl dJ8_unlinkLast_39 (fun G5267 H locs e5268 hI hS => ?_)
  have c0_ := gE_k e5268 c0_ (g_nc c0_ c2_ (by decide))
  have c1_ := gE_k e5268 c1_ hne
  have c2_ : G5267 pv = some (.inl (17, [.ref i2, .null, .null])) := gE_s e5268
  have hF := gE_F e5268 hF (Or.inr (Or.inr (Or.inr (rfl))))
  refine lv_aload_n hx hb dJ8_unlinkLast_42 rfl (lv_at hl 2 rfl) ?_
  refine lv_dup hx hb dJ8_unlinkLast_43 rfl ?_
  refine g_get C hI c0_ kc16 1 rfl q352 (fun _ h9 => h9) dJ8_unlinkLast_44 ?_
  refine lv_iconst (v := 1) hx hb dJ8_unlinkLast_47 (by decide) ?_
  refine lv_isub hx hb dJ8_unlinkLast_48 ?_
  refine g_put (fs2 := [.int mc, .int (sz - 1), .ref fx, .ref pv]) C hI hS c0_ (by omega) kc16 1 (Nat.le_of_ble_eq_true rfl) q352 (fun _ h9 => h9) rfl rfl rfl rfl dJ8_unlinkLast_49 (fun G5269 H locs e5270 hI hS => ?_)
  have c1_ := gE_k e5270 c1_ (g_nc c1_ c0_ (by decide))
  have c2_ := gE_k e5270 c2_ (g_nc c2_ c0_ (by decide))
  have c0_ : G5269 la = some (.inl (16, [.int mc, .int (sz - 1), .ref fx, .ref pv])) := gE_s e5270
  have hF := gE_F e5270 hF (Or.inr (Or.inl rfl))
  refine lv_aload_n hx hb dJ8_unlinkLast_52 rfl (lv_at hl 2 rfl) ?_
  refine lv_dup hx hb dJ8_unlinkLast_53 rfl ?_
  refine g_get C hI c0_ kc16 0 rfl q170 (u_same (C.ts _ q166)) dJ8_unlinkLast_54 ?_
  refine lv_iconst (v := 1) hx hb dJ8_unlinkLast_57 (by decide) ?_
  refine lv_iadd hx hb dJ8_unlinkLast_58 ?_
  refine g_put (fs2 := [.int (mc + 1), .int (sz - 1), .ref fx, .ref pv]) C hI hS c0_ (by omega) kc16 0 (Nat.le_of_ble_eq_true rfl) q170 (u_same (C.ts _ q166)) rfl rfl rfl rfl dJ8_unlinkLast_59 (fun G5271 H locs e5272 hI hS => ?_)
  have c1_ := gE_k e5272 c1_ (g_nc c1_ c0_ (by decide))
  have c2_ := gE_k e5272 c2_ (g_nc c2_ c0_ (by decide))
  have c0_ : G5271 la = some (.inl (16, [.int (mc + 1), .int (sz - 1), .ref fx, .ref pv])) := gE_s e5272
  have hF := gE_F e5272 hF (Or.inr (Or.inl rfl))
  refine lv_aload_n hx hb dJ8_unlinkLast_62 rfl (lv_at hl 1 rfl) ?_
  exact g_aret C hI hS (by omega) (by first | exact Or.inl ⟨_, rfl⟩ | exact Or.inr ⟨_, rfl⟩) (Or.inr ⟨_, rfl⟩) ⟨rfl, (by omega), hF, c0_, c2_⟩ dJ8_unlinkLast_63
set_option maxHeartbeats 4000000 in
set_option maxRecDepth 100000 in
theorem c_J8_removeLastN (l : Launch) {D : gD} (hB : gBs D) (G : gH) (n : Nat) (la : Nat) (mc : Int32) (sz : Int32) (fx : Nat) (lx : Nat) (it : Nat) (pv : Nat) (i2 : Nat) (c0_ : G la = some (.inl (16, [.int mc, .int sz, .ref fx, .ref lx]))) (c1_ : G lx = some (.inl (17, [.ref it, .null, .ref pv]))) (c2_ : G pv = some (.inl (17, [.ref i2, .ref lx, .null]))) (hzl : gz D ≤ la) (hzlx : gz D ≤ lx) (hzpv : gz D ≤ pv) (hne : lx ≠ pv) : gMet l D yJ8_removeLast (ws_ yJ8_removeLast cJ8_removeLast 2 (some (FieldType.object "java/lang/Object"))) 8 0 G n [.ref la] (fun (v : Option Value) (G1 : gH) (n1 : Nat) => v = some (.ref it) ∧ n ≤ n1 ∧ gF G G1 n (fun q : Nat => q = la ∨ q = lx ∨ q = pv) ∧ G1 la = some (.inl (16, [.int (mc + 1), .int (sz - 1), .ref fx, .ref pv])) ∧ G1 pv = some (.inl (17, [.ref i2, .null, .null]))) gNox := by
  refine g_start (by decide) (Nat.le_of_ble_eq_true rfl) ?_
  intro p e s m below meth c ls C hnm hxt hI hl
  have hx := C.x
  have hb := C.b
  have hS : va_S (gA D) s.heap s.heap [] := va_S.rf
  have hz0 := hI.z
  have lc0_ := hI.lt c0_
  have lc1_ := hI.lt c1_
  have lc2_ := hI.lt c2_
  have hF : gF G G n (fun q : Nat => q = la ∨ q = lx ∨ q = pv) := gF.rf _ _ _
  have hl : lv_has ls 2 [(0, .ref la)] := hl
  refine lv_aload_n hx hb dJ8_removeLast_0 rfl (lv_at hl 0 rfl) ?_
  refine g_get C hI c0_ kc16 3 rfl q355 (fun _ h9 => h9) dJ8_removeLast_1 ?_
  refine lv_astore_n (lv' := [(1, .ref lx), (0, .ref la)]) hx hb dJ8_removeLast_4 rfl hl (by decide) rfl (fun ls hl => ?_)
  refine lv_aload_n hx hb dJ8_removeLast_5 rfl (lv_at hl 0 rfl) ?_
  refine lv_ifnonnull (tgt := 17) hx hb dJ8_removeLast_6 (by decide) ?_
  refine lv_aload_n hx hb dJ8_removeLast_17 rfl (lv_at hl 1 rfl) ?_
  refine lv_aload_n hx hb dJ8_removeLast_18 rfl (lv_at hl 0 rfl) ?_
  refine g_V (As := [.ref lx]) (rest := []) (lv := [(1, .ref lx), (0, .ref la)]) C hI hS (c_J8_unlinkLastN l hB G n la mc sz fx lx it pv i2 c0_ c1_ c2_ (by omega) (by omega) (by omega) hne) c0_ rfl rfl q2545 q2547 qs33 q89 q2548 (⟨by decide, by decide, by decide⟩ : gArg _ 1) rfl ⟨by decide, by decide⟩ (by omega) hl rfl (Nat.le_of_ble_eq_true rfl) dJ8_removeLast_19 (fun v5273 G5274 n5275 H locs hp5276 hI hS => ?_) gKx.no
  obtain ⟨rfl, hn5277, hF5278, c5279, c5280⟩ := hp5276
  refine W.widen (k := 0) (n := 200 * (0)) (by omega) (by omega) ?_
  have hF := hF.trans hF5278 (by omega) (fun q hq => (fun h => h.elim (fun h => h ▸ (Or.inl rfl)) (fun h => h.elim (fun h => h ▸ (Or.inr (Or.inl rfl))) (fun h => h ▸ (Or.inr (Or.inr (rfl)))))))
  exact g_aret C hI hS (by omega) (by first | exact Or.inl ⟨_, rfl⟩ | exact Or.inr ⟨_, rfl⟩) (Or.inr ⟨_, rfl⟩) ⟨rfl, (by omega), hF, c5279, c5280⟩ dJ8_removeLast_22
set_option maxHeartbeats 4000000 in
set_option maxRecDepth 100000 in
theorem c_J8_unlinkLastR (l : Launch) {D : gD} (hB : gBs D) (G : gH) (n : Nat) (la : Nat) (mc : Int32) (sz : Int32) (fx : Nat) (lx : Nat) (it : Nat) (pv : Nat) (i2 : Nat) (p2 : Nat) (c0_ : G la = some (.inl (16, [.int mc, .int sz, .ref fx, .ref lx]))) (c1_ : G lx = some (.inl (17, [.ref it, .null, .ref pv]))) (c2_ : G pv = some (.inl (17, [.ref i2, .ref lx, .ref p2]))) (hzl : gz D ≤ la) (hzlx : gz D ≤ lx) (hzpv : gz D ≤ pv) (hne : lx ≠ pv) : gMet l D yJ8_unlinkLast (ws_ yJ8_unlinkLast cJ8_unlinkLast 4 (some (FieldType.object "java/lang/Object"))) 1 0 G n [.ref la, .ref lx] (fun (v : Option Value) (G1 : gH) (n1 : Nat) => v = some (.ref it) ∧ n ≤ n1 ∧ gF G G1 n (fun q : Nat => q = la ∨ q = lx ∨ q = pv) ∧ G1 la = some (.inl (16, [.int (mc + 1), .int (sz - 1), .ref fx, .ref pv])) ∧ G1 pv = some (.inl (17, [.ref i2, .null, .ref p2]))) gNox := by
  refine g_start (by decide) (Nat.le_of_ble_eq_true rfl) ?_
  intro p e s m below meth c ls C hnm hxt hI hl
  have hx := C.x
  have hb := C.b
  have hS : va_S (gA D) s.heap s.heap [] := va_S.rf
  have hz0 := hI.z
  have lc0_ := hI.lt c0_
  have lc1_ := hI.lt c1_
  have lc2_ := hI.lt c2_
  have hF : gF G G n (fun q : Nat => q = la ∨ q = lx ∨ q = pv) := gF.rf _ _ _
  have hl : lv_has ls 4 [(0, .ref la), (1, .ref lx)] := hl
  refine lv_aload_n hx hb dJ8_unlinkLast_0 rfl (lv_at hl 1 rfl) ?_
  refine g_get C hI c1_ kc17 0 rfl q330 (fun _ h9 => h9) dJ8_unlinkLast_1 ?_
  refine lv_astore_n (lv' := [(2, .ref it), (0, .ref la), (1, .ref lx)]) hx hb dJ8_unlinkLast_4 rfl hl (by decide) rfl (fun ls hl => ?_)
  refine lv_aload_n hx hb dJ8_unlinkLast_5 rfl (lv_at hl 2 rfl) ?_
  refine g_get C hI c1_ kc17 2 rfl q335 (fun _ h9 => h9) dJ8_unlinkLast_6 ?_
  refine lv_astore_n (lv' := [(3, .ref pv), (2, .ref it), (0, .ref la), (1, .ref lx)]) hx hb dJ8_unlinkLast_9 rfl hl (by decide) rfl (fun ls hl => ?_)
  refine lv_aload_n hx hb dJ8_unlinkLast_10 rfl (lv_at hl 3 rfl) ?_
  refine lv_null hx hb dJ8_unlinkLast_11 ?_
  refine g_put (fs2 := [.null, .null, .ref pv]) C hI hS c1_ (by omega) kc17 0 (Nat.le_of_ble_eq_true rfl) q330 (fun _ h9 => h9) rfl rfl rfl rfl dJ8_unlinkLast_12 (fun G5281 H locs e5282 hI hS => ?_)
  have c0_ := gE_k e5282 c0_ (g_nc c0_ c1_ (by decide))
  have c2_ := gE_k e5282 c2_ (Ne.symm hne)
  have c1_ : G5281 lx = some (.inl (17, [.null, .null, .ref pv])) := gE_s e5282
  have hF := gE_F e5282 hF (Or.inr (Or.inr (Or.inl rfl)))
  refine lv_aload_n hx hb dJ8_unlinkLast_15 rfl (lv_at hl 3 rfl) ?_
  refine lv_null hx hb dJ8_unlinkLast_16 ?_
  refine g_put (fs2 := [.null, .null, .null]) C hI hS c1_ (by omega) kc17 2 (Nat.le_of_ble_eq_true rfl) q335 (fun _ h9 => h9) rfl rfl rfl rfl dJ8_unlinkLast_17 (fun G5283 H locs e5284 hI hS => ?_)
  have c0_ := gE_k e5284 c0_ (g_nc c0_ c1_ (by decide))
  have c2_ := gE_k e5284 c2_ (Ne.symm hne)
  have c1_ : G5283 lx = some (.inl (17, [.null, .null, .null])) := gE_s e5284
  have hF := gE_F e5284 hF (Or.inr (Or.inr (Or.inl rfl)))
  refine lv_aload_n hx hb dJ8_unlinkLast_20 rfl (lv_at hl 2 rfl) ?_
  refine lv_aload_n hx hb dJ8_unlinkLast_21 rfl (lv_at hl 0 rfl) ?_
  refine g_put (fs2 := [.int mc, .int sz, .ref fx, .ref pv]) C hI hS c0_ (by omega) kc16 3 (Nat.le_of_ble_eq_true rfl) q355 (fun _ h9 => h9) rfl rfl rfl rfl dJ8_unlinkLast_22 (fun G5285 H locs e5286 hI hS => ?_)
  have c1_ := gE_k e5286 c1_ (g_nc c1_ c0_ (by decide))
  have c2_ := gE_k e5286 c2_ (g_nc c2_ c0_ (by decide))
  have c0_ : G5285 la = some (.inl (16, [.int mc, .int sz, .ref fx, .ref pv])) := gE_s e5286
  have hF := gE_F e5286 hF (Or.inr (Or.inl rfl))
  refine lv_aload_n hx hb dJ8_unlinkLast_25 rfl (lv_at hl 0 rfl) ?_
  refine lv_ifnonnull (tgt := 37) hx hb dJ8_unlinkLast_26 (by decide) ?_
  refine lv_aload_n hx hb dJ8_unlinkLast_37 rfl (lv_at hl 0 rfl) ?_
  refine lv_null hx hb dJ8_unlinkLast_38 ?_
  refine g_put (fs2 := [.ref i2, .null, .ref p2]) C hI hS c2_ (by omega) kc17 1 (Nat.le_of_ble_eq_true rfl) q333 (fun _ h9 => h9) rfl rfl rfl rfl dJ8_unlinkLast_39 (fun G5287 H locs e5288 hI hS => ?_)
  have c0_ := gE_k e5288 c0_ (g_nc c0_ c2_ (by decide))
  have c1_ := gE_k e5288 c1_ hne
  have c2_ : G5287 pv = some (.inl (17, [.ref i2, .null, .ref p2])) := gE_s e5288
  have hF := gE_F e5288 hF (Or.inr (Or.inr (Or.inr (rfl))))
  refine lv_aload_n hx hb dJ8_unlinkLast_42 rfl (lv_at hl 2 rfl) ?_
  refine lv_dup hx hb dJ8_unlinkLast_43 rfl ?_
  refine g_get C hI c0_ kc16 1 rfl q352 (fun _ h9 => h9) dJ8_unlinkLast_44 ?_
  refine lv_iconst (v := 1) hx hb dJ8_unlinkLast_47 (by decide) ?_
  refine lv_isub hx hb dJ8_unlinkLast_48 ?_
  refine g_put (fs2 := [.int mc, .int (sz - 1), .ref fx, .ref pv]) C hI hS c0_ (by omega) kc16 1 (Nat.le_of_ble_eq_true rfl) q352 (fun _ h9 => h9) rfl rfl rfl rfl dJ8_unlinkLast_49 (fun G5289 H locs e5290 hI hS => ?_)
  have c1_ := gE_k e5290 c1_ (g_nc c1_ c0_ (by decide))
  have c2_ := gE_k e5290 c2_ (g_nc c2_ c0_ (by decide))
  have c0_ : G5289 la = some (.inl (16, [.int mc, .int (sz - 1), .ref fx, .ref pv])) := gE_s e5290
  have hF := gE_F e5290 hF (Or.inr (Or.inl rfl))
  refine lv_aload_n hx hb dJ8_unlinkLast_52 rfl (lv_at hl 2 rfl) ?_
  refine lv_dup hx hb dJ8_unlinkLast_53 rfl ?_
  refine g_get C hI c0_ kc16 0 rfl q170 (u_same (C.ts _ q166)) dJ8_unlinkLast_54 ?_
  refine lv_iconst (v := 1) hx hb dJ8_unlinkLast_57 (by decide) ?_
  refine lv_iadd hx hb dJ8_unlinkLast_58 ?_
  refine g_put (fs2 := [.int (mc + 1), .int (sz - 1), .ref fx, .ref pv]) C hI hS c0_ (by omega) kc16 0 (Nat.le_of_ble_eq_true rfl) q170 (u_same (C.ts _ q166)) rfl rfl rfl rfl dJ8_unlinkLast_59 (fun G5291 H locs e5292 hI hS => ?_)
  have c1_ := gE_k e5292 c1_ (g_nc c1_ c0_ (by decide))
  have c2_ := gE_k e5292 c2_ (g_nc c2_ c0_ (by decide))
  have c0_ : G5291 la = some (.inl (16, [.int (mc + 1), .int (sz - 1), .ref fx, .ref pv])) := gE_s e5292
  have hF := gE_F e5292 hF (Or.inr (Or.inl rfl))
  refine lv_aload_n hx hb dJ8_unlinkLast_62 rfl (lv_at hl 1 rfl) ?_
  exact g_aret C hI hS (by omega) (by first | exact Or.inl ⟨_, rfl⟩ | exact Or.inr ⟨_, rfl⟩) (Or.inr ⟨_, rfl⟩) ⟨rfl, (by omega), hF, c0_, c2_⟩ dJ8_unlinkLast_63
set_option maxHeartbeats 4000000 in
set_option maxRecDepth 100000 in
theorem c_J8_removeLastR (l : Launch) {D : gD} (hB : gBs D) (G : gH) (n : Nat) (la : Nat) (mc : Int32) (sz : Int32) (fx : Nat) (lx : Nat) (it : Nat) (pv : Nat) (i2 : Nat) (p2 : Nat) (c0_ : G la = some (.inl (16, [.int mc, .int sz, .ref fx, .ref lx]))) (c1_ : G lx = some (.inl (17, [.ref it, .null, .ref pv]))) (c2_ : G pv = some (.inl (17, [.ref i2, .ref lx, .ref p2]))) (hzl : gz D ≤ la) (hzlx : gz D ≤ lx) (hzpv : gz D ≤ pv) (hne : lx ≠ pv) : gMet l D yJ8_removeLast (ws_ yJ8_removeLast cJ8_removeLast 2 (some (FieldType.object "java/lang/Object"))) 8 0 G n [.ref la] (fun (v : Option Value) (G1 : gH) (n1 : Nat) => v = some (.ref it) ∧ n ≤ n1 ∧ gF G G1 n (fun q : Nat => q = la ∨ q = lx ∨ q = pv) ∧ G1 la = some (.inl (16, [.int (mc + 1), .int (sz - 1), .ref fx, .ref pv])) ∧ G1 pv = some (.inl (17, [.ref i2, .null, .ref p2]))) gNox := by
  refine g_start (by decide) (Nat.le_of_ble_eq_true rfl) ?_
  intro p e s m below meth c ls C hnm hxt hI hl
  have hx := C.x
  have hb := C.b
  have hS : va_S (gA D) s.heap s.heap [] := va_S.rf
  have hz0 := hI.z
  have lc0_ := hI.lt c0_
  have lc1_ := hI.lt c1_
  have lc2_ := hI.lt c2_
  have hF : gF G G n (fun q : Nat => q = la ∨ q = lx ∨ q = pv) := gF.rf _ _ _
  have hl : lv_has ls 2 [(0, .ref la)] := hl
  refine lv_aload_n hx hb dJ8_removeLast_0 rfl (lv_at hl 0 rfl) ?_
  refine g_get C hI c0_ kc16 3 rfl q355 (fun _ h9 => h9) dJ8_removeLast_1 ?_
  refine lv_astore_n (lv' := [(1, .ref lx), (0, .ref la)]) hx hb dJ8_removeLast_4 rfl hl (by decide) rfl (fun ls hl => ?_)
  refine lv_aload_n hx hb dJ8_removeLast_5 rfl (lv_at hl 0 rfl) ?_
  refine lv_ifnonnull (tgt := 17) hx hb dJ8_removeLast_6 (by decide) ?_
  refine lv_aload_n hx hb dJ8_removeLast_17 rfl (lv_at hl 1 rfl) ?_
  refine lv_aload_n hx hb dJ8_removeLast_18 rfl (lv_at hl 0 rfl) ?_
  refine g_V (As := [.ref lx]) (rest := []) (lv := [(1, .ref lx), (0, .ref la)]) C hI hS (c_J8_unlinkLastR l hB G n la mc sz fx lx it pv i2 p2 c0_ c1_ c2_ (by omega) (by omega) (by omega) hne) c0_ rfl rfl q2545 q2547 qs33 q89 q2548 (⟨by decide, by decide, by decide⟩ : gArg _ 1) rfl ⟨by decide, by decide⟩ (by omega) hl rfl (Nat.le_of_ble_eq_true rfl) dJ8_removeLast_19 (fun v5293 G5294 n5295 H locs hp5296 hI hS => ?_) gKx.no
  obtain ⟨rfl, hn5297, hF5298, c5299, c5300⟩ := hp5296
  refine W.widen (k := 0) (n := 200 * (0)) (by omega) (by omega) ?_
  have hF := hF.trans hF5298 (by omega) (fun q hq => (fun h => h.elim (fun h => h ▸ (Or.inl rfl)) (fun h => h.elim (fun h => h ▸ (Or.inr (Or.inl rfl))) (fun h => h ▸ (Or.inr (Or.inr (rfl)))))))
  exact g_aret C hI hS (by omega) (by first | exact Or.inl ⟨_, rfl⟩ | exact Or.inr ⟨_, rfl⟩) (Or.inr ⟨_, rfl⟩) ⟨rfl, (by omega), hF, c5299, c5300⟩ dJ8_removeLast_22
