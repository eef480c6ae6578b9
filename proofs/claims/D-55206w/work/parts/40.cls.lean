/-! THE CLASS, 4: the fleet, cell by cell: what a string draws -/
set_option maxHeartbeats 4000000 in
set_option maxRecDepth 100000 in
theorem c_X12_of0 (l : Launch) {D : gD} (hB : gBs D) (G : gH) (n : Nat) (a1 : Int32) (h0 : a1 = 0) : gMet l D yX12_of (ws_ yX12_of cX12_of 1 (some (FieldType.object "WhelkFleet$Bait"))) 1 0 G n [.int a1] (fun (v : Option Value) (G1 : gH) (n1 : Nat) => v = some (.ref (gk D 4)) ∧ G1 = G ∧ n1 = n) gNox := by
  refine g_start (by decide) (Nat.le_of_ble_eq_true rfl) ?_
  intro p e s m below meth c ls C hnm hxt hI hl
  have hx := C.x
  have hb := C.b
  have hS : va_S (gA D) s.heap s.heap [] := va_S.rf
  have hz0 := hI.z
  have hF : gF G G n gNone := gF.rf _ _ _
  have hl : lv_has ls 1 [(0, .int a1)] := hl
  refine lv_iload_n hx hb dX12_of_0 rfl (lv_at hl 0 rfl) ?_
  refine lv_lookup (off := 27) (tgt := 28) hx hb dX12_of_1 (by decide) (by rw [h0]; decide) (by decide) ?_
  refine g_gets C hS (st_CRAB D) q1558 (fun _ h9 => h9) dX12_of_28 ?_
  exact g_aret C hI hS (by omega) (by first | exact Or.inl ⟨_, rfl⟩ | exact Or.inr ⟨_, rfl⟩) (Or.inr ⟨_, rfl⟩) ⟨rfl, rfl, rfl⟩ dX12_of_31
set_option maxHeartbeats 4000000 in
set_option maxRecDepth 100000 in
theorem c_X12_of1 (l : Launch) {D : gD} (hB : gBs D) (G : gH) (n : Nat) (a1 : Int32) (h0 : ¬ a1 = 0) (h1 : a1 = 1) : gMet l D yX12_of (ws_ yX12_of cX12_of 1 (some (FieldType.object "WhelkFleet$Bait"))) 1 0 G n [.int a1] (fun (v : Option Value) (G1 : gH) (n1 : Nat) => v = some (.ref (gk D 5)) ∧ G1 = G ∧ n1 = n) gNox := by
  refine g_start (by decide) (Nat.le_of_ble_eq_true rfl) ?_
  intro p e s m below meth c ls C hnm hxt hI hl
  have hx := C.x
  have hb := C.b
  have hS : va_S (gA D) s.heap s.heap [] := va_S.rf
  have hz0 := hI.z
  have hF : gF G G n gNone := gF.rf _ _ _
  have hl : lv_has ls 1 [(0, .int a1)] := hl
  refine lv_iload_n hx hb dX12_of_0 rfl (lv_at hl 0 rfl) ?_
  refine lv_lookup (off := 31) (tgt := 32) hx hb dX12_of_1 (by decide) (by rw [h1]; decide) (by decide) ?_
  refine g_gets C hS (st_FISH D) q1560 (fun _ h9 => h9) dX12_of_32 ?_
  exact g_aret C hI hS (by omega) (by first | exact Or.inl ⟨_, rfl⟩ | exact Or.inr ⟨_, rfl⟩) (Or.inr ⟨_, rfl⟩) ⟨rfl, rfl, rfl⟩ dX12_of_35
set_option maxHeartbeats 4000000 in
set_option maxRecDepth 100000 in
theorem c_X12_of2 (l : Launch) {D : gD} (hB : gBs D) (G : gH) (n : Nat) (a1 : Int32) (h0 : ¬ a1 = 0) (h1 : ¬ a1 = 1) : gMet l D yX12_of (ws_ yX12_of cX12_of 1 (some (FieldType.object "WhelkFleet$Bait"))) 1 0 G n [.int a1] (fun (v : Option Value) (G1 : gH) (n1 : Nat) => v = some (.ref (gk D 6)) ∧ G1 = G ∧ n1 = n) gNox := by
  refine g_start (by decide) (Nat.le_of_ble_eq_true rfl) ?_
  intro p e s m below meth c ls C hnm hxt hI hl
  have hx := C.x
  have hb := C.b
  have hS : va_S (gA D) s.heap s.heap [] := va_S.rf
  have hz0 := hI.z
  have hF : gF G G n gNone := gF.rf _ _ _
  have hl : lv_has ls 1 [(0, .int a1)] := hl
  refine lv_iload_n hx hb dX12_of_0 rfl (lv_at hl 0 rfl) ?_
  refine lv_lookup (off := 35) (tgt := 36) hx hb dX12_of_1 (by decide) ((lv_osw h0 (by decide)).trans ((lv_osw h1 (by decide)).trans (rfl))) (by decide) ?_
  refine g_gets C hS (st_MIXED D) q1562 (fun _ h9 => h9) dX12_of_36 ?_
  exact g_aret C hI hS (by omega) (by first | exact Or.inl ⟨_, rfl⟩ | exact Or.inr ⟨_, rfl⟩) (Or.inr ⟨_, rfl⟩) ⟨rfl, rfl, rfl⟩ dX12_of_39
theorem gBs.b4 {D : gD} (h : gBs D) : gk D 4 < gz D ∧ gbase D (gk D 4) = some (.inl (12, [])) := h.2.2.2.2.2.1
theorem gBs.b5 {D : gD} (h : gBs D) : gk D 5 < gz D ∧ gbase D (gk D 5) = some (.inl (13, [])) := h.2.2.2.2.2.2.1
theorem gBs.b6 {D : gD} (h : gBs D) : gk D 6 < gz D ∧ gbase D (gk D 6) = some (.inl (14, [])) := h.2.2.2.2.2.2.2.1
