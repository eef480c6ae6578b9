/-! EXCEPTIONS OF OUR OWN: told apart, thrown -/
set_option maxHeartbeats 4000000 in
set_option maxRecDepth 100000 in
theorem c_X10_at0 (l : Launch) {D : gD} (hB : gBs D) (G : gH) (n : Nat) (qa : Nat) (re : Int32) (de : Int32) (cv : Value) (c0_ : G qa = some (.inl (8, [cv, gv D 0, gv D 1, .null, .null, .int 0, .int re, .int de]))) (hzqa : gz D ≤ qa) : gMet l D yX10_at (ws_ yX10_at cX10_at 4 (some (FieldType.object "WhelkFleet$Refusal"))) 12 0 G n [.ref qa, .int 0] (fun (v : Option Value) (G1 : gH) (n1 : Nat) => v = some (.ref qa) ∧ G1 = G ∧ n1 = n) gNox := by
  refine g_start (by decide) (Nat.le_of_ble_eq_true rfl) ?_
  intro p e s m below meth c ls C hnm hxt hI hl
  have hx := C.x
  have hb := C.b
  have hS : va_S (gA D) s.heap s.heap [] := va_S.rf
  have hz0 := hI.z
  have lc0_ := hI.lt c0_
  have hF : gF G G n gNone := gF.rf _ _ _
  have hl : lv_has ls 4 [(0, .ref qa), (1, .int 0)] := hl
  refine lv_aload_n hx hb dX10_at_0 rfl (lv_at hl 0 rfl) ?_
  refine lv_astore_n (lv' := [(2, .ref qa), (0, .ref qa), (1, .int 0)]) hx hb dX10_at_1 rfl hl (by decide) rfl (fun ls hl => ?_)
  refine lv_iconst (v := 0) hx hb dX10_at_2 (by decide) ?_
  refine lv_istore_n (lv' := [(3, .int 0), (2, .ref qa), (0, .ref qa), (1, .int 0)]) hx hb dX10_at_3 rfl hl (by decide) rfl (fun ls hl => ?_)
  refine lv_iload_n hx hb dX10_at_4 rfl (lv_at hl 0 rfl) ?_
  refine lv_iload_n hx hb dX10_at_5 rfl (lv_at hl 3 rfl) ?_
  refine lv_icmp_ge (tgt := 24) hx hb dX10_at_6 (by decide) (fun c_5445 => ?_) (fun c_5445 => ?_)
  · skip
    refine lv_aload_n hx hb dX10_at_24 rfl (lv_at hl 1 rfl) ?_
    refine g_inst C hI c0_ rfl q2415 dX10_at_25 ?_
    refine lv_if_eq (tgt := 40) hx hb dX10_at_28 (by decide) (fun c_5446 => ?_) (fun c_5446 => ?_)
    · exact absurd c_5446 (by decide)
    · skip
      refine lv_aload_n hx hb dX10_at_31 rfl (lv_at hl 1 rfl) ?_
      refine g_chk C hI c0_ rfl q2415 dX10_at_32 ?_
      refine lv_astore_n (lv' := [(3, .ref qa), (2, .ref qa), (0, .ref qa), (1, .int 0)]) hx hb dX10_at_35 rfl hl (by decide) rfl (fun ls hl => ?_)
      refine lv_aload_n hx hb dX10_at_36 rfl (lv_at hl 0 rfl) ?_
      refine lv_goto (tgt := 41) hx hb dX10_at_37 (by decide) ?_
      exact g_aret C hI hS (by omega) (by first | exact Or.inl ⟨_, rfl⟩ | exact Or.inr ⟨_, rfl⟩) (Or.inr ⟨_, rfl⟩) ⟨rfl, rfl, rfl⟩ dX10_at_41
  · exact absurd (by decide) c_5445
set_option maxHeartbeats 4000000 in
set_option maxRecDepth 100000 in
theorem c_X10_at1N (l : Launch) {D : gD} (hB : gBs D) (G : gH) (n : Nat) (qa : Nat) (re : Int32) (de : Int32) (c0_ : G qa = some (.inl (8, [.ref qa, gv D 0, gv D 1, .null, .null, .int 0, .int re, .int de]))) (hzqa : gz D ≤ qa) : gMet l D yX10_at (ws_ yX10_at cX10_at 4 (some (FieldType.object "WhelkFleet$Refusal"))) 12 0 G n [.ref qa, .int 1] (fun (v : Option Value) (G1 : gH) (n1 : Nat) => v = some (.null) ∧ G1 = G ∧ n1 = n) gNox := by
  refine g_start (by decide) (Nat.le_of_ble_eq_true rfl) ?_
  intro p e s m below meth c ls C hnm hxt hI hl
  have hx := C.x
  have hb := C.b
  have hS : va_S (gA D) s.heap s.heap [] := va_S.rf
  have hz0 := hI.z
  have lc0_ := hI.lt c0_
  have hF : gF G G n gNone := gF.rf _ _ _
  have hl : lv_has ls 4 [(0, .ref qa), (1, .int 1)] := hl
  refine lv_aload_n hx hb dX10_at_0 rfl (lv_at hl 0 rfl) ?_
  refine lv_astore_n (lv' := [(2, .ref qa), (0, .ref qa), (1, .int 1)]) hx hb dX10_at_1 rfl hl (by decide) rfl (fun ls hl => ?_)
  refine lv_iconst (v := 0) hx hb dX10_at_2 (by decide) ?_
  refine lv_istore_n (lv' := [(3, .int 0), (2, .ref qa), (0, .ref qa), (1, .int 1)]) hx hb dX10_at_3 rfl hl (by decide) rfl (fun ls hl => ?_)
  refine lv_iload_n hx hb dX10_at_4 rfl (lv_at hl 0 rfl) ?_
  refine lv_iload_n hx hb dX10_at_5 rfl (lv_at hl 3 rfl) ?_
  refine lv_icmp_ge (tgt := 24) hx hb dX10_at_6 (by decide) (fun c_5447 => ?_) (fun c_5447 => ?_)
  · exact absurd c_5447 (by decide)
  · skip
    refine lv_aload_n hx hb dX10_at_9 rfl (lv_at hl 1 rfl) ?_
    refine lv_ifnull hx hb dX10_at_10 ?_
    refine lv_aload_n hx hb dX10_at_13 rfl (lv_at hl 1 rfl) ?_
    refine g_getCause (c0 := .ref qa) C hI hS c0_ (by omega) hl rfl rfl q2401 dX10_at_14 (by decide) (Nat.le_of_ble_eq_true rfl) ?_
    rw [show gcV qa (.ref qa) = .null from if_pos rfl]
    refine lv_astore_nN (lv' := [(2, .null), (3, .int 0), (0, .ref qa), (1, .int 1)]) hx hb dX10_at_17 rfl hl (by decide) rfl (fun ls hl => ?_)
    refine lv_iinc (v := 1) (lv' := [(3, .int 1), (2, .null), (0, .ref qa), (1, .int 1)]) hx hb dX10_at_18 hl (k := 1) rfl (by first | rfl | decide) (by decide) rfl (fun ls hl => ?_)
    refine lv_goto (tgt := 4) hx hb dX10_at_21 (by decide) ?_
    refine lv_iload_n hx hb dX10_at_4 rfl (lv_at hl 0 rfl) ?_
    refine lv_iload_n hx hb dX10_at_5 rfl (lv_at hl 3 rfl) ?_
    refine lv_icmp_ge (tgt := 24) hx hb dX10_at_6 (by decide) (fun c_5448 => ?_) (fun c_5448 => ?_)
    · skip
      refine lv_aload_nN hx hb dX10_at_24 rfl (lv_at hl 1 rfl) ?_
      refine lv_instN hx hb dX10_at_25 ?_
      refine lv_if_eq (tgt := 40) hx hb dX10_at_28 (by decide) (fun c_5449 => ?_) (fun c_5449 => ?_)
      · skip
        refine lv_null hx hb dX10_at_40 ?_
        exact g_aret C hI hS (by omega) (by first | exact Or.inl ⟨_, rfl⟩ | exact Or.inr ⟨_, rfl⟩) (Or.inl rfl) ⟨rfl, rfl, rfl⟩ dX10_at_41
      · exact absurd (by decide) c_5449
    · exact absurd (by decide) c_5448
set_option maxHeartbeats 4000000 in
set_option maxRecDepth 100000 in
theorem c_X10_at1R (l : Launch) {D : gD} (hB : gBs D) (G : gH) (n : Nat) (qa : Nat) (re : Int32) (de : Int32) (ca : Nat) (r2 : Int32) (d2 : Int32) (cv : Value) (c0_ : G qa = some (.inl (8, [.ref ca, gv D 0, gv D 1, .null, .null, .int 0, .int re, .int de]))) (c1_ : G ca = some (.inl (8, [cv, gv D 0, gv D 1, .null, .null, .int 0, .int r2, .int d2]))) (hzqa : gz D ≤ qa) (hzca : gz D ≤ ca) (hn0 : ca ≠ qa) : gMet l D yX10_at (ws_ yX10_at cX10_at 4 (some (FieldType.object "WhelkFleet$Refusal"))) 12 0 G n [.ref qa, .int 1] (fun (v : Option Value) (G1 : gH) (n1 : Nat) => v = some (.ref ca) ∧ G1 = G ∧ n1 = n) gNox := by
  refine g_start (by decide) (Nat.le_of_ble_eq_true rfl) ?_
  intro p e s m below meth c ls C hnm hxt hI hl
  have hx := C.x
  have hb := C.b
  have hS : va_S (gA D) s.heap s.heap [] := va_S.rf
  have hz0 := hI.z
  have lc0_ := hI.lt c0_
  have lc1_ := hI.lt c1_
  have hF : gF G G n gNone := gF.rf _ _ _
  have hl : lv_has ls 4 [(0, .ref qa), (1, .int 1)] := hl
  refine lv_aload_n hx hb dX10_at_0 rfl (lv_at hl 0 rfl) ?_
  refine lv_astore_n (lv' := [(2, .ref qa), (0, .ref qa), (1, .int 1)]) hx hb dX10_at_1 rfl hl (by decide) rfl (fun ls hl => ?_)
  refine lv_iconst (v := 0) hx hb dX10_at_2 (by decide) ?_
  refine lv_istore_n (lv' := [(3, .int 0), (2, .ref qa), (0, .ref qa), (1, .int 1)]) hx hb dX10_at_3 rfl hl (by decide) rfl (fun ls hl => ?_)
  refine lv_iload_n hx hb dX10_at_4 rfl (lv_at hl 0 rfl) ?_
  refine lv_iload_n hx hb dX10_at_5 rfl (lv_at hl 3 rfl) ?_
  refine lv_icmp_ge (tgt := 24) hx hb dX10_at_6 (by decide) (fun c_5450 => ?_) (fun c_5450 => ?_)
  · exact absurd c_5450 (by decide)
  · skip
    refine lv_aload_n hx hb dX10_at_9 rfl (lv_at hl 1 rfl) ?_
    refine lv_ifnull hx hb dX10_at_10 ?_
    refine lv_aload_n hx hb dX10_at_13 rfl (lv_at hl 1 rfl) ?_
    refine g_getCause (c0 := .ref ca) C hI hS c0_ (by omega) hl rfl rfl q2401 dX10_at_14 (by decide) (Nat.le_of_ble_eq_true rfl) ?_
    rw [show gcV qa (.ref ca) = .ref ca from if_neg (fun h => absurd (Value.ref.inj h) hn0)]
    refine lv_astore_n (lv' := [(2, .ref ca), (3, .int 0), (0, .ref qa), (1, .int 1)]) hx hb dX10_at_17 rfl hl (by decide) rfl (fun ls hl => ?_)
    refine lv_iinc (v := 1) (lv' := [(3, .int 1), (2, .ref ca), (0, .ref qa), (1, .int 1)]) hx hb dX10_at_18 hl (k := 1) rfl (by first | rfl | decide) (by decide) rfl (fun ls hl => ?_)
    refine lv_goto (tgt := 4) hx hb dX10_at_21 (by decide) ?_
    refine lv_iload_n hx hb dX10_at_4 rfl (lv_at hl 0 rfl) ?_
    refine lv_iload_n hx hb dX10_at_5 rfl (lv_at hl 3 rfl) ?_
    refine lv_icmp_ge (tgt := 24) hx hb dX10_at_6 (by decide) (fun c_5451 => ?_) (fun c_5451 => ?_)
    · skip
      refine lv_aload_n hx hb dX10_at_24 rfl (lv_at hl 1 rfl) ?_
      refine g_inst C hI c1_ rfl q2415 dX10_at_25 ?_
      refine lv_if_eq (tgt := 40) hx hb dX10_at_28 (by decide) (fun c_5452 => ?_) (fun c_5452 => ?_)
      · exact absurd c_5452 (by decide)
      · skip
        refine lv_aload_n hx hb dX10_at_31 rfl (lv_at hl 1 rfl) ?_
        refine g_chk C hI c1_ rfl q2415 dX10_at_32 ?_
        refine lv_astore_n (lv' := [(3, .ref ca), (2, .ref ca), (0, .ref qa), (1, .int 1)]) hx hb dX10_at_35 rfl hl (by decide) rfl (fun ls hl => ?_)
        refine lv_aload_n hx hb dX10_at_36 rfl (lv_at hl 0 rfl) ?_
        refine lv_goto (tgt := 41) hx hb dX10_at_37 (by decide) ?_
        exact g_aret C hI hS (by omega) (by first | exact Or.inl ⟨_, rfl⟩ | exact Or.inr ⟨_, rfl⟩) (Or.inr ⟨_, rfl⟩) ⟨rfl, rfl, rfl⟩ dX10_at_41
    · exact absurd (by decide) c_5451
set_option maxHeartbeats 4000000 in
set_option maxRecDepth 100000 in
theorem c_X10_at2N (l : Launch) {D : gD} (hB : gBs D) (G : gH) (n : Nat) (qa : Nat) (re : Int32) (de : Int32) (c0_ : G qa = some (.inl (8, [.ref qa, gv D 0, gv D 1, .null, .null, .int 0, .int re, .int de]))) (hzqa : gz D ≤ qa) : gMet l D yX10_at (ws_ yX10_at cX10_at 4 (some (FieldType.object "WhelkFleet$Refusal"))) 12 0 G n [.ref qa, .int 2] (fun (v : Option Value) (G1 : gH) (n1 : Nat) => v = some (.null) ∧ G1 = G ∧ n1 = n) gNox := by
  refine g_start (by decide) (Nat.le_of_ble_eq_true rfl) ?_
  intro p e s m below meth c ls C hnm hxt hI hl
  have hx := C.x
  have hb := C.b
  have hS : va_S (gA D) s.heap s.heap [] := va_S.rf
  have hz0 := hI.z
  have lc0_ := hI.lt c0_
  have hF : gF G G n gNone := gF.rf _ _ _
  have hl : lv_has ls 4 [(0, .ref qa), (1, .int 2)] := hl
  refine lv_aload_n hx hb dX10_at_0 rfl (lv_at hl 0 rfl) ?_
  refine lv_astore_n (lv' := [(2, .ref qa), (0, .ref qa), (1, .int 2)]) hx hb dX10_at_1 rfl hl (by decide) rfl (fun ls hl => ?_)
  refine lv_iconst (v := 0) hx hb dX10_at_2 (by decide) ?_
  refine lv_istore_n (lv' := [(3, .int 0), (2, .ref qa), (0, .ref qa), (1, .int 2)]) hx hb dX10_at_3 rfl hl (by decide) rfl (fun ls hl => ?_)
  refine lv_iload_n hx hb dX10_at_4 rfl (lv_at hl 0 rfl) ?_
  refine lv_iload_n hx hb dX10_at_5 rfl (lv_at hl 3 rfl) ?_
  refine lv_icmp_ge (tgt := 24) hx hb dX10_at_6 (by decide) (fun c_5453 => ?_) (fun c_5453 => ?_)
  · exact absurd c_5453 (by decide)
  · skip
    refine lv_aload_n hx hb dX10_at_9 rfl (lv_at hl 1 rfl) ?_
    refine lv_ifnull hx hb dX10_at_10 ?_
    refine lv_aload_n hx hb dX10_at_13 rfl (lv_at hl 1 rfl) ?_
    refine g_getCause (c0 := .ref qa) C hI hS c0_ (by omega) hl rfl rfl q2401 dX10_at_14 (by decide) (Nat.le_of_ble_eq_true rfl) ?_
    rw [show gcV qa (.ref qa) = .null from if_pos rfl]
    refine lv_astore_nN (lv' := [(2, .null), (3, .int 0), (0, .ref qa), (1, .int 2)]) hx hb dX10_at_17 rfl hl (by decide) rfl (fun ls hl => ?_)
    refine lv_iinc (v := 1) (lv' := [(3, .int 1), (2, .null), (0, .ref qa), (1, .int 2)]) hx hb dX10_at_18 hl (k := 1) rfl (by first | rfl | decide) (by decide) rfl (fun ls hl => ?_)
    refine lv_goto (tgt := 4) hx hb dX10_at_21 (by decide) ?_
    refine lv_iload_n hx hb dX10_at_4 rfl (lv_at hl 0 rfl) ?_
    refine lv_iload_n hx hb dX10_at_5 rfl (lv_at hl 3 rfl) ?_
    refine lv_icmp_ge (tgt := 24) hx hb dX10_at_6 (by decide) (fun c_5454 => ?_) (fun c_5454 => ?_)
    · exact absurd c_5454 (by decide)
    · skip
      refine lv_aload_nN hx hb dX10_at_9 rfl (lv_at hl 1 rfl) ?_
      refine lv_ifnullN (tgt := 24) hx hb dX10_at_10 (by decide) ?_
      refine lv_aload_nN hx hb dX10_at_24 rfl (lv_at hl 1 rfl) ?_
      refine lv_instN hx hb dX10_at_25 ?_
      refine lv_if_eq (tgt := 40) hx hb dX10_at_28 (by decide) (fun c_5455 => ?_) (fun c_5455 => ?_)
      · skip
        refine lv_null hx hb dX10_at_40 ?_
        exact g_aret C hI hS (by omega) (by first | exact Or.inl ⟨_, rfl⟩ | exact Or.inr ⟨_, rfl⟩) (Or.inl rfl) ⟨rfl, rfl, rfl⟩ dX10_at_41
      · exact absurd (by decide) c_5455
set_option maxHeartbeats 4000000 in
set_option maxRecDepth 100000 in
theorem c_X10_at2R (l : Launch) {D : gD} (hB : gBs D) (G : gH) (n : Nat) (qa : Nat) (re : Int32) (de : Int32) (ca : Nat) (r2 : Int32) (d2 : Int32) (c0_ : G qa = some (.inl (8, [.ref ca, gv D 0, gv D 1, .null, .null, .int 0, .int re, .int de]))) (c1_ : G ca = some (.inl (8, [.ref ca, gv D 0, gv D 1, .null, .null, .int 0, .int r2, .int d2]))) (hzqa : gz D ≤ qa) (hzca : gz D ≤ ca) (hn0 : ca ≠ qa) : gMet l D yX10_at (ws_ yX10_at cX10_at 4 (some (FieldType.object "WhelkFleet$Refusal"))) 12 0 G n [.ref qa, .int 2] (fun (v : Option Value) (G1 : gH) (n1 : Nat) => v = some (.null) ∧ G1 = G ∧ n1 = n) gNox := by
  refine g_start (by decide) (Nat.le_of_ble_eq_true rfl) ?_
  intro p e s m below meth c ls C hnm hxt hI hl
  have hx := C.x
  have hb := C.b
  have hS : va_S (gA D) s.heap s.heap [] := va_S.rf
  have hz0 := hI.z
  have lc0_ := hI.lt c0_
  have lc1_ := hI.lt c1_
  have hF : gF G G n gNone := gF.rf _ _ _
  have hl : lv_has ls 4 [(0, .ref qa), (1, .int 2)] := hl
  refine lv_aload_n hx hb dX10_at_0 rfl (lv_at hl 0 rfl) ?_
  refine lv_astore_n (lv' := [(2, .ref qa), (0, .ref qa), (1, .int 2)]) hx hb dX10_at_1 rfl hl (by decide) rfl (fun ls hl => ?_)
  refine lv_iconst (v := 0) hx hb dX10_at_2 (by decide) ?_
  refine lv_istore_n (lv' := [(3, .int 0), (2, .ref qa), (0, .ref qa), (1, .int 2)]) hx hb dX10_at_3 rfl hl (by decide) rfl (fun ls hl => ?_)
  refine lv_iload_n hx hb dX10_at_4 rfl (lv_at hl 0 rfl) ?_
  refine lv_iload_n hx hb dX10_at_5 rfl (lv_at hl 3 rfl) ?_
  refine lv_icmp_ge (tgt := 24) hx hb dX10_at_6 (by decide) (fun c_5456 => ?_) (fun c_5456 => ?_)
  · exact absurd c_5456 (by decide)
  · skip
    refine lv_aload_n hx hb dX10_at_9 rfl (lv_at hl 1 rfl) ?_
    refine lv_ifnull hx hb dX10_at_10 ?_
    refine lv_aload_n hx hb dX10_at_13 rfl (lv_at hl 1 rfl) ?_
    refine g_getCause (c0 := .ref ca) C hI hS c0_ (by omega) hl rfl rfl q2401 dX10_at_14 (by decide) (Nat.le_of_ble_eq_true rfl) ?_
    rw [show gcV qa (.ref ca) = .ref ca from if_neg (fun h => absurd (Value.ref.inj h) hn0)]
    refine lv_astore_n (lv' := [(2, .ref ca), (3, .int 0), (0, .ref qa), (1, .int 2)]) hx hb dX10_at_17 rfl hl (by decide) rfl (fun ls hl => ?_)
    refine lv_iinc (v := 1) (lv' := [(3, .int 1), (2, .ref ca), (0, .ref qa), (1, .int 2)]) hx hb dX10_at_18 hl (k := 1) rfl (by first | rfl | decide) (by decide) rfl (fun ls hl => ?_)
    refine lv_goto (tgt := 4) hx hb dX10_at_21 (by decide) ?_
    refine lv_iload_n hx hb dX10_at_4 rfl (lv_at hl 0 rfl) ?_
    refine lv_iload_n hx hb dX10_at_5 rfl (lv_at hl 3 rfl) ?_
    refine lv_icmp_ge (tgt := 24) hx hb dX10_at_6 (by decide) (fun c_5457 => ?_) (fun c_5457 => ?_)
    · exact absurd c_5457 (by decide)
    · skip
      refine lv_aload_n hx hb dX10_at_9 rfl (lv_at hl 1 rfl) ?_
      refine lv_ifnull hx hb dX10_at_10 ?_
      refine lv_aload_n hx hb dX10_at_13 rfl (lv_at hl 1 rfl) ?_
      refine g_getCause (c0 := .ref ca) C hI hS c1_ (by omega) hl rfl rfl q2401 dX10_at_14 (by decide) (Nat.le_of_ble_eq_true rfl) ?_
      rw [show gcV ca (.ref ca) = .null from if_pos rfl]
      refine lv_astore_nN (lv' := [(2, .null), (3, .int 1), (0, .ref qa), (1, .int 2)]) hx hb dX10_at_17 rfl hl (by decide) rfl (fun ls hl => ?_)
      refine lv_iinc (v := 2) (lv' := [(3, .int 2), (2, .null), (0, .ref qa), (1, .int 2)]) hx hb dX10_at_18 hl (k := 1) rfl (by first | rfl | decide) (by decide) rfl (fun ls hl => ?_)
      refine lv_goto (tgt := 4) hx hb dX10_at_21 (by decide) ?_
      refine lv_iload_n hx hb dX10_at_4 rfl (lv_at hl 0 rfl) ?_
      refine lv_iload_n hx hb dX10_at_5 rfl (lv_at hl 3 rfl) ?_
      refine lv_icmp_ge (tgt := 24) hx hb dX10_at_6 (by decide) (fun c_5458 => ?_) (fun c_5458 => ?_)
      · skip
        refine lv_aload_nN hx hb dX10_at_24 rfl (lv_at hl 1 rfl) ?_
        refine lv_instN hx hb dX10_at_25 ?_
        refine lv_if_eq (tgt := 40) hx hb dX10_at_28 (by decide) (fun c_5459 => ?_) (fun c_5459 => ?_)
        · skip
          refine lv_null hx hb dX10_at_40 ?_
          exact g_aret C hI hS (by omega) (by first | exact Or.inl ⟨_, rfl⟩ | exact Or.inr ⟨_, rfl⟩) (Or.inl rfl) ⟨rfl, rfl, rfl⟩ dX10_at_41
        · exact absurd (by decide) c_5459
      · exact absurd (by decide) c_5458
set_option maxHeartbeats 4000000 in
set_option maxRecDepth 100000 in
theorem c_X10_at2RR (l : Launch) {D : gD} (hB : gBs D) (G : gH) (n : Nat) (qa : Nat) (re : Int32) (de : Int32) (ca : Nat) (r2 : Int32) (d2 : Int32) (cb : Nat) (r3 : Int32) (d3 : Int32) (cv : Value) (c0_ : G qa = some (.inl (8, [.ref ca, gv D 0, gv D 1, .null, .null, .int 0, .int re, .int de]))) (c1_ : G ca = some (.inl (8, [.ref cb, gv D 0, gv D 1, .null, .null, .int 0, .int r2, .int d2]))) (c2_ : G cb = some (.inl (8, [cv, gv D 0, gv D 1, .null, .null, .int 0, .int r3, .int d3]))) (hzqa : gz D ≤ qa) (hzca : gz D ≤ ca) (hzcb : gz D ≤ cb) (hn0 : ca ≠ qa) (hn1 : cb ≠ ca) : gMet l D yX10_at (ws_ yX10_at cX10_at 4 (some (FieldType.object "WhelkFleet$Refusal"))) 12 0 G n [.ref qa, .int 2] (fun (v : Option Value) (G1 : gH) (n1 : Nat) => v = some (.ref cb) ∧ G1 = G ∧ n1 = n) gNox := by
  refine g_start (by decide) (Nat.le_of_ble_eq_true rfl) ?_
  intro p e s m below meth c ls C hnm hxt hI hl
  have hx := C.x
  have hb := C.b
  have hS : va_S (gA D) s.heap s.heap [] := va_S.rf
  have hz0 := hI.z
  have lc0_ := hI.lt c0_
  have lc1_ := hI.lt c1_
  have lc2_ := hI.lt c2_
  have hF : gF G G n gNone := gF.rf _ _ _
  have hl : lv_has ls 4 [(0, .ref qa), (1, .int 2)] := hl
  refine lv_aload_n hx hb dX10_at_0 rfl (lv_at hl 0 rfl) ?_
  refine lv_astore_n (lv' := [(2, .ref qa), (0, .ref qa), (1, .int 2)]) hx hb dX10_at_1 rfl hl (by decide) rfl (fun ls hl => ?_)
  refine lv_iconst (v := 0) hx hb dX10_at_2 (by decide) ?_
  refine lv_istore_n (lv' := [(3, .int 0), (2, .ref qa), (0, .ref qa), (1, .int 2)]) hx hb dX10_at_3 rfl hl (by decide) rfl (fun ls hl => ?_)
  refine lv_iload_n hx hb dX10_at_4 rfl (lv_at hl 0 rfl) ?_
  refine lv_iload_n hx hb dX10_at_5 rfl (lv_at hl 3 rfl) ?_
  refine lv_icmp_ge (tgt := 24) hx hb dX10_at_6 (by decide) (fun c_5460 => ?_) (fun c_5460 => ?_)
  · exact absurd c_5460 (by decide)
  · skip
    refine lv_aload_n hx hb dX10_at_9 rfl (lv_at hl 1 rfl) ?_
    refine lv_ifnull hx hb dX10_at_10 ?_
    refine lv_aload_n hx hb dX10_at_13 rfl (lv_at hl 1 rfl) ?_
    refine g_getCause (c0 := .ref ca) C hI hS c0_ (by omega) hl rfl rfl q2401 dX10_at_14 (by decide) (Nat.le_of_ble_eq_true rfl) ?_
    rw [show gcV qa (.ref ca) = .ref ca from if_neg (fun h => absurd (Value.ref.inj h) hn0)]
    refine lv_astore_n (lv' := [(2, .ref ca), (3, .int 0), (0, .ref qa), (1, .int 2)]) hx hb dX10_at_17 rfl hl (by decide) rfl (fun ls hl => ?_)
    refine lv_iinc (v := 1) (lv' := [(3, .int 1), (2, .ref ca), (0, .ref qa), (1, .int 2)]) hx hb dX10_at_18 hl (k := 1) rfl (by first | rfl | decide) (by decide) rfl (fun ls hl => ?_)
    refine lv_goto (tgt := 4) hx hb dX10_at_21 (by decide) ?_
    refine lv_iload_n hx hb dX10_at_4 rfl (lv_at hl 0 rfl) ?_
    refine lv_iload_n hx hb dX10_at_5 rfl (lv_at hl 3 rfl) ?_
    refine lv_icmp_ge (tgt := 24) hx hb dX10_at_6 (by decide) (fun c_5461 => ?_) (fun c_5461 => ?_)
    · exact absurd c_5461 (by decide)
    · skip
      refine lv_aload_n hx hb dX10_at_9 rfl (lv_at hl 1 rfl) ?_
      refine lv_ifnull hx hb dX10_at_10 ?_
      refine lv_aload_n hx hb dX10_at_13 rfl (lv_at hl 1 rfl) ?_
      refine g_getCause (c0 := .ref cb) C hI hS c1_ (by omega) hl rfl rfl q2401 dX10_at_14 (by decide) (Nat.le_of_ble_eq_true rfl) ?_
      rw [show gcV ca (.ref cb) = .ref cb from if_neg (fun h => absurd (Value.ref.inj h) hn1)]
      refine lv_astore_n (lv' := [(2, .ref cb), (3, .int 1), (0, .ref qa), (1, .int 2)]) hx hb dX10_at_17 rfl hl (by decide) rfl (fun ls hl => ?_)
      refine lv_iinc (v := 2) (lv' := [(3, .int 2), (2, .ref cb), (0, .ref qa), (1, .int 2)]) hx hb dX10_at_18 hl (k := 1) rfl (by first | rfl | decide) (by decide) rfl (fun ls hl => ?_)
      refine lv_goto (tgt := 4) hx hb dX10_at_21 (by decide) ?_
      refine lv_iload_n hx hb dX10_at_4 rfl (lv_at hl 0 rfl) ?_
      refine lv_iload_n hx hb dX10_at_5 rfl (lv_at hl 3 rfl) ?_
      refine lv_icmp_ge (tgt := 24) hx hb dX10_at_6 (by decide) (fun c_5462 => ?_) (fun c_5462 => ?_)
      · skip
        refine lv_aload_n hx hb dX10_at_24 rfl (lv_at hl 1 rfl) ?_
        refine g_inst C hI c2_ rfl q2415 dX10_at_25 ?_
        refine lv_if_eq (tgt := 40) hx hb dX10_at_28 (by decide) (fun c_5463 => ?_) (fun c_5463 => ?_)
        · exact absurd c_5463 (by decide)
        · skip
          refine lv_aload_n hx hb dX10_at_31 rfl (lv_at hl 1 rfl) ?_
          refine g_chk C hI c2_ rfl q2415 dX10_at_32 ?_
          refine lv_astore_n (lv' := [(3, .ref cb), (2, .ref cb), (0, .ref qa), (1, .int 2)]) hx hb dX10_at_35 rfl hl (by decide) rfl (fun ls hl => ?_)
          refine lv_aload_n hx hb dX10_at_36 rfl (lv_at hl 0 rfl) ?_
          refine lv_goto (tgt := 41) hx hb dX10_at_37 (by decide) ?_
          exact g_aret C hI hS (by omega) (by first | exact Or.inl ⟨_, rfl⟩ | exact Or.inr ⟨_, rfl⟩) (Or.inr ⟨_, rfl⟩) ⟨rfl, rfl, rfl⟩ dX10_at_41
      · exact absurd (by decide) c_5462
