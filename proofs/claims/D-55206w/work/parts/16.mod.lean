/-! THE REFERENCE, 5: public deeds -/
set_option maxHeartbeats 4000000 in
set_option maxRecDepth 100000 in
theorem c_X4_passes (l : Launch) {D : gD} (hB : gBs D) (G : gH) (n : Nat) (mm : Nat) (ag : Nat) (ab : Nat) (ah : Nat) (ch : Int32) (asv : Nat) (hs : Int32) (aas : Nat) (ain : Nat) (ty : Int32) (er : Int32) (awy : Nat) (ir : Int32) (ali : Nat) (ln : Int32) (th : Int32) (pl : Int32) (wr : Int32) (ato : Nat) (f : Nat → Int32) (y : Nat → Int32) (nb : Nat) (ns : Nat) (a1 : Int32) (c0_ : G mm = some (.inl (23, [.ref ag, .ref ab, .ref ah, .int ch, .ref asv, .int hs, .ref aas, .ref ain, .int ty, .int er, .ref awy, .int ir, .ref ali, .int ln, .int th, .int pl, .int wr, .ref ato]))) (c1_ : G ag = some (aI 112 f)) (c2_ : G awy = some (aI 6 y)) (hz : gz D ≤ mm) (hzg : gz D ≤ ag) (hzw : gz D ≤ awy) (hnb : f 24 = nI nb) (hb3 : nb ≤ 3) (hns : f 46 = nI ns) (hs10 : ns ≤ 10) : gMet l D yX4_passes (ws_ yX4_passes cX4_passes 4 (some FieldType.int)) 4 0 G n [.ref mm, .int a1] (fun (v : Option Value) (G1 : gH) (n1 : Nat) => ∃ (th2 : Int32) (ir2 : Int32) (r : Int32) (f2 : Nat → Int32) (y2 : Nat → Int32), v = some (.int r) ∧ n ≤ n1 ∧ gF G G1 n (fun q : Nat => q = mm ∨ q = ag ∨ q = awy) ∧ G1 mm = some (.inl (23, [.ref ag, .ref ab, .ref ah, .int ch, .ref asv, .int hs, .ref aas, .ref ain, .int ty, .int er, .ref awy, .int ir2, .ref ali, .int ln, .int th2, .int pl, .int wr, .ref ato])) ∧ G1 ag = some (aI 112 f2) ∧ G1 awy = some (aI 6 y2) ∧ mR 2 ir y f (dPass f a1) = (th2, ir2, y2, r, f2)) gNox := by
  refine g_start (by decide) (Nat.le_of_ble_eq_true rfl) ?_
  intro p e s m below meth c ls C hnm hxt hI hl
  have hx := C.x
  have hb := C.b
  have hS : va_S (gA D) s.heap s.heap [] := va_S.rf
  have hz0 := hI.z
  have lc0_ := hI.lt c0_
  have lc1_ := hI.lt c1_
  have lc2_ := hI.lt c2_
  have hF : gF G G n (fun q : Nat => q = mm ∨ q = ag ∨ q = awy) := gF.rf _ _ _
  have hl : lv_has ls 4 [(0, .ref mm), (1, .int a1)] := hl
  refine lv_iload_n hx hb dX4_passes_0 rfl (lv_at hl 1 rfl) ?_
  refine lv_iconst (v := 1) hx hb dX4_passes_1 (by decide) ?_
  refine lv_bipush (v := 60) hx hb dX4_passes_2 (by decide) ?_
  refine g_S (As := [.int a1, .int 1, .int 60]) (rest := []) (lv := [(0, .ref mm), (1, .int a1)]) C hI hS (c_X4_in l hB G n a1 1 60  ) q2634 q2635 q94 q2636 (⟨by decide, by decide, by decide⟩ : gArg _ 3) rfl ⟨by decide, by decide⟩ (by omega) hl rfl (Nat.le_of_ble_eq_true rfl) dX4_passes_4 (fun v1074 G1075 n1076 H locs hp1077 hI hS => ?_) gKx.no
  obtain ⟨rfl, eG1075, en1076⟩ := hp1077
  refine W.widen (k := 0) (n := 200 * (0)) (by omega) (by omega) ?_
  rw [eG1075, en1076] at hI
  refine lv_if_ne (tgt := 16) hx hb dX4_passes_7 (by decide) (fun c_1080 => ?_) (fun c_1080 => ?_)
  · skip
    obtain ⟨j_a1, hlj_a1, hj_a1, ej_a1⟩ := gin_okL (a := 1) (k := 60) c_1080 (by decide) (by decide)
    have tj_a1 : a1.toNatClampNeg = j_a1 := by rw [ej_a1]; exact nI_clamp (by omega)
    refine lv_iconst (v := 0) hx hb dX4_passes_16 (by decide) ?_
    refine lv_istore_n (lv' := [(2, .int 0), (0, .ref mm), (1, .int a1)]) hx hb dX4_passes_17 rfl hl (by decide) rfl (fun ls hl => ?_)
    refine lv_iconst (v := 0) hx hb dX4_passes_18 (by decide) ?_
    refine lv_istore_n (lv' := [(3, .int 0), (2, .int 0), (0, .ref mm), (1, .int a1)]) hx hb dX4_passes_19 rfl hl (by decide) rfl (fun ls hl => ?_)
    have key1081 : ∀ (r : Nat) (i : Nat) (xi : Int32) (lost : Int32), (i ≤ j_a1) → (j_a1 < i + r) → (xi = nI i) → (lost = (dDays f i).2) → ∀ (G1082 : gH) (n1083 : Nat) (H : Heap) (locs : List Loc) (ls : Array Slot), G1082 mm = some (.inl (23, [.ref ag, .ref ab, .ref ah, .int ch, .ref asv, .int hs, .ref aas, .ref ain, .int ty, .int er, .ref awy, .int ir, .ref ali, .int ln, .int th, .int pl, .int wr, .ref ato])) → G1082 ag = some (aI 112 ((dDays f i).1)) → G1082 awy = some (aI 6 y) → n ≤ n1083 → gI D G1082 n1083 H → va_S (gA D) s.heap H locs → gF G G1082 n (fun q : Nat => q = mm ∨ q = ag ∨ q = awy) → lv_has ls 4 [(3, .int xi), (2, .int lost), (0, .ref mm), (1, .int a1)] → W p l e (gR 4 0) s m ([.ref mm, .int a1] : List Value).toArray below meth c H locs (0) (200 * (0)) (gM below D (fun (v : Option Value) (G1 : gH) (n1 : Nat) => ∃ (th2 : Int32) (ir2 : Int32) (r : Int32) (f2 : Nat → Int32) (y2 : Nat → Int32), v = some (.int r) ∧ n ≤ n1 ∧ gF G G1 n (fun q : Nat => q = mm ∨ q = ag ∨ q = awy) ∧ G1 mm = some (.inl (23, [.ref ag, .ref ab, .ref ah, .int ch, .ref asv, .int hs, .ref aas, .ref ain, .int ty, .int er, .ref awy, .int ir2, .ref ali, .int ln, .int th2, .int pl, .int wr, .ref ato])) ∧ G1 ag = some (aI 112 f2) ∧ G1 awy = some (aI 6 y2) ∧ mR 2 ir y f (dPass f a1) = (th2, ir2, y2, r, f2)) gNox ([.ref mm, .int a1] : List Value).toArray s 0) (F0 m 20 ls []) := by
      intro r
      induction r with
      | zero =>
        intro i xi lost hi hr hxi hlo
        exact absurd trivial (fun _ => (by omega))
      | succ r ih1087 =>
        intro i xi lost hi hr hxi hlo
        intro G1082 n1083 H locs ls c1084 c1085 c1086 hn1088 hI hS hF hl
        refine lv_iload_n hx hb dX4_passes_20 rfl (lv_at hl 0 rfl) ?_
        refine lv_iload_n hx hb dX4_passes_21 rfl (lv_at hl 3 rfl) ?_
        refine lv_icmp_ge (tgt := 38) hx hb dX4_passes_22 (by decide) (fun c_1089 => ?_) (fun c_1089 => ?_)
        · skip
          try have k_1090 : j_a1 ≤ i := (nI_leE ej_a1 hxi (by omega) (by omega)).mp c_1089
          have hie : i = j_a1 := by omega
          rw [hie] at c1085
          refine lv_aload_n hx hb dX4_passes_38 rfl (lv_at hl 2 rfl) ?_
          refine lv_iload_n hx hb dX4_passes_39 rfl (lv_at hl 1 rfl) ?_
          refine g_V (As := [.int lost]) (rest := []) (lv := [(3, .int xi), (2, .int lost), (0, .ref mm), (1, .int a1)]) C hI hS (c_X4_done l hB G1082 n1083 mm ag ab ah ch asv hs aas ain ty er awy ir ali ln th pl wr ato lost c1084 (by omega)) c1084 rfl rfl q2644 q2646 qs35 q94 q2647 (⟨by decide, by decide, by decide⟩ : gArg _ 1) rfl ⟨by decide, by decide⟩ (by omega) hl rfl (Nat.le_of_ble_eq_true rfl) dX4_passes_40 (fun v1091 G1092 n1093 H locs hp1094 hI hS => ?_) gKx.no
          obtain ⟨rfl, hn1095, hF1096, c1097⟩ := hp1094
          refine W.widen (k := 0) (n := 200 * (0)) (by omega) (by omega) ?_
          have c1085 := hF1096.at c1085 (by omega) (g_on c1085 c1084)
          have c1086 := hF1096.at c1086 (by omega) (g_on c1086 c1084)
          have hF := hF.trans hF1096 (by omega) (fun q hq => (fun h => h ▸ (Or.inl rfl)))
          exact g_iret C hI hS (by omega) ⟨0, ir, lost, (dDays f j_a1).1, y, rfl, (by omega), hF, c1097, c1085, c1086, (by simp [mR, sCall, sArg, sRef, sOk, sWhy, dPass, c_1080, tj_a1, c_1089, hie, hlo])⟩ dX4_passes_43
        · skip
          try have k_1098 : ¬ (j_a1 ≤ i) := (not_congr (nI_leE ej_a1 hxi (by omega) (by omega))).mp c_1089
          refine lv_iload_n hx hb dX4_passes_25 rfl (lv_at hl 1 rfl) ?_
          refine lv_aload_n hx hb dX4_passes_26 rfl (lv_at hl 2 rfl) ?_
          refine g_V (As := []) (rest := [.int lost]) (lv := [(3, .int xi), (2, .int lost), (0, .ref mm), (1, .int a1)]) C hI hS (c_X4_goesDay l hB G1082 n1083 mm ag ab ah ch asv hs aas ain ty er awy ir ali ln th pl wr ato ((dDays f i).1) _ _ c1084 c1085 (by omega) (by rw [dDays_at hnb hb3 hns hs10 (by omega)]; exact hnb) (by omega) (by rw [dDays_at hnb hb3 hns hs10 (by omega)]; exact hns) (by omega)) c1084 rfl rfl q2778 q2780 qs52 q94 q2781 (⟨by decide, by decide, by decide⟩ : gArg _ 0) rfl ⟨by decide, by decide⟩ (by omega) hl rfl (Nat.le_of_ble_eq_true rfl) dX4_passes_27 (fun v1099 G1100 n1101 H locs hp1102 hI hS => ?_) gKx.no
          obtain ⟨rfl, hn1103, hF1104, c1105⟩ := hp1102
          refine W.widen (k := 0) (n := 200 * (0)) (by omega) (by omega) ?_
          have c1084 := hF1104.at c1084 (by omega) (g_no c1084 c1085)
          have c1086 := hF1104.at c1086 (by omega) (g_na c1086 c1085 (Or.inr (by decide)))
          have hF := hF.trans hF1104 (by omega) (fun q hq => (fun h => h ▸ (Or.inr (Or.inl rfl))))
          refine lv_iadd hx hb dX4_passes_30 ?_
          refine lv_istore_n (lv' := [(2, .int (lost + ((dDay ((dDays f i).1)).2))), (3, .int xi), (0, .ref mm), (1, .int a1)]) hx hb dX4_passes_31 rfl hl (by decide) rfl (fun ls hl => ?_)
          refine lv_iinc (v := xi + 1) (lv' := [(3, .int (xi + 1)), (2, .int (lost + ((dDay ((dDays f i).1)).2))), (0, .ref mm), (1, .int a1)]) hx hb dX4_passes_32 hl (k := 1) rfl (by first | rfl | decide) (by decide) rfl (fun ls hl => ?_)
          refine lv_goto (tgt := 20) hx hb dX4_passes_35 (by decide) ?_
          have c1105 : G1100 ag = some (aI 112 (dDays f (i + 1)).1) := c1105
          exact ih1087 (i + 1) (xi + 1) (lost + ((dDay ((dDays f i).1)).2)) (by omega) (by omega) (gadd hxi nl1) (by rw [hlo]; rfl) _ _ _ _ _ c1084 c1105 c1086 (by omega) hI hS hF (lv_sub hl [0, 1, 2, 3] rfl)
    exact key1081 (j_a1 + 1) 0 0 0 (by omega) (by omega) nl0 rfl _ _ _ _ _ c0_ c1_ c2_ (Nat.le_refl _) hI hS hF (lv_sub hl [0, 1, 2, 3] rfl)
  · skip
    refine lv_aload_n hx hb dX4_passes_10 rfl (lv_at hl 0 rfl) ?_
    refine lv_iconst (v := 1) hx hb dX4_passes_11 (by decide) ?_
    refine g_V (As := [.int 1]) (rest := []) (lv := [(0, .ref mm), (1, .int a1)]) C hI hS (c_X4_fails l hB G n mm ag ab ah ch asv hs aas ain ty er awy ir ali ln th pl wr ato 1 c0_ (by omega)) c0_ rfl rfl q2637 q2639 qs34 q94 q2640 (⟨by decide, by decide, by decide⟩ : gArg _ 1) rfl ⟨by decide, by decide⟩ (by omega) hl rfl (Nat.le_of_ble_eq_true rfl) dX4_passes_12 (fun v1106 G1107 n1108 H locs hp1109 hI hS => ?_) gKx.no
    obtain ⟨rfl, hn1110, hF1111, c1112⟩ := hp1109
    refine W.widen (k := 0) (n := 200 * (0)) (by omega) (by omega) ?_
    have c1_ := hF1111.at c1_ (by omega) (g_on c1_ c0_)
    have c2_ := hF1111.at c2_ (by omega) (g_on c2_ c0_)
    have hF := hF.trans hF1111 (by omega) (fun q hq => (fun h => h ▸ (Or.inl rfl)))
    exact g_iret C hI hS (by omega) ⟨1, 0, 0, f, y, rfl, (by omega), hF, c1112, c1_, c2_, (by simp [mR, sCall, sArg, sRef, sOk, sWhy, dPass, c_1080])⟩ dX4_passes_15
set_option maxHeartbeats 4000000 in
set_option maxRecDepth 100000 in
theorem c_X4_bringsNow (l : Launch) {D : gD} (hB : gBs D) (G : gH) (n : Nat) (mm : Nat) (ag : Nat) (ab : Nat) (ah : Nat) (ch : Int32) (asv : Nat) (hs : Int32) (aas : Nat) (ain : Nat) (ty : Int32) (er : Int32) (awy : Nat) (ir : Int32) (ali : Nat) (ln : Int32) (th : Int32) (pl : Int32) (wr : Int32) (ato : Nat) (f : Nat → Int32) (sx : Nat) (a1 : Int32) (c0_ : G mm = some (.inl (23, [.ref ag, .ref ab, .ref ah, .int ch, .ref asv, .int hs, .ref aas, .ref ain, .int ty, .int er, .ref awy, .int ir, .ref ali, .int ln, .int th, .int pl, .int wr, .ref ato]))) (c1_ : G ag = some (aI 112 f)) (hsx : sx < 10) (es : a1 = nI sx) (hat1 : f (57 + sx) = -1 ∨ ∃ p, p ≤ 5 ∧ f (57 + sx) = nI p) : gMet l D yX4_bringsNow (ws_ yX4_bringsNow cX4_bringsNow 4 (some FieldType.int)) 3 0 G n [.ref mm, .int a1] (fun (v : Option Value) (G1 : gH) (n1 : Nat) => v = some (.int (sBrings f sx)) ∧ G1 = G ∧ n1 = n) gNox := by
  refine g_start (by decide) (Nat.le_of_ble_eq_true rfl) ?_
  intro p e s m below meth c ls C hnm hxt hI hl
  have hx := C.x
  have hb := C.b
  have hS : va_S (gA D) s.heap s.heap [] := va_S.rf
  have hz0 := hI.z
  have lc0_ := hI.lt c0_
  have lc1_ := hI.lt c1_
  have hF : gF G G n gNone := gF.rf _ _ _
  have hl : lv_has ls 4 [(0, .ref mm), (1, .int a1)] := hl
  refine lv_iconst (v := 0) hx hb dX4_bringsNow_0 (by decide) ?_
  refine lv_istore_n (lv' := [(2, .int 0), (0, .ref mm), (1, .int a1)]) hx hb dX4_bringsNow_1 rfl hl (by decide) rfl (fun ls hl => ?_)
  refine lv_iconst (v := 0) hx hb dX4_bringsNow_2 (by decide) ?_
  refine lv_istore_n (lv' := [(3, .int 0), (2, .int 0), (0, .ref mm), (1, .int a1)]) hx hb dX4_bringsNow_3 rfl hl (by decide) rfl (fun ls hl => ?_)
  have key1113 : ∀ (r : Nat) (i : Nat) (xi : Int32) (acc : Int32), (i ≤ 3) → (3 < i + r) → (xi = nI i) → (acc = sBr f sx i) → (i = 0 ∨ ¬ f (57 + sx) = -1) → ∀ (H : Heap) (locs : List Loc) (ls : Array Slot), gI D G n H → va_S (gA D) s.heap H locs → lv_has ls 4 [(3, .int xi), (2, .int acc), (0, .ref mm), (1, .int a1)] → W p l e (gR 3 0) s m ([.ref mm, .int a1] : List Value).toArray below meth c H locs (0) (200 * (0)) (gM below D (fun (v : Option Value) (G1 : gH) (n1 : Nat) => v = some (.int (sBrings f sx)) ∧ G1 = G ∧ n1 = n) gNox ([.ref mm, .int a1] : List Value).toArray s 0) (F0 m 4 ls []) := by
    intro r
    induction r with
    | zero =>
      intro i xi acc hi hr hxi hac h7
      exact absurd trivial (fun _ => (by omega))
    | succ r ih1114 =>
      intro i xi acc hi hr hxi hac h7
      intro H locs ls hI hS hl
      refine lv_iload_n hx hb dX4_bringsNow_4 rfl (lv_at hl 0 rfl) ?_
      refine lv_iconst (v := 3) hx hb dX4_bringsNow_5 (by decide) ?_
      refine lv_icmp_ge (tgt := 49) hx hb dX4_bringsNow_6 (by decide) (fun c_1115 => ?_) (fun c_1115 => ?_)
      · skip
        try have k_1116 : 3 ≤ i := (nI_leE nl3 hxi (by omega) (by omega)).mp c_1115
        have hie : i = 3 := by omega
        refine lv_iload_n hx hb dX4_bringsNow_49 rfl (lv_at hl 1 rfl) ?_
        exact g_iret C hI hS (by omega) ⟨(by rw [hac]; unfold sBrings; first | (rw [if_pos (by assumption)]; rcases h7 with h | h; (rw [h]; rfl); exact absurd (by assumption) h) | (rw [if_neg (h7.resolve_left (by omega)), hie])), rfl, rfl⟩ dX4_bringsNow_50
      · skip
        try have k_1117 : ¬ (3 ≤ i) := (not_congr (nI_leE nl3 hxi (by omega) (by omega))).mp c_1115
        refine lv_aload_n hx hb dX4_bringsNow_9 rfl (lv_at hl 2 rfl) ?_
        refine g_get C hI c0_ kc23 0 rfl q2567 (fun _ h9 => h9) dX4_bringsNow_10 ?_
        refine lv_bipush (v := 57) hx hb dX4_bringsNow_13 (by decide) ?_
        refine lv_iload_n hx hb dX4_bringsNow_15 rfl (lv_at hl 3 rfl) ?_
        refine lv_iadd hx hb dX4_bringsNow_16 ?_
        refine g_iald (v := .int (f (57 + sx))) C hI c1_ (gix (gadd nl57 es) (by omega) (by omega)) (congrArg Value.int (gixv (f := f) (gadd nl57 es) (by omega))) dX4_bringsNow_17 ?_
        refine lv_iconst (v := (-1)) hx hb dX4_bringsNow_18 (by decide) ?_
        refine lv_icmp_eq (tgt := 49) hx hb dX4_bringsNow_19 (by decide) (fun c_1118 => ?_) (fun c_1118 => ?_)
        · skip
          refine lv_iload_n hx hb dX4_bringsNow_49 rfl (lv_at hl 1 rfl) ?_
          exact g_iret C hI hS (by omega) ⟨(by rw [hac]; unfold sBrings; first | (rw [if_pos (by assumption)]; rcases h7 with h | h; (rw [h]; rfl); exact absurd (by assumption) h) | (rw [if_neg (h7.resolve_left (by omega)), hie])), rfl, rfl⟩ dX4_bringsNow_50
        · skip
          obtain ⟨pp, hp5, hp⟩ := hat1.resolve_left c_1118
          refine lv_iload_n hx hb dX4_bringsNow_22 rfl (lv_at hl 1 rfl) ?_
          refine lv_aload_n hx hb dX4_bringsNow_23 rfl (lv_at hl 2 rfl) ?_
          refine lv_iload_n hx hb dX4_bringsNow_24 rfl (lv_at hl 0 rfl) ?_
          refine g_V (As := [.int xi]) (rest := [.int acc]) (lv := [(3, .int xi), (2, .int acc), (0, .ref mm), (1, .int a1)]) C hI hS (c_X4_goesBack l hB G n mm ag ab ah ch asv hs aas ain ty er awy ir ali ln th pl wr ato f xi c0_ c1_ ) c0_ rfl rfl q2754 q2756 qs48 q94 q2757 (⟨by decide, by decide, by decide⟩ : gArg _ 1) rfl ⟨by decide, by decide⟩ (by omega) hl rfl (Nat.le_of_ble_eq_true rfl) dX4_bringsNow_25 (fun v1119 G1120 n1121 H locs hp1122 hI hS => ?_) gKx.no
          obtain ⟨rfl, eG1120, en1121⟩ := hp1122
          refine W.widen (k := 0) (n := 200 * (0)) (by omega) (by omega) ?_
          rw [eG1120, en1121] at hI
          refine lv_if_eq (tgt := 35) hx hb dX4_bringsNow_28 (by decide) (fun c_1125 => ?_) (fun c_1125 => ?_)
          · skip
            refine lv_aload_n hx hb dX4_bringsNow_35 rfl (lv_at hl 2 rfl) ?_
            refine lv_iload_n hx hb dX4_bringsNow_36 rfl (lv_at hl 3 rfl) ?_
            refine lv_iload_n hx hb dX4_bringsNow_37 rfl (lv_at hl 0 rfl) ?_
            refine g_V (As := [.int a1, .int xi]) (rest := [.int acc]) (lv := [(3, .int xi), (2, .int acc), (0, .ref mm), (1, .int a1)]) C hI hS (c_X4_drawsOf l hB G n mm ag ab ah ch asv hs aas ain ty er awy ir ali ln th pl wr ato f _ pp i a1 xi c0_ c1_ (by omega) es hp5 hp (by omega) hxi) c0_ rfl rfl q2750 q2752 qs47 q94 q2753 (⟨by decide, by decide, by decide⟩ : gArg _ 2) rfl ⟨by decide, by decide⟩ (by omega) hl rfl (Nat.le_of_ble_eq_true rfl) dX4_bringsNow_38 (fun v1126 G1127 n1128 H locs hp1129 hI hS => ?_) gKx.no
            obtain ⟨rfl, eG1127, en1128⟩ := hp1129
            refine W.widen (k := 0) (n := 200 * (0)) (by omega) (by omega) ?_
            rw [eG1127, en1128] at hI
            refine lv_iadd hx hb dX4_bringsNow_41 ?_
            refine lv_istore_n (lv' := [(2, .int (acc + (sDrawsOf f sx i))), (3, .int xi), (0, .ref mm), (1, .int a1)]) hx hb dX4_bringsNow_42 rfl hl (by decide) rfl (fun ls hl => ?_)
            refine lv_iinc (v := xi + 1) (lv' := [(3, .int (xi + 1)), (2, .int (acc + (sDrawsOf f sx i))), (0, .ref mm), (1, .int a1)]) hx hb dX4_bringsNow_43 hl (k := 1) rfl (by first | rfl | decide) (by decide) rfl (fun ls hl => ?_)
            refine lv_goto (tgt := 4) hx hb dX4_bringsNow_46 (by decide) ?_
            exact ih1114 (i + 1) (xi + 1) (acc + (sDrawsOf f sx i)) (by omega) (by omega) (gadd hxi nl1) (by simp [sBr, hac, ← hxi, c_1115, c_1118, c_1125]) (Or.inr c_1118) _ _ _ hI hS (lv_sub hl [0, 1, 2, 3] rfl)
          · skip
            refine lv_iconst (v := 0) hx hb dX4_bringsNow_31 (by decide) ?_
            refine lv_goto (tgt := 41) hx hb dX4_bringsNow_32 (by decide) ?_
            refine lv_iadd hx hb dX4_bringsNow_41 ?_
            refine lv_istore_n (lv' := [(2, .int (acc + 0)), (3, .int xi), (0, .ref mm), (1, .int a1)]) hx hb dX4_bringsNow_42 rfl hl (by decide) rfl (fun ls hl => ?_)
            refine lv_iinc (v := xi + 1) (lv' := [(3, .int (xi + 1)), (2, .int (acc + 0)), (0, .ref mm), (1, .int a1)]) hx hb dX4_bringsNow_43 hl (k := 1) rfl (by first | rfl | decide) (by decide) rfl (fun ls hl => ?_)
            refine lv_goto (tgt := 4) hx hb dX4_bringsNow_46 (by decide) ?_
            exact ih1114 (i + 1) (xi + 1) (acc + 0) (by omega) (by omega) (gadd hxi nl1) (by simp [sBr, hac, ← hxi, c_1115, c_1118, c_1125]) (Or.inr c_1118) _ _ _ hI hS (lv_sub hl [0, 1, 2, 3] rfl)
  exact key1113 4 0 0 0 (by omega) (by omega) nl0 rfl (Or.inl rfl) _ _ _ hI hS (lv_sub hl [0, 1, 2, 3] rfl)
set_option maxHeartbeats 4000000 in
set_option maxRecDepth 100000 in
theorem c_X4_brings (l : Launch) {D : gD} (hB : gBs D) (G : gH) (n : Nat) (mm : Nat) (ag : Nat) (ab : Nat) (ah : Nat) (ch : Int32) (asv : Nat) (hs : Int32) (aas : Nat) (ain : Nat) (ty : Int32) (er : Int32) (awy : Nat) (ir : Int32) (ali : Nat) (ln : Int32) (th : Int32) (pl : Int32) (wr : Int32) (ato : Nat) (f : Nat → Int32) (fa : Nat → Int32) (nb : Nat) (ns : Nat) (sx : Nat) (dn : Nat) (a1 : Int32) (a2 : Int32) (c0_ : G mm = some (.inl (23, [.ref ag, .ref ab, .ref ah, .int ch, .ref asv, .int hs, .ref aas, .ref ain, .int ty, .int er, .ref awy, .int ir, .ref ali, .int ln, .int th, .int pl, .int wr, .ref ato]))) (c1_ : G ag = some (aI 112 f)) (c2_ : G aas = some (aI 112 fa)) (hzg : gz D ≤ ag) (hza : gz D ≤ aas) (hne : ag ≠ aas) (zf : rZ f) (zfa : rZ fa) (hnb : f 24 = nI nb) (hb3 : nb ≤ 3) (hns : f 46 = nI ns) (hs10 : ns ≤ 10) (hsx : sx < 10) (es : a1 = nI sx) (ed : a2 = nI dn) (hd : dn ≤ 60) (hat1 : f (57 + sx) = -1 ∨ ∃ p, p ≤ 5 ∧ f (57 + sx) = nI p) : gMet l D yX4_brings (ws_ yX4_brings cX4_brings 5 (some FieldType.int)) 4 0 G n [.ref mm, .int a1, .int a2] (fun (v : Option Value) (G1 : gH) (n1 : Nat) => v = some (.int (sBrings (dDays f dn).1 sx)) ∧ n ≤ n1 ∧ gF G G1 n (fun q : Nat => q = ag ∨ q = aas) ∧ G1 ag = some (aI 112 f) ∧ G1 aas = some (aI 112 f)) gNox := by
  refine g_start (by decide) (Nat.le_of_ble_eq_true rfl) ?_
  intro p e s m below meth c ls C hnm hxt hI hl
  have hx := C.x
  have hb := C.b
  have hS : va_S (gA D) s.heap s.heap [] := va_S.rf
  have hz0 := hI.z
  have lc0_ := hI.lt c0_
  have lc1_ := hI.lt c1_
  have lc2_ := hI.lt c2_
  have hF : gF G G n (fun q : Nat => q = ag ∨ q = aas) := gF.rf _ _ _
  have hl : lv_has ls 5 [(0, .ref mm), (1, .int a1), (2, .int a2)] := hl
  refine lv_aload_n hx hb dX4_brings_0 rfl (lv_at hl 0 rfl) ?_
  refine g_get C hI c0_ kc23 0 rfl q2567 (fun _ h9 => h9) dX4_brings_1 ?_
  refine lv_iconst (v := 0) hx hb dX4_brings_4 (by decide) ?_
  refine lv_aload_n hx hb dX4_brings_5 rfl (lv_at hl 0 rfl) ?_
  refine g_get C hI c0_ kc23 6 rfl q2573 (fun _ h9 => h9) dX4_brings_6 ?_
  refine lv_iconst (v := 0) hx hb dX4_brings_9 (by decide) ?_
  refine g_S (As := [.ref ag, .int 0, .ref aas, .int 0]) (rest := []) (lv := [(0, .ref mm), (1, .int a1), (2, .int a2)]) C hI hS (c_X4_copy l hB G n ag aas 112 112 f fa 0 0 0 0 c1_ c2_ (by omega) hne (by omega) (by omega) (by omega) (by omega) nl0 nl0) q2656 q2657 q94 q2658 (⟨by decide, by decide, by decide⟩ : gArg _ 4) rfl ⟨by decide, by decide⟩ (by omega) hl rfl (Nat.le_of_ble_eq_true rfl) dX4_brings_10 (fun v1132 G1133 n1134 H locs hp1135 hI hS => ?_) gKx.no
  obtain ⟨rfl, hn1136, hF1137, c1138⟩ := hp1135
  refine W.widen (k := 0) (n := 200 * (0)) (by omega) (by omega) ?_
  have c0_ := hF1137.at c0_ (by omega) (g_no c0_ c2_)
  have c1_ := hF1137.at c1_ (by omega) hne
  have hF := hF.trans hF1137 (by omega) (fun q hq => (fun h => h ▸ (Or.inr (rfl))))
  rw [rZ_cp zf zfa] at c1138
  refine lv_iconst (v := 0) hx hb dX4_brings_13 (by decide) ?_
  refine lv_istore_n (lv' := [(3, .int 0), (0, .ref mm), (1, .int a1), (2, .int a2)]) hx hb dX4_brings_14 rfl hl (by decide) rfl (fun ls hl => ?_)
  have key1139 : ∀ (r : Nat) (i : Nat) (xi : Int32), (i ≤ dn) → (dn < i + r) → (xi = nI i) → ∀ (G1140 : gH) (n1141 : Nat) (H : Heap) (locs : List Loc) (ls : Array Slot), G1140 mm = some (.inl (23, [.ref ag, .ref ab, .ref ah, .int ch, .ref asv, .int hs, .ref aas, .ref ain, .int ty, .int er, .ref awy, .int ir, .ref ali, .int ln, .int th, .int pl, .int wr, .ref ato])) → G1140 ag = some (aI 112 ((dDays f i).1)) → G1140 aas = some (aI 112 f) → n1134 ≤ n1141 → gI D G1140 n1141 H → va_S (gA D) s.heap H locs → gF G G1140 n (fun q : Nat => q = ag ∨ q = aas) → lv_has ls 5 [(3, .int xi), (0, .ref mm), (1, .int a1), (2, .int a2)] → W p l e (gR 4 0) s m ([.ref mm, .int a1, .int a2] : List Value).toArray below meth c H locs (0) (200 * (0)) (gM below D (fun (v : Option Value) (G1 : gH) (n1 : Nat) => v = some (.int (sBrings (dDays f dn).1 sx)) ∧ n ≤ n1 ∧ gF G G1 n (fun q : Nat => q = ag ∨ q = aas) ∧ G1 ag = some (aI 112 f) ∧ G1 aas = some (aI 112 f)) gNox ([.ref mm, .int a1, .int a2] : List Value).toArray s 0) (F0 m 15 ls []) := by
    intro r
    induction r with
    | zero =>
      intro i xi hi hr hxi
      exact absurd trivial (fun _ => (by omega))
    | succ r ih1145 =>
      intro i xi hi hr hxi
      intro G1140 n1141 H locs ls c1142 c1143 c1144 hn1146 hI hS hF hl
      refine lv_iload_n hx hb dX4_brings_15 rfl (lv_at hl 0 rfl) ?_
      refine lv_iload_n hx hb dX4_brings_16 rfl (lv_at hl 3 rfl) ?_
      refine lv_icmp_ge (tgt := 32) hx hb dX4_brings_17 (by decide) (fun c_1147 => ?_) (fun c_1147 => ?_)
      · skip
        try have k_1148 : dn ≤ i := (nI_leE ed hxi (by omega) (by omega)).mp c_1147
        have hie : i = dn := by omega
        rw [hie] at c1143
        refine lv_aload_n hx hb dX4_brings_32 rfl (lv_at hl 1 rfl) ?_
        refine lv_iload_n hx hb dX4_brings_33 rfl (lv_at hl 2 rfl) ?_
        refine g_V (As := [.int a1]) (rest := []) (lv := [(3, .int xi), (0, .ref mm), (1, .int a1), (2, .int a2)]) C hI hS (c_X4_bringsNow l hB G1140 n1141 mm ag ab ah ch asv hs aas ain ty er awy ir ali ln th pl wr ato ((dDays f dn).1) sx a1 c1142 c1143 hsx es (by rw [dDays_at hnb hb3 hns hs10 (by omega)]; exact hat1)) c1142 rfl rfl q2789 q2791 qs54 q94 q2792 (⟨by decide, by decide, by decide⟩ : gArg _ 1) rfl ⟨by decide, by decide⟩ (by omega) hl rfl (Nat.le_of_ble_eq_true rfl) dX4_brings_34 (fun v1149 G1150 n1151 H locs hp1152 hI hS => ?_) gKx.no
        obtain ⟨rfl, eG1150, en1151⟩ := hp1152
        refine W.widen (k := 0) (n := 200 * (0)) (by omega) (by omega) ?_
        rw [eG1150, en1151] at hI
        refine lv_istore_n (lv' := [(3, .int (sBrings ((dDays f dn).1) sx)), (0, .ref mm), (1, .int a1), (2, .int a2)]) hx hb dX4_brings_37 rfl hl (by decide) rfl (fun ls hl => ?_)
        refine lv_aload_n hx hb dX4_brings_38 rfl (lv_at hl 1 rfl) ?_
        refine g_get C hI c1142 kc23 6 rfl q2573 (fun _ h9 => h9) dX4_brings_39 ?_
        refine lv_iconst (v := 0) hx hb dX4_brings_42 (by decide) ?_
        refine lv_aload_n hx hb dX4_brings_43 rfl (lv_at hl 1 rfl) ?_
        refine g_get C hI c1142 kc23 0 rfl q2567 (fun _ h9 => h9) dX4_brings_44 ?_
        refine lv_iconst (v := 0) hx hb dX4_brings_47 (by decide) ?_
        refine g_S (As := [.ref aas, .int 0, .ref ag, .int 0]) (rest := []) (lv := [(3, .int (sBrings ((dDays f dn).1) sx)), (0, .ref mm), (1, .int a1), (2, .int a2)]) C hI hS (c_X4_copy l hB G1140 n1141 aas ag 112 112 f ((dDays f dn).1) 0 0 0 0 c1144 c1143 (by omega) (Ne.symm hne) (by omega) (by omega) (by omega) (by omega) nl0 nl0) q2656 q2657 q94 q2658 (⟨by decide, by decide, by decide⟩ : gArg _ 4) rfl ⟨by decide, by decide⟩ (by omega) hl rfl (Nat.le_of_ble_eq_true rfl) dX4_brings_48 (fun v1155 G1156 n1157 H locs hp1158 hI hS => ?_) gKx.no
        obtain ⟨rfl, hn1159, hF1160, c1161⟩ := hp1158
        refine W.widen (k := 0) (n := 200 * (0)) (by omega) (by omega) ?_
        have c1142 := hF1160.at c1142 (by omega) (g_no c1142 c1143)
        have c1144 := hF1160.at c1144 (by omega) (Ne.symm hne)
        have hF := hF.trans hF1160 (by omega) (fun q hq => (fun h => h ▸ (Or.inl rfl)))
        rw [rZ_cp zf (dDays_Z zf hnb hb3 hns hs10 dn)] at c1161
        refine lv_iload_n hx hb dX4_brings_51 rfl (lv_at hl 0 rfl) ?_
        exact g_iret C hI hS (by omega) ⟨rfl, (by omega), hF, c1161, c1144⟩ dX4_brings_52
      · skip
        try have k_1162 : ¬ (dn ≤ i) := (not_congr (nI_leE ed hxi (by omega) (by omega))).mp c_1147
        refine lv_aload_n hx hb dX4_brings_20 rfl (lv_at hl 1 rfl) ?_
        refine g_V (As := []) (rest := []) (lv := [(3, .int xi), (0, .ref mm), (1, .int a1), (2, .int a2)]) C hI hS (c_X4_goesDay l hB G1140 n1141 mm ag ab ah ch asv hs aas ain ty er awy ir ali ln th pl wr ato ((dDays f i).1) _ _ c1142 c1143 (by omega) (by rw [dDays_at hnb hb3 hns hs10 (by omega)]; exact hnb) (by omega) (by rw [dDays_at hnb hb3 hns hs10 (by omega)]; exact hns) (by omega)) c1142 rfl rfl q2778 q2780 qs52 q94 q2781 (⟨by decide, by decide, by decide⟩ : gArg _ 0) rfl ⟨by decide, by decide⟩ (by omega) hl rfl (Nat.le_of_ble_eq_true rfl) dX4_brings_21 (fun v1163 G1164 n1165 H locs hp1166 hI hS => ?_) gKx.no
        obtain ⟨rfl, hn1167, hF1168, c1169⟩ := hp1166
        refine W.widen (k := 0) (n := 200 * (0)) (by omega) (by omega) ?_
        have c1142 := hF1168.at c1142 (by omega) (g_no c1142 c1143)
        have c1144 := hF1168.at c1144 (by omega) (Ne.symm hne)
        have hF := hF.trans hF1168 (by omega) (fun q hq => (fun h => h ▸ (Or.inl rfl)))
        refine lv_istore (lv' := [(4, .int ((dDay ((dDays f i).1)).2)), (3, .int xi), (0, .ref mm), (1, .int a1), (2, .int a2)]) hx hb dX4_brings_24 hl (by decide) rfl (fun ls hl => ?_)
        refine lv_iinc (v := xi + 1) (lv' := [(3, .int (xi + 1)), (4, .int ((dDay ((dDays f i).1)).2)), (0, .ref mm), (1, .int a1), (2, .int a2)]) hx hb dX4_brings_26 hl (k := 1) rfl (by first | rfl | decide) (by decide) rfl (fun ls hl => ?_)
        refine lv_goto (tgt := 15) hx hb dX4_brings_29 (by decide) ?_
        have c1169 : G1164 ag = some (aI 112 (dDays f (i + 1)).1) := c1169
        exact ih1145 (i + 1) (xi + 1) (by omega) (by omega) (gadd hxi nl1) _ _ _ _ _ c1142 c1169 c1144 (by omega) hI hS hF (lv_sub hl [0, 2, 3, 4] rfl)
  exact key1139 (dn + 1) 0 0 (by omega) (by omega) nl0 _ _ _ _ _ c0_ c1_ c1138 (Nat.le_refl _) hI hS hF (lv_sub hl [0, 1, 2, 3] rfl)
set_option maxHeartbeats 4000000 in
set_option maxRecDepth 100000 in
theorem c_X4_wouldBring (l : Launch) {D : gD} (hB : gBs D) (G : gH) (n : Nat) (mm : Nat) (ag : Nat) (ab : Nat) (ah : Nat) (ch : Int32) (asv : Nat) (hs : Int32) (aas : Nat) (ain : Nat) (ty : Int32) (er : Int32) (awy : Nat) (ir : Int32) (ali : Nat) (ln : Int32) (th : Int32) (pl : Int32) (wr : Int32) (ato : Nat) (f : Nat → Int32) (fa : Nat → Int32) (nb : Nat) (ns : Nat) (a1 : Int32) (a2 : Int32) (c0_ : G mm = some (.inl (23, [.ref ag, .ref ab, .ref ah, .int ch, .ref asv, .int hs, .ref aas, .ref ain, .int ty, .int er, .ref awy, .int ir, .ref ali, .int ln, .int th, .int pl, .int wr, .ref ato]))) (c1_ : G ag = some (aI 112 f)) (c2_ : G aas = some (aI 112 fa)) (hz : gz D ≤ mm) (hzg : gz D ≤ ag) (hza : gz D ≤ aas) (hne : ag ≠ aas) (zf : rZ f) (zfa : rZ fa) (hnb : f 24 = nI nb) (hb3 : nb ≤ 3) (hns : f 46 = nI ns) (hs10 : ns ≤ 10) (hat : ∀ s, s < ns → f (57 + s) = -1 ∨ ∃ p, p ≤ 5 ∧ f (57 + s) = nI p) : gMet l D yX4_wouldBring (ws_ yX4_wouldBring cX4_wouldBring 3 (some FieldType.int)) 5 0 G n [.ref mm, .int a1, .int a2] (fun (v : Option Value) (G1 : gH) (n1 : Nat) => ∃ (th2 : Int32) (ir2 : Int32) (r : Int32) (fa2 : Nat → Int32), v = some (.int r) ∧ n ≤ n1 ∧ gF G G1 n (fun q : Nat => q = mm ∨ q = ag ∨ q = aas) ∧ G1 mm = some (.inl (23, [.ref ag, .ref ab, .ref ah, .int ch, .ref asv, .int hs, .ref aas, .ref ain, .int ty, .int er, .ref awy, .int ir2, .ref ali, .int ln, .int th2, .int pl, .int wr, .ref ato])) ∧ G1 ag = some (aI 112 f) ∧ G1 aas = some (aI 112 fa2) ∧ rZ fa2 ∧ qWould f a1 a2 = (th2, r)) gNox := by
  refine g_start (by decide) (Nat.le_of_ble_eq_true rfl) ?_
  intro p e s m below meth c ls C hnm hxt hI hl
  have hx := C.x
  have hb := C.b
  have hS : va_S (gA D) s.heap s.heap [] := va_S.rf
  have hz0 := hI.z
  have lc0_ := hI.lt c0_
  have lc1_ := hI.lt c1_
  have lc2_ := hI.lt c2_
  have hF : gF G G n (fun q : Nat => q = mm ∨ q = ag ∨ q = aas) := gF.rf _ _ _
  have hl : lv_has ls 3 [(0, .ref mm), (1, .int a1), (2, .int a2)] := hl
  refine lv_aload_n hx hb dX4_wouldBring_0 rfl (lv_at hl 0 rfl) ?_
  refine lv_iload_n hx hb dX4_wouldBring_1 rfl (lv_at hl 1 rfl) ?_
  refine g_V (As := [.int a1]) (rest := []) (lv := [(0, .ref mm), (1, .int a1), (2, .int a2)]) C hI hS (c_X4_isString l hB G n mm ag ab ah ch asv hs aas ain ty er awy ir ali ln th pl wr ato f a1 c0_ c1_ ) c0_ rfl rfl q2710 q2712 qs41 q94 q2713 (⟨by decide, by decide, by decide⟩ : gArg _ 1) rfl ⟨by decide, by decide⟩ (by omega) hl rfl (Nat.le_of_ble_eq_true rfl) dX4_wouldBring_2 (fun v1170 G1171 n1172 H locs hp1173 hI hS => ?_) gKx.no
  obtain ⟨rfl, eG1171, en1172⟩ := hp1173
  refine W.widen (k := 0) (n := 200 * (0)) (by omega) (by omega) ?_
  rw [eG1171, en1172] at hI
  refine lv_if_ne (tgt := 14) hx hb dX4_wouldBring_5 (by decide) (fun c_1176 => ?_) (fun c_1176 => ?_)
  · skip
    obtain ⟨j_a1, hj_a1, ej_a1⟩ := gin_lt (n := ns) c_1176 hns (by omega)
    have tj_a1 : a1.toNatClampNeg = j_a1 := by rw [ej_a1]; exact nI_clamp (by omega)
    refine lv_iload_n hx hb dX4_wouldBring_14 rfl (lv_at hl 2 rfl) ?_
    refine lv_iconst (v := 0) hx hb dX4_wouldBring_15 (by decide) ?_
    refine lv_bipush (v := 30) hx hb dX4_wouldBring_16 (by decide) ?_
    refine g_S (As := [.int a2, .int 0, .int 30]) (rest := []) (lv := [(0, .ref mm), (1, .int a1), (2, .int a2)]) C hI hS (c_X4_in l hB G n a2 0 30  ) q2634 q2635 q94 q2636 (⟨by decide, by decide, by decide⟩ : gArg _ 3) rfl ⟨by decide, by decide⟩ (by omega) hl rfl (Nat.le_of_ble_eq_true rfl) dX4_wouldBring_18 (fun v1177 G1178 n1179 H locs hp1180 hI hS => ?_) gKx.no
    obtain ⟨rfl, eG1178, en1179⟩ := hp1180
    refine W.widen (k := 0) (n := 200 * (0)) (by omega) (by omega) ?_
    rw [eG1178, en1179] at hI
    refine lv_if_eq (tgt := 37) hx hb dX4_wouldBring_21 (by decide) (fun c_1183 => ?_) (fun c_1183 => ?_)
    · skip
      refine lv_aload_n hx hb dX4_wouldBring_37 rfl (lv_at hl 0 rfl) ?_
      refine lv_iconst (v := 2) hx hb dX4_wouldBring_38 (by decide) ?_
      refine g_V (As := [.int 2]) (rest := []) (lv := [(0, .ref mm), (1, .int a1), (2, .int a2)]) C hI hS (c_X4_fails l hB G n mm ag ab ah ch asv hs aas ain ty er awy ir ali ln th pl wr ato 2 c0_ (by omega)) c0_ rfl rfl q2637 q2639 qs34 q94 q2640 (⟨by decide, by decide, by decide⟩ : gArg _ 1) rfl ⟨by decide, by decide⟩ (by omega) hl rfl (Nat.le_of_ble_eq_true rfl) dX4_wouldBring_39 (fun v1184 G1185 n1186 H locs hp1187 hI hS => ?_) gKx.no
      obtain ⟨rfl, hn1188, hF1189, c1190⟩ := hp1187
      refine W.widen (k := 0) (n := 200 * (0)) (by omega) (by omega) ?_
      have c1_ := hF1189.at c1_ (by omega) (g_on c1_ c0_)
      have c2_ := hF1189.at c2_ (by omega) (g_on c2_ c0_)
      have hF := hF.trans hF1189 (by omega) (fun q hq => (fun h => h ▸ (Or.inl rfl)))
      exact g_iret C hI hS (by omega) ⟨2, 0, 0, fa, rfl, (by omega), hF, c1190, c1_, c2_, (by assumption), (by simp [qWould, c_1176, tj_a1, c_1183])⟩ dX4_wouldBring_42
    · skip
      obtain ⟨j_a2, hj_a2, ej_a2⟩ := gin_ok (k := 30) c_1183 (by decide)
      have tj_a2 : a2.toNatClampNeg = j_a2 := by rw [ej_a2]; exact nI_clamp (by omega)
      refine lv_aload_n hx hb dX4_wouldBring_24 rfl (lv_at hl 0 rfl) ?_
      refine lv_aload_n hx hb dX4_wouldBring_25 rfl (lv_at hl 0 rfl) ?_
      refine lv_iload_n hx hb dX4_wouldBring_26 rfl (lv_at hl 1 rfl) ?_
      refine lv_iload_n hx hb dX4_wouldBring_27 rfl (lv_at hl 2 rfl) ?_
      refine g_V (As := [.int a1, .int a2]) (rest := [.ref mm]) (lv := [(0, .ref mm), (1, .int a1), (2, .int a2)]) C hI hS (c_X4_brings l hB G n mm ag ab ah ch asv hs aas ain ty er awy ir ali ln th pl wr ato f fa _ _ j_a1 j_a2 a1 a2 c0_ c1_ c2_ (by omega) (by omega) hne (by assumption) (by assumption) (by assumption) (by omega) (by assumption) (by omega) (by omega) ej_a1 ej_a2 (by omega) (hat j_a1 (by omega))) c0_ rfl rfl q2774 q2776 qs51 q94 q2777 (⟨by decide, by decide, by decide⟩ : gArg _ 2) rfl ⟨by decide, by decide⟩ (by omega) hl rfl (Nat.le_of_ble_eq_true rfl) dX4_wouldBring_28 (fun v1191 G1192 n1193 H locs hp1194 hI hS => ?_) gKx.no
      obtain ⟨rfl, hn1195, hF1196, c1197, c1198⟩ := hp1194
      refine W.widen (k := 0) (n := 200 * (0)) (by omega) (by omega) ?_
      have c0_ := hF1196.at c0_ (by omega) (fun h => h.elim (g_no c0_ c1_) (g_no c0_ c2_))
      have hF := hF.trans hF1196 (by omega) (fun q hq => (fun h => h.elim (fun h => h ▸ (Or.inr (Or.inl rfl))) (fun h => h ▸ (Or.inr (Or.inr (rfl))))))
      refine g_V (As := [.int (sBrings (dDays f j_a2).1 j_a1)]) (rest := []) (lv := [(0, .ref mm), (1, .int a1), (2, .int a2)]) C hI hS (c_X4_done l hB G1192 n1193 mm ag ab ah ch asv hs aas ain ty er awy ir ali ln th pl wr ato (sBrings (dDays f j_a2).1 j_a1) c0_ (by omega)) c0_ rfl rfl q2644 q2646 qs35 q94 q2647 (⟨by decide, by decide, by decide⟩ : gArg _ 1) rfl ⟨by decide, by decide⟩ (by omega) hl rfl (Nat.le_of_ble_eq_true rfl) dX4_wouldBring_31 (fun v1199 G1200 n1201 H locs hp1202 hI hS => ?_) gKx.no
      obtain ⟨rfl, hn1203, hF1204, c1205⟩ := hp1202
      refine W.widen (k := 0) (n := 200 * (0)) (by omega) (by omega) ?_
      have c1197 := hF1204.at c1197 (by omega) (g_on c1197 c0_)
      have c1198 := hF1204.at c1198 (by omega) (g_on c1198 c0_)
      have hF := hF.trans hF1204 (by omega) (fun q hq => (fun h => h ▸ (Or.inl rfl)))
      refine lv_goto (tgt := 42) hx hb dX4_wouldBring_34 (by decide) ?_
      exact g_iret C hI hS (by omega) ⟨0, ir, sBrings (dDays f j_a2).1 j_a1, f, rfl, (by omega), hF, c1205, c1197, c1198, (by assumption), (by simp [qWould, c_1176, tj_a1, c_1183, tj_a2])⟩ dX4_wouldBring_42
  · skip
    refine lv_aload_n hx hb dX4_wouldBring_8 rfl (lv_at hl 0 rfl) ?_
    refine lv_iconst (v := 1) hx hb dX4_wouldBring_9 (by decide) ?_
    refine g_V (As := [.int 1]) (rest := []) (lv := [(0, .ref mm), (1, .int a1), (2, .int a2)]) C hI hS (c_X4_fails l hB G n mm ag ab ah ch asv hs aas ain ty er awy ir ali ln th pl wr ato 1 c0_ (by omega)) c0_ rfl rfl q2637 q2639 qs34 q94 q2640 (⟨by decide, by decide, by decide⟩ : gArg _ 1) rfl ⟨by decide, by decide⟩ (by omega) hl rfl (Nat.le_of_ble_eq_true rfl) dX4_wouldBring_10 (fun v1206 G1207 n1208 H locs hp1209 hI hS => ?_) gKx.no
    obtain ⟨rfl, hn1210, hF1211, c1212⟩ := hp1209
    refine W.widen (k := 0) (n := 200 * (0)) (by omega) (by omega) ?_
    have c1_ := hF1211.at c1_ (by omega) (g_on c1_ c0_)
    have c2_ := hF1211.at c2_ (by omega) (g_on c2_ c0_)
    have hF := hF.trans hF1211 (by omega) (fun q hq => (fun h => h ▸ (Or.inl rfl)))
    exact g_iret C hI hS (by omega) ⟨1, 0, 0, fa, rfl, (by omega), hF, c1212, c1_, c2_, (by assumption), (by simp [qWould, c_1176])⟩ dX4_wouldBring_13
set_option maxHeartbeats 4000000 in
set_option maxRecDepth 100000 in
theorem c_X4_bestDay (l : Launch) {D : gD} (hB : gBs D) (G : gH) (n : Nat) (mm : Nat) (ag : Nat) (ab : Nat) (ah : Nat) (ch : Int32) (asv : Nat) (hs : Int32) (aas : Nat) (ain : Nat) (ty : Int32) (er : Int32) (awy : Nat) (ir : Int32) (ali : Nat) (ln : Int32) (th : Int32) (pl : Int32) (wr : Int32) (ato : Nat) (f : Nat → Int32) (fa : Nat → Int32) (nb : Nat) (ns : Nat) (a1 : Int32) (c0_ : G mm = some (.inl (23, [.ref ag, .ref ab, .ref ah, .int ch, .ref asv, .int hs, .ref aas, .ref ain, .int ty, .int er, .ref awy, .int ir, .ref ali, .int ln, .int th, .int pl, .int wr, .ref ato]))) (c1_ : G ag = some (aI 112 f)) (c2_ : G aas = some (aI 112 fa)) (hz : gz D ≤ mm) (hzg : gz D ≤ ag) (hza : gz D ≤ aas) (hne : ag ≠ aas) (zf : rZ f) (zfa : rZ fa) (hnb : f 24 = nI nb) (hb3 : nb ≤ 3) (hns : f 46 = nI ns) (hs10 : ns ≤ 10) (hat : ∀ s, s < ns → f (57 + s) = -1 ∨ ∃ p, p ≤ 5 ∧ f (57 + s) = nI p) : gMet l D yX4_bestDay (ws_ yX4_bestDay cX4_bestDay 4 (some FieldType.int)) 5 0 G n [.ref mm, .int a1] (fun (v : Option Value) (G1 : gH) (n1 : Nat) => ∃ (th2 : Int32) (ir2 : Int32) (r : Int32) (fa2 : Nat → Int32), v = some (.int r) ∧ n ≤ n1 ∧ gF G G1 n (fun q : Nat => q = mm ∨ q = ag ∨ q = aas) ∧ G1 mm = some (.inl (23, [.ref ag, .ref ab, .ref ah, .int ch, .ref asv, .int hs, .ref aas, .ref ain, .int ty, .int er, .ref awy, .int ir2, .ref ali, .int ln, .int th2, .int pl, .int wr, .ref ato])) ∧ G1 ag = some (aI 112 f) ∧ G1 aas = some (aI 112 fa2) ∧ rZ fa2 ∧ qBestDay f a1 = (th2, r)) gNox := by
  refine g_start (by decide) (Nat.le_of_ble_eq_true rfl) ?_
  intro p e s m below meth c ls C hnm hxt hI hl
  have hx := C.x
  have hb := C.b
  have hS : va_S (gA D) s.heap s.heap [] := va_S.rf
  have hz0 := hI.z
  have lc0_ := hI.lt c0_
  have lc1_ := hI.lt c1_
  have lc2_ := hI.lt c2_
  have hF : gF G G n (fun q : Nat => q = mm ∨ q = ag ∨ q = aas) := gF.rf _ _ _
  have hl : lv_has ls 4 [(0, .ref mm), (1, .int a1)] := hl
  refine lv_aload_n hx hb dX4_bestDay_0 rfl (lv_at hl 0 rfl) ?_
  refine lv_iload_n hx hb dX4_bestDay_1 rfl (lv_at hl 1 rfl) ?_
  refine g_V (As := [.int a1]) (rest := []) (lv := [(0, .ref mm), (1, .int a1)]) C hI hS (c_X4_isString l hB G n mm ag ab ah ch asv hs aas ain ty er awy ir ali ln th pl wr ato f a1 c0_ c1_ ) c0_ rfl rfl q2710 q2712 qs41 q94 q2713 (⟨by decide, by decide, by decide⟩ : gArg _ 1) rfl ⟨by decide, by decide⟩ (by omega) hl rfl (Nat.le_of_ble_eq_true rfl) dX4_bestDay_2 (fun v1213 G1214 n1215 H locs hp1216 hI hS => ?_) gKx.no
  obtain ⟨rfl, eG1214, en1215⟩ := hp1216
  refine W.widen (k := 0) (n := 200 * (0)) (by omega) (by omega) ?_
  rw [eG1214, en1215] at hI
  refine lv_if_ne (tgt := 14) hx hb dX4_bestDay_5 (by decide) (fun c_1219 => ?_) (fun c_1219 => ?_)
  · skip
    obtain ⟨j_a1, hj_a1, ej_a1⟩ := gin_lt (n := ns) c_1219 hns (by omega)
    have tj_a1 : a1.toNatClampNeg = j_a1 := by rw [ej_a1]; exact nI_clamp (by omega)
    refine lv_aload_n hx hb dX4_bestDay_14 rfl (lv_at hl 0 rfl) ?_
    refine g_get C hI c0_ kc23 0 rfl q2567 (fun _ h9 => h9) dX4_bestDay_15 ?_
    refine lv_bipush (v := 57) hx hb dX4_bestDay_18 (by decide) ?_
    refine lv_iload_n hx hb dX4_bestDay_20 rfl (lv_at hl 1 rfl) ?_
    refine lv_iadd hx hb dX4_bestDay_21 ?_
    refine g_iald (v := .int (f (57 + j_a1))) C hI c1_ (gix (gadd nl57 ej_a1) (by omega) (by omega)) (congrArg Value.int (gixv (f := f) (gadd nl57 ej_a1) (by omega))) dX4_bestDay_22 ?_
    refine lv_iconst (v := (-1)) hx hb dX4_bestDay_23 (by decide) ?_
    refine lv_icmp_ne (tgt := 33) hx hb dX4_bestDay_24 (by decide) (fun c_1220 => ?_) (fun c_1220 => ?_)
    · skip
      refine lv_iconst (v := 0) hx hb dX4_bestDay_33 (by decide) ?_
      refine lv_istore_n (lv' := [(2, .int 0), (0, .ref mm), (1, .int a1)]) hx hb dX4_bestDay_34 rfl hl (by decide) rfl (fun ls hl => ?_)
      refine lv_iconst (v := 1) hx hb dX4_bestDay_35 (by decide) ?_
      refine lv_istore_n (lv' := [(3, .int 1), (2, .int 0), (0, .ref mm), (1, .int a1)]) hx hb dX4_bestDay_36 rfl hl (by decide) rfl (fun ls hl => ?_)
      have key1221 : ∀ (r : Nat) (k : Nat) (xk : Int32) (bst : Int32) (fx : Nat → Int32), (1 ≤ k) → (k ≤ 31) → (31 < k + r) → (xk = nI k) → (bst = nI (bdN f j_a1 (k - 1))) → (rZ fx) → ∀ (G1222 : gH) (n1223 : Nat) (H : Heap) (locs : List Loc) (ls : Array Slot), G1222 mm = some (.inl (23, [.ref ag, .ref ab, .ref ah, .int ch, .ref asv, .int hs, .ref aas, .ref ain, .int ty, .int er, .ref awy, .int ir, .ref ali, .int ln, .int th, .int pl, .int wr, .ref ato])) → G1222 ag = some (aI 112 f) → G1222 aas = some (aI 112 fx) → n ≤ n1223 → gI D G1222 n1223 H → va_S (gA D) s.heap H locs → gF G G1222 n (fun q : Nat => q = mm ∨ q = ag ∨ q = aas) → lv_has ls 4 [(3, .int xk), (2, .int bst), (0, .ref mm), (1, .int a1)] → W p l e (gR 5 0) s m ([.ref mm, .int a1] : List Value).toArray below meth c H locs (0) (200 * (0)) (gM below D (fun (v : Option Value) (G1 : gH) (n1 : Nat) => ∃ (th2 : Int32) (ir2 : Int32) (r : Int32) (fa2 : Nat → Int32), v = some (.int r) ∧ n ≤ n1 ∧ gF G G1 n (fun q : Nat => q = mm ∨ q = ag ∨ q = aas) ∧ G1 mm = some (.inl (23, [.ref ag, .ref ab, .ref ah, .int ch, .ref asv, .int hs, .ref aas, .ref ain, .int ty, .int er, .ref awy, .int ir2, .ref ali, .int ln, .int th2, .int pl, .int wr, .ref ato])) ∧ G1 ag = some (aI 112 f) ∧ G1 aas = some (aI 112 fa2) ∧ rZ fa2 ∧ qBestDay f a1 = (th2, r)) gNox ([.ref mm, .int a1] : List Value).toArray s 0) (F0 m 37 ls []) := by
        intro r
        induction r with
        | zero =>
          intro k xk bst fx hk1 hk hr hxk hbs zfx
          exact absurd trivial (fun _ => (by omega))
        | succ r ih1227 =>
          intro k xk bst fx hk1 hk hr hxk hbs zfx
          intro G1222 n1223 H locs ls c1224 c1225 c1226 hn1228 hI hS hF hl
          have hbl := bdN_le f j_a1 (k - 1)
          refine lv_iload_n hx hb dX4_bestDay_37 rfl (lv_at hl 0 rfl) ?_
          refine lv_bipush (v := 30) hx hb dX4_bestDay_38 (by decide) ?_
          refine lv_icmp_gt (tgt := 70) hx hb dX4_bestDay_40 (by decide) (fun c_1229 => ?_) (fun c_1229 => ?_)
          · skip
            try have k_1230 : 30 < k := (nI_ltE nl30 hxk (by omega) (by omega)).mp c_1229
            have hke : k = 31 := by omega
            rw [hke] at hbs
            refine lv_aload_n hx hb dX4_bestDay_70 rfl (lv_at hl 2 rfl) ?_
            refine lv_iload_n hx hb dX4_bestDay_71 rfl (lv_at hl 1 rfl) ?_
            refine g_V (As := [.int bst]) (rest := []) (lv := [(3, .int xk), (2, .int bst), (0, .ref mm), (1, .int a1)]) C hI hS (c_X4_done l hB G1222 n1223 mm ag ab ah ch asv hs aas ain ty er awy ir ali ln th pl wr ato bst c1224 (by omega)) c1224 rfl rfl q2644 q2646 qs35 q94 q2647 (⟨by decide, by decide, by decide⟩ : gArg _ 1) rfl ⟨by decide, by decide⟩ (by omega) hl rfl (Nat.le_of_ble_eq_true rfl) dX4_bestDay_72 (fun v1231 G1232 n1233 H locs hp1234 hI hS => ?_) gKx.no
            obtain ⟨rfl, hn1235, hF1236, c1237⟩ := hp1234
            refine W.widen (k := 0) (n := 200 * (0)) (by omega) (by omega) ?_
            have c1225 := hF1236.at c1225 (by omega) (g_on c1225 c1224)
            have c1226 := hF1236.at c1226 (by omega) (g_on c1226 c1224)
            have hF := hF.trans hF1236 (by omega) (fun q hq => (fun h => h ▸ (Or.inl rfl)))
            exact g_iret C hI hS (by omega) ⟨0, ir, bst, fx, rfl, (by omega), hF, c1237, c1225, c1226, (by assumption), (by simp [qBestDay, c_1219, tj_a1, c_1220, c_1229, hbs])⟩ dX4_bestDay_75
          · skip
            try have k_1238 : ¬ (30 < k) := (not_congr (nI_ltE nl30 hxk (by omega) (by omega))).mp c_1229
            refine lv_aload_n hx hb dX4_bestDay_43 rfl (lv_at hl 2 rfl) ?_
            refine lv_iload_n hx hb dX4_bestDay_44 rfl (lv_at hl 3 rfl) ?_
            refine lv_iload_n hx hb dX4_bestDay_45 rfl (lv_at hl 0 rfl) ?_
            refine g_V (As := [.int a1, .int xk]) (rest := []) (lv := [(3, .int xk), (2, .int bst), (0, .ref mm), (1, .int a1)]) C hI hS (c_X4_brings l hB G1222 n1223 mm ag ab ah ch asv hs aas ain ty er awy ir ali ln th pl wr ato f fx _ _ j_a1 k a1 xk c1224 c1225 c1226 (by omega) (by omega) hne (by assumption) (by assumption) (by assumption) (by omega) (by assumption) (by omega) (by omega) ej_a1 hxk (by omega) (hat j_a1 (by omega))) c1224 rfl rfl q2774 q2776 qs51 q94 q2777 (⟨by decide, by decide, by decide⟩ : gArg _ 2) rfl ⟨by decide, by decide⟩ (by omega) hl rfl (Nat.le_of_ble_eq_true rfl) dX4_bestDay_46 (fun v1239 G1240 n1241 H locs hp1242 hI hS => ?_) gKx.no
            obtain ⟨rfl, hn1243, hF1244, c1245, c1246⟩ := hp1242
            refine W.widen (k := 0) (n := 200 * (0)) (by omega) (by omega) ?_
            have c1224 := hF1244.at c1224 (by omega) (fun h => h.elim (g_no c1224 c1225) (g_no c1224 c1226))
            have hF := hF.trans hF1244 (by omega) (fun q hq => (fun h => h.elim (fun h => h ▸ (Or.inr (Or.inl rfl))) (fun h => h ▸ (Or.inr (Or.inr (rfl))))))
            refine lv_aload_n hx hb dX4_bestDay_49 rfl (lv_at hl 2 rfl) ?_
            refine lv_iload_n hx hb dX4_bestDay_50 rfl (lv_at hl 3 rfl) ?_
            refine lv_iload_n hx hb dX4_bestDay_51 rfl (lv_at hl 1 rfl) ?_
            refine g_V (As := [.int a1, .int bst]) (rest := [.int (sBrings (dDays f k).1 j_a1)]) (lv := [(3, .int xk), (2, .int bst), (0, .ref mm), (1, .int a1)]) C hI hS (c_X4_brings l hB G1240 n1241 mm ag ab ah ch asv hs aas ain ty er awy ir ali ln th pl wr ato f f _ _ j_a1 (bdN f j_a1 (k - 1)) a1 bst c1224 c1245 c1246 (by omega) (by omega) hne (by assumption) (by assumption) (by assumption) (by omega) (by assumption) (by omega) (by omega) ej_a1 hbs (by omega) (hat j_a1 (by omega))) c1224 rfl rfl q2774 q2776 qs51 q94 q2777 (⟨by decide, by decide, by decide⟩ : gArg _ 2) rfl ⟨by decide, by decide⟩ (by omega) hl rfl (Nat.le_of_ble_eq_true rfl) dX4_bestDay_52 (fun v1247 G1248 n1249 H locs hp1250 hI hS => ?_) gKx.no
            obtain ⟨rfl, hn1251, hF1252, c1253, c1254⟩ := hp1250
            refine W.widen (k := 0) (n := 200 * (0)) (by omega) (by omega) ?_
            have c1224 := hF1252.at c1224 (by omega) (fun h => h.elim (g_no c1224 c1245) (g_no c1224 c1246))
            have hF := hF.trans hF1252 (by omega) (fun q hq => (fun h => h.elim (fun h => h ▸ (Or.inr (Or.inl rfl))) (fun h => h ▸ (Or.inr (Or.inr (rfl))))))
            refine lv_icmp_le (tgt := 62) hx hb dX4_bestDay_55 (by decide) (fun c_1255 => ?_) (fun c_1255 => ?_)
            · skip
              refine lv_iload_n hx hb dX4_bestDay_62 rfl (lv_at hl 1 rfl) ?_
              refine lv_istore_n (lv' := [(2, .int bst), (3, .int xk), (0, .ref mm), (1, .int a1)]) hx hb dX4_bestDay_63 rfl hl (by decide) rfl (fun ls hl => ?_)
              refine lv_iinc (v := xk + 1) (lv' := [(3, .int (xk + 1)), (2, .int bst), (0, .ref mm), (1, .int a1)]) hx hb dX4_bestDay_64 hl (k := 1) rfl (by first | rfl | decide) (by decide) rfl (fun ls hl => ?_)
              refine lv_goto (tgt := 37) hx hb dX4_bestDay_67 (by decide) ?_
              exact ih1227 (k + 1) (xk + 1) bst f (by omega) (by omega) (by omega) (gadd hxk nl1) (by obtain ⟨k9, rfl⟩ : ∃ k9, k = k9 + 1 := ⟨k - 1, by omega⟩; simp only [Nat.add_sub_cancel] at *; unfold bdN; first | (rw [if_pos (by assumption)]; exact hbs) | (rw [if_neg (by assumption)]; exact hxk)) zf _ _ _ _ _ c1224 c1253 c1254 (by omega) hI hS hF (lv_sub hl [0, 1, 2, 3] rfl)
            · skip
              refine lv_iload_n hx hb dX4_bestDay_58 rfl (lv_at hl 0 rfl) ?_
              refine lv_goto (tgt := 63) hx hb dX4_bestDay_59 (by decide) ?_
              refine lv_istore_n (lv' := [(2, .int xk), (3, .int xk), (0, .ref mm), (1, .int a1)]) hx hb dX4_bestDay_63 rfl hl (by decide) rfl (fun ls hl => ?_)
              refine lv_iinc (v := xk + 1) (lv' := [(3, .int (xk + 1)), (2, .int xk), (0, .ref mm), (1, .int a1)]) hx hb dX4_bestDay_64 hl (k := 1) rfl (by first | rfl | decide) (by decide) rfl (fun ls hl => ?_)
              refine lv_goto (tgt := 37) hx hb dX4_bestDay_67 (by decide) ?_
              exact ih1227 (k + 1) (xk + 1) xk f (by omega) (by omega) (by omega) (gadd hxk nl1) (by obtain ⟨k9, rfl⟩ : ∃ k9, k = k9 + 1 := ⟨k - 1, by omega⟩; simp only [Nat.add_sub_cancel] at *; unfold bdN; first | (rw [if_pos (by assumption)]; exact hbs) | (rw [if_neg (by assumption)]; exact hxk)) zf _ _ _ _ _ c1224 c1253 c1254 (by omega) hI hS hF (lv_sub hl [0, 1, 2, 3] rfl)
      exact key1221 31 1 1 0 fa (by omega) (by omega) (by omega) nl1 nl0 zfa _ _ _ _ _ c0_ c1_ c2_ (Nat.le_refl _) hI hS hF (lv_sub hl [0, 1, 2, 3] rfl)
    · skip
      refine lv_aload_n hx hb dX4_bestDay_27 rfl (lv_at hl 0 rfl) ?_
      refine lv_iconst (v := 2) hx hb dX4_bestDay_28 (by decide) ?_
      refine g_V (As := [.int 2]) (rest := []) (lv := [(0, .ref mm), (1, .int a1)]) C hI hS (c_X4_fails l hB G n mm ag ab ah ch asv hs aas ain ty er awy ir ali ln th pl wr ato 2 c0_ (by omega)) c0_ rfl rfl q2637 q2639 qs34 q94 q2640 (⟨by decide, by decide, by decide⟩ : gArg _ 1) rfl ⟨by decide, by decide⟩ (by omega) hl rfl (Nat.le_of_ble_eq_true rfl) dX4_bestDay_29 (fun v1256 G1257 n1258 H locs hp1259 hI hS => ?_) gKx.no
      obtain ⟨rfl, hn1260, hF1261, c1262⟩ := hp1259
      refine W.widen (k := 0) (n := 200 * (0)) (by omega) (by omega) ?_
      have c1_ := hF1261.at c1_ (by omega) (g_on c1_ c0_)
      have c2_ := hF1261.at c2_ (by omega) (g_on c2_ c0_)
      have hF := hF.trans hF1261 (by omega) (fun q hq => (fun h => h ▸ (Or.inl rfl)))
      exact g_iret C hI hS (by omega) ⟨2, 0, 0, fa, rfl, (by omega), hF, c1262, c1_, c2_, (by assumption), (by simp [qBestDay, c_1219, tj_a1, c_1220])⟩ dX4_bestDay_32
  · skip
    refine lv_aload_n hx hb dX4_bestDay_8 rfl (lv_at hl 0 rfl) ?_
    refine lv_iconst (v := 1) hx hb dX4_bestDay_9 (by decide) ?_
    refine g_V (As := [.int 1]) (rest := []) (lv := [(0, .ref mm), (1, .int a1)]) C hI hS (c_X4_fails l hB G n mm ag ab ah ch asv hs aas ain ty er awy ir ali ln th pl wr ato 1 c0_ (by omega)) c0_ rfl rfl q2637 q2639 qs34 q94 q2640 (⟨by decide, by decide, by decide⟩ : gArg _ 1) rfl ⟨by decide, by decide⟩ (by omega) hl rfl (Nat.le_of_ble_eq_true rfl) dX4_bestDay_10 (fun v1263 G1264 n1265 H locs hp1266 hI hS => ?_) gKx.no
    obtain ⟨rfl, hn1267, hF1268, c1269⟩ := hp1266
    refine W.widen (k := 0) (n := 200 * (0)) (by omega) (by omega) ?_
    have c1_ := hF1268.at c1_ (by omega) (g_on c1_ c0_)
    have c2_ := hF1268.at c2_ (by omega) (g_on c2_ c0_)
    have hF := hF.trans hF1268 (by omega) (fun q hq => (fun h => h ▸ (Or.inl rfl)))
    exact g_iret C hI hS (by omega) ⟨1, 0, 0, fa, rfl, (by omega), hF, c1269, c1_, c2_, (by assumption), (by simp [qBestDay, c_1219])⟩ dX4_bestDay_13
set_option maxHeartbeats 4000000 in
set_option maxRecDepth 100000 in
theorem c_X4_ranked (l : Launch) {D : gD} (hB : gBs D) (G : gH) (n : Nat) (mm : Nat) (ag : Nat) (ab : Nat) (ah : Nat) (ch : Int32) (asv : Nat) (hs : Int32) (aas : Nat) (ain : Nat) (ty : Int32) (er : Int32) (awy : Nat) (ir : Int32) (ali : Nat) (ln : Int32) (th : Int32) (pl : Int32) (wr : Int32) (ato : Nat) (f : Nat → Int32) (nb : Nat) (a1 : Int32) (c0_ : G mm = some (.inl (23, [.ref ag, .ref ab, .ref ah, .int ch, .ref asv, .int hs, .ref aas, .ref ain, .int ty, .int er, .ref awy, .int ir, .ref ali, .int ln, .int th, .int pl, .int wr, .ref ato]))) (c1_ : G ag = some (aI 112 f)) (hz : gz D ≤ mm) (hnb : f 24 = nI nb) (hb3 : nb ≤ 3) : gMet l D yX4_ranked (ws_ yX4_ranked cX4_ranked 6 (some FieldType.int)) 2 0 G n [.ref mm, .int a1] (fun (v : Option Value) (G1 : gH) (n1 : Nat) => ∃ (th2 : Int32) (ir2 : Int32) (r : Int32), v = some (.int r) ∧ n ≤ n1 ∧ gF G G1 n (fun q : Nat => q = mm) ∧ G1 mm = some (.inl (23, [.ref ag, .ref ab, .ref ah, .int ch, .ref asv, .int hs, .ref aas, .ref ain, .int ty, .int er, .ref awy, .int ir2, .ref ali, .int ln, .int th2, .int pl, .int wr, .ref ato])) ∧ qRanked f a1 = (th2, r)) gNox := by
  refine g_start (by decide) (Nat.le_of_ble_eq_true rfl) ?_
  intro p e s m below meth c ls C hnm hxt hI hl
  have hx := C.x
  have hb := C.b
  have hS : va_S (gA D) s.heap s.heap [] := va_S.rf
  have hz0 := hI.z
  have lc0_ := hI.lt c0_
  have lc1_ := hI.lt c1_
  have hF : gF G G n (fun q : Nat => q = mm) := gF.rf _ _ _
  have hl : lv_has ls 6 [(0, .ref mm), (1, .int a1)] := hl
  have t24 : (f 24).toNatClampNeg = nb := by rw [hnb]; exact nI_clamp (by omega)
  refine lv_iconst (v := 0) hx hb dX4_ranked_0 (by decide) ?_
  refine lv_istore_n (lv' := [(2, .int 0), (0, .ref mm), (1, .int a1)]) hx hb dX4_ranked_1 rfl hl (by decide) rfl (fun ls hl => ?_)
  have key1270 : ∀ (r : Nat) (b : Nat) (xb : Int32), (b ≤ nb) → (nb < b + r) → (xb = nI b) → (qRanked f a1 = rkF f nb a1 (nb - b) b) → ∀ (H : Heap) (locs : List Loc) (ls : Array Slot), gI D G n H → va_S (gA D) s.heap H locs → lv_has ls 6 [(2, .int xb), (0, .ref mm), (1, .int a1)] → W p l e (gR 2 0) s m ([.ref mm, .int a1] : List Value).toArray below meth c H locs (0) (200 * (0)) (gM below D (fun (v : Option Value) (G1 : gH) (n1 : Nat) => ∃ (th2 : Int32) (ir2 : Int32) (r : Int32), v = some (.int r) ∧ n ≤ n1 ∧ gF G G1 n (fun q : Nat => q = mm) ∧ G1 mm = some (.inl (23, [.ref ag, .ref ab, .ref ah, .int ch, .ref asv, .int hs, .ref aas, .ref ain, .int ty, .int er, .ref awy, .int ir2, .ref ali, .int ln, .int th2, .int pl, .int wr, .ref ato])) ∧ qRanked f a1 = (th2, r)) gNox ([.ref mm, .int a1] : List Value).toArray s 0) (F0 m 2 ls []) := by
    intro r
    induction r with
    | zero =>
      intro b xb hbb hr hxb hrk
      exact absurd trivial (fun _ => (by omega))
    | succ r ih1271 =>
      intro b xb hbb hr hxb hrk
      intro H locs ls hI hS hl
      refine lv_iload_n hx hb dX4_ranked_2 rfl (lv_at hl 0 rfl) ?_
      refine lv_aload_n hx hb dX4_ranked_3 rfl (lv_at hl 1 rfl) ?_
      refine g_get C hI c0_ kc23 0 rfl q2567 (fun _ h9 => h9) dX4_ranked_4 ?_
      refine lv_bipush (v := 24) hx hb dX4_ranked_7 (by decide) ?_
      refine g_iald (v := .int (f 24)) C hI c1_ (gix nl24 (by omega) (by omega)) (congrArg Value.int (gixv (f := f) nl24 (by omega))) dX4_ranked_9 ?_
      refine lv_icmp_ge (tgt := 91) hx hb dX4_ranked_10 (by decide) (fun c_1272 => ?_) (fun c_1272 => ?_)
      · skip
        try have k_1273 : nb ≤ b := (nI_leE hnb hxb (by omega) (by omega)).mp c_1272
        refine lv_aload_n hx hb dX4_ranked_91 rfl (lv_at hl 1 rfl) ?_
        refine lv_iconst (v := 1) hx hb dX4_ranked_92 (by decide) ?_
        refine g_V (As := [.int 1]) (rest := []) (lv := [(2, .int xb), (0, .ref mm), (1, .int a1)]) C hI hS (c_X4_fails l hB G n mm ag ab ah ch asv hs aas ain ty er awy ir ali ln th pl wr ato 1 c0_ (by omega)) c0_ rfl rfl q2637 q2639 qs34 q94 q2640 (⟨by decide, by decide, by decide⟩ : gArg _ 1) rfl ⟨by decide, by decide⟩ (by omega) hl rfl (Nat.le_of_ble_eq_true rfl) dX4_ranked_93 (fun v1274 G1275 n1276 H locs hp1277 hI hS => ?_) gKx.no
        obtain ⟨rfl, hn1278, hF1279, c1280⟩ := hp1277
        refine W.widen (k := 0) (n := 200 * (0)) (by omega) (by omega) ?_
        have c1_ := hF1279.at c1_ (by omega) (g_on c1_ c0_)
        have hF := hF.trans hF1279 (by omega) (fun q hq => (fun h => h ▸ rfl))
        exact g_iret C hI hS (by omega) ⟨1, 0, 0, rfl, (by omega), hF, c1280, (by rw [hrk, show nb - b = 0 by omega]; rfl)⟩ dX4_ranked_96
      · skip
        try have k_1281 : ¬ (nb ≤ b) := (not_congr (nI_leE hnb hxb (by omega) (by omega))).mp c_1272
        refine lv_iconst (v := 0) hx hb dX4_ranked_13 (by decide) ?_
        refine lv_istore_n (lv' := [(3, .int 0), (2, .int xb), (0, .ref mm), (1, .int a1)]) hx hb dX4_ranked_14 rfl hl (by decide) rfl (fun ls hl => ?_)
        refine lv_iconst (v := 0) hx hb dX4_ranked_15 (by decide) ?_
        refine lv_istore (lv' := [(4, .int 0), (3, .int 0), (2, .int xb), (0, .ref mm), (1, .int a1)]) hx hb dX4_ranked_16 hl (by decide) rfl (fun ls hl => ?_)
        have key1282 : ∀ (r : Nat) (o : Nat) (xo : Int32) (ac : Int32), (o ≤ nb) → (nb < o + r) → (xo = nI o) → (ac = sAhead f b o) → ∀ (H : Heap) (locs : List Loc) (ls : Array Slot), gI D G n H → va_S (gA D) s.heap H locs → lv_has ls 6 [(4, .int xo), (3, .int ac), (2, .int xb), (0, .ref mm), (1, .int a1)] → W p l e (gR 2 0) s m ([.ref mm, .int a1] : List Value).toArray below meth c H locs (0) (200 * (0)) (gM below D (fun (v : Option Value) (G1 : gH) (n1 : Nat) => ∃ (th2 : Int32) (ir2 : Int32) (r : Int32), v = some (.int r) ∧ n ≤ n1 ∧ gF G G1 n (fun q : Nat => q = mm) ∧ G1 mm = some (.inl (23, [.ref ag, .ref ab, .ref ah, .int ch, .ref asv, .int hs, .ref aas, .ref ain, .int ty, .int er, .ref awy, .int ir2, .ref ali, .int ln, .int th2, .int pl, .int wr, .ref ato])) ∧ qRanked f a1 = (th2, r)) gNox ([.ref mm, .int a1] : List Value).toArray s 0) (F0 m 18 ls []) := by
          intro r
          induction r with
          | zero =>
            intro o xo ac ho hr2 hxo hac
            exact absurd trivial (fun _ => (by omega))
          | succ r ih1283 =>
            intro o xo ac ho hr2 hxo hac
            intro H locs ls hI hS hl
            refine lv_iload hx hb dX4_ranked_18 (lv_at hl 0 rfl) ?_
            refine lv_aload_n hx hb dX4_ranked_20 rfl (lv_at hl 3 rfl) ?_
            refine g_get C hI c0_ kc23 0 rfl q2567 (fun _ h9 => h9) dX4_ranked_21 ?_
            refine lv_bipush (v := 24) hx hb dX4_ranked_24 (by decide) ?_
            refine g_iald (v := .int (f 24)) C hI c1_ (gix nl24 (by omega) (by omega)) (congrArg Value.int (gixv (f := f) nl24 (by omega))) dX4_ranked_26 ?_
            refine lv_icmp_ge (tgt := 74) hx hb dX4_ranked_27 (by decide) (fun c_1284 => ?_) (fun c_1284 => ?_)
            · skip
              try have k_1285 : nb ≤ o := (nI_leE hnb hxo (by omega) (by omega)).mp c_1284
              have hoe : o = nb := by omega
              refine lv_iload_n hx hb dX4_ranked_74 rfl (lv_at hl 1 rfl) ?_
              refine lv_iload_n hx hb dX4_ranked_75 rfl (lv_at hl 4 rfl) ?_
              refine lv_icmp_ne (tgt := 85) hx hb dX4_ranked_76 (by decide) (fun c_1286 => ?_) (fun c_1286 => ?_)
              · skip
                refine lv_iinc (v := xb + 1) (lv' := [(2, .int (xb + 1)), (4, .int xo), (3, .int ac), (0, .ref mm), (1, .int a1)]) hx hb dX4_ranked_85 hl (k := 2) rfl (by first | rfl | decide) (by decide) rfl (fun ls hl => ?_)
                refine lv_goto (tgt := 2) hx hb dX4_ranked_88 (by decide) ?_
                exact ih1271 (b + 1) (xb + 1) (by omega) (by omega) (gadd hxb nl1) (by rw [hrk, show nb - b = (nb - (b + 1)) + 1 by omega]; rw [rkF_s, if_pos (by rw [← hoe, ← hac]; exact c_1286)]) _ _ _ hI hS (lv_sub hl [0, 3, 4] rfl)
              · skip
                refine lv_aload_n hx hb dX4_ranked_79 rfl (lv_at hl 3 rfl) ?_
                refine lv_iload_n hx hb dX4_ranked_80 rfl (lv_at hl 2 rfl) ?_
                refine g_V (As := [.int xb]) (rest := []) (lv := [(4, .int xo), (3, .int ac), (2, .int xb), (0, .ref mm), (1, .int a1)]) C hI hS (c_X4_done l hB G n mm ag ab ah ch asv hs aas ain ty er awy ir ali ln th pl wr ato xb c0_ (by omega)) c0_ rfl rfl q2644 q2646 qs35 q94 q2647 (⟨by decide, by decide, by decide⟩ : gArg _ 1) rfl ⟨by decide, by decide⟩ (by omega) hl rfl (Nat.le_of_ble_eq_true rfl) dX4_ranked_81 (fun v1287 G1288 n1289 H locs hp1290 hI hS => ?_) gKx.no
                obtain ⟨rfl, hn1291, hF1292, c1293⟩ := hp1290
                refine W.widen (k := 0) (n := 200 * (0)) (by omega) (by omega) ?_
                have c1_ := hF1292.at c1_ (by omega) (g_on c1_ c0_)
                have hF := hF.trans hF1292 (by omega) (fun q hq => (fun h => h ▸ rfl))
                exact g_iret C hI hS (by omega) ⟨0, ir, xb, rfl, (by omega), hF, c1293, (by rw [hrk, show nb - b = (nb - (b + 1)) + 1 by omega]; rw [rkF_s, if_neg (by rw [← hoe, ← hac]; exact fun h => h c_1286), ← hxb])⟩ dX4_ranked_84
            · skip
              try have k_1294 : ¬ (nb ≤ o) := (not_congr (nI_leE hnb hxo (by omega) (by omega))).mp c_1284
              refine lv_aload_n hx hb dX4_ranked_30 rfl (lv_at hl 3 rfl) ?_
              refine lv_iload hx hb dX4_ranked_31 (lv_at hl 0 rfl) ?_
              refine g_V (As := [.int xo]) (rest := []) (lv := [(4, .int xo), (3, .int ac), (2, .int xb), (0, .ref mm), (1, .int a1)]) C hI hS (c_X4_inHold l hB G n mm ag ab ah ch asv hs aas ain ty er awy ir ali ln th pl wr ato f o xo c0_ c1_ (by omega) hxo) c0_ rfl rfl q2766 q2768 qs50 q94 q2769 (⟨by decide, by decide, by decide⟩ : gArg _ 1) rfl ⟨by decide, by decide⟩ (by omega) hl rfl (Nat.le_of_ble_eq_true rfl) dX4_ranked_33 (fun v1295 G1296 n1297 H locs hp1298 hI hS => ?_) gKx.no
              obtain ⟨rfl, eG1296, en1297⟩ := hp1298
              refine W.widen (k := 0) (n := 200 * (0)) (by omega) (by omega) ?_
              rw [eG1296, en1297] at hI
              refine lv_aload_n hx hb dX4_ranked_36 rfl (lv_at hl 3 rfl) ?_
              refine lv_iload_n hx hb dX4_ranked_37 rfl (lv_at hl 2 rfl) ?_
              refine g_V (As := [.int xb]) (rest := [.int (f (34 + o) + f (37 + o))]) (lv := [(4, .int xo), (3, .int ac), (2, .int xb), (0, .ref mm), (1, .int a1)]) C hI hS (c_X4_inHold l hB G n mm ag ab ah ch asv hs aas ain ty er awy ir ali ln th pl wr ato f b xb c0_ c1_ (by omega) hxb) c0_ rfl rfl q2766 q2768 qs50 q94 q2769 (⟨by decide, by decide, by decide⟩ : gArg _ 1) rfl ⟨by decide, by decide⟩ (by omega) hl rfl (Nat.le_of_ble_eq_true rfl) dX4_ranked_38 (fun v1301 G1302 n1303 H locs hp1304 hI hS => ?_) gKx.no
              obtain ⟨rfl, eG1302, en1303⟩ := hp1304
              refine W.widen (k := 0) (n := 200 * (0)) (by omega) (by omega) ?_
              rw [eG1302, en1303] at hI
              refine lv_isub hx hb dX4_ranked_41 ?_
              refine lv_istore (lv' := [(5, .int ((f (34 + o) + f (37 + o)) - (f (34 + b) + f (37 + b)))), (4, .int xo), (3, .int ac), (2, .int xb), (0, .ref mm), (1, .int a1)]) hx hb dX4_ranked_42 hl (by decide) rfl (fun ls hl => ?_)
              refine lv_iload_n hx hb dX4_ranked_44 rfl (lv_at hl 2 rfl) ?_
              refine lv_iload hx hb dX4_ranked_45 (lv_at hl 0 rfl) ?_
              refine lv_if_gt (tgt := 61) hx hb dX4_ranked_47 (by decide) (fun c_1307 => ?_) (fun c_1307 => ?_)
              · skip
                refine lv_iconst (v := 1) hx hb dX4_ranked_61 (by decide) ?_
                refine lv_goto (tgt := 66) hx hb dX4_ranked_62 (by decide) ?_
                refine lv_iadd hx hb dX4_ranked_66 ?_
                refine lv_istore_n (lv' := [(3, .int (ac + 1)), (5, .int ((f (34 + o) + f (37 + o)) - (f (34 + b) + f (37 + b)))), (4, .int xo), (2, .int xb), (0, .ref mm), (1, .int a1)]) hx hb dX4_ranked_67 rfl hl (by decide) rfl (fun ls hl => ?_)
                refine lv_iinc (v := xo + 1) (lv' := [(4, .int (xo + 1)), (3, .int (ac + 1)), (5, .int ((f (34 + o) + f (37 + o)) - (f (34 + b) + f (37 + b)))), (2, .int xb), (0, .ref mm), (1, .int a1)]) hx hb dX4_ranked_68 hl (k := 2) rfl (by first | rfl | decide) (by decide) rfl (fun ls hl => ?_)
                refine lv_goto (tgt := 18) hx hb dX4_ranked_71 (by decide) ?_
                exact ih1283 (o + 1) (xo + 1) (ac + 1) (by omega) (by omega) (gadd hxo nl1) (by simp [sAhead, sMore, hac, ← hxo, ← hxb, c_1272, c_1284, c_1307]) _ _ _ hI hS (lv_sub hl [0, 1, 3, 4, 5] rfl)
              · skip
                refine lv_iload hx hb dX4_ranked_50 (lv_at hl 0 rfl) ?_
                refine lv_if_ne (tgt := 65) hx hb dX4_ranked_52 (by decide) (fun c_1308 => ?_) (fun c_1308 => ?_)
                · skip
                  refine lv_iconst (v := 0) hx hb dX4_ranked_65 (by decide) ?_
                  refine lv_iadd hx hb dX4_ranked_66 ?_
                  refine lv_istore_n (lv' := [(3, .int (ac + 0)), (5, .int ((f (34 + o) + f (37 + o)) - (f (34 + b) + f (37 + b)))), (4, .int xo), (2, .int xb), (0, .ref mm), (1, .int a1)]) hx hb dX4_ranked_67 rfl hl (by decide) rfl (fun ls hl => ?_)
                  refine lv_iinc (v := xo + 1) (lv' := [(4, .int (xo + 1)), (3, .int (ac + 0)), (5, .int ((f (34 + o) + f (37 + o)) - (f (34 + b) + f (37 + b)))), (2, .int xb), (0, .ref mm), (1, .int a1)]) hx hb dX4_ranked_68 hl (k := 2) rfl (by first | rfl | decide) (by decide) rfl (fun ls hl => ?_)
                  refine lv_goto (tgt := 18) hx hb dX4_ranked_71 (by decide) ?_
                  exact ih1283 (o + 1) (xo + 1) (ac + 0) (by omega) (by omega) (gadd hxo nl1) (by simp [sAhead, sMore, hac, ← hxo, ← hxb, c_1272, c_1284, c_1307, c_1308]) _ _ _ hI hS (lv_sub hl [0, 1, 3, 4, 5] rfl)
                · skip
                  refine lv_iload hx hb dX4_ranked_55 (lv_at hl 1 rfl) ?_
                  refine lv_iload_n hx hb dX4_ranked_57 rfl (lv_at hl 3 rfl) ?_
                  refine lv_icmp_ge (tgt := 65) hx hb dX4_ranked_58 (by decide) (fun c_1309 => ?_) (fun c_1309 => ?_)
                  · skip
                    try have k_1310 : b ≤ o := (nI_leE hxb hxo (by omega) (by omega)).mp c_1309
                    refine lv_iconst (v := 0) hx hb dX4_ranked_65 (by decide) ?_
                    refine lv_iadd hx hb dX4_ranked_66 ?_
                    refine lv_istore_n (lv' := [(3, .int (ac + 0)), (5, .int ((f (34 + o) + f (37 + o)) - (f (34 + b) + f (37 + b)))), (4, .int xo), (2, .int xb), (0, .ref mm), (1, .int a1)]) hx hb dX4_ranked_67 rfl hl (by decide) rfl (fun ls hl => ?_)
                    refine lv_iinc (v := xo + 1) (lv' := [(4, .int (xo + 1)), (3, .int (ac + 0)), (5, .int ((f (34 + o) + f (37 + o)) - (f (34 + b) + f (37 + b)))), (2, .int xb), (0, .ref mm), (1, .int a1)]) hx hb dX4_ranked_68 hl (k := 2) rfl (by first | rfl | decide) (by decide) rfl (fun ls hl => ?_)
                    refine lv_goto (tgt := 18) hx hb dX4_ranked_71 (by decide) ?_
                    exact ih1283 (o + 1) (xo + 1) (ac + 0) (by omega) (by omega) (gadd hxo nl1) (by simp [sAhead, sMore, hac, ← hxo, ← hxb, c_1272, c_1284, c_1307, eq_true c_1308, c_1309]) _ _ _ hI hS (lv_sub hl [0, 1, 3, 4, 5] rfl)
                  · skip
                    try have k_1311 : ¬ (b ≤ o) := (not_congr (nI_leE hxb hxo (by omega) (by omega))).mp c_1309
                    refine lv_iconst (v := 1) hx hb dX4_ranked_61 (by decide) ?_
                    refine lv_goto (tgt := 66) hx hb dX4_ranked_62 (by decide) ?_
                    refine lv_iadd hx hb dX4_ranked_66 ?_
                    refine lv_istore_n (lv' := [(3, .int (ac + 1)), (5, .int ((f (34 + o) + f (37 + o)) - (f (34 + b) + f (37 + b)))), (4, .int xo), (2, .int xb), (0, .ref mm), (1, .int a1)]) hx hb dX4_ranked_67 rfl hl (by decide) rfl (fun ls hl => ?_)
                    refine lv_iinc (v := xo + 1) (lv' := [(4, .int (xo + 1)), (3, .int (ac + 1)), (5, .int ((f (34 + o) + f (37 + o)) - (f (34 + b) + f (37 + b)))), (2, .int xb), (0, .ref mm), (1, .int a1)]) hx hb dX4_ranked_68 hl (k := 2) rfl (by first | rfl | decide) (by decide) rfl (fun ls hl => ?_)
                    refine lv_goto (tgt := 18) hx hb dX4_ranked_71 (by decide) ?_
                    exact ih1283 (o + 1) (xo + 1) (ac + 1) (by omega) (by omega) (gadd hxo nl1) (by simp [sAhead, sMore, hac, ← hxo, ← hxb, c_1272, c_1284, c_1307, eq_true c_1308, c_1309]) _ _ _ hI hS (lv_sub hl [0, 1, 3, 4, 5] rfl)
        exact key1282 (nb + 1) 0 0 0 (by omega) (by omega) nl0 rfl _ _ _ hI hS (lv_sub hl [0, 1, 2, 3, 4] rfl)
  exact key1270 (nb + 1) 0 0 (by omega) (by omega) nl0 (by unfold qRanked; rw [t24]; rfl) _ _ _ hI hS (lv_sub hl [0, 1, 2] rfl)
set_option maxHeartbeats 4000000 in
set_option maxRecDepth 100000 in
theorem c_X4_ofSize (l : Launch) {D : gD} (hB : gBs D) (G : gH) (n : Nat) (mm : Nat) (ag : Nat) (ab : Nat) (ah : Nat) (ch : Int32) (asv : Nat) (hs : Int32) (aas : Nat) (ain : Nat) (ty : Int32) (er : Int32) (awy : Nat) (ir : Int32) (ali : Nat) (ln : Int32) (th : Int32) (pl : Int32) (wr : Int32) (ato : Nat) (f : Nat → Int32) (zx : Nat) (a1 : Int32) (c0_ : G mm = some (.inl (23, [.ref ag, .ref ab, .ref ah, .int ch, .ref asv, .int hs, .ref aas, .ref ain, .int ty, .int er, .ref awy, .int ir, .ref ali, .int ln, .int th, .int pl, .int wr, .ref ato]))) (c1_ : G ag = some (aI 112 f)) (hz2 : zx ≤ 2) (ez : a1 = nI zx) : gMet l D yX4_ofSize (ws_ yX4_ofSize cX4_ofSize 4 (some FieldType.int)) 1 0 G n [.ref mm, .int a1] (fun (v : Option Value) (G1 : gH) (n1 : Nat) => v = some (.int (sOf f zx 6)) ∧ G1 = G ∧ n1 = n) gNox := by
  refine g_start (by decide) (Nat.le_of_ble_eq_true rfl) ?_
  intro p e s m below meth c ls C hnm hxt hI hl
  have hx := C.x
  have hb := C.b
  have hS : va_S (gA D) s.heap s.heap [] := va_S.rf
  have hz0 := hI.z
  have lc0_ := hI.lt c0_
  have lc1_ := hI.lt c1_
  have hF : gF G G n gNone := gF.rf _ _ _
  have hl : lv_has ls 4 [(0, .ref mm), (1, .int a1)] := hl
  refine lv_iconst (v := 0) hx hb dX4_ofSize_0 (by decide) ?_
  refine lv_istore_n (lv' := [(2, .int 0), (0, .ref mm), (1, .int a1)]) hx hb dX4_ofSize_1 rfl hl (by decide) rfl (fun ls hl => ?_)
  refine lv_iconst (v := 0) hx hb dX4_ofSize_2 (by decide) ?_
  refine lv_istore_n (lv' := [(3, .int 0), (2, .int 0), (0, .ref mm), (1, .int a1)]) hx hb dX4_ofSize_3 rfl hl (by decide) rfl (fun ls hl => ?_)
  have key1312 : ∀ (r : Nat) (i : Nat) (xi : Int32) (acc : Int32), (i ≤ 6) → (6 < i + r) → (xi = nI i) → (acc = sOf f zx i) → ∀ (H : Heap) (locs : List Loc) (ls : Array Slot), gI D G n H → va_S (gA D) s.heap H locs → lv_has ls 4 [(3, .int xi), (2, .int acc), (0, .ref mm), (1, .int a1)] → W p l e (gR 1 0) s m ([.ref mm, .int a1] : List Value).toArray below meth c H locs (0) (200 * (0)) (gM below D (fun (v : Option Value) (G1 : gH) (n1 : Nat) => v = some (.int (sOf f zx 6)) ∧ G1 = G ∧ n1 = n) gNox ([.ref mm, .int a1] : List Value).toArray s 0) (F0 m 4 ls []) := by
    intro r
    induction r with
    | zero =>
      intro i xi acc hi hr hxi hac
      exact absurd trivial (fun _ => (by omega))
    | succ r ih1313 =>
      intro i xi acc hi hr hxi hac
      intro H locs ls hI hS hl
      refine lv_iload_n hx hb dX4_ofSize_4 rfl (lv_at hl 0 rfl) ?_
      refine lv_bipush (v := 6) hx hb dX4_ofSize_5 (by decide) ?_
      refine lv_icmp_ge (tgt := 31) hx hb dX4_ofSize_7 (by decide) (fun c_1314 => ?_) (fun c_1314 => ?_)
      · skip
        try have k_1315 : 6 ≤ i := (nI_leE nl6 hxi (by omega) (by omega)).mp c_1314
        have hie : i = 6 := by omega
        refine lv_iload_n hx hb dX4_ofSize_31 rfl (lv_at hl 1 rfl) ?_
        exact g_iret C hI hS (by omega) ⟨(by rw [hac, hie]), rfl, rfl⟩ dX4_ofSize_32
      · skip
        try have k_1316 : ¬ (6 ≤ i) := (not_congr (nI_leE nl6 hxi (by omega) (by omega))).mp c_1314
        refine lv_iload_n hx hb dX4_ofSize_10 rfl (lv_at hl 1 rfl) ?_
        refine lv_aload_n hx hb dX4_ofSize_11 rfl (lv_at hl 2 rfl) ?_
        refine g_get C hI c0_ kc23 0 rfl q2567 (fun _ h9 => h9) dX4_ofSize_12 ?_
        refine lv_iconst (v := 3) hx hb dX4_ofSize_15 (by decide) ?_
        refine lv_iconst (v := 3) hx hb dX4_ofSize_16 (by decide) ?_
        refine lv_iload_n hx hb dX4_ofSize_17 rfl (lv_at hl 0 rfl) ?_
        refine lv_imul hx hb dX4_ofSize_18 ?_
        refine lv_iadd hx hb dX4_ofSize_19 ?_
        refine lv_iload_n hx hb dX4_ofSize_20 rfl (lv_at hl 3 rfl) ?_
        refine lv_iadd hx hb dX4_ofSize_21 ?_
        refine g_iald (v := .int (f ((3 + (3 * i)) + zx))) C hI c1_ (gix (gadd (gadd nl3 (gmul nl3 hxi)) ez) (by omega) (by omega)) (congrArg Value.int (gixv (f := f) (gadd (gadd nl3 (gmul nl3 hxi)) ez) (by omega))) dX4_ofSize_22 ?_
        refine lv_iadd hx hb dX4_ofSize_23 ?_
        refine lv_istore_n (lv' := [(2, .int (acc + (f ((3 + (3 * i)) + zx)))), (3, .int xi), (0, .ref mm), (1, .int a1)]) hx hb dX4_ofSize_24 rfl hl (by decide) rfl (fun ls hl => ?_)
        refine lv_iinc (v := xi + 1) (lv' := [(3, .int (xi + 1)), (2, .int (acc + (f ((3 + (3 * i)) + zx)))), (0, .ref mm), (1, .int a1)]) hx hb dX4_ofSize_25 hl (k := 1) rfl (by first | rfl | decide) (by decide) rfl (fun ls hl => ?_)
        refine lv_goto (tgt := 4) hx hb dX4_ofSize_28 (by decide) ?_
        exact ih1313 (i + 1) (xi + 1) (acc + (f ((3 + (3 * i)) + zx))) (by omega) (by omega) (gadd hxi nl1) (by rw [hac]; rfl) _ _ _ hI hS (lv_sub hl [0, 1, 2, 3] rfl)
  exact key1312 7 0 0 0 (by omega) (by omega) nl0 rfl _ _ _ hI hS (lv_sub hl [0, 1, 2, 3] rfl)
set_option maxHeartbeats 4000000 in
set_option maxRecDepth 100000 in
theorem c_X4_whelksIn (l : Launch) {D : gD} (hB : gBs D) (G : gH) (n : Nat) (mm : Nat) (ag : Nat) (ab : Nat) (ah : Nat) (ch : Int32) (asv : Nat) (hs : Int32) (aas : Nat) (ain : Nat) (ty : Int32) (er : Int32) (awy : Nat) (ir : Int32) (ali : Nat) (ln : Int32) (th : Int32) (pl : Int32) (wr : Int32) (ato : Nat) (f : Nat → Int32) (fa : Nat → Int32) (nb : Nat) (ns : Nat) (a1 : Int32) (a2 : Int32) (c0_ : G mm = some (.inl (23, [.ref ag, .ref ab, .ref ah, .int ch, .ref asv, .int hs, .ref aas, .ref ain, .int ty, .int er, .ref awy, .int ir, .ref ali, .int ln, .int th, .int pl, .int wr, .ref ato]))) (c1_ : G ag = some (aI 112 f)) (c2_ : G aas = some (aI 112 fa)) (hz : gz D ≤ mm) (hzg : gz D ≤ ag) (hza : gz D ≤ aas) (hne : ag ≠ aas) (zf : rZ f) (zfa : rZ fa) (hnb : f 24 = nI nb) (hb3 : nb ≤ 3) (hns : f 46 = nI ns) (hs10 : ns ≤ 10) (hat : ∀ s, s < ns → f (57 + s) = -1 ∨ ∃ p, p ≤ 5 ∧ f (57 + s) = nI p) : gMet l D yX4_whelksIn (ws_ yX4_whelksIn cX4_whelksIn 5 (some FieldType.int)) 4 0 G n [.ref mm, .int a1, .int a2] (fun (v : Option Value) (G1 : gH) (n1 : Nat) => ∃ (th2 : Int32) (ir2 : Int32) (r : Int32) (fa2 : Nat → Int32), v = some (.int r) ∧ n ≤ n1 ∧ gF G G1 n (fun q : Nat => q = mm ∨ q = ag ∨ q = aas) ∧ G1 mm = some (.inl (23, [.ref ag, .ref ab, .ref ah, .int ch, .ref asv, .int hs, .ref aas, .ref ain, .int ty, .int er, .ref awy, .int ir2, .ref ali, .int ln, .int th2, .int pl, .int wr, .ref ato])) ∧ G1 ag = some (aI 112 f) ∧ G1 aas = some (aI 112 fa2) ∧ rZ fa2 ∧ qWhelksIn f a1 a2 = (th2, r)) gNox := by
  refine g_start (by decide) (Nat.le_of_ble_eq_true rfl) ?_
  intro p e s m below meth c ls C hnm hxt hI hl
  have hx := C.x
  have hb := C.b
  have hS : va_S (gA D) s.heap s.heap [] := va_S.rf
  have hz0 := hI.z
  have lc0_ := hI.lt c0_
  have lc1_ := hI.lt c1_
  have lc2_ := hI.lt c2_
  have hF : gF G G n (fun q : Nat => q = mm ∨ q = ag ∨ q = aas) := gF.rf _ _ _
  have hl : lv_has ls 5 [(0, .ref mm), (1, .int a1), (2, .int a2)] := hl
  refine lv_iload_n hx hb dX4_whelksIn_0 rfl (lv_at hl 1 rfl) ?_
  refine g_S (As := [.int a1]) (rest := []) (lv := [(0, .ref mm), (1, .int a1), (2, .int a2)]) C hI hS (c_X4_isSize l hB G n a1  ) q2641 q2642 q94 q2643 (⟨by decide, by decide, by decide⟩ : gArg _ 1) rfl ⟨by decide, by decide⟩ (by omega) hl rfl (Nat.le_of_ble_eq_true rfl) dX4_whelksIn_1 (fun v1317 G1318 n1319 H locs hp1320 hI hS => ?_) gKx.no
  obtain ⟨rfl, eG1318, en1319⟩ := hp1320
  refine W.widen (k := 0) (n := 200 * (0)) (by omega) (by omega) ?_
  rw [eG1318, en1319] at hI
  refine lv_if_eq (tgt := 17) hx hb dX4_whelksIn_4 (by decide) (fun c_1323 => ?_) (fun c_1323 => ?_)
  · skip
    refine lv_aload_n hx hb dX4_whelksIn_17 rfl (lv_at hl 0 rfl) ?_
    refine lv_iconst (v := 1) hx hb dX4_whelksIn_18 (by decide) ?_
    refine g_V (As := [.int 1]) (rest := []) (lv := [(0, .ref mm), (1, .int a1), (2, .int a2)]) C hI hS (c_X4_fails l hB G n mm ag ab ah ch asv hs aas ain ty er awy ir ali ln th pl wr ato 1 c0_ (by omega)) c0_ rfl rfl q2637 q2639 qs34 q94 q2640 (⟨by decide, by decide, by decide⟩ : gArg _ 1) rfl ⟨by decide, by decide⟩ (by omega) hl rfl (Nat.le_of_ble_eq_true rfl) dX4_whelksIn_19 (fun v1324 G1325 n1326 H locs hp1327 hI hS => ?_) gKx.no
    obtain ⟨rfl, hn1328, hF1329, c1330⟩ := hp1327
    refine W.widen (k := 0) (n := 200 * (0)) (by omega) (by omega) ?_
    have c1_ := hF1329.at c1_ (by omega) (g_on c1_ c0_)
    have c2_ := hF1329.at c2_ (by omega) (g_on c2_ c0_)
    have hF := hF.trans hF1329 (by omega) (fun q hq => (fun h => h ▸ (Or.inl rfl)))
    exact g_iret C hI hS (by omega) ⟨1, 0, 0, fa, rfl, (by omega), hF, c1330, c1_, c2_, (by assumption), (by simp [qWhelksIn, c_1323])⟩ dX4_whelksIn_22
  · skip
    obtain ⟨j_a1, hj_a1, ej_a1⟩ := gin_ok (k := 2) c_1323 (by decide)
    have tj_a1 : a1.toNatClampNeg = j_a1 := by rw [ej_a1]; exact nI_clamp (by omega)
    refine lv_iload_n hx hb dX4_whelksIn_7 rfl (lv_at hl 2 rfl) ?_
    refine lv_iconst (v := 0) hx hb dX4_whelksIn_8 (by decide) ?_
    refine lv_bipush (v := 60) hx hb dX4_whelksIn_9 (by decide) ?_
    refine g_S (As := [.int a2, .int 0, .int 60]) (rest := []) (lv := [(0, .ref mm), (1, .int a1), (2, .int a2)]) C hI hS (c_X4_in l hB G n a2 0 60  ) q2634 q2635 q94 q2636 (⟨by decide, by decide, by decide⟩ : gArg _ 3) rfl ⟨by decide, by decide⟩ (by omega) hl rfl (Nat.le_of_ble_eq_true rfl) dX4_whelksIn_11 (fun v1331 G1332 n1333 H locs hp1334 hI hS => ?_) gKx.no
    obtain ⟨rfl, eG1332, en1333⟩ := hp1334
    refine W.widen (k := 0) (n := 200 * (0)) (by omega) (by omega) ?_
    rw [eG1332, en1333] at hI
    refine lv_if_ne (tgt := 23) hx hb dX4_whelksIn_14 (by decide) (fun c_1337 => ?_) (fun c_1337 => ?_)
    · skip
      obtain ⟨j_a2, hj_a2, ej_a2⟩ := gin_ok (k := 60) c_1337 (by decide)
      have tj_a2 : a2.toNatClampNeg = j_a2 := by rw [ej_a2]; exact nI_clamp (by omega)
      refine lv_aload_n hx hb dX4_whelksIn_23 rfl (lv_at hl 0 rfl) ?_
      refine g_get C hI c0_ kc23 0 rfl q2567 (fun _ h9 => h9) dX4_whelksIn_24 ?_
      refine lv_iconst (v := 0) hx hb dX4_whelksIn_27 (by decide) ?_
      refine lv_aload_n hx hb dX4_whelksIn_28 rfl (lv_at hl 0 rfl) ?_
      refine g_get C hI c0_ kc23 6 rfl q2573 (fun _ h9 => h9) dX4_whelksIn_29 ?_
      refine lv_iconst (v := 0) hx hb dX4_whelksIn_32 (by decide) ?_
      refine g_S (As := [.ref ag, .int 0, .ref aas, .int 0]) (rest := []) (lv := [(0, .ref mm), (1, .int a1), (2, .int a2)]) C hI hS (c_X4_copy l hB G n ag aas 112 112 f fa 0 0 0 0 c1_ c2_ (by omega) hne (by omega) (by omega) (by omega) (by omega) nl0 nl0) q2656 q2657 q94 q2658 (⟨by decide, by decide, by decide⟩ : gArg _ 4) rfl ⟨by decide, by decide⟩ (by omega) hl rfl (Nat.le_of_ble_eq_true rfl) dX4_whelksIn_33 (fun v1338 G1339 n1340 H locs hp1341 hI hS => ?_) gKx.no
      obtain ⟨rfl, hn1342, hF1343, c1344⟩ := hp1341
      refine W.widen (k := 0) (n := 200 * (0)) (by omega) (by omega) ?_
      have c0_ := hF1343.at c0_ (by omega) (g_no c0_ c2_)
      have c1_ := hF1343.at c1_ (by omega) hne
      have hF := hF.trans hF1343 (by omega) (fun q hq => (fun h => h ▸ (Or.inr (Or.inr (rfl)))))
      rw [rZ_cp zf zfa] at c1344
      refine lv_iconst (v := 0) hx hb dX4_whelksIn_36 (by decide) ?_
      refine lv_istore_n (lv' := [(3, .int 0), (0, .ref mm), (1, .int a1), (2, .int a2)]) hx hb dX4_whelksIn_37 rfl hl (by decide) rfl (fun ls hl => ?_)
      have key1345 : ∀ (r : Nat) (i : Nat) (xi : Int32), (i ≤ j_a2) → (j_a2 < i + r) → (xi = nI i) → ∀ (G1346 : gH) (n1347 : Nat) (H : Heap) (locs : List Loc) (ls : Array Slot), G1346 mm = some (.inl (23, [.ref ag, .ref ab, .ref ah, .int ch, .ref asv, .int hs, .ref aas, .ref ain, .int ty, .int er, .ref awy, .int ir, .ref ali, .int ln, .int th, .int pl, .int wr, .ref ato])) → G1346 ag = some (aI 112 ((dDays f i).1)) → G1346 aas = some (aI 112 f) → n1340 ≤ n1347 → gI D G1346 n1347 H → va_S (gA D) s.heap H locs → gF G G1346 n (fun q : Nat => q = mm ∨ q = ag ∨ q = aas) → lv_has ls 5 [(3, .int xi), (0, .ref mm), (1, .int a1), (2, .int a2)] → W p l e (gR 4 0) s m ([.ref mm, .int a1, .int a2] : List Value).toArray below meth c H locs (0) (200 * (0)) (gM below D (fun (v : Option Value) (G1 : gH) (n1 : Nat) => ∃ (th2 : Int32) (ir2 : Int32) (r : Int32) (fa2 : Nat → Int32), v = some (.int r) ∧ n ≤ n1 ∧ gF G G1 n (fun q : Nat => q = mm ∨ q = ag ∨ q = aas) ∧ G1 mm = some (.inl (23, [.ref ag, .ref ab, .ref ah, .int ch, .ref asv, .int hs, .ref aas, .ref ain, .int ty, .int er, .ref awy, .int ir2, .ref ali, .int ln, .int th2, .int pl, .int wr, .ref ato])) ∧ G1 ag = some (aI 112 f) ∧ G1 aas = some (aI 112 fa2) ∧ rZ fa2 ∧ qWhelksIn f a1 a2 = (th2, r)) gNox ([.ref mm, .int a1, .int a2] : List Value).toArray s 0) (F0 m 38 ls []) := by
        intro r
        induction r with
        | zero =>
          intro i xi hi hr hxi
          exact absurd trivial (fun _ => (by omega))
        | succ r ih1351 =>
          intro i xi hi hr hxi
          intro G1346 n1347 H locs ls c1348 c1349 c1350 hn1352 hI hS hF hl
          refine lv_iload_n hx hb dX4_whelksIn_38 rfl (lv_at hl 0 rfl) ?_
          refine lv_iload_n hx hb dX4_whelksIn_39 rfl (lv_at hl 3 rfl) ?_
          refine lv_icmp_ge (tgt := 55) hx hb dX4_whelksIn_40 (by decide) (fun c_1353 => ?_) (fun c_1353 => ?_)
          · skip
            try have k_1354 : j_a2 ≤ i := (nI_leE ej_a2 hxi (by omega) (by omega)).mp c_1353
            have hie : i = j_a2 := by omega
            rw [hie] at c1349
            refine lv_aload_n hx hb dX4_whelksIn_55 rfl (lv_at hl 1 rfl) ?_
            refine lv_iload_n hx hb dX4_whelksIn_56 rfl (lv_at hl 2 rfl) ?_
            refine g_V (As := [.int a1]) (rest := []) (lv := [(3, .int xi), (0, .ref mm), (1, .int a1), (2, .int a2)]) C hI hS (c_X4_ofSize l hB G1346 n1347 mm ag ab ah ch asv hs aas ain ty er awy ir ali ln th pl wr ato ((dDays f j_a2).1) j_a1 a1 c1348 c1349 (by omega) ej_a1) c1348 rfl rfl q2829 q2831 qs58 q94 q2832 (⟨by decide, by decide, by decide⟩ : gArg _ 1) rfl ⟨by decide, by decide⟩ (by omega) hl rfl (Nat.le_of_ble_eq_true rfl) dX4_whelksIn_57 (fun v1355 G1356 n1357 H locs hp1358 hI hS => ?_) gKx.no
            obtain ⟨rfl, eG1356, en1357⟩ := hp1358
            refine W.widen (k := 0) (n := 200 * (0)) (by omega) (by omega) ?_
            rw [eG1356, en1357] at hI
            refine lv_istore_n (lv' := [(3, .int (sOf ((dDays f j_a2).1) j_a1 6)), (0, .ref mm), (1, .int a1), (2, .int a2)]) hx hb dX4_whelksIn_60 rfl hl (by decide) rfl (fun ls hl => ?_)
            refine lv_aload_n hx hb dX4_whelksIn_61 rfl (lv_at hl 1 rfl) ?_
            refine g_get C hI c1348 kc23 6 rfl q2573 (fun _ h9 => h9) dX4_whelksIn_62 ?_
            refine lv_iconst (v := 0) hx hb dX4_whelksIn_65 (by decide) ?_
            refine lv_aload_n hx hb dX4_whelksIn_66 rfl (lv_at hl 1 rfl) ?_
            refine g_get C hI c1348 kc23 0 rfl q2567 (fun _ h9 => h9) dX4_whelksIn_67 ?_
            refine lv_iconst (v := 0) hx hb dX4_whelksIn_70 (by decide) ?_
            refine g_S (As := [.ref aas, .int 0, .ref ag, .int 0]) (rest := []) (lv := [(3, .int (sOf ((dDays f j_a2).1) j_a1 6)), (0, .ref mm), (1, .int a1), (2, .int a2)]) C hI hS (c_X4_copy l hB G1346 n1347 aas ag 112 112 f ((dDays f j_a2).1) 0 0 0 0 c1350 c1349 (by omega) (Ne.symm hne) (by omega) (by omega) (by omega) (by omega) nl0 nl0) q2656 q2657 q94 q2658 (⟨by decide, by decide, by decide⟩ : gArg _ 4) rfl ⟨by decide, by decide⟩ (by omega) hl rfl (Nat.le_of_ble_eq_true rfl) dX4_whelksIn_71 (fun v1361 G1362 n1363 H locs hp1364 hI hS => ?_) gKx.no
            obtain ⟨rfl, hn1365, hF1366, c1367⟩ := hp1364
            refine W.widen (k := 0) (n := 200 * (0)) (by omega) (by omega) ?_
            have c1348 := hF1366.at c1348 (by omega) (g_no c1348 c1349)
            have c1350 := hF1366.at c1350 (by omega) (Ne.symm hne)
            have hF := hF.trans hF1366 (by omega) (fun q hq => (fun h => h ▸ (Or.inr (Or.inl rfl))))
            rw [rZ_cp zf (dDays_Z zf hnb hb3 hns hs10 j_a2)] at c1367
            refine lv_aload_n hx hb dX4_whelksIn_74 rfl (lv_at hl 1 rfl) ?_
            refine lv_iload_n hx hb dX4_whelksIn_75 rfl (lv_at hl 0 rfl) ?_
            refine g_V (As := [.int (sOf ((dDays f j_a2).1) j_a1 6)]) (rest := []) (lv := [(3, .int (sOf ((dDays f j_a2).1) j_a1 6)), (0, .ref mm), (1, .int a1), (2, .int a2)]) C hI hS (c_X4_done l hB G1362 n1363 mm ag ab ah ch asv hs aas ain ty er awy ir ali ln th pl wr ato (sOf ((dDays f j_a2).1) j_a1 6) c1348 (by omega)) c1348 rfl rfl q2644 q2646 qs35 q94 q2647 (⟨by decide, by decide, by decide⟩ : gArg _ 1) rfl ⟨by decide, by decide⟩ (by omega) hl rfl (Nat.le_of_ble_eq_true rfl) dX4_whelksIn_76 (fun v1368 G1369 n1370 H locs hp1371 hI hS => ?_) gKx.no
            obtain ⟨rfl, hn1372, hF1373, c1374⟩ := hp1371
            refine W.widen (k := 0) (n := 200 * (0)) (by omega) (by omega) ?_
            have c1350 := hF1373.at c1350 (by omega) (g_on c1350 c1348)
            have c1367 := hF1373.at c1367 (by omega) (g_on c1367 c1348)
            have hF := hF.trans hF1373 (by omega) (fun q hq => (fun h => h ▸ (Or.inl rfl)))
            exact g_iret C hI hS (by omega) ⟨0, ir, sOf ((dDays f j_a2).1) j_a1 6, f, rfl, (by omega), hF, c1374, c1367, c1350, (by assumption), (by simp [qWhelksIn, c_1323, tj_a1, c_1337, tj_a2, c_1353, hie])⟩ dX4_whelksIn_79
          · skip
            try have k_1375 : ¬ (j_a2 ≤ i) := (not_congr (nI_leE ej_a2 hxi (by omega) (by omega))).mp c_1353
            refine lv_aload_n hx hb dX4_whelksIn_43 rfl (lv_at hl 1 rfl) ?_
            refine g_V (As := []) (rest := []) (lv := [(3, .int xi), (0, .ref mm), (1, .int a1), (2, .int a2)]) C hI hS (c_X4_goesDay l hB G1346 n1347 mm ag ab ah ch asv hs aas ain ty er awy ir ali ln th pl wr ato ((dDays f i).1) _ _ c1348 c1349 (by omega) (by rw [dDays_at hnb hb3 hns hs10 (by omega)]; exact hnb) (by omega) (by rw [dDays_at hnb hb3 hns hs10 (by omega)]; exact hns) (by omega)) c1348 rfl rfl q2778 q2780 qs52 q94 q2781 (⟨by decide, by decide, by decide⟩ : gArg _ 0) rfl ⟨by decide, by decide⟩ (by omega) hl rfl (Nat.le_of_ble_eq_true rfl) dX4_whelksIn_44 (fun v1376 G1377 n1378 H locs hp1379 hI hS => ?_) gKx.no
            obtain ⟨rfl, hn1380, hF1381, c1382⟩ := hp1379
            refine W.widen (k := 0) (n := 200 * (0)) (by omega) (by omega) ?_
            have c1348 := hF1381.at c1348 (by omega) (g_no c1348 c1349)
            have c1350 := hF1381.at c1350 (by omega) (Ne.symm hne)
            have hF := hF.trans hF1381 (by omega) (fun q hq => (fun h => h ▸ (Or.inr (Or.inl rfl))))
            refine lv_istore (lv' := [(4, .int ((dDay ((dDays f i).1)).2)), (3, .int xi), (0, .ref mm), (1, .int a1), (2, .int a2)]) hx hb dX4_whelksIn_47 hl (by decide) rfl (fun ls hl => ?_)
            refine lv_iinc (v := xi + 1) (lv' := [(3, .int (xi + 1)), (4, .int ((dDay ((dDays f i).1)).2)), (0, .ref mm), (1, .int a1), (2, .int a2)]) hx hb dX4_whelksIn_49 hl (k := 1) rfl (by first | rfl | decide) (by decide) rfl (fun ls hl => ?_)
            refine lv_goto (tgt := 38) hx hb dX4_whelksIn_52 (by decide) ?_
            have c1382 : G1377 ag = some (aI 112 (dDays f (i + 1)).1) := c1382
            exact ih1351 (i + 1) (xi + 1) (by omega) (by omega) (gadd hxi nl1) _ _ _ _ _ c1348 c1382 c1350 (by omega) hI hS hF (lv_sub hl [0, 2, 3, 4] rfl)
      exact key1345 (j_a2 + 1) 0 0 (by omega) (by omega) nl0 _ _ _ _ _ c0_ c1_ c1344 (Nat.le_refl _) hI hS hF (lv_sub hl [0, 1, 2, 3] rfl)
    · skip
      refine lv_aload_n hx hb dX4_whelksIn_17 rfl (lv_at hl 0 rfl) ?_
      refine lv_iconst (v := 1) hx hb dX4_whelksIn_18 (by decide) ?_
      refine g_V (As := [.int 1]) (rest := []) (lv := [(0, .ref mm), (1, .int a1), (2, .int a2)]) C hI hS (c_X4_fails l hB G n mm ag ab ah ch asv hs aas ain ty er awy ir ali ln th pl wr ato 1 c0_ (by omega)) c0_ rfl rfl q2637 q2639 qs34 q94 q2640 (⟨by decide, by decide, by decide⟩ : gArg _ 1) rfl ⟨by decide, by decide⟩ (by omega) hl rfl (Nat.le_of_ble_eq_true rfl) dX4_whelksIn_19 (fun v1383 G1384 n1385 H locs hp1386 hI hS => ?_) gKx.no
      obtain ⟨rfl, hn1387, hF1388, c1389⟩ := hp1386
      refine W.widen (k := 0) (n := 200 * (0)) (by omega) (by omega) ?_
      have c1_ := hF1388.at c1_ (by omega) (g_on c1_ c0_)
      have c2_ := hF1388.at c2_ (by omega) (g_on c2_ c0_)
      have hF := hF.trans hF1388 (by omega) (fun q hq => (fun h => h ▸ (Or.inl rfl)))
      exact g_iret C hI hS (by omega) ⟨1, 0, 0, fa, rfl, (by omega), hF, c1389, c1_, c2_, (by assumption), (by simp [qWhelksIn, c_1323, tj_a1, c_1337])⟩ dX4_whelksIn_22
