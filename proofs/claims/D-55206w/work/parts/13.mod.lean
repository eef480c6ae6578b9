/-! THE REFERENCE, 2: changes -/
set_option maxHeartbeats 4000000 in
set_option maxRecDepth 100000 in
theorem c_X4_looksBack (l : Launch) {D : gD} (hB : gBs D) (G : gH) (n : Nat) (mm : Nat) (ag : Nat) (ab : Nat) (ah : Nat) (ch : Int32) (asv : Nat) (hs : Int32) (aas : Nat) (ain : Nat) (ty : Int32) (er : Int32) (awy : Nat) (ir : Int32) (ali : Nat) (ln : Int32) (th : Int32) (pl : Int32) (wr : Int32) (ato : Nat) (f : Nat → Int32) (f0 : Nat → Int32) (c0_ : G mm = some (.inl (23, [.ref ag, .ref ab, .ref ah, .int ch, .ref asv, .int hs, .ref aas, .ref ain, .int ty, .int er, .ref awy, .int ir, .ref ali, .int ln, .int th, .int pl, .int wr, .ref ato]))) (c1_ : G ag = some (aI 112 f)) (c2_ : G ab = some (aI 112 f0)) (hzb : gz D ≤ ab) (hne : ag ≠ ab) (zf : rZ f) (zf0 : rZ f0) : gMet l D yX4_looksBack (ws_ yX4_looksBack cX4_looksBack 1 none) 2 0 G n [.ref mm] (fun (v : Option Value) (G1 : gH) (n1 : Nat) => v = none ∧ n ≤ n1 ∧ gF G G1 n (fun q : Nat => q = ab) ∧ G1 ab = some (aI 112 f)) gNox := by
  refine g_start (by decide) (Nat.le_of_ble_eq_true rfl) ?_
  intro p e s m below meth c ls C hnm hxt hI hl
  have hx := C.x
  have hb := C.b
  have hS : va_S (gA D) s.heap s.heap [] := va_S.rf
  have hz0 := hI.z
  have lc0_ := hI.lt c0_
  have lc1_ := hI.lt c1_
  have lc2_ := hI.lt c2_
  have hF : gF G G n (fun q : Nat => q = ab) := gF.rf _ _ _
  have hl : lv_has ls 1 [(0, .ref mm)] := hl
  refine lv_aload_n hx hb dX4_looksBack_0 rfl (lv_at hl 0 rfl) ?_
  refine g_get C hI c0_ kc23 0 rfl q2567 (fun _ h9 => h9) dX4_looksBack_1 ?_
  refine lv_iconst (v := 0) hx hb dX4_looksBack_4 (by decide) ?_
  refine lv_aload_n hx hb dX4_looksBack_5 rfl (lv_at hl 0 rfl) ?_
  refine g_get C hI c0_ kc23 1 rfl q2568 (fun _ h9 => h9) dX4_looksBack_6 ?_
  refine lv_iconst (v := 0) hx hb dX4_looksBack_9 (by decide) ?_
  refine g_S (As := [.ref ag, .int 0, .ref ab, .int 0]) (rest := []) (lv := [(0, .ref mm)]) C hI hS (c_X4_copy l hB G n ag ab 112 112 f f0 0 0 0 0 c1_ c2_ (by omega) hne (by omega) (by omega) (by omega) (by omega) nl0 nl0) q2656 q2657 q94 q2658 (⟨by decide, by decide, by decide⟩ : gArg _ 4) rfl ⟨by decide, by decide⟩ (by omega) hl rfl (Nat.le_of_ble_eq_true rfl) dX4_looksBack_10 (fun v357 G358 n359 H locs hp360 hI hS => ?_) gKx.no
  obtain ⟨rfl, hn361, hF362, c363⟩ := hp360
  refine W.widen (k := 0) (n := 200 * (0)) (by omega) (by omega) ?_
  have c0_ := hF362.at c0_ (by omega) (g_no c0_ c2_)
  have c1_ := hF362.at c1_ (by omega) hne
  have hF := hF.trans hF362 (by omega) (fun q hq => (fun h => h ▸ rfl))
  rw [rZ_cp zf zf0] at c363
  exact g_vret C hI hS (by omega) ⟨rfl, (by omega), hF, c363⟩ dX4_looksBack_13
set_option maxHeartbeats 4000000 in
set_option maxRecDepth 100000 in
theorem c_X4_kept (l : Launch) {D : gD} (hB : gBs D) (G : gH) (n : Nat) (mm : Nat) (ag : Nat) (ab : Nat) (ah : Nat) (ch : Int32) (asv : Nat) (hs : Int32) (aas : Nat) (ain : Nat) (ty : Int32) (er : Int32) (awy : Nat) (ir : Int32) (ali : Nat) (ln : Int32) (th : Int32) (pl : Int32) (wr : Int32) (ato : Nat) (f : Nat → Int32) (f0 : Nat → Int32) (h : Nat → Int32) (cn : Nat) (v0 : Int32) (c0_ : G mm = some (.inl (23, [.ref ag, .ref ab, .ref ah, .int ch, .ref asv, .int hs, .ref aas, .ref ain, .int ty, .int er, .ref awy, .int ir, .ref ali, .int ln, .int th, .int pl, .int wr, .ref ato]))) (c1_ : G ag = some (aI 112 f)) (c2_ : G ab = some (aI 112 f0)) (c3_ : G ah = some (aI 896 h)) (hz : gz D ≤ mm) (hzg : gz D ≤ ag) (hzb : gz D ≤ ab) (hzh : gz D ≤ ah) (hne : ag ≠ ab) (zf : rZ f) (zf0 : rZ f0) (hc : ch = nI cn) (hc8 : cn ≤ 8) : gMet l D yX4_kept (ws_ yX4_kept cX4_kept 3 (some FieldType.int)) 2 0 G n [.ref mm, .int v0] (fun (v : Option Value) (G1 : gH) (n1 : Nat) => ∃ (r : Int32) (f2 : Nat → Int32) (c2 : Nat) (h2 : Nat → Int32), v = some (.int r) ∧ n ≤ n1 ∧ gF G G1 n (fun q : Nat => q = mm ∨ q = ag ∨ q = ah) ∧ G1 mm = some (.inl (23, [.ref ag, .ref ab, .ref ah, .int (nI c2), .ref asv, .int hs, .ref aas, .ref ain, .int ty, .int er, .ref awy, .int ir, .ref ali, .int ln, .int th, .int pl, .int wr, .ref ato])) ∧ G1 ag = some (aI 112 f2) ∧ G1 ab = some (aI 112 f0) ∧ G1 ah = some (aI 896 h2) ∧ kK th v0 cn h f0 f = (c2, h2, r, f2)) gNox := by
  refine g_start (by decide) (Nat.le_of_ble_eq_true rfl) ?_
  intro p e s m below meth c ls C hnm hxt hI hl
  have hx := C.x
  have hb := C.b
  have hS : va_S (gA D) s.heap s.heap [] := va_S.rf
  have hz0 := hI.z
  have lc0_ := hI.lt c0_
  have lc1_ := hI.lt c1_
  have lc2_ := hI.lt c2_
  have lc3_ := hI.lt c3_
  have hF : gF G G n (fun q : Nat => q = mm ∨ q = ag ∨ q = ah) := gF.rf _ _ _
  have hl : lv_has ls 3 [(0, .ref mm), (1, .int v0)] := hl
  refine lv_aload_n hx hb dX4_kept_0 rfl (lv_at hl 0 rfl) ?_
  refine g_get C hI c0_ kc23 14 rfl q2581 (fun _ h9 => h9) dX4_kept_1 ?_
  refine lv_if_eq (tgt := 22) hx hb dX4_kept_4 (by decide) (fun c_364 => ?_) (fun c_364 => ?_)
  · skip
    refine lv_aload_n hx hb dX4_kept_22 rfl (lv_at hl 0 rfl) ?_
    refine g_get C hI c0_ kc23 3 rfl q2570 (fun _ h9 => h9) dX4_kept_23 ?_
    refine lv_bipush (v := 8) hx hb dX4_kept_26 (by decide) ?_
    refine lv_icmp_ne (tgt := 71) hx hb dX4_kept_28 (by decide) (fun c_365 => ?_) (fun c_365 => ?_)
    · skip
      try have k_366 : ¬ (cn = 8) := (not_congr (nI_eqE hc nl8 (by omega) (by omega))).mp c_365
      have h8n : ¬ cn = 8 := (not_congr (nI_eqE hc nl8 (by omega) (by omega))).mp c_365
      refine lv_aload_n hx hb dX4_kept_71 rfl (lv_at hl 0 rfl) ?_
      refine g_get C hI c0_ kc23 1 rfl q2568 (fun _ h9 => h9) dX4_kept_72 ?_
      refine lv_iconst (v := 0) hx hb dX4_kept_75 (by decide) ?_
      refine lv_aload_n hx hb dX4_kept_76 rfl (lv_at hl 0 rfl) ?_
      refine g_get C hI c0_ kc23 2 rfl q2569 (fun _ h9 => h9) dX4_kept_77 ?_
      refine lv_aload_n hx hb dX4_kept_80 rfl (lv_at hl 0 rfl) ?_
      refine g_get C hI c0_ kc23 3 rfl q2570 (fun _ h9 => h9) dX4_kept_81 ?_
      refine lv_bipush (v := 112) hx hb dX4_kept_84 (by decide) ?_
      refine lv_imul hx hb dX4_kept_86 ?_
      refine g_S (As := [.ref ab, .int 0, .ref ah, .int (ch * 112)]) (rest := []) (lv := [(0, .ref mm), (1, .int v0)]) C hI hS (c_X4_copy l hB G n ab ah 112 896 f0 h 0 (cn * 112) 0 (ch * 112) c2_ c3_ (by omega) (g_na c2_ c3_ (Or.inr (by decide))) (by omega) (by omega) (by omega) (by omega) nl0 (gmul hc nl112)) q2656 q2657 q94 q2658 (⟨by decide, by decide, by decide⟩ : gArg _ 4) rfl ⟨by decide, by decide⟩ (by omega) hl rfl (Nat.le_of_ble_eq_true rfl) dX4_kept_87 (fun v367 G368 n369 H locs hp370 hI hS => ?_) gKx.no
      obtain ⟨rfl, hn371, hF372, c373⟩ := hp370
      refine W.widen (k := 0) (n := 200 * (0)) (by omega) (by omega) ?_
      have c0_ := hF372.at c0_ (by omega) (g_no c0_ c3_)
      have c1_ := hF372.at c1_ (by omega) (g_na c1_ c3_ (Or.inr (by decide)))
      have c2_ := hF372.at c2_ (by omega) (g_na c2_ c3_ (Or.inr (by decide)))
      have hF := hF.trans hF372 (by omega) (fun q hq => (fun h => h ▸ (Or.inr (Or.inr (rfl)))))
      refine lv_aload_n hx hb dX4_kept_90 rfl (lv_at hl 0 rfl) ?_
      refine lv_dup hx hb dX4_kept_91 rfl ?_
      refine g_get C hI c0_ kc23 3 rfl q2570 (fun _ h9 => h9) dX4_kept_92 ?_
      refine lv_iconst (v := 1) hx hb dX4_kept_95 (by decide) ?_
      refine lv_iadd hx hb dX4_kept_96 ?_
      refine g_put (fs2 := [.ref ag, .ref ab, .ref ah, .int (ch + 1), .ref asv, .int hs, .ref aas, .ref ain, .int ty, .int er, .ref awy, .int ir, .ref ali, .int ln, .int th, .int pl, .int wr, .ref ato]) C hI hS c0_ (by omega) kc23 3 (Nat.le_of_ble_eq_true rfl) q2570 (fun _ h9 => h9) rfl rfl rfl rfl dX4_kept_97 (fun G374 H locs e375 hI hS => ?_)
      have c1_ := gE_k e375 c1_ (g_on c1_ c0_)
      have c2_ := gE_k e375 c2_ (g_on c2_ c0_)
      have c373 := gE_k e375 c373 (g_on c373 c0_)
      have c0_ : G374 mm = some (.inl (23, [.ref ag, .ref ab, .ref ah, .int (ch + 1), .ref asv, .int hs, .ref aas, .ref ain, .int ty, .int er, .ref awy, .int ir, .ref ali, .int ln, .int th, .int pl, .int wr, .ref ato])) := gE_s e375
      have hF := gE_F e375 hF (Or.inr (Or.inl rfl))
      refine lv_iload_n hx hb dX4_kept_100 rfl (lv_at hl 1 rfl) ?_
      exact g_iret C hI hS (by omega) ⟨v0, f, cn + 1, va_cpy f0 h 0 (cn * 112) 112, rfl, (by omega), hF, (by rw [show nI (cn + 1) = ch + 1 from (gadd hc nl1).symm]; exact c0_), c1_, c2_, c373, (by simp [kK, sC, sPush, c_364, c_365, h8n])⟩ dX4_kept_101
    · skip
      try have k_376 : cn = 8 := (nI_eqE hc nl8 (by omega) (by omega)).mp c_365
      have h8 : cn = 8 := (nI_eqE hc nl8 (by omega) (by omega)).mp c_365
      refine lv_iconst (v := 0) hx hb dX4_kept_31 (by decide) ?_
      refine lv_istore_n (lv' := [(2, .int 0), (0, .ref mm), (1, .int v0)]) hx hb dX4_kept_32 rfl hl (by decide) rfl (fun ls hl => ?_)
      have key377 : ∀ (r : Nat) (i : Nat) (xi : Int32), (i ≤ 784) → (784 < i + r) → (xi = nI i) → ∀ (G378 : gH) (n379 : Nat) (H : Heap) (locs : List Loc) (ls : Array Slot), G378 mm = some (.inl (23, [.ref ag, .ref ab, .ref ah, .int ch, .ref asv, .int hs, .ref aas, .ref ain, .int ty, .int er, .ref awy, .int ir, .ref ali, .int ln, .int th, .int pl, .int wr, .ref ato])) → G378 ag = some (aI 112 f) → G378 ab = some (aI 112 f0) → G378 ah = some (aI 896 (sShift h i)) → n ≤ n379 → gI D G378 n379 H → va_S (gA D) s.heap H locs → gF G G378 n (fun q : Nat => q = mm ∨ q = ag ∨ q = ah) → lv_has ls 3 [(2, .int xi), (0, .ref mm), (1, .int v0)] → W p l e (gR 2 0) s m ([.ref mm, .int v0] : List Value).toArray below meth c H locs (0) (200 * (0)) (gM below D (fun (v : Option Value) (G1 : gH) (n1 : Nat) => ∃ (r : Int32) (f2 : Nat → Int32) (c2 : Nat) (h2 : Nat → Int32), v = some (.int r) ∧ n ≤ n1 ∧ gF G G1 n (fun q : Nat => q = mm ∨ q = ag ∨ q = ah) ∧ G1 mm = some (.inl (23, [.ref ag, .ref ab, .ref ah, .int (nI c2), .ref asv, .int hs, .ref aas, .ref ain, .int ty, .int er, .ref awy, .int ir, .ref ali, .int ln, .int th, .int pl, .int wr, .ref ato])) ∧ G1 ag = some (aI 112 f2) ∧ G1 ab = some (aI 112 f0) ∧ G1 ah = some (aI 896 h2) ∧ kK th v0 cn h f0 f = (c2, h2, r, f2)) gNox ([.ref mm, .int v0] : List Value).toArray s 0) (F0 m 33 ls []) := by
        intro r
        induction r with
        | zero =>
          intro i xi hi hr hxi
          exact absurd trivial (fun _ => (by omega))
        | succ r ih384 =>
          intro i xi hi hr hxi
          intro G378 n379 H locs ls c380 c381 c382 c383 hn385 hI hS hF hl
          refine lv_iload_n hx hb dX4_kept_33 rfl (lv_at hl 0 rfl) ?_
          refine lv_sipush (v := 784) hx hb dX4_kept_34 (by decide) ?_
          refine lv_icmp_ge (tgt := 61) hx hb dX4_kept_37 (by decide) (fun c_386 => ?_) (fun c_386 => ?_)
          · skip
            try have k_387 : 784 ≤ i := (nI_leE nl784 hxi (by omega) (by omega)).mp c_386
            obtain rfl : i = 784 := by omega
            refine lv_aload_n hx hb dX4_kept_61 rfl (lv_at hl 1 rfl) ?_
            refine lv_dup hx hb dX4_kept_62 rfl ?_
            refine g_get C hI c380 kc23 3 rfl q2570 (fun _ h9 => h9) dX4_kept_63 ?_
            refine lv_iconst (v := 1) hx hb dX4_kept_66 (by decide) ?_
            refine lv_isub hx hb dX4_kept_67 ?_
            refine g_put (fs2 := [.ref ag, .ref ab, .ref ah, .int (ch - 1), .ref asv, .int hs, .ref aas, .ref ain, .int ty, .int er, .ref awy, .int ir, .ref ali, .int ln, .int th, .int pl, .int wr, .ref ato]) C hI hS c380 (by omega) kc23 3 (Nat.le_of_ble_eq_true rfl) q2570 (fun _ h9 => h9) rfl rfl rfl rfl dX4_kept_68 (fun G388 H locs e389 hI hS => ?_)
            have c381 := gE_k e389 c381 (g_on c381 c380)
            have c382 := gE_k e389 c382 (g_on c382 c380)
            have c383 := gE_k e389 c383 (g_on c383 c380)
            have c380 : G388 mm = some (.inl (23, [.ref ag, .ref ab, .ref ah, .int (ch - 1), .ref asv, .int hs, .ref aas, .ref ain, .int ty, .int er, .ref awy, .int ir, .ref ali, .int ln, .int th, .int pl, .int wr, .ref ato])) := gE_s e389
            have hF := gE_F e389 hF (Or.inr (Or.inl rfl))
            refine lv_aload_n hx hb dX4_kept_71 rfl (lv_at hl 1 rfl) ?_
            refine g_get C hI c380 kc23 1 rfl q2568 (fun _ h9 => h9) dX4_kept_72 ?_
            refine lv_iconst (v := 0) hx hb dX4_kept_75 (by decide) ?_
            refine lv_aload_n hx hb dX4_kept_76 rfl (lv_at hl 1 rfl) ?_
            refine g_get C hI c380 kc23 2 rfl q2569 (fun _ h9 => h9) dX4_kept_77 ?_
            refine lv_aload_n hx hb dX4_kept_80 rfl (lv_at hl 1 rfl) ?_
            refine g_get C hI c380 kc23 3 rfl q2570 (fun _ h9 => h9) dX4_kept_81 ?_
            refine lv_bipush (v := 112) hx hb dX4_kept_84 (by decide) ?_
            refine lv_imul hx hb dX4_kept_86 ?_
            refine g_S (As := [.ref ab, .int 0, .ref ah, .int ((ch - 1) * 112)]) (rest := []) (lv := [(2, .int xi), (0, .ref mm), (1, .int v0)]) C hI hS (c_X4_copy l hB G388 n379 ab ah 112 896 f0 (sShift h 784) 0 ((cn - 1) * 112) 0 ((ch - 1) * 112) c382 c383 (by omega) (g_na c382 c383 (Or.inr (by decide))) (by omega) (by omega) (by omega) (by omega) nl0 (gmul (gsub hc nl1 (by omega)) nl112)) q2656 q2657 q94 q2658 (⟨by decide, by decide, by decide⟩ : gArg _ 4) rfl ⟨by decide, by decide⟩ (by omega) hl rfl (Nat.le_of_ble_eq_true rfl) dX4_kept_87 (fun v390 G391 n392 H locs hp393 hI hS => ?_) gKx.no
            obtain ⟨rfl, hn394, hF395, c396⟩ := hp393
            refine W.widen (k := 0) (n := 200 * (0)) (by omega) (by omega) ?_
            have c380 := hF395.at c380 (by omega) (g_no c380 c383)
            have c381 := hF395.at c381 (by omega) (g_na c381 c383 (Or.inr (by decide)))
            have c382 := hF395.at c382 (by omega) (g_na c382 c383 (Or.inr (by decide)))
            have hF := hF.trans hF395 (by omega) (fun q hq => (fun h => h ▸ (Or.inr (Or.inr (rfl)))))
            refine lv_aload_n hx hb dX4_kept_90 rfl (lv_at hl 1 rfl) ?_
            refine lv_dup hx hb dX4_kept_91 rfl ?_
            refine g_get C hI c380 kc23 3 rfl q2570 (fun _ h9 => h9) dX4_kept_92 ?_
            refine lv_iconst (v := 1) hx hb dX4_kept_95 (by decide) ?_
            refine lv_iadd hx hb dX4_kept_96 ?_
            refine g_put (fs2 := [.ref ag, .ref ab, .ref ah, .int ((ch - 1) + 1), .ref asv, .int hs, .ref aas, .ref ain, .int ty, .int er, .ref awy, .int ir, .ref ali, .int ln, .int th, .int pl, .int wr, .ref ato]) C hI hS c380 (by omega) kc23 3 (Nat.le_of_ble_eq_true rfl) q2570 (fun _ h9 => h9) rfl rfl rfl rfl dX4_kept_97 (fun G397 H locs e398 hI hS => ?_)
            have c381 := gE_k e398 c381 (g_on c381 c380)
            have c382 := gE_k e398 c382 (g_on c382 c380)
            have c396 := gE_k e398 c396 (g_on c396 c380)
            have c380 : G397 mm = some (.inl (23, [.ref ag, .ref ab, .ref ah, .int ((ch - 1) + 1), .ref asv, .int hs, .ref aas, .ref ain, .int ty, .int er, .ref awy, .int ir, .ref ali, .int ln, .int th, .int pl, .int wr, .ref ato])) := gE_s e398
            have hF := gE_F e398 hF (Or.inr (Or.inl rfl))
            refine lv_iload_n hx hb dX4_kept_100 rfl (lv_at hl 2 rfl) ?_
            exact g_iret C hI hS (by omega) ⟨v0, f, (cn - 1) + 1, va_cpy f0 (sShift h 784) 0 ((cn - 1) * 112) 112, rfl, (by omega), hF, (by rw [show nI ((cn - 1) + 1) = (ch - 1) + 1 from (gadd (gsub hc nl1 (by omega)) nl1).symm]; exact c380), c381, c382, c396, (by simp [kK, sC, sPush, c_364, c_365, h8, c_386])⟩ dX4_kept_101
          · skip
            try have k_399 : ¬ (784 ≤ i) := (not_congr (nI_leE nl784 hxi (by omega) (by omega))).mp c_386
            refine lv_aload_n hx hb dX4_kept_40 rfl (lv_at hl 1 rfl) ?_
            refine g_get C hI c380 kc23 2 rfl q2569 (fun _ h9 => h9) dX4_kept_41 ?_
            refine lv_iload_n hx hb dX4_kept_44 rfl (lv_at hl 0 rfl) ?_
            refine lv_aload_n hx hb dX4_kept_45 rfl (lv_at hl 1 rfl) ?_
            refine g_get C hI c380 kc23 2 rfl q2569 (fun _ h9 => h9) dX4_kept_46 ?_
            refine lv_iload_n hx hb dX4_kept_49 rfl (lv_at hl 0 rfl) ?_
            refine lv_bipush (v := 112) hx hb dX4_kept_50 (by decide) ?_
            refine lv_iadd hx hb dX4_kept_52 ?_
            refine g_iald (v := .int ((sShift h i) (i + 112))) C hI c383 (gix (gadd hxi nl112) (by omega) (by omega)) (congrArg Value.int (gixv (f := sShift h i) (gadd hxi nl112) (by omega))) dX4_kept_53 ?_
            refine g_iast C hI hS c383 (by omega) (gix hxi (by omega) (by omega)) dX4_kept_54 (fun G400 H locs e401 hI hS => ?_)
            rw [gup_e hxi (by omega)] at e401
            have c380 := gE_k e401 c380 (g_no c380 c383)
            have c381 := gE_k e401 c381 (g_na c381 c383 (Or.inr (by decide)))
            have c382 := gE_k e401 c382 (g_na c382 c383 (Or.inr (by decide)))
            have c383 : G400 ah = some (aI 896 (gup (sShift h i) i ((sShift h i) (i + 112)))) := gE_s e401
            have hF := gE_F e401 hF (Or.inr (Or.inr (Or.inr (rfl))))
            refine lv_iinc (v := xi + 1) (lv' := [(2, .int (xi + 1)), (0, .ref mm), (1, .int v0)]) hx hb dX4_kept_55 hl (k := 0) rfl (by first | rfl | decide) (by decide) rfl (fun ls hl => ?_)
            refine lv_goto (tgt := 33) hx hb dX4_kept_58 (by decide) ?_
            rw [sShift_s] at c383
            exact ih384 (i + 1) (xi + 1) (by omega) (by omega) (gadd hxi nl1) _ _ _ _ _ c380 c381 c382 c383 (by omega) hI hS hF (lv_sub hl [0, 1, 2] rfl)
      exact key377 785 0 0 (by omega) (by omega) nl0 _ _ _ _ _ c0_ c1_ c2_ (by rw [sShift_0]; exact c3_) (Nat.le_refl _) hI hS hF (lv_sub hl [0, 1, 2] rfl)
  · skip
    refine lv_aload_n hx hb dX4_kept_7 rfl (lv_at hl 0 rfl) ?_
    refine g_get C hI c0_ kc23 1 rfl q2568 (fun _ h9 => h9) dX4_kept_8 ?_
    refine lv_iconst (v := 0) hx hb dX4_kept_11 (by decide) ?_
    refine lv_aload_n hx hb dX4_kept_12 rfl (lv_at hl 0 rfl) ?_
    refine g_get C hI c0_ kc23 0 rfl q2567 (fun _ h9 => h9) dX4_kept_13 ?_
    refine lv_iconst (v := 0) hx hb dX4_kept_16 (by decide) ?_
    refine g_S (As := [.ref ab, .int 0, .ref ag, .int 0]) (rest := []) (lv := [(0, .ref mm), (1, .int v0)]) C hI hS (c_X4_copy l hB G n ab ag 112 112 f0 f 0 0 0 0 c2_ c1_ (by omega) (Ne.symm hne) (by omega) (by omega) (by omega) (by omega) nl0 nl0) q2656 q2657 q94 q2658 (⟨by decide, by decide, by decide⟩ : gArg _ 4) rfl ⟨by decide, by decide⟩ (by omega) hl rfl (Nat.le_of_ble_eq_true rfl) dX4_kept_17 (fun v403 G404 n405 H locs hp406 hI hS => ?_) gKx.no
    obtain ⟨rfl, hn407, hF408, c409⟩ := hp406
    refine W.widen (k := 0) (n := 200 * (0)) (by omega) (by omega) ?_
    have c0_ := hF408.at c0_ (by omega) (g_no c0_ c1_)
    have c2_ := hF408.at c2_ (by omega) (Ne.symm hne)
    have c3_ := hF408.at c3_ (by omega) (g_na c3_ c1_ (Or.inr (by decide)))
    have hF := hF.trans hF408 (by omega) (fun q hq => (fun h => h ▸ (Or.inr (Or.inl rfl))))
    rw [rZ_cp zf0 zf] at c409
    refine lv_iconst (v := 0) hx hb dX4_kept_20 (by decide) ?_
    exact g_iret C hI hS (by omega) ⟨0, f0, cn, h, rfl, (by omega), hF, (by rw [show nI (cn) = ch from hc.symm]; exact c0_), c409, c2_, c3_, (by simp [kK, sC, sPush, c_364])⟩ dX4_kept_21
