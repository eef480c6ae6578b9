/-! THE REFERENCE, 6: public deeds -/
theorem dOut_Z {f : Nat → Int32} {nb : Nat} (hf : rZ f) (hnb : f 24 = nI nb) (hb3 : nb ≤ 3) (b p : Int32) : rZ (oF (dOut f b p)) := by
  unfold dOut
  split; exact hf
  rename_i h1
  have := gin_cl h1 hnb (by omega)
  repeat' split
  all_goals first | exact hf | exact rZ_gup (rZ_gup hf (by omega)) (by omega)
theorem dHome_Z {f : Nat → Int32} {nb : Nat} (hf : rZ f) (hnb : f 24 = nI nb) (hb3 : nb ≤ 3) (b : Int32) : rZ (oF (dHome f b)) := by
  unfold dHome
  split; exact hf
  rename_i h1
  have := gin_cl h1 hnb (by omega)
  repeat' split
  all_goals first | exact hf | exact rZ_gup (rZ_gup hf (by omega)) (by omega)
theorem dShoot_Z {f : Nat → Int32} {nb ns : Nat} (hf : rZ f) (hnb : f 24 = nI nb) (hb3 : nb ≤ 3) (hns : f 46 = nI ns) (hs10 : ns ≤ 10) (b s k : Int32) : rZ (oF (dShoot f b s k)) := by
  unfold dShoot
  split; exact hf
  split; exact hf
  split; exact hf
  rename_i h1 h2 h3
  have := gin_cl h1 hnb (by omega)
  have := gin_cl h2 hns (by omega)
  have := gin_clk h3 (a := 0) (k := 2) (by decide) (by decide) (by decide)
  repeat' split
  all_goals first | exact hf | exact rZ_gup (rZ_gup (rZ_gup (rZ_gup (rZ_gup hf (by omega)) (by omega)) (by omega)) (by omega)) (by omega)
theorem dLand_Z {f : Nat → Int32} {nb : Nat} (hf : rZ f) (hnb : f 24 = nI nb) (hb3 : nb ≤ 3) (b : Int32) : rZ (oF (dLand f b)) := by
  unfold dLand
  split; exact hf
  rename_i h1
  have := gin_cl h1 hnb (by omega)
  repeat' split
  all_goals first | exact hf | exact rZ_gup (rZ_gup (rZ_gup (rZ_gup (rZ_gup hf (by omega)) (by omega)) (by omega)) (by omega)) (by omega)
theorem dSwell_Z {f : Nat → Int32} (hf : rZ f) (v : Int32) : rZ (oF (dSwell f v)) := by
  unfold dSwell
  split
  · exact hf
  · exact rZ_gup hf (by omega)
theorem dRiddle_Z {f : Nat → Int32} (hf : rZ f) (v : Int32) : rZ (oF (dRiddle f v)) := by
  unfold dRiddle
  split
  · exact hf
  · exact rZ_gup hf (by omega)
theorem dPass_Z {f : Nat → Int32} {nb ns : Nat} (hf : rZ f) (hnb : f 24 = nI nb) (hb3 : nb ≤ 3) (hns : f 46 = nI ns) (hs10 : ns ≤ 10) (v : Int32) : rZ (oF (dPass f v)) := by
  unfold dPass
  split
  · exact hf
  · exact dDays_Z hf hnb hb3 hns hs10 _
theorem dHaul_Z {f : Nat → Int32} {nb ns : Nat} (hf : rZ f) (hnb : f 24 = nI nb) (hb3 : nb ≤ 3) (hns : f 46 = nI ns) (hs10 : ns ≤ 10) (hat : ∀ s, s < ns → f (57 + s) = -1 ∨ ∃ p, p ≤ 5 ∧ f (57 + s) = nI p) (b s : Int32) : rZ (oF (dHaul f b s)) := by
  unfold dHaul
  split; exact hf
  split; exact hf
  rename_i h1 h2
  have hb := gin_cl h1 hnb (by omega)
  have hs := gin_cl h2 hns (by omega)
  split
  · rename_i h3
    obtain ⟨p, hp, e⟩ := (hat _ hs).resolve_left h3
    have hp2 : (f (57 + s.toNatClampNeg)).toNatClampNeg ≤ 5 := by rw [e, nI_clamp (by omega)]; exact hp
    repeat' split
    all_goals first | exact hf | exact rZ_gup (rZ_gup (rZ_gup (rZ_gup (hIt_Z hf hp2 (by omega) (by omega) 3 (by omega)) (by omega)) (by omega)) (by omega)) (by omega)
  · exact hf
set_option maxHeartbeats 4000000 in
set_option maxRecDepth 100000 in
theorem c_X4_out (l : Launch) {D : gD} (hB : gBs D) (G : gH) (n : Nat) (mm : Nat) (ag : Nat) (ab : Nat) (ah : Nat) (ch : Int32) (asv : Nat) (hs : Int32) (aas : Nat) (ain : Nat) (ty : Int32) (er : Int32) (awy : Nat) (ir : Int32) (ali : Nat) (ln : Int32) (th : Int32) (pl : Int32) (wr : Int32) (ato : Nat) (f : Nat → Int32) (f0 : Nat → Int32) (h : Nat → Int32) (y : Nat → Int32) (cn : Nat) (nb : Nat) (ns : Nat) (a1 : Int32) (a2 : Int32) (c0_ : G mm = some (.inl (23, [.ref ag, .ref ab, .ref ah, .int ch, .ref asv, .int hs, .ref aas, .ref ain, .int ty, .int er, .ref awy, .int ir, .ref ali, .int ln, .int th, .int pl, .int wr, .ref ato]))) (c1_ : G ag = some (aI 112 f)) (c2_ : G ab = some (aI 112 f0)) (c3_ : G ah = some (aI 896 h)) (c4_ : G awy = some (aI 6 y)) (hz : gz D ≤ mm) (hzg : gz D ≤ ag) (hzb : gz D ≤ ab) (hzh : gz D ≤ ah) (hzw : gz D ≤ awy) (hne : ag ≠ ab) (zf : rZ f) (zf0 : rZ f0) (hc : ch = nI cn) (hc8 : cn ≤ 8) (hnb : f 24 = nI nb) (hb3 : nb ≤ 3) (hns : f 46 = nI ns) (hs10 : ns ≤ 10) : gMet l D yX4_out (ws_ yX4_out cX4_out 3 (some FieldType.int)) 4 0 G n [.ref mm, .int a1, .int a2] (fun (v : Option Value) (G1 : gH) (n1 : Nat) => ∃ (th2 : Int32) (ir2 : Int32) (r : Int32) (c2 : Nat) (f2 : Nat → Int32) (f02 : Nat → Int32) (h2 : Nat → Int32) (y2 : Nat → Int32), v = some (.int r) ∧ n ≤ n1 ∧ gF G G1 n (fun q : Nat => q = mm ∨ q = ag ∨ q = ab ∨ q = ah ∨ q = awy) ∧ G1 mm = some (.inl (23, [.ref ag, .ref ab, .ref ah, .int (nI c2), .ref asv, .int hs, .ref aas, .ref ain, .int ty, .int er, .ref awy, .int ir2, .ref ali, .int ln, .int th2, .int pl, .int wr, .ref ato])) ∧ G1 ag = some (aI 112 f2) ∧ G1 ab = some (aI 112 f02) ∧ G1 ah = some (aI 896 h2) ∧ G1 awy = some (aI 6 y2) ∧ rZ f02 ∧ mK 2 ir y cn h f (dOut f a1 a2) = (th2, ir2, y2, c2, h2, r, f2)) gNox := by
  refine g_start (by decide) (Nat.le_of_ble_eq_true rfl) ?_
  intro p e s m below meth c ls C hnm hxt hI hl
  have hx := C.x
  have hb := C.b
  have hS : va_S (gA D) s.heap s.heap [] := va_S.rf
  have hz0 := hI.z
  have lc0_ := hI.lt c0_
  have lc1_ := hI.lt c1_
  have lc2_ := hI.lt c2_
  have lc3_ := hI.lt c3_
  have lc4_ := hI.lt c4_
  have hF : gF G G n (fun q : Nat => q = mm ∨ q = ag ∨ q = ab ∨ q = ah ∨ q = awy) := gF.rf _ _ _
  have hl : lv_has ls 3 [(0, .ref mm), (1, .int a1), (2, .int a2)] := hl
  refine lv_aload_n hx hb dX4_out_0 rfl (lv_at hl 0 rfl) ?_
  refine g_V (As := []) (rest := []) (lv := [(0, .ref mm), (1, .int a1), (2, .int a2)]) C hI hS (c_X4_looksBack l hB G n mm ag ab ah ch asv hs aas ain ty er awy ir ali ln th pl wr ato f f0 c0_ c1_ c2_ (by omega) hne zf zf0) c0_ rfl rfl q2652 q2654 qs36 q94 q2655 (⟨by decide, by decide, by decide⟩ : gArg _ 0) rfl ⟨by decide, by decide⟩ (by omega) hl rfl (Nat.le_of_ble_eq_true rfl) dX4_out_1 (fun v1390 G1391 n1392 H locs hp1393 hI hS => ?_) gKx.no
  obtain ⟨rfl, hn1394, hF1395, c1396⟩ := hp1393
  refine W.widen (k := 0) (n := 200 * (0)) (by omega) (by omega) ?_
  have c0_ := hF1395.at c0_ (by omega) (g_no c0_ c2_)
  have c1_ := hF1395.at c1_ (by omega) hne
  have c3_ := hF1395.at c3_ (by omega) (g_na c3_ c2_ (Or.inr (by decide)))
  have c4_ := hF1395.at c4_ (by omega) (g_na c4_ c2_ (Or.inr (by decide)))
  have hF := hF.trans hF1395 (by omega) (fun q hq => (fun h => h ▸ (Or.inr (Or.inr (Or.inl rfl)))))
  refine lv_aload_n hx hb dX4_out_4 rfl (lv_at hl 0 rfl) ?_
  refine lv_aload_n hx hb dX4_out_5 rfl (lv_at hl 0 rfl) ?_
  refine lv_iload_n hx hb dX4_out_6 rfl (lv_at hl 1 rfl) ?_
  refine lv_iload_n hx hb dX4_out_7 rfl (lv_at hl 2 rfl) ?_
  refine g_V (As := [.int a1, .int a2]) (rest := [.ref mm]) (lv := [(0, .ref mm), (1, .int a1), (2, .int a2)]) C hI hS (c_X4_goesOut l hB G1391 n1392 mm ag ab ah ch asv hs aas ain ty er awy ir ali ln th pl wr ato f y _ _ a1 a2 c0_ c1_ c4_ (by omega) (by omega) (by omega) (by assumption) (by omega) (by assumption) (by omega)) c0_ rfl rfl q2722 q2724 qs43 q94 q2725 (⟨by decide, by decide, by decide⟩ : gArg _ 2) rfl ⟨by decide, by decide⟩ (by omega) hl rfl (Nat.le_of_ble_eq_true rfl) dX4_out_8 (fun v1397 G1398 n1399 H locs hp1400 hI hS => ?_) gKx.no
  obtain ⟨th2_1401, ir2_1402, r_1403, f2_1404, y2_1405, rfl, hn1406, hF1407, c1408, c1409, c1410, hq1411⟩ := hp1400
  refine W.widen (k := 0) (n := 200 * (0)) (by omega) (by omega) ?_
  have c3_ := hF1407.at c3_ (by omega) (fun h => h.elim (g_on c3_ c0_) (fun h => h.elim (g_na c3_ c1_ (Or.inr (by decide))) (g_na c3_ c4_ (Or.inr (by decide)))))
  have c1396 := hF1407.at c1396 (by omega) (fun h => h.elim (g_on c1396 c0_) (fun h => h.elim (Ne.symm hne) (g_na c1396 c4_ (Or.inr (by decide)))))
  have hF := hF.trans hF1407 (by omega) (fun q hq => (fun h => h.elim (fun h => h ▸ (Or.inl rfl)) (fun h => h.elim (fun h => h ▸ (Or.inr (Or.inl rfl))) (fun h => h ▸ (Or.inr (Or.inr (Or.inr (Or.inr (rfl)))))))))
  have zf1 := mR_Z hq1411 zf (dOut_Z zf hnb hb3 a1 a2)
  refine g_V (As := [.int r_1403]) (rest := []) (lv := [(0, .ref mm), (1, .int a1), (2, .int a2)]) C hI hS (c_X4_kept l hB G1398 n1399 mm ag ab ah ch asv hs aas ain ty er awy ir2_1402 ali ln th2_1401 pl wr ato f2_1404 f h cn r_1403 c1408 c1409 c1396 c3_ (by omega) (by omega) (by omega) (by omega) hne zf1 zf (by assumption) (by omega)) c1408 rfl rfl q2659 q2661 qs37 q94 q2662 (⟨by decide, by decide, by decide⟩ : gArg _ 1) rfl ⟨by decide, by decide⟩ (by omega) hl rfl (Nat.le_of_ble_eq_true rfl) dX4_out_11 (fun v1412 G1413 n1414 H locs hp1415 hI hS => ?_) gKx.no
  obtain ⟨r_1416, f2_1417, c2_1418, h2_1419, rfl, hn1420, hF1421, c1422, c1423, c1424, c1425, hk1426⟩ := hp1415
  refine W.widen (k := 0) (n := 200 * (0)) (by omega) (by omega) ?_
  have c1410 := hF1421.at c1410 (by omega) (fun h => h.elim (g_on c1410 c1408) (fun h => h.elim (g_na c1410 c1409 (Or.inr (by decide))) (g_na c1410 c3_ (Or.inr (by decide)))))
  have hF := hF.trans hF1421 (by omega) (fun q hq => (fun h => h.elim (fun h => h ▸ (Or.inl rfl)) (fun h => h.elim (fun h => h ▸ (Or.inr (Or.inl rfl))) (fun h => h ▸ (Or.inr (Or.inr (Or.inr (Or.inl rfl))))))))
  exact g_iret C hI hS (by omega) ⟨th2_1401, ir2_1402, r_1416, c2_1418, f2_1417, f, h2_1419, y2_1405, rfl, (by omega), hF, c1422, c1423, c1424, c1425, c1410, (by assumption), (mK_of (by decide) hq1411 hk1426)⟩ dX4_out_14
set_option maxHeartbeats 4000000 in
set_option maxRecDepth 100000 in
theorem c_X4_home (l : Launch) {D : gD} (hB : gBs D) (G : gH) (n : Nat) (mm : Nat) (ag : Nat) (ab : Nat) (ah : Nat) (ch : Int32) (asv : Nat) (hs : Int32) (aas : Nat) (ain : Nat) (ty : Int32) (er : Int32) (awy : Nat) (ir : Int32) (ali : Nat) (ln : Int32) (th : Int32) (pl : Int32) (wr : Int32) (ato : Nat) (f : Nat → Int32) (f0 : Nat → Int32) (h : Nat → Int32) (y : Nat → Int32) (cn : Nat) (nb : Nat) (ns : Nat) (a1 : Int32) (c0_ : G mm = some (.inl (23, [.ref ag, .ref ab, .ref ah, .int ch, .ref asv, .int hs, .ref aas, .ref ain, .int ty, .int er, .ref awy, .int ir, .ref ali, .int ln, .int th, .int pl, .int wr, .ref ato]))) (c1_ : G ag = some (aI 112 f)) (c2_ : G ab = some (aI 112 f0)) (c3_ : G ah = some (aI 896 h)) (c4_ : G awy = some (aI 6 y)) (hz : gz D ≤ mm) (hzg : gz D ≤ ag) (hzb : gz D ≤ ab) (hzh : gz D ≤ ah) (hzw : gz D ≤ awy) (hne : ag ≠ ab) (zf : rZ f) (zf0 : rZ f0) (hc : ch = nI cn) (hc8 : cn ≤ 8) (hnb : f 24 = nI nb) (hb3 : nb ≤ 3) (hns : f 46 = nI ns) (hs10 : ns ≤ 10) : gMet l D yX4_home (ws_ yX4_home cX4_home 2 (some FieldType.int)) 4 0 G n [.ref mm, .int a1] (fun (v : Option Value) (G1 : gH) (n1 : Nat) => ∃ (th2 : Int32) (ir2 : Int32) (r : Int32) (c2 : Nat) (f2 : Nat → Int32) (f02 : Nat → Int32) (h2 : Nat → Int32) (y2 : Nat → Int32), v = some (.int r) ∧ n ≤ n1 ∧ gF G G1 n (fun q : Nat => q = mm ∨ q = ag ∨ q = ab ∨ q = ah ∨ q = awy) ∧ G1 mm = some (.inl (23, [.ref ag, .ref ab, .ref ah, .int (nI c2), .ref asv, .int hs, .ref aas, .ref ain, .int ty, .int er, .ref awy, .int ir2, .ref ali, .int ln, .int th2, .int pl, .int wr, .ref ato])) ∧ G1 ag = some (aI 112 f2) ∧ G1 ab = some (aI 112 f02) ∧ G1 ah = some (aI 896 h2) ∧ G1 awy = some (aI 6 y2) ∧ rZ f02 ∧ mK 2 ir y cn h f (dHome f a1) = (th2, ir2, y2, c2, h2, r, f2)) gNox := by
  refine g_start (by decide) (Nat.le_of_ble_eq_true rfl) ?_
  intro p e s m below meth c ls C hnm hxt hI hl
  have hx := C.x
  have hb := C.b
  have hS : va_S (gA D) s.heap s.heap [] := va_S.rf
  have hz0 := hI.z
  have lc0_ := hI.lt c0_
  have lc1_ := hI.lt c1_
  have lc2_ := hI.lt c2_
  have lc3_ := hI.lt c3_
  have lc4_ := hI.lt c4_
  have hF : gF G G n (fun q : Nat => q = mm ∨ q = ag ∨ q = ab ∨ q = ah ∨ q = awy) := gF.rf _ _ _
  have hl : lv_has ls 2 [(0, .ref mm), (1, .int a1)] := hl
  refine lv_aload_n hx hb dX4_home_0 rfl (lv_at hl 0 rfl) ?_
  refine g_V (As := []) (rest := []) (lv := [(0, .ref mm), (1, .int a1)]) C hI hS (c_X4_looksBack l hB G n mm ag ab ah ch asv hs aas ain ty er awy ir ali ln th pl wr ato f f0 c0_ c1_ c2_ (by omega) hne zf zf0) c0_ rfl rfl q2652 q2654 qs36 q94 q2655 (⟨by decide, by decide, by decide⟩ : gArg _ 0) rfl ⟨by decide, by decide⟩ (by omega) hl rfl (Nat.le_of_ble_eq_true rfl) dX4_home_1 (fun v1427 G1428 n1429 H locs hp1430 hI hS => ?_) gKx.no
  obtain ⟨rfl, hn1431, hF1432, c1433⟩ := hp1430
  refine W.widen (k := 0) (n := 200 * (0)) (by omega) (by omega) ?_
  have c0_ := hF1432.at c0_ (by omega) (g_no c0_ c2_)
  have c1_ := hF1432.at c1_ (by omega) hne
  have c3_ := hF1432.at c3_ (by omega) (g_na c3_ c2_ (Or.inr (by decide)))
  have c4_ := hF1432.at c4_ (by omega) (g_na c4_ c2_ (Or.inr (by decide)))
  have hF := hF.trans hF1432 (by omega) (fun q hq => (fun h => h ▸ (Or.inr (Or.inr (Or.inl rfl)))))
  refine lv_aload_n hx hb dX4_home_4 rfl (lv_at hl 0 rfl) ?_
  refine lv_aload_n hx hb dX4_home_5 rfl (lv_at hl 0 rfl) ?_
  refine lv_iload_n hx hb dX4_home_6 rfl (lv_at hl 1 rfl) ?_
  refine g_V (As := [.int a1]) (rest := [.ref mm]) (lv := [(0, .ref mm), (1, .int a1)]) C hI hS (c_X4_goesHome l hB G1428 n1429 mm ag ab ah ch asv hs aas ain ty er awy ir ali ln th pl wr ato f y _ _ a1 c0_ c1_ c4_ (by omega) (by omega) (by omega) (by assumption) (by omega) (by assumption) (by omega)) c0_ rfl rfl q2730 q2732 qs44 q94 q2733 (⟨by decide, by decide, by decide⟩ : gArg _ 1) rfl ⟨by decide, by decide⟩ (by omega) hl rfl (Nat.le_of_ble_eq_true rfl) dX4_home_7 (fun v1434 G1435 n1436 H locs hp1437 hI hS => ?_) gKx.no
  obtain ⟨th2_1438, ir2_1439, r_1440, f2_1441, y2_1442, rfl, hn1443, hF1444, c1445, c1446, c1447, hq1448⟩ := hp1437
  refine W.widen (k := 0) (n := 200 * (0)) (by omega) (by omega) ?_
  have c3_ := hF1444.at c3_ (by omega) (fun h => h.elim (g_on c3_ c0_) (fun h => h.elim (g_na c3_ c1_ (Or.inr (by decide))) (g_na c3_ c4_ (Or.inr (by decide)))))
  have c1433 := hF1444.at c1433 (by omega) (fun h => h.elim (g_on c1433 c0_) (fun h => h.elim (Ne.symm hne) (g_na c1433 c4_ (Or.inr (by decide)))))
  have hF := hF.trans hF1444 (by omega) (fun q hq => (fun h => h.elim (fun h => h ▸ (Or.inl rfl)) (fun h => h.elim (fun h => h ▸ (Or.inr (Or.inl rfl))) (fun h => h ▸ (Or.inr (Or.inr (Or.inr (Or.inr (rfl)))))))))
  have zf1 := mR_Z hq1448 zf (dHome_Z zf hnb hb3 a1)
  refine g_V (As := [.int r_1440]) (rest := []) (lv := [(0, .ref mm), (1, .int a1)]) C hI hS (c_X4_kept l hB G1435 n1436 mm ag ab ah ch asv hs aas ain ty er awy ir2_1439 ali ln th2_1438 pl wr ato f2_1441 f h cn r_1440 c1445 c1446 c1433 c3_ (by omega) (by omega) (by omega) (by omega) hne zf1 zf (by assumption) (by omega)) c1445 rfl rfl q2659 q2661 qs37 q94 q2662 (⟨by decide, by decide, by decide⟩ : gArg _ 1) rfl ⟨by decide, by decide⟩ (by omega) hl rfl (Nat.le_of_ble_eq_true rfl) dX4_home_10 (fun v1449 G1450 n1451 H locs hp1452 hI hS => ?_) gKx.no
  obtain ⟨r_1453, f2_1454, c2_1455, h2_1456, rfl, hn1457, hF1458, c1459, c1460, c1461, c1462, hk1463⟩ := hp1452
  refine W.widen (k := 0) (n := 200 * (0)) (by omega) (by omega) ?_
  have c1447 := hF1458.at c1447 (by omega) (fun h => h.elim (g_on c1447 c1445) (fun h => h.elim (g_na c1447 c1446 (Or.inr (by decide))) (g_na c1447 c3_ (Or.inr (by decide)))))
  have hF := hF.trans hF1458 (by omega) (fun q hq => (fun h => h.elim (fun h => h ▸ (Or.inl rfl)) (fun h => h.elim (fun h => h ▸ (Or.inr (Or.inl rfl))) (fun h => h ▸ (Or.inr (Or.inr (Or.inr (Or.inl rfl))))))))
  exact g_iret C hI hS (by omega) ⟨th2_1438, ir2_1439, r_1453, c2_1455, f2_1454, f, h2_1456, y2_1442, rfl, (by omega), hF, c1459, c1460, c1461, c1462, c1447, (by assumption), (mK_of (by decide) hq1448 hk1463)⟩ dX4_home_13
set_option maxHeartbeats 4000000 in
set_option maxRecDepth 100000 in
theorem c_X4_shoot (l : Launch) {D : gD} (hB : gBs D) (G : gH) (n : Nat) (mm : Nat) (ag : Nat) (ab : Nat) (ah : Nat) (ch : Int32) (asv : Nat) (hs : Int32) (aas : Nat) (ain : Nat) (ty : Int32) (er : Int32) (awy : Nat) (ir : Int32) (ali : Nat) (ln : Int32) (th : Int32) (pl : Int32) (wr : Int32) (ato : Nat) (f : Nat → Int32) (f0 : Nat → Int32) (h : Nat → Int32) (y : Nat → Int32) (cn : Nat) (nb : Nat) (ns : Nat) (a1 : Int32) (a2 : Int32) (a3 : Int32) (c0_ : G mm = some (.inl (23, [.ref ag, .ref ab, .ref ah, .int ch, .ref asv, .int hs, .ref aas, .ref ain, .int ty, .int er, .ref awy, .int ir, .ref ali, .int ln, .int th, .int pl, .int wr, .ref ato]))) (c1_ : G ag = some (aI 112 f)) (c2_ : G ab = some (aI 112 f0)) (c3_ : G ah = some (aI 896 h)) (c4_ : G awy = some (aI 6 y)) (hz : gz D ≤ mm) (hzg : gz D ≤ ag) (hzb : gz D ≤ ab) (hzh : gz D ≤ ah) (hzw : gz D ≤ awy) (hne : ag ≠ ab) (zf : rZ f) (zf0 : rZ f0) (hc : ch = nI cn) (hc8 : cn ≤ 8) (hnb : f 24 = nI nb) (hb3 : nb ≤ 3) (hns : f 46 = nI ns) (hs10 : ns ≤ 10) : gMet l D yX4_shoot (ws_ yX4_shoot cX4_shoot 4 (some FieldType.int)) 4 0 G n [.ref mm, .int a1, .int a2, .int a3] (fun (v : Option Value) (G1 : gH) (n1 : Nat) => ∃ (th2 : Int32) (ir2 : Int32) (r : Int32) (c2 : Nat) (f2 : Nat → Int32) (f02 : Nat → Int32) (h2 : Nat → Int32) (y2 : Nat → Int32), v = some (.int r) ∧ n ≤ n1 ∧ gF G G1 n (fun q : Nat => q = mm ∨ q = ag ∨ q = ab ∨ q = ah ∨ q = awy) ∧ G1 mm = some (.inl (23, [.ref ag, .ref ab, .ref ah, .int (nI c2), .ref asv, .int hs, .ref aas, .ref ain, .int ty, .int er, .ref awy, .int ir2, .ref ali, .int ln, .int th2, .int pl, .int wr, .ref ato])) ∧ G1 ag = some (aI 112 f2) ∧ G1 ab = some (aI 112 f02) ∧ G1 ah = some (aI 896 h2) ∧ G1 awy = some (aI 6 y2) ∧ rZ f02 ∧ mK 3 ir y cn h f (dShoot f a1 a2 a3) = (th2, ir2, y2, c2, h2, r, f2)) gNox := by
  refine g_start (by decide) (Nat.le_of_ble_eq_true rfl) ?_
  intro p e s m below meth c ls C hnm hxt hI hl
  have hx := C.x
  have hb := C.b
  have hS : va_S (gA D) s.heap s.heap [] := va_S.rf
  have hz0 := hI.z
  have lc0_ := hI.lt c0_
  have lc1_ := hI.lt c1_
  have lc2_ := hI.lt c2_
  have lc3_ := hI.lt c3_
  have lc4_ := hI.lt c4_
  have hF : gF G G n (fun q : Nat => q = mm ∨ q = ag ∨ q = ab ∨ q = ah ∨ q = awy) := gF.rf _ _ _
  have hl : lv_has ls 4 [(0, .ref mm), (1, .int a1), (2, .int a2), (3, .int a3)] := hl
  refine lv_aload_n hx hb dX4_shoot_0 rfl (lv_at hl 0 rfl) ?_
  refine g_V (As := []) (rest := []) (lv := [(0, .ref mm), (1, .int a1), (2, .int a2), (3, .int a3)]) C hI hS (c_X4_looksBack l hB G n mm ag ab ah ch asv hs aas ain ty er awy ir ali ln th pl wr ato f f0 c0_ c1_ c2_ (by omega) hne zf zf0) c0_ rfl rfl q2652 q2654 qs36 q94 q2655 (⟨by decide, by decide, by decide⟩ : gArg _ 0) rfl ⟨by decide, by decide⟩ (by omega) hl rfl (Nat.le_of_ble_eq_true rfl) dX4_shoot_1 (fun v1464 G1465 n1466 H locs hp1467 hI hS => ?_) gKx.no
  obtain ⟨rfl, hn1468, hF1469, c1470⟩ := hp1467
  refine W.widen (k := 0) (n := 200 * (0)) (by omega) (by omega) ?_
  have c0_ := hF1469.at c0_ (by omega) (g_no c0_ c2_)
  have c1_ := hF1469.at c1_ (by omega) hne
  have c3_ := hF1469.at c3_ (by omega) (g_na c3_ c2_ (Or.inr (by decide)))
  have c4_ := hF1469.at c4_ (by omega) (g_na c4_ c2_ (Or.inr (by decide)))
  have hF := hF.trans hF1469 (by omega) (fun q hq => (fun h => h ▸ (Or.inr (Or.inr (Or.inl rfl)))))
  refine lv_aload_n hx hb dX4_shoot_4 rfl (lv_at hl 0 rfl) ?_
  refine lv_aload_n hx hb dX4_shoot_5 rfl (lv_at hl 0 rfl) ?_
  refine lv_iload_n hx hb dX4_shoot_6 rfl (lv_at hl 1 rfl) ?_
  refine lv_iload_n hx hb dX4_shoot_7 rfl (lv_at hl 2 rfl) ?_
  refine lv_iload_n hx hb dX4_shoot_8 rfl (lv_at hl 3 rfl) ?_
  refine g_V (As := [.int a1, .int a2, .int a3]) (rest := [.ref mm]) (lv := [(0, .ref mm), (1, .int a1), (2, .int a2), (3, .int a3)]) C hI hS (c_X4_shoots l hB G1465 n1466 mm ag ab ah ch asv hs aas ain ty er awy ir ali ln th pl wr ato f y _ _ a1 a2 a3 c0_ c1_ c4_ (by omega) (by omega) (by omega) (by assumption) (by omega) (by assumption) (by omega)) c0_ rfl rfl q2738 q2740 qs45 q94 q2741 (⟨by decide, by decide, by decide⟩ : gArg _ 3) rfl ⟨by decide, by decide⟩ (by omega) hl rfl (Nat.le_of_ble_eq_true rfl) dX4_shoot_9 (fun v1471 G1472 n1473 H locs hp1474 hI hS => ?_) gKx.no
  obtain ⟨th2_1475, ir2_1476, r_1477, f2_1478, y2_1479, rfl, hn1480, hF1481, c1482, c1483, c1484, hq1485⟩ := hp1474
  refine W.widen (k := 0) (n := 200 * (0)) (by omega) (by omega) ?_
  have c3_ := hF1481.at c3_ (by omega) (fun h => h.elim (g_on c3_ c0_) (fun h => h.elim (g_na c3_ c1_ (Or.inr (by decide))) (g_na c3_ c4_ (Or.inr (by decide)))))
  have c1470 := hF1481.at c1470 (by omega) (fun h => h.elim (g_on c1470 c0_) (fun h => h.elim (Ne.symm hne) (g_na c1470 c4_ (Or.inr (by decide)))))
  have hF := hF.trans hF1481 (by omega) (fun q hq => (fun h => h.elim (fun h => h ▸ (Or.inl rfl)) (fun h => h.elim (fun h => h ▸ (Or.inr (Or.inl rfl))) (fun h => h ▸ (Or.inr (Or.inr (Or.inr (Or.inr (rfl)))))))))
  have zf1 := mR_Z hq1485 zf (dShoot_Z zf hnb hb3 hns hs10 a1 a2 a3)
  refine g_V (As := [.int r_1477]) (rest := []) (lv := [(0, .ref mm), (1, .int a1), (2, .int a2), (3, .int a3)]) C hI hS (c_X4_kept l hB G1472 n1473 mm ag ab ah ch asv hs aas ain ty er awy ir2_1476 ali ln th2_1475 pl wr ato f2_1478 f h cn r_1477 c1482 c1483 c1470 c3_ (by omega) (by omega) (by omega) (by omega) hne zf1 zf (by assumption) (by omega)) c1482 rfl rfl q2659 q2661 qs37 q94 q2662 (⟨by decide, by decide, by decide⟩ : gArg _ 1) rfl ⟨by decide, by decide⟩ (by omega) hl rfl (Nat.le_of_ble_eq_true rfl) dX4_shoot_12 (fun v1486 G1487 n1488 H locs hp1489 hI hS => ?_) gKx.no
  obtain ⟨r_1490, f2_1491, c2_1492, h2_1493, rfl, hn1494, hF1495, c1496, c1497, c1498, c1499, hk1500⟩ := hp1489
  refine W.widen (k := 0) (n := 200 * (0)) (by omega) (by omega) ?_
  have c1484 := hF1495.at c1484 (by omega) (fun h => h.elim (g_on c1484 c1482) (fun h => h.elim (g_na c1484 c1483 (Or.inr (by decide))) (g_na c1484 c3_ (Or.inr (by decide)))))
  have hF := hF.trans hF1495 (by omega) (fun q hq => (fun h => h.elim (fun h => h ▸ (Or.inl rfl)) (fun h => h.elim (fun h => h ▸ (Or.inr (Or.inl rfl))) (fun h => h ▸ (Or.inr (Or.inr (Or.inr (Or.inl rfl))))))))
  exact g_iret C hI hS (by omega) ⟨th2_1475, ir2_1476, r_1490, c2_1492, f2_1491, f, h2_1493, y2_1479, rfl, (by omega), hF, c1496, c1497, c1498, c1499, c1484, (by assumption), (mK_of (by decide) hq1485 hk1500)⟩ dX4_shoot_15
set_option maxHeartbeats 4000000 in
set_option maxRecDepth 100000 in
theorem c_X4_haul (l : Launch) {D : gD} (hB : gBs D) (G : gH) (n : Nat) (mm : Nat) (ag : Nat) (ab : Nat) (ah : Nat) (ch : Int32) (asv : Nat) (hs : Int32) (aas : Nat) (ain : Nat) (ty : Int32) (er : Int32) (awy : Nat) (ir : Int32) (ali : Nat) (ln : Int32) (th : Int32) (pl : Int32) (wr : Int32) (ato : Nat) (f : Nat → Int32) (f0 : Nat → Int32) (h : Nat → Int32) (y : Nat → Int32) (cn : Nat) (nb : Nat) (ns : Nat) (a1 : Int32) (a2 : Int32) (c0_ : G mm = some (.inl (23, [.ref ag, .ref ab, .ref ah, .int ch, .ref asv, .int hs, .ref aas, .ref ain, .int ty, .int er, .ref awy, .int ir, .ref ali, .int ln, .int th, .int pl, .int wr, .ref ato]))) (c1_ : G ag = some (aI 112 f)) (c2_ : G ab = some (aI 112 f0)) (c3_ : G ah = some (aI 896 h)) (c4_ : G awy = some (aI 6 y)) (hz : gz D ≤ mm) (hzg : gz D ≤ ag) (hzb : gz D ≤ ab) (hzh : gz D ≤ ah) (hzw : gz D ≤ awy) (hne : ag ≠ ab) (zf : rZ f) (zf0 : rZ f0) (hc : ch = nI cn) (hc8 : cn ≤ 8) (hnb : f 24 = nI nb) (hb3 : nb ≤ 3) (hns : f 46 = nI ns) (hs10 : ns ≤ 10) (hat : ∀ s, s < ns → f (57 + s) = -1 ∨ ∃ p, p ≤ 5 ∧ f (57 + s) = nI p) : gMet l D yX4_haul (ws_ yX4_haul cX4_haul 3 (some FieldType.int)) 4 0 G n [.ref mm, .int a1, .int a2] (fun (v : Option Value) (G1 : gH) (n1 : Nat) => ∃ (th2 : Int32) (ir2 : Int32) (r : Int32) (c2 : Nat) (f2 : Nat → Int32) (f02 : Nat → Int32) (h2 : Nat → Int32) (y2 : Nat → Int32), v = some (.int r) ∧ n ≤ n1 ∧ gF G G1 n (fun q : Nat => q = mm ∨ q = ag ∨ q = ab ∨ q = ah ∨ q = awy) ∧ G1 mm = some (.inl (23, [.ref ag, .ref ab, .ref ah, .int (nI c2), .ref asv, .int hs, .ref aas, .ref ain, .int ty, .int er, .ref awy, .int ir2, .ref ali, .int ln, .int th2, .int pl, .int wr, .ref ato])) ∧ G1 ag = some (aI 112 f2) ∧ G1 ab = some (aI 112 f02) ∧ G1 ah = some (aI 896 h2) ∧ G1 awy = some (aI 6 y2) ∧ rZ f02 ∧ mK 2 ir y cn h f (dHaul f a1 a2) = (th2, ir2, y2, c2, h2, r, f2)) gNox := by
  refine g_start (by decide) (Nat.le_of_ble_eq_true rfl) ?_
  intro p e s m below meth c ls C hnm hxt hI hl
  have hx := C.x
  have hb := C.b
  have hS : va_S (gA D) s.heap s.heap [] := va_S.rf
  have hz0 := hI.z
  have lc0_ := hI.lt c0_
  have lc1_ := hI.lt c1_
  have lc2_ := hI.lt c2_
  have lc3_ := hI.lt c3_
  have lc4_ := hI.lt c4_
  have hF : gF G G n (fun q : Nat => q = mm ∨ q = ag ∨ q = ab ∨ q = ah ∨ q = awy) := gF.rf _ _ _
  have hl : lv_has ls 3 [(0, .ref mm), (1, .int a1), (2, .int a2)] := hl
  refine lv_aload_n hx hb dX4_haul_0 rfl (lv_at hl 0 rfl) ?_
  refine g_V (As := []) (rest := []) (lv := [(0, .ref mm), (1, .int a1), (2, .int a2)]) C hI hS (c_X4_looksBack l hB G n mm ag ab ah ch asv hs aas ain ty er awy ir ali ln th pl wr ato f f0 c0_ c1_ c2_ (by omega) hne zf zf0) c0_ rfl rfl q2652 q2654 qs36 q94 q2655 (⟨by decide, by decide, by decide⟩ : gArg _ 0) rfl ⟨by decide, by decide⟩ (by omega) hl rfl (Nat.le_of_ble_eq_true rfl) dX4_haul_1 (fun v1501 G1502 n1503 H locs hp1504 hI hS => ?_) gKx.no
  obtain ⟨rfl, hn1505, hF1506, c1507⟩ := hp1504
  refine W.widen (k := 0) (n := 200 * (0)) (by omega) (by omega) ?_
  have c0_ := hF1506.at c0_ (by omega) (g_no c0_ c2_)
  have c1_ := hF1506.at c1_ (by omega) hne
  have c3_ := hF1506.at c3_ (by omega) (g_na c3_ c2_ (Or.inr (by decide)))
  have c4_ := hF1506.at c4_ (by omega) (g_na c4_ c2_ (Or.inr (by decide)))
  have hF := hF.trans hF1506 (by omega) (fun q hq => (fun h => h ▸ (Or.inr (Or.inr (Or.inl rfl)))))
  refine lv_aload_n hx hb dX4_haul_4 rfl (lv_at hl 0 rfl) ?_
  refine lv_aload_n hx hb dX4_haul_5 rfl (lv_at hl 0 rfl) ?_
  refine lv_iload_n hx hb dX4_haul_6 rfl (lv_at hl 1 rfl) ?_
  refine lv_iload_n hx hb dX4_haul_7 rfl (lv_at hl 2 rfl) ?_
  refine g_V (As := [.int a1, .int a2]) (rest := [.ref mm]) (lv := [(0, .ref mm), (1, .int a1), (2, .int a2)]) C hI hS (c_X4_hauls l hB G1502 n1503 mm ag ab ah ch asv hs aas ain ty er awy ir ali ln th pl wr ato f y _ _ a1 a2 c0_ c1_ c4_ (by omega) (by omega) (by omega) (by assumption) (by omega) (by assumption) (by omega) (by omega)) c0_ rfl rfl q2746 q2748 qs46 q94 q2749 (⟨by decide, by decide, by decide⟩ : gArg _ 2) rfl ⟨by decide, by decide⟩ (by omega) hl rfl (Nat.le_of_ble_eq_true rfl) dX4_haul_8 (fun v1508 G1509 n1510 H locs hp1511 hI hS => ?_) gKx.no
  obtain ⟨th2_1512, ir2_1513, r_1514, f2_1515, y2_1516, rfl, hn1517, hF1518, c1519, c1520, c1521, hq1522⟩ := hp1511
  refine W.widen (k := 0) (n := 200 * (0)) (by omega) (by omega) ?_
  have c3_ := hF1518.at c3_ (by omega) (fun h => h.elim (g_on c3_ c0_) (fun h => h.elim (g_na c3_ c1_ (Or.inr (by decide))) (g_na c3_ c4_ (Or.inr (by decide)))))
  have c1507 := hF1518.at c1507 (by omega) (fun h => h.elim (g_on c1507 c0_) (fun h => h.elim (Ne.symm hne) (g_na c1507 c4_ (Or.inr (by decide)))))
  have hF := hF.trans hF1518 (by omega) (fun q hq => (fun h => h.elim (fun h => h ▸ (Or.inl rfl)) (fun h => h.elim (fun h => h ▸ (Or.inr (Or.inl rfl))) (fun h => h ▸ (Or.inr (Or.inr (Or.inr (Or.inr (rfl)))))))))
  have zf1 := mR_Z hq1522 zf (dHaul_Z zf hnb hb3 hns hs10 hat a1 a2)
  refine g_V (As := [.int r_1514]) (rest := []) (lv := [(0, .ref mm), (1, .int a1), (2, .int a2)]) C hI hS (c_X4_kept l hB G1509 n1510 mm ag ab ah ch asv hs aas ain ty er awy ir2_1513 ali ln th2_1512 pl wr ato f2_1515 f h cn r_1514 c1519 c1520 c1507 c3_ (by omega) (by omega) (by omega) (by omega) hne zf1 zf (by assumption) (by omega)) c1519 rfl rfl q2659 q2661 qs37 q94 q2662 (⟨by decide, by decide, by decide⟩ : gArg _ 1) rfl ⟨by decide, by decide⟩ (by omega) hl rfl (Nat.le_of_ble_eq_true rfl) dX4_haul_11 (fun v1523 G1524 n1525 H locs hp1526 hI hS => ?_) gKx.no
  obtain ⟨r_1527, f2_1528, c2_1529, h2_1530, rfl, hn1531, hF1532, c1533, c1534, c1535, c1536, hk1537⟩ := hp1526
  refine W.widen (k := 0) (n := 200 * (0)) (by omega) (by omega) ?_
  have c1521 := hF1532.at c1521 (by omega) (fun h => h.elim (g_on c1521 c1519) (fun h => h.elim (g_na c1521 c1520 (Or.inr (by decide))) (g_na c1521 c3_ (Or.inr (by decide)))))
  have hF := hF.trans hF1532 (by omega) (fun q hq => (fun h => h.elim (fun h => h ▸ (Or.inl rfl)) (fun h => h.elim (fun h => h ▸ (Or.inr (Or.inl rfl))) (fun h => h ▸ (Or.inr (Or.inr (Or.inr (Or.inl rfl))))))))
  exact g_iret C hI hS (by omega) ⟨th2_1512, ir2_1513, r_1527, c2_1529, f2_1528, f, h2_1530, y2_1516, rfl, (by omega), hF, c1533, c1534, c1535, c1536, c1521, (by assumption), (mK_of (by decide) hq1522 hk1537)⟩ dX4_haul_14
set_option maxHeartbeats 4000000 in
set_option maxRecDepth 100000 in
theorem c_X4_land (l : Launch) {D : gD} (hB : gBs D) (G : gH) (n : Nat) (mm : Nat) (ag : Nat) (ab : Nat) (ah : Nat) (ch : Int32) (asv : Nat) (hs : Int32) (aas : Nat) (ain : Nat) (ty : Int32) (er : Int32) (awy : Nat) (ir : Int32) (ali : Nat) (ln : Int32) (th : Int32) (pl : Int32) (wr : Int32) (ato : Nat) (f : Nat → Int32) (f0 : Nat → Int32) (h : Nat → Int32) (y : Nat → Int32) (cn : Nat) (nb : Nat) (ns : Nat) (a1 : Int32) (c0_ : G mm = some (.inl (23, [.ref ag, .ref ab, .ref ah, .int ch, .ref asv, .int hs, .ref aas, .ref ain, .int ty, .int er, .ref awy, .int ir, .ref ali, .int ln, .int th, .int pl, .int wr, .ref ato]))) (c1_ : G ag = some (aI 112 f)) (c2_ : G ab = some (aI 112 f0)) (c3_ : G ah = some (aI 896 h)) (c4_ : G awy = some (aI 6 y)) (hz : gz D ≤ mm) (hzg : gz D ≤ ag) (hzb : gz D ≤ ab) (hzh : gz D ≤ ah) (hzw : gz D ≤ awy) (hne : ag ≠ ab) (zf : rZ f) (zf0 : rZ f0) (hc : ch = nI cn) (hc8 : cn ≤ 8) (hnb : f 24 = nI nb) (hb3 : nb ≤ 3) (hns : f 46 = nI ns) (hs10 : ns ≤ 10) : gMet l D yX4_land (ws_ yX4_land cX4_land 2 (some FieldType.int)) 4 0 G n [.ref mm, .int a1] (fun (v : Option Value) (G1 : gH) (n1 : Nat) => ∃ (th2 : Int32) (ir2 : Int32) (r : Int32) (c2 : Nat) (f2 : Nat → Int32) (f02 : Nat → Int32) (h2 : Nat → Int32) (y2 : Nat → Int32), v = some (.int r) ∧ n ≤ n1 ∧ gF G G1 n (fun q : Nat => q = mm ∨ q = ag ∨ q = ab ∨ q = ah ∨ q = awy) ∧ G1 mm = some (.inl (23, [.ref ag, .ref ab, .ref ah, .int (nI c2), .ref asv, .int hs, .ref aas, .ref ain, .int ty, .int er, .ref awy, .int ir2, .ref ali, .int ln, .int th2, .int pl, .int wr, .ref ato])) ∧ G1 ag = some (aI 112 f2) ∧ G1 ab = some (aI 112 f02) ∧ G1 ah = some (aI 896 h2) ∧ G1 awy = some (aI 6 y2) ∧ rZ f02 ∧ mK 2 ir y cn h f (dLand f a1) = (th2, ir2, y2, c2, h2, r, f2)) gNox := by
  refine g_start (by decide) (Nat.le_of_ble_eq_true rfl) ?_
  intro p e s m below meth c ls C hnm hxt hI hl
  have hx := C.x
  have hb := C.b
  have hS : va_S (gA D) s.heap s.heap [] := va_S.rf
  have hz0 := hI.z
  have lc0_ := hI.lt c0_
  have lc1_ := hI.lt c1_
  have lc2_ := hI.lt c2_
  have lc3_ := hI.lt c3_
  have lc4_ := hI.lt c4_
  have hF : gF G G n (fun q : Nat => q = mm ∨ q = ag ∨ q = ab ∨ q = ah ∨ q = awy) := gF.rf _ _ _
  have hl : lv_has ls 2 [(0, .ref mm), (1, .int a1)] := hl
  refine lv_aload_n hx hb dX4_land_0 rfl (lv_at hl 0 rfl) ?_
  refine g_V (As := []) (rest := []) (lv := [(0, .ref mm), (1, .int a1)]) C hI hS (c_X4_looksBack l hB G n mm ag ab ah ch asv hs aas ain ty er awy ir ali ln th pl wr ato f f0 c0_ c1_ c2_ (by omega) hne zf zf0) c0_ rfl rfl q2652 q2654 qs36 q94 q2655 (⟨by decide, by decide, by decide⟩ : gArg _ 0) rfl ⟨by decide, by decide⟩ (by omega) hl rfl (Nat.le_of_ble_eq_true rfl) dX4_land_1 (fun v1538 G1539 n1540 H locs hp1541 hI hS => ?_) gKx.no
  obtain ⟨rfl, hn1542, hF1543, c1544⟩ := hp1541
  refine W.widen (k := 0) (n := 200 * (0)) (by omega) (by omega) ?_
  have c0_ := hF1543.at c0_ (by omega) (g_no c0_ c2_)
  have c1_ := hF1543.at c1_ (by omega) hne
  have c3_ := hF1543.at c3_ (by omega) (g_na c3_ c2_ (Or.inr (by decide)))
  have c4_ := hF1543.at c4_ (by omega) (g_na c4_ c2_ (Or.inr (by decide)))
  have hF := hF.trans hF1543 (by omega) (fun q hq => (fun h => h ▸ (Or.inr (Or.inr (Or.inl rfl)))))
  refine lv_aload_n hx hb dX4_land_4 rfl (lv_at hl 0 rfl) ?_
  refine lv_aload_n hx hb dX4_land_5 rfl (lv_at hl 0 rfl) ?_
  refine lv_iload_n hx hb dX4_land_6 rfl (lv_at hl 1 rfl) ?_
  refine g_V (As := [.int a1]) (rest := [.ref mm]) (lv := [(0, .ref mm), (1, .int a1)]) C hI hS (c_X4_lands l hB G1539 n1540 mm ag ab ah ch asv hs aas ain ty er awy ir ali ln th pl wr ato f y _ _ a1 c0_ c1_ c4_ (by omega) (by omega) (by omega) (by assumption) (by omega) (by assumption) (by omega)) c0_ rfl rfl q2762 q2764 qs49 q94 q2765 (⟨by decide, by decide, by decide⟩ : gArg _ 1) rfl ⟨by decide, by decide⟩ (by omega) hl rfl (Nat.le_of_ble_eq_true rfl) dX4_land_7 (fun v1545 G1546 n1547 H locs hp1548 hI hS => ?_) gKx.no
  obtain ⟨th2_1549, ir2_1550, r_1551, f2_1552, y2_1553, rfl, hn1554, hF1555, c1556, c1557, c1558, hq1559⟩ := hp1548
  refine W.widen (k := 0) (n := 200 * (0)) (by omega) (by omega) ?_
  have c3_ := hF1555.at c3_ (by omega) (fun h => h.elim (g_on c3_ c0_) (fun h => h.elim (g_na c3_ c1_ (Or.inr (by decide))) (g_na c3_ c4_ (Or.inr (by decide)))))
  have c1544 := hF1555.at c1544 (by omega) (fun h => h.elim (g_on c1544 c0_) (fun h => h.elim (Ne.symm hne) (g_na c1544 c4_ (Or.inr (by decide)))))
  have hF := hF.trans hF1555 (by omega) (fun q hq => (fun h => h.elim (fun h => h ▸ (Or.inl rfl)) (fun h => h.elim (fun h => h ▸ (Or.inr (Or.inl rfl))) (fun h => h ▸ (Or.inr (Or.inr (Or.inr (Or.inr (rfl)))))))))
  have zf1 := mR_Z hq1559 zf (dLand_Z zf hnb hb3 a1)
  refine g_V (As := [.int r_1551]) (rest := []) (lv := [(0, .ref mm), (1, .int a1)]) C hI hS (c_X4_kept l hB G1546 n1547 mm ag ab ah ch asv hs aas ain ty er awy ir2_1550 ali ln th2_1549 pl wr ato f2_1552 f h cn r_1551 c1556 c1557 c1544 c3_ (by omega) (by omega) (by omega) (by omega) hne zf1 zf (by assumption) (by omega)) c1556 rfl rfl q2659 q2661 qs37 q94 q2662 (⟨by decide, by decide, by decide⟩ : gArg _ 1) rfl ⟨by decide, by decide⟩ (by omega) hl rfl (Nat.le_of_ble_eq_true rfl) dX4_land_10 (fun v1560 G1561 n1562 H locs hp1563 hI hS => ?_) gKx.no
  obtain ⟨r_1564, f2_1565, c2_1566, h2_1567, rfl, hn1568, hF1569, c1570, c1571, c1572, c1573, hk1574⟩ := hp1563
  refine W.widen (k := 0) (n := 200 * (0)) (by omega) (by omega) ?_
  have c1558 := hF1569.at c1558 (by omega) (fun h => h.elim (g_on c1558 c1556) (fun h => h.elim (g_na c1558 c1557 (Or.inr (by decide))) (g_na c1558 c3_ (Or.inr (by decide)))))
  have hF := hF.trans hF1569 (by omega) (fun q hq => (fun h => h.elim (fun h => h ▸ (Or.inl rfl)) (fun h => h.elim (fun h => h ▸ (Or.inr (Or.inl rfl))) (fun h => h ▸ (Or.inr (Or.inr (Or.inr (Or.inl rfl))))))))
  exact g_iret C hI hS (by omega) ⟨th2_1549, ir2_1550, r_1564, c2_1566, f2_1565, f, h2_1567, y2_1553, rfl, (by omega), hF, c1570, c1571, c1572, c1573, c1558, (by assumption), (mK_of (by decide) hq1559 hk1574)⟩ dX4_land_13
set_option maxHeartbeats 4000000 in
set_option maxRecDepth 100000 in
theorem c_X4_swell (l : Launch) {D : gD} (hB : gBs D) (G : gH) (n : Nat) (mm : Nat) (ag : Nat) (ab : Nat) (ah : Nat) (ch : Int32) (asv : Nat) (hs : Int32) (aas : Nat) (ain : Nat) (ty : Int32) (er : Int32) (awy : Nat) (ir : Int32) (ali : Nat) (ln : Int32) (th : Int32) (pl : Int32) (wr : Int32) (ato : Nat) (f : Nat → Int32) (f0 : Nat → Int32) (h : Nat → Int32) (y : Nat → Int32) (cn : Nat) (nb : Nat) (ns : Nat) (a1 : Int32) (c0_ : G mm = some (.inl (23, [.ref ag, .ref ab, .ref ah, .int ch, .ref asv, .int hs, .ref aas, .ref ain, .int ty, .int er, .ref awy, .int ir, .ref ali, .int ln, .int th, .int pl, .int wr, .ref ato]))) (c1_ : G ag = some (aI 112 f)) (c2_ : G ab = some (aI 112 f0)) (c3_ : G ah = some (aI 896 h)) (c4_ : G awy = some (aI 6 y)) (hz : gz D ≤ mm) (hzg : gz D ≤ ag) (hzb : gz D ≤ ab) (hzh : gz D ≤ ah) (hzw : gz D ≤ awy) (hne : ag ≠ ab) (zf : rZ f) (zf0 : rZ f0) (hc : ch = nI cn) (hc8 : cn ≤ 8) (hnb : f 24 = nI nb) (hb3 : nb ≤ 3) (hns : f 46 = nI ns) (hs10 : ns ≤ 10) : gMet l D yX4_swell (ws_ yX4_swell cX4_swell 2 (some FieldType.int)) 3 0 G n [.ref mm, .int a1] (fun (v : Option Value) (G1 : gH) (n1 : Nat) => ∃ (th2 : Int32) (ir2 : Int32) (r : Int32) (c2 : Nat) (f2 : Nat → Int32) (f02 : Nat → Int32) (h2 : Nat → Int32) (y2 : Nat → Int32), v = some (.int r) ∧ n ≤ n1 ∧ gF G G1 n (fun q : Nat => q = mm ∨ q = ag ∨ q = ab ∨ q = ah ∨ q = awy) ∧ G1 mm = some (.inl (23, [.ref ag, .ref ab, .ref ah, .int (nI c2), .ref asv, .int hs, .ref aas, .ref ain, .int ty, .int er, .ref awy, .int ir2, .ref ali, .int ln, .int th2, .int pl, .int wr, .ref ato])) ∧ G1 ag = some (aI 112 f2) ∧ G1 ab = some (aI 112 f02) ∧ G1 ah = some (aI 896 h2) ∧ G1 awy = some (aI 6 y2) ∧ rZ f02 ∧ mK 2 ir y cn h f (dSwell f a1) = (th2, ir2, y2, c2, h2, r, f2)) gNox := by
  refine g_start (by decide) (Nat.le_of_ble_eq_true rfl) ?_
  intro p e s m below meth c ls C hnm hxt hI hl
  have hx := C.x
  have hb := C.b
  have hS : va_S (gA D) s.heap s.heap [] := va_S.rf
  have hz0 := hI.z
  have lc0_ := hI.lt c0_
  have lc1_ := hI.lt c1_
  have lc2_ := hI.lt c2_
  have lc3_ := hI.lt c3_
  have lc4_ := hI.lt c4_
  have hF : gF G G n (fun q : Nat => q = mm ∨ q = ag ∨ q = ab ∨ q = ah ∨ q = awy) := gF.rf _ _ _
  have hl : lv_has ls 2 [(0, .ref mm), (1, .int a1)] := hl
  refine lv_aload_n hx hb dX4_swell_0 rfl (lv_at hl 0 rfl) ?_
  refine g_V (As := []) (rest := []) (lv := [(0, .ref mm), (1, .int a1)]) C hI hS (c_X4_looksBack l hB G n mm ag ab ah ch asv hs aas ain ty er awy ir ali ln th pl wr ato f f0 c0_ c1_ c2_ (by omega) hne zf zf0) c0_ rfl rfl q2652 q2654 qs36 q94 q2655 (⟨by decide, by decide, by decide⟩ : gArg _ 0) rfl ⟨by decide, by decide⟩ (by omega) hl rfl (Nat.le_of_ble_eq_true rfl) dX4_swell_1 (fun v1575 G1576 n1577 H locs hp1578 hI hS => ?_) gKx.no
  obtain ⟨rfl, hn1579, hF1580, c1581⟩ := hp1578
  refine W.widen (k := 0) (n := 200 * (0)) (by omega) (by omega) ?_
  have c0_ := hF1580.at c0_ (by omega) (g_no c0_ c2_)
  have c1_ := hF1580.at c1_ (by omega) hne
  have c3_ := hF1580.at c3_ (by omega) (g_na c3_ c2_ (Or.inr (by decide)))
  have c4_ := hF1580.at c4_ (by omega) (g_na c4_ c2_ (Or.inr (by decide)))
  have hF := hF.trans hF1580 (by omega) (fun q hq => (fun h => h ▸ (Or.inr (Or.inr (Or.inl rfl)))))
  refine lv_aload_n hx hb dX4_swell_4 rfl (lv_at hl 0 rfl) ?_
  refine lv_aload_n hx hb dX4_swell_5 rfl (lv_at hl 0 rfl) ?_
  refine lv_iload_n hx hb dX4_swell_6 rfl (lv_at hl 1 rfl) ?_
  refine g_V (As := [.int a1]) (rest := [.ref mm]) (lv := [(0, .ref mm), (1, .int a1)]) C hI hS (c_X4_swells l hB G1576 n1577 mm ag ab ah ch asv hs aas ain ty er awy ir ali ln th pl wr ato f y _ _ a1 c0_ c1_ c4_ (by omega) (by omega) (by omega) (by assumption) (by omega) (by assumption) (by omega)) c0_ rfl rfl q2805 q2807 qs55 q94 q2808 (⟨by decide, by decide, by decide⟩ : gArg _ 1) rfl ⟨by decide, by decide⟩ (by omega) hl rfl (Nat.le_of_ble_eq_true rfl) dX4_swell_7 (fun v1582 G1583 n1584 H locs hp1585 hI hS => ?_) gKx.no
  obtain ⟨th2_1586, ir2_1587, r_1588, f2_1589, y2_1590, rfl, hn1591, hF1592, c1593, c1594, c1595, hq1596⟩ := hp1585
  refine W.widen (k := 0) (n := 200 * (0)) (by omega) (by omega) ?_
  have c3_ := hF1592.at c3_ (by omega) (fun h => h.elim (g_on c3_ c0_) (fun h => h.elim (g_na c3_ c1_ (Or.inr (by decide))) (g_na c3_ c4_ (Or.inr (by decide)))))
  have c1581 := hF1592.at c1581 (by omega) (fun h => h.elim (g_on c1581 c0_) (fun h => h.elim (Ne.symm hne) (g_na c1581 c4_ (Or.inr (by decide)))))
  have hF := hF.trans hF1592 (by omega) (fun q hq => (fun h => h.elim (fun h => h ▸ (Or.inl rfl)) (fun h => h.elim (fun h => h ▸ (Or.inr (Or.inl rfl))) (fun h => h ▸ (Or.inr (Or.inr (Or.inr (Or.inr (rfl)))))))))
  have zf1 := mR_Z hq1596 zf (dSwell_Z zf a1)
  refine g_V (As := [.int r_1588]) (rest := []) (lv := [(0, .ref mm), (1, .int a1)]) C hI hS (c_X4_kept l hB G1583 n1584 mm ag ab ah ch asv hs aas ain ty er awy ir2_1587 ali ln th2_1586 pl wr ato f2_1589 f h cn r_1588 c1593 c1594 c1581 c3_ (by omega) (by omega) (by omega) (by omega) hne zf1 zf (by assumption) (by omega)) c1593 rfl rfl q2659 q2661 qs37 q94 q2662 (⟨by decide, by decide, by decide⟩ : gArg _ 1) rfl ⟨by decide, by decide⟩ (by omega) hl rfl (Nat.le_of_ble_eq_true rfl) dX4_swell_10 (fun v1597 G1598 n1599 H locs hp1600 hI hS => ?_) gKx.no
  obtain ⟨r_1601, f2_1602, c2_1603, h2_1604, rfl, hn1605, hF1606, c1607, c1608, c1609, c1610, hk1611⟩ := hp1600
  refine W.widen (k := 0) (n := 200 * (0)) (by omega) (by omega) ?_
  have c1595 := hF1606.at c1595 (by omega) (fun h => h.elim (g_on c1595 c1593) (fun h => h.elim (g_na c1595 c1594 (Or.inr (by decide))) (g_na c1595 c3_ (Or.inr (by decide)))))
  have hF := hF.trans hF1606 (by omega) (fun q hq => (fun h => h.elim (fun h => h ▸ (Or.inl rfl)) (fun h => h.elim (fun h => h ▸ (Or.inr (Or.inl rfl))) (fun h => h ▸ (Or.inr (Or.inr (Or.inr (Or.inl rfl))))))))
  exact g_iret C hI hS (by omega) ⟨th2_1586, ir2_1587, r_1601, c2_1603, f2_1602, f, h2_1604, y2_1590, rfl, (by omega), hF, c1607, c1608, c1609, c1610, c1595, (by assumption), (mK_of (by decide) hq1596 hk1611)⟩ dX4_swell_13
set_option maxHeartbeats 4000000 in
set_option maxRecDepth 100000 in
theorem c_X4_riddle (l : Launch) {D : gD} (hB : gBs D) (G : gH) (n : Nat) (mm : Nat) (ag : Nat) (ab : Nat) (ah : Nat) (ch : Int32) (asv : Nat) (hs : Int32) (aas : Nat) (ain : Nat) (ty : Int32) (er : Int32) (awy : Nat) (ir : Int32) (ali : Nat) (ln : Int32) (th : Int32) (pl : Int32) (wr : Int32) (ato : Nat) (f : Nat → Int32) (f0 : Nat → Int32) (h : Nat → Int32) (y : Nat → Int32) (cn : Nat) (nb : Nat) (ns : Nat) (a1 : Int32) (c0_ : G mm = some (.inl (23, [.ref ag, .ref ab, .ref ah, .int ch, .ref asv, .int hs, .ref aas, .ref ain, .int ty, .int er, .ref awy, .int ir, .ref ali, .int ln, .int th, .int pl, .int wr, .ref ato]))) (c1_ : G ag = some (aI 112 f)) (c2_ : G ab = some (aI 112 f0)) (c3_ : G ah = some (aI 896 h)) (c4_ : G awy = some (aI 6 y)) (hz : gz D ≤ mm) (hzg : gz D ≤ ag) (hzb : gz D ≤ ab) (hzh : gz D ≤ ah) (hzw : gz D ≤ awy) (hne : ag ≠ ab) (zf : rZ f) (zf0 : rZ f0) (hc : ch = nI cn) (hc8 : cn ≤ 8) (hnb : f 24 = nI nb) (hb3 : nb ≤ 3) (hns : f 46 = nI ns) (hs10 : ns ≤ 10) : gMet l D yX4_riddle (ws_ yX4_riddle cX4_riddle 2 (some FieldType.int)) 3 0 G n [.ref mm, .int a1] (fun (v : Option Value) (G1 : gH) (n1 : Nat) => ∃ (th2 : Int32) (ir2 : Int32) (r : Int32) (c2 : Nat) (f2 : Nat → Int32) (f02 : Nat → Int32) (h2 : Nat → Int32) (y2 : Nat → Int32), v = some (.int r) ∧ n ≤ n1 ∧ gF G G1 n (fun q : Nat => q = mm ∨ q = ag ∨ q = ab ∨ q = ah ∨ q = awy) ∧ G1 mm = some (.inl (23, [.ref ag, .ref ab, .ref ah, .int (nI c2), .ref asv, .int hs, .ref aas, .ref ain, .int ty, .int er, .ref awy, .int ir2, .ref ali, .int ln, .int th2, .int pl, .int wr, .ref ato])) ∧ G1 ag = some (aI 112 f2) ∧ G1 ab = some (aI 112 f02) ∧ G1 ah = some (aI 896 h2) ∧ G1 awy = some (aI 6 y2) ∧ rZ f02 ∧ mK 2 ir y cn h f (dRiddle f a1) = (th2, ir2, y2, c2, h2, r, f2)) gNox := by
  refine g_start (by decide) (Nat.le_of_ble_eq_true rfl) ?_
  intro p e s m below meth c ls C hnm hxt hI hl
  have hx := C.x
  have hb := C.b
  have hS : va_S (gA D) s.heap s.heap [] := va_S.rf
  have hz0 := hI.z
  have lc0_ := hI.lt c0_
  have lc1_ := hI.lt c1_
  have lc2_ := hI.lt c2_
  have lc3_ := hI.lt c3_
  have lc4_ := hI.lt c4_
  have hF : gF G G n (fun q : Nat => q = mm ∨ q = ag ∨ q = ab ∨ q = ah ∨ q = awy) := gF.rf _ _ _
  have hl : lv_has ls 2 [(0, .ref mm), (1, .int a1)] := hl
  refine lv_aload_n hx hb dX4_riddle_0 rfl (lv_at hl 0 rfl) ?_
  refine g_V (As := []) (rest := []) (lv := [(0, .ref mm), (1, .int a1)]) C hI hS (c_X4_looksBack l hB G n mm ag ab ah ch asv hs aas ain ty er awy ir ali ln th pl wr ato f f0 c0_ c1_ c2_ (by omega) hne zf zf0) c0_ rfl rfl q2652 q2654 qs36 q94 q2655 (⟨by decide, by decide, by decide⟩ : gArg _ 0) rfl ⟨by decide, by decide⟩ (by omega) hl rfl (Nat.le_of_ble_eq_true rfl) dX4_riddle_1 (fun v1612 G1613 n1614 H locs hp1615 hI hS => ?_) gKx.no
  obtain ⟨rfl, hn1616, hF1617, c1618⟩ := hp1615
  refine W.widen (k := 0) (n := 200 * (0)) (by omega) (by omega) ?_
  have c0_ := hF1617.at c0_ (by omega) (g_no c0_ c2_)
  have c1_ := hF1617.at c1_ (by omega) hne
  have c3_ := hF1617.at c3_ (by omega) (g_na c3_ c2_ (Or.inr (by decide)))
  have c4_ := hF1617.at c4_ (by omega) (g_na c4_ c2_ (Or.inr (by decide)))
  have hF := hF.trans hF1617 (by omega) (fun q hq => (fun h => h ▸ (Or.inr (Or.inr (Or.inl rfl)))))
  refine lv_aload_n hx hb dX4_riddle_4 rfl (lv_at hl 0 rfl) ?_
  refine lv_aload_n hx hb dX4_riddle_5 rfl (lv_at hl 0 rfl) ?_
  refine lv_iload_n hx hb dX4_riddle_6 rfl (lv_at hl 1 rfl) ?_
  refine g_V (As := [.int a1]) (rest := [.ref mm]) (lv := [(0, .ref mm), (1, .int a1)]) C hI hS (c_X4_riddles l hB G1613 n1614 mm ag ab ah ch asv hs aas ain ty er awy ir ali ln th pl wr ato f y _ _ a1 c0_ c1_ c4_ (by omega) (by omega) (by omega) (by assumption) (by omega) (by assumption) (by omega)) c0_ rfl rfl q2813 q2815 qs56 q94 q2816 (⟨by decide, by decide, by decide⟩ : gArg _ 1) rfl ⟨by decide, by decide⟩ (by omega) hl rfl (Nat.le_of_ble_eq_true rfl) dX4_riddle_7 (fun v1619 G1620 n1621 H locs hp1622 hI hS => ?_) gKx.no
  obtain ⟨th2_1623, ir2_1624, r_1625, f2_1626, y2_1627, rfl, hn1628, hF1629, c1630, c1631, c1632, hq1633⟩ := hp1622
  refine W.widen (k := 0) (n := 200 * (0)) (by omega) (by omega) ?_
  have c3_ := hF1629.at c3_ (by omega) (fun h => h.elim (g_on c3_ c0_) (fun h => h.elim (g_na c3_ c1_ (Or.inr (by decide))) (g_na c3_ c4_ (Or.inr (by decide)))))
  have c1618 := hF1629.at c1618 (by omega) (fun h => h.elim (g_on c1618 c0_) (fun h => h.elim (Ne.symm hne) (g_na c1618 c4_ (Or.inr (by decide)))))
  have hF := hF.trans hF1629 (by omega) (fun q hq => (fun h => h.elim (fun h => h ▸ (Or.inl rfl)) (fun h => h.elim (fun h => h ▸ (Or.inr (Or.inl rfl))) (fun h => h ▸ (Or.inr (Or.inr (Or.inr (Or.inr (rfl)))))))))
  have zf1 := mR_Z hq1633 zf (dRiddle_Z zf a1)
  refine g_V (As := [.int r_1625]) (rest := []) (lv := [(0, .ref mm), (1, .int a1)]) C hI hS (c_X4_kept l hB G1620 n1621 mm ag ab ah ch asv hs aas ain ty er awy ir2_1624 ali ln th2_1623 pl wr ato f2_1626 f h cn r_1625 c1630 c1631 c1618 c3_ (by omega) (by omega) (by omega) (by omega) hne zf1 zf (by assumption) (by omega)) c1630 rfl rfl q2659 q2661 qs37 q94 q2662 (⟨by decide, by decide, by decide⟩ : gArg _ 1) rfl ⟨by decide, by decide⟩ (by omega) hl rfl (Nat.le_of_ble_eq_true rfl) dX4_riddle_10 (fun v1634 G1635 n1636 H locs hp1637 hI hS => ?_) gKx.no
  obtain ⟨r_1638, f2_1639, c2_1640, h2_1641, rfl, hn1642, hF1643, c1644, c1645, c1646, c1647, hk1648⟩ := hp1637
  refine W.widen (k := 0) (n := 200 * (0)) (by omega) (by omega) ?_
  have c1632 := hF1643.at c1632 (by omega) (fun h => h.elim (g_on c1632 c1630) (fun h => h.elim (g_na c1632 c1631 (Or.inr (by decide))) (g_na c1632 c3_ (Or.inr (by decide)))))
  have hF := hF.trans hF1643 (by omega) (fun q hq => (fun h => h.elim (fun h => h ▸ (Or.inl rfl)) (fun h => h.elim (fun h => h ▸ (Or.inr (Or.inl rfl))) (fun h => h ▸ (Or.inr (Or.inr (Or.inr (Or.inl rfl))))))))
  exact g_iret C hI hS (by omega) ⟨th2_1623, ir2_1624, r_1638, c2_1640, f2_1639, f, h2_1641, y2_1627, rfl, (by omega), hF, c1644, c1645, c1646, c1647, c1632, (by assumption), (mK_of (by decide) hq1633 hk1648)⟩ dX4_riddle_13
set_option maxHeartbeats 4000000 in
set_option maxRecDepth 100000 in
theorem c_X4_pass (l : Launch) {D : gD} (hB : gBs D) (G : gH) (n : Nat) (mm : Nat) (ag : Nat) (ab : Nat) (ah : Nat) (ch : Int32) (asv : Nat) (hs : Int32) (aas : Nat) (ain : Nat) (ty : Int32) (er : Int32) (awy : Nat) (ir : Int32) (ali : Nat) (ln : Int32) (th : Int32) (pl : Int32) (wr : Int32) (ato : Nat) (f : Nat → Int32) (f0 : Nat → Int32) (h : Nat → Int32) (y : Nat → Int32) (cn : Nat) (nb : Nat) (ns : Nat) (a1 : Int32) (c0_ : G mm = some (.inl (23, [.ref ag, .ref ab, .ref ah, .int ch, .ref asv, .int hs, .ref aas, .ref ain, .int ty, .int er, .ref awy, .int ir, .ref ali, .int ln, .int th, .int pl, .int wr, .ref ato]))) (c1_ : G ag = some (aI 112 f)) (c2_ : G ab = some (aI 112 f0)) (c3_ : G ah = some (aI 896 h)) (c4_ : G awy = some (aI 6 y)) (hz : gz D ≤ mm) (hzg : gz D ≤ ag) (hzb : gz D ≤ ab) (hzh : gz D ≤ ah) (hzw : gz D ≤ awy) (hne : ag ≠ ab) (zf : rZ f) (zf0 : rZ f0) (hc : ch = nI cn) (hc8 : cn ≤ 8) (hnb : f 24 = nI nb) (hb3 : nb ≤ 3) (hns : f 46 = nI ns) (hs10 : ns ≤ 10) : gMet l D yX4_pass (ws_ yX4_pass cX4_pass 2 (some FieldType.int)) 5 0 G n [.ref mm, .int a1] (fun (v : Option Value) (G1 : gH) (n1 : Nat) => ∃ (th2 : Int32) (ir2 : Int32) (r : Int32) (c2 : Nat) (f2 : Nat → Int32) (f02 : Nat → Int32) (h2 : Nat → Int32) (y2 : Nat → Int32), v = some (.int r) ∧ n ≤ n1 ∧ gF G G1 n (fun q : Nat => q = mm ∨ q = ag ∨ q = ab ∨ q = ah ∨ q = awy) ∧ G1 mm = some (.inl (23, [.ref ag, .ref ab, .ref ah, .int (nI c2), .ref asv, .int hs, .ref aas, .ref ain, .int ty, .int er, .ref awy, .int ir2, .ref ali, .int ln, .int th2, .int pl, .int wr, .ref ato])) ∧ G1 ag = some (aI 112 f2) ∧ G1 ab = some (aI 112 f02) ∧ G1 ah = some (aI 896 h2) ∧ G1 awy = some (aI 6 y2) ∧ rZ f02 ∧ mK 2 ir y cn h f (dPass f a1) = (th2, ir2, y2, c2, h2, r, f2)) gNox := by
  refine g_start (by decide) (Nat.le_of_ble_eq_true rfl) ?_
  intro p e s m below meth c ls C hnm hxt hI hl
  have hx := C.x
  have hb := C.b
  have hS : va_S (gA D) s.heap s.heap [] := va_S.rf
  have hz0 := hI.z
  have lc0_ := hI.lt c0_
  have lc1_ := hI.lt c1_
  have lc2_ := hI.lt c2_
  have lc3_ := hI.lt c3_
  have lc4_ := hI.lt c4_
  have hF : gF G G n (fun q : Nat => q = mm ∨ q = ag ∨ q = ab ∨ q = ah ∨ q = awy) := gF.rf _ _ _
  have hl : lv_has ls 2 [(0, .ref mm), (1, .int a1)] := hl
  refine lv_aload_n hx hb dX4_pass_0 rfl (lv_at hl 0 rfl) ?_
  refine g_V (As := []) (rest := []) (lv := [(0, .ref mm), (1, .int a1)]) C hI hS (c_X4_looksBack l hB G n mm ag ab ah ch asv hs aas ain ty er awy ir ali ln th pl wr ato f f0 c0_ c1_ c2_ (by omega) hne zf zf0) c0_ rfl rfl q2652 q2654 qs36 q94 q2655 (⟨by decide, by decide, by decide⟩ : gArg _ 0) rfl ⟨by decide, by decide⟩ (by omega) hl rfl (Nat.le_of_ble_eq_true rfl) dX4_pass_1 (fun v1649 G1650 n1651 H locs hp1652 hI hS => ?_) gKx.no
  obtain ⟨rfl, hn1653, hF1654, c1655⟩ := hp1652
  refine W.widen (k := 0) (n := 200 * (0)) (by omega) (by omega) ?_
  have c0_ := hF1654.at c0_ (by omega) (g_no c0_ c2_)
  have c1_ := hF1654.at c1_ (by omega) hne
  have c3_ := hF1654.at c3_ (by omega) (g_na c3_ c2_ (Or.inr (by decide)))
  have c4_ := hF1654.at c4_ (by omega) (g_na c4_ c2_ (Or.inr (by decide)))
  have hF := hF.trans hF1654 (by omega) (fun q hq => (fun h => h ▸ (Or.inr (Or.inr (Or.inl rfl)))))
  refine lv_aload_n hx hb dX4_pass_4 rfl (lv_at hl 0 rfl) ?_
  refine lv_aload_n hx hb dX4_pass_5 rfl (lv_at hl 0 rfl) ?_
  refine lv_iload_n hx hb dX4_pass_6 rfl (lv_at hl 1 rfl) ?_
  refine g_V (As := [.int a1]) (rest := [.ref mm]) (lv := [(0, .ref mm), (1, .int a1)]) C hI hS (c_X4_passes l hB G1650 n1651 mm ag ab ah ch asv hs aas ain ty er awy ir ali ln th pl wr ato f y _ _ a1 c0_ c1_ c4_ (by omega) (by omega) (by omega) (by assumption) (by omega) (by assumption) (by omega)) c0_ rfl rfl q2821 q2823 qs57 q94 q2824 (⟨by decide, by decide, by decide⟩ : gArg _ 1) rfl ⟨by decide, by decide⟩ (by omega) hl rfl (Nat.le_of_ble_eq_true rfl) dX4_pass_7 (fun v1656 G1657 n1658 H locs hp1659 hI hS => ?_) gKx.no
  obtain ⟨th2_1660, ir2_1661, r_1662, f2_1663, y2_1664, rfl, hn1665, hF1666, c1667, c1668, c1669, hq1670⟩ := hp1659
  refine W.widen (k := 0) (n := 200 * (0)) (by omega) (by omega) ?_
  have c3_ := hF1666.at c3_ (by omega) (fun h => h.elim (g_on c3_ c0_) (fun h => h.elim (g_na c3_ c1_ (Or.inr (by decide))) (g_na c3_ c4_ (Or.inr (by decide)))))
  have c1655 := hF1666.at c1655 (by omega) (fun h => h.elim (g_on c1655 c0_) (fun h => h.elim (Ne.symm hne) (g_na c1655 c4_ (Or.inr (by decide)))))
  have hF := hF.trans hF1666 (by omega) (fun q hq => (fun h => h.elim (fun h => h ▸ (Or.inl rfl)) (fun h => h.elim (fun h => h ▸ (Or.inr (Or.inl rfl))) (fun h => h ▸ (Or.inr (Or.inr (Or.inr (Or.inr (rfl)))))))))
  have zf1 := mR_Z hq1670 zf (dPass_Z zf hnb hb3 hns hs10 a1)
  refine g_V (As := [.int r_1662]) (rest := []) (lv := [(0, .ref mm), (1, .int a1)]) C hI hS (c_X4_kept l hB G1657 n1658 mm ag ab ah ch asv hs aas ain ty er awy ir2_1661 ali ln th2_1660 pl wr ato f2_1663 f h cn r_1662 c1667 c1668 c1655 c3_ (by omega) (by omega) (by omega) (by omega) hne zf1 zf (by assumption) (by omega)) c1667 rfl rfl q2659 q2661 qs37 q94 q2662 (⟨by decide, by decide, by decide⟩ : gArg _ 1) rfl ⟨by decide, by decide⟩ (by omega) hl rfl (Nat.le_of_ble_eq_true rfl) dX4_pass_10 (fun v1671 G1672 n1673 H locs hp1674 hI hS => ?_) gKx.no
  obtain ⟨r_1675, f2_1676, c2_1677, h2_1678, rfl, hn1679, hF1680, c1681, c1682, c1683, c1684, hk1685⟩ := hp1674
  refine W.widen (k := 0) (n := 200 * (0)) (by omega) (by omega) ?_
  have c1669 := hF1680.at c1669 (by omega) (fun h => h.elim (g_on c1669 c1667) (fun h => h.elim (g_na c1669 c1668 (Or.inr (by decide))) (g_na c1669 c3_ (Or.inr (by decide)))))
  have hF := hF.trans hF1680 (by omega) (fun q hq => (fun h => h.elim (fun h => h ▸ (Or.inl rfl)) (fun h => h.elim (fun h => h ▸ (Or.inr (Or.inl rfl))) (fun h => h ▸ (Or.inr (Or.inr (Or.inr (Or.inl rfl))))))))
  exact g_iret C hI hS (by omega) ⟨th2_1660, ir2_1661, r_1675, c2_1677, f2_1676, f, h2_1678, y2_1664, rfl, (by omega), hF, c1681, c1682, c1683, c1684, c1669, (by assumption), (mK_of (by decide) hq1670 hk1685)⟩ dX4_pass_13
set_option maxHeartbeats 4000000 in
set_option maxRecDepth 100000 in
theorem c_X4_stock (l : Launch) {D : gD} (hB : gBs D) (G : gH) (n : Nat) (mm : Nat) (ag : Nat) (ab : Nat) (ah : Nat) (ch : Int32) (asv : Nat) (hs : Int32) (aas : Nat) (ain : Nat) (ty : Int32) (er : Int32) (awy : Nat) (ir : Int32) (ali : Nat) (ln : Int32) (th : Int32) (pl : Int32) (wr : Int32) (ato : Nat) (f : Nat → Int32) (f0 : Nat → Int32) (h : Nat → Int32) (y : Nat → Int32) (cn : Nat) (nb : Nat) (ns : Nat) (a1 : Int32) (a2 : Int32) (a3 : Int32) (c0_ : G mm = some (.inl (23, [.ref ag, .ref ab, .ref ah, .int ch, .ref asv, .int hs, .ref aas, .ref ain, .int ty, .int er, .ref awy, .int ir, .ref ali, .int ln, .int th, .int pl, .int wr, .ref ato]))) (c1_ : G ag = some (aI 112 f)) (c2_ : G ab = some (aI 112 f0)) (c3_ : G ah = some (aI 896 h)) (c4_ : G awy = some (aI 6 y)) (hz : gz D ≤ mm) (hzg : gz D ≤ ag) (hzb : gz D ≤ ab) (hzh : gz D ≤ ah) (hzw : gz D ≤ awy) (hne : ag ≠ ab) (zf : rZ f) (zf0 : rZ f0) (hc : ch = nI cn) (hc8 : cn ≤ 8) (hnb : f 24 = nI nb) (hb3 : nb ≤ 3) (hns : f 46 = nI ns) (hs10 : ns ≤ 10) : gMet l D yX4_stock (ws_ yX4_stock cX4_stock 6 (some FieldType.int)) 3 0 G n [.ref mm, .int a1, .int a2, .int a3] (fun (v : Option Value) (G1 : gH) (n1 : Nat) => ∃ (th2 : Int32) (ir2 : Int32) (r : Int32) (c2 : Nat) (f2 : Nat → Int32) (f02 : Nat → Int32) (h2 : Nat → Int32) (y2 : Nat → Int32), v = some (.int r) ∧ n ≤ n1 ∧ gF G G1 n (fun q : Nat => q = mm ∨ q = ag ∨ q = ab ∨ q = ah ∨ q = awy) ∧ G1 mm = some (.inl (23, [.ref ag, .ref ab, .ref ah, .int (nI c2), .ref asv, .int hs, .ref aas, .ref ain, .int ty, .int er, .ref awy, .int ir2, .ref ali, .int ln, .int th2, .int pl, .int wr, .ref ato])) ∧ G1 ag = some (aI 112 f2) ∧ G1 ab = some (aI 112 f02) ∧ G1 ah = some (aI 896 h2) ∧ G1 awy = some (aI 6 y2) ∧ rZ f02 ∧ mK 2 ir y cn h f (dStock f a1 a2 a3) = (th2, ir2, y2, c2, h2, r, f2)) gNox := by
  refine g_start (by decide) (Nat.le_of_ble_eq_true rfl) ?_
  intro p e s m below meth c ls C hnm hxt hI hl
  have hx := C.x
  have hb := C.b
  have hS : va_S (gA D) s.heap s.heap [] := va_S.rf
  have hz0 := hI.z
  have lc0_ := hI.lt c0_
  have lc1_ := hI.lt c1_
  have lc2_ := hI.lt c2_
  have lc3_ := hI.lt c3_
  have lc4_ := hI.lt c4_
  have hF : gF G G n (fun q : Nat => q = mm ∨ q = ag ∨ q = ab ∨ q = ah ∨ q = awy) := gF.rf _ _ _
  have hl : lv_has ls 6 [(0, .ref mm), (1, .int a1), (2, .int a2), (3, .int a3)] := hl
  refine lv_iload_n hx hb dX4_stock_0 rfl (lv_at hl 1 rfl) ?_
  refine g_S (As := [.int a1]) (rest := []) (lv := [(0, .ref mm), (1, .int a1), (2, .int a2), (3, .int a3)]) C hI hS (c_X4_isGround l hB G n a1  ) q2631 q2632 q94 q2633 (⟨by decide, by decide, by decide⟩ : gArg _ 1) rfl ⟨by decide, by decide⟩ (by omega) hl rfl (Nat.le_of_ble_eq_true rfl) dX4_stock_1 (fun v1686 G1687 n1688 H locs hp1689 hI hS => ?_) gKx.no
  obtain ⟨rfl, eG1687, en1688⟩ := hp1689
  refine W.widen (k := 0) (n := 200 * (0)) (by omega) (by omega) ?_
  rw [eG1687, en1688] at hI
  refine lv_if_ne (tgt := 13) hx hb dX4_stock_4 (by decide) (fun c_1692 => ?_) (fun c_1692 => ?_)
  · skip
    obtain ⟨j_a1, hj_a1, ej_a1⟩ := gin_ok (k := 5) c_1692 (by decide)
    have tj_a1 : a1.toNatClampNeg = j_a1 := by rw [ej_a1]; exact nI_clamp (by omega)
    refine lv_iload_n hx hb dX4_stock_13 rfl (lv_at hl 2 rfl) ?_
    refine g_S (As := [.int a2]) (rest := []) (lv := [(0, .ref mm), (1, .int a1), (2, .int a2), (3, .int a3)]) C hI hS (c_X4_isSize l hB G n a2  ) q2641 q2642 q94 q2643 (⟨by decide, by decide, by decide⟩ : gArg _ 1) rfl ⟨by decide, by decide⟩ (by omega) hl rfl (Nat.le_of_ble_eq_true rfl) dX4_stock_14 (fun v1693 G1694 n1695 H locs hp1696 hI hS => ?_) gKx.no
    obtain ⟨rfl, eG1694, en1695⟩ := hp1696
    refine W.widen (k := 0) (n := 200 * (0)) (by omega) (by omega) ?_
    rw [eG1694, en1695] at hI
    refine lv_if_eq (tgt := 31) hx hb dX4_stock_17 (by decide) (fun c_1699 => ?_) (fun c_1699 => ?_)
    · skip
      refine lv_aload_n hx hb dX4_stock_31 rfl (lv_at hl 0 rfl) ?_
      refine lv_iconst (v := 2) hx hb dX4_stock_32 (by decide) ?_
      refine g_V (As := [.int 2]) (rest := []) (lv := [(0, .ref mm), (1, .int a1), (2, .int a2), (3, .int a3)]) C hI hS (c_X4_fails l hB G n mm ag ab ah ch asv hs aas ain ty er awy ir ali ln th pl wr ato 2 c0_ (by omega)) c0_ rfl rfl q2637 q2639 qs34 q94 q2640 (⟨by decide, by decide, by decide⟩ : gArg _ 1) rfl ⟨by decide, by decide⟩ (by omega) hl rfl (Nat.le_of_ble_eq_true rfl) dX4_stock_33 (fun v1700 G1701 n1702 H locs hp1703 hI hS => ?_) gKx.no
      obtain ⟨rfl, hn1704, hF1705, c1706⟩ := hp1703
      refine W.widen (k := 0) (n := 200 * (0)) (by omega) (by omega) ?_
      have c1_ := hF1705.at c1_ (by omega) (g_on c1_ c0_)
      have c2_ := hF1705.at c2_ (by omega) (g_on c2_ c0_)
      have c3_ := hF1705.at c3_ (by omega) (g_on c3_ c0_)
      have c4_ := hF1705.at c4_ (by omega) (g_on c4_ c0_)
      have hF := hF.trans hF1705 (by omega) (fun q hq => (fun h => h ▸ (Or.inl rfl)))
      exact g_iret C hI hS (by omega) ⟨2, 0, 0, cn, f, f0, h, y, rfl, (by omega), hF, (by rw [← hc]; exact c1706), c1_, c2_, c3_, c4_, (by assumption), (by simp [mK, oV, oF, sCall, sArg, sRef, sOk, sWhy, dStock, c_1692, tj_a1, c_1699])⟩ dX4_stock_36
    · skip
      obtain ⟨j_a2, hj_a2, ej_a2⟩ := gin_ok (k := 2) c_1699 (by decide)
      have tj_a2 : a2.toNatClampNeg = j_a2 := by rw [ej_a2]; exact nI_clamp (by omega)
      refine lv_iload_n hx hb dX4_stock_20 rfl (lv_at hl 3 rfl) ?_
      refine lv_iconst (v := 0) hx hb dX4_stock_21 (by decide) ?_
      refine lv_sipush (v := 999) hx hb dX4_stock_22 (by decide) ?_
      refine g_S (As := [.int a3, .int 0, .int 999]) (rest := []) (lv := [(0, .ref mm), (1, .int a1), (2, .int a2), (3, .int a3)]) C hI hS (c_X4_in l hB G n a3 0 999  ) q2634 q2635 q94 q2636 (⟨by decide, by decide, by decide⟩ : gArg _ 3) rfl ⟨by decide, by decide⟩ (by omega) hl rfl (Nat.le_of_ble_eq_true rfl) dX4_stock_25 (fun v1707 G1708 n1709 H locs hp1710 hI hS => ?_) gKx.no
      obtain ⟨rfl, eG1708, en1709⟩ := hp1710
      refine W.widen (k := 0) (n := 200 * (0)) (by omega) (by omega) ?_
      rw [eG1708, en1709] at hI
      refine lv_if_ne (tgt := 37) hx hb dX4_stock_28 (by decide) (fun c_1713 => ?_) (fun c_1713 => ?_)
      · skip
        obtain ⟨j_a3, hj_a3, ej_a3⟩ := gin_ok (k := 999) c_1713 (by decide)
        have tj_a3 : a3.toNatClampNeg = j_a3 := by rw [ej_a3]; exact nI_clamp (by omega)
        refine lv_aload_n hx hb dX4_stock_37 rfl (lv_at hl 0 rfl) ?_
        refine g_V (As := []) (rest := []) (lv := [(0, .ref mm), (1, .int a1), (2, .int a2), (3, .int a3)]) C hI hS (c_X4_looksBack l hB G n mm ag ab ah ch asv hs aas ain ty er awy ir ali ln th pl wr ato f f0 c0_ c1_ c2_ (by omega) hne zf zf0) c0_ rfl rfl q2652 q2654 qs36 q94 q2655 (⟨by decide, by decide, by decide⟩ : gArg _ 0) rfl ⟨by decide, by decide⟩ (by omega) hl rfl (Nat.le_of_ble_eq_true rfl) dX4_stock_38 (fun v1714 G1715 n1716 H locs hp1717 hI hS => ?_) gKx.no
        obtain ⟨rfl, hn1718, hF1719, c1720⟩ := hp1717
        refine W.widen (k := 0) (n := 200 * (0)) (by omega) (by omega) ?_
        have c0_ := hF1719.at c0_ (by omega) (g_no c0_ c2_)
        have c1_ := hF1719.at c1_ (by omega) hne
        have c3_ := hF1719.at c3_ (by omega) (g_na c3_ c2_ (Or.inr (by decide)))
        have c4_ := hF1719.at c4_ (by omega) (g_na c4_ c2_ (Or.inr (by decide)))
        have hF := hF.trans hF1719 (by omega) (fun q hq => (fun h => h ▸ (Or.inr (Or.inr (Or.inl rfl)))))
        refine lv_iconst (v := 3) hx hb dX4_stock_41 (by decide) ?_
        refine lv_iconst (v := 3) hx hb dX4_stock_42 (by decide) ?_
        refine lv_iload_n hx hb dX4_stock_43 rfl (lv_at hl 1 rfl) ?_
        refine lv_imul hx hb dX4_stock_44 ?_
        refine lv_iadd hx hb dX4_stock_45 ?_
        refine lv_iload_n hx hb dX4_stock_46 rfl (lv_at hl 2 rfl) ?_
        refine lv_iadd hx hb dX4_stock_47 ?_
        refine lv_istore (lv' := [(4, .int ((3 + (3 * a1)) + a2)), (0, .ref mm), (1, .int a1), (2, .int a2), (3, .int a3)]) hx hb dX4_stock_48 hl (by decide) rfl (fun ls hl => ?_)
        refine lv_aload_n hx hb dX4_stock_50 rfl (lv_at hl 1 rfl) ?_
        refine g_get C hI c0_ kc23 0 rfl q2567 (fun _ h9 => h9) dX4_stock_51 ?_
        refine lv_iload hx hb dX4_stock_54 (lv_at hl 0 rfl) ?_
        refine g_iald (v := .int (f ((3 + (3 * j_a1)) + j_a2))) C hI c1_ (gix (gadd (gadd nl3 (gmul nl3 ej_a1)) ej_a2) (by omega) (by omega)) (congrArg Value.int (gixv (f := f) (gadd (gadd nl3 (gmul nl3 ej_a1)) ej_a2) (by omega))) dX4_stock_56 ?_
        refine lv_istore (lv' := [(5, .int (f ((3 + (3 * j_a1)) + j_a2))), (4, .int ((3 + (3 * a1)) + a2)), (0, .ref mm), (1, .int a1), (2, .int a2), (3, .int a3)]) hx hb dX4_stock_57 hl (by decide) rfl (fun ls hl => ?_)
        refine lv_aload_n hx hb dX4_stock_59 rfl (lv_at hl 2 rfl) ?_
        refine g_get C hI c0_ kc23 0 rfl q2567 (fun _ h9 => h9) dX4_stock_60 ?_
        refine lv_iload hx hb dX4_stock_63 (lv_at hl 1 rfl) ?_
        refine lv_iload_n hx hb dX4_stock_65 rfl (lv_at hl 5 rfl) ?_
        refine g_iast C hI hS c1_ (by omega) (gix (gadd (gadd nl3 (gmul nl3 ej_a1)) ej_a2) (by omega) (by omega)) dX4_stock_66 (fun G1721 H locs e1722 hI hS => ?_)
        rw [gup_e (gadd (gadd nl3 (gmul nl3 ej_a1)) ej_a2) (by omega)] at e1722
        have c0_ := gE_k e1722 c0_ (g_no c0_ c1_)
        have c3_ := gE_k e1722 c3_ (g_na c3_ c1_ (Or.inr (by decide)))
        have c4_ := gE_k e1722 c4_ (g_na c4_ c1_ (Or.inr (by decide)))
        have c1720 := gE_k e1722 c1720 (Ne.symm hne)
        have c1_ : G1721 ag = some (aI 112 (gup f ((3 + (3 * j_a1)) + j_a2) a3)) := gE_s e1722
        have hF := gE_F e1722 hF (Or.inr (Or.inr (Or.inl rfl)))
        refine lv_aload_n hx hb dX4_stock_67 rfl (lv_at hl 2 rfl) ?_
        refine lv_aload_n hx hb dX4_stock_68 rfl (lv_at hl 2 rfl) ?_
        refine lv_iload hx hb dX4_stock_69 (lv_at hl 0 rfl) ?_
        refine g_V (As := [.int (f ((3 + (3 * j_a1)) + j_a2))]) (rest := [.ref mm]) (lv := [(5, .int (f ((3 + (3 * j_a1)) + j_a2))), (4, .int ((3 + (3 * a1)) + a2)), (0, .ref mm), (1, .int a1), (2, .int a2), (3, .int a3)]) C hI hS (c_X4_done l hB G1721 n1716 mm ag ab ah ch asv hs aas ain ty er awy ir ali ln th pl wr ato (f ((3 + (3 * j_a1)) + j_a2)) c0_ (by omega)) c0_ rfl rfl q2644 q2646 qs35 q94 q2647 (⟨by decide, by decide, by decide⟩ : gArg _ 1) rfl ⟨by decide, by decide⟩ (by omega) hl rfl (Nat.le_of_ble_eq_true rfl) dX4_stock_71 (fun v1724 G1725 n1726 H locs hp1727 hI hS => ?_) gKx.no
        obtain ⟨rfl, hn1728, hF1729, c1730⟩ := hp1727
        refine W.widen (k := 0) (n := 200 * (0)) (by omega) (by omega) ?_
        have c1_ := hF1729.at c1_ (by omega) (g_on c1_ c0_)
        have c3_ := hF1729.at c3_ (by omega) (g_on c3_ c0_)
        have c4_ := hF1729.at c4_ (by omega) (g_on c4_ c0_)
        have c1720 := hF1729.at c1720 (by omega) (g_on c1720 c0_)
        have hF := hF.trans hF1729 (by omega) (fun q hq => (fun h => h ▸ (Or.inl rfl)))
        refine g_V (As := [.int (f ((3 + (3 * j_a1)) + j_a2))]) (rest := []) (lv := [(5, .int (f ((3 + (3 * j_a1)) + j_a2))), (4, .int ((3 + (3 * a1)) + a2)), (0, .ref mm), (1, .int a1), (2, .int a2), (3, .int a3)]) C hI hS (c_X4_kept l hB G1725 n1726 mm ag ab ah ch asv hs aas ain ty er awy ir ali ln 0 pl wr ato (gup f ((3 + (3 * j_a1)) + j_a2) a3) f h cn (f ((3 + (3 * j_a1)) + j_a2)) c1730 c1_ c1720 c3_ (by omega) (by omega) (by omega) (by omega) hne (rZ_gup zf (by omega)) zf (by assumption) (by omega)) c1730 rfl rfl q2659 q2661 qs37 q94 q2662 (⟨by decide, by decide, by decide⟩ : gArg _ 1) rfl ⟨by decide, by decide⟩ (by omega) hl rfl (Nat.le_of_ble_eq_true rfl) dX4_stock_74 (fun v1731 G1732 n1733 H locs hp1734 hI hS => ?_) gKx.no
        obtain ⟨r_1735, f2_1736, c2_1737, h2_1738, rfl, hn1739, hF1740, c1741, c1742, c1743, c1744, hk1745⟩ := hp1734
        refine W.widen (k := 0) (n := 200 * (0)) (by omega) (by omega) ?_
        have c4_ := hF1740.at c4_ (by omega) (fun h => h.elim (g_on c4_ c1730) (fun h => h.elim (g_na c4_ c1_ (Or.inr (by decide))) (g_na c4_ c3_ (Or.inr (by decide)))))
        have hF := hF.trans hF1740 (by omega) (fun q hq => (fun h => h.elim (fun h => h ▸ (Or.inl rfl)) (fun h => h.elim (fun h => h ▸ (Or.inr (Or.inl rfl))) (fun h => h ▸ (Or.inr (Or.inr (Or.inr (Or.inl rfl))))))))
        exact g_iret C hI hS (by omega) ⟨0, ir, r_1735, c2_1737, f2_1736, f, h2_1738, y, rfl, (by omega), hF, c1741, c1742, c1743, c1744, c4_, (by assumption), (by have hk9 := hk1745; simp only [kK, if_true, Prod.mk.injEq] at hk9; obtain ⟨rfl, rfl, rfl, rfl⟩ := hk9; simp [mK, oV, oF, sCall, sArg, sRef, sOk, sWhy, dStock, c_1692, tj_a1, c_1699, tj_a2, c_1713, tj_a3])⟩ dX4_stock_77
      · skip
        refine lv_aload_n hx hb dX4_stock_31 rfl (lv_at hl 0 rfl) ?_
        refine lv_iconst (v := 2) hx hb dX4_stock_32 (by decide) ?_
        refine g_V (As := [.int 2]) (rest := []) (lv := [(0, .ref mm), (1, .int a1), (2, .int a2), (3, .int a3)]) C hI hS (c_X4_fails l hB G n mm ag ab ah ch asv hs aas ain ty er awy ir ali ln th pl wr ato 2 c0_ (by omega)) c0_ rfl rfl q2637 q2639 qs34 q94 q2640 (⟨by decide, by decide, by decide⟩ : gArg _ 1) rfl ⟨by decide, by decide⟩ (by omega) hl rfl (Nat.le_of_ble_eq_true rfl) dX4_stock_33 (fun v1746 G1747 n1748 H locs hp1749 hI hS => ?_) gKx.no
        obtain ⟨rfl, hn1750, hF1751, c1752⟩ := hp1749
        refine W.widen (k := 0) (n := 200 * (0)) (by omega) (by omega) ?_
        have c1_ := hF1751.at c1_ (by omega) (g_on c1_ c0_)
        have c2_ := hF1751.at c2_ (by omega) (g_on c2_ c0_)
        have c3_ := hF1751.at c3_ (by omega) (g_on c3_ c0_)
        have c4_ := hF1751.at c4_ (by omega) (g_on c4_ c0_)
        have hF := hF.trans hF1751 (by omega) (fun q hq => (fun h => h ▸ (Or.inl rfl)))
        exact g_iret C hI hS (by omega) ⟨2, 0, 0, cn, f, f0, h, y, rfl, (by omega), hF, (by rw [← hc]; exact c1752), c1_, c2_, c3_, c4_, (by assumption), (by simp [mK, oV, oF, sCall, sArg, sRef, sOk, sWhy, dStock, c_1692, tj_a1, c_1699, tj_a2, c_1713])⟩ dX4_stock_36
  · skip
    refine lv_aload_n hx hb dX4_stock_7 rfl (lv_at hl 0 rfl) ?_
    refine lv_iconst (v := 1) hx hb dX4_stock_8 (by decide) ?_
    refine g_V (As := [.int 1]) (rest := []) (lv := [(0, .ref mm), (1, .int a1), (2, .int a2), (3, .int a3)]) C hI hS (c_X4_fails l hB G n mm ag ab ah ch asv hs aas ain ty er awy ir ali ln th pl wr ato 1 c0_ (by omega)) c0_ rfl rfl q2637 q2639 qs34 q94 q2640 (⟨by decide, by decide, by decide⟩ : gArg _ 1) rfl ⟨by decide, by decide⟩ (by omega) hl rfl (Nat.le_of_ble_eq_true rfl) dX4_stock_9 (fun v1753 G1754 n1755 H locs hp1756 hI hS => ?_) gKx.no
    obtain ⟨rfl, hn1757, hF1758, c1759⟩ := hp1756
    refine W.widen (k := 0) (n := 200 * (0)) (by omega) (by omega) ?_
    have c1_ := hF1758.at c1_ (by omega) (g_on c1_ c0_)
    have c2_ := hF1758.at c2_ (by omega) (g_on c2_ c0_)
    have c3_ := hF1758.at c3_ (by omega) (g_on c3_ c0_)
    have c4_ := hF1758.at c4_ (by omega) (g_on c4_ c0_)
    have hF := hF.trans hF1758 (by omega) (fun q hq => (fun h => h ▸ (Or.inl rfl)))
    exact g_iret C hI hS (by omega) ⟨1, 0, 0, cn, f, f0, h, y, rfl, (by omega), hF, (by rw [← hc]; exact c1759), c1_, c2_, c3_, c4_, (by assumption), (by simp [mK, oV, oF, sCall, sArg, sRef, sOk, sWhy, dStock, c_1692])⟩ dX4_stock_12
set_option maxHeartbeats 4000000 in
set_option maxRecDepth 100000 in
theorem c_X4_box (l : Launch) {D : gD} (hB : gBs D) (G : gH) (n : Nat) (mm : Nat) (ag : Nat) (ab : Nat) (ah : Nat) (ch : Int32) (asv : Nat) (hs : Int32) (aas : Nat) (ain : Nat) (ty : Int32) (er : Int32) (awy : Nat) (ir : Int32) (ali : Nat) (ln : Int32) (th : Int32) (pl : Int32) (wr : Int32) (ato : Nat) (f : Nat → Int32) (f0 : Nat → Int32) (h : Nat → Int32) (y : Nat → Int32) (cn : Nat) (nb : Nat) (ns : Nat) (a1 : Int32) (a2 : Int32) (c0_ : G mm = some (.inl (23, [.ref ag, .ref ab, .ref ah, .int ch, .ref asv, .int hs, .ref aas, .ref ain, .int ty, .int er, .ref awy, .int ir, .ref ali, .int ln, .int th, .int pl, .int wr, .ref ato]))) (c1_ : G ag = some (aI 112 f)) (c2_ : G ab = some (aI 112 f0)) (c3_ : G ah = some (aI 896 h)) (c4_ : G awy = some (aI 6 y)) (hz : gz D ≤ mm) (hzg : gz D ≤ ag) (hzb : gz D ≤ ab) (hzh : gz D ≤ ah) (hzw : gz D ≤ awy) (hne : ag ≠ ab) (zf : rZ f) (zf0 : rZ f0) (hc : ch = nI cn) (hc8 : cn ≤ 8) (hnb : f 24 = nI nb) (hb3 : nb ≤ 3) (hns : f 46 = nI ns) (hs10 : ns ≤ 10) : gMet l D yX4_box (ws_ yX4_box cX4_box 3 (some FieldType.int)) 3 0 G n [.ref mm, .int a1, .int a2] (fun (v : Option Value) (G1 : gH) (n1 : Nat) => ∃ (th2 : Int32) (ir2 : Int32) (r : Int32) (c2 : Nat) (f2 : Nat → Int32) (f02 : Nat → Int32) (h2 : Nat → Int32) (y2 : Nat → Int32), v = some (.int r) ∧ n ≤ n1 ∧ gF G G1 n (fun q : Nat => q = mm ∨ q = ag ∨ q = ab ∨ q = ah ∨ q = awy) ∧ G1 mm = some (.inl (23, [.ref ag, .ref ab, .ref ah, .int (nI c2), .ref asv, .int hs, .ref aas, .ref ain, .int ty, .int er, .ref awy, .int ir2, .ref ali, .int ln, .int th2, .int pl, .int wr, .ref ato])) ∧ G1 ag = some (aI 112 f2) ∧ G1 ab = some (aI 112 f02) ∧ G1 ah = some (aI 896 h2) ∧ G1 awy = some (aI 6 y2) ∧ rZ f02 ∧ mK 2 ir y cn h f (dBox f a1 a2) = (th2, ir2, y2, c2, h2, r, f2)) gNox := by
  refine g_start (by decide) (Nat.le_of_ble_eq_true rfl) ?_
  intro p e s m below meth c ls C hnm hxt hI hl
  have hx := C.x
  have hb := C.b
  have hS : va_S (gA D) s.heap s.heap [] := va_S.rf
  have hz0 := hI.z
  have lc0_ := hI.lt c0_
  have lc1_ := hI.lt c1_
  have lc2_ := hI.lt c2_
  have lc3_ := hI.lt c3_
  have lc4_ := hI.lt c4_
  have hF : gF G G n (fun q : Nat => q = mm ∨ q = ag ∨ q = ab ∨ q = ah ∨ q = awy) := gF.rf _ _ _
  have hl : lv_has ls 3 [(0, .ref mm), (1, .int a1), (2, .int a2)] := hl
  refine lv_iload_n hx hb dX4_box_0 rfl (lv_at hl 1 rfl) ?_
  refine g_S (As := [.int a1]) (rest := []) (lv := [(0, .ref mm), (1, .int a1), (2, .int a2)]) C hI hS (c_X4_isSize l hB G n a1  ) q2641 q2642 q94 q2643 (⟨by decide, by decide, by decide⟩ : gArg _ 1) rfl ⟨by decide, by decide⟩ (by omega) hl rfl (Nat.le_of_ble_eq_true rfl) dX4_box_1 (fun v1760 G1761 n1762 H locs hp1763 hI hS => ?_) gKx.no
  obtain ⟨rfl, eG1761, en1762⟩ := hp1763
  refine W.widen (k := 0) (n := 200 * (0)) (by omega) (by omega) ?_
  rw [eG1761, en1762] at hI
  refine lv_if_eq (tgt := 17) hx hb dX4_box_4 (by decide) (fun c_1766 => ?_) (fun c_1766 => ?_)
  · skip
    refine lv_aload_n hx hb dX4_box_17 rfl (lv_at hl 0 rfl) ?_
    refine lv_iconst (v := 1) hx hb dX4_box_18 (by decide) ?_
    refine g_V (As := [.int 1]) (rest := []) (lv := [(0, .ref mm), (1, .int a1), (2, .int a2)]) C hI hS (c_X4_fails l hB G n mm ag ab ah ch asv hs aas ain ty er awy ir ali ln th pl wr ato 1 c0_ (by omega)) c0_ rfl rfl q2637 q2639 qs34 q94 q2640 (⟨by decide, by decide, by decide⟩ : gArg _ 1) rfl ⟨by decide, by decide⟩ (by omega) hl rfl (Nat.le_of_ble_eq_true rfl) dX4_box_19 (fun v1767 G1768 n1769 H locs hp1770 hI hS => ?_) gKx.no
    obtain ⟨rfl, hn1771, hF1772, c1773⟩ := hp1770
    refine W.widen (k := 0) (n := 200 * (0)) (by omega) (by omega) ?_
    have c1_ := hF1772.at c1_ (by omega) (g_on c1_ c0_)
    have c2_ := hF1772.at c2_ (by omega) (g_on c2_ c0_)
    have c3_ := hF1772.at c3_ (by omega) (g_on c3_ c0_)
    have c4_ := hF1772.at c4_ (by omega) (g_on c4_ c0_)
    have hF := hF.trans hF1772 (by omega) (fun q hq => (fun h => h ▸ (Or.inl rfl)))
    exact g_iret C hI hS (by omega) ⟨1, 0, 0, cn, f, f0, h, y, rfl, (by omega), hF, (by rw [← hc]; exact c1773), c1_, c2_, c3_, c4_, (by assumption), (by simp [mK, oV, oF, sCall, sArg, sRef, sOk, sWhy, dBox, gup, c_1766])⟩ dX4_box_22
  · skip
    obtain ⟨j_a1, hj_a1, ej_a1⟩ := gin_ok (k := 2) c_1766 (by decide)
    have tj_a1 : a1.toNatClampNeg = j_a1 := by rw [ej_a1]; exact nI_clamp (by omega)
    refine lv_iload_n hx hb dX4_box_7 rfl (lv_at hl 2 rfl) ?_
    refine lv_iconst (v := 1) hx hb dX4_box_8 (by decide) ?_
    refine lv_bipush (v := 50) hx hb dX4_box_9 (by decide) ?_
    refine g_S (As := [.int a2, .int 1, .int 50]) (rest := []) (lv := [(0, .ref mm), (1, .int a1), (2, .int a2)]) C hI hS (c_X4_in l hB G n a2 1 50  ) q2634 q2635 q94 q2636 (⟨by decide, by decide, by decide⟩ : gArg _ 3) rfl ⟨by decide, by decide⟩ (by omega) hl rfl (Nat.le_of_ble_eq_true rfl) dX4_box_11 (fun v1774 G1775 n1776 H locs hp1777 hI hS => ?_) gKx.no
    obtain ⟨rfl, eG1775, en1776⟩ := hp1777
    refine W.widen (k := 0) (n := 200 * (0)) (by omega) (by omega) ?_
    rw [eG1775, en1776] at hI
    refine lv_if_ne (tgt := 23) hx hb dX4_box_14 (by decide) (fun c_1780 => ?_) (fun c_1780 => ?_)
    · skip
      obtain ⟨j_a2, hlj_a2, hj_a2, ej_a2⟩ := gin_okL (a := 1) (k := 50) c_1780 (by decide) (by decide)
      have tj_a2 : a2.toNatClampNeg = j_a2 := by rw [ej_a2]; exact nI_clamp (by omega)
      refine lv_aload_n hx hb dX4_box_23 rfl (lv_at hl 0 rfl) ?_
      refine g_V (As := []) (rest := []) (lv := [(0, .ref mm), (1, .int a1), (2, .int a2)]) C hI hS (c_X4_looksBack l hB G n mm ag ab ah ch asv hs aas ain ty er awy ir ali ln th pl wr ato f f0 c0_ c1_ c2_ (by omega) hne zf zf0) c0_ rfl rfl q2652 q2654 qs36 q94 q2655 (⟨by decide, by decide, by decide⟩ : gArg _ 0) rfl ⟨by decide, by decide⟩ (by omega) hl rfl (Nat.le_of_ble_eq_true rfl) dX4_box_24 (fun v1781 G1782 n1783 H locs hp1784 hI hS => ?_) gKx.no
      obtain ⟨rfl, hn1785, hF1786, c1787⟩ := hp1784
      refine W.widen (k := 0) (n := 200 * (0)) (by omega) (by omega) ?_
      have c0_ := hF1786.at c0_ (by omega) (g_no c0_ c2_)
      have c1_ := hF1786.at c1_ (by omega) hne
      have c3_ := hF1786.at c3_ (by omega) (g_na c3_ c2_ (Or.inr (by decide)))
      have c4_ := hF1786.at c4_ (by omega) (g_na c4_ c2_ (Or.inr (by decide)))
      have hF := hF.trans hF1786 (by omega) (fun q hq => (fun h => h ▸ (Or.inr (Or.inr (Or.inl rfl)))))
      refine lv_aload_n hx hb dX4_box_27 rfl (lv_at hl 0 rfl) ?_
      refine g_get C hI c0_ kc23 0 rfl q2567 (fun _ h9 => h9) dX4_box_28 ?_
      refine lv_bipush (v := 21) hx hb dX4_box_31 (by decide) ?_
      refine lv_iload_n hx hb dX4_box_33 rfl (lv_at hl 1 rfl) ?_
      refine lv_iadd hx hb dX4_box_34 ?_
      refine lv_aload_n hx hb dX4_box_35 rfl (lv_at hl 0 rfl) ?_
      refine g_get C hI c0_ kc23 0 rfl q2567 (fun _ h9 => h9) dX4_box_36 ?_
      refine lv_bipush (v := 21) hx hb dX4_box_39 (by decide) ?_
      refine lv_iload_n hx hb dX4_box_41 rfl (lv_at hl 1 rfl) ?_
      refine lv_iadd hx hb dX4_box_42 ?_
      refine g_iald (v := .int (f (21 + j_a1))) C hI c1_ (gix (gadd nl21 ej_a1) (by omega) (by omega)) (congrArg Value.int (gixv (f := f) (gadd nl21 ej_a1) (by omega))) dX4_box_43 ?_
      refine lv_iload_n hx hb dX4_box_44 rfl (lv_at hl 2 rfl) ?_
      refine lv_iadd hx hb dX4_box_45 ?_
      refine lv_bipush (v := 99) hx hb dX4_box_46 (by decide) ?_
      refine lv_icmp_le (tgt := 56) hx hb dX4_box_48 (by decide) (fun c_1788 => ?_) (fun c_1788 => ?_)
      · skip
        refine lv_aload_n hx hb dX4_box_56 rfl (lv_at hl 0 rfl) ?_
        refine g_get C hI c0_ kc23 0 rfl q2567 (fun _ h9 => h9) dX4_box_57 ?_
        refine lv_bipush (v := 21) hx hb dX4_box_60 (by decide) ?_
        refine lv_iload_n hx hb dX4_box_62 rfl (lv_at hl 1 rfl) ?_
        refine lv_iadd hx hb dX4_box_63 ?_
        refine g_iald (v := .int (f (21 + j_a1))) C hI c1_ (gix (gadd nl21 ej_a1) (by omega) (by omega)) (congrArg Value.int (gixv (f := f) (gadd nl21 ej_a1) (by omega))) dX4_box_64 ?_
        refine lv_iload_n hx hb dX4_box_65 rfl (lv_at hl 2 rfl) ?_
        refine lv_iadd hx hb dX4_box_66 ?_
        refine g_iast C hI hS c1_ (by omega) (gix (gadd nl21 ej_a1) (by omega) (by omega)) dX4_box_67 (fun G1789 H locs e1790 hI hS => ?_)
        rw [gup_e (gadd nl21 ej_a1) (by omega)] at e1790
        have c0_ := gE_k e1790 c0_ (g_no c0_ c1_)
        have c3_ := gE_k e1790 c3_ (g_na c3_ c1_ (Or.inr (by decide)))
        have c4_ := gE_k e1790 c4_ (g_na c4_ c1_ (Or.inr (by decide)))
        have c1787 := gE_k e1790 c1787 (Ne.symm hne)
        have c1_ : G1789 ag = some (aI 112 (gup f (21 + j_a1) ((f (21 + j_a1)) + a2))) := gE_s e1790
        have hF := gE_F e1790 hF (Or.inr (Or.inr (Or.inl rfl)))
        refine lv_aload_n hx hb dX4_box_68 rfl (lv_at hl 0 rfl) ?_
        refine lv_aload_n hx hb dX4_box_69 rfl (lv_at hl 0 rfl) ?_
        refine lv_aload_n hx hb dX4_box_70 rfl (lv_at hl 0 rfl) ?_
        refine g_get C hI c0_ kc23 0 rfl q2567 (fun _ h9 => h9) dX4_box_71 ?_
        refine lv_bipush (v := 21) hx hb dX4_box_74 (by decide) ?_
        refine lv_iload_n hx hb dX4_box_76 rfl (lv_at hl 1 rfl) ?_
        refine lv_iadd hx hb dX4_box_77 ?_
        refine g_iald (v := .int ((gup f (21 + j_a1) ((f (21 + j_a1)) + a2)) (21 + j_a1))) C hI c1_ (gix (gadd nl21 ej_a1) (by omega) (by omega)) (congrArg Value.int (gixv (f := gup f (21 + j_a1) ((f (21 + j_a1)) + a2)) (gadd nl21 ej_a1) (by omega))) dX4_box_78 ?_
        refine g_V (As := [.int ((gup f (21 + j_a1) ((f (21 + j_a1)) + a2)) (21 + j_a1))]) (rest := [.ref mm]) (lv := [(0, .ref mm), (1, .int a1), (2, .int a2)]) C hI hS (c_X4_done l hB G1789 n1783 mm ag ab ah ch asv hs aas ain ty er awy ir ali ln th pl wr ato ((gup f (21 + j_a1) ((f (21 + j_a1)) + a2)) (21 + j_a1)) c0_ (by omega)) c0_ rfl rfl q2644 q2646 qs35 q94 q2647 (⟨by decide, by decide, by decide⟩ : gArg _ 1) rfl ⟨by decide, by decide⟩ (by omega) hl rfl (Nat.le_of_ble_eq_true rfl) dX4_box_79 (fun v1792 G1793 n1794 H locs hp1795 hI hS => ?_) gKx.no
        obtain ⟨rfl, hn1796, hF1797, c1798⟩ := hp1795
        refine W.widen (k := 0) (n := 200 * (0)) (by omega) (by omega) ?_
        have c1_ := hF1797.at c1_ (by omega) (g_on c1_ c0_)
        have c3_ := hF1797.at c3_ (by omega) (g_on c3_ c0_)
        have c4_ := hF1797.at c4_ (by omega) (g_on c4_ c0_)
        have c1787 := hF1797.at c1787 (by omega) (g_on c1787 c0_)
        have hF := hF.trans hF1797 (by omega) (fun q hq => (fun h => h ▸ (Or.inl rfl)))
        refine g_V (As := [.int ((gup f (21 + j_a1) ((f (21 + j_a1)) + a2)) (21 + j_a1))]) (rest := []) (lv := [(0, .ref mm), (1, .int a1), (2, .int a2)]) C hI hS (c_X4_kept l hB G1793 n1794 mm ag ab ah ch asv hs aas ain ty er awy ir ali ln 0 pl wr ato (gup f (21 + j_a1) ((f (21 + j_a1)) + a2)) f h cn ((gup f (21 + j_a1) ((f (21 + j_a1)) + a2)) (21 + j_a1)) c1798 c1_ c1787 c3_ (by omega) (by omega) (by omega) (by omega) hne (rZ_gup zf (by omega)) zf (by assumption) (by omega)) c1798 rfl rfl q2659 q2661 qs37 q94 q2662 (⟨by decide, by decide, by decide⟩ : gArg _ 1) rfl ⟨by decide, by decide⟩ (by omega) hl rfl (Nat.le_of_ble_eq_true rfl) dX4_box_82 (fun v1799 G1800 n1801 H locs hp1802 hI hS => ?_) gKx.no
        obtain ⟨r_1803, f2_1804, c2_1805, h2_1806, rfl, hn1807, hF1808, c1809, c1810, c1811, c1812, hk1813⟩ := hp1802
        refine W.widen (k := 0) (n := 200 * (0)) (by omega) (by omega) ?_
        have c4_ := hF1808.at c4_ (by omega) (fun h => h.elim (g_on c4_ c1798) (fun h => h.elim (g_na c4_ c1_ (Or.inr (by decide))) (g_na c4_ c3_ (Or.inr (by decide)))))
        have hF := hF.trans hF1808 (by omega) (fun q hq => (fun h => h.elim (fun h => h ▸ (Or.inl rfl)) (fun h => h.elim (fun h => h ▸ (Or.inr (Or.inl rfl))) (fun h => h ▸ (Or.inr (Or.inr (Or.inr (Or.inl rfl))))))))
        exact g_iret C hI hS (by omega) ⟨0, ir, r_1803, c2_1805, f2_1804, f, h2_1806, y, rfl, (by omega), hF, c1809, c1810, c1811, c1812, c4_, (by assumption), (by have hk9 := hk1813; simp only [kK, if_true, Prod.mk.injEq] at hk9; obtain ⟨rfl, rfl, rfl, rfl⟩ := hk9; simp [mK, oV, oF, sCall, sArg, sRef, sOk, sWhy, dBox, gup, c_1766, tj_a1, c_1780, tj_a2, c_1788])⟩ dX4_box_85
      · skip
        refine lv_bipush (v := 99) hx hb dX4_box_51 (by decide) ?_
        refine lv_goto (tgt := 67) hx hb dX4_box_53 (by decide) ?_
        refine g_iast C hI hS c1_ (by omega) (gix (gadd nl21 ej_a1) (by omega) (by omega)) dX4_box_67 (fun G1814 H locs e1815 hI hS => ?_)
        rw [gup_e (gadd nl21 ej_a1) (by omega)] at e1815
        have c0_ := gE_k e1815 c0_ (g_no c0_ c1_)
        have c3_ := gE_k e1815 c3_ (g_na c3_ c1_ (Or.inr (by decide)))
        have c4_ := gE_k e1815 c4_ (g_na c4_ c1_ (Or.inr (by decide)))
        have c1787 := gE_k e1815 c1787 (Ne.symm hne)
        have c1_ : G1814 ag = some (aI 112 (gup f (21 + j_a1) 99)) := gE_s e1815
        have hF := gE_F e1815 hF (Or.inr (Or.inr (Or.inl rfl)))
        refine lv_aload_n hx hb dX4_box_68 rfl (lv_at hl 0 rfl) ?_
        refine lv_aload_n hx hb dX4_box_69 rfl (lv_at hl 0 rfl) ?_
        refine lv_aload_n hx hb dX4_box_70 rfl (lv_at hl 0 rfl) ?_
        refine g_get C hI c0_ kc23 0 rfl q2567 (fun _ h9 => h9) dX4_box_71 ?_
        refine lv_bipush (v := 21) hx hb dX4_box_74 (by decide) ?_
        refine lv_iload_n hx hb dX4_box_76 rfl (lv_at hl 1 rfl) ?_
        refine lv_iadd hx hb dX4_box_77 ?_
        refine g_iald (v := .int ((gup f (21 + j_a1) 99) (21 + j_a1))) C hI c1_ (gix (gadd nl21 ej_a1) (by omega) (by omega)) (congrArg Value.int (gixv (f := gup f (21 + j_a1) 99) (gadd nl21 ej_a1) (by omega))) dX4_box_78 ?_
        refine g_V (As := [.int ((gup f (21 + j_a1) 99) (21 + j_a1))]) (rest := [.ref mm]) (lv := [(0, .ref mm), (1, .int a1), (2, .int a2)]) C hI hS (c_X4_done l hB G1814 n1783 mm ag ab ah ch asv hs aas ain ty er awy ir ali ln th pl wr ato ((gup f (21 + j_a1) 99) (21 + j_a1)) c0_ (by omega)) c0_ rfl rfl q2644 q2646 qs35 q94 q2647 (⟨by decide, by decide, by decide⟩ : gArg _ 1) rfl ⟨by decide, by decide⟩ (by omega) hl rfl (Nat.le_of_ble_eq_true rfl) dX4_box_79 (fun v1817 G1818 n1819 H locs hp1820 hI hS => ?_) gKx.no
        obtain ⟨rfl, hn1821, hF1822, c1823⟩ := hp1820
        refine W.widen (k := 0) (n := 200 * (0)) (by omega) (by omega) ?_
        have c1_ := hF1822.at c1_ (by omega) (g_on c1_ c0_)
        have c3_ := hF1822.at c3_ (by omega) (g_on c3_ c0_)
        have c4_ := hF1822.at c4_ (by omega) (g_on c4_ c0_)
        have c1787 := hF1822.at c1787 (by omega) (g_on c1787 c0_)
        have hF := hF.trans hF1822 (by omega) (fun q hq => (fun h => h ▸ (Or.inl rfl)))
        refine g_V (As := [.int ((gup f (21 + j_a1) 99) (21 + j_a1))]) (rest := []) (lv := [(0, .ref mm), (1, .int a1), (2, .int a2)]) C hI hS (c_X4_kept l hB G1818 n1819 mm ag ab ah ch asv hs aas ain ty er awy ir ali ln 0 pl wr ato (gup f (21 + j_a1) 99) f h cn ((gup f (21 + j_a1) 99) (21 + j_a1)) c1823 c1_ c1787 c3_ (by omega) (by omega) (by omega) (by omega) hne (rZ_gup zf (by omega)) zf (by assumption) (by omega)) c1823 rfl rfl q2659 q2661 qs37 q94 q2662 (⟨by decide, by decide, by decide⟩ : gArg _ 1) rfl ⟨by decide, by decide⟩ (by omega) hl rfl (Nat.le_of_ble_eq_true rfl) dX4_box_82 (fun v1824 G1825 n1826 H locs hp1827 hI hS => ?_) gKx.no
        obtain ⟨r_1828, f2_1829, c2_1830, h2_1831, rfl, hn1832, hF1833, c1834, c1835, c1836, c1837, hk1838⟩ := hp1827
        refine W.widen (k := 0) (n := 200 * (0)) (by omega) (by omega) ?_
        have c4_ := hF1833.at c4_ (by omega) (fun h => h.elim (g_on c4_ c1823) (fun h => h.elim (g_na c4_ c1_ (Or.inr (by decide))) (g_na c4_ c3_ (Or.inr (by decide)))))
        have hF := hF.trans hF1833 (by omega) (fun q hq => (fun h => h.elim (fun h => h ▸ (Or.inl rfl)) (fun h => h.elim (fun h => h ▸ (Or.inr (Or.inl rfl))) (fun h => h ▸ (Or.inr (Or.inr (Or.inr (Or.inl rfl))))))))
        exact g_iret C hI hS (by omega) ⟨0, ir, r_1828, c2_1830, f2_1829, f, h2_1831, y, rfl, (by omega), hF, c1834, c1835, c1836, c1837, c4_, (by assumption), (by have hk9 := hk1838; simp only [kK, if_true, Prod.mk.injEq] at hk9; obtain ⟨rfl, rfl, rfl, rfl⟩ := hk9; simp [mK, oV, oF, sCall, sArg, sRef, sOk, sWhy, dBox, gup, c_1766, tj_a1, c_1780, tj_a2, c_1788])⟩ dX4_box_85
    · skip
      refine lv_aload_n hx hb dX4_box_17 rfl (lv_at hl 0 rfl) ?_
      refine lv_iconst (v := 1) hx hb dX4_box_18 (by decide) ?_
      refine g_V (As := [.int 1]) (rest := []) (lv := [(0, .ref mm), (1, .int a1), (2, .int a2)]) C hI hS (c_X4_fails l hB G n mm ag ab ah ch asv hs aas ain ty er awy ir ali ln th pl wr ato 1 c0_ (by omega)) c0_ rfl rfl q2637 q2639 qs34 q94 q2640 (⟨by decide, by decide, by decide⟩ : gArg _ 1) rfl ⟨by decide, by decide⟩ (by omega) hl rfl (Nat.le_of_ble_eq_true rfl) dX4_box_19 (fun v1839 G1840 n1841 H locs hp1842 hI hS => ?_) gKx.no
      obtain ⟨rfl, hn1843, hF1844, c1845⟩ := hp1842
      refine W.widen (k := 0) (n := 200 * (0)) (by omega) (by omega) ?_
      have c1_ := hF1844.at c1_ (by omega) (g_on c1_ c0_)
      have c2_ := hF1844.at c2_ (by omega) (g_on c2_ c0_)
      have c3_ := hF1844.at c3_ (by omega) (g_on c3_ c0_)
      have c4_ := hF1844.at c4_ (by omega) (g_on c4_ c0_)
      have hF := hF.trans hF1844 (by omega) (fun q hq => (fun h => h ▸ (Or.inl rfl)))
      exact g_iret C hI hS (by omega) ⟨1, 0, 0, cn, f, f0, h, y, rfl, (by omega), hF, (by rw [← hc]; exact c1845), c1_, c2_, c3_, c4_, (by assumption), (by simp [mK, oV, oF, sCall, sArg, sRef, sOk, sWhy, dBox, gup, c_1766, tj_a1, c_1780])⟩ dX4_box_22
set_option maxHeartbeats 4000000 in
set_option maxRecDepth 100000 in
theorem c_X4_boat (l : Launch) {D : gD} (hB : gBs D) (G : gH) (n : Nat) (mm : Nat) (ag : Nat) (ab : Nat) (ah : Nat) (ch : Int32) (asv : Nat) (hs : Int32) (aas : Nat) (ain : Nat) (ty : Int32) (er : Int32) (awy : Nat) (ir : Int32) (ali : Nat) (ln : Int32) (th : Int32) (pl : Int32) (wr : Int32) (ato : Nat) (f : Nat → Int32) (f0 : Nat → Int32) (h : Nat → Int32) (y : Nat → Int32) (cn : Nat) (nb : Nat) (ns : Nat) (a1 : Int32) (c0_ : G mm = some (.inl (23, [.ref ag, .ref ab, .ref ah, .int ch, .ref asv, .int hs, .ref aas, .ref ain, .int ty, .int er, .ref awy, .int ir, .ref ali, .int ln, .int th, .int pl, .int wr, .ref ato]))) (c1_ : G ag = some (aI 112 f)) (c2_ : G ab = some (aI 112 f0)) (c3_ : G ah = some (aI 896 h)) (c4_ : G awy = some (aI 6 y)) (hz : gz D ≤ mm) (hzg : gz D ≤ ag) (hzb : gz D ≤ ab) (hzh : gz D ≤ ah) (hzw : gz D ≤ awy) (hne : ag ≠ ab) (zf : rZ f) (zf0 : rZ f0) (hc : ch = nI cn) (hc8 : cn ≤ 8) (hnb : f 24 = nI nb) (hb3 : nb ≤ 3) (hns : f 46 = nI ns) (hs10 : ns ≤ 10) : gMet l D yX4_boat (ws_ yX4_boat cX4_boat 3 (some FieldType.int)) 3 0 G n [.ref mm, .int a1] (fun (v : Option Value) (G1 : gH) (n1 : Nat) => ∃ (th2 : Int32) (ir2 : Int32) (r : Int32) (c2 : Nat) (f2 : Nat → Int32) (f02 : Nat → Int32) (h2 : Nat → Int32) (y2 : Nat → Int32), v = some (.int r) ∧ n ≤ n1 ∧ gF G G1 n (fun q : Nat => q = mm ∨ q = ag ∨ q = ab ∨ q = ah ∨ q = awy) ∧ G1 mm = some (.inl (23, [.ref ag, .ref ab, .ref ah, .int (nI c2), .ref asv, .int hs, .ref aas, .ref ain, .int ty, .int er, .ref awy, .int ir2, .ref ali, .int ln, .int th2, .int pl, .int wr, .ref ato])) ∧ G1 ag = some (aI 112 f2) ∧ G1 ab = some (aI 112 f02) ∧ G1 ah = some (aI 896 h2) ∧ G1 awy = some (aI 6 y2) ∧ rZ f02 ∧ mK 2 ir y cn h f (dBoat f a1) = (th2, ir2, y2, c2, h2, r, f2)) gNox := by
  refine g_start (by decide) (Nat.le_of_ble_eq_true rfl) ?_
  intro p e s m below meth c ls C hnm hxt hI hl
  have hx := C.x
  have hb := C.b
  have hS : va_S (gA D) s.heap s.heap [] := va_S.rf
  have hz0 := hI.z
  have lc0_ := hI.lt c0_
  have lc1_ := hI.lt c1_
  have lc2_ := hI.lt c2_
  have lc3_ := hI.lt c3_
  have lc4_ := hI.lt c4_
  have hF : gF G G n (fun q : Nat => q = mm ∨ q = ag ∨ q = ab ∨ q = ah ∨ q = awy) := gF.rf _ _ _
  have hl : lv_has ls 3 [(0, .ref mm), (1, .int a1)] := hl
  have t24 : (f 24).toNatClampNeg = nb := by rw [hnb]; exact nI_clamp (by omega)
  have t46 : (f 46).toNatClampNeg = ns := by rw [hns]; exact nI_clamp (by omega)
  refine lv_iload_n hx hb dX4_boat_0 rfl (lv_at hl 1 rfl) ?_
  refine lv_iconst (v := 1) hx hb dX4_boat_1 (by decide) ?_
  refine lv_bipush (v := 9) hx hb dX4_boat_2 (by decide) ?_
  refine g_S (As := [.int a1, .int 1, .int 9]) (rest := []) (lv := [(0, .ref mm), (1, .int a1)]) C hI hS (c_X4_in l hB G n a1 1 9  ) q2634 q2635 q94 q2636 (⟨by decide, by decide, by decide⟩ : gArg _ 3) rfl ⟨by decide, by decide⟩ (by omega) hl rfl (Nat.le_of_ble_eq_true rfl) dX4_boat_4 (fun v1846 G1847 n1848 H locs hp1849 hI hS => ?_) gKx.no
  obtain ⟨rfl, eG1847, en1848⟩ := hp1849
  refine W.widen (k := 0) (n := 200 * (0)) (by omega) (by omega) ?_
  rw [eG1847, en1848] at hI
  refine lv_if_ne (tgt := 16) hx hb dX4_boat_7 (by decide) (fun c_1852 => ?_) (fun c_1852 => ?_)
  · skip
    obtain ⟨j_a1, hlj_a1, hj_a1, ej_a1⟩ := gin_okL (a := 1) (k := 9) c_1852 (by decide) (by decide)
    have tj_a1 : a1.toNatClampNeg = j_a1 := by rw [ej_a1]; exact nI_clamp (by omega)
    refine lv_aload_n hx hb dX4_boat_16 rfl (lv_at hl 0 rfl) ?_
    refine g_get C hI c0_ kc23 0 rfl q2567 (fun _ h9 => h9) dX4_boat_17 ?_
    refine lv_bipush (v := 24) hx hb dX4_boat_20 (by decide) ?_
    refine g_iald (v := .int (f 24)) C hI c1_ (gix nl24 (by omega) (by omega)) (congrArg Value.int (gixv (f := f) nl24 (by omega))) dX4_boat_22 ?_
    refine lv_istore_n (lv' := [(2, .int (f 24)), (0, .ref mm), (1, .int a1)]) hx hb dX4_boat_23 rfl hl (by decide) rfl (fun ls hl => ?_)
    refine lv_iload_n hx hb dX4_boat_24 rfl (lv_at hl 0 rfl) ?_
    refine lv_iconst (v := 3) hx hb dX4_boat_25 (by decide) ?_
    refine lv_icmp_ne (tgt := 37) hx hb dX4_boat_26 (by decide) (fun c_1853 => ?_) (fun c_1853 => ?_)
    · skip
      try have k_1854 : ¬ (nb = 3) := (not_congr (nI_eqE hnb nl3 (by omega) (by omega))).mp c_1853
      refine lv_aload_n hx hb dX4_boat_37 rfl (lv_at hl 1 rfl) ?_
      refine g_V (As := []) (rest := []) (lv := [(2, .int (f 24)), (0, .ref mm), (1, .int a1)]) C hI hS (c_X4_looksBack l hB G n mm ag ab ah ch asv hs aas ain ty er awy ir ali ln th pl wr ato f f0 c0_ c1_ c2_ (by omega) hne zf zf0) c0_ rfl rfl q2652 q2654 qs36 q94 q2655 (⟨by decide, by decide, by decide⟩ : gArg _ 0) rfl ⟨by decide, by decide⟩ (by omega) hl rfl (Nat.le_of_ble_eq_true rfl) dX4_boat_38 (fun v1855 G1856 n1857 H locs hp1858 hI hS => ?_) gKx.no
      obtain ⟨rfl, hn1859, hF1860, c1861⟩ := hp1858
      refine W.widen (k := 0) (n := 200 * (0)) (by omega) (by omega) ?_
      have c0_ := hF1860.at c0_ (by omega) (g_no c0_ c2_)
      have c1_ := hF1860.at c1_ (by omega) hne
      have c3_ := hF1860.at c3_ (by omega) (g_na c3_ c2_ (Or.inr (by decide)))
      have c4_ := hF1860.at c4_ (by omega) (g_na c4_ c2_ (Or.inr (by decide)))
      have hF := hF.trans hF1860 (by omega) (fun q hq => (fun h => h ▸ (Or.inr (Or.inr (Or.inl rfl)))))
      refine lv_aload_n hx hb dX4_boat_41 rfl (lv_at hl 1 rfl) ?_
      refine g_get C hI c0_ kc23 0 rfl q2567 (fun _ h9 => h9) dX4_boat_42 ?_
      refine lv_bipush (v := 25) hx hb dX4_boat_45 (by decide) ?_
      refine lv_iload_n hx hb dX4_boat_47 rfl (lv_at hl 0 rfl) ?_
      refine lv_iadd hx hb dX4_boat_48 ?_
      refine lv_iload_n hx hb dX4_boat_49 rfl (lv_at hl 2 rfl) ?_
      refine g_iast C hI hS c1_ (by omega) (gix (gadd nl25 hnb) (by omega) (by omega)) dX4_boat_50 (fun G1862 H locs e1863 hI hS => ?_)
      rw [gup_e (gadd nl25 hnb) (by omega)] at e1863
      have c0_ := gE_k e1863 c0_ (g_no c0_ c1_)
      have c3_ := gE_k e1863 c3_ (g_na c3_ c1_ (Or.inr (by decide)))
      have c4_ := gE_k e1863 c4_ (g_na c4_ c1_ (Or.inr (by decide)))
      have c1861 := gE_k e1863 c1861 (Ne.symm hne)
      have c1_ : G1862 ag = some (aI 112 (gup f (25 + nb) a1)) := gE_s e1863
      have hF := gE_F e1863 hF (Or.inr (Or.inr (Or.inl rfl)))
      refine lv_aload_n hx hb dX4_boat_51 rfl (lv_at hl 1 rfl) ?_
      refine g_get C hI c0_ kc23 0 rfl q2567 (fun _ h9 => h9) dX4_boat_52 ?_
      refine lv_bipush (v := 28) hx hb dX4_boat_55 (by decide) ?_
      refine lv_iload_n hx hb dX4_boat_57 rfl (lv_at hl 0 rfl) ?_
      refine lv_iadd hx hb dX4_boat_58 ?_
      refine lv_iconst (v := (-1)) hx hb dX4_boat_59 (by decide) ?_
      refine g_iast C hI hS c1_ (by omega) (gix (gadd nl28 hnb) (by omega) (by omega)) dX4_boat_60 (fun G1865 H locs e1866 hI hS => ?_)
      rw [gup_e (gadd nl28 hnb) (by omega)] at e1866
      have c0_ := gE_k e1866 c0_ (g_no c0_ c1_)
      have c3_ := gE_k e1866 c3_ (g_na c3_ c1_ (Or.inr (by decide)))
      have c4_ := gE_k e1866 c4_ (g_na c4_ c1_ (Or.inr (by decide)))
      have c1861 := gE_k e1866 c1861 (Ne.symm hne)
      have c1_ : G1865 ag = some (aI 112 (gup (gup f (25 + nb) a1) (28 + nb) (-1))) := gE_s e1866
      have hF := gE_F e1866 hF (Or.inr (Or.inr (Or.inl rfl)))
      refine lv_aload_n hx hb dX4_boat_61 rfl (lv_at hl 1 rfl) ?_
      refine g_get C hI c0_ kc23 0 rfl q2567 (fun _ h9 => h9) dX4_boat_62 ?_
      refine lv_bipush (v := 31) hx hb dX4_boat_65 (by decide) ?_
      refine lv_iload_n hx hb dX4_boat_67 rfl (lv_at hl 0 rfl) ?_
      refine lv_iadd hx hb dX4_boat_68 ?_
      refine lv_bipush (v := 10) hx hb dX4_boat_69 (by decide) ?_
      refine g_iast C hI hS c1_ (by omega) (gix (gadd nl31 hnb) (by omega) (by omega)) dX4_boat_71 (fun G1868 H locs e1869 hI hS => ?_)
      rw [gup_e (gadd nl31 hnb) (by omega)] at e1869
      have c0_ := gE_k e1869 c0_ (g_no c0_ c1_)
      have c3_ := gE_k e1869 c3_ (g_na c3_ c1_ (Or.inr (by decide)))
      have c4_ := gE_k e1869 c4_ (g_na c4_ c1_ (Or.inr (by decide)))
      have c1861 := gE_k e1869 c1861 (Ne.symm hne)
      have c1_ : G1868 ag = some (aI 112 (gup (gup (gup f (25 + nb) a1) (28 + nb) (-1)) (31 + nb) 10)) := gE_s e1869
      have hF := gE_F e1869 hF (Or.inr (Or.inr (Or.inl rfl)))
      refine lv_aload_n hx hb dX4_boat_72 rfl (lv_at hl 1 rfl) ?_
      refine g_get C hI c0_ kc23 0 rfl q2567 (fun _ h9 => h9) dX4_boat_73 ?_
      refine lv_bipush (v := 24) hx hb dX4_boat_76 (by decide) ?_
      refine lv_dup2_11 hx hb dX4_boat_78 rfl rfl ?_
      refine g_iald (v := .int ((gup (gup (gup f (25 + nb) a1) (28 + nb) (-1)) (31 + nb) 10) 24)) C hI c1_ (gix nl24 (by omega) (by omega)) (congrArg Value.int (gixv (f := gup (gup (gup f (25 + nb) a1) (28 + nb) (-1)) (31 + nb) 10) nl24 (by omega))) dX4_boat_79 ?_
      refine lv_iconst (v := 1) hx hb dX4_boat_80 (by decide) ?_
      refine lv_iadd hx hb dX4_boat_81 ?_
      refine g_iast C hI hS c1_ (by omega) (gix nl24 (by omega) (by omega)) dX4_boat_82 (fun G1871 H locs e1872 hI hS => ?_)
      rw [gup_e nl24 (by omega)] at e1872
      have c0_ := gE_k e1872 c0_ (g_no c0_ c1_)
      have c3_ := gE_k e1872 c3_ (g_na c3_ c1_ (Or.inr (by decide)))
      have c4_ := gE_k e1872 c4_ (g_na c4_ c1_ (Or.inr (by decide)))
      have c1861 := gE_k e1872 c1861 (Ne.symm hne)
      have c1_ : G1871 ag = some (aI 112 (gup (gup (gup (gup f (25 + nb) a1) (28 + nb) (-1)) (31 + nb) 10) 24 (((gup (gup (gup f (25 + nb) a1) (28 + nb) (-1)) (31 + nb) 10) 24) + 1))) := gE_s e1872
      have hF := gE_F e1872 hF (Or.inr (Or.inr (Or.inl rfl)))
      refine lv_aload_n hx hb dX4_boat_83 rfl (lv_at hl 1 rfl) ?_
      refine lv_aload_n hx hb dX4_boat_84 rfl (lv_at hl 1 rfl) ?_
      refine lv_iload_n hx hb dX4_boat_85 rfl (lv_at hl 0 rfl) ?_
      refine g_V (As := [.int (f 24)]) (rest := [.ref mm]) (lv := [(2, .int (f 24)), (0, .ref mm), (1, .int a1)]) C hI hS (c_X4_done l hB G1871 n1857 mm ag ab ah ch asv hs aas ain ty er awy ir ali ln th pl wr ato (f 24) c0_ (by omega)) c0_ rfl rfl q2644 q2646 qs35 q94 q2647 (⟨by decide, by decide, by decide⟩ : gArg _ 1) rfl ⟨by decide, by decide⟩ (by omega) hl rfl (Nat.le_of_ble_eq_true rfl) dX4_boat_86 (fun v1874 G1875 n1876 H locs hp1877 hI hS => ?_) gKx.no
      obtain ⟨rfl, hn1878, hF1879, c1880⟩ := hp1877
      refine W.widen (k := 0) (n := 200 * (0)) (by omega) (by omega) ?_
      have c1_ := hF1879.at c1_ (by omega) (g_on c1_ c0_)
      have c3_ := hF1879.at c3_ (by omega) (g_on c3_ c0_)
      have c4_ := hF1879.at c4_ (by omega) (g_on c4_ c0_)
      have c1861 := hF1879.at c1861 (by omega) (g_on c1861 c0_)
      have hF := hF.trans hF1879 (by omega) (fun q hq => (fun h => h ▸ (Or.inl rfl)))
      refine g_V (As := [.int (f 24)]) (rest := []) (lv := [(2, .int (f 24)), (0, .ref mm), (1, .int a1)]) C hI hS (c_X4_kept l hB G1875 n1876 mm ag ab ah ch asv hs aas ain ty er awy ir ali ln 0 pl wr ato (gup (gup (gup (gup f (25 + nb) a1) (28 + nb) (-1)) (31 + nb) 10) 24 (((gup (gup (gup f (25 + nb) a1) (28 + nb) (-1)) (31 + nb) 10) 24) + 1)) f h cn (f 24) c1880 c1_ c1861 c3_ (by omega) (by omega) (by omega) (by omega) hne (rZ_gup (rZ_gup (rZ_gup (rZ_gup zf (by omega)) (by omega)) (by omega)) (by omega)) zf (by assumption) (by omega)) c1880 rfl rfl q2659 q2661 qs37 q94 q2662 (⟨by decide, by decide, by decide⟩ : gArg _ 1) rfl ⟨by decide, by decide⟩ (by omega) hl rfl (Nat.le_of_ble_eq_true rfl) dX4_boat_89 (fun v1881 G1882 n1883 H locs hp1884 hI hS => ?_) gKx.no
      obtain ⟨r_1885, f2_1886, c2_1887, h2_1888, rfl, hn1889, hF1890, c1891, c1892, c1893, c1894, hk1895⟩ := hp1884
      refine W.widen (k := 0) (n := 200 * (0)) (by omega) (by omega) ?_
      have c4_ := hF1890.at c4_ (by omega) (fun h => h.elim (g_on c4_ c1880) (fun h => h.elim (g_na c4_ c1_ (Or.inr (by decide))) (g_na c4_ c3_ (Or.inr (by decide)))))
      have hF := hF.trans hF1890 (by omega) (fun q hq => (fun h => h.elim (fun h => h ▸ (Or.inl rfl)) (fun h => h.elim (fun h => h ▸ (Or.inr (Or.inl rfl))) (fun h => h ▸ (Or.inr (Or.inr (Or.inr (Or.inl rfl))))))))
      exact g_iret C hI hS (by omega) ⟨0, ir, r_1885, c2_1887, f2_1886, f, h2_1888, y, rfl, (by omega), hF, c1891, c1892, c1893, c1894, c4_, (by assumption), (by have hk9 := hk1895; simp only [kK, if_true, Prod.mk.injEq] at hk9; obtain ⟨rfl, rfl, rfl, rfl⟩ := hk9; simp [mK, oV, oF, sCall, sArg, sRef, sOk, sWhy, dBoat, wBoat, t24, t46, c_1852, tj_a1, c_1853])⟩ dX4_boat_92
    · skip
      try have k_1896 : nb = 3 := (nI_eqE hnb nl3 (by omega) (by omega)).mp c_1853
      refine lv_aload_n hx hb dX4_boat_29 rfl (lv_at hl 1 rfl) ?_
      refine lv_iconst (v := 1) hx hb dX4_boat_30 (by decide) ?_
      refine lv_iconst (v := 3) hx hb dX4_boat_31 (by decide) ?_
      refine lv_iconst (v := 2) hx hb dX4_boat_32 (by decide) ?_
      refine g_V (As := [.int 1, .int 3, .int 2]) (rest := []) (lv := [(2, .int (f 24)), (0, .ref mm), (1, .int a1)]) C hI hS (c_X4_refused l hB G n mm ag ab ah ch asv hs aas ain ty er awy ir ali ln th pl wr ato y 1 3 2 c0_ c4_ (by omega) (by omega)) c0_ rfl rfl q2686 q2688 qs38 q94 q2689 (⟨by decide, by decide, by decide⟩ : gArg _ 3) rfl ⟨by decide, by decide⟩ (by omega) hl rfl (Nat.le_of_ble_eq_true rfl) dX4_boat_33 (fun v1897 G1898 n1899 H locs hp1900 hI hS => ?_) gKx.no
      obtain ⟨rfl, hn1901, hF1902, c1903, c1904⟩ := hp1900
      refine W.widen (k := 0) (n := 200 * (0)) (by omega) (by omega) ?_
      have c1_ := hF1902.at c1_ (by omega) (fun h => h.elim (g_on c1_ c0_) (g_na c1_ c4_ (Or.inr (by decide))))
      have c2_ := hF1902.at c2_ (by omega) (fun h => h.elim (g_on c2_ c0_) (g_na c2_ c4_ (Or.inr (by decide))))
      have c3_ := hF1902.at c3_ (by omega) (fun h => h.elim (g_on c3_ c0_) (g_na c3_ c4_ (Or.inr (by decide))))
      have hF := hF.trans hF1902 (by omega) (fun q hq => (fun h => h.elim (fun h => h ▸ (Or.inl rfl)) (fun h => h ▸ (Or.inr (Or.inr (Or.inr (Or.inr (rfl))))))))
      exact g_iret C hI hS (by omega) ⟨2, 1, 0, cn, f, f0, h, gup (gup (gup (gup (gup (gup y 0 1) 1 3) 2 0) 3 0) 4 0) 5 0, rfl, (by omega), hF, (by rw [← hc]; exact c1903), c1_, c2_, c3_, c1904, (by assumption), (by simp [mK, oV, oF, sCall, sArg, sRef, sOk, sWhy, dBoat, wBoat, t24, t46, c_1852, tj_a1, c_1853])⟩ dX4_boat_36
  · skip
    refine lv_aload_n hx hb dX4_boat_10 rfl (lv_at hl 0 rfl) ?_
    refine lv_iconst (v := 1) hx hb dX4_boat_11 (by decide) ?_
    refine g_V (As := [.int 1]) (rest := []) (lv := [(0, .ref mm), (1, .int a1)]) C hI hS (c_X4_fails l hB G n mm ag ab ah ch asv hs aas ain ty er awy ir ali ln th pl wr ato 1 c0_ (by omega)) c0_ rfl rfl q2637 q2639 qs34 q94 q2640 (⟨by decide, by decide, by decide⟩ : gArg _ 1) rfl ⟨by decide, by decide⟩ (by omega) hl rfl (Nat.le_of_ble_eq_true rfl) dX4_boat_12 (fun v1905 G1906 n1907 H locs hp1908 hI hS => ?_) gKx.no
    obtain ⟨rfl, hn1909, hF1910, c1911⟩ := hp1908
    refine W.widen (k := 0) (n := 200 * (0)) (by omega) (by omega) ?_
    have c1_ := hF1910.at c1_ (by omega) (g_on c1_ c0_)
    have c2_ := hF1910.at c2_ (by omega) (g_on c2_ c0_)
    have c3_ := hF1910.at c3_ (by omega) (g_on c3_ c0_)
    have c4_ := hF1910.at c4_ (by omega) (g_on c4_ c0_)
    have hF := hF.trans hF1910 (by omega) (fun q hq => (fun h => h ▸ (Or.inl rfl)))
    exact g_iret C hI hS (by omega) ⟨1, 0, 0, cn, f, f0, h, y, rfl, (by omega), hF, (by rw [← hc]; exact c1911), c1_, c2_, c3_, c4_, (by assumption), (by simp [mK, oV, oF, sCall, sArg, sRef, sOk, sWhy, dBoat, wBoat, t24, t46, c_1852])⟩ dX4_boat_15
set_option maxHeartbeats 4000000 in
set_option maxRecDepth 100000 in
theorem c_X4_string (l : Launch) {D : gD} (hB : gBs D) (G : gH) (n : Nat) (mm : Nat) (ag : Nat) (ab : Nat) (ah : Nat) (ch : Int32) (asv : Nat) (hs : Int32) (aas : Nat) (ain : Nat) (ty : Int32) (er : Int32) (awy : Nat) (ir : Int32) (ali : Nat) (ln : Int32) (th : Int32) (pl : Int32) (wr : Int32) (ato : Nat) (f : Nat → Int32) (f0 : Nat → Int32) (h : Nat → Int32) (y : Nat → Int32) (cn : Nat) (nb : Nat) (ns : Nat) (a1 : Int32) (c0_ : G mm = some (.inl (23, [.ref ag, .ref ab, .ref ah, .int ch, .ref asv, .int hs, .ref aas, .ref ain, .int ty, .int er, .ref awy, .int ir, .ref ali, .int ln, .int th, .int pl, .int wr, .ref ato]))) (c1_ : G ag = some (aI 112 f)) (c2_ : G ab = some (aI 112 f0)) (c3_ : G ah = some (aI 896 h)) (c4_ : G awy = some (aI 6 y)) (hz : gz D ≤ mm) (hzg : gz D ≤ ag) (hzb : gz D ≤ ab) (hzh : gz D ≤ ah) (hzw : gz D ≤ awy) (hne : ag ≠ ab) (zf : rZ f) (zf0 : rZ f0) (hc : ch = nI cn) (hc8 : cn ≤ 8) (hnb : f 24 = nI nb) (hb3 : nb ≤ 3) (hns : f 46 = nI ns) (hs10 : ns ≤ 10) : gMet l D yX4_string (ws_ yX4_string cX4_string 3 (some FieldType.int)) 3 0 G n [.ref mm, .int a1] (fun (v : Option Value) (G1 : gH) (n1 : Nat) => ∃ (th2 : Int32) (ir2 : Int32) (r : Int32) (c2 : Nat) (f2 : Nat → Int32) (f02 : Nat → Int32) (h2 : Nat → Int32) (y2 : Nat → Int32), v = some (.int r) ∧ n ≤ n1 ∧ gF G G1 n (fun q : Nat => q = mm ∨ q = ag ∨ q = ab ∨ q = ah ∨ q = awy) ∧ G1 mm = some (.inl (23, [.ref ag, .ref ab, .ref ah, .int (nI c2), .ref asv, .int hs, .ref aas, .ref ain, .int ty, .int er, .ref awy, .int ir2, .ref ali, .int ln, .int th2, .int pl, .int wr, .ref ato])) ∧ G1 ag = some (aI 112 f2) ∧ G1 ab = some (aI 112 f02) ∧ G1 ah = some (aI 896 h2) ∧ G1 awy = some (aI 6 y2) ∧ rZ f02 ∧ mK 2 ir y cn h f (dString f a1) = (th2, ir2, y2, c2, h2, r, f2)) gNox := by
  refine g_start (by decide) (Nat.le_of_ble_eq_true rfl) ?_
  intro p e s m below meth c ls C hnm hxt hI hl
  have hx := C.x
  have hb := C.b
  have hS : va_S (gA D) s.heap s.heap [] := va_S.rf
  have hz0 := hI.z
  have lc0_ := hI.lt c0_
  have lc1_ := hI.lt c1_
  have lc2_ := hI.lt c2_
  have lc3_ := hI.lt c3_
  have lc4_ := hI.lt c4_
  have hF : gF G G n (fun q : Nat => q = mm ∨ q = ag ∨ q = ab ∨ q = ah ∨ q = awy) := gF.rf _ _ _
  have hl : lv_has ls 3 [(0, .ref mm), (1, .int a1)] := hl
  have t24 : (f 24).toNatClampNeg = nb := by rw [hnb]; exact nI_clamp (by omega)
  have t46 : (f 46).toNatClampNeg = ns := by rw [hns]; exact nI_clamp (by omega)
  refine lv_iload_n hx hb dX4_string_0 rfl (lv_at hl 1 rfl) ?_
  refine lv_iconst (v := 4) hx hb dX4_string_1 (by decide) ?_
  refine lv_bipush (v := 40) hx hb dX4_string_2 (by decide) ?_
  refine g_S (As := [.int a1, .int 4, .int 40]) (rest := []) (lv := [(0, .ref mm), (1, .int a1)]) C hI hS (c_X4_in l hB G n a1 4 40  ) q2634 q2635 q94 q2636 (⟨by decide, by decide, by decide⟩ : gArg _ 3) rfl ⟨by decide, by decide⟩ (by omega) hl rfl (Nat.le_of_ble_eq_true rfl) dX4_string_4 (fun v1912 G1913 n1914 H locs hp1915 hI hS => ?_) gKx.no
  obtain ⟨rfl, eG1913, en1914⟩ := hp1915
  refine W.widen (k := 0) (n := 200 * (0)) (by omega) (by omega) ?_
  rw [eG1913, en1914] at hI
  refine lv_if_ne (tgt := 16) hx hb dX4_string_7 (by decide) (fun c_1918 => ?_) (fun c_1918 => ?_)
  · skip
    obtain ⟨j_a1, hlj_a1, hj_a1, ej_a1⟩ := gin_okL (a := 4) (k := 40) c_1918 (by decide) (by decide)
    have tj_a1 : a1.toNatClampNeg = j_a1 := by rw [ej_a1]; exact nI_clamp (by omega)
    refine lv_aload_n hx hb dX4_string_16 rfl (lv_at hl 0 rfl) ?_
    refine g_get C hI c0_ kc23 0 rfl q2567 (fun _ h9 => h9) dX4_string_17 ?_
    refine lv_bipush (v := 46) hx hb dX4_string_20 (by decide) ?_
    refine g_iald (v := .int (f 46)) C hI c1_ (gix nl46 (by omega) (by omega)) (congrArg Value.int (gixv (f := f) nl46 (by omega))) dX4_string_22 ?_
    refine lv_istore_n (lv' := [(2, .int (f 46)), (0, .ref mm), (1, .int a1)]) hx hb dX4_string_23 rfl hl (by decide) rfl (fun ls hl => ?_)
    refine lv_iload_n hx hb dX4_string_24 rfl (lv_at hl 0 rfl) ?_
    refine lv_bipush (v := 10) hx hb dX4_string_25 (by decide) ?_
    refine lv_icmp_ne (tgt := 39) hx hb dX4_string_27 (by decide) (fun c_1919 => ?_) (fun c_1919 => ?_)
    · skip
      try have k_1920 : ¬ (ns = 10) := (not_congr (nI_eqE hns nl10 (by omega) (by omega))).mp c_1919
      refine lv_aload_n hx hb dX4_string_39 rfl (lv_at hl 1 rfl) ?_
      refine g_V (As := []) (rest := []) (lv := [(2, .int (f 46)), (0, .ref mm), (1, .int a1)]) C hI hS (c_X4_looksBack l hB G n mm ag ab ah ch asv hs aas ain ty er awy ir ali ln th pl wr ato f f0 c0_ c1_ c2_ (by omega) hne zf zf0) c0_ rfl rfl q2652 q2654 qs36 q94 q2655 (⟨by decide, by decide, by decide⟩ : gArg _ 0) rfl ⟨by decide, by decide⟩ (by omega) hl rfl (Nat.le_of_ble_eq_true rfl) dX4_string_40 (fun v1921 G1922 n1923 H locs hp1924 hI hS => ?_) gKx.no
      obtain ⟨rfl, hn1925, hF1926, c1927⟩ := hp1924
      refine W.widen (k := 0) (n := 200 * (0)) (by omega) (by omega) ?_
      have c0_ := hF1926.at c0_ (by omega) (g_no c0_ c2_)
      have c1_ := hF1926.at c1_ (by omega) hne
      have c3_ := hF1926.at c3_ (by omega) (g_na c3_ c2_ (Or.inr (by decide)))
      have c4_ := hF1926.at c4_ (by omega) (g_na c4_ c2_ (Or.inr (by decide)))
      have hF := hF.trans hF1926 (by omega) (fun q hq => (fun h => h ▸ (Or.inr (Or.inr (Or.inl rfl)))))
      refine lv_aload_n hx hb dX4_string_43 rfl (lv_at hl 1 rfl) ?_
      refine g_get C hI c0_ kc23 0 rfl q2567 (fun _ h9 => h9) dX4_string_44 ?_
      refine lv_bipush (v := 47) hx hb dX4_string_47 (by decide) ?_
      refine lv_iload_n hx hb dX4_string_49 rfl (lv_at hl 0 rfl) ?_
      refine lv_iadd hx hb dX4_string_50 ?_
      refine lv_iload_n hx hb dX4_string_51 rfl (lv_at hl 2 rfl) ?_
      refine g_iast C hI hS c1_ (by omega) (gix (gadd nl47 hns) (by omega) (by omega)) dX4_string_52 (fun G1928 H locs e1929 hI hS => ?_)
      rw [gup_e (gadd nl47 hns) (by omega)] at e1929
      have c0_ := gE_k e1929 c0_ (g_no c0_ c1_)
      have c3_ := gE_k e1929 c3_ (g_na c3_ c1_ (Or.inr (by decide)))
      have c4_ := gE_k e1929 c4_ (g_na c4_ c1_ (Or.inr (by decide)))
      have c1927 := gE_k e1929 c1927 (Ne.symm hne)
      have c1_ : G1928 ag = some (aI 112 (gup f (47 + ns) a1)) := gE_s e1929
      have hF := gE_F e1929 hF (Or.inr (Or.inr (Or.inl rfl)))
      refine lv_aload_n hx hb dX4_string_53 rfl (lv_at hl 1 rfl) ?_
      refine g_get C hI c0_ kc23 0 rfl q2567 (fun _ h9 => h9) dX4_string_54 ?_
      refine lv_bipush (v := 57) hx hb dX4_string_57 (by decide) ?_
      refine lv_iload_n hx hb dX4_string_59 rfl (lv_at hl 0 rfl) ?_
      refine lv_iadd hx hb dX4_string_60 ?_
      refine lv_iconst (v := (-1)) hx hb dX4_string_61 (by decide) ?_
      refine g_iast C hI hS c1_ (by omega) (gix (gadd nl57 hns) (by omega) (by omega)) dX4_string_62 (fun G1931 H locs e1932 hI hS => ?_)
      rw [gup_e (gadd nl57 hns) (by omega)] at e1932
      have c0_ := gE_k e1932 c0_ (g_no c0_ c1_)
      have c3_ := gE_k e1932 c3_ (g_na c3_ c1_ (Or.inr (by decide)))
      have c4_ := gE_k e1932 c4_ (g_na c4_ c1_ (Or.inr (by decide)))
      have c1927 := gE_k e1932 c1927 (Ne.symm hne)
      have c1_ : G1931 ag = some (aI 112 (gup (gup f (47 + ns) a1) (57 + ns) (-1))) := gE_s e1932
      have hF := gE_F e1932 hF (Or.inr (Or.inr (Or.inl rfl)))
      refine lv_aload_n hx hb dX4_string_63 rfl (lv_at hl 1 rfl) ?_
      refine g_get C hI c0_ kc23 0 rfl q2567 (fun _ h9 => h9) dX4_string_64 ?_
      refine lv_bipush (v := 67) hx hb dX4_string_67 (by decide) ?_
      refine lv_iload_n hx hb dX4_string_69 rfl (lv_at hl 0 rfl) ?_
      refine lv_iadd hx hb dX4_string_70 ?_
      refine lv_iconst (v := (-1)) hx hb dX4_string_71 (by decide) ?_
      refine g_iast C hI hS c1_ (by omega) (gix (gadd nl67 hns) (by omega) (by omega)) dX4_string_72 (fun G1934 H locs e1935 hI hS => ?_)
      rw [gup_e (gadd nl67 hns) (by omega)] at e1935
      have c0_ := gE_k e1935 c0_ (g_no c0_ c1_)
      have c3_ := gE_k e1935 c3_ (g_na c3_ c1_ (Or.inr (by decide)))
      have c4_ := gE_k e1935 c4_ (g_na c4_ c1_ (Or.inr (by decide)))
      have c1927 := gE_k e1935 c1927 (Ne.symm hne)
      have c1_ : G1934 ag = some (aI 112 (gup (gup (gup f (47 + ns) a1) (57 + ns) (-1)) (67 + ns) (-1))) := gE_s e1935
      have hF := gE_F e1935 hF (Or.inr (Or.inr (Or.inl rfl)))
      refine lv_aload_n hx hb dX4_string_73 rfl (lv_at hl 1 rfl) ?_
      refine g_get C hI c0_ kc23 0 rfl q2567 (fun _ h9 => h9) dX4_string_74 ?_
      refine lv_bipush (v := 46) hx hb dX4_string_77 (by decide) ?_
      refine lv_dup2_11 hx hb dX4_string_79 rfl rfl ?_
      refine g_iald (v := .int ((gup (gup (gup f (47 + ns) a1) (57 + ns) (-1)) (67 + ns) (-1)) 46)) C hI c1_ (gix nl46 (by omega) (by omega)) (congrArg Value.int (gixv (f := gup (gup (gup f (47 + ns) a1) (57 + ns) (-1)) (67 + ns) (-1)) nl46 (by omega))) dX4_string_80 ?_
      refine lv_iconst (v := 1) hx hb dX4_string_81 (by decide) ?_
      refine lv_iadd hx hb dX4_string_82 ?_
      refine g_iast C hI hS c1_ (by omega) (gix nl46 (by omega) (by omega)) dX4_string_83 (fun G1937 H locs e1938 hI hS => ?_)
      rw [gup_e nl46 (by omega)] at e1938
      have c0_ := gE_k e1938 c0_ (g_no c0_ c1_)
      have c3_ := gE_k e1938 c3_ (g_na c3_ c1_ (Or.inr (by decide)))
      have c4_ := gE_k e1938 c4_ (g_na c4_ c1_ (Or.inr (by decide)))
      have c1927 := gE_k e1938 c1927 (Ne.symm hne)
      have c1_ : G1937 ag = some (aI 112 (gup (gup (gup (gup f (47 + ns) a1) (57 + ns) (-1)) (67 + ns) (-1)) 46 (((gup (gup (gup f (47 + ns) a1) (57 + ns) (-1)) (67 + ns) (-1)) 46) + 1))) := gE_s e1938
      have hF := gE_F e1938 hF (Or.inr (Or.inr (Or.inl rfl)))
      refine lv_aload_n hx hb dX4_string_84 rfl (lv_at hl 1 rfl) ?_
      refine lv_aload_n hx hb dX4_string_85 rfl (lv_at hl 1 rfl) ?_
      refine lv_iload_n hx hb dX4_string_86 rfl (lv_at hl 0 rfl) ?_
      refine g_V (As := [.int (f 46)]) (rest := [.ref mm]) (lv := [(2, .int (f 46)), (0, .ref mm), (1, .int a1)]) C hI hS (c_X4_done l hB G1937 n1923 mm ag ab ah ch asv hs aas ain ty er awy ir ali ln th pl wr ato (f 46) c0_ (by omega)) c0_ rfl rfl q2644 q2646 qs35 q94 q2647 (⟨by decide, by decide, by decide⟩ : gArg _ 1) rfl ⟨by decide, by decide⟩ (by omega) hl rfl (Nat.le_of_ble_eq_true rfl) dX4_string_87 (fun v1940 G1941 n1942 H locs hp1943 hI hS => ?_) gKx.no
      obtain ⟨rfl, hn1944, hF1945, c1946⟩ := hp1943
      refine W.widen (k := 0) (n := 200 * (0)) (by omega) (by omega) ?_
      have c1_ := hF1945.at c1_ (by omega) (g_on c1_ c0_)
      have c3_ := hF1945.at c3_ (by omega) (g_on c3_ c0_)
      have c4_ := hF1945.at c4_ (by omega) (g_on c4_ c0_)
      have c1927 := hF1945.at c1927 (by omega) (g_on c1927 c0_)
      have hF := hF.trans hF1945 (by omega) (fun q hq => (fun h => h ▸ (Or.inl rfl)))
      refine g_V (As := [.int (f 46)]) (rest := []) (lv := [(2, .int (f 46)), (0, .ref mm), (1, .int a1)]) C hI hS (c_X4_kept l hB G1941 n1942 mm ag ab ah ch asv hs aas ain ty er awy ir ali ln 0 pl wr ato (gup (gup (gup (gup f (47 + ns) a1) (57 + ns) (-1)) (67 + ns) (-1)) 46 (((gup (gup (gup f (47 + ns) a1) (57 + ns) (-1)) (67 + ns) (-1)) 46) + 1)) f h cn (f 46) c1946 c1_ c1927 c3_ (by omega) (by omega) (by omega) (by omega) hne (rZ_gup (rZ_gup (rZ_gup (rZ_gup zf (by omega)) (by omega)) (by omega)) (by omega)) zf (by assumption) (by omega)) c1946 rfl rfl q2659 q2661 qs37 q94 q2662 (⟨by decide, by decide, by decide⟩ : gArg _ 1) rfl ⟨by decide, by decide⟩ (by omega) hl rfl (Nat.le_of_ble_eq_true rfl) dX4_string_90 (fun v1947 G1948 n1949 H locs hp1950 hI hS => ?_) gKx.no
      obtain ⟨r_1951, f2_1952, c2_1953, h2_1954, rfl, hn1955, hF1956, c1957, c1958, c1959, c1960, hk1961⟩ := hp1950
      refine W.widen (k := 0) (n := 200 * (0)) (by omega) (by omega) ?_
      have c4_ := hF1956.at c4_ (by omega) (fun h => h.elim (g_on c4_ c1946) (fun h => h.elim (g_na c4_ c1_ (Or.inr (by decide))) (g_na c4_ c3_ (Or.inr (by decide)))))
      have hF := hF.trans hF1956 (by omega) (fun q hq => (fun h => h.elim (fun h => h ▸ (Or.inl rfl)) (fun h => h.elim (fun h => h ▸ (Or.inr (Or.inl rfl))) (fun h => h ▸ (Or.inr (Or.inr (Or.inr (Or.inl rfl))))))))
      exact g_iret C hI hS (by omega) ⟨0, ir, r_1951, c2_1953, f2_1952, f, h2_1954, y, rfl, (by omega), hF, c1957, c1958, c1959, c1960, c4_, (by assumption), (by have hk9 := hk1961; simp only [kK, if_true, Prod.mk.injEq] at hk9; obtain ⟨rfl, rfl, rfl, rfl⟩ := hk9; simp [mK, oV, oF, sCall, sArg, sRef, sOk, sWhy, dString, wString, t24, t46, c_1918, tj_a1, c_1919])⟩ dX4_string_93
    · skip
      try have k_1962 : ns = 10 := (nI_eqE hns nl10 (by omega) (by omega)).mp c_1919
      refine lv_aload_n hx hb dX4_string_30 rfl (lv_at hl 1 rfl) ?_
      refine lv_iconst (v := 1) hx hb dX4_string_31 (by decide) ?_
      refine lv_bipush (v := 10) hx hb dX4_string_32 (by decide) ?_
      refine lv_iconst (v := 2) hx hb dX4_string_34 (by decide) ?_
      refine g_V (As := [.int 1, .int 10, .int 2]) (rest := []) (lv := [(2, .int (f 46)), (0, .ref mm), (1, .int a1)]) C hI hS (c_X4_refused l hB G n mm ag ab ah ch asv hs aas ain ty er awy ir ali ln th pl wr ato y 1 10 2 c0_ c4_ (by omega) (by omega)) c0_ rfl rfl q2686 q2688 qs38 q94 q2689 (⟨by decide, by decide, by decide⟩ : gArg _ 3) rfl ⟨by decide, by decide⟩ (by omega) hl rfl (Nat.le_of_ble_eq_true rfl) dX4_string_35 (fun v1963 G1964 n1965 H locs hp1966 hI hS => ?_) gKx.no
      obtain ⟨rfl, hn1967, hF1968, c1969, c1970⟩ := hp1966
      refine W.widen (k := 0) (n := 200 * (0)) (by omega) (by omega) ?_
      have c1_ := hF1968.at c1_ (by omega) (fun h => h.elim (g_on c1_ c0_) (g_na c1_ c4_ (Or.inr (by decide))))
      have c2_ := hF1968.at c2_ (by omega) (fun h => h.elim (g_on c2_ c0_) (g_na c2_ c4_ (Or.inr (by decide))))
      have c3_ := hF1968.at c3_ (by omega) (fun h => h.elim (g_on c3_ c0_) (g_na c3_ c4_ (Or.inr (by decide))))
      have hF := hF.trans hF1968 (by omega) (fun q hq => (fun h => h.elim (fun h => h ▸ (Or.inl rfl)) (fun h => h ▸ (Or.inr (Or.inr (Or.inr (Or.inr (rfl))))))))
      exact g_iret C hI hS (by omega) ⟨2, 1, 0, cn, f, f0, h, gup (gup (gup (gup (gup (gup y 0 1) 1 10) 2 0) 3 0) 4 0) 5 0, rfl, (by omega), hF, (by rw [← hc]; exact c1969), c1_, c2_, c3_, c1970, (by assumption), (by simp [mK, oV, oF, sCall, sArg, sRef, sOk, sWhy, dString, wString, t24, t46, c_1918, tj_a1, c_1919])⟩ dX4_string_38
  · skip
    refine lv_aload_n hx hb dX4_string_10 rfl (lv_at hl 0 rfl) ?_
    refine lv_iconst (v := 1) hx hb dX4_string_11 (by decide) ?_
    refine g_V (As := [.int 1]) (rest := []) (lv := [(0, .ref mm), (1, .int a1)]) C hI hS (c_X4_fails l hB G n mm ag ab ah ch asv hs aas ain ty er awy ir ali ln th pl wr ato 1 c0_ (by omega)) c0_ rfl rfl q2637 q2639 qs34 q94 q2640 (⟨by decide, by decide, by decide⟩ : gArg _ 1) rfl ⟨by decide, by decide⟩ (by omega) hl rfl (Nat.le_of_ble_eq_true rfl) dX4_string_12 (fun v1971 G1972 n1973 H locs hp1974 hI hS => ?_) gKx.no
    obtain ⟨rfl, hn1975, hF1976, c1977⟩ := hp1974
    refine W.widen (k := 0) (n := 200 * (0)) (by omega) (by omega) ?_
    have c1_ := hF1976.at c1_ (by omega) (g_on c1_ c0_)
    have c2_ := hF1976.at c2_ (by omega) (g_on c2_ c0_)
    have c3_ := hF1976.at c3_ (by omega) (g_on c3_ c0_)
    have c4_ := hF1976.at c4_ (by omega) (g_on c4_ c0_)
    have hF := hF.trans hF1976 (by omega) (fun q hq => (fun h => h ▸ (Or.inl rfl)))
    exact g_iret C hI hS (by omega) ⟨1, 0, 0, cn, f, f0, h, y, rfl, (by omega), hF, (by rw [← hc]; exact c1977), c1_, c2_, c3_, c4_, (by assumption), (by simp [mK, oV, oF, sCall, sArg, sRef, sOk, sWhy, dString, wString, t24, t46, c_1918])⟩ dX4_string_15
