/-! THE REFERENCE, 4: days, and what follows -/
set_option maxHeartbeats 4000000 in
set_option maxRecDepth 100000 in
theorem c_X4_most (l : Launch) {D : gD} (hB : gBs D) (G : gH) (n : Nat) (v0 : Int32) : gMet l D yX4_most (ws_ yX4_most cX4_most 1 (some FieldType.int)) 1 0 G n [.int v0] (fun (v : Option Value) (G1 : gH) (n1 : Nat) => v = some (.int (sMost v0)) ∧ G1 = G ∧ n1 = n) gNox := by
  refine g_start (by decide) (Nat.le_of_ble_eq_true rfl) ?_
  intro p e s m below meth c ls C hnm hxt hI hl
  have hx := C.x
  have hb := C.b
  have hS : va_S (gA D) s.heap s.heap [] := va_S.rf
  have hz0 := hI.z
  have hF : gF G G n gNone := gF.rf _ _ _
  have hl : lv_has ls 1 [(0, .int v0)] := hl
  refine lv_iload_n hx hb dX4_most_0 rfl (lv_at hl 0 rfl) ?_
  refine lv_sipush (v := 999) hx hb dX4_most_1 (by decide) ?_
  refine lv_icmp_le (tgt := 13) hx hb dX4_most_4 (by decide) (fun c_960 => ?_) (fun c_960 => ?_)
  · skip
    refine lv_iload_n hx hb dX4_most_13 rfl (lv_at hl 0 rfl) ?_
    exact g_iret C hI hS (by omega) ⟨(by simp [sMost, c_960]), rfl, rfl⟩ dX4_most_14
  · skip
    refine lv_sipush (v := 999) hx hb dX4_most_7 (by decide) ?_
    refine lv_goto (tgt := 14) hx hb dX4_most_10 (by decide) ?_
    exact g_iret C hI hS (by omega) ⟨(by simp [sMost, c_960]), rfl, rfl⟩ dX4_most_14
set_option maxHeartbeats 4000000 in
set_option maxRecDepth 100000 in
theorem c_X4_grows (l : Launch) {D : gD} (hB : gBs D) (G : gH) (n : Nat) (mm : Nat) (ag : Nat) (ab : Nat) (ah : Nat) (ch : Int32) (asv : Nat) (hs : Int32) (aas : Nat) (ain : Nat) (ty : Int32) (er : Int32) (awy : Nat) (ir : Int32) (ali : Nat) (ln : Int32) (th : Int32) (pl : Int32) (wr : Int32) (ato : Nat) (f : Nat → Int32) (pj : Nat) (a1 : Int32) (c0_ : G mm = some (.inl (23, [.ref ag, .ref ab, .ref ah, .int ch, .ref asv, .int hs, .ref aas, .ref ain, .int ty, .int er, .ref awy, .int ir, .ref ali, .int ln, .int th, .int pl, .int wr, .ref ato]))) (c1_ : G ag = some (aI 112 f)) (hzg : gz D ≤ ag) (hp5 : pj ≤ 5) (ep : a1 = nI pj) : gMet l D yX4_grows (ws_ yX4_grows cX4_grows 6 none) 2 0 G n [.ref mm, .int a1] (fun (v : Option Value) (G1 : gH) (n1 : Nat) => v = none ∧ n ≤ n1 ∧ gF G G1 n (fun q : Nat => q = ag) ∧ G1 ag = some (aI 112 (wGrow f pj))) gNox := by
  refine g_start (by decide) (Nat.le_of_ble_eq_true rfl) ?_
  intro p e s m below meth c ls C hnm hxt hI hl
  have hx := C.x
  have hb := C.b
  have hS : va_S (gA D) s.heap s.heap [] := va_S.rf
  have hz0 := hI.z
  have lc0_ := hI.lt c0_
  have lc1_ := hI.lt c1_
  have hF : gF G G n (fun q : Nat => q = ag) := gF.rf _ _ _
  have hl : lv_has ls 6 [(0, .ref mm), (1, .int a1)] := hl
  refine lv_iconst (v := 3) hx hb dX4_grows_0 (by decide) ?_
  refine lv_iconst (v := 3) hx hb dX4_grows_1 (by decide) ?_
  refine lv_iload_n hx hb dX4_grows_2 rfl (lv_at hl 1 rfl) ?_
  refine lv_imul hx hb dX4_grows_3 ?_
  refine lv_iadd hx hb dX4_grows_4 ?_
  refine lv_istore_n (lv' := [(2, .int (3 + (3 * a1))), (0, .ref mm), (1, .int a1)]) hx hb dX4_grows_5 rfl hl (by decide) rfl (fun ls hl => ?_)
  refine lv_aload_n hx hb dX4_grows_6 rfl (lv_at hl 1 rfl) ?_
  refine g_get C hI c0_ kc23 0 rfl q2567 (fun _ h9 => h9) dX4_grows_7 ?_
  refine lv_iload_n hx hb dX4_grows_10 rfl (lv_at hl 0 rfl) ?_
  refine g_iald (v := .int (f (3 + (3 * pj)))) C hI c1_ (gix (gadd nl3 (gmul nl3 ep)) (by omega) (by omega)) (congrArg Value.int (gixv (f := f) (gadd nl3 (gmul nl3 ep)) (by omega))) dX4_grows_11 ?_
  refine lv_istore_n (lv' := [(3, .int (f (3 + (3 * pj)))), (2, .int (3 + (3 * a1))), (0, .ref mm), (1, .int a1)]) hx hb dX4_grows_12 rfl hl (by decide) rfl (fun ls hl => ?_)
  refine lv_aload_n hx hb dX4_grows_13 rfl (lv_at hl 2 rfl) ?_
  refine g_get C hI c0_ kc23 0 rfl q2567 (fun _ h9 => h9) dX4_grows_14 ?_
  refine lv_iload_n hx hb dX4_grows_17 rfl (lv_at hl 1 rfl) ?_
  refine lv_iconst (v := 1) hx hb dX4_grows_18 (by decide) ?_
  refine lv_iadd hx hb dX4_grows_19 ?_
  refine g_iald (v := .int (f ((3 + (3 * pj)) + 1))) C hI c1_ (gix (gadd (gadd nl3 (gmul nl3 ep)) nl1) (by omega) (by omega)) (congrArg Value.int (gixv (f := f) (gadd (gadd nl3 (gmul nl3 ep)) nl1) (by omega))) dX4_grows_20 ?_
  refine lv_istore (lv' := [(4, .int (f ((3 + (3 * pj)) + 1))), (3, .int (f (3 + (3 * pj)))), (2, .int (3 + (3 * a1))), (0, .ref mm), (1, .int a1)]) hx hb dX4_grows_21 hl (by decide) rfl (fun ls hl => ?_)
  refine lv_aload_n hx hb dX4_grows_23 rfl (lv_at hl 3 rfl) ?_
  refine g_get C hI c0_ kc23 0 rfl q2567 (fun _ h9 => h9) dX4_grows_24 ?_
  refine lv_iload_n hx hb dX4_grows_27 rfl (lv_at hl 2 rfl) ?_
  refine lv_iconst (v := 2) hx hb dX4_grows_28 (by decide) ?_
  refine lv_iadd hx hb dX4_grows_29 ?_
  refine g_iald (v := .int (f ((3 + (3 * pj)) + 2))) C hI c1_ (gix (gadd (gadd nl3 (gmul nl3 ep)) nl2) (by omega) (by omega)) (congrArg Value.int (gixv (f := f) (gadd (gadd nl3 (gmul nl3 ep)) nl2) (by omega))) dX4_grows_30 ?_
  refine lv_istore (lv' := [(5, .int (f ((3 + (3 * pj)) + 2))), (4, .int (f ((3 + (3 * pj)) + 1))), (3, .int (f (3 + (3 * pj)))), (2, .int (3 + (3 * a1))), (0, .ref mm), (1, .int a1)]) hx hb dX4_grows_31 hl (by decide) rfl (fun ls hl => ?_)
  refine lv_aload_n hx hb dX4_grows_33 rfl (lv_at hl 4 rfl) ?_
  refine g_get C hI c0_ kc23 0 rfl q2567 (fun _ h9 => h9) dX4_grows_34 ?_
  refine lv_iload_n hx hb dX4_grows_37 rfl (lv_at hl 3 rfl) ?_
  refine lv_iload_n hx hb dX4_grows_38 rfl (lv_at hl 2 rfl) ?_
  refine lv_iload_n hx hb dX4_grows_39 rfl (lv_at hl 2 rfl) ?_
  refine lv_bipush (v := 20) hx hb dX4_grows_40 (by decide) ?_
  refine lv_idiv hx hb dX4_grows_42 (by decide) ?_
  refine lv_isub hx hb dX4_grows_43 ?_
  refine lv_iload hx hb dX4_grows_44 (lv_at hl 1 rfl) ?_
  refine lv_iload hx hb dX4_grows_46 (lv_at hl 0 rfl) ?_
  refine lv_iadd hx hb dX4_grows_48 ?_
  refine lv_bipush (v := 25) hx hb dX4_grows_49 (by decide) ?_
  refine lv_idiv hx hb dX4_grows_51 (by decide) ?_
  refine lv_iadd hx hb dX4_grows_52 ?_
  refine g_S (As := [.int (((f (3 + (3 * pj))) - ((f (3 + (3 * pj))) / 20)) + (((f ((3 + (3 * pj)) + 1)) + (f ((3 + (3 * pj)) + 2))) / 25))]) (rest := [.int (3 + (3 * a1)), .ref ag]) (lv := [(5, .int (f ((3 + (3 * pj)) + 2))), (4, .int (f ((3 + (3 * pj)) + 1))), (3, .int (f (3 + (3 * pj)))), (2, .int (3 + (3 * a1))), (0, .ref mm), (1, .int a1)]) C hI hS (c_X4_most l hB G n (((f (3 + (3 * pj))) - ((f (3 + (3 * pj))) / 20)) + (((f ((3 + (3 * pj)) + 1)) + (f ((3 + (3 * pj)) + 2))) / 25))  ) q2786 q2787 q94 q2788 (⟨by decide, by decide, by decide⟩ : gArg _ 1) rfl ⟨by decide, by decide⟩ (by omega) hl rfl (Nat.le_of_ble_eq_true rfl) dX4_grows_53 (fun v961 G962 n963 H locs hp964 hI hS => ?_) gKx.no
  obtain ⟨rfl, eG962, en963⟩ := hp964
  refine W.widen (k := 0) (n := 200 * (0)) (by omega) (by omega) ?_
  rw [eG962, en963] at hI
  refine g_iast C hI hS c1_ (by omega) (gix (gadd nl3 (gmul nl3 ep)) (by omega) (by omega)) dX4_grows_56 (fun G967 H locs e968 hI hS => ?_)
  rw [gup_e (gadd nl3 (gmul nl3 ep)) (by omega)] at e968
  have c0_ := gE_k e968 c0_ (g_no c0_ c1_)
  have c1_ : G967 ag = some (aI 112 (gup f (3 + (3 * pj)) (sMost (((f (3 + (3 * pj))) - ((f (3 + (3 * pj))) / 20)) + (((f ((3 + (3 * pj)) + 1)) + (f ((3 + (3 * pj)) + 2))) / 25))))) := gE_s e968
  have hF := gE_F e968 hF (Or.inr rfl)
  refine lv_aload_n hx hb dX4_grows_57 rfl (lv_at hl 4 rfl) ?_
  refine g_get C hI c0_ kc23 0 rfl q2567 (fun _ h9 => h9) dX4_grows_58 ?_
  refine lv_iload_n hx hb dX4_grows_61 rfl (lv_at hl 3 rfl) ?_
  refine lv_iconst (v := 1) hx hb dX4_grows_62 (by decide) ?_
  refine lv_iadd hx hb dX4_grows_63 ?_
  refine lv_iload hx hb dX4_grows_64 (lv_at hl 1 rfl) ?_
  refine lv_iload_n hx hb dX4_grows_66 rfl (lv_at hl 2 rfl) ?_
  refine lv_bipush (v := 20) hx hb dX4_grows_67 (by decide) ?_
  refine lv_idiv hx hb dX4_grows_69 (by decide) ?_
  refine lv_iadd hx hb dX4_grows_70 ?_
  refine lv_iload hx hb dX4_grows_71 (lv_at hl 1 rfl) ?_
  refine lv_bipush (v := 20) hx hb dX4_grows_73 (by decide) ?_
  refine lv_idiv hx hb dX4_grows_75 (by decide) ?_
  refine lv_isub hx hb dX4_grows_76 ?_
  refine g_S (As := [.int (((f ((3 + (3 * pj)) + 1)) + ((f (3 + (3 * pj))) / 20)) - ((f ((3 + (3 * pj)) + 1)) / 20))]) (rest := [.int ((3 + (3 * a1)) + 1), .ref ag]) (lv := [(5, .int (f ((3 + (3 * pj)) + 2))), (4, .int (f ((3 + (3 * pj)) + 1))), (3, .int (f (3 + (3 * pj)))), (2, .int (3 + (3 * a1))), (0, .ref mm), (1, .int a1)]) C hI hS (c_X4_most l hB G967 n (((f ((3 + (3 * pj)) + 1)) + ((f (3 + (3 * pj))) / 20)) - ((f ((3 + (3 * pj)) + 1)) / 20))  ) q2786 q2787 q94 q2788 (⟨by decide, by decide, by decide⟩ : gArg _ 1) rfl ⟨by decide, by decide⟩ (by omega) hl rfl (Nat.le_of_ble_eq_true rfl) dX4_grows_77 (fun v970 G971 n972 H locs hp973 hI hS => ?_) gKx.no
  obtain ⟨rfl, eG971, en972⟩ := hp973
  refine W.widen (k := 0) (n := 200 * (0)) (by omega) (by omega) ?_
  rw [eG971, en972] at hI
  refine g_iast C hI hS c1_ (by omega) (gix (gadd (gadd nl3 (gmul nl3 ep)) nl1) (by omega) (by omega)) dX4_grows_80 (fun G976 H locs e977 hI hS => ?_)
  rw [gup_e (gadd (gadd nl3 (gmul nl3 ep)) nl1) (by omega)] at e977
  have c0_ := gE_k e977 c0_ (g_no c0_ c1_)
  have c1_ : G976 ag = some (aI 112 (gup (gup f (3 + (3 * pj)) (sMost (((f (3 + (3 * pj))) - ((f (3 + (3 * pj))) / 20)) + (((f ((3 + (3 * pj)) + 1)) + (f ((3 + (3 * pj)) + 2))) / 25)))) ((3 + (3 * pj)) + 1) (sMost (((f ((3 + (3 * pj)) + 1)) + ((f (3 + (3 * pj))) / 20)) - ((f ((3 + (3 * pj)) + 1)) / 20))))) := gE_s e977
  have hF := gE_F e977 hF (Or.inr rfl)
  refine lv_aload_n hx hb dX4_grows_81 rfl (lv_at hl 4 rfl) ?_
  refine g_get C hI c0_ kc23 0 rfl q2567 (fun _ h9 => h9) dX4_grows_82 ?_
  refine lv_iload_n hx hb dX4_grows_85 rfl (lv_at hl 3 rfl) ?_
  refine lv_iconst (v := 2) hx hb dX4_grows_86 (by decide) ?_
  refine lv_iadd hx hb dX4_grows_87 ?_
  refine lv_iload hx hb dX4_grows_88 (lv_at hl 0 rfl) ?_
  refine lv_iload hx hb dX4_grows_90 (lv_at hl 1 rfl) ?_
  refine lv_bipush (v := 20) hx hb dX4_grows_92 (by decide) ?_
  refine lv_idiv hx hb dX4_grows_94 (by decide) ?_
  refine lv_iadd hx hb dX4_grows_95 ?_
  refine g_S (As := [.int ((f ((3 + (3 * pj)) + 2)) + ((f ((3 + (3 * pj)) + 1)) / 20))]) (rest := [.int ((3 + (3 * a1)) + 2), .ref ag]) (lv := [(5, .int (f ((3 + (3 * pj)) + 2))), (4, .int (f ((3 + (3 * pj)) + 1))), (3, .int (f (3 + (3 * pj)))), (2, .int (3 + (3 * a1))), (0, .ref mm), (1, .int a1)]) C hI hS (c_X4_most l hB G976 n ((f ((3 + (3 * pj)) + 2)) + ((f ((3 + (3 * pj)) + 1)) / 20))  ) q2786 q2787 q94 q2788 (⟨by decide, by decide, by decide⟩ : gArg _ 1) rfl ⟨by decide, by decide⟩ (by omega) hl rfl (Nat.le_of_ble_eq_true rfl) dX4_grows_96 (fun v979 G980 n981 H locs hp982 hI hS => ?_) gKx.no
  obtain ⟨rfl, eG980, en981⟩ := hp982
  refine W.widen (k := 0) (n := 200 * (0)) (by omega) (by omega) ?_
  rw [eG980, en981] at hI
  refine g_iast C hI hS c1_ (by omega) (gix (gadd (gadd nl3 (gmul nl3 ep)) nl2) (by omega) (by omega)) dX4_grows_99 (fun G985 H locs e986 hI hS => ?_)
  rw [gup_e (gadd (gadd nl3 (gmul nl3 ep)) nl2) (by omega)] at e986
  have c0_ := gE_k e986 c0_ (g_no c0_ c1_)
  have c1_ : G985 ag = some (aI 112 (gup (gup (gup f (3 + (3 * pj)) (sMost (((f (3 + (3 * pj))) - ((f (3 + (3 * pj))) / 20)) + (((f ((3 + (3 * pj)) + 1)) + (f ((3 + (3 * pj)) + 2))) / 25)))) ((3 + (3 * pj)) + 1) (sMost (((f ((3 + (3 * pj)) + 1)) + ((f (3 + (3 * pj))) / 20)) - ((f ((3 + (3 * pj)) + 1)) / 20)))) ((3 + (3 * pj)) + 2) (sMost ((f ((3 + (3 * pj)) + 2)) + ((f ((3 + (3 * pj)) + 1)) / 20))))) := gE_s e986
  have hF := gE_F e986 hF (Or.inr rfl)
  exact g_vret C hI hS (by omega) ⟨rfl, (by omega), hF, (by exact c1_)⟩ dX4_grows_100
set_option maxHeartbeats 4000000 in
set_option maxRecDepth 100000 in
theorem c_X4_goesDay (l : Launch) {D : gD} (hB : gBs D) (G : gH) (n : Nat) (mm : Nat) (ag : Nat) (ab : Nat) (ah : Nat) (ch : Int32) (asv : Nat) (hs : Int32) (aas : Nat) (ain : Nat) (ty : Int32) (er : Int32) (awy : Nat) (ir : Int32) (ali : Nat) (ln : Int32) (th : Int32) (pl : Int32) (wr : Int32) (ato : Nat) (f : Nat → Int32) (nb : Nat) (ns : Nat) (c0_ : G mm = some (.inl (23, [.ref ag, .ref ab, .ref ah, .int ch, .ref asv, .int hs, .ref aas, .ref ain, .int ty, .int er, .ref awy, .int ir, .ref ali, .int ln, .int th, .int pl, .int wr, .ref ato]))) (c1_ : G ag = some (aI 112 f)) (hzg : gz D ≤ ag) (hnb : f 24 = nI nb) (hb3 : nb ≤ 3) (hns : f 46 = nI ns) (hs10 : ns ≤ 10) : gMet l D yX4_goesDay (ws_ yX4_goesDay cX4_goesDay 4 (some FieldType.int)) 3 0 G n [.ref mm] (fun (v : Option Value) (G1 : gH) (n1 : Nat) => v = some (.int (dDay f).2) ∧ n ≤ n1 ∧ gF G G1 n (fun q : Nat => q = ag) ∧ G1 ag = some (aI 112 ((dDay f).1))) gNox := by
  refine g_start (by decide) (Nat.le_of_ble_eq_true rfl) ?_
  intro p e s m below meth c ls C hnm hxt hI hl
  have hx := C.x
  have hb := C.b
  have hS : va_S (gA D) s.heap s.heap [] := va_S.rf
  have hz0 := hI.z
  have lc0_ := hI.lt c0_
  have lc1_ := hI.lt c1_
  have hF : gF G G n (fun q : Nat => q = ag) := gF.rf _ _ _
  have hl : lv_has ls 4 [(0, .ref mm)] := hl
  have t24 : (f 24).toNatClampNeg = nb := by rw [hnb]; exact nI_clamp (by omega)
  have t46 : (f 46).toNatClampNeg = ns := by rw [hns]; exact nI_clamp (by omega)
  refine lv_iconst (v := 0) hx hb dX4_goesDay_0 (by decide) ?_
  refine lv_istore_n (lv' := [(1, .int 0), (0, .ref mm)]) hx hb dX4_goesDay_1 rfl hl (by decide) rfl (fun ls hl => ?_)
  refine lv_iconst (v := 0) hx hb dX4_goesDay_2 (by decide) ?_
  refine lv_istore_n (lv' := [(2, .int 0), (1, .int 0), (0, .ref mm)]) hx hb dX4_goesDay_3 rfl hl (by decide) rfl (fun ls hl => ?_)
  have key988 : ∀ (r : Nat) (i : Nat) (xi : Int32), (i ≤ nb) → (nb < i + r) → (xi = nI i) → (dyB f i 24 = nI nb) → ∀ (G989 : gH) (n990 : Nat) (H : Heap) (locs : List Loc) (ls : Array Slot), G989 mm = some (.inl (23, [.ref ag, .ref ab, .ref ah, .int ch, .ref asv, .int hs, .ref aas, .ref ain, .int ty, .int er, .ref awy, .int ir, .ref ali, .int ln, .int th, .int pl, .int wr, .ref ato])) → G989 ag = some (aI 112 (dyB f i)) → n ≤ n990 → gI D G989 n990 H → va_S (gA D) s.heap H locs → gF G G989 n (fun q : Nat => q = ag) → lv_has ls 4 [(2, .int xi), (1, .int 0), (0, .ref mm)] → W p l e (gR 3 0) s m ([.ref mm] : List Value).toArray below meth c H locs (0) (200 * (0)) (gM below D (fun (v : Option Value) (G1 : gH) (n1 : Nat) => v = some (.int (dDay f).2) ∧ n ≤ n1 ∧ gF G G1 n (fun q : Nat => q = ag) ∧ G1 ag = some (aI 112 ((dDay f).1))) gNox ([.ref mm] : List Value).toArray s 0) (F0 m 4 ls []) := by
    intro r
    induction r with
    | zero =>
      intro i xi hi hr hxi h24
      exact absurd trivial (fun _ => (by omega))
    | succ r ih993 =>
      intro i xi hi hr hxi h24
      intro G989 n990 H locs ls c991 c992 hn994 hI hS hF hl
      refine lv_iload_n hx hb dX4_goesDay_4 rfl (lv_at hl 0 rfl) ?_
      refine lv_aload_n hx hb dX4_goesDay_5 rfl (lv_at hl 2 rfl) ?_
      refine g_get C hI c991 kc23 0 rfl q2567 (fun _ h9 => h9) dX4_goesDay_6 ?_
      refine lv_bipush (v := 24) hx hb dX4_goesDay_9 (by decide) ?_
      refine g_iald (v := .int ((dyB f i) 24)) C hI c992 (gix nl24 (by omega) (by omega)) (congrArg Value.int (gixv (f := dyB f i) nl24 (by omega))) dX4_goesDay_11 ?_
      refine lv_icmp_ge (tgt := 42) hx hb dX4_goesDay_12 (by decide) (fun c_995 => ?_) (fun c_995 => ?_)
      · skip
        try have k_996 : nb ≤ i := (nI_leE h24 hxi (by omega) (by omega)).mp c_995
        refine lv_iconst (v := 0) hx hb dX4_goesDay_42 (by decide) ?_
        refine lv_istore_n (lv' := [(2, .int 0), (1, .int 0), (0, .ref mm)]) hx hb dX4_goesDay_43 rfl hl (by decide) rfl (fun ls hl => ?_)
        have hib : i = nb := by omega
        have key997 : ∀ (r : Nat) (j : Nat) (xj : Int32) (lost : Int32), (j ≤ ns) → (ns < j + r) → (xj = nI j) → (lost = (dyL (dyB f nb) j).2) → ((dyL (dyB f nb) j).1 46 = nI ns) → ((dyL (dyB f nb) j).1 1 = f 1) → (j = 0 ∨ ¬ f 1 < 7) → ∀ (G998 : gH) (n999 : Nat) (H : Heap) (locs : List Loc) (ls : Array Slot), G998 mm = some (.inl (23, [.ref ag, .ref ab, .ref ah, .int ch, .ref asv, .int hs, .ref aas, .ref ain, .int ty, .int er, .ref awy, .int ir, .ref ali, .int ln, .int th, .int pl, .int wr, .ref ato])) → G998 ag = some (aI 112 ((dyL (dyB f nb) j).1)) → n990 ≤ n999 → gI D G998 n999 H → va_S (gA D) s.heap H locs → gF G G998 n (fun q : Nat => q = ag) → lv_has ls 4 [(2, .int xj), (1, .int lost), (0, .ref mm)] → W p l e (gR 3 0) s m ([.ref mm] : List Value).toArray below meth c H locs (0) (200 * (0)) (gM below D (fun (v : Option Value) (G1 : gH) (n1 : Nat) => v = some (.int (dDay f).2) ∧ n ≤ n1 ∧ gF G G1 n (fun q : Nat => q = ag) ∧ G1 ag = some (aI 112 ((dDay f).1))) gNox ([.ref mm] : List Value).toArray s 0) (F0 m 44 ls []) := by
          intro r
          induction r with
          | zero =>
            intro j xj lost hj hr hxj hlo h46 h1 h7
            exact absurd trivial (fun _ => (by omega))
          | succ r ih1002 =>
            intro j xj lost hj hr hxj hlo h46 h1 h7
            intro G998 n999 H locs ls c1000 c1001 hn1003 hI hS hF hl
            refine lv_iload_n hx hb dX4_goesDay_44 rfl (lv_at hl 0 rfl) ?_
            refine lv_aload_n hx hb dX4_goesDay_45 rfl (lv_at hl 2 rfl) ?_
            refine g_get C hI c1000 kc23 0 rfl q2567 (fun _ h9 => h9) dX4_goesDay_46 ?_
            refine lv_bipush (v := 46) hx hb dX4_goesDay_49 (by decide) ?_
            refine g_iald (v := .int (((dyL (dyB f nb) j).1) 46)) C hI c1001 (gix nl46 (by omega) (by omega)) (congrArg Value.int (gixv (f := (dyL (dyB f nb) j).1) nl46 (by omega))) dX4_goesDay_51 ?_
            refine lv_icmp_ge (tgt := 132) hx hb dX4_goesDay_52 (by decide) (fun c_1004 => ?_) (fun c_1004 => ?_)
            · skip
              try have k_1005 : ns ≤ j := (nI_leE h46 hxj (by omega) (by omega)).mp c_1004
              have hjj : (dyL (dyB f nb) j) = dyL (dyB f nb) (if f 1 < 7 then 0 else ns) := by
                by_cases h8 : f 1 < 7
                · rw [if_pos h8]; rcases h7 with h | h; (rw [h]); exact absurd h8 h
                · rw [if_neg h8, show j = ns by omega]
              rw [hjj] at hlo
              rw [hjj] at c1001
              refine lv_iconst (v := 0) hx hb dX4_goesDay_132 (by decide) ?_
              refine lv_istore_n (lv' := [(2, .int 0), (1, .int lost), (0, .ref mm)]) hx hb dX4_goesDay_133 rfl hl (by decide) rfl (fun ls hl => ?_)
              have key1006 : ∀ (r : Nat) (q : Nat) (xq : Int32), (q ≤ 6) → (6 < q + r) → (xq = nI q) → ∀ (G1007 : gH) (n1008 : Nat) (H : Heap) (locs : List Loc) (ls : Array Slot), G1007 mm = some (.inl (23, [.ref ag, .ref ab, .ref ah, .int ch, .ref asv, .int hs, .ref aas, .ref ain, .int ty, .int er, .ref awy, .int ir, .ref ali, .int ln, .int th, .int pl, .int wr, .ref ato])) → G1007 ag = some (aI 112 (dyG (dyL (dyB f nb) (if f 1 < 7 then 0 else ns)).1 q)) → n999 ≤ n1008 → gI D G1007 n1008 H → va_S (gA D) s.heap H locs → gF G G1007 n (fun q : Nat => q = ag) → lv_has ls 4 [(2, .int xq), (1, .int lost), (0, .ref mm)] → W p l e (gR 3 0) s m ([.ref mm] : List Value).toArray below meth c H locs (0) (200 * (0)) (gM below D (fun (v : Option Value) (G1 : gH) (n1 : Nat) => v = some (.int (dDay f).2) ∧ n ≤ n1 ∧ gF G G1 n (fun q : Nat => q = ag) ∧ G1 ag = some (aI 112 ((dDay f).1))) gNox ([.ref mm] : List Value).toArray s 0) (F0 m 134 ls []) := by
                intro r
                induction r with
                | zero =>
                  intro q xq hq6 hr hxq
                  exact absurd trivial (fun _ => (by omega))
                | succ r ih1011 =>
                  intro q xq hq6 hr hxq
                  intro G1007 n1008 H locs ls c1009 c1010 hn1012 hI hS hF hl
                  refine lv_iload_n hx hb dX4_goesDay_134 rfl (lv_at hl 0 rfl) ?_
                  refine lv_bipush (v := 6) hx hb dX4_goesDay_135 (by decide) ?_
                  refine lv_icmp_ge (tgt := 151) hx hb dX4_goesDay_137 (by decide) (fun c_1013 => ?_) (fun c_1013 => ?_)
                  · skip
                    try have k_1014 : 6 ≤ q := (nI_leE nl6 hxq (by omega) (by omega)).mp c_1013
                    have hqe : q = 6 := by omega
                    rw [hqe] at c1010
                    refine lv_aload_n hx hb dX4_goesDay_151 rfl (lv_at hl 2 rfl) ?_
                    refine g_get C hI c1009 kc23 0 rfl q2567 (fun _ h9 => h9) dX4_goesDay_152 ?_
                    refine lv_bipush (v := 107) hx hb dX4_goesDay_155 (by decide) ?_
                    refine lv_dup2_11 hx hb dX4_goesDay_157 rfl rfl ?_
                    refine g_iald (v := .int ((dyG (dyL (dyB f nb) (if f 1 < 7 then 0 else ns)).1 6) 107)) C hI c1010 (gix nl107 (by omega) (by omega)) (congrArg Value.int (gixv (f := dyG (dyL (dyB f nb) (if f 1 < 7 then 0 else ns)).1 6) nl107 (by omega))) dX4_goesDay_158 ?_
                    refine lv_iload_n hx hb dX4_goesDay_159 rfl (lv_at hl 1 rfl) ?_
                    refine lv_iadd hx hb dX4_goesDay_160 ?_
                    refine g_iast C hI hS c1010 (by omega) (gix nl107 (by omega) (by omega)) dX4_goesDay_161 (fun G1015 H locs e1016 hI hS => ?_)
                    rw [gup_e nl107 (by omega)] at e1016
                    have c1009 := gE_k e1016 c1009 (g_no c1009 c1010)
                    have c1010 : G1015 ag = some (aI 112 (gup (dyG (dyL (dyB f nb) (if f 1 < 7 then 0 else ns)).1 6) 107 (((dyG (dyL (dyB f nb) (if f 1 < 7 then 0 else ns)).1 6) 107) + lost))) := gE_s e1016
                    have hF := gE_F e1016 hF (Or.inr rfl)
                    refine lv_aload_n hx hb dX4_goesDay_162 rfl (lv_at hl 2 rfl) ?_
                    refine g_get C hI c1009 kc23 0 rfl q2567 (fun _ h9 => h9) dX4_goesDay_163 ?_
                    refine lv_iconst (v := 0) hx hb dX4_goesDay_166 (by decide) ?_
                    refine lv_dup2_11 hx hb dX4_goesDay_167 rfl rfl ?_
                    refine g_iald (v := .int ((gup (dyG (dyL (dyB f nb) (if f 1 < 7 then 0 else ns)).1 6) 107 (((dyG (dyL (dyB f nb) (if f 1 < 7 then 0 else ns)).1 6) 107) + lost)) 0)) C hI c1010 (gix nl0 (by omega) (by omega)) (congrArg Value.int (gixv (f := gup (dyG (dyL (dyB f nb) (if f 1 < 7 then 0 else ns)).1 6) 107 (((dyG (dyL (dyB f nb) (if f 1 < 7 then 0 else ns)).1 6) 107) + lost)) nl0 (by omega))) dX4_goesDay_168 ?_
                    refine lv_iconst (v := 1) hx hb dX4_goesDay_169 (by decide) ?_
                    refine lv_iadd hx hb dX4_goesDay_170 ?_
                    refine g_iast C hI hS c1010 (by omega) (gix nl0 (by omega) (by omega)) dX4_goesDay_171 (fun G1018 H locs e1019 hI hS => ?_)
                    rw [gup_e nl0 (by omega)] at e1019
                    have c1009 := gE_k e1019 c1009 (g_no c1009 c1010)
                    have c1010 : G1018 ag = some (aI 112 (gup (gup (dyG (dyL (dyB f nb) (if f 1 < 7 then 0 else ns)).1 6) 107 (((dyG (dyL (dyB f nb) (if f 1 < 7 then 0 else ns)).1 6) 107) + lost)) 0 (((gup (dyG (dyL (dyB f nb) (if f 1 < 7 then 0 else ns)).1 6) 107 (((dyG (dyL (dyB f nb) (if f 1 < 7 then 0 else ns)).1 6) 107) + lost)) 0) + 1))) := gE_s e1019
                    have hF := gE_F e1019 hF (Or.inr rfl)
                    refine lv_iload_n hx hb dX4_goesDay_172 rfl (lv_at hl 1 rfl) ?_
                    exact g_iret C hI hS (by omega) ⟨(by rw [hlo]; unfold dDay; rw [t24, t46]), (by omega), hF, (by rw [hlo] at c1010; unfold dDay; rw [t24, t46]; exact c1010)⟩ dX4_goesDay_173
                  · skip
                    try have k_1021 : ¬ (6 ≤ q) := (not_congr (nI_leE nl6 hxq (by omega) (by omega))).mp c_1013
                    refine lv_aload_n hx hb dX4_goesDay_140 rfl (lv_at hl 2 rfl) ?_
                    refine lv_iload_n hx hb dX4_goesDay_141 rfl (lv_at hl 0 rfl) ?_
                    refine g_V (As := [.int xq]) (rest := []) (lv := [(2, .int xq), (1, .int lost), (0, .ref mm)]) C hI hS (c_X4_grows l hB G1007 n1008 mm ag ab ah ch asv hs aas ain ty er awy ir ali ln th pl wr ato (dyG (dyL (dyB f nb) (if f 1 < 7 then 0 else ns)).1 q) q xq c1009 c1010 (by omega) (by omega) hxq) c1009 rfl rfl q2782 q2784 qs53 q94 q2785 (⟨by decide, by decide, by decide⟩ : gArg _ 1) rfl ⟨by decide, by decide⟩ (by omega) hl rfl (Nat.le_of_ble_eq_true rfl) dX4_goesDay_142 (fun v1022 G1023 n1024 H locs hp1025 hI hS => ?_) gKx.no
                    obtain ⟨rfl, hn1026, hF1027, c1028⟩ := hp1025
                    refine W.widen (k := 0) (n := 200 * (0)) (by omega) (by omega) ?_
                    have c1009 := hF1027.at c1009 (by omega) (g_no c1009 c1010)
                    have hF := hF.trans hF1027 (by omega) (fun q hq => (fun h => h ▸ rfl))
                    refine lv_iinc (v := xq + 1) (lv' := [(2, .int (xq + 1)), (1, .int lost), (0, .ref mm)]) hx hb dX4_goesDay_145 hl (k := 0) rfl (by first | rfl | decide) (by decide) rfl (fun ls hl => ?_)
                    refine lv_goto (tgt := 134) hx hb dX4_goesDay_148 (by decide) ?_
                    have c1028 : G1023 ag = some (aI 112 (dyG (dyL (dyB f nb) (if f 1 < 7 then 0 else ns)).1 (q + 1))) := c1028
                    exact ih1011 (q + 1) (xq + 1) (by omega) (by omega) (gadd hxq nl1) _ _ _ _ _ c1009 c1028 (by omega) hI hS hF (lv_sub hl [0, 1, 2] rfl)
              exact key1006 7 0 0 (by omega) (by omega) nl0 _ _ _ _ _ c1000 c1001 (Nat.le_refl _) hI hS hF (lv_sub hl [0, 1, 2] rfl)
            · skip
              try have k_1029 : ¬ (ns ≤ j) := (not_congr (nI_leE h46 hxj (by omega) (by omega))).mp c_1004
              refine lv_aload_n hx hb dX4_goesDay_55 rfl (lv_at hl 2 rfl) ?_
              refine g_get C hI c1000 kc23 0 rfl q2567 (fun _ h9 => h9) dX4_goesDay_56 ?_
              refine lv_iconst (v := 1) hx hb dX4_goesDay_59 (by decide) ?_
              refine g_iald (v := .int (((dyL (dyB f nb) j).1) 1)) C hI c1001 (gix nl1 (by omega) (by omega)) (congrArg Value.int (gixv (f := (dyL (dyB f nb) j).1) nl1 (by omega))) dX4_goesDay_60 ?_
              refine lv_bipush (v := 7) hx hb dX4_goesDay_61 (by decide) ?_
              refine lv_icmp_lt (tgt := 132) hx hb dX4_goesDay_63 (by decide) (fun c_1030 => ?_) (fun c_1030 => ?_)
              · skip
                have hjj : (dyL (dyB f nb) j) = dyL (dyB f nb) (if f 1 < 7 then 0 else ns) := by
                  rw [h1] at c_1030; rw [if_pos c_1030]; rcases h7 with h | h; (rw [h]); exact absurd c_1030 h
                rw [hjj] at hlo
                rw [hjj] at c1001
                refine lv_iconst (v := 0) hx hb dX4_goesDay_132 (by decide) ?_
                refine lv_istore_n (lv' := [(2, .int 0), (1, .int lost), (0, .ref mm)]) hx hb dX4_goesDay_133 rfl hl (by decide) rfl (fun ls hl => ?_)
                have key1031 : ∀ (r : Nat) (q : Nat) (xq : Int32), (q ≤ 6) → (6 < q + r) → (xq = nI q) → ∀ (G1032 : gH) (n1033 : Nat) (H : Heap) (locs : List Loc) (ls : Array Slot), G1032 mm = some (.inl (23, [.ref ag, .ref ab, .ref ah, .int ch, .ref asv, .int hs, .ref aas, .ref ain, .int ty, .int er, .ref awy, .int ir, .ref ali, .int ln, .int th, .int pl, .int wr, .ref ato])) → G1032 ag = some (aI 112 (dyG (dyL (dyB f nb) (if f 1 < 7 then 0 else ns)).1 q)) → n999 ≤ n1033 → gI D G1032 n1033 H → va_S (gA D) s.heap H locs → gF G G1032 n (fun q : Nat => q = ag) → lv_has ls 4 [(2, .int xq), (1, .int lost), (0, .ref mm)] → W p l e (gR 3 0) s m ([.ref mm] : List Value).toArray below meth c H locs (0) (200 * (0)) (gM below D (fun (v : Option Value) (G1 : gH) (n1 : Nat) => v = some (.int (dDay f).2) ∧ n ≤ n1 ∧ gF G G1 n (fun q : Nat => q = ag) ∧ G1 ag = some (aI 112 ((dDay f).1))) gNox ([.ref mm] : List Value).toArray s 0) (F0 m 134 ls []) := by
                  intro r
                  induction r with
                  | zero =>
                    intro q xq hq6 hr hxq
                    exact absurd trivial (fun _ => (by omega))
                  | succ r ih1036 =>
                    intro q xq hq6 hr hxq
                    intro G1032 n1033 H locs ls c1034 c1035 hn1037 hI hS hF hl
                    refine lv_iload_n hx hb dX4_goesDay_134 rfl (lv_at hl 0 rfl) ?_
                    refine lv_bipush (v := 6) hx hb dX4_goesDay_135 (by decide) ?_
                    refine lv_icmp_ge (tgt := 151) hx hb dX4_goesDay_137 (by decide) (fun c_1038 => ?_) (fun c_1038 => ?_)
                    · skip
                      try have k_1039 : 6 ≤ q := (nI_leE nl6 hxq (by omega) (by omega)).mp c_1038
                      have hqe : q = 6 := by omega
                      rw [hqe] at c1035
                      refine lv_aload_n hx hb dX4_goesDay_151 rfl (lv_at hl 2 rfl) ?_
                      refine g_get C hI c1034 kc23 0 rfl q2567 (fun _ h9 => h9) dX4_goesDay_152 ?_
                      refine lv_bipush (v := 107) hx hb dX4_goesDay_155 (by decide) ?_
                      refine lv_dup2_11 hx hb dX4_goesDay_157 rfl rfl ?_
                      refine g_iald (v := .int ((dyG (dyL (dyB f nb) (if f 1 < 7 then 0 else ns)).1 6) 107)) C hI c1035 (gix nl107 (by omega) (by omega)) (congrArg Value.int (gixv (f := dyG (dyL (dyB f nb) (if f 1 < 7 then 0 else ns)).1 6) nl107 (by omega))) dX4_goesDay_158 ?_
                      refine lv_iload_n hx hb dX4_goesDay_159 rfl (lv_at hl 1 rfl) ?_
                      refine lv_iadd hx hb dX4_goesDay_160 ?_
                      refine g_iast C hI hS c1035 (by omega) (gix nl107 (by omega) (by omega)) dX4_goesDay_161 (fun G1040 H locs e1041 hI hS => ?_)
                      rw [gup_e nl107 (by omega)] at e1041
                      have c1034 := gE_k e1041 c1034 (g_no c1034 c1035)
                      have c1035 : G1040 ag = some (aI 112 (gup (dyG (dyL (dyB f nb) (if f 1 < 7 then 0 else ns)).1 6) 107 (((dyG (dyL (dyB f nb) (if f 1 < 7 then 0 else ns)).1 6) 107) + lost))) := gE_s e1041
                      have hF := gE_F e1041 hF (Or.inr rfl)
                      refine lv_aload_n hx hb dX4_goesDay_162 rfl (lv_at hl 2 rfl) ?_
                      refine g_get C hI c1034 kc23 0 rfl q2567 (fun _ h9 => h9) dX4_goesDay_163 ?_
                      refine lv_iconst (v := 0) hx hb dX4_goesDay_166 (by decide) ?_
                      refine lv_dup2_11 hx hb dX4_goesDay_167 rfl rfl ?_
                      refine g_iald (v := .int ((gup (dyG (dyL (dyB f nb) (if f 1 < 7 then 0 else ns)).1 6) 107 (((dyG (dyL (dyB f nb) (if f 1 < 7 then 0 else ns)).1 6) 107) + lost)) 0)) C hI c1035 (gix nl0 (by omega) (by omega)) (congrArg Value.int (gixv (f := gup (dyG (dyL (dyB f nb) (if f 1 < 7 then 0 else ns)).1 6) 107 (((dyG (dyL (dyB f nb) (if f 1 < 7 then 0 else ns)).1 6) 107) + lost)) nl0 (by omega))) dX4_goesDay_168 ?_
                      refine lv_iconst (v := 1) hx hb dX4_goesDay_169 (by decide) ?_
                      refine lv_iadd hx hb dX4_goesDay_170 ?_
                      refine g_iast C hI hS c1035 (by omega) (gix nl0 (by omega) (by omega)) dX4_goesDay_171 (fun G1043 H locs e1044 hI hS => ?_)
                      rw [gup_e nl0 (by omega)] at e1044
                      have c1034 := gE_k e1044 c1034 (g_no c1034 c1035)
                      have c1035 : G1043 ag = some (aI 112 (gup (gup (dyG (dyL (dyB f nb) (if f 1 < 7 then 0 else ns)).1 6) 107 (((dyG (dyL (dyB f nb) (if f 1 < 7 then 0 else ns)).1 6) 107) + lost)) 0 (((gup (dyG (dyL (dyB f nb) (if f 1 < 7 then 0 else ns)).1 6) 107 (((dyG (dyL (dyB f nb) (if f 1 < 7 then 0 else ns)).1 6) 107) + lost)) 0) + 1))) := gE_s e1044
                      have hF := gE_F e1044 hF (Or.inr rfl)
                      refine lv_iload_n hx hb dX4_goesDay_172 rfl (lv_at hl 1 rfl) ?_
                      exact g_iret C hI hS (by omega) ⟨(by rw [hlo]; unfold dDay; rw [t24, t46]), (by omega), hF, (by rw [hlo] at c1035; unfold dDay; rw [t24, t46]; exact c1035)⟩ dX4_goesDay_173
                    · skip
                      try have k_1046 : ¬ (6 ≤ q) := (not_congr (nI_leE nl6 hxq (by omega) (by omega))).mp c_1038
                      refine lv_aload_n hx hb dX4_goesDay_140 rfl (lv_at hl 2 rfl) ?_
                      refine lv_iload_n hx hb dX4_goesDay_141 rfl (lv_at hl 0 rfl) ?_
                      refine g_V (As := [.int xq]) (rest := []) (lv := [(2, .int xq), (1, .int lost), (0, .ref mm)]) C hI hS (c_X4_grows l hB G1032 n1033 mm ag ab ah ch asv hs aas ain ty er awy ir ali ln th pl wr ato (dyG (dyL (dyB f nb) (if f 1 < 7 then 0 else ns)).1 q) q xq c1034 c1035 (by omega) (by omega) hxq) c1034 rfl rfl q2782 q2784 qs53 q94 q2785 (⟨by decide, by decide, by decide⟩ : gArg _ 1) rfl ⟨by decide, by decide⟩ (by omega) hl rfl (Nat.le_of_ble_eq_true rfl) dX4_goesDay_142 (fun v1047 G1048 n1049 H locs hp1050 hI hS => ?_) gKx.no
                      obtain ⟨rfl, hn1051, hF1052, c1053⟩ := hp1050
                      refine W.widen (k := 0) (n := 200 * (0)) (by omega) (by omega) ?_
                      have c1034 := hF1052.at c1034 (by omega) (g_no c1034 c1035)
                      have hF := hF.trans hF1052 (by omega) (fun q hq => (fun h => h ▸ rfl))
                      refine lv_iinc (v := xq + 1) (lv' := [(2, .int (xq + 1)), (1, .int lost), (0, .ref mm)]) hx hb dX4_goesDay_145 hl (k := 0) rfl (by first | rfl | decide) (by decide) rfl (fun ls hl => ?_)
                      refine lv_goto (tgt := 134) hx hb dX4_goesDay_148 (by decide) ?_
                      have c1053 : G1048 ag = some (aI 112 (dyG (dyL (dyB f nb) (if f 1 < 7 then 0 else ns)).1 (q + 1))) := c1053
                      exact ih1036 (q + 1) (xq + 1) (by omega) (by omega) (gadd hxq nl1) _ _ _ _ _ c1034 c1053 (by omega) hI hS hF (lv_sub hl [0, 1, 2] rfl)
                exact key1031 7 0 0 (by omega) (by omega) nl0 _ _ _ _ _ c1000 c1001 (Nat.le_refl _) hI hS hF (lv_sub hl [0, 1, 2] rfl)
              · skip
                refine lv_aload_n hx hb dX4_goesDay_66 rfl (lv_at hl 2 rfl) ?_
                refine g_get C hI c1000 kc23 0 rfl q2567 (fun _ h9 => h9) dX4_goesDay_67 ?_
                refine lv_bipush (v := 57) hx hb dX4_goesDay_70 (by decide) ?_
                refine lv_iload_n hx hb dX4_goesDay_72 rfl (lv_at hl 0 rfl) ?_
                refine lv_iadd hx hb dX4_goesDay_73 ?_
                refine g_iald (v := .int (((dyL (dyB f nb) j).1) (57 + j))) C hI c1001 (gix (gadd nl57 hxj) (by omega) (by omega)) (congrArg Value.int (gixv (f := (dyL (dyB f nb) j).1) (gadd nl57 hxj) (by omega))) dX4_goesDay_74 ?_
                refine lv_iconst (v := (-1)) hx hb dX4_goesDay_75 (by decide) ?_
                refine lv_icmp_ne (tgt := 83) hx hb dX4_goesDay_76 (by decide) (fun c_1054 => ?_) (fun c_1054 => ?_)
                · skip
                  refine lv_aload_n hx hb dX4_goesDay_83 rfl (lv_at hl 2 rfl) ?_
                  refine g_get C hI c1000 kc23 0 rfl q2567 (fun _ h9 => h9) dX4_goesDay_84 ?_
                  refine lv_bipush (v := 47) hx hb dX4_goesDay_87 (by decide) ?_
                  refine lv_iload_n hx hb dX4_goesDay_89 rfl (lv_at hl 0 rfl) ?_
                  refine lv_iadd hx hb dX4_goesDay_90 ?_
                  refine g_iald (v := .int (((dyL (dyB f nb) j).1) (47 + j))) C hI c1001 (gix (gadd nl47 hxj) (by omega) (by omega)) (congrArg Value.int (gixv (f := (dyL (dyB f nb) j).1) (gadd nl47 hxj) (by omega))) dX4_goesDay_91 ?_
                  refine lv_bipush (v := 8) hx hb dX4_goesDay_92 (by decide) ?_
                  refine lv_idiv hx hb dX4_goesDay_94 (by decide) ?_
                  refine lv_istore_n (lv' := [(3, .int ((((dyL (dyB f nb) j).1) (47 + j)) / 8)), (2, .int xj), (1, .int lost), (0, .ref mm)]) hx hb dX4_goesDay_95 rfl hl (by decide) rfl (fun ls hl => ?_)
                  refine lv_aload_n hx hb dX4_goesDay_96 rfl (lv_at hl 3 rfl) ?_
                  refine g_get C hI c1000 kc23 0 rfl q2567 (fun _ h9 => h9) dX4_goesDay_97 ?_
                  refine lv_bipush (v := 47) hx hb dX4_goesDay_100 (by decide) ?_
                  refine lv_iload_n hx hb dX4_goesDay_102 rfl (lv_at hl 1 rfl) ?_
                  refine lv_iadd hx hb dX4_goesDay_103 ?_
                  refine lv_dup2_11 hx hb dX4_goesDay_104 rfl rfl ?_
                  refine g_iald (v := .int (((dyL (dyB f nb) j).1) (47 + j))) C hI c1001 (gix (gadd nl47 hxj) (by omega) (by omega)) (congrArg Value.int (gixv (f := (dyL (dyB f nb) j).1) (gadd nl47 hxj) (by omega))) dX4_goesDay_105 ?_
                  refine lv_iload_n hx hb dX4_goesDay_106 rfl (lv_at hl 0 rfl) ?_
                  refine lv_isub hx hb dX4_goesDay_107 ?_
                  refine g_iast C hI hS c1001 (by omega) (gix (gadd nl47 hxj) (by omega) (by omega)) dX4_goesDay_108 (fun G1055 H locs e1056 hI hS => ?_)
                  rw [gup_e (gadd nl47 hxj) (by omega)] at e1056
                  have c1000 := gE_k e1056 c1000 (g_no c1000 c1001)
                  have c1001 : G1055 ag = some (aI 112 (gup ((dyL (dyB f nb) j).1) (47 + j) ((((dyL (dyB f nb) j).1) (47 + j)) - ((((dyL (dyB f nb) j).1) (47 + j)) / 8)))) := gE_s e1056
                  have hF := gE_F e1056 hF (Or.inr rfl)
                  refine lv_aload_n hx hb dX4_goesDay_109 rfl (lv_at hl 3 rfl) ?_
                  refine g_get C hI c1000 kc23 0 rfl q2567 (fun _ h9 => h9) dX4_goesDay_110 ?_
                  refine lv_bipush (v := 87) hx hb dX4_goesDay_113 (by decide) ?_
                  refine lv_iload_n hx hb dX4_goesDay_115 rfl (lv_at hl 1 rfl) ?_
                  refine lv_iadd hx hb dX4_goesDay_116 ?_
                  refine lv_dup2_11 hx hb dX4_goesDay_117 rfl rfl ?_
                  refine g_iald (v := .int ((gup ((dyL (dyB f nb) j).1) (47 + j) ((((dyL (dyB f nb) j).1) (47 + j)) - ((((dyL (dyB f nb) j).1) (47 + j)) / 8))) (87 + j))) C hI c1001 (gix (gadd nl87 hxj) (by omega) (by omega)) (congrArg Value.int (gixv (f := gup ((dyL (dyB f nb) j).1) (47 + j) ((((dyL (dyB f nb) j).1) (47 + j)) - ((((dyL (dyB f nb) j).1) (47 + j)) / 8))) (gadd nl87 hxj) (by omega))) dX4_goesDay_118 ?_
                  refine lv_iload_n hx hb dX4_goesDay_119 rfl (lv_at hl 0 rfl) ?_
                  refine lv_iadd hx hb dX4_goesDay_120 ?_
                  refine g_iast C hI hS c1001 (by omega) (gix (gadd nl87 hxj) (by omega) (by omega)) dX4_goesDay_121 (fun G1058 H locs e1059 hI hS => ?_)
                  rw [gup_e (gadd nl87 hxj) (by omega)] at e1059
                  have c1000 := gE_k e1059 c1000 (g_no c1000 c1001)
                  have c1001 : G1058 ag = some (aI 112 (gup (gup ((dyL (dyB f nb) j).1) (47 + j) ((((dyL (dyB f nb) j).1) (47 + j)) - ((((dyL (dyB f nb) j).1) (47 + j)) / 8))) (87 + j) (((gup ((dyL (dyB f nb) j).1) (47 + j) ((((dyL (dyB f nb) j).1) (47 + j)) - ((((dyL (dyB f nb) j).1) (47 + j)) / 8))) (87 + j)) + ((((dyL (dyB f nb) j).1) (47 + j)) / 8)))) := gE_s e1059
                  have hF := gE_F e1059 hF (Or.inr rfl)
                  refine lv_iload_n hx hb dX4_goesDay_122 rfl (lv_at hl 2 rfl) ?_
                  refine lv_iload_n hx hb dX4_goesDay_123 rfl (lv_at hl 0 rfl) ?_
                  refine lv_iadd hx hb dX4_goesDay_124 ?_
                  refine lv_istore_n (lv' := [(1, .int (lost + ((((dyL (dyB f nb) j).1) (47 + j)) / 8))), (3, .int ((((dyL (dyB f nb) j).1) (47 + j)) / 8)), (2, .int xj), (0, .ref mm)]) hx hb dX4_goesDay_125 rfl hl (by decide) rfl (fun ls hl => ?_)
                  refine lv_iinc (v := xj + 1) (lv' := [(2, .int (xj + 1)), (1, .int (lost + ((((dyL (dyB f nb) j).1) (47 + j)) / 8))), (3, .int ((((dyL (dyB f nb) j).1) (47 + j)) / 8)), (0, .ref mm)]) hx hb dX4_goesDay_126 hl (k := 2) rfl (by first | rfl | decide) (by decide) rfl (fun ls hl => ?_)
                  refine lv_goto (tgt := 44) hx hb dX4_goesDay_129 (by decide) ?_
                  rw [show gup (gup ((dyL (dyB f nb) j).1) (47 + j) ((((dyL (dyB f nb) j).1) (47 + j)) - ((((dyL (dyB f nb) j).1) (47 + j)) / 8))) (87 + j) (((gup ((dyL (dyB f nb) j).1) (47 + j) ((((dyL (dyB f nb) j).1) (47 + j)) - ((((dyL (dyB f nb) j).1) (47 + j)) / 8))) (87 + j)) + ((((dyL (dyB f nb) j).1) (47 + j)) / 8)) = (dyL (dyB f nb) (j + 1)).1 from by simp [dyL, sLess, c_995, c_1004, c_1030, c_1054]] at c1001
                  exact ih1002 (j + 1) (xj + 1) (lost + ((((dyL (dyB f nb) j).1) (47 + j)) / 8)) (by omega) (by omega) (gadd hxj nl1) (by simp [dyL, sLess, hlo, c_995, c_1004, c_1030, c_1054]) (by rw [dyL_at (by omega) (j + 1) (by omega), dyB_at (by omega) nb (by omega)]; exact hns) (by rw [dyL_at (by omega) (j + 1) (by omega), dyB_at (by omega) nb (by omega)]) (Or.inr (by simpa [h1] using c_1030)) _ _ _ _ _ c1000 c1001 (by omega) hI hS hF (lv_sub hl [0, 1, 3] rfl)
                · skip
                  refine lv_iconst (v := 0) hx hb dX4_goesDay_79 (by decide) ?_
                  refine lv_goto (tgt := 95) hx hb dX4_goesDay_80 (by decide) ?_
                  refine lv_istore_n (lv' := [(3, .int 0), (2, .int xj), (1, .int lost), (0, .ref mm)]) hx hb dX4_goesDay_95 rfl hl (by decide) rfl (fun ls hl => ?_)
                  refine lv_aload_n hx hb dX4_goesDay_96 rfl (lv_at hl 3 rfl) ?_
                  refine g_get C hI c1000 kc23 0 rfl q2567 (fun _ h9 => h9) dX4_goesDay_97 ?_
                  refine lv_bipush (v := 47) hx hb dX4_goesDay_100 (by decide) ?_
                  refine lv_iload_n hx hb dX4_goesDay_102 rfl (lv_at hl 1 rfl) ?_
                  refine lv_iadd hx hb dX4_goesDay_103 ?_
                  refine lv_dup2_11 hx hb dX4_goesDay_104 rfl rfl ?_
                  refine g_iald (v := .int (((dyL (dyB f nb) j).1) (47 + j))) C hI c1001 (gix (gadd nl47 hxj) (by omega) (by omega)) (congrArg Value.int (gixv (f := (dyL (dyB f nb) j).1) (gadd nl47 hxj) (by omega))) dX4_goesDay_105 ?_
                  refine lv_iload_n hx hb dX4_goesDay_106 rfl (lv_at hl 0 rfl) ?_
                  refine lv_isub hx hb dX4_goesDay_107 ?_
                  refine g_iast C hI hS c1001 (by omega) (gix (gadd nl47 hxj) (by omega) (by omega)) dX4_goesDay_108 (fun G1061 H locs e1062 hI hS => ?_)
                  rw [gup_e (gadd nl47 hxj) (by omega)] at e1062
                  have c1000 := gE_k e1062 c1000 (g_no c1000 c1001)
                  have c1001 : G1061 ag = some (aI 112 (gup ((dyL (dyB f nb) j).1) (47 + j) ((((dyL (dyB f nb) j).1) (47 + j)) - 0))) := gE_s e1062
                  have hF := gE_F e1062 hF (Or.inr rfl)
                  refine lv_aload_n hx hb dX4_goesDay_109 rfl (lv_at hl 3 rfl) ?_
                  refine g_get C hI c1000 kc23 0 rfl q2567 (fun _ h9 => h9) dX4_goesDay_110 ?_
                  refine lv_bipush (v := 87) hx hb dX4_goesDay_113 (by decide) ?_
                  refine lv_iload_n hx hb dX4_goesDay_115 rfl (lv_at hl 1 rfl) ?_
                  refine lv_iadd hx hb dX4_goesDay_116 ?_
                  refine lv_dup2_11 hx hb dX4_goesDay_117 rfl rfl ?_
                  refine g_iald (v := .int ((gup ((dyL (dyB f nb) j).1) (47 + j) ((((dyL (dyB f nb) j).1) (47 + j)) - 0)) (87 + j))) C hI c1001 (gix (gadd nl87 hxj) (by omega) (by omega)) (congrArg Value.int (gixv (f := gup ((dyL (dyB f nb) j).1) (47 + j) ((((dyL (dyB f nb) j).1) (47 + j)) - 0)) (gadd nl87 hxj) (by omega))) dX4_goesDay_118 ?_
                  refine lv_iload_n hx hb dX4_goesDay_119 rfl (lv_at hl 0 rfl) ?_
                  refine lv_iadd hx hb dX4_goesDay_120 ?_
                  refine g_iast C hI hS c1001 (by omega) (gix (gadd nl87 hxj) (by omega) (by omega)) dX4_goesDay_121 (fun G1064 H locs e1065 hI hS => ?_)
                  rw [gup_e (gadd nl87 hxj) (by omega)] at e1065
                  have c1000 := gE_k e1065 c1000 (g_no c1000 c1001)
                  have c1001 : G1064 ag = some (aI 112 (gup (gup ((dyL (dyB f nb) j).1) (47 + j) ((((dyL (dyB f nb) j).1) (47 + j)) - 0)) (87 + j) (((gup ((dyL (dyB f nb) j).1) (47 + j) ((((dyL (dyB f nb) j).1) (47 + j)) - 0)) (87 + j)) + 0))) := gE_s e1065
                  have hF := gE_F e1065 hF (Or.inr rfl)
                  refine lv_iload_n hx hb dX4_goesDay_122 rfl (lv_at hl 2 rfl) ?_
                  refine lv_iload_n hx hb dX4_goesDay_123 rfl (lv_at hl 0 rfl) ?_
                  refine lv_iadd hx hb dX4_goesDay_124 ?_
                  refine lv_istore_n (lv' := [(1, .int (lost + 0)), (3, .int 0), (2, .int xj), (0, .ref mm)]) hx hb dX4_goesDay_125 rfl hl (by decide) rfl (fun ls hl => ?_)
                  refine lv_iinc (v := xj + 1) (lv' := [(2, .int (xj + 1)), (1, .int (lost + 0)), (3, .int 0), (0, .ref mm)]) hx hb dX4_goesDay_126 hl (k := 2) rfl (by first | rfl | decide) (by decide) rfl (fun ls hl => ?_)
                  refine lv_goto (tgt := 44) hx hb dX4_goesDay_129 (by decide) ?_
                  rw [show gup (gup ((dyL (dyB f nb) j).1) (47 + j) ((((dyL (dyB f nb) j).1) (47 + j)) - 0)) (87 + j) (((gup ((dyL (dyB f nb) j).1) (47 + j) ((((dyL (dyB f nb) j).1) (47 + j)) - 0)) (87 + j)) + 0) = (dyL (dyB f nb) (j + 1)).1 from by simp [dyL, sLess, c_995, c_1004, c_1030, c_1054]] at c1001
                  exact ih1002 (j + 1) (xj + 1) (lost + 0) (by omega) (by omega) (gadd hxj nl1) (by simp [dyL, sLess, hlo, c_995, c_1004, c_1030, c_1054]) (by rw [dyL_at (by omega) (j + 1) (by omega), dyB_at (by omega) nb (by omega)]; exact hns) (by rw [dyL_at (by omega) (j + 1) (by omega), dyB_at (by omega) nb (by omega)]) (Or.inr (by simpa [h1] using c_1030)) _ _ _ _ _ c1000 c1001 (by omega) hI hS hF (lv_sub hl [0, 1, 3] rfl)
        exact key997 11 0 0 0 (by omega) (by omega) nl0 rfl (by rw [dyL_at (by omega) 0 (by omega), dyB_at (by omega) nb (by omega)]; exact hns) (by rw [dyL_at (by omega) 0 (by omega), dyB_at (by omega) nb (by omega)]) (Or.inl rfl) _ _ _ _ _ c991 (by rw [← hib]; exact c992) (Nat.le_refl _) hI hS hF (lv_sub hl [0, 1, 2] rfl)
      · skip
        try have k_1067 : ¬ (nb ≤ i) := (not_congr (nI_leE h24 hxi (by omega) (by omega))).mp c_995
        refine lv_aload_n hx hb dX4_goesDay_15 rfl (lv_at hl 2 rfl) ?_
        refine g_get C hI c991 kc23 0 rfl q2567 (fun _ h9 => h9) dX4_goesDay_16 ?_
        refine lv_bipush (v := 28) hx hb dX4_goesDay_19 (by decide) ?_
        refine lv_iload_n hx hb dX4_goesDay_21 rfl (lv_at hl 0 rfl) ?_
        refine lv_iadd hx hb dX4_goesDay_22 ?_
        refine lv_iconst (v := (-1)) hx hb dX4_goesDay_23 (by decide) ?_
        refine g_iast C hI hS c992 (by omega) (gix (gadd nl28 hxi) (by omega) (by omega)) dX4_goesDay_24 (fun G1068 H locs e1069 hI hS => ?_)
        rw [gup_e (gadd nl28 hxi) (by omega)] at e1069
        have c991 := gE_k e1069 c991 (g_no c991 c992)
        have c992 : G1068 ag = some (aI 112 (gup (dyB f i) (28 + i) (-1))) := gE_s e1069
        have hF := gE_F e1069 hF (Or.inr rfl)
        refine lv_aload_n hx hb dX4_goesDay_25 rfl (lv_at hl 2 rfl) ?_
        refine g_get C hI c991 kc23 0 rfl q2567 (fun _ h9 => h9) dX4_goesDay_26 ?_
        refine lv_bipush (v := 31) hx hb dX4_goesDay_29 (by decide) ?_
        refine lv_iload_n hx hb dX4_goesDay_31 rfl (lv_at hl 0 rfl) ?_
        refine lv_iadd hx hb dX4_goesDay_32 ?_
        refine lv_bipush (v := 10) hx hb dX4_goesDay_33 (by decide) ?_
        refine g_iast C hI hS c992 (by omega) (gix (gadd nl31 hxi) (by omega) (by omega)) dX4_goesDay_35 (fun G1071 H locs e1072 hI hS => ?_)
        rw [gup_e (gadd nl31 hxi) (by omega)] at e1072
        have c991 := gE_k e1072 c991 (g_no c991 c992)
        have c992 : G1071 ag = some (aI 112 (gup (gup (dyB f i) (28 + i) (-1)) (31 + i) 10)) := gE_s e1072
        have hF := gE_F e1072 hF (Or.inr rfl)
        refine lv_iinc (v := xi + 1) (lv' := [(2, .int (xi + 1)), (1, .int 0), (0, .ref mm)]) hx hb dX4_goesDay_36 hl (k := 0) rfl (by first | rfl | decide) (by decide) rfl (fun ls hl => ?_)
        refine lv_goto (tgt := 4) hx hb dX4_goesDay_39 (by decide) ?_
        have c992 : G1071 ag = some (aI 112 (dyB f (i + 1))) := c992
        exact ih993 (i + 1) (xi + 1) (by omega) (by omega) (gadd hxi nl1) (by rw [dyB_at (by omega) (i + 1) (by omega)]; exact hnb) _ _ _ _ _ c991 c992 (by omega) hI hS hF (lv_sub hl [0, 1, 2] rfl)
  exact key988 4 0 0 (by omega) (by omega) nl0 hnb _ _ _ _ _ c0_ c1_ (Nat.le_refl _) hI hS hF (lv_sub hl [0, 1, 2] rfl)
