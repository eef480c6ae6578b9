/-! THE JDK, 1: numbers, Strings of one byte a letter -/
theorem chI {q : Nat} (h : q < 65536) : ((nI q).toUInt32 % 65536).toInt32 = nI q := by
  apply Int32.toBitVec_inj.mp
  apply BitVec.eq_of_toNat_eq
  unfold nI
  simp
  omega
theorem narC {q : Nat} (h : q < 65536) : narrow .char (.int (nI q)) = .int (nI q) := by
  show Value.int _ = _
  congr 1
  apply Int32.toBitVec_inj.mp
  apply BitVec.eq_of_toNat_eq
  unfold nI
  simp
  omega
theorem shr0 (x : Int32) : x >>> ((0 : Int32) &&& 31) = x := by
  apply Int32.toBitVec_inj.mp
  apply BitVec.eq_of_toNat_eq
  simp
set_option maxHeartbeats 4000000 in
set_option maxRecDepth 100000 in
theorem c_J20_checkIndexN (l : Launch) {D : gD} (hB : gBs D) (G : gH) (n : Nat) (j : Nat) (N : Nat) (a1 : Int32) (a2 : Int32) (ej : a1 = nI j) (eN : a2 = nI N) (hj : j < N) (hN : N < 1000000) : gMet l D yJ20_checkIndex (ws_ yJ20_checkIndex cJ20_checkIndex 3 (some FieldType.int)) 1 0 G n [.int a1, .int a2, .null] (fun (v : Option Value) (G1 : gH) (n1 : Nat) => v = some (.int a1) ∧ G1 = G ∧ n1 = n) gNox := by
  refine g_start (by decide) (Nat.le_of_ble_eq_true rfl) ?_
  intro p e s m below meth c ls C hnm hxt hI hl
  have hx := C.x
  have hb := C.b
  have hS : va_S (gA D) s.heap s.heap [] := va_S.rf
  have hz0 := hI.z
  have hF : gF G G n gNone := gF.rf _ _ _
  have hl : lv_has ls 3 [(0, .int a1), (1, .int a2), (2, .null)] := hl
  refine lv_iload_n hx hb dJ20_checkIndex_0 rfl (lv_at hl 0 rfl) ?_
  refine lv_if_lt (tgt := 9) hx hb dJ20_checkIndex_1 (by decide) (fun c_1978 => ?_) (fun c_1978 => ?_)
  · exact absurd c_1978 (by rw [ej]; exact nI_pos (by omega))
  · skip
    refine lv_iload_n hx hb dJ20_checkIndex_4 rfl (lv_at hl 0 rfl) ?_
    refine lv_iload_n hx hb dJ20_checkIndex_5 rfl (lv_at hl 1 rfl) ?_
    refine lv_icmp_lt (tgt := 16) hx hb dJ20_checkIndex_6 (by decide) (fun c_1979 => ?_) (fun c_1979 => ?_)
    · skip
      refine lv_iload_n hx hb dJ20_checkIndex_16 rfl (lv_at hl 0 rfl) ?_
      exact g_iret C hI hS (by omega) ⟨rfl, rfl, rfl⟩ dJ20_checkIndex_17
    · exact absurd (by rw [ej, eN]; exact nI_lt hj (by omega)) c_1979
set_option maxHeartbeats 4000000 in
set_option maxRecDepth 100000 in
theorem c_J20_checkIndexR (l : Launch) {D : gD} (hB : gBs D) (G : gH) (n : Nat) (j : Nat) (N : Nat) (a1 : Int32) (a2 : Int32) (fm : Nat) (ej : a1 = nI j) (eN : a2 = nI N) (hj : j < N) (hN : N < 1000000) : gMet l D yJ20_checkIndex (ws_ yJ20_checkIndex cJ20_checkIndex 3 (some FieldType.int)) 1 0 G n [.int a1, .int a2, .ref fm] (fun (v : Option Value) (G1 : gH) (n1 : Nat) => v = some (.int a1) ∧ G1 = G ∧ n1 = n) gNox := by
  refine g_start (by decide) (Nat.le_of_ble_eq_true rfl) ?_
  intro p e s m below meth c ls C hnm hxt hI hl
  have hx := C.x
  have hb := C.b
  have hS : va_S (gA D) s.heap s.heap [] := va_S.rf
  have hz0 := hI.z
  have hF : gF G G n gNone := gF.rf _ _ _
  have hl : lv_has ls 3 [(0, .int a1), (1, .int a2), (2, .ref fm)] := hl
  refine lv_iload_n hx hb dJ20_checkIndex_0 rfl (lv_at hl 0 rfl) ?_
  refine lv_if_lt (tgt := 9) hx hb dJ20_checkIndex_1 (by decide) (fun c_1980 => ?_) (fun c_1980 => ?_)
  · exact absurd c_1980 (by rw [ej]; exact nI_pos (by omega))
  · skip
    refine lv_iload_n hx hb dJ20_checkIndex_4 rfl (lv_at hl 0 rfl) ?_
    refine lv_iload_n hx hb dJ20_checkIndex_5 rfl (lv_at hl 1 rfl) ?_
    refine lv_icmp_lt (tgt := 16) hx hb dJ20_checkIndex_6 (by decide) (fun c_1981 => ?_) (fun c_1981 => ?_)
    · skip
      refine lv_iload_n hx hb dJ20_checkIndex_16 rfl (lv_at hl 0 rfl) ?_
      exact g_iret C hI hS (by omega) ⟨rfl, rfl, rfl⟩ dJ20_checkIndex_17
    · exact absurd (by rw [ej, eN]; exact nI_lt hj (by omega)) c_1981
set_option maxHeartbeats 4000000 in
set_option maxRecDepth 100000 in
theorem c_J19_checkIndex (l : Launch) {D : gD} (hB : gBs D) (G : gH) (n : Nat) (j : Nat) (N : Nat) (a1 : Int32) (a2 : Int32) (ej : a1 = nI j) (eN : a2 = nI N) (hj : j < N) (hN : N < 1000000) : gMet l D yJ19_checkIndex (ws_ yJ19_checkIndex cJ19_checkIndex 2 (some FieldType.int)) 2 0 G n [.int a1, .int a2] (fun (v : Option Value) (G1 : gH) (n1 : Nat) => v = some (.int a1) ∧ G1 = G ∧ n1 = n) gNox := by
  refine g_start (by decide) (Nat.le_of_ble_eq_true rfl) ?_
  intro p e s m below meth c ls C hnm hxt hI hl
  have hx := C.x
  have hb := C.b
  have hS : va_S (gA D) s.heap s.heap [] := va_S.rf
  have hz0 := hI.z
  have hF : gF G G n gNone := gF.rf _ _ _
  have hl : lv_has ls 2 [(0, .int a1), (1, .int a2)] := hl
  refine lv_iload_n hx hb dJ19_checkIndex_0 rfl (lv_at hl 0 rfl) ?_
  refine lv_iload_n hx hb dJ19_checkIndex_1 rfl (lv_at hl 1 rfl) ?_
  refine lv_null hx hb dJ19_checkIndex_2 ?_
  refine g_S (As := [.int a1, .int a2, .null]) (rest := []) (lv := [(0, .int a1), (1, .int a2)]) C hI hS (c_J20_checkIndexN l hB G n j N a1 a2  ej eN hj hN) q601 q602 q102 q603 (⟨by decide, by decide, by decide⟩ : gArg _ 3) rfl ⟨by decide, by decide⟩ (by omega) hl rfl (Nat.le_of_ble_eq_true rfl) dJ19_checkIndex_3 (fun v1982 G1983 n1984 H locs hp1985 hI hS => ?_) gKx.no
  obtain ⟨rfl, eG1983, en1984⟩ := hp1985
  refine W.widen (k := 0) (n := 200 * (0)) (by omega) (by omega) ?_
  rw [eG1983, en1984] at hI
  exact g_iret C hI hS (by omega) ⟨rfl, rfl, rfl⟩ dJ19_checkIndex_6
set_option maxHeartbeats 4000000 in
set_option maxRecDepth 100000 in
theorem c_J11_checkIndex (l : Launch) {D : gD} (hB : gBs D) (G : gH) (n : Nat) (j : Nat) (N : Nat) (a1 : Int32) (a2 : Int32) (ej : a1 = nI j) (eN : a2 = nI N) (hj : j < N) (hN : N < 1000000) : gMet l D yJ11_checkIndex (ws_ yJ11_checkIndex cJ11_checkIndex 2 none) 2 0 G n [.int a1, .int a2] (fun (v : Option Value) (G1 : gH) (n1 : Nat) => v = none ∧ G1 = G ∧ n1 = n) gNox := by
  refine g_start (by decide) (Nat.le_of_ble_eq_true rfl) ?_
  intro p e s m below meth c ls C hnm hxt hI hl
  have hx := C.x
  have hb := C.b
  have hS : va_S (gA D) s.heap s.heap [] := va_S.rf
  have hz0 := hI.z
  have hF : gF G G n gNone := gF.rf _ _ _
  have hl : lv_has ls 2 [(0, .int a1), (1, .int a2)] := hl
  refine lv_iload_n hx hb dJ11_checkIndex_0 rfl (lv_at hl 0 rfl) ?_
  refine lv_iload_n hx hb dJ11_checkIndex_1 rfl (lv_at hl 1 rfl) ?_
  refine g_gets C hS (st_SIOOBE_FORMATTER D) q677 (fun _ h9 => h9) dJ11_checkIndex_2 ?_
  rcases hB.v2 with h9 | ⟨t9, h9⟩
  · rw [h9]
    refine g_S (As := [.int a1, .int a2, .null]) (rest := []) (lv := [(0, .int a1), (1, .int a2)]) C hI hS (c_J20_checkIndexN l hB G n j N a1 a2  ej eN hj hN) q2090 q602 q102 q603 (⟨by decide, by decide, by decide⟩ : gArg _ 3) rfl ⟨by decide, by decide⟩ (by omega) hl rfl (Nat.le_of_ble_eq_true rfl) dJ11_checkIndex_5 (fun v1988 G1989 n1990 H locs hp1991 hI hS => ?_) gKx.no
    obtain ⟨rfl, eG1989, en1990⟩ := hp1991
    refine W.widen (k := 0) (n := 200 * (0)) (by omega) (by omega) ?_
    rw [eG1989, en1990] at hI
    refine lv_pop hx hb dJ11_checkIndex_8 rfl ?_
    exact g_vret C hI hS (by omega) ⟨rfl, rfl, rfl⟩ dJ11_checkIndex_9
  · rw [h9]
    refine g_S (As := [.int a1, .int a2, .ref t9]) (rest := []) (lv := [(0, .int a1), (1, .int a2)]) C hI hS (c_J20_checkIndexR l hB G n j N a1 a2 t9  ej eN hj hN) q2090 q602 q102 q603 (⟨by decide, by decide, by decide⟩ : gArg _ 3) rfl ⟨by decide, by decide⟩ (by omega) hl rfl (Nat.le_of_ble_eq_true rfl) dJ11_checkIndex_5 (fun v1994 G1995 n1996 H locs hp1997 hI hS => ?_) gKx.no
    obtain ⟨rfl, eG1995, en1996⟩ := hp1997
    refine W.widen (k := 0) (n := 200 * (0)) (by omega) (by omega) ?_
    rw [eG1995, en1996] at hI
    refine lv_pop hx hb dJ11_checkIndex_8 rfl ?_
    exact g_vret C hI hS (by omega) ⟨rfl, rfl, rfl⟩ dJ11_checkIndex_9
set_option maxHeartbeats 4000000 in
set_option maxRecDepth 100000 in
theorem c_J21_charAt (l : Launch) {D : gD} (hB : gBs D) (G : gH) (n : Nat) (va : Nat) (N : Nat) (x : Nat → Int32) (j : Nat) (q : Nat) (a1 : Int32) (c0_ : G va = some (aB N x)) (ej : a1 = nI j) (hj : j < N) (hN : N < 1000000) (hq : x j &&& 255 = nI q) (hq2 : q < 65536) : gMet l D yJ21_charAt (ws_ yJ21_charAt cJ21_charAt 2 (some FieldType.char)) 3 0 G n [.ref va, .int a1] (fun (v : Option Value) (G1 : gH) (n1 : Nat) => v = some (.int (nI q)) ∧ G1 = G ∧ n1 = n) gNox := by
  refine g_start (by decide) (Nat.le_of_ble_eq_true rfl) ?_
  intro p e s m below meth c ls C hnm hxt hI hl
  have hx := C.x
  have hb := C.b
  have hS : va_S (gA D) s.heap s.heap [] := va_S.rf
  have hz0 := hI.z
  have lc0_ := hI.lt c0_
  have hF : gF G G n gNone := gF.rf _ _ _
  have hl : lv_has ls 2 [(0, .ref va), (1, .int a1)] := hl
  refine lv_iload_n hx hb dJ21_charAt_0 rfl (lv_at hl 1 rfl) ?_
  refine lv_aload_n hx hb dJ21_charAt_1 rfl (lv_at hl 0 rfl) ?_
  refine g_alen (v := nI N) C hI c0_ (by rfl) dJ21_charAt_2 ?_
  refine g_S (As := [.int a1, .int (nI N)]) (rest := []) (lv := [(0, .ref va), (1, .int a1)]) C hI hS (c_J11_checkIndex l hB G n j N a1 (nI N)  ej rfl hj hN) q2164 q2088 q92 q2089 (⟨by decide, by decide, by decide⟩ : gArg _ 2) rfl ⟨by decide, by decide⟩ (by omega) hl rfl (Nat.le_of_ble_eq_true rfl) dJ21_charAt_3 (fun v2000 G2001 n2002 H locs hp2003 hI hS => ?_) gKx.no
  obtain ⟨rfl, eG2001, en2002⟩ := hp2003
  refine W.widen (k := 0) (n := 200 * (0)) (by omega) (by omega) ?_
  rw [eG2001, en2002] at hI
  refine lv_aload_n hx hb dJ21_charAt_6 rfl (lv_at hl 0 rfl) ?_
  refine lv_iload_n hx hb dJ21_charAt_7 rfl (lv_at hl 1 rfl) ?_
  refine g_bald (v := .int (x j)) C hI c0_ (gix ej (by omega) (by omega)) (congrArg Value.int (gixv (f := x) ej (by omega))) dJ21_charAt_8 ?_
  refine lv_sipush (v := 255) hx hb dJ21_charAt_9 (by decide) ?_
  refine lv_iand hx hb dJ21_charAt_12 ?_
  refine lv_i2c (v := (((x j) &&& 255).toUInt32 % 65536).toInt32) hx hb dJ21_charAt_13 rfl ?_
  exact g_zret C hI hS (by omega) (by rw [hq, chI hq2]; exact narC hq2) ⟨(by rw [hq, chI hq2]), rfl, rfl⟩ dJ21_charAt_14
set_option maxHeartbeats 4000000 in
set_option maxRecDepth 100000 in
theorem c_J11_coder (l : Launch) {D : gD} (hB : gBs D) (G : gH) (n : Nat) (sa : Nat) (va : Nat) (hsx : Int32) (hsy : Int32) (c0_ : G sa = some (.inl (21, [.ref va, .int 0, .int hsx, .int hsy]))) : gMet l D yJ11_coder (ws_ yJ11_coder cJ11_coder 1 (some FieldType.byte)) 1 0 G n [.ref sa] (fun (v : Option Value) (G1 : gH) (n1 : Nat) => v = some (.int 0) ∧ G1 = G ∧ n1 = n) gNox := by
  refine g_start (by decide) (Nat.le_of_ble_eq_true rfl) ?_
  intro p e s m below meth c ls C hnm hxt hI hl
  have hx := C.x
  have hb := C.b
  have hS : va_S (gA D) s.heap s.heap [] := va_S.rf
  have hz0 := hI.z
  have lc0_ := hI.lt c0_
  have hF : gF G G n gNone := gF.rf _ _ _
  have hl : lv_has ls 1 [(0, .ref sa)] := hl
  refine g_gets C hS (st_COMPACT_STRINGS D) q699 (fun _ h9 => h9) dJ11_coder_0 ?_
  refine lv_if_eq (tgt := 13) hx hb dJ11_coder_3 (by decide) (fun c_2006 => ?_) (fun c_2006 => ?_)
  · exact absurd c_2006 (by decide)
  · skip
    refine lv_aload_n hx hb dJ11_coder_6 rfl (lv_at hl 0 rfl) ?_
    refine g_get C hI c0_ kc21 1 rfl q820 (fun _ h9 => h9) dJ11_coder_7 ?_
    refine lv_goto (tgt := 14) hx hb dJ11_coder_10 (by decide) ?_
    exact g_zret C hI hS (by omega) rfl ⟨rfl, rfl, rfl⟩ dJ11_coder_14
set_option maxHeartbeats 4000000 in
set_option maxRecDepth 100000 in
theorem c_J11_isLatin1 (l : Launch) {D : gD} (hB : gBs D) (G : gH) (n : Nat) (sa : Nat) (va : Nat) (hsx : Int32) (hsy : Int32) (c0_ : G sa = some (.inl (21, [.ref va, .int 0, .int hsx, .int hsy]))) : gMet l D yJ11_isLatin1 (ws_ yJ11_isLatin1 cJ11_isLatin1 1 (some FieldType.boolean)) 1 0 G n [.ref sa] (fun (v : Option Value) (G1 : gH) (n1 : Nat) => v = some (.int 1) ∧ G1 = G ∧ n1 = n) gNox := by
  refine g_start (by decide) (Nat.le_of_ble_eq_true rfl) ?_
  intro p e s m below meth c ls C hnm hxt hI hl
  have hx := C.x
  have hb := C.b
  have hS : va_S (gA D) s.heap s.heap [] := va_S.rf
  have hz0 := hI.z
  have lc0_ := hI.lt c0_
  have hF : gF G G n gNone := gF.rf _ _ _
  have hl : lv_has ls 1 [(0, .ref sa)] := hl
  refine g_gets C hS (st_COMPACT_STRINGS D) q699 (fun _ h9 => h9) dJ11_isLatin1_0 ?_
  refine lv_if_eq (tgt := 17) hx hb dJ11_isLatin1_3 (by decide) (fun c_2007 => ?_) (fun c_2007 => ?_)
  · exact absurd c_2007 (by decide)
  · skip
    refine lv_aload_n hx hb dJ11_isLatin1_6 rfl (lv_at hl 0 rfl) ?_
    refine g_get C hI c0_ kc21 1 rfl q820 (fun _ h9 => h9) dJ11_isLatin1_7 ?_
    refine lv_if_ne (tgt := 17) hx hb dJ11_isLatin1_10 (by decide) (fun c_2008 => ?_) (fun c_2008 => ?_)
    · exact absurd c_2008 (by decide)
    · skip
      refine lv_iconst (v := 1) hx hb dJ11_isLatin1_13 (by decide) ?_
      refine lv_goto (tgt := 18) hx hb dJ11_isLatin1_14 (by decide) ?_
      exact g_zret C hI hS (by omega) rfl ⟨rfl, rfl, rfl⟩ dJ11_isLatin1_18
set_option maxHeartbeats 4000000 in
set_option maxRecDepth 100000 in
theorem c_J11_length (l : Launch) {D : gD} (hB : gBs D) (G : gH) (n : Nat) (sa : Nat) (va : Nat) (hsx : Int32) (hsy : Int32) (N : Nat) (x : Nat → Int32) (c0_ : G sa = some (.inl (21, [.ref va, .int 0, .int hsx, .int hsy]))) (c1_ : G va = some (aB N x)) : gMet l D yJ11_length (ws_ yJ11_length cJ11_length 1 (some FieldType.int)) 2 0 G n [.ref sa] (fun (v : Option Value) (G1 : gH) (n1 : Nat) => v = some (.int (nI N)) ∧ G1 = G ∧ n1 = n) gNox := by
  refine g_start (by decide) (Nat.le_of_ble_eq_true rfl) ?_
  intro p e s m below meth c ls C hnm hxt hI hl
  have hx := C.x
  have hb := C.b
  have hS : va_S (gA D) s.heap s.heap [] := va_S.rf
  have hz0 := hI.z
  have lc0_ := hI.lt c0_
  have lc1_ := hI.lt c1_
  have hF : gF G G n gNone := gF.rf _ _ _
  have hl : lv_has ls 1 [(0, .ref sa)] := hl
  refine lv_aload_n hx hb dJ11_length_0 rfl (lv_at hl 0 rfl) ?_
  refine g_get C hI c0_ kc21 0 rfl q819 (fun _ h9 => h9) dJ11_length_1 ?_
  refine g_alen (v := nI N) C hI c1_ (by rfl) dJ11_length_4 ?_
  refine lv_aload_n hx hb dJ11_length_5 rfl (lv_at hl 0 rfl) ?_
  refine g_V (As := []) (rest := [.int (nI N)]) (lv := [(0, .ref sa)]) C hI hS (c_J11_coder l hB G n sa va hsx hsy c0_ ) c0_ rfl rfl q695 q696 q697 q92 q698 (⟨by decide, by decide, by decide⟩ : gArg _ 0) rfl ⟨by decide, by decide⟩ (by omega) hl rfl (Nat.le_of_ble_eq_true rfl) dJ11_length_6 (fun v2009 G2010 n2011 H locs hp2012 hI hS => ?_) gKx.no
  obtain ⟨rfl, eG2010, en2011⟩ := hp2012
  refine W.widen (k := 0) (n := 200 * (0)) (by omega) (by omega) ?_
  rw [eG2010, en2011] at hI
  refine lv_ishr hx hb dJ11_length_9 ?_
  exact g_iret C hI hS (by omega) ⟨(by rw [shr0]), rfl, rfl⟩ dJ11_length_10
set_option maxHeartbeats 4000000 in
set_option maxRecDepth 100000 in
theorem c_J11_charAt (l : Launch) {D : gD} (hB : gBs D) (G : gH) (n : Nat) (sa : Nat) (va : Nat) (hsx : Int32) (hsy : Int32) (N : Nat) (x : Nat → Int32) (j : Nat) (q : Nat) (a1 : Int32) (c0_ : G sa = some (.inl (21, [.ref va, .int 0, .int hsx, .int hsy]))) (c1_ : G va = some (aB N x)) (ej : a1 = nI j) (hj : j < N) (hN : N < 1000000) (hq : x j &&& 255 = nI q) (hq2 : q < 65536) : gMet l D yJ11_charAt (ws_ yJ11_charAt cJ11_charAt 2 (some FieldType.char)) 4 0 G n [.ref sa, .int a1] (fun (v : Option Value) (G1 : gH) (n1 : Nat) => v = some (.int (nI q)) ∧ G1 = G ∧ n1 = n) gNox := by
  refine g_start (by decide) (Nat.le_of_ble_eq_true rfl) ?_
  intro p e s m below meth c ls C hnm hxt hI hl
  have hx := C.x
  have hb := C.b
  have hS : va_S (gA D) s.heap s.heap [] := va_S.rf
  have hz0 := hI.z
  have lc0_ := hI.lt c0_
  have lc1_ := hI.lt c1_
  have hF : gF G G n gNone := gF.rf _ _ _
  have hl : lv_has ls 2 [(0, .ref sa), (1, .int a1)] := hl
  refine lv_aload_n hx hb dJ11_charAt_0 rfl (lv_at hl 0 rfl) ?_
  refine g_V (As := []) (rest := []) (lv := [(0, .ref sa), (1, .int a1)]) C hI hS (c_J11_isLatin1 l hB G n sa va hsx hsy c0_ ) c0_ rfl rfl q1228 q1229 q1230 q92 q1231 (⟨by decide, by decide, by decide⟩ : gArg _ 0) rfl ⟨by decide, by decide⟩ (by omega) hl rfl (Nat.le_of_ble_eq_true rfl) dJ11_charAt_1 (fun v2015 G2016 n2017 H locs hp2018 hI hS => ?_) gKx.no
  obtain ⟨rfl, eG2016, en2017⟩ := hp2018
  refine W.widen (k := 0) (n := 200 * (0)) (by omega) (by omega) ?_
  rw [eG2016, en2017] at hI
  refine lv_if_eq (tgt := 16) hx hb dJ11_charAt_4 (by decide) (fun c_2021 => ?_) (fun c_2021 => ?_)
  · exact absurd c_2021 (by decide)
  · skip
    refine lv_aload_n hx hb dJ11_charAt_7 rfl (lv_at hl 0 rfl) ?_
    refine g_get C hI c0_ kc21 0 rfl q819 (fun _ h9 => h9) dJ11_charAt_8 ?_
    refine lv_iload_n hx hb dJ11_charAt_11 rfl (lv_at hl 1 rfl) ?_
    refine g_S (As := [.ref va, .int a1]) (rest := []) (lv := [(0, .ref sa), (1, .int a1)]) C hI hS (c_J21_charAt l hB G n va N x j q a1 c1_ ej hj (by omega) hq (by omega)) q2161 q2162 q103 q2163 (⟨by decide, by decide, by decide⟩ : gArg _ 2) rfl ⟨by decide, by decide⟩ (by omega) hl rfl (Nat.le_of_ble_eq_true rfl) dJ11_charAt_12 (fun v2022 G2023 n2024 H locs hp2025 hI hS => ?_) gKx.no
    obtain ⟨rfl, eG2023, en2024⟩ := hp2025
    refine W.widen (k := 0) (n := 200 * (0)) (by omega) (by omega) ?_
    rw [eG2023, en2024] at hI
    exact g_zret C hI hS (by omega) (narC hq2) ⟨rfl, rfl, rfl⟩ dJ11_charAt_15
set_option maxHeartbeats 4000000 in
set_option maxRecDepth 100000 in
theorem c_J23_intValue (l : Launch) {D : gD} (hB : gBs D) (G : gH) (n : Nat) (ia : Nat) (v0 : Int32) (c0_ : G ia = some (.inl (22, [.int v0]))) : gMet l D yJ23_intValue (ws_ yJ23_intValue cJ23_intValue 1 (some FieldType.int)) 1 0 G n [.ref ia] (fun (v : Option Value) (G1 : gH) (n1 : Nat) => v = some (.int v0) ∧ G1 = G ∧ n1 = n) gNox := by
  refine g_start (by decide) (Nat.le_of_ble_eq_true rfl) ?_
  intro p e s m below meth c ls C hnm hxt hI hl
  have hx := C.x
  have hb := C.b
  have hS : va_S (gA D) s.heap s.heap [] := va_S.rf
  have hz0 := hI.z
  have lc0_ := hI.lt c0_
  have hF : gF G G n gNone := gF.rf _ _ _
  have hl : lv_has ls 1 [(0, .ref ia)] := hl
  refine lv_aload_n hx hb dJ23_intValue_0 rfl (lv_at hl 0 rfl) ?_
  refine g_get C hI c0_ kc22 0 rfl q1997 (fun _ h9 => h9) dJ23_intValue_1 ?_
  exact g_iret C hI hS (by omega) ⟨rfl, rfl, rfl⟩ dJ23_intValue_4
