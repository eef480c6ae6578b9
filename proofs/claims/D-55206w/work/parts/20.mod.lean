/-! THE REFERENCE, 8: lines, the start -/
/-- letters put one behind the other -/
def sPut (lx : Nat → Nat) (i : Nat) : List Nat → (Nat → Nat)
  | [] => lx
  | c :: L => sPut (gup lx i c) (i + 1) L
theorem sPut_app (lx : Nat → Nat) (i : Nat) (A B : List Nat) : sPut lx i (A ++ B) = sPut (sPut lx i A) (i + A.length) B := by
  induction A generalizing lx i with
  | nil => rfl
  | cons c A ih =>
    show sPut (gup lx i c) (i + 1) (A ++ B) = sPut (sPut (gup lx i c) (i + 1) A) (i + (A.length + 1)) B
    rw [ih, Nat.add_assoc, Nat.add_comm 1]
theorem sPut_take (lx : Nat → Nat) (i : Nat) {L : List Nat} {k : Nat} (h : k < L.length) : gup (sPut lx i (L.take k)) (i + k) (L.getD k 0) = sPut lx i (L.take (k + 1)) := by
  rw [List.take_succ_eq_append_getElem h, sPut_app, List.length_take, Nat.min_eq_left (by omega)]
  show _ = gup _ (i + k) L[k]
  rw [List.getD_eq_getElem?_getD, List.getElem?_eq_getElem h]
  rfl
theorem sPut_lt (lx : Nat → Nat) (i k : Nat) (L : List Nat) (h : k < i) : sPut lx i L k = lx k := by
  induction L generalizing lx i with
  | nil => rfl
  | cons c L ih =>
    show sPut (gup lx i c) (i + 1) L k = lx k
    rw [ih _ _ (by omega), gup_n (by omega)]
theorem sPut_at (lx : Nat → Nat) (i k : Nat) (L : List Nat) (h : k < L.length) : sPut lx i L (i + k) = L.getD k 0 := by
  induction L generalizing lx i k with
  | nil => simp at h
  | cons c L ih =>
    show sPut (gup lx i c) (i + 1) L (i + k) = _
    cases k with
    | zero => rw [sPut_lt _ _ _ _ (by omega), Nat.add_zero, gup_s]; rfl
    | succ k =>
      rw [show i + (k + 1) = i + 1 + k by omega, ih _ _ _ (by simpa using h)]
      rfl
theorem chB {q : Nat} (h : q < 128) : nI q &&& 255 = nI q := by
  apply Int32.toBitVec_inj.mp
  apply BitVec.eq_of_toNat_eq
  unfold nI
  simp
  have : q % 4294967296 = q := by omega
  rw [this, show (255 : Nat) = 2 ^ 8 - 1 from rfl, Nat.and_two_pow_sub_one_eq_mod]
  omega
theorem vnC {q : Nat} (h : q < 65536) : vp_nar .char (nI q) = nI q := by
  unfold vp_nar
  rw [narC h]
theorem gupC (lx : Nat → Nat) (i q : Nat) : gup (fun k => nI (lx k)) i (nI q) = fun k => nI (gup lx i q k) := by
  funext k
  by_cases c : k = i
  · rw [c, gup_s, gup_s]
  · rw [gup_n c, gup_n c]
/-- the digits of a number, highest first -/
def sDg (v : Nat) : Nat → List Nat
  | 0 => [48 + v % 10]
  | e + 1 => (48 + v / 10 ^ (e + 1) % 10) :: sDg v e
def sLg (v : Nat) : Nat := if v < 10 then 0 else if v < 100 then 1 else if v < 1000 then 2 else if v < 10000 then 3 else if v < 100000 then 4 else 5
def sNum (v : Nat) : List Nat := sDg v (sLg v)
theorem sDg_len (v e : Nat) : (sDg v e).length = e + 1 := by
  induction e with
  | zero => rfl
  | succ e ih => show (sDg v e).length + 1 = _; rw [ih]
theorem sNum_len (v : Nat) : (sNum v).length ≤ 6 ∧ 1 ≤ (sNum v).length := by
  unfold sNum
  rw [sDg_len]
  unfold sLg
  repeat' split
  all_goals omega
theorem sDg_ch (v e : Nat) : ∀ c ∈ sDg v e, c < 58 := by
  induction e with
  | zero => intro c h; simp [sDg] at h; omega
  | succ e ih =>
    intro c h
    rcases List.mem_cons.mp h with h | h
    · omega
    · exact ih c h
def sWhere (f : Nat → Int32) (j : Nat) : List Nat := if ¬ f (28 + j) = -1 then [32, 97, 116, 32] ++ sNum (f (28 + j)).toNatClampNeg else [32, 104, 111, 109, 101]
def sHold (f : Nat → Int32) (j : Nat) : List Nat := if f (34 + j) + f (37 + j) ≤ 0 then [] else [32] ++ (sNum (f (34 + j)).toNatClampNeg ++ ([109] ++ (sNum (f (37 + j)).toNatClampNeg ++ [108])))
def sDesc (f : Nat → Int32) (j : Nat) : List Nat := [98, 111, 97, 116, 32] ++ (sNum j ++ (sWhere f j ++ ([32] ++ (sNum (f (31 + j)).toNatClampNeg ++ ([104] ++ sHold f j)))))
/-- what the reference's line holds -/
def sLine (lx : Nat → Nat) (L : List Nat) : Prop := ∀ k, k < L.length → lx k = L.getD k 0
/-- the first row -/
def sIn0 : Nat → Int32 := gup (gup (fun _ => 0) 1 2) 2 1
def sInG (f : Nat → Int32) : Nat → (Nat → Int32)
  | 0 => f
  | p + 1 => gup (gup (gup (sInG f p) (3 + 3 * p) 200) (3 + 3 * p + 1) 150) (3 + 3 * p + 2) 60
def sInB (f : Nat → Int32) : Nat → (Nat → Int32)
  | 0 => f
  | k + 1 => gup (sInB f k) (21 + k) 20
def sInit : Nat → Int32 := sInB (sInG sIn0 6) 3
set_option maxHeartbeats 4000000 in
set_option maxRecDepth 100000 in
theorem c_X4_puts (l : Launch) {D : gD} (hB : gBs D) (G : gH) (n : Nat) (mm : Nat) (ag : Nat) (ab : Nat) (ah : Nat) (ch : Int32) (asv : Nat) (hs : Int32) (aas : Nat) (ain : Nat) (ty : Int32) (er : Int32) (awy : Nat) (ir : Int32) (ali : Nat) (ln : Int32) (th : Int32) (pl : Int32) (wr : Int32) (ato : Nat) (lx : Nat → Nat) (i0 : Nat) (q : Nat) (a1 : Int32) (c0_ : G mm = some (.inl (23, [.ref ag, .ref ab, .ref ah, .int ch, .ref asv, .int hs, .ref aas, .ref ain, .int ty, .int er, .ref awy, .int ir, .ref ali, .int ln, .int th, .int pl, .int wr, .ref ato]))) (c1_ : G ali = some (aC 60 (fun k => nI (lx k)))) (hz : gz D ≤ mm) (hzl : gz D ≤ ali) (hln : ln = nI i0) (hi60 : i0 < 60) (eq : a1 = nI q) (hq : q < 65536) : gMet l D yX4_puts (ws_ yX4_puts cX4_puts 2 none) 1 0 G n [.ref mm, .int a1] (fun (v : Option Value) (G1 : gH) (n1 : Nat) => v = none ∧ n ≤ n1 ∧ gF G G1 n (fun q : Nat => q = mm ∨ q = ali) ∧ G1 mm = some (.inl (23, [.ref ag, .ref ab, .ref ah, .int ch, .ref asv, .int hs, .ref aas, .ref ain, .int ty, .int er, .ref awy, .int ir, .ref ali, .int (nI (i0 + 1)), .int th, .int pl, .int wr, .ref ato])) ∧ G1 ali = some (aC 60 (fun k => nI (gup lx i0 q k)))) gNox := by
  refine g_start (by decide) (Nat.le_of_ble_eq_true rfl) ?_
  intro p e s m below meth c ls C hnm hxt hI hl
  have hx := C.x
  have hb := C.b
  have hS : va_S (gA D) s.heap s.heap [] := va_S.rf
  have hz0 := hI.z
  have lc0_ := hI.lt c0_
  have lc1_ := hI.lt c1_
  have hF : gF G G n (fun q : Nat => q = mm ∨ q = ali) := gF.rf _ _ _
  have hl : lv_has ls 2 [(0, .ref mm), (1, .int a1)] := hl
  refine lv_aload_n hx hb dX4_puts_0 rfl (lv_at hl 0 rfl) ?_
  refine g_get C hI c0_ kc23 12 rfl q2579 (fun _ h9 => h9) dX4_puts_1 ?_
  refine lv_aload_n hx hb dX4_puts_4 rfl (lv_at hl 0 rfl) ?_
  refine g_get C hI c0_ kc23 13 rfl q2580 (fun _ h9 => h9) dX4_puts_5 ?_
  refine lv_iload_n hx hb dX4_puts_8 rfl (lv_at hl 1 rfl) ?_
  refine lv_i2c (v := (a1.toUInt32 % 65536).toInt32) hx hb dX4_puts_9 rfl ?_
  refine g_cast C hI hS c1_ (by omega) (gix hln (by omega) (by omega)) dX4_puts_10 (fun G2386 H locs e2387 hI hS => ?_)
  rw [gup_e hln (by omega)] at e2387
  have c0_ := gE_k e2387 c0_ (g_no c0_ c1_)
  have c1_ : G2386 ali = some (aC 60 (gup (fun k => nI (lx k)) i0 (vp_nar .char ((a1.toUInt32 % 65536).toInt32)))) := gE_s e2387
  have hF := gE_F e2387 hF (Or.inr (Or.inr (rfl)))
  refine lv_aload_n hx hb dX4_puts_11 rfl (lv_at hl 0 rfl) ?_
  refine lv_dup hx hb dX4_puts_12 rfl ?_
  refine g_get C hI c0_ kc23 13 rfl q2580 (fun _ h9 => h9) dX4_puts_13 ?_
  refine lv_iconst (v := 1) hx hb dX4_puts_16 (by decide) ?_
  refine lv_iadd hx hb dX4_puts_17 ?_
  refine g_put (fs2 := [.ref ag, .ref ab, .ref ah, .int ch, .ref asv, .int hs, .ref aas, .ref ain, .int ty, .int er, .ref awy, .int ir, .ref ali, .int (ln + 1), .int th, .int pl, .int wr, .ref ato]) C hI hS c0_ (by omega) kc23 13 (Nat.le_of_ble_eq_true rfl) q2580 (fun _ h9 => h9) rfl rfl rfl rfl dX4_puts_18 (fun G2389 H locs e2390 hI hS => ?_)
  have c1_ := gE_k e2390 c1_ (g_on c1_ c0_)
  have c0_ : G2389 mm = some (.inl (23, [.ref ag, .ref ab, .ref ah, .int ch, .ref asv, .int hs, .ref aas, .ref ain, .int ty, .int er, .ref awy, .int ir, .ref ali, .int (ln + 1), .int th, .int pl, .int wr, .ref ato])) := gE_s e2390
  have hF := gE_F e2390 hF (Or.inr (Or.inl rfl))
  exact g_vret C hI hS (by omega) ⟨rfl, (by omega), hF, (by rw [show nI (i0 + 1) = ln + 1 from (gadd hln nl1).symm]; exact c0_), (by rw [eq, chI hq, vnC hq, gupC] at c1_; exact c1_)⟩ dX4_puts_21
set_option maxHeartbeats 4000000 in
set_option maxRecDepth 100000 in
theorem c_X4_putsText (l : Launch) {D : gD} (hB : gBs D) (G : gH) (n : Nat) (mm : Nat) (ag : Nat) (ab : Nat) (ah : Nat) (ch : Int32) (asv : Nat) (hs : Int32) (aas : Nat) (ain : Nat) (ty : Int32) (er : Int32) (awy : Nat) (ir : Int32) (ali : Nat) (ln : Int32) (th : Int32) (pl : Int32) (wr : Int32) (ato : Nat) (lx : Nat → Nat) (i0 : Nat) (sa : Nat) (va : Nat) (hsx : Int32) (hsy : Int32) (L : List Nat) (c0_ : G mm = some (.inl (23, [.ref ag, .ref ab, .ref ah, .int ch, .ref asv, .int hs, .ref aas, .ref ain, .int ty, .int er, .ref awy, .int ir, .ref ali, .int ln, .int th, .int pl, .int wr, .ref ato]))) (c1_ : G ali = some (aC 60 (fun k => nI (lx k)))) (c2_ : G sa = some (.inl (21, [.ref va, .int 0, .int hsx, .int hsy]))) (c3_ : G va = some (aB L.length (fun i => nI (L.getD i 0)))) (hz : gz D ≤ mm) (hzl : gz D ≤ ali) (hln : ln = nI i0) (hiL : i0 + L.length ≤ 60) (hL : ∀ c ∈ L, c < 128) : gMet l D yX4_putsText (ws_ yX4_putsText cX4_putsText 3 none) 5 0 G n [.ref mm, .ref sa] (fun (v : Option Value) (G1 : gH) (n1 : Nat) => v = none ∧ n ≤ n1 ∧ gF G G1 n (fun q : Nat => q = mm ∨ q = ali) ∧ G1 mm = some (.inl (23, [.ref ag, .ref ab, .ref ah, .int ch, .ref asv, .int hs, .ref aas, .ref ain, .int ty, .int er, .ref awy, .int ir, .ref ali, .int (nI (i0 + L.length)), .int th, .int pl, .int wr, .ref ato])) ∧ G1 ali = some (aC 60 (fun k => nI (sPut lx i0 L k)))) gNox := by
  refine g_start (by decide) (Nat.le_of_ble_eq_true rfl) ?_
  intro p e s m below meth c ls C hnm hxt hI hl
  have hx := C.x
  have hb := C.b
  have hS : va_S (gA D) s.heap s.heap [] := va_S.rf
  have hz0 := hI.z
  have lc0_ := hI.lt c0_
  have lc1_ := hI.lt c1_
  have lc2_ := hI.lt c2_
  have lc3_ := hI.lt c3_
  have hF : gF G G n (fun q : Nat => q = mm ∨ q = ali) := gF.rf _ _ _
  have hl : lv_has ls 3 [(0, .ref mm), (1, .ref sa)] := hl
  refine lv_iconst (v := 0) hx hb dX4_putsText_0 (by decide) ?_
  refine lv_istore_n (lv' := [(2, .int 0), (0, .ref mm), (1, .ref sa)]) hx hb dX4_putsText_1 rfl hl (by decide) rfl (fun ls hl => ?_)
  have key2391 : ∀ (r : Nat) (k : Nat) (xk : Int32), (k ≤ L.length) → (L.length < k + r) → (xk = nI k) → ∀ (G2392 : gH) (n2393 : Nat) (H : Heap) (locs : List Loc) (ls : Array Slot), G2392 mm = some (.inl (23, [.ref ag, .ref ab, .ref ah, .int ch, .ref asv, .int hs, .ref aas, .ref ain, .int ty, .int er, .ref awy, .int ir, .ref ali, .int (nI (i0 + k)), .int th, .int pl, .int wr, .ref ato])) → G2392 ali = some (aC 60 (fun k_ => nI (sPut lx i0 (L.take k) k_))) → G2392 sa = some (.inl (21, [.ref va, .int 0, .int hsx, .int hsy])) → G2392 va = some (aB L.length (fun i => nI (L.getD i 0))) → n ≤ n2393 → gI D G2392 n2393 H → va_S (gA D) s.heap H locs → gF G G2392 n (fun q : Nat => q = mm ∨ q = ali) → lv_has ls 3 [(2, .int xk), (0, .ref mm), (1, .ref sa)] → W p l e (gR 5 0) s m ([.ref mm, .ref sa] : List Value).toArray below meth c H locs (0) (200 * (0)) (gM below D (fun (v : Option Value) (G1 : gH) (n1 : Nat) => v = none ∧ n ≤ n1 ∧ gF G G1 n (fun q : Nat => q = mm ∨ q = ali) ∧ G1 mm = some (.inl (23, [.ref ag, .ref ab, .ref ah, .int ch, .ref asv, .int hs, .ref aas, .ref ain, .int ty, .int er, .ref awy, .int ir, .ref ali, .int (nI (i0 + L.length)), .int th, .int pl, .int wr, .ref ato])) ∧ G1 ali = some (aC 60 (fun k => nI (sPut lx i0 L k)))) gNox ([.ref mm, .ref sa] : List Value).toArray s 0) (F0 m 2 ls []) := by
    intro r
    induction r with
    | zero =>
      intro k xk hk hr hxk
      exact absurd trivial (fun _ => (by omega))
    | succ r ih2398 =>
      intro k xk hk hr hxk
      intro G2392 n2393 H locs ls c2394 c2395 c2396 c2397 hn2399 hI hS hF hl
      refine lv_iload_n hx hb dX4_putsText_2 rfl (lv_at hl 0 rfl) ?_
      refine lv_aload_n hx hb dX4_putsText_3 rfl (lv_at hl 2 rfl) ?_
      refine g_V (As := []) (rest := [.int xk]) (lv := [(2, .int xk), (0, .ref mm), (1, .ref sa)]) C hI hS (c_J11_length l hB G2392 n2393 sa va hsx hsy L.length (fun i => nI (L.getD i 0)) c2396 c2397 ) c2396 rfl rfl q2877 q692 q693 q92 q694 (⟨by decide, by decide, by decide⟩ : gArg _ 0) rfl ⟨by decide, by decide⟩ (by omega) hl rfl (Nat.le_of_ble_eq_true rfl) dX4_putsText_4 (fun v2400 G2401 n2402 H locs hp2403 hI hS => ?_) gKx.no
      obtain ⟨rfl, eG2401, en2402⟩ := hp2403
      refine W.widen (k := 0) (n := 200 * (0)) (by omega) (by omega) ?_
      rw [eG2401, en2402] at hI
      refine lv_icmp_ge (tgt := 25) hx hb dX4_putsText_7 (by decide) (fun c_2406 => ?_) (fun c_2406 => ?_)
      · skip
        try have k_2407 : L.length ≤ k := (nI_leE rfl hxk (by omega) (by omega)).mp c_2406
        have hke : k = L.length := by omega
        rw [hke] at c2394
        rw [hke, List.take_length] at c2395
        exact g_vret C hI hS (by omega) ⟨rfl, (by omega), hF, c2394, c2395⟩ dX4_putsText_25
      · skip
        try have k_2408 : ¬ (L.length ≤ k) := (not_congr (nI_leE rfl hxk (by omega) (by omega))).mp c_2406
        refine lv_aload_n hx hb dX4_putsText_10 rfl (lv_at hl 1 rfl) ?_
        refine lv_aload_n hx hb dX4_putsText_11 rfl (lv_at hl 2 rfl) ?_
        refine lv_iload_n hx hb dX4_putsText_12 rfl (lv_at hl 0 rfl) ?_
        refine g_V (As := [.int xk]) (rest := [.ref mm]) (lv := [(2, .int xk), (0, .ref mm), (1, .ref sa)]) C hI hS (c_J11_charAt l hB G2392 n2393 sa va hsx hsy L.length (fun i => nI (L.getD i 0)) k (L.getD k 0) xk c2396 c2397 hxk (by omega) (by omega) (chB (by rw [List.getD_eq_getElem?_getD, List.getElem?_eq_getElem (by omega)]; exact hL _ (List.getElem_mem _))) (by rw [List.getD_eq_getElem?_getD, List.getElem?_eq_getElem (by omega)]; exact Nat.lt_trans (hL _ (List.getElem_mem _)) (by decide))) c2396 rfl rfl q2868 q2158 q2991 q92 q2160 (⟨by decide, by decide, by decide⟩ : gArg _ 1) rfl ⟨by decide, by decide⟩ (by omega) hl rfl (Nat.le_of_ble_eq_true rfl) dX4_putsText_13 (fun v2409 G2410 n2411 H locs hp2412 hI hS => ?_) gKx.no
        obtain ⟨rfl, eG2410, en2411⟩ := hp2412
        refine W.widen (k := 0) (n := 200 * (0)) (by omega) (by omega) ?_
        rw [eG2410, en2411] at hI
        refine g_V (As := [.int (nI (L.getD k 0))]) (rest := []) (lv := [(2, .int xk), (0, .ref mm), (1, .ref sa)]) C hI hS (c_X4_puts l hB G2392 n2393 mm ag ab ah ch asv hs aas ain ty er awy ir ali (nI (i0 + k)) th pl wr ato (sPut lx i0 (L.take k)) (i0 + k) (L.getD k 0) (nI (L.getD k 0)) c2394 c2395 (by omega) (by omega) rfl (by omega) rfl (by rw [List.getD_eq_getElem?_getD, List.getElem?_eq_getElem (by omega)]; exact Nat.lt_trans (hL _ (List.getElem_mem _)) (by decide))) c2394 rfl rfl q2925 q2927 qs72 q94 q2928 (⟨by decide, by decide, by decide⟩ : gArg _ 1) rfl ⟨by decide, by decide⟩ (by omega) hl rfl (Nat.le_of_ble_eq_true rfl) dX4_putsText_16 (fun v2415 G2416 n2417 H locs hp2418 hI hS => ?_) gKx.no
        obtain ⟨rfl, hn2419, hF2420, c2421, c2422⟩ := hp2418
        refine W.widen (k := 0) (n := 200 * (0)) (by omega) (by omega) ?_
        have c2396 := hF2420.at c2396 (by omega) (fun h => h.elim (g_nc c2396 c2394 (by decide)) (g_no c2396 c2395))
        have c2397 := hF2420.at c2397 (by omega) (fun h => h.elim (g_on c2397 c2394) (g_na c2397 c2395 (Or.inl (by decide))))
        have hF := hF.trans hF2420 (by omega) (fun q hq => (fun h => h.elim (fun h => h ▸ (Or.inl rfl)) (fun h => h ▸ (Or.inr (rfl)))))
        refine lv_iinc (v := xk + 1) (lv' := [(2, .int (xk + 1)), (0, .ref mm), (1, .ref sa)]) hx hb dX4_putsText_19 hl (k := 0) rfl (by first | rfl | decide) (by decide) rfl (fun ls hl => ?_)
        refine lv_goto (tgt := 2) hx hb dX4_putsText_22 (by decide) ?_
        rw [sPut_take lx i0 (by omega)] at c2422
        exact ih2398 (k + 1) (xk + 1) (by omega) (by omega) (gadd hxk nl1) _ _ _ _ _ c2421 c2422 c2396 c2397 (by omega) hI hS hF (lv_sub hl [0, 1, 2] rfl)
  exact key2391 (L.length + 1) 0 0 (by omega) (by omega) nl0 _ _ _ _ _ (by rw [Nat.add_zero, ← hln]; exact c0_) (by exact c1_) c2_ c3_ (Nat.le_refl _) hI hS hF (lv_sub hl [0, 1, 2] rfl)
set_option maxHeartbeats 4000000 in
set_option maxRecDepth 100000 in
theorem c_X4_putsNumber (l : Launch) {D : gD} (hB : gBs D) (G : gH) (n : Nat) (mm : Nat) (ag : Nat) (ab : Nat) (ah : Nat) (ch : Int32) (asv : Nat) (hs : Int32) (aas : Nat) (ain : Nat) (ty : Int32) (er : Int32) (awy : Nat) (ir : Int32) (ali : Nat) (ln : Int32) (th : Int32) (pl : Int32) (wr : Int32) (ato : Nat) (lx : Nat → Nat) (i0 : Nat) (v0 : Nat) (a1 : Int32) (c0_ : G mm = some (.inl (23, [.ref ag, .ref ab, .ref ah, .int ch, .ref asv, .int hs, .ref aas, .ref ain, .int ty, .int er, .ref awy, .int ir, .ref ali, .int ln, .int th, .int pl, .int wr, .ref ato]))) (c1_ : G ali = some (aC 60 (fun k => nI (lx k)))) (hz : gz D ≤ mm) (hzl : gz D ≤ ali) (hln : ln = nI i0) (hi54 : i0 ≤ 54) (ev : a1 = nI v0) (hv : v0 < 1000000) : gMet l D yX4_putsNumber (ws_ yX4_putsNumber cX4_putsNumber 3 none) 2 0 G n [.ref mm, .int a1] (fun (v : Option Value) (G1 : gH) (n1 : Nat) => v = none ∧ n ≤ n1 ∧ gF G G1 n (fun q : Nat => q = mm ∨ q = ali) ∧ G1 mm = some (.inl (23, [.ref ag, .ref ab, .ref ah, .int ch, .ref asv, .int hs, .ref aas, .ref ain, .int ty, .int er, .ref awy, .int ir, .ref ali, .int (nI (i0 + (sNum v0).length)), .int th, .int pl, .int wr, .ref ato])) ∧ G1 ali = some (aC 60 (fun k => nI (sPut lx i0 (sNum v0) k)))) gNox := by
  refine g_start (by decide) (Nat.le_of_ble_eq_true rfl) ?_
  intro p e s m below meth c ls C hnm hxt hI hl
  have hx := C.x
  have hb := C.b
  have hS : va_S (gA D) s.heap s.heap [] := va_S.rf
  have hz0 := hI.z
  have lc0_ := hI.lt c0_
  have lc1_ := hI.lt c1_
  have hF : gF G G n (fun q : Nat => q = mm ∨ q = ali) := gF.rf _ _ _
  have hl : lv_has ls 3 [(0, .ref mm), (1, .int a1)] := hl
  refine lv_iconst (v := 1) hx hb dX4_putsNumber_0 (by decide) ?_
  refine lv_istore_n (lv' := [(2, .int 1), (0, .ref mm), (1, .int a1)]) hx hb dX4_putsNumber_1 rfl hl (by decide) rfl (fun ls hl => ?_)
  refine lv_iload_n hx hb dX4_putsNumber_2 rfl (lv_at hl 2 rfl) ?_
  refine lv_iload_n hx hb dX4_putsNumber_3 rfl (lv_at hl 0 rfl) ?_
  refine lv_idiv hx hb dX4_putsNumber_4 (by decide) ?_
  refine lv_bipush (v := 9) hx hb dX4_putsNumber_5 (by decide) ?_
  refine lv_icmp_le (tgt := 18) hx hb dX4_putsNumber_7 (by decide) (fun c_2423 => ?_) (fun c_2423 => ?_)
  · skip
    try have k_2424 : (v0 / 1) ≤ 9 := (nI_leE (gdiv ev nl1 (by omega) (by decide)) nl9 (by omega) (by omega)).mp c_2423
    refine lv_iload_n hx hb dX4_putsNumber_18 rfl (lv_at hl 0 rfl) ?_
    refine lv_if_le (tgt := 43) hx hb dX4_putsNumber_19 (by decide) (fun c_2425 => ?_) (fun c_2425 => ?_)
    · exact absurd c_2425 (by decide)
    · skip
      refine lv_aload_n hx hb dX4_putsNumber_22 rfl (lv_at hl 1 rfl) ?_
      refine lv_bipush (v := 48) hx hb dX4_putsNumber_23 (by decide) ?_
      refine lv_iload_n hx hb dX4_putsNumber_25 rfl (lv_at hl 2 rfl) ?_
      refine lv_iload_n hx hb dX4_putsNumber_26 rfl (lv_at hl 0 rfl) ?_
      refine lv_idiv hx hb dX4_putsNumber_27 (by decide) ?_
      refine lv_bipush (v := 10) hx hb dX4_putsNumber_28 (by decide) ?_
      refine lv_irem hx hb dX4_putsNumber_30 (by decide) ?_
      refine lv_iadd hx hb dX4_putsNumber_31 ?_
      refine g_V (As := [.int (48 + ((a1 / 1) - (a1 / 1) / 10 * 10))]) (rest := []) (lv := [(2, .int 1), (0, .ref mm), (1, .int a1)]) C hI hS (c_X4_puts l hB G n mm ag ab ah ch asv hs aas ain ty er awy ir ali ln th pl wr ato lx i0 (48 + ((v0 / 1) % 10)) (48 + ((a1 / 1) - (a1 / 1) / 10 * 10)) c0_ c1_ (by omega) (by omega) hln (by omega) (gadd nl48 (grem (gdiv ev nl1 (by omega) (by decide)) nl10 (by omega) (by decide))) (by omega)) c0_ rfl rfl q2925 q2927 qs72 q94 q2928 (⟨by decide, by decide, by decide⟩ : gArg _ 1) rfl ⟨by decide, by decide⟩ (by omega) hl rfl (Nat.le_of_ble_eq_true rfl) dX4_putsNumber_32 (fun v2426 G2427 n2428 H locs hp2429 hI hS => ?_) gKx.no
      obtain ⟨rfl, hn2430, hF2431, c2432, c2433⟩ := hp2429
      refine W.widen (k := 0) (n := 200 * (0)) (by omega) (by omega) ?_
      have hF := hF.trans hF2431 (by omega) (fun q hq => (fun h => h.elim (fun h => h ▸ (Or.inl rfl)) (fun h => h ▸ (Or.inr (rfl)))))
      refine lv_iload_n hx hb dX4_putsNumber_35 rfl (lv_at hl 0 rfl) ?_
      refine lv_bipush (v := 10) hx hb dX4_putsNumber_36 (by decide) ?_
      refine lv_idiv hx hb dX4_putsNumber_38 (by decide) ?_
      rw [show ((1 : Int32) / 10 : Int32) = 0 from by decide]
      refine lv_istore_n (lv' := [(2, .int 0), (0, .ref mm), (1, .int a1)]) hx hb dX4_putsNumber_39 rfl hl (by decide) rfl (fun ls hl => ?_)
      refine lv_goto (tgt := 18) hx hb dX4_putsNumber_40 (by decide) ?_
      refine lv_iload_n hx hb dX4_putsNumber_18 rfl (lv_at hl 0 rfl) ?_
      refine lv_if_le (tgt := 43) hx hb dX4_putsNumber_19 (by decide) (fun c_2434 => ?_) (fun c_2434 => ?_)
      · skip
        exact g_vret C hI hS (by omega) ⟨rfl, (by omega), hF, (by rw [show i0 + (sNum v0).length = i0 + 1 from by unfold sNum; rw [sDg_len]; unfold sLg; (repeat' split) <;> omega]; exact c2432), (by rw [show sPut lx i0 (sNum v0) = gup lx i0 (48 + ((v0 / 1) % 10)) from by rw [show sNum v0 = sDg v0 0 from by unfold sNum; congr 1; unfold sLg; (repeat' split) <;> omega]; simp [sDg, sPut]]; exact c2433)⟩ dX4_putsNumber_43
      · exact absurd (by decide) c_2434
  · skip
    try have k_2435 : ¬ ((v0 / 1) ≤ 9) := (not_congr (nI_leE (gdiv ev nl1 (by omega) (by decide)) nl9 (by omega) (by omega))).mp c_2423
    refine lv_iload_n hx hb dX4_putsNumber_10 rfl (lv_at hl 0 rfl) ?_
    refine lv_bipush (v := 10) hx hb dX4_putsNumber_11 (by decide) ?_
    refine lv_imul hx hb dX4_putsNumber_13 ?_
    rw [show ((1 : Int32) * 10 : Int32) = 10 from by decide]
    refine lv_istore_n (lv' := [(2, .int 10), (0, .ref mm), (1, .int a1)]) hx hb dX4_putsNumber_14 rfl hl (by decide) rfl (fun ls hl => ?_)
    refine lv_goto (tgt := 2) hx hb dX4_putsNumber_15 (by decide) ?_
    refine lv_iload_n hx hb dX4_putsNumber_2 rfl (lv_at hl 2 rfl) ?_
    refine lv_iload_n hx hb dX4_putsNumber_3 rfl (lv_at hl 0 rfl) ?_
    refine lv_idiv hx hb dX4_putsNumber_4 (by decide) ?_
    refine lv_bipush (v := 9) hx hb dX4_putsNumber_5 (by decide) ?_
    refine lv_icmp_le (tgt := 18) hx hb dX4_putsNumber_7 (by decide) (fun c_2436 => ?_) (fun c_2436 => ?_)
    · skip
      try have k_2437 : (v0 / 10) ≤ 9 := (nI_leE (gdiv ev nl10 (by omega) (by decide)) nl9 (by omega) (by omega)).mp c_2436
      refine lv_iload_n hx hb dX4_putsNumber_18 rfl (lv_at hl 0 rfl) ?_
      refine lv_if_le (tgt := 43) hx hb dX4_putsNumber_19 (by decide) (fun c_2438 => ?_) (fun c_2438 => ?_)
      · exact absurd c_2438 (by decide)
      · skip
        refine lv_aload_n hx hb dX4_putsNumber_22 rfl (lv_at hl 1 rfl) ?_
        refine lv_bipush (v := 48) hx hb dX4_putsNumber_23 (by decide) ?_
        refine lv_iload_n hx hb dX4_putsNumber_25 rfl (lv_at hl 2 rfl) ?_
        refine lv_iload_n hx hb dX4_putsNumber_26 rfl (lv_at hl 0 rfl) ?_
        refine lv_idiv hx hb dX4_putsNumber_27 (by decide) ?_
        refine lv_bipush (v := 10) hx hb dX4_putsNumber_28 (by decide) ?_
        refine lv_irem hx hb dX4_putsNumber_30 (by decide) ?_
        refine lv_iadd hx hb dX4_putsNumber_31 ?_
        refine g_V (As := [.int (48 + ((a1 / 10) - (a1 / 10) / 10 * 10))]) (rest := []) (lv := [(2, .int 10), (0, .ref mm), (1, .int a1)]) C hI hS (c_X4_puts l hB G n mm ag ab ah ch asv hs aas ain ty er awy ir ali ln th pl wr ato lx i0 (48 + ((v0 / 10) % 10)) (48 + ((a1 / 10) - (a1 / 10) / 10 * 10)) c0_ c1_ (by omega) (by omega) hln (by omega) (gadd nl48 (grem (gdiv ev nl10 (by omega) (by decide)) nl10 (by omega) (by decide))) (by omega)) c0_ rfl rfl q2925 q2927 qs72 q94 q2928 (⟨by decide, by decide, by decide⟩ : gArg _ 1) rfl ⟨by decide, by decide⟩ (by omega) hl rfl (Nat.le_of_ble_eq_true rfl) dX4_putsNumber_32 (fun v2439 G2440 n2441 H locs hp2442 hI hS => ?_) gKx.no
        obtain ⟨rfl, hn2443, hF2444, c2445, c2446⟩ := hp2442
        refine W.widen (k := 0) (n := 200 * (0)) (by omega) (by omega) ?_
        have hF := hF.trans hF2444 (by omega) (fun q hq => (fun h => h.elim (fun h => h ▸ (Or.inl rfl)) (fun h => h ▸ (Or.inr (rfl)))))
        refine lv_iload_n hx hb dX4_putsNumber_35 rfl (lv_at hl 0 rfl) ?_
        refine lv_bipush (v := 10) hx hb dX4_putsNumber_36 (by decide) ?_
        refine lv_idiv hx hb dX4_putsNumber_38 (by decide) ?_
        rw [show ((10 : Int32) / 10 : Int32) = 1 from by decide]
        refine lv_istore_n (lv' := [(2, .int 1), (0, .ref mm), (1, .int a1)]) hx hb dX4_putsNumber_39 rfl hl (by decide) rfl (fun ls hl => ?_)
        refine lv_goto (tgt := 18) hx hb dX4_putsNumber_40 (by decide) ?_
        refine lv_iload_n hx hb dX4_putsNumber_18 rfl (lv_at hl 0 rfl) ?_
        refine lv_if_le (tgt := 43) hx hb dX4_putsNumber_19 (by decide) (fun c_2447 => ?_) (fun c_2447 => ?_)
        · exact absurd c_2447 (by decide)
        · skip
          refine lv_aload_n hx hb dX4_putsNumber_22 rfl (lv_at hl 1 rfl) ?_
          refine lv_bipush (v := 48) hx hb dX4_putsNumber_23 (by decide) ?_
          refine lv_iload_n hx hb dX4_putsNumber_25 rfl (lv_at hl 2 rfl) ?_
          refine lv_iload_n hx hb dX4_putsNumber_26 rfl (lv_at hl 0 rfl) ?_
          refine lv_idiv hx hb dX4_putsNumber_27 (by decide) ?_
          refine lv_bipush (v := 10) hx hb dX4_putsNumber_28 (by decide) ?_
          refine lv_irem hx hb dX4_putsNumber_30 (by decide) ?_
          refine lv_iadd hx hb dX4_putsNumber_31 ?_
          refine g_V (As := [.int (48 + ((a1 / 1) - (a1 / 1) / 10 * 10))]) (rest := []) (lv := [(2, .int 1), (0, .ref mm), (1, .int a1)]) C hI hS (c_X4_puts l hB G2440 n2441 mm ag ab ah ch asv hs aas ain ty er awy ir ali (nI (i0 + 1)) th pl wr ato (gup lx i0 (48 + ((v0 / 10) % 10))) (i0 + 1) (48 + ((v0 / 1) % 10)) (48 + ((a1 / 1) - (a1 / 1) / 10 * 10)) c2445 c2446 (by omega) (by omega) rfl (by omega) (gadd nl48 (grem (gdiv ev nl1 (by omega) (by decide)) nl10 (by omega) (by decide))) (by omega)) c2445 rfl rfl q2925 q2927 qs72 q94 q2928 (⟨by decide, by decide, by decide⟩ : gArg _ 1) rfl ⟨by decide, by decide⟩ (by omega) hl rfl (Nat.le_of_ble_eq_true rfl) dX4_putsNumber_32 (fun v2448 G2449 n2450 H locs hp2451 hI hS => ?_) gKx.no
          obtain ⟨rfl, hn2452, hF2453, c2454, c2455⟩ := hp2451
          refine W.widen (k := 0) (n := 200 * (0)) (by omega) (by omega) ?_
          have hF := hF.trans hF2453 (by omega) (fun q hq => (fun h => h.elim (fun h => h ▸ (Or.inl rfl)) (fun h => h ▸ (Or.inr (rfl)))))
          refine lv_iload_n hx hb dX4_putsNumber_35 rfl (lv_at hl 0 rfl) ?_
          refine lv_bipush (v := 10) hx hb dX4_putsNumber_36 (by decide) ?_
          refine lv_idiv hx hb dX4_putsNumber_38 (by decide) ?_
          rw [show ((1 : Int32) / 10 : Int32) = 0 from by decide]
          refine lv_istore_n (lv' := [(2, .int 0), (0, .ref mm), (1, .int a1)]) hx hb dX4_putsNumber_39 rfl hl (by decide) rfl (fun ls hl => ?_)
          refine lv_goto (tgt := 18) hx hb dX4_putsNumber_40 (by decide) ?_
          refine lv_iload_n hx hb dX4_putsNumber_18 rfl (lv_at hl 0 rfl) ?_
          refine lv_if_le (tgt := 43) hx hb dX4_putsNumber_19 (by decide) (fun c_2456 => ?_) (fun c_2456 => ?_)
          · skip
            exact g_vret C hI hS (by omega) ⟨rfl, (by omega), hF, (by rw [show i0 + (sNum v0).length = (i0 + 1) + 1 from by unfold sNum; rw [sDg_len]; unfold sLg; (repeat' split) <;> omega]; exact c2454), (by rw [show sPut lx i0 (sNum v0) = gup (gup lx i0 (48 + ((v0 / 10) % 10))) (i0 + 1) (48 + ((v0 / 1) % 10)) from by rw [show sNum v0 = sDg v0 1 from by unfold sNum; congr 1; unfold sLg; (repeat' split) <;> omega]; simp [sDg, sPut]]; exact c2455)⟩ dX4_putsNumber_43
          · exact absurd (by decide) c_2456
    · skip
      try have k_2457 : ¬ ((v0 / 10) ≤ 9) := (not_congr (nI_leE (gdiv ev nl10 (by omega) (by decide)) nl9 (by omega) (by omega))).mp c_2436
      refine lv_iload_n hx hb dX4_putsNumber_10 rfl (lv_at hl 0 rfl) ?_
      refine lv_bipush (v := 10) hx hb dX4_putsNumber_11 (by decide) ?_
      refine lv_imul hx hb dX4_putsNumber_13 ?_
      rw [show ((10 : Int32) * 10 : Int32) = 100 from by decide]
      refine lv_istore_n (lv' := [(2, .int 100), (0, .ref mm), (1, .int a1)]) hx hb dX4_putsNumber_14 rfl hl (by decide) rfl (fun ls hl => ?_)
      refine lv_goto (tgt := 2) hx hb dX4_putsNumber_15 (by decide) ?_
      refine lv_iload_n hx hb dX4_putsNumber_2 rfl (lv_at hl 2 rfl) ?_
      refine lv_iload_n hx hb dX4_putsNumber_3 rfl (lv_at hl 0 rfl) ?_
      refine lv_idiv hx hb dX4_putsNumber_4 (by decide) ?_
      refine lv_bipush (v := 9) hx hb dX4_putsNumber_5 (by decide) ?_
      refine lv_icmp_le (tgt := 18) hx hb dX4_putsNumber_7 (by decide) (fun c_2458 => ?_) (fun c_2458 => ?_)
      · skip
        try have k_2459 : (v0 / 100) ≤ 9 := (nI_leE (gdiv ev nl100 (by omega) (by decide)) nl9 (by omega) (by omega)).mp c_2458
        refine lv_iload_n hx hb dX4_putsNumber_18 rfl (lv_at hl 0 rfl) ?_
        refine lv_if_le (tgt := 43) hx hb dX4_putsNumber_19 (by decide) (fun c_2460 => ?_) (fun c_2460 => ?_)
        · exact absurd c_2460 (by decide)
        · skip
          refine lv_aload_n hx hb dX4_putsNumber_22 rfl (lv_at hl 1 rfl) ?_
          refine lv_bipush (v := 48) hx hb dX4_putsNumber_23 (by decide) ?_
          refine lv_iload_n hx hb dX4_putsNumber_25 rfl (lv_at hl 2 rfl) ?_
          refine lv_iload_n hx hb dX4_putsNumber_26 rfl (lv_at hl 0 rfl) ?_
          refine lv_idiv hx hb dX4_putsNumber_27 (by decide) ?_
          refine lv_bipush (v := 10) hx hb dX4_putsNumber_28 (by decide) ?_
          refine lv_irem hx hb dX4_putsNumber_30 (by decide) ?_
          refine lv_iadd hx hb dX4_putsNumber_31 ?_
          refine g_V (As := [.int (48 + ((a1 / 100) - (a1 / 100) / 10 * 10))]) (rest := []) (lv := [(2, .int 100), (0, .ref mm), (1, .int a1)]) C hI hS (c_X4_puts l hB G n mm ag ab ah ch asv hs aas ain ty er awy ir ali ln th pl wr ato lx i0 (48 + ((v0 / 100) % 10)) (48 + ((a1 / 100) - (a1 / 100) / 10 * 10)) c0_ c1_ (by omega) (by omega) hln (by omega) (gadd nl48 (grem (gdiv ev nl100 (by omega) (by decide)) nl10 (by omega) (by decide))) (by omega)) c0_ rfl rfl q2925 q2927 qs72 q94 q2928 (⟨by decide, by decide, by decide⟩ : gArg _ 1) rfl ⟨by decide, by decide⟩ (by omega) hl rfl (Nat.le_of_ble_eq_true rfl) dX4_putsNumber_32 (fun v2461 G2462 n2463 H locs hp2464 hI hS => ?_) gKx.no
          obtain ⟨rfl, hn2465, hF2466, c2467, c2468⟩ := hp2464
          refine W.widen (k := 0) (n := 200 * (0)) (by omega) (by omega) ?_
          have hF := hF.trans hF2466 (by omega) (fun q hq => (fun h => h.elim (fun h => h ▸ (Or.inl rfl)) (fun h => h ▸ (Or.inr (rfl)))))
          refine lv_iload_n hx hb dX4_putsNumber_35 rfl (lv_at hl 0 rfl) ?_
          refine lv_bipush (v := 10) hx hb dX4_putsNumber_36 (by decide) ?_
          refine lv_idiv hx hb dX4_putsNumber_38 (by decide) ?_
          rw [show ((100 : Int32) / 10 : Int32) = 10 from by decide]
          refine lv_istore_n (lv' := [(2, .int 10), (0, .ref mm), (1, .int a1)]) hx hb dX4_putsNumber_39 rfl hl (by decide) rfl (fun ls hl => ?_)
          refine lv_goto (tgt := 18) hx hb dX4_putsNumber_40 (by decide) ?_
          refine lv_iload_n hx hb dX4_putsNumber_18 rfl (lv_at hl 0 rfl) ?_
          refine lv_if_le (tgt := 43) hx hb dX4_putsNumber_19 (by decide) (fun c_2469 => ?_) (fun c_2469 => ?_)
          · exact absurd c_2469 (by decide)
          · skip
            refine lv_aload_n hx hb dX4_putsNumber_22 rfl (lv_at hl 1 rfl) ?_
            refine lv_bipush (v := 48) hx hb dX4_putsNumber_23 (by decide) ?_
            refine lv_iload_n hx hb dX4_putsNumber_25 rfl (lv_at hl 2 rfl) ?_
            refine lv_iload_n hx hb dX4_putsNumber_26 rfl (lv_at hl 0 rfl) ?_
            refine lv_idiv hx hb dX4_putsNumber_27 (by decide) ?_
            refine lv_bipush (v := 10) hx hb dX4_putsNumber_28 (by decide) ?_
            refine lv_irem hx hb dX4_putsNumber_30 (by decide) ?_
            refine lv_iadd hx hb dX4_putsNumber_31 ?_
            refine g_V (As := [.int (48 + ((a1 / 10) - (a1 / 10) / 10 * 10))]) (rest := []) (lv := [(2, .int 10), (0, .ref mm), (1, .int a1)]) C hI hS (c_X4_puts l hB G2462 n2463 mm ag ab ah ch asv hs aas ain ty er awy ir ali (nI (i0 + 1)) th pl wr ato (gup lx i0 (48 + ((v0 / 100) % 10))) (i0 + 1) (48 + ((v0 / 10) % 10)) (48 + ((a1 / 10) - (a1 / 10) / 10 * 10)) c2467 c2468 (by omega) (by omega) rfl (by omega) (gadd nl48 (grem (gdiv ev nl10 (by omega) (by decide)) nl10 (by omega) (by decide))) (by omega)) c2467 rfl rfl q2925 q2927 qs72 q94 q2928 (⟨by decide, by decide, by decide⟩ : gArg _ 1) rfl ⟨by decide, by decide⟩ (by omega) hl rfl (Nat.le_of_ble_eq_true rfl) dX4_putsNumber_32 (fun v2470 G2471 n2472 H locs hp2473 hI hS => ?_) gKx.no
            obtain ⟨rfl, hn2474, hF2475, c2476, c2477⟩ := hp2473
            refine W.widen (k := 0) (n := 200 * (0)) (by omega) (by omega) ?_
            have hF := hF.trans hF2475 (by omega) (fun q hq => (fun h => h.elim (fun h => h ▸ (Or.inl rfl)) (fun h => h ▸ (Or.inr (rfl)))))
            refine lv_iload_n hx hb dX4_putsNumber_35 rfl (lv_at hl 0 rfl) ?_
            refine lv_bipush (v := 10) hx hb dX4_putsNumber_36 (by decide) ?_
            refine lv_idiv hx hb dX4_putsNumber_38 (by decide) ?_
            rw [show ((10 : Int32) / 10 : Int32) = 1 from by decide]
            refine lv_istore_n (lv' := [(2, .int 1), (0, .ref mm), (1, .int a1)]) hx hb dX4_putsNumber_39 rfl hl (by decide) rfl (fun ls hl => ?_)
            refine lv_goto (tgt := 18) hx hb dX4_putsNumber_40 (by decide) ?_
            refine lv_iload_n hx hb dX4_putsNumber_18 rfl (lv_at hl 0 rfl) ?_
            refine lv_if_le (tgt := 43) hx hb dX4_putsNumber_19 (by decide) (fun c_2478 => ?_) (fun c_2478 => ?_)
            · exact absurd c_2478 (by decide)
            · skip
              refine lv_aload_n hx hb dX4_putsNumber_22 rfl (lv_at hl 1 rfl) ?_
              refine lv_bipush (v := 48) hx hb dX4_putsNumber_23 (by decide) ?_
              refine lv_iload_n hx hb dX4_putsNumber_25 rfl (lv_at hl 2 rfl) ?_
              refine lv_iload_n hx hb dX4_putsNumber_26 rfl (lv_at hl 0 rfl) ?_
              refine lv_idiv hx hb dX4_putsNumber_27 (by decide) ?_
              refine lv_bipush (v := 10) hx hb dX4_putsNumber_28 (by decide) ?_
              refine lv_irem hx hb dX4_putsNumber_30 (by decide) ?_
              refine lv_iadd hx hb dX4_putsNumber_31 ?_
              refine g_V (As := [.int (48 + ((a1 / 1) - (a1 / 1) / 10 * 10))]) (rest := []) (lv := [(2, .int 1), (0, .ref mm), (1, .int a1)]) C hI hS (c_X4_puts l hB G2471 n2472 mm ag ab ah ch asv hs aas ain ty er awy ir ali (nI ((i0 + 1) + 1)) th pl wr ato (gup (gup lx i0 (48 + ((v0 / 100) % 10))) (i0 + 1) (48 + ((v0 / 10) % 10))) ((i0 + 1) + 1) (48 + ((v0 / 1) % 10)) (48 + ((a1 / 1) - (a1 / 1) / 10 * 10)) c2476 c2477 (by omega) (by omega) rfl (by omega) (gadd nl48 (grem (gdiv ev nl1 (by omega) (by decide)) nl10 (by omega) (by decide))) (by omega)) c2476 rfl rfl q2925 q2927 qs72 q94 q2928 (⟨by decide, by decide, by decide⟩ : gArg _ 1) rfl ⟨by decide, by decide⟩ (by omega) hl rfl (Nat.le_of_ble_eq_true rfl) dX4_putsNumber_32 (fun v2479 G2480 n2481 H locs hp2482 hI hS => ?_) gKx.no
              obtain ⟨rfl, hn2483, hF2484, c2485, c2486⟩ := hp2482
              refine W.widen (k := 0) (n := 200 * (0)) (by omega) (by omega) ?_
              have hF := hF.trans hF2484 (by omega) (fun q hq => (fun h => h.elim (fun h => h ▸ (Or.inl rfl)) (fun h => h ▸ (Or.inr (rfl)))))
              refine lv_iload_n hx hb dX4_putsNumber_35 rfl (lv_at hl 0 rfl) ?_
              refine lv_bipush (v := 10) hx hb dX4_putsNumber_36 (by decide) ?_
              refine lv_idiv hx hb dX4_putsNumber_38 (by decide) ?_
              rw [show ((1 : Int32) / 10 : Int32) = 0 from by decide]
              refine lv_istore_n (lv' := [(2, .int 0), (0, .ref mm), (1, .int a1)]) hx hb dX4_putsNumber_39 rfl hl (by decide) rfl (fun ls hl => ?_)
              refine lv_goto (tgt := 18) hx hb dX4_putsNumber_40 (by decide) ?_
              refine lv_iload_n hx hb dX4_putsNumber_18 rfl (lv_at hl 0 rfl) ?_
              refine lv_if_le (tgt := 43) hx hb dX4_putsNumber_19 (by decide) (fun c_2487 => ?_) (fun c_2487 => ?_)
              · skip
                exact g_vret C hI hS (by omega) ⟨rfl, (by omega), hF, (by rw [show i0 + (sNum v0).length = ((i0 + 1) + 1) + 1 from by unfold sNum; rw [sDg_len]; unfold sLg; (repeat' split) <;> omega]; exact c2485), (by rw [show sPut lx i0 (sNum v0) = gup (gup (gup lx i0 (48 + ((v0 / 100) % 10))) (i0 + 1) (48 + ((v0 / 10) % 10))) ((i0 + 1) + 1) (48 + ((v0 / 1) % 10)) from by rw [show sNum v0 = sDg v0 2 from by unfold sNum; congr 1; unfold sLg; (repeat' split) <;> omega]; simp [sDg, sPut]]; exact c2486)⟩ dX4_putsNumber_43
              · exact absurd (by decide) c_2487
      · skip
        try have k_2488 : ¬ ((v0 / 100) ≤ 9) := (not_congr (nI_leE (gdiv ev nl100 (by omega) (by decide)) nl9 (by omega) (by omega))).mp c_2458
        refine lv_iload_n hx hb dX4_putsNumber_10 rfl (lv_at hl 0 rfl) ?_
        refine lv_bipush (v := 10) hx hb dX4_putsNumber_11 (by decide) ?_
        refine lv_imul hx hb dX4_putsNumber_13 ?_
        rw [show ((100 : Int32) * 10 : Int32) = 1000 from by decide]
        refine lv_istore_n (lv' := [(2, .int 1000), (0, .ref mm), (1, .int a1)]) hx hb dX4_putsNumber_14 rfl hl (by decide) rfl (fun ls hl => ?_)
        refine lv_goto (tgt := 2) hx hb dX4_putsNumber_15 (by decide) ?_
        refine lv_iload_n hx hb dX4_putsNumber_2 rfl (lv_at hl 2 rfl) ?_
        refine lv_iload_n hx hb dX4_putsNumber_3 rfl (lv_at hl 0 rfl) ?_
        refine lv_idiv hx hb dX4_putsNumber_4 (by decide) ?_
        refine lv_bipush (v := 9) hx hb dX4_putsNumber_5 (by decide) ?_
        refine lv_icmp_le (tgt := 18) hx hb dX4_putsNumber_7 (by decide) (fun c_2489 => ?_) (fun c_2489 => ?_)
        · skip
          try have k_2490 : (v0 / 1000) ≤ 9 := (nI_leE (gdiv ev nl1000 (by omega) (by decide)) nl9 (by omega) (by omega)).mp c_2489
          refine lv_iload_n hx hb dX4_putsNumber_18 rfl (lv_at hl 0 rfl) ?_
          refine lv_if_le (tgt := 43) hx hb dX4_putsNumber_19 (by decide) (fun c_2491 => ?_) (fun c_2491 => ?_)
          · exact absurd c_2491 (by decide)
          · skip
            refine lv_aload_n hx hb dX4_putsNumber_22 rfl (lv_at hl 1 rfl) ?_
            refine lv_bipush (v := 48) hx hb dX4_putsNumber_23 (by decide) ?_
            refine lv_iload_n hx hb dX4_putsNumber_25 rfl (lv_at hl 2 rfl) ?_
            refine lv_iload_n hx hb dX4_putsNumber_26 rfl (lv_at hl 0 rfl) ?_
            refine lv_idiv hx hb dX4_putsNumber_27 (by decide) ?_
            refine lv_bipush (v := 10) hx hb dX4_putsNumber_28 (by decide) ?_
            refine lv_irem hx hb dX4_putsNumber_30 (by decide) ?_
            refine lv_iadd hx hb dX4_putsNumber_31 ?_
            refine g_V (As := [.int (48 + ((a1 / 1000) - (a1 / 1000) / 10 * 10))]) (rest := []) (lv := [(2, .int 1000), (0, .ref mm), (1, .int a1)]) C hI hS (c_X4_puts l hB G n mm ag ab ah ch asv hs aas ain ty er awy ir ali ln th pl wr ato lx i0 (48 + ((v0 / 1000) % 10)) (48 + ((a1 / 1000) - (a1 / 1000) / 10 * 10)) c0_ c1_ (by omega) (by omega) hln (by omega) (gadd nl48 (grem (gdiv ev nl1000 (by omega) (by decide)) nl10 (by omega) (by decide))) (by omega)) c0_ rfl rfl q2925 q2927 qs72 q94 q2928 (⟨by decide, by decide, by decide⟩ : gArg _ 1) rfl ⟨by decide, by decide⟩ (by omega) hl rfl (Nat.le_of_ble_eq_true rfl) dX4_putsNumber_32 (fun v2492 G2493 n2494 H locs hp2495 hI hS => ?_) gKx.no
            obtain ⟨rfl, hn2496, hF2497, c2498, c2499⟩ := hp2495
            refine W.widen (k := 0) (n := 200 * (0)) (by omega) (by omega) ?_
            have hF := hF.trans hF2497 (by omega) (fun q hq => (fun h => h.elim (fun h => h ▸ (Or.inl rfl)) (fun h => h ▸ (Or.inr (rfl)))))
            refine lv_iload_n hx hb dX4_putsNumber_35 rfl (lv_at hl 0 rfl) ?_
            refine lv_bipush (v := 10) hx hb dX4_putsNumber_36 (by decide) ?_
            refine lv_idiv hx hb dX4_putsNumber_38 (by decide) ?_
            rw [show ((1000 : Int32) / 10 : Int32) = 100 from by decide]
            refine lv_istore_n (lv' := [(2, .int 100), (0, .ref mm), (1, .int a1)]) hx hb dX4_putsNumber_39 rfl hl (by decide) rfl (fun ls hl => ?_)
            refine lv_goto (tgt := 18) hx hb dX4_putsNumber_40 (by decide) ?_
            refine lv_iload_n hx hb dX4_putsNumber_18 rfl (lv_at hl 0 rfl) ?_
            refine lv_if_le (tgt := 43) hx hb dX4_putsNumber_19 (by decide) (fun c_2500 => ?_) (fun c_2500 => ?_)
            · exact absurd c_2500 (by decide)
            · skip
              refine lv_aload_n hx hb dX4_putsNumber_22 rfl (lv_at hl 1 rfl) ?_
              refine lv_bipush (v := 48) hx hb dX4_putsNumber_23 (by decide) ?_
              refine lv_iload_n hx hb dX4_putsNumber_25 rfl (lv_at hl 2 rfl) ?_
              refine lv_iload_n hx hb dX4_putsNumber_26 rfl (lv_at hl 0 rfl) ?_
              refine lv_idiv hx hb dX4_putsNumber_27 (by decide) ?_
              refine lv_bipush (v := 10) hx hb dX4_putsNumber_28 (by decide) ?_
              refine lv_irem hx hb dX4_putsNumber_30 (by decide) ?_
              refine lv_iadd hx hb dX4_putsNumber_31 ?_
              refine g_V (As := [.int (48 + ((a1 / 100) - (a1 / 100) / 10 * 10))]) (rest := []) (lv := [(2, .int 100), (0, .ref mm), (1, .int a1)]) C hI hS (c_X4_puts l hB G2493 n2494 mm ag ab ah ch asv hs aas ain ty er awy ir ali (nI (i0 + 1)) th pl wr ato (gup lx i0 (48 + ((v0 / 1000) % 10))) (i0 + 1) (48 + ((v0 / 100) % 10)) (48 + ((a1 / 100) - (a1 / 100) / 10 * 10)) c2498 c2499 (by omega) (by omega) rfl (by omega) (gadd nl48 (grem (gdiv ev nl100 (by omega) (by decide)) nl10 (by omega) (by decide))) (by omega)) c2498 rfl rfl q2925 q2927 qs72 q94 q2928 (⟨by decide, by decide, by decide⟩ : gArg _ 1) rfl ⟨by decide, by decide⟩ (by omega) hl rfl (Nat.le_of_ble_eq_true rfl) dX4_putsNumber_32 (fun v2501 G2502 n2503 H locs hp2504 hI hS => ?_) gKx.no
              obtain ⟨rfl, hn2505, hF2506, c2507, c2508⟩ := hp2504
              refine W.widen (k := 0) (n := 200 * (0)) (by omega) (by omega) ?_
              have hF := hF.trans hF2506 (by omega) (fun q hq => (fun h => h.elim (fun h => h ▸ (Or.inl rfl)) (fun h => h ▸ (Or.inr (rfl)))))
              refine lv_iload_n hx hb dX4_putsNumber_35 rfl (lv_at hl 0 rfl) ?_
              refine lv_bipush (v := 10) hx hb dX4_putsNumber_36 (by decide) ?_
              refine lv_idiv hx hb dX4_putsNumber_38 (by decide) ?_
              rw [show ((100 : Int32) / 10 : Int32) = 10 from by decide]
              refine lv_istore_n (lv' := [(2, .int 10), (0, .ref mm), (1, .int a1)]) hx hb dX4_putsNumber_39 rfl hl (by decide) rfl (fun ls hl => ?_)
              refine lv_goto (tgt := 18) hx hb dX4_putsNumber_40 (by decide) ?_
              refine lv_iload_n hx hb dX4_putsNumber_18 rfl (lv_at hl 0 rfl) ?_
              refine lv_if_le (tgt := 43) hx hb dX4_putsNumber_19 (by decide) (fun c_2509 => ?_) (fun c_2509 => ?_)
              · exact absurd c_2509 (by decide)
              · skip
                refine lv_aload_n hx hb dX4_putsNumber_22 rfl (lv_at hl 1 rfl) ?_
                refine lv_bipush (v := 48) hx hb dX4_putsNumber_23 (by decide) ?_
                refine lv_iload_n hx hb dX4_putsNumber_25 rfl (lv_at hl 2 rfl) ?_
                refine lv_iload_n hx hb dX4_putsNumber_26 rfl (lv_at hl 0 rfl) ?_
                refine lv_idiv hx hb dX4_putsNumber_27 (by decide) ?_
                refine lv_bipush (v := 10) hx hb dX4_putsNumber_28 (by decide) ?_
                refine lv_irem hx hb dX4_putsNumber_30 (by decide) ?_
                refine lv_iadd hx hb dX4_putsNumber_31 ?_
                refine g_V (As := [.int (48 + ((a1 / 10) - (a1 / 10) / 10 * 10))]) (rest := []) (lv := [(2, .int 10), (0, .ref mm), (1, .int a1)]) C hI hS (c_X4_puts l hB G2502 n2503 mm ag ab ah ch asv hs aas ain ty er awy ir ali (nI ((i0 + 1) + 1)) th pl wr ato (gup (gup lx i0 (48 + ((v0 / 1000) % 10))) (i0 + 1) (48 + ((v0 / 100) % 10))) ((i0 + 1) + 1) (48 + ((v0 / 10) % 10)) (48 + ((a1 / 10) - (a1 / 10) / 10 * 10)) c2507 c2508 (by omega) (by omega) rfl (by omega) (gadd nl48 (grem (gdiv ev nl10 (by omega) (by decide)) nl10 (by omega) (by decide))) (by omega)) c2507 rfl rfl q2925 q2927 qs72 q94 q2928 (⟨by decide, by decide, by decide⟩ : gArg _ 1) rfl ⟨by decide, by decide⟩ (by omega) hl rfl (Nat.le_of_ble_eq_true rfl) dX4_putsNumber_32 (fun v2510 G2511 n2512 H locs hp2513 hI hS => ?_) gKx.no
                obtain ⟨rfl, hn2514, hF2515, c2516, c2517⟩ := hp2513
                refine W.widen (k := 0) (n := 200 * (0)) (by omega) (by omega) ?_
                have hF := hF.trans hF2515 (by omega) (fun q hq => (fun h => h.elim (fun h => h ▸ (Or.inl rfl)) (fun h => h ▸ (Or.inr (rfl)))))
                refine lv_iload_n hx hb dX4_putsNumber_35 rfl (lv_at hl 0 rfl) ?_
                refine lv_bipush (v := 10) hx hb dX4_putsNumber_36 (by decide) ?_
                refine lv_idiv hx hb dX4_putsNumber_38 (by decide) ?_
                rw [show ((10 : Int32) / 10 : Int32) = 1 from by decide]
                refine lv_istore_n (lv' := [(2, .int 1), (0, .ref mm), (1, .int a1)]) hx hb dX4_putsNumber_39 rfl hl (by decide) rfl (fun ls hl => ?_)
                refine lv_goto (tgt := 18) hx hb dX4_putsNumber_40 (by decide) ?_
                refine lv_iload_n hx hb dX4_putsNumber_18 rfl (lv_at hl 0 rfl) ?_
                refine lv_if_le (tgt := 43) hx hb dX4_putsNumber_19 (by decide) (fun c_2518 => ?_) (fun c_2518 => ?_)
                · exact absurd c_2518 (by decide)
                · skip
                  refine lv_aload_n hx hb dX4_putsNumber_22 rfl (lv_at hl 1 rfl) ?_
                  refine lv_bipush (v := 48) hx hb dX4_putsNumber_23 (by decide) ?_
                  refine lv_iload_n hx hb dX4_putsNumber_25 rfl (lv_at hl 2 rfl) ?_
                  refine lv_iload_n hx hb dX4_putsNumber_26 rfl (lv_at hl 0 rfl) ?_
                  refine lv_idiv hx hb dX4_putsNumber_27 (by decide) ?_
                  refine lv_bipush (v := 10) hx hb dX4_putsNumber_28 (by decide) ?_
                  refine lv_irem hx hb dX4_putsNumber_30 (by decide) ?_
                  refine lv_iadd hx hb dX4_putsNumber_31 ?_
                  refine g_V (As := [.int (48 + ((a1 / 1) - (a1 / 1) / 10 * 10))]) (rest := []) (lv := [(2, .int 1), (0, .ref mm), (1, .int a1)]) C hI hS (c_X4_puts l hB G2511 n2512 mm ag ab ah ch asv hs aas ain ty er awy ir ali (nI (((i0 + 1) + 1) + 1)) th pl wr ato (gup (gup (gup lx i0 (48 + ((v0 / 1000) % 10))) (i0 + 1) (48 + ((v0 / 100) % 10))) ((i0 + 1) + 1) (48 + ((v0 / 10) % 10))) (((i0 + 1) + 1) + 1) (48 + ((v0 / 1) % 10)) (48 + ((a1 / 1) - (a1 / 1) / 10 * 10)) c2516 c2517 (by omega) (by omega) rfl (by omega) (gadd nl48 (grem (gdiv ev nl1 (by omega) (by decide)) nl10 (by omega) (by decide))) (by omega)) c2516 rfl rfl q2925 q2927 qs72 q94 q2928 (⟨by decide, by decide, by decide⟩ : gArg _ 1) rfl ⟨by decide, by decide⟩ (by omega) hl rfl (Nat.le_of_ble_eq_true rfl) dX4_putsNumber_32 (fun v2519 G2520 n2521 H locs hp2522 hI hS => ?_) gKx.no
                  obtain ⟨rfl, hn2523, hF2524, c2525, c2526⟩ := hp2522
                  refine W.widen (k := 0) (n := 200 * (0)) (by omega) (by omega) ?_
                  have hF := hF.trans hF2524 (by omega) (fun q hq => (fun h => h.elim (fun h => h ▸ (Or.inl rfl)) (fun h => h ▸ (Or.inr (rfl)))))
                  refine lv_iload_n hx hb dX4_putsNumber_35 rfl (lv_at hl 0 rfl) ?_
                  refine lv_bipush (v := 10) hx hb dX4_putsNumber_36 (by decide) ?_
                  refine lv_idiv hx hb dX4_putsNumber_38 (by decide) ?_
                  rw [show ((1 : Int32) / 10 : Int32) = 0 from by decide]
                  refine lv_istore_n (lv' := [(2, .int 0), (0, .ref mm), (1, .int a1)]) hx hb dX4_putsNumber_39 rfl hl (by decide) rfl (fun ls hl => ?_)
                  refine lv_goto (tgt := 18) hx hb dX4_putsNumber_40 (by decide) ?_
                  refine lv_iload_n hx hb dX4_putsNumber_18 rfl (lv_at hl 0 rfl) ?_
                  refine lv_if_le (tgt := 43) hx hb dX4_putsNumber_19 (by decide) (fun c_2527 => ?_) (fun c_2527 => ?_)
                  · skip
                    exact g_vret C hI hS (by omega) ⟨rfl, (by omega), hF, (by rw [show i0 + (sNum v0).length = (((i0 + 1) + 1) + 1) + 1 from by unfold sNum; rw [sDg_len]; unfold sLg; (repeat' split) <;> omega]; exact c2525), (by rw [show sPut lx i0 (sNum v0) = gup (gup (gup (gup lx i0 (48 + ((v0 / 1000) % 10))) (i0 + 1) (48 + ((v0 / 100) % 10))) ((i0 + 1) + 1) (48 + ((v0 / 10) % 10))) (((i0 + 1) + 1) + 1) (48 + ((v0 / 1) % 10)) from by rw [show sNum v0 = sDg v0 3 from by unfold sNum; congr 1; unfold sLg; (repeat' split) <;> omega]; simp [sDg, sPut]]; exact c2526)⟩ dX4_putsNumber_43
                  · exact absurd (by decide) c_2527
        · skip
          try have k_2528 : ¬ ((v0 / 1000) ≤ 9) := (not_congr (nI_leE (gdiv ev nl1000 (by omega) (by decide)) nl9 (by omega) (by omega))).mp c_2489
          refine lv_iload_n hx hb dX4_putsNumber_10 rfl (lv_at hl 0 rfl) ?_
          refine lv_bipush (v := 10) hx hb dX4_putsNumber_11 (by decide) ?_
          refine lv_imul hx hb dX4_putsNumber_13 ?_
          rw [show ((1000 : Int32) * 10 : Int32) = 10000 from by decide]
          refine lv_istore_n (lv' := [(2, .int 10000), (0, .ref mm), (1, .int a1)]) hx hb dX4_putsNumber_14 rfl hl (by decide) rfl (fun ls hl => ?_)
          refine lv_goto (tgt := 2) hx hb dX4_putsNumber_15 (by decide) ?_
          refine lv_iload_n hx hb dX4_putsNumber_2 rfl (lv_at hl 2 rfl) ?_
          refine lv_iload_n hx hb dX4_putsNumber_3 rfl (lv_at hl 0 rfl) ?_
          refine lv_idiv hx hb dX4_putsNumber_4 (by decide) ?_
          refine lv_bipush (v := 9) hx hb dX4_putsNumber_5 (by decide) ?_
          refine lv_icmp_le (tgt := 18) hx hb dX4_putsNumber_7 (by decide) (fun c_2529 => ?_) (fun c_2529 => ?_)
          · skip
            try have k_2530 : (v0 / 10000) ≤ 9 := (nI_leE (gdiv ev nl10000 (by omega) (by decide)) nl9 (by omega) (by omega)).mp c_2529
            refine lv_iload_n hx hb dX4_putsNumber_18 rfl (lv_at hl 0 rfl) ?_
            refine lv_if_le (tgt := 43) hx hb dX4_putsNumber_19 (by decide) (fun c_2531 => ?_) (fun c_2531 => ?_)
            · exact absurd c_2531 (by decide)
            · skip
              refine lv_aload_n hx hb dX4_putsNumber_22 rfl (lv_at hl 1 rfl) ?_
              refine lv_bipush (v := 48) hx hb dX4_putsNumber_23 (by decide) ?_
              refine lv_iload_n hx hb dX4_putsNumber_25 rfl (lv_at hl 2 rfl) ?_
              refine lv_iload_n hx hb dX4_putsNumber_26 rfl (lv_at hl 0 rfl) ?_
              refine lv_idiv hx hb dX4_putsNumber_27 (by decide) ?_
              refine lv_bipush (v := 10) hx hb dX4_putsNumber_28 (by decide) ?_
              refine lv_irem hx hb dX4_putsNumber_30 (by decide) ?_
              refine lv_iadd hx hb dX4_putsNumber_31 ?_
              refine g_V (As := [.int (48 + ((a1 / 10000) - (a1 / 10000) / 10 * 10))]) (rest := []) (lv := [(2, .int 10000), (0, .ref mm), (1, .int a1)]) C hI hS (c_X4_puts l hB G n mm ag ab ah ch asv hs aas ain ty er awy ir ali ln th pl wr ato lx i0 (48 + ((v0 / 10000) % 10)) (48 + ((a1 / 10000) - (a1 / 10000) / 10 * 10)) c0_ c1_ (by omega) (by omega) hln (by omega) (gadd nl48 (grem (gdiv ev nl10000 (by omega) (by decide)) nl10 (by omega) (by decide))) (by omega)) c0_ rfl rfl q2925 q2927 qs72 q94 q2928 (⟨by decide, by decide, by decide⟩ : gArg _ 1) rfl ⟨by decide, by decide⟩ (by omega) hl rfl (Nat.le_of_ble_eq_true rfl) dX4_putsNumber_32 (fun v2532 G2533 n2534 H locs hp2535 hI hS => ?_) gKx.no
              obtain ⟨rfl, hn2536, hF2537, c2538, c2539⟩ := hp2535
              refine W.widen (k := 0) (n := 200 * (0)) (by omega) (by omega) ?_
              have hF := hF.trans hF2537 (by omega) (fun q hq => (fun h => h.elim (fun h => h ▸ (Or.inl rfl)) (fun h => h ▸ (Or.inr (rfl)))))
              refine lv_iload_n hx hb dX4_putsNumber_35 rfl (lv_at hl 0 rfl) ?_
              refine lv_bipush (v := 10) hx hb dX4_putsNumber_36 (by decide) ?_
              refine lv_idiv hx hb dX4_putsNumber_38 (by decide) ?_
              rw [show ((10000 : Int32) / 10 : Int32) = 1000 from by decide]
              refine lv_istore_n (lv' := [(2, .int 1000), (0, .ref mm), (1, .int a1)]) hx hb dX4_putsNumber_39 rfl hl (by decide) rfl (fun ls hl => ?_)
              refine lv_goto (tgt := 18) hx hb dX4_putsNumber_40 (by decide) ?_
              refine lv_iload_n hx hb dX4_putsNumber_18 rfl (lv_at hl 0 rfl) ?_
              refine lv_if_le (tgt := 43) hx hb dX4_putsNumber_19 (by decide) (fun c_2540 => ?_) (fun c_2540 => ?_)
              · exact absurd c_2540 (by decide)
              · skip
                refine lv_aload_n hx hb dX4_putsNumber_22 rfl (lv_at hl 1 rfl) ?_
                refine lv_bipush (v := 48) hx hb dX4_putsNumber_23 (by decide) ?_
                refine lv_iload_n hx hb dX4_putsNumber_25 rfl (lv_at hl 2 rfl) ?_
                refine lv_iload_n hx hb dX4_putsNumber_26 rfl (lv_at hl 0 rfl) ?_
                refine lv_idiv hx hb dX4_putsNumber_27 (by decide) ?_
                refine lv_bipush (v := 10) hx hb dX4_putsNumber_28 (by decide) ?_
                refine lv_irem hx hb dX4_putsNumber_30 (by decide) ?_
                refine lv_iadd hx hb dX4_putsNumber_31 ?_
                refine g_V (As := [.int (48 + ((a1 / 1000) - (a1 / 1000) / 10 * 10))]) (rest := []) (lv := [(2, .int 1000), (0, .ref mm), (1, .int a1)]) C hI hS (c_X4_puts l hB G2533 n2534 mm ag ab ah ch asv hs aas ain ty er awy ir ali (nI (i0 + 1)) th pl wr ato (gup lx i0 (48 + ((v0 / 10000) % 10))) (i0 + 1) (48 + ((v0 / 1000) % 10)) (48 + ((a1 / 1000) - (a1 / 1000) / 10 * 10)) c2538 c2539 (by omega) (by omega) rfl (by omega) (gadd nl48 (grem (gdiv ev nl1000 (by omega) (by decide)) nl10 (by omega) (by decide))) (by omega)) c2538 rfl rfl q2925 q2927 qs72 q94 q2928 (⟨by decide, by decide, by decide⟩ : gArg _ 1) rfl ⟨by decide, by decide⟩ (by omega) hl rfl (Nat.le_of_ble_eq_true rfl) dX4_putsNumber_32 (fun v2541 G2542 n2543 H locs hp2544 hI hS => ?_) gKx.no
                obtain ⟨rfl, hn2545, hF2546, c2547, c2548⟩ := hp2544
                refine W.widen (k := 0) (n := 200 * (0)) (by omega) (by omega) ?_
                have hF := hF.trans hF2546 (by omega) (fun q hq => (fun h => h.elim (fun h => h ▸ (Or.inl rfl)) (fun h => h ▸ (Or.inr (rfl)))))
                refine lv_iload_n hx hb dX4_putsNumber_35 rfl (lv_at hl 0 rfl) ?_
                refine lv_bipush (v := 10) hx hb dX4_putsNumber_36 (by decide) ?_
                refine lv_idiv hx hb dX4_putsNumber_38 (by decide) ?_
                rw [show ((1000 : Int32) / 10 : Int32) = 100 from by decide]
                refine lv_istore_n (lv' := [(2, .int 100), (0, .ref mm), (1, .int a1)]) hx hb dX4_putsNumber_39 rfl hl (by decide) rfl (fun ls hl => ?_)
                refine lv_goto (tgt := 18) hx hb dX4_putsNumber_40 (by decide) ?_
                refine lv_iload_n hx hb dX4_putsNumber_18 rfl (lv_at hl 0 rfl) ?_
                refine lv_if_le (tgt := 43) hx hb dX4_putsNumber_19 (by decide) (fun c_2549 => ?_) (fun c_2549 => ?_)
                · exact absurd c_2549 (by decide)
                · skip
                  refine lv_aload_n hx hb dX4_putsNumber_22 rfl (lv_at hl 1 rfl) ?_
                  refine lv_bipush (v := 48) hx hb dX4_putsNumber_23 (by decide) ?_
                  refine lv_iload_n hx hb dX4_putsNumber_25 rfl (lv_at hl 2 rfl) ?_
                  refine lv_iload_n hx hb dX4_putsNumber_26 rfl (lv_at hl 0 rfl) ?_
                  refine lv_idiv hx hb dX4_putsNumber_27 (by decide) ?_
                  refine lv_bipush (v := 10) hx hb dX4_putsNumber_28 (by decide) ?_
                  refine lv_irem hx hb dX4_putsNumber_30 (by decide) ?_
                  refine lv_iadd hx hb dX4_putsNumber_31 ?_
                  refine g_V (As := [.int (48 + ((a1 / 100) - (a1 / 100) / 10 * 10))]) (rest := []) (lv := [(2, .int 100), (0, .ref mm), (1, .int a1)]) C hI hS (c_X4_puts l hB G2542 n2543 mm ag ab ah ch asv hs aas ain ty er awy ir ali (nI ((i0 + 1) + 1)) th pl wr ato (gup (gup lx i0 (48 + ((v0 / 10000) % 10))) (i0 + 1) (48 + ((v0 / 1000) % 10))) ((i0 + 1) + 1) (48 + ((v0 / 100) % 10)) (48 + ((a1 / 100) - (a1 / 100) / 10 * 10)) c2547 c2548 (by omega) (by omega) rfl (by omega) (gadd nl48 (grem (gdiv ev nl100 (by omega) (by decide)) nl10 (by omega) (by decide))) (by omega)) c2547 rfl rfl q2925 q2927 qs72 q94 q2928 (⟨by decide, by decide, by decide⟩ : gArg _ 1) rfl ⟨by decide, by decide⟩ (by omega) hl rfl (Nat.le_of_ble_eq_true rfl) dX4_putsNumber_32 (fun v2550 G2551 n2552 H locs hp2553 hI hS => ?_) gKx.no
                  obtain ⟨rfl, hn2554, hF2555, c2556, c2557⟩ := hp2553
                  refine W.widen (k := 0) (n := 200 * (0)) (by omega) (by omega) ?_
                  have hF := hF.trans hF2555 (by omega) (fun q hq => (fun h => h.elim (fun h => h ▸ (Or.inl rfl)) (fun h => h ▸ (Or.inr (rfl)))))
                  refine lv_iload_n hx hb dX4_putsNumber_35 rfl (lv_at hl 0 rfl) ?_
                  refine lv_bipush (v := 10) hx hb dX4_putsNumber_36 (by decide) ?_
                  refine lv_idiv hx hb dX4_putsNumber_38 (by decide) ?_
                  rw [show ((100 : Int32) / 10 : Int32) = 10 from by decide]
                  refine lv_istore_n (lv' := [(2, .int 10), (0, .ref mm), (1, .int a1)]) hx hb dX4_putsNumber_39 rfl hl (by decide) rfl (fun ls hl => ?_)
                  refine lv_goto (tgt := 18) hx hb dX4_putsNumber_40 (by decide) ?_
                  refine lv_iload_n hx hb dX4_putsNumber_18 rfl (lv_at hl 0 rfl) ?_
                  refine lv_if_le (tgt := 43) hx hb dX4_putsNumber_19 (by decide) (fun c_2558 => ?_) (fun c_2558 => ?_)
                  · exact absurd c_2558 (by decide)
                  · skip
                    refine lv_aload_n hx hb dX4_putsNumber_22 rfl (lv_at hl 1 rfl) ?_
                    refine lv_bipush (v := 48) hx hb dX4_putsNumber_23 (by decide) ?_
                    refine lv_iload_n hx hb dX4_putsNumber_25 rfl (lv_at hl 2 rfl) ?_
                    refine lv_iload_n hx hb dX4_putsNumber_26 rfl (lv_at hl 0 rfl) ?_
                    refine lv_idiv hx hb dX4_putsNumber_27 (by decide) ?_
                    refine lv_bipush (v := 10) hx hb dX4_putsNumber_28 (by decide) ?_
                    refine lv_irem hx hb dX4_putsNumber_30 (by decide) ?_
                    refine lv_iadd hx hb dX4_putsNumber_31 ?_
                    refine g_V (As := [.int (48 + ((a1 / 10) - (a1 / 10) / 10 * 10))]) (rest := []) (lv := [(2, .int 10), (0, .ref mm), (1, .int a1)]) C hI hS (c_X4_puts l hB G2551 n2552 mm ag ab ah ch asv hs aas ain ty er awy ir ali (nI (((i0 + 1) + 1) + 1)) th pl wr ato (gup (gup (gup lx i0 (48 + ((v0 / 10000) % 10))) (i0 + 1) (48 + ((v0 / 1000) % 10))) ((i0 + 1) + 1) (48 + ((v0 / 100) % 10))) (((i0 + 1) + 1) + 1) (48 + ((v0 / 10) % 10)) (48 + ((a1 / 10) - (a1 / 10) / 10 * 10)) c2556 c2557 (by omega) (by omega) rfl (by omega) (gadd nl48 (grem (gdiv ev nl10 (by omega) (by decide)) nl10 (by omega) (by decide))) (by omega)) c2556 rfl rfl q2925 q2927 qs72 q94 q2928 (⟨by decide, by decide, by decide⟩ : gArg _ 1) rfl ⟨by decide, by decide⟩ (by omega) hl rfl (Nat.le_of_ble_eq_true rfl) dX4_putsNumber_32 (fun v2559 G2560 n2561 H locs hp2562 hI hS => ?_) gKx.no
                    obtain ⟨rfl, hn2563, hF2564, c2565, c2566⟩ := hp2562
                    refine W.widen (k := 0) (n := 200 * (0)) (by omega) (by omega) ?_
                    have hF := hF.trans hF2564 (by omega) (fun q hq => (fun h => h.elim (fun h => h ▸ (Or.inl rfl)) (fun h => h ▸ (Or.inr (rfl)))))
                    refine lv_iload_n hx hb dX4_putsNumber_35 rfl (lv_at hl 0 rfl) ?_
                    refine lv_bipush (v := 10) hx hb dX4_putsNumber_36 (by decide) ?_
                    refine lv_idiv hx hb dX4_putsNumber_38 (by decide) ?_
                    rw [show ((10 : Int32) / 10 : Int32) = 1 from by decide]
                    refine lv_istore_n (lv' := [(2, .int 1), (0, .ref mm), (1, .int a1)]) hx hb dX4_putsNumber_39 rfl hl (by decide) rfl (fun ls hl => ?_)
                    refine lv_goto (tgt := 18) hx hb dX4_putsNumber_40 (by decide) ?_
                    refine lv_iload_n hx hb dX4_putsNumber_18 rfl (lv_at hl 0 rfl) ?_
                    refine lv_if_le (tgt := 43) hx hb dX4_putsNumber_19 (by decide) (fun c_2567 => ?_) (fun c_2567 => ?_)
                    · exact absurd c_2567 (by decide)
                    · skip
                      refine lv_aload_n hx hb dX4_putsNumber_22 rfl (lv_at hl 1 rfl) ?_
                      refine lv_bipush (v := 48) hx hb dX4_putsNumber_23 (by decide) ?_
                      refine lv_iload_n hx hb dX4_putsNumber_25 rfl (lv_at hl 2 rfl) ?_
                      refine lv_iload_n hx hb dX4_putsNumber_26 rfl (lv_at hl 0 rfl) ?_
                      refine lv_idiv hx hb dX4_putsNumber_27 (by decide) ?_
                      refine lv_bipush (v := 10) hx hb dX4_putsNumber_28 (by decide) ?_
                      refine lv_irem hx hb dX4_putsNumber_30 (by decide) ?_
                      refine lv_iadd hx hb dX4_putsNumber_31 ?_
                      refine g_V (As := [.int (48 + ((a1 / 1) - (a1 / 1) / 10 * 10))]) (rest := []) (lv := [(2, .int 1), (0, .ref mm), (1, .int a1)]) C hI hS (c_X4_puts l hB G2560 n2561 mm ag ab ah ch asv hs aas ain ty er awy ir ali (nI ((((i0 + 1) + 1) + 1) + 1)) th pl wr ato (gup (gup (gup (gup lx i0 (48 + ((v0 / 10000) % 10))) (i0 + 1) (48 + ((v0 / 1000) % 10))) ((i0 + 1) + 1) (48 + ((v0 / 100) % 10))) (((i0 + 1) + 1) + 1) (48 + ((v0 / 10) % 10))) ((((i0 + 1) + 1) + 1) + 1) (48 + ((v0 / 1) % 10)) (48 + ((a1 / 1) - (a1 / 1) / 10 * 10)) c2565 c2566 (by omega) (by omega) rfl (by omega) (gadd nl48 (grem (gdiv ev nl1 (by omega) (by decide)) nl10 (by omega) (by decide))) (by omega)) c2565 rfl rfl q2925 q2927 qs72 q94 q2928 (⟨by decide, by decide, by decide⟩ : gArg _ 1) rfl ⟨by decide, by decide⟩ (by omega) hl rfl (Nat.le_of_ble_eq_true rfl) dX4_putsNumber_32 (fun v2568 G2569 n2570 H locs hp2571 hI hS => ?_) gKx.no
                      obtain ⟨rfl, hn2572, hF2573, c2574, c2575⟩ := hp2571
                      refine W.widen (k := 0) (n := 200 * (0)) (by omega) (by omega) ?_
                      have hF := hF.trans hF2573 (by omega) (fun q hq => (fun h => h.elim (fun h => h ▸ (Or.inl rfl)) (fun h => h ▸ (Or.inr (rfl)))))
                      refine lv_iload_n hx hb dX4_putsNumber_35 rfl (lv_at hl 0 rfl) ?_
                      refine lv_bipush (v := 10) hx hb dX4_putsNumber_36 (by decide) ?_
                      refine lv_idiv hx hb dX4_putsNumber_38 (by decide) ?_
                      rw [show ((1 : Int32) / 10 : Int32) = 0 from by decide]
                      refine lv_istore_n (lv' := [(2, .int 0), (0, .ref mm), (1, .int a1)]) hx hb dX4_putsNumber_39 rfl hl (by decide) rfl (fun ls hl => ?_)
                      refine lv_goto (tgt := 18) hx hb dX4_putsNumber_40 (by decide) ?_
                      refine lv_iload_n hx hb dX4_putsNumber_18 rfl (lv_at hl 0 rfl) ?_
                      refine lv_if_le (tgt := 43) hx hb dX4_putsNumber_19 (by decide) (fun c_2576 => ?_) (fun c_2576 => ?_)
                      · skip
                        exact g_vret C hI hS (by omega) ⟨rfl, (by omega), hF, (by rw [show i0 + (sNum v0).length = ((((i0 + 1) + 1) + 1) + 1) + 1 from by unfold sNum; rw [sDg_len]; unfold sLg; (repeat' split) <;> omega]; exact c2574), (by rw [show sPut lx i0 (sNum v0) = gup (gup (gup (gup (gup lx i0 (48 + ((v0 / 10000) % 10))) (i0 + 1) (48 + ((v0 / 1000) % 10))) ((i0 + 1) + 1) (48 + ((v0 / 100) % 10))) (((i0 + 1) + 1) + 1) (48 + ((v0 / 10) % 10))) ((((i0 + 1) + 1) + 1) + 1) (48 + ((v0 / 1) % 10)) from by rw [show sNum v0 = sDg v0 4 from by unfold sNum; congr 1; unfold sLg; (repeat' split) <;> omega]; simp [sDg, sPut]]; exact c2575)⟩ dX4_putsNumber_43
                      · exact absurd (by decide) c_2576
          · skip
            try have k_2577 : ¬ ((v0 / 10000) ≤ 9) := (not_congr (nI_leE (gdiv ev nl10000 (by omega) (by decide)) nl9 (by omega) (by omega))).mp c_2529
            refine lv_iload_n hx hb dX4_putsNumber_10 rfl (lv_at hl 0 rfl) ?_
            refine lv_bipush (v := 10) hx hb dX4_putsNumber_11 (by decide) ?_
            refine lv_imul hx hb dX4_putsNumber_13 ?_
            rw [show ((10000 : Int32) * 10 : Int32) = 100000 from by decide]
            refine lv_istore_n (lv' := [(2, .int 100000), (0, .ref mm), (1, .int a1)]) hx hb dX4_putsNumber_14 rfl hl (by decide) rfl (fun ls hl => ?_)
            refine lv_goto (tgt := 2) hx hb dX4_putsNumber_15 (by decide) ?_
            refine lv_iload_n hx hb dX4_putsNumber_2 rfl (lv_at hl 2 rfl) ?_
            refine lv_iload_n hx hb dX4_putsNumber_3 rfl (lv_at hl 0 rfl) ?_
            refine lv_idiv hx hb dX4_putsNumber_4 (by decide) ?_
            refine lv_bipush (v := 9) hx hb dX4_putsNumber_5 (by decide) ?_
            refine lv_icmp_le (tgt := 18) hx hb dX4_putsNumber_7 (by decide) (fun c_2578 => ?_) (fun c_2578 => ?_)
            · skip
              try have k_2579 : (v0 / 100000) ≤ 9 := (nI_leE (gdiv ev nl100000 (by omega) (by decide)) nl9 (by omega) (by omega)).mp c_2578
              refine lv_iload_n hx hb dX4_putsNumber_18 rfl (lv_at hl 0 rfl) ?_
              refine lv_if_le (tgt := 43) hx hb dX4_putsNumber_19 (by decide) (fun c_2580 => ?_) (fun c_2580 => ?_)
              · exact absurd c_2580 (by decide)
              · skip
                refine lv_aload_n hx hb dX4_putsNumber_22 rfl (lv_at hl 1 rfl) ?_
                refine lv_bipush (v := 48) hx hb dX4_putsNumber_23 (by decide) ?_
                refine lv_iload_n hx hb dX4_putsNumber_25 rfl (lv_at hl 2 rfl) ?_
                refine lv_iload_n hx hb dX4_putsNumber_26 rfl (lv_at hl 0 rfl) ?_
                refine lv_idiv hx hb dX4_putsNumber_27 (by decide) ?_
                refine lv_bipush (v := 10) hx hb dX4_putsNumber_28 (by decide) ?_
                refine lv_irem hx hb dX4_putsNumber_30 (by decide) ?_
                refine lv_iadd hx hb dX4_putsNumber_31 ?_
                refine g_V (As := [.int (48 + ((a1 / 100000) - (a1 / 100000) / 10 * 10))]) (rest := []) (lv := [(2, .int 100000), (0, .ref mm), (1, .int a1)]) C hI hS (c_X4_puts l hB G n mm ag ab ah ch asv hs aas ain ty er awy ir ali ln th pl wr ato lx i0 (48 + ((v0 / 100000) % 10)) (48 + ((a1 / 100000) - (a1 / 100000) / 10 * 10)) c0_ c1_ (by omega) (by omega) hln (by omega) (gadd nl48 (grem (gdiv ev nl100000 (by omega) (by decide)) nl10 (by omega) (by decide))) (by omega)) c0_ rfl rfl q2925 q2927 qs72 q94 q2928 (⟨by decide, by decide, by decide⟩ : gArg _ 1) rfl ⟨by decide, by decide⟩ (by omega) hl rfl (Nat.le_of_ble_eq_true rfl) dX4_putsNumber_32 (fun v2581 G2582 n2583 H locs hp2584 hI hS => ?_) gKx.no
                obtain ⟨rfl, hn2585, hF2586, c2587, c2588⟩ := hp2584
                refine W.widen (k := 0) (n := 200 * (0)) (by omega) (by omega) ?_
                have hF := hF.trans hF2586 (by omega) (fun q hq => (fun h => h.elim (fun h => h ▸ (Or.inl rfl)) (fun h => h ▸ (Or.inr (rfl)))))
                refine lv_iload_n hx hb dX4_putsNumber_35 rfl (lv_at hl 0 rfl) ?_
                refine lv_bipush (v := 10) hx hb dX4_putsNumber_36 (by decide) ?_
                refine lv_idiv hx hb dX4_putsNumber_38 (by decide) ?_
                rw [show ((100000 : Int32) / 10 : Int32) = 10000 from by decide]
                refine lv_istore_n (lv' := [(2, .int 10000), (0, .ref mm), (1, .int a1)]) hx hb dX4_putsNumber_39 rfl hl (by decide) rfl (fun ls hl => ?_)
                refine lv_goto (tgt := 18) hx hb dX4_putsNumber_40 (by decide) ?_
                refine lv_iload_n hx hb dX4_putsNumber_18 rfl (lv_at hl 0 rfl) ?_
                refine lv_if_le (tgt := 43) hx hb dX4_putsNumber_19 (by decide) (fun c_2589 => ?_) (fun c_2589 => ?_)
                · exact absurd c_2589 (by decide)
                · skip
                  refine lv_aload_n hx hb dX4_putsNumber_22 rfl (lv_at hl 1 rfl) ?_
                  refine lv_bipush (v := 48) hx hb dX4_putsNumber_23 (by decide) ?_
                  refine lv_iload_n hx hb dX4_putsNumber_25 rfl (lv_at hl 2 rfl) ?_
                  refine lv_iload_n hx hb dX4_putsNumber_26 rfl (lv_at hl 0 rfl) ?_
                  refine lv_idiv hx hb dX4_putsNumber_27 (by decide) ?_
                  refine lv_bipush (v := 10) hx hb dX4_putsNumber_28 (by decide) ?_
                  refine lv_irem hx hb dX4_putsNumber_30 (by decide) ?_
                  refine lv_iadd hx hb dX4_putsNumber_31 ?_
                  refine g_V (As := [.int (48 + ((a1 / 10000) - (a1 / 10000) / 10 * 10))]) (rest := []) (lv := [(2, .int 10000), (0, .ref mm), (1, .int a1)]) C hI hS (c_X4_puts l hB G2582 n2583 mm ag ab ah ch asv hs aas ain ty er awy ir ali (nI (i0 + 1)) th pl wr ato (gup lx i0 (48 + ((v0 / 100000) % 10))) (i0 + 1) (48 + ((v0 / 10000) % 10)) (48 + ((a1 / 10000) - (a1 / 10000) / 10 * 10)) c2587 c2588 (by omega) (by omega) rfl (by omega) (gadd nl48 (grem (gdiv ev nl10000 (by omega) (by decide)) nl10 (by omega) (by decide))) (by omega)) c2587 rfl rfl q2925 q2927 qs72 q94 q2928 (⟨by decide, by decide, by decide⟩ : gArg _ 1) rfl ⟨by decide, by decide⟩ (by omega) hl rfl (Nat.le_of_ble_eq_true rfl) dX4_putsNumber_32 (fun v2590 G2591 n2592 H locs hp2593 hI hS => ?_) gKx.no
                  obtain ⟨rfl, hn2594, hF2595, c2596, c2597⟩ := hp2593
                  refine W.widen (k := 0) (n := 200 * (0)) (by omega) (by omega) ?_
                  have hF := hF.trans hF2595 (by omega) (fun q hq => (fun h => h.elim (fun h => h ▸ (Or.inl rfl)) (fun h => h ▸ (Or.inr (rfl)))))
                  refine lv_iload_n hx hb dX4_putsNumber_35 rfl (lv_at hl 0 rfl) ?_
                  refine lv_bipush (v := 10) hx hb dX4_putsNumber_36 (by decide) ?_
                  refine lv_idiv hx hb dX4_putsNumber_38 (by decide) ?_
                  rw [show ((10000 : Int32) / 10 : Int32) = 1000 from by decide]
                  refine lv_istore_n (lv' := [(2, .int 1000), (0, .ref mm), (1, .int a1)]) hx hb dX4_putsNumber_39 rfl hl (by decide) rfl (fun ls hl => ?_)
                  refine lv_goto (tgt := 18) hx hb dX4_putsNumber_40 (by decide) ?_
                  refine lv_iload_n hx hb dX4_putsNumber_18 rfl (lv_at hl 0 rfl) ?_
                  refine lv_if_le (tgt := 43) hx hb dX4_putsNumber_19 (by decide) (fun c_2598 => ?_) (fun c_2598 => ?_)
                  · exact absurd c_2598 (by decide)
                  · skip
                    refine lv_aload_n hx hb dX4_putsNumber_22 rfl (lv_at hl 1 rfl) ?_
                    refine lv_bipush (v := 48) hx hb dX4_putsNumber_23 (by decide) ?_
                    refine lv_iload_n hx hb dX4_putsNumber_25 rfl (lv_at hl 2 rfl) ?_
                    refine lv_iload_n hx hb dX4_putsNumber_26 rfl (lv_at hl 0 rfl) ?_
                    refine lv_idiv hx hb dX4_putsNumber_27 (by decide) ?_
                    refine lv_bipush (v := 10) hx hb dX4_putsNumber_28 (by decide) ?_
                    refine lv_irem hx hb dX4_putsNumber_30 (by decide) ?_
                    refine lv_iadd hx hb dX4_putsNumber_31 ?_
                    refine g_V (As := [.int (48 + ((a1 / 1000) - (a1 / 1000) / 10 * 10))]) (rest := []) (lv := [(2, .int 1000), (0, .ref mm), (1, .int a1)]) C hI hS (c_X4_puts l hB G2591 n2592 mm ag ab ah ch asv hs aas ain ty er awy ir ali (nI ((i0 + 1) + 1)) th pl wr ato (gup (gup lx i0 (48 + ((v0 / 100000) % 10))) (i0 + 1) (48 + ((v0 / 10000) % 10))) ((i0 + 1) + 1) (48 + ((v0 / 1000) % 10)) (48 + ((a1 / 1000) - (a1 / 1000) / 10 * 10)) c2596 c2597 (by omega) (by omega) rfl (by omega) (gadd nl48 (grem (gdiv ev nl1000 (by omega) (by decide)) nl10 (by omega) (by decide))) (by omega)) c2596 rfl rfl q2925 q2927 qs72 q94 q2928 (⟨by decide, by decide, by decide⟩ : gArg _ 1) rfl ⟨by decide, by decide⟩ (by omega) hl rfl (Nat.le_of_ble_eq_true rfl) dX4_putsNumber_32 (fun v2599 G2600 n2601 H locs hp2602 hI hS => ?_) gKx.no
                    obtain ⟨rfl, hn2603, hF2604, c2605, c2606⟩ := hp2602
                    refine W.widen (k := 0) (n := 200 * (0)) (by omega) (by omega) ?_
                    have hF := hF.trans hF2604 (by omega) (fun q hq => (fun h => h.elim (fun h => h ▸ (Or.inl rfl)) (fun h => h ▸ (Or.inr (rfl)))))
                    refine lv_iload_n hx hb dX4_putsNumber_35 rfl (lv_at hl 0 rfl) ?_
                    refine lv_bipush (v := 10) hx hb dX4_putsNumber_36 (by decide) ?_
                    refine lv_idiv hx hb dX4_putsNumber_38 (by decide) ?_
                    rw [show ((1000 : Int32) / 10 : Int32) = 100 from by decide]
                    refine lv_istore_n (lv' := [(2, .int 100), (0, .ref mm), (1, .int a1)]) hx hb dX4_putsNumber_39 rfl hl (by decide) rfl (fun ls hl => ?_)
                    refine lv_goto (tgt := 18) hx hb dX4_putsNumber_40 (by decide) ?_
                    refine lv_iload_n hx hb dX4_putsNumber_18 rfl (lv_at hl 0 rfl) ?_
                    refine lv_if_le (tgt := 43) hx hb dX4_putsNumber_19 (by decide) (fun c_2607 => ?_) (fun c_2607 => ?_)
                    · exact absurd c_2607 (by decide)
                    · skip
                      refine lv_aload_n hx hb dX4_putsNumber_22 rfl (lv_at hl 1 rfl) ?_
                      refine lv_bipush (v := 48) hx hb dX4_putsNumber_23 (by decide) ?_
                      refine lv_iload_n hx hb dX4_putsNumber_25 rfl (lv_at hl 2 rfl) ?_
                      refine lv_iload_n hx hb dX4_putsNumber_26 rfl (lv_at hl 0 rfl) ?_
                      refine lv_idiv hx hb dX4_putsNumber_27 (by decide) ?_
                      refine lv_bipush (v := 10) hx hb dX4_putsNumber_28 (by decide) ?_
                      refine lv_irem hx hb dX4_putsNumber_30 (by decide) ?_
                      refine lv_iadd hx hb dX4_putsNumber_31 ?_
                      refine g_V (As := [.int (48 + ((a1 / 100) - (a1 / 100) / 10 * 10))]) (rest := []) (lv := [(2, .int 100), (0, .ref mm), (1, .int a1)]) C hI hS (c_X4_puts l hB G2600 n2601 mm ag ab ah ch asv hs aas ain ty er awy ir ali (nI (((i0 + 1) + 1) + 1)) th pl wr ato (gup (gup (gup lx i0 (48 + ((v0 / 100000) % 10))) (i0 + 1) (48 + ((v0 / 10000) % 10))) ((i0 + 1) + 1) (48 + ((v0 / 1000) % 10))) (((i0 + 1) + 1) + 1) (48 + ((v0 / 100) % 10)) (48 + ((a1 / 100) - (a1 / 100) / 10 * 10)) c2605 c2606 (by omega) (by omega) rfl (by omega) (gadd nl48 (grem (gdiv ev nl100 (by omega) (by decide)) nl10 (by omega) (by decide))) (by omega)) c2605 rfl rfl q2925 q2927 qs72 q94 q2928 (⟨by decide, by decide, by decide⟩ : gArg _ 1) rfl ⟨by decide, by decide⟩ (by omega) hl rfl (Nat.le_of_ble_eq_true rfl) dX4_putsNumber_32 (fun v2608 G2609 n2610 H locs hp2611 hI hS => ?_) gKx.no
                      obtain ⟨rfl, hn2612, hF2613, c2614, c2615⟩ := hp2611
                      refine W.widen (k := 0) (n := 200 * (0)) (by omega) (by omega) ?_
                      have hF := hF.trans hF2613 (by omega) (fun q hq => (fun h => h.elim (fun h => h ▸ (Or.inl rfl)) (fun h => h ▸ (Or.inr (rfl)))))
                      refine lv_iload_n hx hb dX4_putsNumber_35 rfl (lv_at hl 0 rfl) ?_
                      refine lv_bipush (v := 10) hx hb dX4_putsNumber_36 (by decide) ?_
                      refine lv_idiv hx hb dX4_putsNumber_38 (by decide) ?_
                      rw [show ((100 : Int32) / 10 : Int32) = 10 from by decide]
                      refine lv_istore_n (lv' := [(2, .int 10), (0, .ref mm), (1, .int a1)]) hx hb dX4_putsNumber_39 rfl hl (by decide) rfl (fun ls hl => ?_)
                      refine lv_goto (tgt := 18) hx hb dX4_putsNumber_40 (by decide) ?_
                      refine lv_iload_n hx hb dX4_putsNumber_18 rfl (lv_at hl 0 rfl) ?_
                      refine lv_if_le (tgt := 43) hx hb dX4_putsNumber_19 (by decide) (fun c_2616 => ?_) (fun c_2616 => ?_)
                      · exact absurd c_2616 (by decide)
                      · skip
                        refine lv_aload_n hx hb dX4_putsNumber_22 rfl (lv_at hl 1 rfl) ?_
                        refine lv_bipush (v := 48) hx hb dX4_putsNumber_23 (by decide) ?_
                        refine lv_iload_n hx hb dX4_putsNumber_25 rfl (lv_at hl 2 rfl) ?_
                        refine lv_iload_n hx hb dX4_putsNumber_26 rfl (lv_at hl 0 rfl) ?_
                        refine lv_idiv hx hb dX4_putsNumber_27 (by decide) ?_
                        refine lv_bipush (v := 10) hx hb dX4_putsNumber_28 (by decide) ?_
                        refine lv_irem hx hb dX4_putsNumber_30 (by decide) ?_
                        refine lv_iadd hx hb dX4_putsNumber_31 ?_
                        refine g_V (As := [.int (48 + ((a1 / 10) - (a1 / 10) / 10 * 10))]) (rest := []) (lv := [(2, .int 10), (0, .ref mm), (1, .int a1)]) C hI hS (c_X4_puts l hB G2609 n2610 mm ag ab ah ch asv hs aas ain ty er awy ir ali (nI ((((i0 + 1) + 1) + 1) + 1)) th pl wr ato (gup (gup (gup (gup lx i0 (48 + ((v0 / 100000) % 10))) (i0 + 1) (48 + ((v0 / 10000) % 10))) ((i0 + 1) + 1) (48 + ((v0 / 1000) % 10))) (((i0 + 1) + 1) + 1) (48 + ((v0 / 100) % 10))) ((((i0 + 1) + 1) + 1) + 1) (48 + ((v0 / 10) % 10)) (48 + ((a1 / 10) - (a1 / 10) / 10 * 10)) c2614 c2615 (by omega) (by omega) rfl (by omega) (gadd nl48 (grem (gdiv ev nl10 (by omega) (by decide)) nl10 (by omega) (by decide))) (by omega)) c2614 rfl rfl q2925 q2927 qs72 q94 q2928 (⟨by decide, by decide, by decide⟩ : gArg _ 1) rfl ⟨by decide, by decide⟩ (by omega) hl rfl (Nat.le_of_ble_eq_true rfl) dX4_putsNumber_32 (fun v2617 G2618 n2619 H locs hp2620 hI hS => ?_) gKx.no
                        obtain ⟨rfl, hn2621, hF2622, c2623, c2624⟩ := hp2620
                        refine W.widen (k := 0) (n := 200 * (0)) (by omega) (by omega) ?_
                        have hF := hF.trans hF2622 (by omega) (fun q hq => (fun h => h.elim (fun h => h ▸ (Or.inl rfl)) (fun h => h ▸ (Or.inr (rfl)))))
                        refine lv_iload_n hx hb dX4_putsNumber_35 rfl (lv_at hl 0 rfl) ?_
                        refine lv_bipush (v := 10) hx hb dX4_putsNumber_36 (by decide) ?_
                        refine lv_idiv hx hb dX4_putsNumber_38 (by decide) ?_
                        rw [show ((10 : Int32) / 10 : Int32) = 1 from by decide]
                        refine lv_istore_n (lv' := [(2, .int 1), (0, .ref mm), (1, .int a1)]) hx hb dX4_putsNumber_39 rfl hl (by decide) rfl (fun ls hl => ?_)
                        refine lv_goto (tgt := 18) hx hb dX4_putsNumber_40 (by decide) ?_
                        refine lv_iload_n hx hb dX4_putsNumber_18 rfl (lv_at hl 0 rfl) ?_
                        refine lv_if_le (tgt := 43) hx hb dX4_putsNumber_19 (by decide) (fun c_2625 => ?_) (fun c_2625 => ?_)
                        · exact absurd c_2625 (by decide)
                        · skip
                          refine lv_aload_n hx hb dX4_putsNumber_22 rfl (lv_at hl 1 rfl) ?_
                          refine lv_bipush (v := 48) hx hb dX4_putsNumber_23 (by decide) ?_
                          refine lv_iload_n hx hb dX4_putsNumber_25 rfl (lv_at hl 2 rfl) ?_
                          refine lv_iload_n hx hb dX4_putsNumber_26 rfl (lv_at hl 0 rfl) ?_
                          refine lv_idiv hx hb dX4_putsNumber_27 (by decide) ?_
                          refine lv_bipush (v := 10) hx hb dX4_putsNumber_28 (by decide) ?_
                          refine lv_irem hx hb dX4_putsNumber_30 (by decide) ?_
                          refine lv_iadd hx hb dX4_putsNumber_31 ?_
                          refine g_V (As := [.int (48 + ((a1 / 1) - (a1 / 1) / 10 * 10))]) (rest := []) (lv := [(2, .int 1), (0, .ref mm), (1, .int a1)]) C hI hS (c_X4_puts l hB G2618 n2619 mm ag ab ah ch asv hs aas ain ty er awy ir ali (nI (((((i0 + 1) + 1) + 1) + 1) + 1)) th pl wr ato (gup (gup (gup (gup (gup lx i0 (48 + ((v0 / 100000) % 10))) (i0 + 1) (48 + ((v0 / 10000) % 10))) ((i0 + 1) + 1) (48 + ((v0 / 1000) % 10))) (((i0 + 1) + 1) + 1) (48 + ((v0 / 100) % 10))) ((((i0 + 1) + 1) + 1) + 1) (48 + ((v0 / 10) % 10))) (((((i0 + 1) + 1) + 1) + 1) + 1) (48 + ((v0 / 1) % 10)) (48 + ((a1 / 1) - (a1 / 1) / 10 * 10)) c2623 c2624 (by omega) (by omega) rfl (by omega) (gadd nl48 (grem (gdiv ev nl1 (by omega) (by decide)) nl10 (by omega) (by decide))) (by omega)) c2623 rfl rfl q2925 q2927 qs72 q94 q2928 (⟨by decide, by decide, by decide⟩ : gArg _ 1) rfl ⟨by decide, by decide⟩ (by omega) hl rfl (Nat.le_of_ble_eq_true rfl) dX4_putsNumber_32 (fun v2626 G2627 n2628 H locs hp2629 hI hS => ?_) gKx.no
                          obtain ⟨rfl, hn2630, hF2631, c2632, c2633⟩ := hp2629
                          refine W.widen (k := 0) (n := 200 * (0)) (by omega) (by omega) ?_
                          have hF := hF.trans hF2631 (by omega) (fun q hq => (fun h => h.elim (fun h => h ▸ (Or.inl rfl)) (fun h => h ▸ (Or.inr (rfl)))))
                          refine lv_iload_n hx hb dX4_putsNumber_35 rfl (lv_at hl 0 rfl) ?_
                          refine lv_bipush (v := 10) hx hb dX4_putsNumber_36 (by decide) ?_
                          refine lv_idiv hx hb dX4_putsNumber_38 (by decide) ?_
                          rw [show ((1 : Int32) / 10 : Int32) = 0 from by decide]
                          refine lv_istore_n (lv' := [(2, .int 0), (0, .ref mm), (1, .int a1)]) hx hb dX4_putsNumber_39 rfl hl (by decide) rfl (fun ls hl => ?_)
                          refine lv_goto (tgt := 18) hx hb dX4_putsNumber_40 (by decide) ?_
                          refine lv_iload_n hx hb dX4_putsNumber_18 rfl (lv_at hl 0 rfl) ?_
                          refine lv_if_le (tgt := 43) hx hb dX4_putsNumber_19 (by decide) (fun c_2634 => ?_) (fun c_2634 => ?_)
                          · skip
                            exact g_vret C hI hS (by omega) ⟨rfl, (by omega), hF, (by rw [show i0 + (sNum v0).length = (((((i0 + 1) + 1) + 1) + 1) + 1) + 1 from by unfold sNum; rw [sDg_len]; unfold sLg; (repeat' split) <;> omega]; exact c2632), (by rw [show sPut lx i0 (sNum v0) = gup (gup (gup (gup (gup (gup lx i0 (48 + ((v0 / 100000) % 10))) (i0 + 1) (48 + ((v0 / 10000) % 10))) ((i0 + 1) + 1) (48 + ((v0 / 1000) % 10))) (((i0 + 1) + 1) + 1) (48 + ((v0 / 100) % 10))) ((((i0 + 1) + 1) + 1) + 1) (48 + ((v0 / 10) % 10))) (((((i0 + 1) + 1) + 1) + 1) + 1) (48 + ((v0 / 1) % 10)) from by rw [show sNum v0 = sDg v0 5 from by unfold sNum; congr 1; unfold sLg; (repeat' split) <;> omega]; simp [sDg, sPut]]; exact c2633)⟩ dX4_putsNumber_43
                          · exact absurd (by decide) c_2634
            · exact absurd (by rw [show (9 : Int32) = nI 9 from rfl, ((gdiv ev nl100000 (by omega) (by decide)))]; exact nI_le (by omega) (by decide)) c_2578
