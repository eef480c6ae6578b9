/-! THE REFERENCE, 7: accounts, undo, the snapshot, texts -/
def sNN (f : Nat → Int32) (a : Nat) : Nat → Int32
  | 0 => 0
  | n + 1 => sNN f a n + (if ¬ f (a + n) = -1 then 1 else 0)
def qAccount (f : Nat → Int32) (ty ch a : Int32) : Int32 × Int32 :=
  if a = 0 then (0, f 0) else if a = 1 then (0, f 1) else if a = 2 then (0, f 2) else if a = 3 then (0, f 24) else if a = 4 then (0, sNN f 28 (f 24).toNatClampNeg) else
  if a = 5 then (0, f 46) else if a = 6 then (0, sNN f 57 (f 46).toNatClampNeg) else if a = 7 then (0, sSum f 47 10) else if a = 8 then (0, f 107) else if a = 9 then (0, f 108) else if a = 10 then (0, f 109) else
  if a = 11 then (0, sSum f 34 6) else if a = 12 then (0, f 110) else if a = 13 then (0, sSum f 40 3) else if a = 14 then (0, f 111) else if a = 15 then (0, sSum f 3 18) else if a = 16 then (0, ty) else if a = 17 then (0, ch) else (1, 0)
/-- a row of the changes -/
def hRow (h : Nat → Int32) (i : Nat) : Nat → Int32 := fun k => if k < 112 then h (i * 112 + k) else 0
theorem hRow_Z (h : Nat → Int32) (i : Nat) : rZ (hRow h i) := fun k hk => if_neg (by omega)
theorem hRow_cp {h f : Nat → Int32} {i : Nat} (hf : rZ f) : va_cpy h f (i * 112) 0 112 = hRow h i := by
  funext k
  unfold va_cpy hRow
  by_cases c : k < 112
  · rw [if_pos (by omega), if_pos c, Nat.sub_zero]
  · rw [if_neg (by omega), if_neg c, hf k (by omega)]
def mU (ir : Int32) (c : Nat) (h f : Nat → Int32) : Int32 × Int32 × Nat × (Nat → Int32) × Int32 := if c = 0 then (1, 0, c, f, 0) else (0, ir, c - 1, hRow h (c - 1), nI (c - 1))
def mRe (ir hs : Int32) (c : Nat) (fs f : Nat → Int32) : Int32 × Int32 × Nat × (Nat → Int32) × Int32 := if hs = 0 then (1, 0, c, f, 0) else (0, ir, 0, fs, fs 0)
def qErr (er : Int32) : Int32 × Int32 := if ¬ er = -1 then (0, er) else (1, 0)
def qRefusal (y : Nat → Int32) (a b : Int32) : Int32 × Int32 := if gin a 0 2 = 0 then (1, 0) else if y (2 * a.toNatClampNeg) = 0 then (2, 0) else if b = 0 then (0, y (2 * a.toNatClampNeg)) else (0, y (2 * a.toNatClampNeg + 1))
def mT (ir : Int32) (tn : Nat) (tx : Nat → Int32) (c : Int32) : Int32 × Int32 × Nat × (Nat → Int32) × Int32 := if tn = 60 then (1, 0, tn, tx, 0) else (0, ir, tn + 1, gup tx tn (vp_nar .char c), nI (tn + 1))
def qWritten (lx : Nat → Int32) (ln a : Int32) : Int32 × Int32 := if gin a 0 (ln - 1) = 0 then (1, 0) else (0, lx a.toNatClampNeg)
set_option maxHeartbeats 4000000 in
set_option maxRecDepth 100000 in
theorem c_X4_sum (l : Launch) {D : gD} (hB : gBs D) (G : gH) (n : Nat) (mm : Nat) (ag : Nat) (ab : Nat) (ah : Nat) (ch : Int32) (asv : Nat) (hs : Int32) (aas : Nat) (ain : Nat) (ty : Int32) (er : Int32) (awy : Nat) (ir : Int32) (ali : Nat) (ln : Int32) (th : Int32) (pl : Int32) (wr : Int32) (ato : Nat) (f : Nat → Int32) (a : Nat) (N : Nat) (a1 : Int32) (a2 : Int32) (c0_ : G mm = some (.inl (23, [.ref ag, .ref ab, .ref ah, .int ch, .ref asv, .int hs, .ref aas, .ref ain, .int ty, .int er, .ref awy, .int ir, .ref ali, .int ln, .int th, .int pl, .int wr, .ref ato]))) (c1_ : G ag = some (aI 112 f)) (ea : a1 = nI a) (eN : a2 = nI N) (haN : a + N ≤ 112) : gMet l D yX4_sum (ws_ yX4_sum cX4_sum 5 (some FieldType.int)) 1 0 G n [.ref mm, .int a1, .int a2] (fun (v : Option Value) (G1 : gH) (n1 : Nat) => v = some (.int (sSum f a N)) ∧ G1 = G ∧ n1 = n) gNox := by
  refine g_start (by decide) (Nat.le_of_ble_eq_true rfl) ?_
  intro p e s m below meth c ls C hnm hxt hI hl
  have hx := C.x
  have hb := C.b
  have hS : va_S (gA D) s.heap s.heap [] := va_S.rf
  have hz0 := hI.z
  have lc0_ := hI.lt c0_
  have lc1_ := hI.lt c1_
  have hF : gF G G n gNone := gF.rf _ _ _
  have hl : lv_has ls 5 [(0, .ref mm), (1, .int a1), (2, .int a2)] := hl
  refine lv_iconst (v := 0) hx hb dX4_sum_0 (by decide) ?_
  refine lv_istore_n (lv' := [(3, .int 0), (0, .ref mm), (1, .int a1), (2, .int a2)]) hx hb dX4_sum_1 rfl hl (by decide) rfl (fun ls hl => ?_)
  refine lv_iconst (v := 0) hx hb dX4_sum_2 (by decide) ?_
  refine lv_istore (lv' := [(4, .int 0), (3, .int 0), (0, .ref mm), (1, .int a1), (2, .int a2)]) hx hb dX4_sum_3 hl (by decide) rfl (fun ls hl => ?_)
  have key2028 : ∀ (r : Nat) (i : Nat) (xi : Int32) (acc : Int32), (i ≤ N) → (N < i + r) → (xi = nI i) → (acc = sSum f a i) → ∀ (H : Heap) (locs : List Loc) (ls : Array Slot), gI D G n H → va_S (gA D) s.heap H locs → lv_has ls 5 [(4, .int xi), (3, .int acc), (0, .ref mm), (1, .int a1), (2, .int a2)] → W p l e (gR 1 0) s m ([.ref mm, .int a1, .int a2] : List Value).toArray below meth c H locs (0) (200 * (0)) (gM below D (fun (v : Option Value) (G1 : gH) (n1 : Nat) => v = some (.int (sSum f a N)) ∧ G1 = G ∧ n1 = n) gNox ([.ref mm, .int a1, .int a2] : List Value).toArray s 0) (F0 m 5 ls []) := by
    intro r
    induction r with
    | zero =>
      intro i xi acc hi hr hxi hac
      exact absurd trivial (fun _ => (by omega))
    | succ r ih2029 =>
      intro i xi acc hi hr hxi hac
      intro H locs ls hI hS hl
      refine lv_iload hx hb dX4_sum_5 (lv_at hl 0 rfl) ?_
      refine lv_iload_n hx hb dX4_sum_7 rfl (lv_at hl 4 rfl) ?_
      refine lv_icmp_ge (tgt := 29) hx hb dX4_sum_8 (by decide) (fun c_2030 => ?_) (fun c_2030 => ?_)
      · skip
        try have k_2031 : N ≤ i := (nI_leE eN hxi (by omega) (by omega)).mp c_2030
        refine lv_iload_n hx hb dX4_sum_29 rfl (lv_at hl 1 rfl) ?_
        exact g_iret C hI hS (by omega) ⟨(by rw [hac, show i = N by omega]), rfl, rfl⟩ dX4_sum_30
      · skip
        try have k_2032 : ¬ (N ≤ i) := (not_congr (nI_leE eN hxi (by omega) (by omega))).mp c_2030
        refine lv_iload_n hx hb dX4_sum_11 rfl (lv_at hl 1 rfl) ?_
        refine lv_aload_n hx hb dX4_sum_12 rfl (lv_at hl 2 rfl) ?_
        refine g_get C hI c0_ kc23 0 rfl q2567 (fun _ h9 => h9) dX4_sum_13 ?_
        refine lv_iload_n hx hb dX4_sum_16 rfl (lv_at hl 3 rfl) ?_
        refine lv_iload hx hb dX4_sum_17 (lv_at hl 0 rfl) ?_
        refine lv_iadd hx hb dX4_sum_19 ?_
        refine g_iald (v := .int (f (a + i))) C hI c1_ (gix (gadd ea hxi) (by omega) (by omega)) (congrArg Value.int (gixv (f := f) (gadd ea hxi) (by omega))) dX4_sum_20 ?_
        refine lv_iadd hx hb dX4_sum_21 ?_
        refine lv_istore_n (lv' := [(3, .int (acc + (f (a + i)))), (4, .int xi), (0, .ref mm), (1, .int a1), (2, .int a2)]) hx hb dX4_sum_22 rfl hl (by decide) rfl (fun ls hl => ?_)
        refine lv_iinc (v := xi + 1) (lv' := [(4, .int (xi + 1)), (3, .int (acc + (f (a + i)))), (0, .ref mm), (1, .int a1), (2, .int a2)]) hx hb dX4_sum_23 hl (k := 1) rfl (by first | rfl | decide) (by decide) rfl (fun ls hl => ?_)
        refine lv_goto (tgt := 5) hx hb dX4_sum_26 (by decide) ?_
        exact ih2029 (i + 1) (xi + 1) (acc + (f (a + i))) (by omega) (by omega) (gadd hxi nl1) (by rw [hac]; rfl) _ _ _ hI hS (lv_sub hl [0, 1, 2, 3, 4] rfl)
  exact key2028 (N + 1) 0 0 0 (by omega) (by omega) nl0 rfl _ _ _ hI hS (lv_sub hl [0, 1, 2, 3, 4] rfl)
set_option maxHeartbeats 4000000 in
set_option maxRecDepth 100000 in
theorem c_X4_notNone (l : Launch) {D : gD} (hB : gBs D) (G : gH) (n : Nat) (mm : Nat) (ag : Nat) (ab : Nat) (ah : Nat) (ch : Int32) (asv : Nat) (hs : Int32) (aas : Nat) (ain : Nat) (ty : Int32) (er : Int32) (awy : Nat) (ir : Int32) (ali : Nat) (ln : Int32) (th : Int32) (pl : Int32) (wr : Int32) (ato : Nat) (f : Nat → Int32) (a : Nat) (N : Nat) (a1 : Int32) (a2 : Int32) (c0_ : G mm = some (.inl (23, [.ref ag, .ref ab, .ref ah, .int ch, .ref asv, .int hs, .ref aas, .ref ain, .int ty, .int er, .ref awy, .int ir, .ref ali, .int ln, .int th, .int pl, .int wr, .ref ato]))) (c1_ : G ag = some (aI 112 f)) (ea : a1 = nI a) (eN : a2 = nI N) (haN : a + N ≤ 112) : gMet l D yX4_notNone (ws_ yX4_notNone cX4_notNone 5 (some FieldType.int)) 1 0 G n [.ref mm, .int a1, .int a2] (fun (v : Option Value) (G1 : gH) (n1 : Nat) => v = some (.int (sNN f a N)) ∧ G1 = G ∧ n1 = n) gNox := by
  refine g_start (by decide) (Nat.le_of_ble_eq_true rfl) ?_
  intro p e s m below meth c ls C hnm hxt hI hl
  have hx := C.x
  have hb := C.b
  have hS : va_S (gA D) s.heap s.heap [] := va_S.rf
  have hz0 := hI.z
  have lc0_ := hI.lt c0_
  have lc1_ := hI.lt c1_
  have hF : gF G G n gNone := gF.rf _ _ _
  have hl : lv_has ls 5 [(0, .ref mm), (1, .int a1), (2, .int a2)] := hl
  refine lv_iconst (v := 0) hx hb dX4_notNone_0 (by decide) ?_
  refine lv_istore_n (lv' := [(3, .int 0), (0, .ref mm), (1, .int a1), (2, .int a2)]) hx hb dX4_notNone_1 rfl hl (by decide) rfl (fun ls hl => ?_)
  refine lv_iconst (v := 0) hx hb dX4_notNone_2 (by decide) ?_
  refine lv_istore (lv' := [(4, .int 0), (3, .int 0), (0, .ref mm), (1, .int a1), (2, .int a2)]) hx hb dX4_notNone_3 hl (by decide) rfl (fun ls hl => ?_)
  have key2033 : ∀ (r : Nat) (i : Nat) (xi : Int32) (acc : Int32), (i ≤ N) → (N < i + r) → (xi = nI i) → (acc = sNN f a i) → ∀ (H : Heap) (locs : List Loc) (ls : Array Slot), gI D G n H → va_S (gA D) s.heap H locs → lv_has ls 5 [(4, .int xi), (3, .int acc), (0, .ref mm), (1, .int a1), (2, .int a2)] → W p l e (gR 1 0) s m ([.ref mm, .int a1, .int a2] : List Value).toArray below meth c H locs (0) (200 * (0)) (gM below D (fun (v : Option Value) (G1 : gH) (n1 : Nat) => v = some (.int (sNN f a N)) ∧ G1 = G ∧ n1 = n) gNox ([.ref mm, .int a1, .int a2] : List Value).toArray s 0) (F0 m 5 ls []) := by
    intro r
    induction r with
    | zero =>
      intro i xi acc hi hr hxi hac
      exact absurd trivial (fun _ => (by omega))
    | succ r ih2034 =>
      intro i xi acc hi hr hxi hac
      intro H locs ls hI hS hl
      refine lv_iload hx hb dX4_notNone_5 (lv_at hl 0 rfl) ?_
      refine lv_iload_n hx hb dX4_notNone_7 rfl (lv_at hl 4 rfl) ?_
      refine lv_icmp_ge (tgt := 38) hx hb dX4_notNone_8 (by decide) (fun c_2035 => ?_) (fun c_2035 => ?_)
      · skip
        try have k_2036 : N ≤ i := (nI_leE eN hxi (by omega) (by omega)).mp c_2035
        refine lv_iload_n hx hb dX4_notNone_38 rfl (lv_at hl 1 rfl) ?_
        exact g_iret C hI hS (by omega) ⟨(by rw [hac, show i = N by omega]), rfl, rfl⟩ dX4_notNone_39
      · skip
        try have k_2037 : ¬ (N ≤ i) := (not_congr (nI_leE eN hxi (by omega) (by omega))).mp c_2035
        refine lv_iload_n hx hb dX4_notNone_11 rfl (lv_at hl 1 rfl) ?_
        refine lv_aload_n hx hb dX4_notNone_12 rfl (lv_at hl 2 rfl) ?_
        refine g_get C hI c0_ kc23 0 rfl q2567 (fun _ h9 => h9) dX4_notNone_13 ?_
        refine lv_iload_n hx hb dX4_notNone_16 rfl (lv_at hl 3 rfl) ?_
        refine lv_iload hx hb dX4_notNone_17 (lv_at hl 0 rfl) ?_
        refine lv_iadd hx hb dX4_notNone_19 ?_
        refine g_iald (v := .int (f (a + i))) C hI c1_ (gix (gadd ea hxi) (by omega) (by omega)) (congrArg Value.int (gixv (f := f) (gadd ea hxi) (by omega))) dX4_notNone_20 ?_
        refine lv_iconst (v := (-1)) hx hb dX4_notNone_21 (by decide) ?_
        refine lv_icmp_ne (tgt := 29) hx hb dX4_notNone_22 (by decide) (fun c_2038 => ?_) (fun c_2038 => ?_)
        · skip
          refine lv_iconst (v := 1) hx hb dX4_notNone_29 (by decide) ?_
          refine lv_iadd hx hb dX4_notNone_30 ?_
          refine lv_istore_n (lv' := [(3, .int (acc + 1)), (4, .int xi), (0, .ref mm), (1, .int a1), (2, .int a2)]) hx hb dX4_notNone_31 rfl hl (by decide) rfl (fun ls hl => ?_)
          refine lv_iinc (v := xi + 1) (lv' := [(4, .int (xi + 1)), (3, .int (acc + 1)), (0, .ref mm), (1, .int a1), (2, .int a2)]) hx hb dX4_notNone_32 hl (k := 1) rfl (by first | rfl | decide) (by decide) rfl (fun ls hl => ?_)
          refine lv_goto (tgt := 5) hx hb dX4_notNone_35 (by decide) ?_
          exact ih2034 (i + 1) (xi + 1) (acc + 1) (by omega) (by omega) (gadd hxi nl1) (by simp [sNN, hac, c_2035, c_2038]) _ _ _ hI hS (lv_sub hl [0, 1, 2, 3, 4] rfl)
        · skip
          refine lv_iconst (v := 0) hx hb dX4_notNone_25 (by decide) ?_
          refine lv_goto (tgt := 30) hx hb dX4_notNone_26 (by decide) ?_
          refine lv_iadd hx hb dX4_notNone_30 ?_
          refine lv_istore_n (lv' := [(3, .int (acc + 0)), (4, .int xi), (0, .ref mm), (1, .int a1), (2, .int a2)]) hx hb dX4_notNone_31 rfl hl (by decide) rfl (fun ls hl => ?_)
          refine lv_iinc (v := xi + 1) (lv' := [(4, .int (xi + 1)), (3, .int (acc + 0)), (0, .ref mm), (1, .int a1), (2, .int a2)]) hx hb dX4_notNone_32 hl (k := 1) rfl (by first | rfl | decide) (by decide) rfl (fun ls hl => ?_)
          refine lv_goto (tgt := 5) hx hb dX4_notNone_35 (by decide) ?_
          exact ih2034 (i + 1) (xi + 1) (acc + 0) (by omega) (by omega) (gadd hxi nl1) (by simp [sNN, hac, c_2035, c_2038]) _ _ _ hI hS (lv_sub hl [0, 1, 2, 3, 4] rfl)
  exact key2033 (N + 1) 0 0 0 (by omega) (by omega) nl0 rfl _ _ _ hI hS (lv_sub hl [0, 1, 2, 3, 4] rfl)
set_option maxHeartbeats 4000000 in
set_option maxRecDepth 100000 in
theorem c_X4_account (l : Launch) {D : gD} (hB : gBs D) (G : gH) (n : Nat) (mm : Nat) (ag : Nat) (ab : Nat) (ah : Nat) (ch : Int32) (asv : Nat) (hs : Int32) (aas : Nat) (ain : Nat) (ty : Int32) (er : Int32) (awy : Nat) (ir : Int32) (ali : Nat) (ln : Int32) (th : Int32) (pl : Int32) (wr : Int32) (ato : Nat) (f : Nat → Int32) (nb : Nat) (ns : Nat) (a1 : Int32) (c0_ : G mm = some (.inl (23, [.ref ag, .ref ab, .ref ah, .int ch, .ref asv, .int hs, .ref aas, .ref ain, .int ty, .int er, .ref awy, .int ir, .ref ali, .int ln, .int th, .int pl, .int wr, .ref ato]))) (c1_ : G ag = some (aI 112 f)) (hz : gz D ≤ mm) (hnb : f 24 = nI nb) (hb3 : nb ≤ 3) (hns : f 46 = nI ns) (hs10 : ns ≤ 10) : gMet l D yX4_account (ws_ yX4_account cX4_account 2 (some FieldType.int)) 2 0 G n [.ref mm, .int a1] (fun (v : Option Value) (G1 : gH) (n1 : Nat) => ∃ (th2 : Int32) (ir2 : Int32) (r : Int32), v = some (.int r) ∧ n ≤ n1 ∧ gF G G1 n (fun q : Nat => q = mm) ∧ G1 mm = some (.inl (23, [.ref ag, .ref ab, .ref ah, .int ch, .ref asv, .int hs, .ref aas, .ref ain, .int ty, .int er, .ref awy, .int ir2, .ref ali, .int ln, .int th2, .int pl, .int wr, .ref ato])) ∧ qAccount f ty ch a1 = (th2, r)) gNox := by
  refine g_start (by decide) (Nat.le_of_ble_eq_true rfl) ?_
  intro p e s m below meth c ls C hnm hxt hI hl
  have hx := C.x
  have hb := C.b
  have hS : va_S (gA D) s.heap s.heap [] := va_S.rf
  have hz0 := hI.z
  have lc0_ := hI.lt c0_
  have lc1_ := hI.lt c1_
  have hF : gF G G n (fun q : Nat => q = mm) := gF.rf _ _ _
  have hl : lv_has ls 2 [(0, .ref mm), (1, .int a1)] := hl
  have t24 : (f 24).toNatClampNeg = nb := by rw [hnb]; exact nI_clamp (by omega)
  have t46 : (f 46).toNatClampNeg = ns := by rw [hns]; exact nI_clamp (by omega)
  refine lv_iload_n hx hb dX4_account_0 rfl (lv_at hl 1 rfl) ?_
  by_cases c_2039 : a1 = 0
  · skip
    refine lv_tableIn (off := 87) (tgt := 88) hx hb dX4_account_1 (by rw [c_2039]; decide) (by rw [c_2039]; decide) (by rw [c_2039]; rfl) (by decide) ?_
    refine lv_aload_n hx hb dX4_account_88 rfl (lv_at hl 0 rfl) ?_
    refine lv_aload_n hx hb dX4_account_89 rfl (lv_at hl 0 rfl) ?_
    refine g_get C hI c0_ kc23 0 rfl q2567 (fun _ h9 => h9) dX4_account_90 ?_
    refine lv_iload_n hx hb dX4_account_93 rfl (lv_at hl 1 rfl) ?_
    refine g_iald (v := .int (f 0)) C hI c1_ (gix (c_2039.trans nl0) (by omega) (by omega)) (congrArg Value.int (gixv (f := f) (c_2039.trans nl0) (by omega))) dX4_account_94 ?_
    refine g_V (As := [.int (f 0)]) (rest := []) (lv := [(0, .ref mm), (1, .int a1)]) C hI hS (c_X4_done l hB G n mm ag ab ah ch asv hs aas ain ty er awy ir ali ln th pl wr ato (f 0) c0_ (by omega)) c0_ rfl rfl q2644 q2646 qs35 q94 q2647 (⟨by decide, by decide, by decide⟩ : gArg _ 1) rfl ⟨by decide, by decide⟩ (by omega) hl rfl (Nat.le_of_ble_eq_true rfl) dX4_account_95 (fun v2040 G2041 n2042 H locs hp2043 hI hS => ?_) gKx.no
    obtain ⟨rfl, hn2044, hF2045, c2046⟩ := hp2043
    refine W.widen (k := 0) (n := 200 * (0)) (by omega) (by omega) ?_
    have c1_ := hF2045.at c1_ (by omega) (g_on c1_ c0_)
    have hF := hF.trans hF2045 (by omega) (fun q hq => (fun h => h ▸ rfl))
    exact g_iret C hI hS (by omega) ⟨0, ir, f 0, rfl, (by omega), hF, c2046, (by simp [qAccount, t24, t46, c_2039])⟩ dX4_account_98
  by_cases c_2047 : a1 = 1
  · skip
    refine lv_tableIn (off := 87) (tgt := 88) hx hb dX4_account_1 (by rw [c_2047]; decide) (by rw [c_2047]; decide) (by rw [c_2047]; rfl) (by decide) ?_
    refine lv_aload_n hx hb dX4_account_88 rfl (lv_at hl 0 rfl) ?_
    refine lv_aload_n hx hb dX4_account_89 rfl (lv_at hl 0 rfl) ?_
    refine g_get C hI c0_ kc23 0 rfl q2567 (fun _ h9 => h9) dX4_account_90 ?_
    refine lv_iload_n hx hb dX4_account_93 rfl (lv_at hl 1 rfl) ?_
    refine g_iald (v := .int (f 1)) C hI c1_ (gix (c_2047.trans nl1) (by omega) (by omega)) (congrArg Value.int (gixv (f := f) (c_2047.trans nl1) (by omega))) dX4_account_94 ?_
    refine g_V (As := [.int (f 1)]) (rest := []) (lv := [(0, .ref mm), (1, .int a1)]) C hI hS (c_X4_done l hB G n mm ag ab ah ch asv hs aas ain ty er awy ir ali ln th pl wr ato (f 1) c0_ (by omega)) c0_ rfl rfl q2644 q2646 qs35 q94 q2647 (⟨by decide, by decide, by decide⟩ : gArg _ 1) rfl ⟨by decide, by decide⟩ (by omega) hl rfl (Nat.le_of_ble_eq_true rfl) dX4_account_95 (fun v2048 G2049 n2050 H locs hp2051 hI hS => ?_) gKx.no
    obtain ⟨rfl, hn2052, hF2053, c2054⟩ := hp2051
    refine W.widen (k := 0) (n := 200 * (0)) (by omega) (by omega) ?_
    have c1_ := hF2053.at c1_ (by omega) (g_on c1_ c0_)
    have hF := hF.trans hF2053 (by omega) (fun q hq => (fun h => h ▸ rfl))
    exact g_iret C hI hS (by omega) ⟨0, ir, f 1, rfl, (by omega), hF, c2054, (by simp [qAccount, t24, t46, c_2039, c_2047])⟩ dX4_account_98
  by_cases c_2055 : a1 = 2
  · skip
    refine lv_tableIn (off := 87) (tgt := 88) hx hb dX4_account_1 (by rw [c_2055]; decide) (by rw [c_2055]; decide) (by rw [c_2055]; rfl) (by decide) ?_
    refine lv_aload_n hx hb dX4_account_88 rfl (lv_at hl 0 rfl) ?_
    refine lv_aload_n hx hb dX4_account_89 rfl (lv_at hl 0 rfl) ?_
    refine g_get C hI c0_ kc23 0 rfl q2567 (fun _ h9 => h9) dX4_account_90 ?_
    refine lv_iload_n hx hb dX4_account_93 rfl (lv_at hl 1 rfl) ?_
    refine g_iald (v := .int (f 2)) C hI c1_ (gix (c_2055.trans nl2) (by omega) (by omega)) (congrArg Value.int (gixv (f := f) (c_2055.trans nl2) (by omega))) dX4_account_94 ?_
    refine g_V (As := [.int (f 2)]) (rest := []) (lv := [(0, .ref mm), (1, .int a1)]) C hI hS (c_X4_done l hB G n mm ag ab ah ch asv hs aas ain ty er awy ir ali ln th pl wr ato (f 2) c0_ (by omega)) c0_ rfl rfl q2644 q2646 qs35 q94 q2647 (⟨by decide, by decide, by decide⟩ : gArg _ 1) rfl ⟨by decide, by decide⟩ (by omega) hl rfl (Nat.le_of_ble_eq_true rfl) dX4_account_95 (fun v2056 G2057 n2058 H locs hp2059 hI hS => ?_) gKx.no
    obtain ⟨rfl, hn2060, hF2061, c2062⟩ := hp2059
    refine W.widen (k := 0) (n := 200 * (0)) (by omega) (by omega) ?_
    have c1_ := hF2061.at c1_ (by omega) (g_on c1_ c0_)
    have hF := hF.trans hF2061 (by omega) (fun q hq => (fun h => h ▸ rfl))
    exact g_iret C hI hS (by omega) ⟨0, ir, f 2, rfl, (by omega), hF, c2062, (by simp [qAccount, t24, t46, c_2039, c_2047, c_2055])⟩ dX4_account_98
  by_cases c_2063 : a1 = 3
  · skip
    refine lv_tableIn (off := 98) (tgt := 99) hx hb dX4_account_1 (by rw [c_2063]; decide) (by rw [c_2063]; decide) (by rw [c_2063]; rfl) (by decide) ?_
    refine lv_aload_n hx hb dX4_account_99 rfl (lv_at hl 0 rfl) ?_
    refine lv_aload_n hx hb dX4_account_100 rfl (lv_at hl 0 rfl) ?_
    refine g_get C hI c0_ kc23 0 rfl q2567 (fun _ h9 => h9) dX4_account_101 ?_
    refine lv_bipush (v := 24) hx hb dX4_account_104 (by decide) ?_
    refine g_iald (v := .int (f 24)) C hI c1_ (gix nl24 (by omega) (by omega)) (congrArg Value.int (gixv (f := f) nl24 (by omega))) dX4_account_106 ?_
    refine g_V (As := [.int (f 24)]) (rest := []) (lv := [(0, .ref mm), (1, .int a1)]) C hI hS (c_X4_done l hB G n mm ag ab ah ch asv hs aas ain ty er awy ir ali ln th pl wr ato (f 24) c0_ (by omega)) c0_ rfl rfl q2644 q2646 qs35 q94 q2647 (⟨by decide, by decide, by decide⟩ : gArg _ 1) rfl ⟨by decide, by decide⟩ (by omega) hl rfl (Nat.le_of_ble_eq_true rfl) dX4_account_107 (fun v2064 G2065 n2066 H locs hp2067 hI hS => ?_) gKx.no
    obtain ⟨rfl, hn2068, hF2069, c2070⟩ := hp2067
    refine W.widen (k := 0) (n := 200 * (0)) (by omega) (by omega) ?_
    have c1_ := hF2069.at c1_ (by omega) (g_on c1_ c0_)
    have hF := hF.trans hF2069 (by omega) (fun q hq => (fun h => h ▸ rfl))
    exact g_iret C hI hS (by omega) ⟨0, ir, f 24, rfl, (by omega), hF, c2070, (by simp [qAccount, t24, t46, c_2039, c_2047, c_2055, c_2063])⟩ dX4_account_110
  by_cases c_2071 : a1 = 4
  · skip
    refine lv_tableIn (off := 110) (tgt := 111) hx hb dX4_account_1 (by rw [c_2071]; decide) (by rw [c_2071]; decide) (by rw [c_2071]; rfl) (by decide) ?_
    refine lv_aload_n hx hb dX4_account_111 rfl (lv_at hl 0 rfl) ?_
    refine lv_aload_n hx hb dX4_account_112 rfl (lv_at hl 0 rfl) ?_
    refine lv_bipush (v := 28) hx hb dX4_account_113 (by decide) ?_
    refine lv_aload_n hx hb dX4_account_115 rfl (lv_at hl 0 rfl) ?_
    refine g_get C hI c0_ kc23 0 rfl q2567 (fun _ h9 => h9) dX4_account_116 ?_
    refine lv_bipush (v := 24) hx hb dX4_account_119 (by decide) ?_
    refine g_iald (v := .int (f 24)) C hI c1_ (gix nl24 (by omega) (by omega)) (congrArg Value.int (gixv (f := f) nl24 (by omega))) dX4_account_121 ?_
    refine g_V (As := [.int 28, .int (f 24)]) (rest := [.ref mm]) (lv := [(0, .ref mm), (1, .int a1)]) C hI hS (c_X4_notNone l hB G n mm ag ab ah ch asv hs aas ain ty er awy ir ali ln th pl wr ato f 28 nb 28 (f 24) c0_ c1_ nl28 hnb (by omega)) c0_ rfl rfl q2943 q2945 qs74 q94 q2946 (⟨by decide, by decide, by decide⟩ : gArg _ 2) rfl ⟨by decide, by decide⟩ (by omega) hl rfl (Nat.le_of_ble_eq_true rfl) dX4_account_122 (fun v2072 G2073 n2074 H locs hp2075 hI hS => ?_) gKx.no
    obtain ⟨rfl, eG2073, en2074⟩ := hp2075
    refine W.widen (k := 0) (n := 200 * (0)) (by omega) (by omega) ?_
    rw [eG2073, en2074] at hI
    refine g_V (As := [.int (sNN f 28 nb)]) (rest := []) (lv := [(0, .ref mm), (1, .int a1)]) C hI hS (c_X4_done l hB G n mm ag ab ah ch asv hs aas ain ty er awy ir ali ln th pl wr ato (sNN f 28 nb) c0_ (by omega)) c0_ rfl rfl q2644 q2646 qs35 q94 q2647 (⟨by decide, by decide, by decide⟩ : gArg _ 1) rfl ⟨by decide, by decide⟩ (by omega) hl rfl (Nat.le_of_ble_eq_true rfl) dX4_account_125 (fun v2078 G2079 n2080 H locs hp2081 hI hS => ?_) gKx.no
    obtain ⟨rfl, hn2082, hF2083, c2084⟩ := hp2081
    refine W.widen (k := 0) (n := 200 * (0)) (by omega) (by omega) ?_
    have c1_ := hF2083.at c1_ (by omega) (g_on c1_ c0_)
    have hF := hF.trans hF2083 (by omega) (fun q hq => (fun h => h ▸ rfl))
    exact g_iret C hI hS (by omega) ⟨0, ir, sNN f 28 nb, rfl, (by omega), hF, c2084, (by simp [qAccount, t24, t46, c_2039, c_2047, c_2055, c_2063, c_2071])⟩ dX4_account_128
  by_cases c_2085 : a1 = 5
  · skip
    refine lv_tableIn (off := 128) (tgt := 129) hx hb dX4_account_1 (by rw [c_2085]; decide) (by rw [c_2085]; decide) (by rw [c_2085]; rfl) (by decide) ?_
    refine lv_aload_n hx hb dX4_account_129 rfl (lv_at hl 0 rfl) ?_
    refine lv_aload_n hx hb dX4_account_130 rfl (lv_at hl 0 rfl) ?_
    refine g_get C hI c0_ kc23 0 rfl q2567 (fun _ h9 => h9) dX4_account_131 ?_
    refine lv_bipush (v := 46) hx hb dX4_account_134 (by decide) ?_
    refine g_iald (v := .int (f 46)) C hI c1_ (gix nl46 (by omega) (by omega)) (congrArg Value.int (gixv (f := f) nl46 (by omega))) dX4_account_136 ?_
    refine g_V (As := [.int (f 46)]) (rest := []) (lv := [(0, .ref mm), (1, .int a1)]) C hI hS (c_X4_done l hB G n mm ag ab ah ch asv hs aas ain ty er awy ir ali ln th pl wr ato (f 46) c0_ (by omega)) c0_ rfl rfl q2644 q2646 qs35 q94 q2647 (⟨by decide, by decide, by decide⟩ : gArg _ 1) rfl ⟨by decide, by decide⟩ (by omega) hl rfl (Nat.le_of_ble_eq_true rfl) dX4_account_137 (fun v2086 G2087 n2088 H locs hp2089 hI hS => ?_) gKx.no
    obtain ⟨rfl, hn2090, hF2091, c2092⟩ := hp2089
    refine W.widen (k := 0) (n := 200 * (0)) (by omega) (by omega) ?_
    have c1_ := hF2091.at c1_ (by omega) (g_on c1_ c0_)
    have hF := hF.trans hF2091 (by omega) (fun q hq => (fun h => h ▸ rfl))
    exact g_iret C hI hS (by omega) ⟨0, ir, f 46, rfl, (by omega), hF, c2092, (by simp [qAccount, t24, t46, c_2039, c_2047, c_2055, c_2063, c_2071, c_2085])⟩ dX4_account_140
  by_cases c_2093 : a1 = 6
  · skip
    refine lv_tableIn (off := 140) (tgt := 141) hx hb dX4_account_1 (by rw [c_2093]; decide) (by rw [c_2093]; decide) (by rw [c_2093]; rfl) (by decide) ?_
    refine lv_aload_n hx hb dX4_account_141 rfl (lv_at hl 0 rfl) ?_
    refine lv_aload_n hx hb dX4_account_142 rfl (lv_at hl 0 rfl) ?_
    refine lv_bipush (v := 57) hx hb dX4_account_143 (by decide) ?_
    refine lv_aload_n hx hb dX4_account_145 rfl (lv_at hl 0 rfl) ?_
    refine g_get C hI c0_ kc23 0 rfl q2567 (fun _ h9 => h9) dX4_account_146 ?_
    refine lv_bipush (v := 46) hx hb dX4_account_149 (by decide) ?_
    refine g_iald (v := .int (f 46)) C hI c1_ (gix nl46 (by omega) (by omega)) (congrArg Value.int (gixv (f := f) nl46 (by omega))) dX4_account_151 ?_
    refine g_V (As := [.int 57, .int (f 46)]) (rest := [.ref mm]) (lv := [(0, .ref mm), (1, .int a1)]) C hI hS (c_X4_notNone l hB G n mm ag ab ah ch asv hs aas ain ty er awy ir ali ln th pl wr ato f 57 ns 57 (f 46) c0_ c1_ nl57 hns (by omega)) c0_ rfl rfl q2943 q2945 qs74 q94 q2946 (⟨by decide, by decide, by decide⟩ : gArg _ 2) rfl ⟨by decide, by decide⟩ (by omega) hl rfl (Nat.le_of_ble_eq_true rfl) dX4_account_152 (fun v2094 G2095 n2096 H locs hp2097 hI hS => ?_) gKx.no
    obtain ⟨rfl, eG2095, en2096⟩ := hp2097
    refine W.widen (k := 0) (n := 200 * (0)) (by omega) (by omega) ?_
    rw [eG2095, en2096] at hI
    refine g_V (As := [.int (sNN f 57 ns)]) (rest := []) (lv := [(0, .ref mm), (1, .int a1)]) C hI hS (c_X4_done l hB G n mm ag ab ah ch asv hs aas ain ty er awy ir ali ln th pl wr ato (sNN f 57 ns) c0_ (by omega)) c0_ rfl rfl q2644 q2646 qs35 q94 q2647 (⟨by decide, by decide, by decide⟩ : gArg _ 1) rfl ⟨by decide, by decide⟩ (by omega) hl rfl (Nat.le_of_ble_eq_true rfl) dX4_account_155 (fun v2100 G2101 n2102 H locs hp2103 hI hS => ?_) gKx.no
    obtain ⟨rfl, hn2104, hF2105, c2106⟩ := hp2103
    refine W.widen (k := 0) (n := 200 * (0)) (by omega) (by omega) ?_
    have c1_ := hF2105.at c1_ (by omega) (g_on c1_ c0_)
    have hF := hF.trans hF2105 (by omega) (fun q hq => (fun h => h ▸ rfl))
    exact g_iret C hI hS (by omega) ⟨0, ir, sNN f 57 ns, rfl, (by omega), hF, c2106, (by simp [qAccount, t24, t46, c_2039, c_2047, c_2055, c_2063, c_2071, c_2085, c_2093])⟩ dX4_account_158
  by_cases c_2107 : a1 = 7
  · skip
    refine lv_tableIn (off := 158) (tgt := 159) hx hb dX4_account_1 (by rw [c_2107]; decide) (by rw [c_2107]; decide) (by rw [c_2107]; rfl) (by decide) ?_
    refine lv_aload_n hx hb dX4_account_159 rfl (lv_at hl 0 rfl) ?_
    refine lv_aload_n hx hb dX4_account_160 rfl (lv_at hl 0 rfl) ?_
    refine lv_bipush (v := 47) hx hb dX4_account_161 (by decide) ?_
    refine lv_bipush (v := 10) hx hb dX4_account_163 (by decide) ?_
    refine g_V (As := [.int 47, .int 10]) (rest := [.ref mm]) (lv := [(0, .ref mm), (1, .int a1)]) C hI hS (c_X4_sum l hB G n mm ag ab ah ch asv hs aas ain ty er awy ir ali ln th pl wr ato f 47 10 47 10 c0_ c1_ nl47 nl10 (by omega)) c0_ rfl rfl q2947 q2949 qs75 q94 q2950 (⟨by decide, by decide, by decide⟩ : gArg _ 2) rfl ⟨by decide, by decide⟩ (by omega) hl rfl (Nat.le_of_ble_eq_true rfl) dX4_account_165 (fun v2108 G2109 n2110 H locs hp2111 hI hS => ?_) gKx.no
    obtain ⟨rfl, eG2109, en2110⟩ := hp2111
    refine W.widen (k := 0) (n := 200 * (0)) (by omega) (by omega) ?_
    rw [eG2109, en2110] at hI
    refine g_V (As := [.int (sSum f 47 10)]) (rest := []) (lv := [(0, .ref mm), (1, .int a1)]) C hI hS (c_X4_done l hB G n mm ag ab ah ch asv hs aas ain ty er awy ir ali ln th pl wr ato (sSum f 47 10) c0_ (by omega)) c0_ rfl rfl q2644 q2646 qs35 q94 q2647 (⟨by decide, by decide, by decide⟩ : gArg _ 1) rfl ⟨by decide, by decide⟩ (by omega) hl rfl (Nat.le_of_ble_eq_true rfl) dX4_account_168 (fun v2114 G2115 n2116 H locs hp2117 hI hS => ?_) gKx.no
    obtain ⟨rfl, hn2118, hF2119, c2120⟩ := hp2117
    refine W.widen (k := 0) (n := 200 * (0)) (by omega) (by omega) ?_
    have c1_ := hF2119.at c1_ (by omega) (g_on c1_ c0_)
    have hF := hF.trans hF2119 (by omega) (fun q hq => (fun h => h ▸ rfl))
    exact g_iret C hI hS (by omega) ⟨0, ir, sSum f 47 10, rfl, (by omega), hF, c2120, (by simp [qAccount, t24, t46, c_2039, c_2047, c_2055, c_2063, c_2071, c_2085, c_2093, c_2107])⟩ dX4_account_171
  by_cases c_2121 : a1 = 8
  · skip
    refine lv_tableIn (off := 171) (tgt := 172) hx hb dX4_account_1 (by rw [c_2121]; decide) (by rw [c_2121]; decide) (by rw [c_2121]; rfl) (by decide) ?_
    refine lv_aload_n hx hb dX4_account_172 rfl (lv_at hl 0 rfl) ?_
    refine lv_aload_n hx hb dX4_account_173 rfl (lv_at hl 0 rfl) ?_
    refine g_get C hI c0_ kc23 0 rfl q2567 (fun _ h9 => h9) dX4_account_174 ?_
    refine lv_bipush (v := 107) hx hb dX4_account_177 (by decide) ?_
    refine lv_iload_n hx hb dX4_account_179 rfl (lv_at hl 1 rfl) ?_
    refine lv_iadd hx hb dX4_account_180 ?_
    refine lv_bipush (v := 8) hx hb dX4_account_181 (by decide) ?_
    refine lv_isub hx hb dX4_account_183 ?_
    refine g_iald (v := .int (f ((107 + 8) - 8))) C hI c1_ (gix (gsub (gadd nl107 (c_2121.trans nl8)) nl8 (by omega)) (by omega) (by omega)) (congrArg Value.int (gixv (f := f) (gsub (gadd nl107 (c_2121.trans nl8)) nl8 (by omega)) (by omega))) dX4_account_184 ?_
    refine g_V (As := [.int (f ((107 + 8) - 8))]) (rest := []) (lv := [(0, .ref mm), (1, .int a1)]) C hI hS (c_X4_done l hB G n mm ag ab ah ch asv hs aas ain ty er awy ir ali ln th pl wr ato (f ((107 + 8) - 8)) c0_ (by omega)) c0_ rfl rfl q2644 q2646 qs35 q94 q2647 (⟨by decide, by decide, by decide⟩ : gArg _ 1) rfl ⟨by decide, by decide⟩ (by omega) hl rfl (Nat.le_of_ble_eq_true rfl) dX4_account_185 (fun v2122 G2123 n2124 H locs hp2125 hI hS => ?_) gKx.no
    obtain ⟨rfl, hn2126, hF2127, c2128⟩ := hp2125
    refine W.widen (k := 0) (n := 200 * (0)) (by omega) (by omega) ?_
    have c1_ := hF2127.at c1_ (by omega) (g_on c1_ c0_)
    have hF := hF.trans hF2127 (by omega) (fun q hq => (fun h => h ▸ rfl))
    exact g_iret C hI hS (by omega) ⟨0, ir, f ((107 + 8) - 8), rfl, (by omega), hF, c2128, (by simp [qAccount, t24, t46, c_2039, c_2047, c_2055, c_2063, c_2071, c_2085, c_2093, c_2107, c_2121])⟩ dX4_account_188
  by_cases c_2129 : a1 = 9
  · skip
    refine lv_tableIn (off := 171) (tgt := 172) hx hb dX4_account_1 (by rw [c_2129]; decide) (by rw [c_2129]; decide) (by rw [c_2129]; rfl) (by decide) ?_
    refine lv_aload_n hx hb dX4_account_172 rfl (lv_at hl 0 rfl) ?_
    refine lv_aload_n hx hb dX4_account_173 rfl (lv_at hl 0 rfl) ?_
    refine g_get C hI c0_ kc23 0 rfl q2567 (fun _ h9 => h9) dX4_account_174 ?_
    refine lv_bipush (v := 107) hx hb dX4_account_177 (by decide) ?_
    refine lv_iload_n hx hb dX4_account_179 rfl (lv_at hl 1 rfl) ?_
    refine lv_iadd hx hb dX4_account_180 ?_
    refine lv_bipush (v := 8) hx hb dX4_account_181 (by decide) ?_
    refine lv_isub hx hb dX4_account_183 ?_
    refine g_iald (v := .int (f ((107 + 9) - 8))) C hI c1_ (gix (gsub (gadd nl107 (c_2129.trans nl9)) nl8 (by omega)) (by omega) (by omega)) (congrArg Value.int (gixv (f := f) (gsub (gadd nl107 (c_2129.trans nl9)) nl8 (by omega)) (by omega))) dX4_account_184 ?_
    refine g_V (As := [.int (f ((107 + 9) - 8))]) (rest := []) (lv := [(0, .ref mm), (1, .int a1)]) C hI hS (c_X4_done l hB G n mm ag ab ah ch asv hs aas ain ty er awy ir ali ln th pl wr ato (f ((107 + 9) - 8)) c0_ (by omega)) c0_ rfl rfl q2644 q2646 qs35 q94 q2647 (⟨by decide, by decide, by decide⟩ : gArg _ 1) rfl ⟨by decide, by decide⟩ (by omega) hl rfl (Nat.le_of_ble_eq_true rfl) dX4_account_185 (fun v2130 G2131 n2132 H locs hp2133 hI hS => ?_) gKx.no
    obtain ⟨rfl, hn2134, hF2135, c2136⟩ := hp2133
    refine W.widen (k := 0) (n := 200 * (0)) (by omega) (by omega) ?_
    have c1_ := hF2135.at c1_ (by omega) (g_on c1_ c0_)
    have hF := hF.trans hF2135 (by omega) (fun q hq => (fun h => h ▸ rfl))
    exact g_iret C hI hS (by omega) ⟨0, ir, f ((107 + 9) - 8), rfl, (by omega), hF, c2136, (by simp [qAccount, t24, t46, c_2039, c_2047, c_2055, c_2063, c_2071, c_2085, c_2093, c_2107, c_2121, c_2129])⟩ dX4_account_188
  by_cases c_2137 : a1 = 10
  · skip
    refine lv_tableIn (off := 171) (tgt := 172) hx hb dX4_account_1 (by rw [c_2137]; decide) (by rw [c_2137]; decide) (by rw [c_2137]; rfl) (by decide) ?_
    refine lv_aload_n hx hb dX4_account_172 rfl (lv_at hl 0 rfl) ?_
    refine lv_aload_n hx hb dX4_account_173 rfl (lv_at hl 0 rfl) ?_
    refine g_get C hI c0_ kc23 0 rfl q2567 (fun _ h9 => h9) dX4_account_174 ?_
    refine lv_bipush (v := 107) hx hb dX4_account_177 (by decide) ?_
    refine lv_iload_n hx hb dX4_account_179 rfl (lv_at hl 1 rfl) ?_
    refine lv_iadd hx hb dX4_account_180 ?_
    refine lv_bipush (v := 8) hx hb dX4_account_181 (by decide) ?_
    refine lv_isub hx hb dX4_account_183 ?_
    refine g_iald (v := .int (f ((107 + 10) - 8))) C hI c1_ (gix (gsub (gadd nl107 (c_2137.trans nl10)) nl8 (by omega)) (by omega) (by omega)) (congrArg Value.int (gixv (f := f) (gsub (gadd nl107 (c_2137.trans nl10)) nl8 (by omega)) (by omega))) dX4_account_184 ?_
    refine g_V (As := [.int (f ((107 + 10) - 8))]) (rest := []) (lv := [(0, .ref mm), (1, .int a1)]) C hI hS (c_X4_done l hB G n mm ag ab ah ch asv hs aas ain ty er awy ir ali ln th pl wr ato (f ((107 + 10) - 8)) c0_ (by omega)) c0_ rfl rfl q2644 q2646 qs35 q94 q2647 (⟨by decide, by decide, by decide⟩ : gArg _ 1) rfl ⟨by decide, by decide⟩ (by omega) hl rfl (Nat.le_of_ble_eq_true rfl) dX4_account_185 (fun v2138 G2139 n2140 H locs hp2141 hI hS => ?_) gKx.no
    obtain ⟨rfl, hn2142, hF2143, c2144⟩ := hp2141
    refine W.widen (k := 0) (n := 200 * (0)) (by omega) (by omega) ?_
    have c1_ := hF2143.at c1_ (by omega) (g_on c1_ c0_)
    have hF := hF.trans hF2143 (by omega) (fun q hq => (fun h => h ▸ rfl))
    exact g_iret C hI hS (by omega) ⟨0, ir, f ((107 + 10) - 8), rfl, (by omega), hF, c2144, (by simp [qAccount, t24, t46, c_2039, c_2047, c_2055, c_2063, c_2071, c_2085, c_2093, c_2107, c_2121, c_2129, c_2137])⟩ dX4_account_188
  by_cases c_2145 : a1 = 11
  · skip
    refine lv_tableIn (off := 188) (tgt := 189) hx hb dX4_account_1 (by rw [c_2145]; decide) (by rw [c_2145]; decide) (by rw [c_2145]; rfl) (by decide) ?_
    refine lv_aload_n hx hb dX4_account_189 rfl (lv_at hl 0 rfl) ?_
    refine lv_aload_n hx hb dX4_account_190 rfl (lv_at hl 0 rfl) ?_
    refine lv_bipush (v := 34) hx hb dX4_account_191 (by decide) ?_
    refine lv_bipush (v := 6) hx hb dX4_account_193 (by decide) ?_
    refine g_V (As := [.int 34, .int 6]) (rest := [.ref mm]) (lv := [(0, .ref mm), (1, .int a1)]) C hI hS (c_X4_sum l hB G n mm ag ab ah ch asv hs aas ain ty er awy ir ali ln th pl wr ato f 34 6 34 6 c0_ c1_ nl34 nl6 (by omega)) c0_ rfl rfl q2947 q2949 qs75 q94 q2950 (⟨by decide, by decide, by decide⟩ : gArg _ 2) rfl ⟨by decide, by decide⟩ (by omega) hl rfl (Nat.le_of_ble_eq_true rfl) dX4_account_195 (fun v2146 G2147 n2148 H locs hp2149 hI hS => ?_) gKx.no
    obtain ⟨rfl, eG2147, en2148⟩ := hp2149
    refine W.widen (k := 0) (n := 200 * (0)) (by omega) (by omega) ?_
    rw [eG2147, en2148] at hI
    refine g_V (As := [.int (sSum f 34 6)]) (rest := []) (lv := [(0, .ref mm), (1, .int a1)]) C hI hS (c_X4_done l hB G n mm ag ab ah ch asv hs aas ain ty er awy ir ali ln th pl wr ato (sSum f 34 6) c0_ (by omega)) c0_ rfl rfl q2644 q2646 qs35 q94 q2647 (⟨by decide, by decide, by decide⟩ : gArg _ 1) rfl ⟨by decide, by decide⟩ (by omega) hl rfl (Nat.le_of_ble_eq_true rfl) dX4_account_198 (fun v2152 G2153 n2154 H locs hp2155 hI hS => ?_) gKx.no
    obtain ⟨rfl, hn2156, hF2157, c2158⟩ := hp2155
    refine W.widen (k := 0) (n := 200 * (0)) (by omega) (by omega) ?_
    have c1_ := hF2157.at c1_ (by omega) (g_on c1_ c0_)
    have hF := hF.trans hF2157 (by omega) (fun q hq => (fun h => h ▸ rfl))
    exact g_iret C hI hS (by omega) ⟨0, ir, sSum f 34 6, rfl, (by omega), hF, c2158, (by simp [qAccount, t24, t46, c_2039, c_2047, c_2055, c_2063, c_2071, c_2085, c_2093, c_2107, c_2121, c_2129, c_2137, c_2145])⟩ dX4_account_201
  by_cases c_2159 : a1 = 12
  · skip
    refine lv_tableIn (off := 201) (tgt := 202) hx hb dX4_account_1 (by rw [c_2159]; decide) (by rw [c_2159]; decide) (by rw [c_2159]; rfl) (by decide) ?_
    refine lv_aload_n hx hb dX4_account_202 rfl (lv_at hl 0 rfl) ?_
    refine lv_aload_n hx hb dX4_account_203 rfl (lv_at hl 0 rfl) ?_
    refine g_get C hI c0_ kc23 0 rfl q2567 (fun _ h9 => h9) dX4_account_204 ?_
    refine lv_bipush (v := 110) hx hb dX4_account_207 (by decide) ?_
    refine g_iald (v := .int (f 110)) C hI c1_ (gix nl110 (by omega) (by omega)) (congrArg Value.int (gixv (f := f) nl110 (by omega))) dX4_account_209 ?_
    refine g_V (As := [.int (f 110)]) (rest := []) (lv := [(0, .ref mm), (1, .int a1)]) C hI hS (c_X4_done l hB G n mm ag ab ah ch asv hs aas ain ty er awy ir ali ln th pl wr ato (f 110) c0_ (by omega)) c0_ rfl rfl q2644 q2646 qs35 q94 q2647 (⟨by decide, by decide, by decide⟩ : gArg _ 1) rfl ⟨by decide, by decide⟩ (by omega) hl rfl (Nat.le_of_ble_eq_true rfl) dX4_account_210 (fun v2160 G2161 n2162 H locs hp2163 hI hS => ?_) gKx.no
    obtain ⟨rfl, hn2164, hF2165, c2166⟩ := hp2163
    refine W.widen (k := 0) (n := 200 * (0)) (by omega) (by omega) ?_
    have c1_ := hF2165.at c1_ (by omega) (g_on c1_ c0_)
    have hF := hF.trans hF2165 (by omega) (fun q hq => (fun h => h ▸ rfl))
    exact g_iret C hI hS (by omega) ⟨0, ir, f 110, rfl, (by omega), hF, c2166, (by simp [qAccount, t24, t46, c_2039, c_2047, c_2055, c_2063, c_2071, c_2085, c_2093, c_2107, c_2121, c_2129, c_2137, c_2145, c_2159])⟩ dX4_account_213
  by_cases c_2167 : a1 = 13
  · skip
    refine lv_tableIn (off := 213) (tgt := 214) hx hb dX4_account_1 (by rw [c_2167]; decide) (by rw [c_2167]; decide) (by rw [c_2167]; rfl) (by decide) ?_
    refine lv_aload_n hx hb dX4_account_214 rfl (lv_at hl 0 rfl) ?_
    refine lv_aload_n hx hb dX4_account_215 rfl (lv_at hl 0 rfl) ?_
    refine lv_bipush (v := 40) hx hb dX4_account_216 (by decide) ?_
    refine lv_iconst (v := 3) hx hb dX4_account_218 (by decide) ?_
    refine g_V (As := [.int 40, .int 3]) (rest := [.ref mm]) (lv := [(0, .ref mm), (1, .int a1)]) C hI hS (c_X4_sum l hB G n mm ag ab ah ch asv hs aas ain ty er awy ir ali ln th pl wr ato f 40 3 40 3 c0_ c1_ nl40 nl3 (by omega)) c0_ rfl rfl q2947 q2949 qs75 q94 q2950 (⟨by decide, by decide, by decide⟩ : gArg _ 2) rfl ⟨by decide, by decide⟩ (by omega) hl rfl (Nat.le_of_ble_eq_true rfl) dX4_account_219 (fun v2168 G2169 n2170 H locs hp2171 hI hS => ?_) gKx.no
    obtain ⟨rfl, eG2169, en2170⟩ := hp2171
    refine W.widen (k := 0) (n := 200 * (0)) (by omega) (by omega) ?_
    rw [eG2169, en2170] at hI
    refine g_V (As := [.int (sSum f 40 3)]) (rest := []) (lv := [(0, .ref mm), (1, .int a1)]) C hI hS (c_X4_done l hB G n mm ag ab ah ch asv hs aas ain ty er awy ir ali ln th pl wr ato (sSum f 40 3) c0_ (by omega)) c0_ rfl rfl q2644 q2646 qs35 q94 q2647 (⟨by decide, by decide, by decide⟩ : gArg _ 1) rfl ⟨by decide, by decide⟩ (by omega) hl rfl (Nat.le_of_ble_eq_true rfl) dX4_account_222 (fun v2174 G2175 n2176 H locs hp2177 hI hS => ?_) gKx.no
    obtain ⟨rfl, hn2178, hF2179, c2180⟩ := hp2177
    refine W.widen (k := 0) (n := 200 * (0)) (by omega) (by omega) ?_
    have c1_ := hF2179.at c1_ (by omega) (g_on c1_ c0_)
    have hF := hF.trans hF2179 (by omega) (fun q hq => (fun h => h ▸ rfl))
    exact g_iret C hI hS (by omega) ⟨0, ir, sSum f 40 3, rfl, (by omega), hF, c2180, (by simp [qAccount, t24, t46, c_2039, c_2047, c_2055, c_2063, c_2071, c_2085, c_2093, c_2107, c_2121, c_2129, c_2137, c_2145, c_2159, c_2167])⟩ dX4_account_225
  by_cases c_2181 : a1 = 14
  · skip
    refine lv_tableIn (off := 225) (tgt := 226) hx hb dX4_account_1 (by rw [c_2181]; decide) (by rw [c_2181]; decide) (by rw [c_2181]; rfl) (by decide) ?_
    refine lv_aload_n hx hb dX4_account_226 rfl (lv_at hl 0 rfl) ?_
    refine lv_aload_n hx hb dX4_account_227 rfl (lv_at hl 0 rfl) ?_
    refine g_get C hI c0_ kc23 0 rfl q2567 (fun _ h9 => h9) dX4_account_228 ?_
    refine lv_bipush (v := 111) hx hb dX4_account_231 (by decide) ?_
    refine g_iald (v := .int (f 111)) C hI c1_ (gix nl111 (by omega) (by omega)) (congrArg Value.int (gixv (f := f) nl111 (by omega))) dX4_account_233 ?_
    refine g_V (As := [.int (f 111)]) (rest := []) (lv := [(0, .ref mm), (1, .int a1)]) C hI hS (c_X4_done l hB G n mm ag ab ah ch asv hs aas ain ty er awy ir ali ln th pl wr ato (f 111) c0_ (by omega)) c0_ rfl rfl q2644 q2646 qs35 q94 q2647 (⟨by decide, by decide, by decide⟩ : gArg _ 1) rfl ⟨by decide, by decide⟩ (by omega) hl rfl (Nat.le_of_ble_eq_true rfl) dX4_account_234 (fun v2182 G2183 n2184 H locs hp2185 hI hS => ?_) gKx.no
    obtain ⟨rfl, hn2186, hF2187, c2188⟩ := hp2185
    refine W.widen (k := 0) (n := 200 * (0)) (by omega) (by omega) ?_
    have c1_ := hF2187.at c1_ (by omega) (g_on c1_ c0_)
    have hF := hF.trans hF2187 (by omega) (fun q hq => (fun h => h ▸ rfl))
    exact g_iret C hI hS (by omega) ⟨0, ir, f 111, rfl, (by omega), hF, c2188, (by simp [qAccount, t24, t46, c_2039, c_2047, c_2055, c_2063, c_2071, c_2085, c_2093, c_2107, c_2121, c_2129, c_2137, c_2145, c_2159, c_2167, c_2181])⟩ dX4_account_237
  by_cases c_2189 : a1 = 15
  · skip
    refine lv_tableIn (off := 237) (tgt := 238) hx hb dX4_account_1 (by rw [c_2189]; decide) (by rw [c_2189]; decide) (by rw [c_2189]; rfl) (by decide) ?_
    refine lv_aload_n hx hb dX4_account_238 rfl (lv_at hl 0 rfl) ?_
    refine lv_aload_n hx hb dX4_account_239 rfl (lv_at hl 0 rfl) ?_
    refine lv_iconst (v := 3) hx hb dX4_account_240 (by decide) ?_
    refine lv_bipush (v := 18) hx hb dX4_account_241 (by decide) ?_
    refine g_V (As := [.int 3, .int 18]) (rest := [.ref mm]) (lv := [(0, .ref mm), (1, .int a1)]) C hI hS (c_X4_sum l hB G n mm ag ab ah ch asv hs aas ain ty er awy ir ali ln th pl wr ato f 3 18 3 18 c0_ c1_ nl3 nl18 (by omega)) c0_ rfl rfl q2947 q2949 qs75 q94 q2950 (⟨by decide, by decide, by decide⟩ : gArg _ 2) rfl ⟨by decide, by decide⟩ (by omega) hl rfl (Nat.le_of_ble_eq_true rfl) dX4_account_243 (fun v2190 G2191 n2192 H locs hp2193 hI hS => ?_) gKx.no
    obtain ⟨rfl, eG2191, en2192⟩ := hp2193
    refine W.widen (k := 0) (n := 200 * (0)) (by omega) (by omega) ?_
    rw [eG2191, en2192] at hI
    refine g_V (As := [.int (sSum f 3 18)]) (rest := []) (lv := [(0, .ref mm), (1, .int a1)]) C hI hS (c_X4_done l hB G n mm ag ab ah ch asv hs aas ain ty er awy ir ali ln th pl wr ato (sSum f 3 18) c0_ (by omega)) c0_ rfl rfl q2644 q2646 qs35 q94 q2647 (⟨by decide, by decide, by decide⟩ : gArg _ 1) rfl ⟨by decide, by decide⟩ (by omega) hl rfl (Nat.le_of_ble_eq_true rfl) dX4_account_246 (fun v2196 G2197 n2198 H locs hp2199 hI hS => ?_) gKx.no
    obtain ⟨rfl, hn2200, hF2201, c2202⟩ := hp2199
    refine W.widen (k := 0) (n := 200 * (0)) (by omega) (by omega) ?_
    have c1_ := hF2201.at c1_ (by omega) (g_on c1_ c0_)
    have hF := hF.trans hF2201 (by omega) (fun q hq => (fun h => h ▸ rfl))
    exact g_iret C hI hS (by omega) ⟨0, ir, sSum f 3 18, rfl, (by omega), hF, c2202, (by simp [qAccount, t24, t46, c_2039, c_2047, c_2055, c_2063, c_2071, c_2085, c_2093, c_2107, c_2121, c_2129, c_2137, c_2145, c_2159, c_2167, c_2181, c_2189])⟩ dX4_account_249
  by_cases c_2203 : a1 = 16
  · skip
    refine lv_tableIn (off := 249) (tgt := 250) hx hb dX4_account_1 (by rw [c_2203]; decide) (by rw [c_2203]; decide) (by rw [c_2203]; rfl) (by decide) ?_
    refine lv_aload_n hx hb dX4_account_250 rfl (lv_at hl 0 rfl) ?_
    refine lv_aload_n hx hb dX4_account_251 rfl (lv_at hl 0 rfl) ?_
    refine g_get C hI c0_ kc23 8 rfl q2575 (fun _ h9 => h9) dX4_account_252 ?_
    refine g_V (As := [.int ty]) (rest := []) (lv := [(0, .ref mm), (1, .int a1)]) C hI hS (c_X4_done l hB G n mm ag ab ah ch asv hs aas ain ty er awy ir ali ln th pl wr ato ty c0_ (by omega)) c0_ rfl rfl q2644 q2646 qs35 q94 q2647 (⟨by decide, by decide, by decide⟩ : gArg _ 1) rfl ⟨by decide, by decide⟩ (by omega) hl rfl (Nat.le_of_ble_eq_true rfl) dX4_account_255 (fun v2204 G2205 n2206 H locs hp2207 hI hS => ?_) gKx.no
    obtain ⟨rfl, hn2208, hF2209, c2210⟩ := hp2207
    refine W.widen (k := 0) (n := 200 * (0)) (by omega) (by omega) ?_
    have c1_ := hF2209.at c1_ (by omega) (g_on c1_ c0_)
    have hF := hF.trans hF2209 (by omega) (fun q hq => (fun h => h ▸ rfl))
    exact g_iret C hI hS (by omega) ⟨0, ir, ty, rfl, (by omega), hF, c2210, (by simp [qAccount, t24, t46, c_2039, c_2047, c_2055, c_2063, c_2071, c_2085, c_2093, c_2107, c_2121, c_2129, c_2137, c_2145, c_2159, c_2167, c_2181, c_2189, c_2203])⟩ dX4_account_258
  by_cases c_2211 : a1 = 17
  · skip
    refine lv_tableIn (off := 258) (tgt := 259) hx hb dX4_account_1 (by rw [c_2211]; decide) (by rw [c_2211]; decide) (by rw [c_2211]; rfl) (by decide) ?_
    refine lv_aload_n hx hb dX4_account_259 rfl (lv_at hl 0 rfl) ?_
    refine lv_aload_n hx hb dX4_account_260 rfl (lv_at hl 0 rfl) ?_
    refine g_get C hI c0_ kc23 3 rfl q2570 (fun _ h9 => h9) dX4_account_261 ?_
    refine g_V (As := [.int ch]) (rest := []) (lv := [(0, .ref mm), (1, .int a1)]) C hI hS (c_X4_done l hB G n mm ag ab ah ch asv hs aas ain ty er awy ir ali ln th pl wr ato ch c0_ (by omega)) c0_ rfl rfl q2644 q2646 qs35 q94 q2647 (⟨by decide, by decide, by decide⟩ : gArg _ 1) rfl ⟨by decide, by decide⟩ (by omega) hl rfl (Nat.le_of_ble_eq_true rfl) dX4_account_264 (fun v2212 G2213 n2214 H locs hp2215 hI hS => ?_) gKx.no
    obtain ⟨rfl, hn2216, hF2217, c2218⟩ := hp2215
    refine W.widen (k := 0) (n := 200 * (0)) (by omega) (by omega) ?_
    have c1_ := hF2217.at c1_ (by omega) (g_on c1_ c0_)
    have hF := hF.trans hF2217 (by omega) (fun q hq => (fun h => h ▸ rfl))
    exact g_iret C hI hS (by omega) ⟨0, ir, ch, rfl, (by omega), hF, c2218, (by simp [qAccount, t24, t46, c_2039, c_2047, c_2055, c_2063, c_2071, c_2085, c_2093, c_2107, c_2121, c_2129, c_2137, c_2145, c_2159, c_2167, c_2181, c_2189, c_2203, c_2211])⟩ dX4_account_267
  refine lv_tableOut (tgt := 268) hx hb dX4_account_1 (by have := lv_neT c_2039 (a := 0) (by decide); have := lv_neT c_2047 (a := 1) (by decide); have := lv_neT c_2055 (a := 2) (by decide); have := lv_neT c_2063 (a := 3) (by decide); have := lv_neT c_2071 (a := 4) (by decide); have := lv_neT c_2085 (a := 5) (by decide); have := lv_neT c_2093 (a := 6) (by decide); have := lv_neT c_2107 (a := 7) (by decide); have := lv_neT c_2121 (a := 8) (by decide); have := lv_neT c_2129 (a := 9) (by decide); have := lv_neT c_2137 (a := 10) (by decide); have := lv_neT c_2145 (a := 11) (by decide); have := lv_neT c_2159 (a := 12) (by decide); have := lv_neT c_2167 (a := 13) (by decide); have := lv_neT c_2181 (a := 14) (by decide); have := lv_neT c_2189 (a := 15) (by decide); have := lv_neT c_2203 (a := 16) (by decide); have := lv_neT c_2211 (a := 17) (by decide); omega) (by decide) ?_
  refine lv_aload_n hx hb dX4_account_268 rfl (lv_at hl 0 rfl) ?_
  refine lv_iconst (v := 1) hx hb dX4_account_269 (by decide) ?_
  refine g_V (As := [.int 1]) (rest := []) (lv := [(0, .ref mm), (1, .int a1)]) C hI hS (c_X4_fails l hB G n mm ag ab ah ch asv hs aas ain ty er awy ir ali ln th pl wr ato 1 c0_ (by omega)) c0_ rfl rfl q2637 q2639 qs34 q94 q2640 (⟨by decide, by decide, by decide⟩ : gArg _ 1) rfl ⟨by decide, by decide⟩ (by omega) hl rfl (Nat.le_of_ble_eq_true rfl) dX4_account_270 (fun v2219 G2220 n2221 H locs hp2222 hI hS => ?_) gKx.no
  obtain ⟨rfl, hn2223, hF2224, c2225⟩ := hp2222
  refine W.widen (k := 0) (n := 200 * (0)) (by omega) (by omega) ?_
  have c1_ := hF2224.at c1_ (by omega) (g_on c1_ c0_)
  have hF := hF.trans hF2224 (by omega) (fun q hq => (fun h => h ▸ rfl))
  exact g_iret C hI hS (by omega) ⟨1, 0, 0, rfl, (by omega), hF, c2225, (by simp [qAccount, t24, t46, c_2039, c_2047, c_2055, c_2063, c_2071, c_2085, c_2093, c_2107, c_2121, c_2129, c_2137, c_2145, c_2159, c_2167, c_2181, c_2189, c_2203, c_2211])⟩ dX4_account_273
set_option maxHeartbeats 4000000 in
set_option maxRecDepth 100000 in
theorem c_X4_holdsAgain (l : Launch) {D : gD} (hB : gBs D) (G : gH) (n : Nat) (mm : Nat) (ag : Nat) (ab : Nat) (ah : Nat) (ch : Int32) (asv : Nat) (hs : Int32) (aas : Nat) (ain : Nat) (ty : Int32) (er : Int32) (awy : Nat) (ir : Int32) (ali : Nat) (ln : Int32) (th : Int32) (pl : Int32) (wr : Int32) (ato : Nat) (f : Nat → Int32) (c0_ : G mm = some (.inl (23, [.ref ag, .ref ab, .ref ah, .int ch, .ref asv, .int hs, .ref aas, .ref ain, .int ty, .int er, .ref awy, .int ir, .ref ali, .int ln, .int th, .int pl, .int wr, .ref ato]))) (c1_ : G ag = some (aI 112 f)) (hz : gz D ≤ mm) : gMet l D yX4_holdsAgain (ws_ yX4_holdsAgain cX4_holdsAgain 1 (some FieldType.int)) 2 0 G n [.ref mm] (fun (v : Option Value) (G1 : gH) (n1 : Nat) => v = some (.int (f 108 - f 109 - f 110)) ∧ n ≤ n1 ∧ gF G G1 n (fun q : Nat => q = mm) ∧ G1 mm = some (.inl (23, [.ref ag, .ref ab, .ref ah, .int ch, .ref asv, .int hs, .ref aas, .ref ain, .int ty, .int er, .ref awy, .int ir, .ref ali, .int ln, .int 0, .int pl, .int wr, .ref ato]))) gNox := by
  refine g_start (by decide) (Nat.le_of_ble_eq_true rfl) ?_
  intro p e s m below meth c ls C hnm hxt hI hl
  have hx := C.x
  have hb := C.b
  have hS : va_S (gA D) s.heap s.heap [] := va_S.rf
  have hz0 := hI.z
  have lc0_ := hI.lt c0_
  have lc1_ := hI.lt c1_
  have hF : gF G G n (fun q : Nat => q = mm) := gF.rf _ _ _
  have hl : lv_has ls 1 [(0, .ref mm)] := hl
  refine lv_aload_n hx hb dX4_holdsAgain_0 rfl (lv_at hl 0 rfl) ?_
  refine lv_aload_n hx hb dX4_holdsAgain_1 rfl (lv_at hl 0 rfl) ?_
  refine g_get C hI c0_ kc23 0 rfl q2567 (fun _ h9 => h9) dX4_holdsAgain_2 ?_
  refine lv_bipush (v := 108) hx hb dX4_holdsAgain_5 (by decide) ?_
  refine g_iald (v := .int (f 108)) C hI c1_ (gix nl108 (by omega) (by omega)) (congrArg Value.int (gixv (f := f) nl108 (by omega))) dX4_holdsAgain_7 ?_
  refine lv_aload_n hx hb dX4_holdsAgain_8 rfl (lv_at hl 0 rfl) ?_
  refine g_get C hI c0_ kc23 0 rfl q2567 (fun _ h9 => h9) dX4_holdsAgain_9 ?_
  refine lv_bipush (v := 109) hx hb dX4_holdsAgain_12 (by decide) ?_
  refine g_iald (v := .int (f 109)) C hI c1_ (gix nl109 (by omega) (by omega)) (congrArg Value.int (gixv (f := f) nl109 (by omega))) dX4_holdsAgain_14 ?_
  refine lv_isub hx hb dX4_holdsAgain_15 ?_
  refine lv_aload_n hx hb dX4_holdsAgain_16 rfl (lv_at hl 0 rfl) ?_
  refine g_get C hI c0_ kc23 0 rfl q2567 (fun _ h9 => h9) dX4_holdsAgain_17 ?_
  refine lv_bipush (v := 110) hx hb dX4_holdsAgain_20 (by decide) ?_
  refine g_iald (v := .int (f 110)) C hI c1_ (gix nl110 (by omega) (by omega)) (congrArg Value.int (gixv (f := f) nl110 (by omega))) dX4_holdsAgain_22 ?_
  refine lv_isub hx hb dX4_holdsAgain_23 ?_
  refine g_V (As := [.int (((f 108) - (f 109)) - (f 110))]) (rest := []) (lv := [(0, .ref mm)]) C hI hS (c_X4_done l hB G n mm ag ab ah ch asv hs aas ain ty er awy ir ali ln th pl wr ato (((f 108) - (f 109)) - (f 110)) c0_ (by omega)) c0_ rfl rfl q2644 q2646 qs35 q94 q2647 (⟨by decide, by decide, by decide⟩ : gArg _ 1) rfl ⟨by decide, by decide⟩ (by omega) hl rfl (Nat.le_of_ble_eq_true rfl) dX4_holdsAgain_24 (fun v2226 G2227 n2228 H locs hp2229 hI hS => ?_) gKx.no
  obtain ⟨rfl, hn2230, hF2231, c2232⟩ := hp2229
  refine W.widen (k := 0) (n := 200 * (0)) (by omega) (by omega) ?_
  have c1_ := hF2231.at c1_ (by omega) (g_on c1_ c0_)
  have hF := hF.trans hF2231 (by omega) (fun q hq => (fun h => h ▸ rfl))
  exact g_iret C hI hS (by omega) ⟨rfl, (by omega), hF, c2232⟩ dX4_holdsAgain_27
set_option maxHeartbeats 4000000 in
set_option maxRecDepth 100000 in
theorem c_X4_undo (l : Launch) {D : gD} (hB : gBs D) (G : gH) (n : Nat) (mm : Nat) (ag : Nat) (ab : Nat) (ah : Nat) (ch : Int32) (asv : Nat) (hs : Int32) (aas : Nat) (ain : Nat) (ty : Int32) (er : Int32) (awy : Nat) (ir : Int32) (ali : Nat) (ln : Int32) (th : Int32) (pl : Int32) (wr : Int32) (ato : Nat) (f : Nat → Int32) (h : Nat → Int32) (cn : Nat) (c0_ : G mm = some (.inl (23, [.ref ag, .ref ab, .ref ah, .int ch, .ref asv, .int hs, .ref aas, .ref ain, .int ty, .int er, .ref awy, .int ir, .ref ali, .int ln, .int th, .int pl, .int wr, .ref ato]))) (c1_ : G ag = some (aI 112 f)) (c2_ : G ah = some (aI 896 h)) (hz : gz D ≤ mm) (hzg : gz D ≤ ag) (zf : rZ f) (hc : ch = nI cn) (hc8 : cn ≤ 8) : gMet l D yX4_undo (ws_ yX4_undo cX4_undo 1 (some FieldType.int)) 2 0 G n [.ref mm] (fun (v : Option Value) (G1 : gH) (n1 : Nat) => ∃ (th2 : Int32) (ir2 : Int32) (c2 : Nat) (f2 : Nat → Int32) (r : Int32), v = some (.int r) ∧ n ≤ n1 ∧ gF G G1 n (fun q : Nat => q = mm ∨ q = ag) ∧ G1 mm = some (.inl (23, [.ref ag, .ref ab, .ref ah, .int (nI c2), .ref asv, .int hs, .ref aas, .ref ain, .int ty, .int er, .ref awy, .int ir2, .ref ali, .int ln, .int th2, .int pl, .int wr, .ref ato])) ∧ G1 ag = some (aI 112 f2) ∧ mU ir cn h f = (th2, ir2, c2, f2, r)) gNox := by
  refine g_start (by decide) (Nat.le_of_ble_eq_true rfl) ?_
  intro p e s m below meth c ls C hnm hxt hI hl
  have hx := C.x
  have hb := C.b
  have hS : va_S (gA D) s.heap s.heap [] := va_S.rf
  have hz0 := hI.z
  have lc0_ := hI.lt c0_
  have lc1_ := hI.lt c1_
  have lc2_ := hI.lt c2_
  have hF : gF G G n (fun q : Nat => q = mm ∨ q = ag) := gF.rf _ _ _
  have hl : lv_has ls 1 [(0, .ref mm)] := hl
  refine lv_aload_n hx hb dX4_undo_0 rfl (lv_at hl 0 rfl) ?_
  refine g_get C hI c0_ kc23 3 rfl q2570 (fun _ h9 => h9) dX4_undo_1 ?_
  refine lv_if_ne (tgt := 13) hx hb dX4_undo_4 (by decide) (fun c_2233 => ?_) (fun c_2233 => ?_)
  · skip
    try have k_2234 : ¬ (cn = 0) := (not_congr (nI_eqE hc nl0 (by omega) (by omega))).mp c_2233
    refine lv_aload_n hx hb dX4_undo_13 rfl (lv_at hl 0 rfl) ?_
    refine lv_dup hx hb dX4_undo_14 rfl ?_
    refine g_get C hI c0_ kc23 3 rfl q2570 (fun _ h9 => h9) dX4_undo_15 ?_
    refine lv_iconst (v := 1) hx hb dX4_undo_18 (by decide) ?_
    refine lv_isub hx hb dX4_undo_19 ?_
    refine g_put (fs2 := [.ref ag, .ref ab, .ref ah, .int (ch - 1), .ref asv, .int hs, .ref aas, .ref ain, .int ty, .int er, .ref awy, .int ir, .ref ali, .int ln, .int th, .int pl, .int wr, .ref ato]) C hI hS c0_ (by omega) kc23 3 (Nat.le_of_ble_eq_true rfl) q2570 (fun _ h9 => h9) rfl rfl rfl rfl dX4_undo_20 (fun G2235 H locs e2236 hI hS => ?_)
    have c1_ := gE_k e2236 c1_ (g_on c1_ c0_)
    have c2_ := gE_k e2236 c2_ (g_on c2_ c0_)
    have c0_ : G2235 mm = some (.inl (23, [.ref ag, .ref ab, .ref ah, .int (ch - 1), .ref asv, .int hs, .ref aas, .ref ain, .int ty, .int er, .ref awy, .int ir, .ref ali, .int ln, .int th, .int pl, .int wr, .ref ato])) := gE_s e2236
    have hF := gE_F e2236 hF (Or.inr (Or.inl rfl))
    refine lv_aload_n hx hb dX4_undo_23 rfl (lv_at hl 0 rfl) ?_
    refine g_get C hI c0_ kc23 2 rfl q2569 (fun _ h9 => h9) dX4_undo_24 ?_
    refine lv_aload_n hx hb dX4_undo_27 rfl (lv_at hl 0 rfl) ?_
    refine g_get C hI c0_ kc23 3 rfl q2570 (fun _ h9 => h9) dX4_undo_28 ?_
    refine lv_bipush (v := 112) hx hb dX4_undo_31 (by decide) ?_
    refine lv_imul hx hb dX4_undo_33 ?_
    refine lv_aload_n hx hb dX4_undo_34 rfl (lv_at hl 0 rfl) ?_
    refine g_get C hI c0_ kc23 0 rfl q2567 (fun _ h9 => h9) dX4_undo_35 ?_
    refine lv_iconst (v := 0) hx hb dX4_undo_38 (by decide) ?_
    refine g_S (As := [.ref ah, .int ((ch - 1) * 112), .ref ag, .int 0]) (rest := []) (lv := [(0, .ref mm)]) C hI hS (c_X4_copy l hB G2235 n ah ag 896 112 h f ((cn - 1) * 112) 0 ((ch - 1) * 112) 0 c2_ c1_ (by omega) (g_na c2_ c1_ (Or.inr (by decide))) (by omega) (by omega) (by omega) (by omega) (gmul (gsub hc nl1 (by omega)) nl112) nl0) q2656 q2657 q94 q2658 (⟨by decide, by decide, by decide⟩ : gArg _ 4) rfl ⟨by decide, by decide⟩ (by omega) hl rfl (Nat.le_of_ble_eq_true rfl) dX4_undo_39 (fun v2237 G2238 n2239 H locs hp2240 hI hS => ?_) gKx.no
    obtain ⟨rfl, hn2241, hF2242, c2243⟩ := hp2240
    refine W.widen (k := 0) (n := 200 * (0)) (by omega) (by omega) ?_
    have c0_ := hF2242.at c0_ (by omega) (g_no c0_ c1_)
    have c2_ := hF2242.at c2_ (by omega) (g_na c2_ c1_ (Or.inr (by decide)))
    have hF := hF.trans hF2242 (by omega) (fun q hq => (fun h => h ▸ (Or.inr (rfl))))
    rw [hRow_cp zf] at c2243
    refine lv_aload_n hx hb dX4_undo_42 rfl (lv_at hl 0 rfl) ?_
    refine lv_aload_n hx hb dX4_undo_43 rfl (lv_at hl 0 rfl) ?_
    refine g_get C hI c0_ kc23 3 rfl q2570 (fun _ h9 => h9) dX4_undo_44 ?_
    refine g_V (As := [.int (ch - 1)]) (rest := []) (lv := [(0, .ref mm)]) C hI hS (c_X4_done l hB G2238 n2239 mm ag ab ah (ch - 1) asv hs aas ain ty er awy ir ali ln th pl wr ato (ch - 1) c0_ (by omega)) c0_ rfl rfl q2644 q2646 qs35 q94 q2647 (⟨by decide, by decide, by decide⟩ : gArg _ 1) rfl ⟨by decide, by decide⟩ (by omega) hl rfl (Nat.le_of_ble_eq_true rfl) dX4_undo_47 (fun v2244 G2245 n2246 H locs hp2247 hI hS => ?_) gKx.no
    obtain ⟨rfl, hn2248, hF2249, c2250⟩ := hp2247
    refine W.widen (k := 0) (n := 200 * (0)) (by omega) (by omega) ?_
    have c2_ := hF2249.at c2_ (by omega) (g_on c2_ c0_)
    have c2243 := hF2249.at c2243 (by omega) (g_on c2243 c0_)
    have hF := hF.trans hF2249 (by omega) (fun q hq => (fun h => h ▸ (Or.inl rfl)))
    exact g_iret C hI hS (by omega) ⟨0, ir, cn - 1, hRow h (cn - 1), ch - 1, rfl, (by omega), hF, (by rw [show nI (cn - 1) = ch - 1 from (gsub hc nl1 (by omega)).symm]; exact c2250), c2243, (by unfold mU; first | (rw [if_pos (by omega)]) | (rw [if_neg (by omega), show nI (cn - 1) = ch - 1 from (gsub hc nl1 (by omega)).symm]))⟩ dX4_undo_50
  · skip
    try have k_2251 : cn = 0 := (nI_eqE hc nl0 (by omega) (by omega)).mp c_2233
    refine lv_aload_n hx hb dX4_undo_7 rfl (lv_at hl 0 rfl) ?_
    refine lv_iconst (v := 1) hx hb dX4_undo_8 (by decide) ?_
    refine g_V (As := [.int 1]) (rest := []) (lv := [(0, .ref mm)]) C hI hS (c_X4_fails l hB G n mm ag ab ah ch asv hs aas ain ty er awy ir ali ln th pl wr ato 1 c0_ (by omega)) c0_ rfl rfl q2637 q2639 qs34 q94 q2640 (⟨by decide, by decide, by decide⟩ : gArg _ 1) rfl ⟨by decide, by decide⟩ (by omega) hl rfl (Nat.le_of_ble_eq_true rfl) dX4_undo_9 (fun v2252 G2253 n2254 H locs hp2255 hI hS => ?_) gKx.no
    obtain ⟨rfl, hn2256, hF2257, c2258⟩ := hp2255
    refine W.widen (k := 0) (n := 200 * (0)) (by omega) (by omega) ?_
    have c1_ := hF2257.at c1_ (by omega) (g_on c1_ c0_)
    have c2_ := hF2257.at c2_ (by omega) (g_on c2_ c0_)
    have hF := hF.trans hF2257 (by omega) (fun q hq => (fun h => h ▸ (Or.inl rfl)))
    exact g_iret C hI hS (by omega) ⟨1, 0, cn, f, 0, rfl, (by omega), hF, (by rw [show nI cn = ch from hc.symm]; exact c2258), c1_, (by unfold mU; first | (rw [if_pos (by omega)]) | (rw [if_neg (by omega), show nI (cn - 1) = 0 from (gsub hc nl1 (by omega)).symm]))⟩ dX4_undo_12
set_option maxHeartbeats 4000000 in
set_option maxRecDepth 100000 in
theorem c_X4_save (l : Launch) {D : gD} (hB : gBs D) (G : gH) (n : Nat) (mm : Nat) (ag : Nat) (ab : Nat) (ah : Nat) (ch : Int32) (asv : Nat) (hs : Int32) (aas : Nat) (ain : Nat) (ty : Int32) (er : Int32) (awy : Nat) (ir : Int32) (ali : Nat) (ln : Int32) (th : Int32) (pl : Int32) (wr : Int32) (ato : Nat) (f : Nat → Int32) (fs : Nat → Int32) (c0_ : G mm = some (.inl (23, [.ref ag, .ref ab, .ref ah, .int ch, .ref asv, .int hs, .ref aas, .ref ain, .int ty, .int er, .ref awy, .int ir, .ref ali, .int ln, .int th, .int pl, .int wr, .ref ato]))) (c1_ : G ag = some (aI 112 f)) (c2_ : G asv = some (aI 112 fs)) (hz : gz D ≤ mm) (hzg : gz D ≤ ag) (hzs : gz D ≤ asv) (hnes : ag ≠ asv) (zf : rZ f) (zfs : rZ fs) : gMet l D yX4_save (ws_ yX4_save cX4_save 1 (some FieldType.int)) 2 0 G n [.ref mm] (fun (v : Option Value) (G1 : gH) (n1 : Nat) => v = some (.int (f 0)) ∧ n ≤ n1 ∧ gF G G1 n (fun q : Nat => q = mm ∨ q = asv) ∧ G1 mm = some (.inl (23, [.ref ag, .ref ab, .ref ah, .int ch, .ref asv, .int 1, .ref aas, .ref ain, .int ty, .int er, .ref awy, .int ir, .ref ali, .int ln, .int 0, .int pl, .int wr, .ref ato])) ∧ G1 asv = some (aI 112 f)) gNox := by
  refine g_start (by decide) (Nat.le_of_ble_eq_true rfl) ?_
  intro p e s m below meth c ls C hnm hxt hI hl
  have hx := C.x
  have hb := C.b
  have hS : va_S (gA D) s.heap s.heap [] := va_S.rf
  have hz0 := hI.z
  have lc0_ := hI.lt c0_
  have lc1_ := hI.lt c1_
  have lc2_ := hI.lt c2_
  have hF : gF G G n (fun q : Nat => q = mm ∨ q = asv) := gF.rf _ _ _
  have hl : lv_has ls 1 [(0, .ref mm)] := hl
  refine lv_aload_n hx hb dX4_save_0 rfl (lv_at hl 0 rfl) ?_
  refine g_get C hI c0_ kc23 0 rfl q2567 (fun _ h9 => h9) dX4_save_1 ?_
  refine lv_iconst (v := 0) hx hb dX4_save_4 (by decide) ?_
  refine lv_aload_n hx hb dX4_save_5 rfl (lv_at hl 0 rfl) ?_
  refine g_get C hI c0_ kc23 4 rfl q2571 (fun _ h9 => h9) dX4_save_6 ?_
  refine lv_iconst (v := 0) hx hb dX4_save_9 (by decide) ?_
  refine g_S (As := [.ref ag, .int 0, .ref asv, .int 0]) (rest := []) (lv := [(0, .ref mm)]) C hI hS (c_X4_copy l hB G n ag asv 112 112 f fs 0 0 0 0 c1_ c2_ (by omega) hnes (by omega) (by omega) (by omega) (by omega) nl0 nl0) q2656 q2657 q94 q2658 (⟨by decide, by decide, by decide⟩ : gArg _ 4) rfl ⟨by decide, by decide⟩ (by omega) hl rfl (Nat.le_of_ble_eq_true rfl) dX4_save_10 (fun v2259 G2260 n2261 H locs hp2262 hI hS => ?_) gKx.no
  obtain ⟨rfl, hn2263, hF2264, c2265⟩ := hp2262
  refine W.widen (k := 0) (n := 200 * (0)) (by omega) (by omega) ?_
  have c0_ := hF2264.at c0_ (by omega) (g_no c0_ c2_)
  have c1_ := hF2264.at c1_ (by omega) hnes
  have hF := hF.trans hF2264 (by omega) (fun q hq => (fun h => h ▸ (Or.inr (rfl))))
  rw [rZ_cp zf zfs] at c2265
  refine lv_aload_n hx hb dX4_save_13 rfl (lv_at hl 0 rfl) ?_
  refine lv_iconst (v := 1) hx hb dX4_save_14 (by decide) ?_
  refine g_put (fs2 := [.ref ag, .ref ab, .ref ah, .int ch, .ref asv, .int 1, .ref aas, .ref ain, .int ty, .int er, .ref awy, .int ir, .ref ali, .int ln, .int th, .int pl, .int wr, .ref ato]) C hI hS c0_ (by omega) kc23 5 (Nat.le_of_ble_eq_true rfl) q2572 (fun _ h9 => h9) rfl rfl rfl rfl dX4_save_15 (fun G2266 H locs e2267 hI hS => ?_)
  have c1_ := gE_k e2267 c1_ (g_on c1_ c0_)
  have c2265 := gE_k e2267 c2265 (g_on c2265 c0_)
  have c0_ : G2266 mm = some (.inl (23, [.ref ag, .ref ab, .ref ah, .int ch, .ref asv, .int 1, .ref aas, .ref ain, .int ty, .int er, .ref awy, .int ir, .ref ali, .int ln, .int th, .int pl, .int wr, .ref ato])) := gE_s e2267
  have hF := gE_F e2267 hF (Or.inr (Or.inl rfl))
  refine lv_aload_n hx hb dX4_save_18 rfl (lv_at hl 0 rfl) ?_
  refine lv_aload_n hx hb dX4_save_19 rfl (lv_at hl 0 rfl) ?_
  refine g_get C hI c0_ kc23 0 rfl q2567 (fun _ h9 => h9) dX4_save_20 ?_
  refine lv_iconst (v := 0) hx hb dX4_save_23 (by decide) ?_
  refine g_iald (v := .int (f 0)) C hI c1_ (gix nl0 (by omega) (by omega)) (congrArg Value.int (gixv (f := f) nl0 (by omega))) dX4_save_24 ?_
  refine g_V (As := [.int (f 0)]) (rest := []) (lv := [(0, .ref mm)]) C hI hS (c_X4_done l hB G2266 n2261 mm ag ab ah ch asv 1 aas ain ty er awy ir ali ln th pl wr ato (f 0) c0_ (by omega)) c0_ rfl rfl q2644 q2646 qs35 q94 q2647 (⟨by decide, by decide, by decide⟩ : gArg _ 1) rfl ⟨by decide, by decide⟩ (by omega) hl rfl (Nat.le_of_ble_eq_true rfl) dX4_save_25 (fun v2268 G2269 n2270 H locs hp2271 hI hS => ?_) gKx.no
  obtain ⟨rfl, hn2272, hF2273, c2274⟩ := hp2271
  refine W.widen (k := 0) (n := 200 * (0)) (by omega) (by omega) ?_
  have c1_ := hF2273.at c1_ (by omega) (g_on c1_ c0_)
  have c2265 := hF2273.at c2265 (by omega) (g_on c2265 c0_)
  have hF := hF.trans hF2273 (by omega) (fun q hq => (fun h => h ▸ (Or.inl rfl)))
  exact g_iret C hI hS (by omega) ⟨rfl, (by omega), hF, c2274, c2265⟩ dX4_save_28
set_option maxHeartbeats 4000000 in
set_option maxRecDepth 100000 in
theorem c_X4_restore (l : Launch) {D : gD} (hB : gBs D) (G : gH) (n : Nat) (mm : Nat) (ag : Nat) (ab : Nat) (ah : Nat) (ch : Int32) (asv : Nat) (hs : Int32) (aas : Nat) (ain : Nat) (ty : Int32) (er : Int32) (awy : Nat) (ir : Int32) (ali : Nat) (ln : Int32) (th : Int32) (pl : Int32) (wr : Int32) (ato : Nat) (f : Nat → Int32) (fs : Nat → Int32) (cn : Nat) (c0_ : G mm = some (.inl (23, [.ref ag, .ref ab, .ref ah, .int ch, .ref asv, .int hs, .ref aas, .ref ain, .int ty, .int er, .ref awy, .int ir, .ref ali, .int ln, .int th, .int pl, .int wr, .ref ato]))) (c1_ : G ag = some (aI 112 f)) (c2_ : G asv = some (aI 112 fs)) (hz : gz D ≤ mm) (hzg : gz D ≤ ag) (hzs : gz D ≤ asv) (hnes : ag ≠ asv) (zf : rZ f) (zfs : rZ fs) (hc : ch = nI cn) (hc8 : cn ≤ 8) : gMet l D yX4_restore (ws_ yX4_restore cX4_restore 1 (some FieldType.int)) 2 0 G n [.ref mm] (fun (v : Option Value) (G1 : gH) (n1 : Nat) => ∃ (th2 : Int32) (ir2 : Int32) (c2 : Nat) (f2 : Nat → Int32) (r : Int32), v = some (.int r) ∧ n ≤ n1 ∧ gF G G1 n (fun q : Nat => q = mm ∨ q = ag) ∧ G1 mm = some (.inl (23, [.ref ag, .ref ab, .ref ah, .int (nI c2), .ref asv, .int hs, .ref aas, .ref ain, .int ty, .int er, .ref awy, .int ir2, .ref ali, .int ln, .int th2, .int pl, .int wr, .ref ato])) ∧ G1 ag = some (aI 112 f2) ∧ mRe ir hs cn fs f = (th2, ir2, c2, f2, r)) gNox := by
  refine g_start (by decide) (Nat.le_of_ble_eq_true rfl) ?_
  intro p e s m below meth c ls C hnm hxt hI hl
  have hx := C.x
  have hb := C.b
  have hS : va_S (gA D) s.heap s.heap [] := va_S.rf
  have hz0 := hI.z
  have lc0_ := hI.lt c0_
  have lc1_ := hI.lt c1_
  have lc2_ := hI.lt c2_
  have hF : gF G G n (fun q : Nat => q = mm ∨ q = ag) := gF.rf _ _ _
  have hl : lv_has ls 1 [(0, .ref mm)] := hl
  refine lv_aload_n hx hb dX4_restore_0 rfl (lv_at hl 0 rfl) ?_
  refine g_get C hI c0_ kc23 5 rfl q2572 (fun _ h9 => h9) dX4_restore_1 ?_
  refine lv_if_ne (tgt := 13) hx hb dX4_restore_4 (by decide) (fun c_2275 => ?_) (fun c_2275 => ?_)
  · skip
    refine lv_aload_n hx hb dX4_restore_13 rfl (lv_at hl 0 rfl) ?_
    refine g_get C hI c0_ kc23 4 rfl q2571 (fun _ h9 => h9) dX4_restore_14 ?_
    refine lv_iconst (v := 0) hx hb dX4_restore_17 (by decide) ?_
    refine lv_aload_n hx hb dX4_restore_18 rfl (lv_at hl 0 rfl) ?_
    refine g_get C hI c0_ kc23 0 rfl q2567 (fun _ h9 => h9) dX4_restore_19 ?_
    refine lv_iconst (v := 0) hx hb dX4_restore_22 (by decide) ?_
    refine g_S (As := [.ref asv, .int 0, .ref ag, .int 0]) (rest := []) (lv := [(0, .ref mm)]) C hI hS (c_X4_copy l hB G n asv ag 112 112 fs f 0 0 0 0 c2_ c1_ (by omega) (Ne.symm hnes) (by omega) (by omega) (by omega) (by omega) nl0 nl0) q2656 q2657 q94 q2658 (⟨by decide, by decide, by decide⟩ : gArg _ 4) rfl ⟨by decide, by decide⟩ (by omega) hl rfl (Nat.le_of_ble_eq_true rfl) dX4_restore_23 (fun v2276 G2277 n2278 H locs hp2279 hI hS => ?_) gKx.no
    obtain ⟨rfl, hn2280, hF2281, c2282⟩ := hp2279
    refine W.widen (k := 0) (n := 200 * (0)) (by omega) (by omega) ?_
    have c0_ := hF2281.at c0_ (by omega) (g_no c0_ c1_)
    have c2_ := hF2281.at c2_ (by omega) (Ne.symm hnes)
    have hF := hF.trans hF2281 (by omega) (fun q hq => (fun h => h ▸ (Or.inr (rfl))))
    rw [rZ_cp zfs zf] at c2282
    refine lv_aload_n hx hb dX4_restore_26 rfl (lv_at hl 0 rfl) ?_
    refine lv_iconst (v := 0) hx hb dX4_restore_27 (by decide) ?_
    refine g_put (fs2 := [.ref ag, .ref ab, .ref ah, .int 0, .ref asv, .int hs, .ref aas, .ref ain, .int ty, .int er, .ref awy, .int ir, .ref ali, .int ln, .int th, .int pl, .int wr, .ref ato]) C hI hS c0_ (by omega) kc23 3 (Nat.le_of_ble_eq_true rfl) q2570 (fun _ h9 => h9) rfl rfl rfl rfl dX4_restore_28 (fun G2283 H locs e2284 hI hS => ?_)
    have c2_ := gE_k e2284 c2_ (g_on c2_ c0_)
    have c2282 := gE_k e2284 c2282 (g_on c2282 c0_)
    have c0_ : G2283 mm = some (.inl (23, [.ref ag, .ref ab, .ref ah, .int 0, .ref asv, .int hs, .ref aas, .ref ain, .int ty, .int er, .ref awy, .int ir, .ref ali, .int ln, .int th, .int pl, .int wr, .ref ato])) := gE_s e2284
    have hF := gE_F e2284 hF (Or.inr (Or.inl rfl))
    refine lv_aload_n hx hb dX4_restore_31 rfl (lv_at hl 0 rfl) ?_
    refine lv_aload_n hx hb dX4_restore_32 rfl (lv_at hl 0 rfl) ?_
    refine g_get C hI c0_ kc23 0 rfl q2567 (fun _ h9 => h9) dX4_restore_33 ?_
    refine lv_iconst (v := 0) hx hb dX4_restore_36 (by decide) ?_
    refine g_iald (v := .int (fs 0)) C hI c2282 (gix nl0 (by omega) (by omega)) (congrArg Value.int (gixv (f := fs) nl0 (by omega))) dX4_restore_37 ?_
    refine g_V (As := [.int (fs 0)]) (rest := []) (lv := [(0, .ref mm)]) C hI hS (c_X4_done l hB G2283 n2278 mm ag ab ah 0 asv hs aas ain ty er awy ir ali ln th pl wr ato (fs 0) c0_ (by omega)) c0_ rfl rfl q2644 q2646 qs35 q94 q2647 (⟨by decide, by decide, by decide⟩ : gArg _ 1) rfl ⟨by decide, by decide⟩ (by omega) hl rfl (Nat.le_of_ble_eq_true rfl) dX4_restore_38 (fun v2285 G2286 n2287 H locs hp2288 hI hS => ?_) gKx.no
    obtain ⟨rfl, hn2289, hF2290, c2291⟩ := hp2288
    refine W.widen (k := 0) (n := 200 * (0)) (by omega) (by omega) ?_
    have c2_ := hF2290.at c2_ (by omega) (g_on c2_ c0_)
    have c2282 := hF2290.at c2282 (by omega) (g_on c2282 c0_)
    have hF := hF.trans hF2290 (by omega) (fun q hq => (fun h => h ▸ (Or.inl rfl)))
    exact g_iret C hI hS (by omega) ⟨0, ir, 0, fs, fs 0, rfl, (by omega), hF, (by rw [← nl0]; exact c2291), c2282, (by simp [mRe, c_2275])⟩ dX4_restore_41
  · skip
    refine lv_aload_n hx hb dX4_restore_7 rfl (lv_at hl 0 rfl) ?_
    refine lv_iconst (v := 1) hx hb dX4_restore_8 (by decide) ?_
    refine g_V (As := [.int 1]) (rest := []) (lv := [(0, .ref mm)]) C hI hS (c_X4_fails l hB G n mm ag ab ah ch asv hs aas ain ty er awy ir ali ln th pl wr ato 1 c0_ (by omega)) c0_ rfl rfl q2637 q2639 qs34 q94 q2640 (⟨by decide, by decide, by decide⟩ : gArg _ 1) rfl ⟨by decide, by decide⟩ (by omega) hl rfl (Nat.le_of_ble_eq_true rfl) dX4_restore_9 (fun v2292 G2293 n2294 H locs hp2295 hI hS => ?_) gKx.no
    obtain ⟨rfl, hn2296, hF2297, c2298⟩ := hp2295
    refine W.widen (k := 0) (n := 200 * (0)) (by omega) (by omega) ?_
    have c1_ := hF2297.at c1_ (by omega) (g_on c1_ c0_)
    have c2_ := hF2297.at c2_ (by omega) (g_on c2_ c0_)
    have hF := hF.trans hF2297 (by omega) (fun q hq => (fun h => h ▸ (Or.inl rfl)))
    exact g_iret C hI hS (by omega) ⟨1, 0, cn, f, 0, rfl, (by omega), hF, (by rw [show nI cn = ch from hc.symm]; exact c2298), c1_, (by simp [mRe, c_2275])⟩ dX4_restore_12
set_option maxHeartbeats 4000000 in
set_option maxRecDepth 100000 in
theorem c_X4_errorPosition (l : Launch) {D : gD} (hB : gBs D) (G : gH) (n : Nat) (mm : Nat) (ag : Nat) (ab : Nat) (ah : Nat) (ch : Int32) (asv : Nat) (hs : Int32) (aas : Nat) (ain : Nat) (ty : Int32) (er : Int32) (awy : Nat) (ir : Int32) (ali : Nat) (ln : Int32) (th : Int32) (pl : Int32) (wr : Int32) (ato : Nat) (c0_ : G mm = some (.inl (23, [.ref ag, .ref ab, .ref ah, .int ch, .ref asv, .int hs, .ref aas, .ref ain, .int ty, .int er, .ref awy, .int ir, .ref ali, .int ln, .int th, .int pl, .int wr, .ref ato]))) (hz : gz D ≤ mm) : gMet l D yX4_errorPosition (ws_ yX4_errorPosition cX4_errorPosition 1 (some FieldType.int)) 2 0 G n [.ref mm] (fun (v : Option Value) (G1 : gH) (n1 : Nat) => ∃ (th2 : Int32) (ir2 : Int32) (r : Int32), v = some (.int r) ∧ n ≤ n1 ∧ gF G G1 n (fun q : Nat => q = mm) ∧ G1 mm = some (.inl (23, [.ref ag, .ref ab, .ref ah, .int ch, .ref asv, .int hs, .ref aas, .ref ain, .int ty, .int er, .ref awy, .int ir2, .ref ali, .int ln, .int th2, .int pl, .int wr, .ref ato])) ∧ qErr er = (th2, r)) gNox := by
  refine g_start (by decide) (Nat.le_of_ble_eq_true rfl) ?_
  intro p e s m below meth c ls C hnm hxt hI hl
  have hx := C.x
  have hb := C.b
  have hS : va_S (gA D) s.heap s.heap [] := va_S.rf
  have hz0 := hI.z
  have lc0_ := hI.lt c0_
  have hF : gF G G n (fun q : Nat => q = mm) := gF.rf _ _ _
  have hl : lv_has ls 1 [(0, .ref mm)] := hl
  refine lv_aload_n hx hb dX4_errorPosition_0 rfl (lv_at hl 0 rfl) ?_
  refine g_get C hI c0_ kc23 9 rfl q2576 (fun _ h9 => h9) dX4_errorPosition_1 ?_
  refine lv_iconst (v := (-1)) hx hb dX4_errorPosition_4 (by decide) ?_
  refine lv_icmp_ne (tgt := 16) hx hb dX4_errorPosition_5 (by decide) (fun c_2299 => ?_) (fun c_2299 => ?_)
  · skip
    refine lv_aload_n hx hb dX4_errorPosition_16 rfl (lv_at hl 0 rfl) ?_
    refine lv_aload_n hx hb dX4_errorPosition_17 rfl (lv_at hl 0 rfl) ?_
    refine g_get C hI c0_ kc23 9 rfl q2576 (fun _ h9 => h9) dX4_errorPosition_18 ?_
    refine g_V (As := [.int er]) (rest := []) (lv := [(0, .ref mm)]) C hI hS (c_X4_done l hB G n mm ag ab ah ch asv hs aas ain ty er awy ir ali ln th pl wr ato er c0_ (by omega)) c0_ rfl rfl q2644 q2646 qs35 q94 q2647 (⟨by decide, by decide, by decide⟩ : gArg _ 1) rfl ⟨by decide, by decide⟩ (by omega) hl rfl (Nat.le_of_ble_eq_true rfl) dX4_errorPosition_21 (fun v2300 G2301 n2302 H locs hp2303 hI hS => ?_) gKx.no
    obtain ⟨rfl, hn2304, hF2305, c2306⟩ := hp2303
    refine W.widen (k := 0) (n := 200 * (0)) (by omega) (by omega) ?_
    have hF := hF.trans hF2305 (by omega) (fun q hq => (fun h => h ▸ rfl))
    exact g_iret C hI hS (by omega) ⟨0, ir, er, rfl, (by omega), hF, c2306, (by simp [qErr, c_2299])⟩ dX4_errorPosition_24
  · skip
    refine lv_aload_n hx hb dX4_errorPosition_8 rfl (lv_at hl 0 rfl) ?_
    refine lv_iconst (v := 1) hx hb dX4_errorPosition_9 (by decide) ?_
    refine g_V (As := [.int 1]) (rest := []) (lv := [(0, .ref mm)]) C hI hS (c_X4_fails l hB G n mm ag ab ah ch asv hs aas ain ty er awy ir ali ln th pl wr ato 1 c0_ (by omega)) c0_ rfl rfl q2637 q2639 qs34 q94 q2640 (⟨by decide, by decide, by decide⟩ : gArg _ 1) rfl ⟨by decide, by decide⟩ (by omega) hl rfl (Nat.le_of_ble_eq_true rfl) dX4_errorPosition_10 (fun v2307 G2308 n2309 H locs hp2310 hI hS => ?_) gKx.no
    obtain ⟨rfl, hn2311, hF2312, c2313⟩ := hp2310
    refine W.widen (k := 0) (n := 200 * (0)) (by omega) (by omega) ?_
    have hF := hF.trans hF2312 (by omega) (fun q hq => (fun h => h ▸ rfl))
    refine lv_goto (tgt := 24) hx hb dX4_errorPosition_13 (by decide) ?_
    exact g_iret C hI hS (by omega) ⟨1, 0, 0, rfl, (by omega), hF, c2313, (by simp [qErr, c_2299])⟩ dX4_errorPosition_24
set_option maxHeartbeats 4000000 in
set_option maxRecDepth 100000 in
theorem c_X4_refusal (l : Launch) {D : gD} (hB : gBs D) (G : gH) (n : Nat) (mm : Nat) (ag : Nat) (ab : Nat) (ah : Nat) (ch : Int32) (asv : Nat) (hs : Int32) (aas : Nat) (ain : Nat) (ty : Int32) (er : Int32) (awy : Nat) (ir : Int32) (ali : Nat) (ln : Int32) (th : Int32) (pl : Int32) (wr : Int32) (ato : Nat) (y : Nat → Int32) (a1 : Int32) (a2 : Int32) (c0_ : G mm = some (.inl (23, [.ref ag, .ref ab, .ref ah, .int ch, .ref asv, .int hs, .ref aas, .ref ain, .int ty, .int er, .ref awy, .int ir, .ref ali, .int ln, .int th, .int pl, .int wr, .ref ato]))) (c1_ : G awy = some (aI 6 y)) (hz : gz D ≤ mm) : gMet l D yX4_refusal (ws_ yX4_refusal cX4_refusal 3 (some FieldType.int)) 2 0 G n [.ref mm, .int a1, .int a2] (fun (v : Option Value) (G1 : gH) (n1 : Nat) => ∃ (th2 : Int32) (ir2 : Int32) (r : Int32), v = some (.int r) ∧ n ≤ n1 ∧ gF G G1 n (fun q : Nat => q = mm) ∧ G1 mm = some (.inl (23, [.ref ag, .ref ab, .ref ah, .int ch, .ref asv, .int hs, .ref aas, .ref ain, .int ty, .int er, .ref awy, .int ir2, .ref ali, .int ln, .int th2, .int pl, .int wr, .ref ato])) ∧ qRefusal y a1 a2 = (th2, r)) gNox := by
  refine g_start (by decide) (Nat.le_of_ble_eq_true rfl) ?_
  intro p e s m below meth c ls C hnm hxt hI hl
  have hx := C.x
  have hb := C.b
  have hS : va_S (gA D) s.heap s.heap [] := va_S.rf
  have hz0 := hI.z
  have lc0_ := hI.lt c0_
  have lc1_ := hI.lt c1_
  have hF : gF G G n (fun q : Nat => q = mm) := gF.rf _ _ _
  have hl : lv_has ls 3 [(0, .ref mm), (1, .int a1), (2, .int a2)] := hl
  refine lv_iload_n hx hb dX4_refusal_0 rfl (lv_at hl 1 rfl) ?_
  refine lv_iconst (v := 0) hx hb dX4_refusal_1 (by decide) ?_
  refine lv_iconst (v := 2) hx hb dX4_refusal_2 (by decide) ?_
  refine g_S (As := [.int a1, .int 0, .int 2]) (rest := []) (lv := [(0, .ref mm), (1, .int a1), (2, .int a2)]) C hI hS (c_X4_in l hB G n a1 0 2  ) q2634 q2635 q94 q2636 (⟨by decide, by decide, by decide⟩ : gArg _ 3) rfl ⟨by decide, by decide⟩ (by omega) hl rfl (Nat.le_of_ble_eq_true rfl) dX4_refusal_3 (fun v2314 G2315 n2316 H locs hp2317 hI hS => ?_) gKx.no
  obtain ⟨rfl, eG2315, en2316⟩ := hp2317
  refine W.widen (k := 0) (n := 200 * (0)) (by omega) (by omega) ?_
  rw [eG2315, en2316] at hI
  refine lv_if_ne (tgt := 15) hx hb dX4_refusal_6 (by decide) (fun c_2320 => ?_) (fun c_2320 => ?_)
  · skip
    obtain ⟨j_a1, hj_a1, ej_a1⟩ := gin_ok (k := 2) c_2320 (by decide)
    have tj_a1 : a1.toNatClampNeg = j_a1 := by rw [ej_a1]; exact nI_clamp (by omega)
    refine lv_aload_n hx hb dX4_refusal_15 rfl (lv_at hl 0 rfl) ?_
    refine g_get C hI c0_ kc23 10 rfl q2577 (fun _ h9 => h9) dX4_refusal_16 ?_
    refine lv_iconst (v := 2) hx hb dX4_refusal_19 (by decide) ?_
    refine lv_iload_n hx hb dX4_refusal_20 rfl (lv_at hl 1 rfl) ?_
    refine lv_imul hx hb dX4_refusal_21 ?_
    refine g_iald (v := .int (y (2 * j_a1))) C hI c1_ (gix (gmul nl2 ej_a1) (by omega) (by omega)) (congrArg Value.int (gixv (f := y) (gmul nl2 ej_a1) (by omega))) dX4_refusal_22 ?_
    refine lv_if_ne (tgt := 34) hx hb dX4_refusal_23 (by decide) (fun c_2321 => ?_) (fun c_2321 => ?_)
    · skip
      refine lv_aload_n hx hb dX4_refusal_34 rfl (lv_at hl 0 rfl) ?_
      refine lv_aload_n hx hb dX4_refusal_35 rfl (lv_at hl 0 rfl) ?_
      refine g_get C hI c0_ kc23 10 rfl q2577 (fun _ h9 => h9) dX4_refusal_36 ?_
      refine lv_iconst (v := 2) hx hb dX4_refusal_39 (by decide) ?_
      refine lv_iload_n hx hb dX4_refusal_40 rfl (lv_at hl 1 rfl) ?_
      refine lv_imul hx hb dX4_refusal_41 ?_
      refine lv_iload_n hx hb dX4_refusal_42 rfl (lv_at hl 2 rfl) ?_
      refine lv_if_eq (tgt := 50) hx hb dX4_refusal_43 (by decide) (fun c_2322 => ?_) (fun c_2322 => ?_)
      · skip
        refine lv_iconst (v := 0) hx hb dX4_refusal_50 (by decide) ?_
        refine lv_iadd hx hb dX4_refusal_51 ?_
        refine g_iald (v := .int (y ((2 * j_a1) + 0))) C hI c1_ (gix (gadd (gmul nl2 ej_a1) nl0) (by omega) (by omega)) (congrArg Value.int (gixv (f := y) (gadd (gmul nl2 ej_a1) nl0) (by omega))) dX4_refusal_52 ?_
        refine g_V (As := [.int (y ((2 * j_a1) + 0))]) (rest := []) (lv := [(0, .ref mm), (1, .int a1), (2, .int a2)]) C hI hS (c_X4_done l hB G n mm ag ab ah ch asv hs aas ain ty er awy ir ali ln th pl wr ato (y ((2 * j_a1) + 0)) c0_ (by omega)) c0_ rfl rfl q2644 q2646 qs35 q94 q2647 (⟨by decide, by decide, by decide⟩ : gArg _ 1) rfl ⟨by decide, by decide⟩ (by omega) hl rfl (Nat.le_of_ble_eq_true rfl) dX4_refusal_53 (fun v2323 G2324 n2325 H locs hp2326 hI hS => ?_) gKx.no
        obtain ⟨rfl, hn2327, hF2328, c2329⟩ := hp2326
        refine W.widen (k := 0) (n := 200 * (0)) (by omega) (by omega) ?_
        have c1_ := hF2328.at c1_ (by omega) (g_on c1_ c0_)
        have hF := hF.trans hF2328 (by omega) (fun q hq => (fun h => h ▸ rfl))
        exact g_iret C hI hS (by omega) ⟨0, ir, y ((2 * j_a1) + 0), rfl, (by omega), hF, c2329, (by simp [qRefusal, c_2320, tj_a1, c_2321, c_2322])⟩ dX4_refusal_56
      · skip
        refine lv_iconst (v := 1) hx hb dX4_refusal_46 (by decide) ?_
        refine lv_goto (tgt := 51) hx hb dX4_refusal_47 (by decide) ?_
        refine lv_iadd hx hb dX4_refusal_51 ?_
        refine g_iald (v := .int (y ((2 * j_a1) + 1))) C hI c1_ (gix (gadd (gmul nl2 ej_a1) nl1) (by omega) (by omega)) (congrArg Value.int (gixv (f := y) (gadd (gmul nl2 ej_a1) nl1) (by omega))) dX4_refusal_52 ?_
        refine g_V (As := [.int (y ((2 * j_a1) + 1))]) (rest := []) (lv := [(0, .ref mm), (1, .int a1), (2, .int a2)]) C hI hS (c_X4_done l hB G n mm ag ab ah ch asv hs aas ain ty er awy ir ali ln th pl wr ato (y ((2 * j_a1) + 1)) c0_ (by omega)) c0_ rfl rfl q2644 q2646 qs35 q94 q2647 (⟨by decide, by decide, by decide⟩ : gArg _ 1) rfl ⟨by decide, by decide⟩ (by omega) hl rfl (Nat.le_of_ble_eq_true rfl) dX4_refusal_53 (fun v2330 G2331 n2332 H locs hp2333 hI hS => ?_) gKx.no
        obtain ⟨rfl, hn2334, hF2335, c2336⟩ := hp2333
        refine W.widen (k := 0) (n := 200 * (0)) (by omega) (by omega) ?_
        have c1_ := hF2335.at c1_ (by omega) (g_on c1_ c0_)
        have hF := hF.trans hF2335 (by omega) (fun q hq => (fun h => h ▸ rfl))
        exact g_iret C hI hS (by omega) ⟨0, ir, y ((2 * j_a1) + 1), rfl, (by omega), hF, c2336, (by simp [qRefusal, c_2320, tj_a1, c_2321, c_2322])⟩ dX4_refusal_56
    · skip
      refine lv_aload_n hx hb dX4_refusal_26 rfl (lv_at hl 0 rfl) ?_
      refine lv_iconst (v := 2) hx hb dX4_refusal_27 (by decide) ?_
      refine g_V (As := [.int 2]) (rest := []) (lv := [(0, .ref mm), (1, .int a1), (2, .int a2)]) C hI hS (c_X4_fails l hB G n mm ag ab ah ch asv hs aas ain ty er awy ir ali ln th pl wr ato 2 c0_ (by omega)) c0_ rfl rfl q2637 q2639 qs34 q94 q2640 (⟨by decide, by decide, by decide⟩ : gArg _ 1) rfl ⟨by decide, by decide⟩ (by omega) hl rfl (Nat.le_of_ble_eq_true rfl) dX4_refusal_28 (fun v2337 G2338 n2339 H locs hp2340 hI hS => ?_) gKx.no
      obtain ⟨rfl, hn2341, hF2342, c2343⟩ := hp2340
      refine W.widen (k := 0) (n := 200 * (0)) (by omega) (by omega) ?_
      have c1_ := hF2342.at c1_ (by omega) (g_on c1_ c0_)
      have hF := hF.trans hF2342 (by omega) (fun q hq => (fun h => h ▸ rfl))
      refine lv_goto (tgt := 56) hx hb dX4_refusal_31 (by decide) ?_
      exact g_iret C hI hS (by omega) ⟨2, 0, 0, rfl, (by omega), hF, c2343, (by simp [qRefusal, c_2320, tj_a1, c_2321])⟩ dX4_refusal_56
  · skip
    refine lv_aload_n hx hb dX4_refusal_9 rfl (lv_at hl 0 rfl) ?_
    refine lv_iconst (v := 1) hx hb dX4_refusal_10 (by decide) ?_
    refine g_V (As := [.int 1]) (rest := []) (lv := [(0, .ref mm), (1, .int a1), (2, .int a2)]) C hI hS (c_X4_fails l hB G n mm ag ab ah ch asv hs aas ain ty er awy ir ali ln th pl wr ato 1 c0_ (by omega)) c0_ rfl rfl q2637 q2639 qs34 q94 q2640 (⟨by decide, by decide, by decide⟩ : gArg _ 1) rfl ⟨by decide, by decide⟩ (by omega) hl rfl (Nat.le_of_ble_eq_true rfl) dX4_refusal_11 (fun v2344 G2345 n2346 H locs hp2347 hI hS => ?_) gKx.no
    obtain ⟨rfl, hn2348, hF2349, c2350⟩ := hp2347
    refine W.widen (k := 0) (n := 200 * (0)) (by omega) (by omega) ?_
    have c1_ := hF2349.at c1_ (by omega) (g_on c1_ c0_)
    have hF := hF.trans hF2349 (by omega) (fun q hq => (fun h => h ▸ rfl))
    exact g_iret C hI hS (by omega) ⟨1, 0, 0, rfl, (by omega), hF, c2350, (by simp [qRefusal, c_2320])⟩ dX4_refusal_14
set_option maxHeartbeats 4000000 in
set_option maxRecDepth 100000 in
theorem c_X4_type (l : Launch) {D : gD} (hB : gBs D) (G : gH) (n : Nat) (mm : Nat) (ag : Nat) (ab : Nat) (ah : Nat) (ch : Int32) (asv : Nat) (hs : Int32) (aas : Nat) (ain : Nat) (ty : Int32) (er : Int32) (awy : Nat) (ir : Int32) (ali : Nat) (ln : Int32) (th : Int32) (pl : Int32) (wr : Int32) (ato : Nat) (tx : Nat → Int32) (tn : Nat) (a1 : Int32) (c0_ : G mm = some (.inl (23, [.ref ag, .ref ab, .ref ah, .int ch, .ref asv, .int hs, .ref aas, .ref ain, .int ty, .int er, .ref awy, .int ir, .ref ali, .int ln, .int th, .int pl, .int wr, .ref ato]))) (c1_ : G ain = some (aC 60 tx)) (hz : gz D ≤ mm) (hzi : gz D ≤ ain) (hty : ty = nI tn) (ht60 : tn ≤ 60) : gMet l D yX4_type (ws_ yX4_type cX4_type 2 (some FieldType.int)) 2 0 G n [.ref mm, .int a1] (fun (v : Option Value) (G1 : gH) (n1 : Nat) => ∃ (th2 : Int32) (ir2 : Int32) (t2 : Nat) (tx2 : Nat → Int32) (r : Int32), v = some (.int r) ∧ n ≤ n1 ∧ gF G G1 n (fun q : Nat => q = mm ∨ q = ain) ∧ G1 mm = some (.inl (23, [.ref ag, .ref ab, .ref ah, .int ch, .ref asv, .int hs, .ref aas, .ref ain, .int (nI t2), .int er, .ref awy, .int ir2, .ref ali, .int ln, .int th2, .int pl, .int wr, .ref ato])) ∧ G1 ain = some (aC 60 tx2) ∧ mT ir tn tx a1 = (th2, ir2, t2, tx2, r)) gNox := by
  refine g_start (by decide) (Nat.le_of_ble_eq_true rfl) ?_
  intro p e s m below meth c ls C hnm hxt hI hl
  have hx := C.x
  have hb := C.b
  have hS : va_S (gA D) s.heap s.heap [] := va_S.rf
  have hz0 := hI.z
  have lc0_ := hI.lt c0_
  have lc1_ := hI.lt c1_
  have hF : gF G G n (fun q : Nat => q = mm ∨ q = ain) := gF.rf _ _ _
  have hl : lv_has ls 2 [(0, .ref mm), (1, .int a1)] := hl
  refine lv_aload_n hx hb dX4_type_0 rfl (lv_at hl 0 rfl) ?_
  refine g_get C hI c0_ kc23 8 rfl q2575 (fun _ h9 => h9) dX4_type_1 ?_
  refine lv_bipush (v := 60) hx hb dX4_type_4 (by decide) ?_
  refine lv_icmp_ne (tgt := 15) hx hb dX4_type_6 (by decide) (fun c_2351 => ?_) (fun c_2351 => ?_)
  · skip
    try have k_2352 : ¬ (tn = 60) := (not_congr (nI_eqE hty nl60 (by omega) (by omega))).mp c_2351
    refine lv_aload_n hx hb dX4_type_15 rfl (lv_at hl 0 rfl) ?_
    refine g_get C hI c0_ kc23 7 rfl q2574 (fun _ h9 => h9) dX4_type_16 ?_
    refine lv_aload_n hx hb dX4_type_19 rfl (lv_at hl 0 rfl) ?_
    refine g_get C hI c0_ kc23 8 rfl q2575 (fun _ h9 => h9) dX4_type_20 ?_
    refine lv_iload_n hx hb dX4_type_23 rfl (lv_at hl 1 rfl) ?_
    refine g_cast C hI hS c1_ (by omega) (gix hty (by omega) (by omega)) dX4_type_24 (fun G2353 H locs e2354 hI hS => ?_)
    rw [gup_e hty (by omega)] at e2354
    have c0_ := gE_k e2354 c0_ (g_no c0_ c1_)
    have c1_ : G2353 ain = some (aC 60 (gup tx tn (vp_nar .char a1))) := gE_s e2354
    have hF := gE_F e2354 hF (Or.inr (Or.inr (rfl)))
    refine lv_aload_n hx hb dX4_type_25 rfl (lv_at hl 0 rfl) ?_
    refine lv_dup hx hb dX4_type_26 rfl ?_
    refine g_get C hI c0_ kc23 8 rfl q2575 (fun _ h9 => h9) dX4_type_27 ?_
    refine lv_iconst (v := 1) hx hb dX4_type_30 (by decide) ?_
    refine lv_iadd hx hb dX4_type_31 ?_
    refine g_put (fs2 := [.ref ag, .ref ab, .ref ah, .int ch, .ref asv, .int hs, .ref aas, .ref ain, .int (ty + 1), .int er, .ref awy, .int ir, .ref ali, .int ln, .int th, .int pl, .int wr, .ref ato]) C hI hS c0_ (by omega) kc23 8 (Nat.le_of_ble_eq_true rfl) q2575 (fun _ h9 => h9) rfl rfl rfl rfl dX4_type_32 (fun G2356 H locs e2357 hI hS => ?_)
    have c1_ := gE_k e2357 c1_ (g_on c1_ c0_)
    have c0_ : G2356 mm = some (.inl (23, [.ref ag, .ref ab, .ref ah, .int ch, .ref asv, .int hs, .ref aas, .ref ain, .int (ty + 1), .int er, .ref awy, .int ir, .ref ali, .int ln, .int th, .int pl, .int wr, .ref ato])) := gE_s e2357
    have hF := gE_F e2357 hF (Or.inr (Or.inl rfl))
    refine lv_aload_n hx hb dX4_type_35 rfl (lv_at hl 0 rfl) ?_
    refine lv_aload_n hx hb dX4_type_36 rfl (lv_at hl 0 rfl) ?_
    refine g_get C hI c0_ kc23 8 rfl q2575 (fun _ h9 => h9) dX4_type_37 ?_
    refine g_V (As := [.int (ty + 1)]) (rest := []) (lv := [(0, .ref mm), (1, .int a1)]) C hI hS (c_X4_done l hB G2356 n mm ag ab ah ch asv hs aas ain (ty + 1) er awy ir ali ln th pl wr ato (ty + 1) c0_ (by omega)) c0_ rfl rfl q2644 q2646 qs35 q94 q2647 (⟨by decide, by decide, by decide⟩ : gArg _ 1) rfl ⟨by decide, by decide⟩ (by omega) hl rfl (Nat.le_of_ble_eq_true rfl) dX4_type_40 (fun v2358 G2359 n2360 H locs hp2361 hI hS => ?_) gKx.no
    obtain ⟨rfl, hn2362, hF2363, c2364⟩ := hp2361
    refine W.widen (k := 0) (n := 200 * (0)) (by omega) (by omega) ?_
    have c1_ := hF2363.at c1_ (by omega) (g_on c1_ c0_)
    have hF := hF.trans hF2363 (by omega) (fun q hq => (fun h => h ▸ (Or.inl rfl)))
    exact g_iret C hI hS (by omega) ⟨0, ir, tn + 1, gup tx tn (vp_nar .char a1), ty + 1, rfl, (by omega), hF, (by rw [show nI (tn + 1) = ty + 1 from (gadd hty nl1).symm]; exact c2364), c1_, (by unfold mT; first | (rw [if_pos (by omega)]) | (rw [if_neg (by omega), show nI (tn + 1) = ty + 1 from (gadd hty nl1).symm]))⟩ dX4_type_43
  · skip
    try have k_2365 : tn = 60 := (nI_eqE hty nl60 (by omega) (by omega)).mp c_2351
    refine lv_aload_n hx hb dX4_type_9 rfl (lv_at hl 0 rfl) ?_
    refine lv_iconst (v := 1) hx hb dX4_type_10 (by decide) ?_
    refine g_V (As := [.int 1]) (rest := []) (lv := [(0, .ref mm), (1, .int a1)]) C hI hS (c_X4_fails l hB G n mm ag ab ah ch asv hs aas ain ty er awy ir ali ln th pl wr ato 1 c0_ (by omega)) c0_ rfl rfl q2637 q2639 qs34 q94 q2640 (⟨by decide, by decide, by decide⟩ : gArg _ 1) rfl ⟨by decide, by decide⟩ (by omega) hl rfl (Nat.le_of_ble_eq_true rfl) dX4_type_11 (fun v2366 G2367 n2368 H locs hp2369 hI hS => ?_) gKx.no
    obtain ⟨rfl, hn2370, hF2371, c2372⟩ := hp2369
    refine W.widen (k := 0) (n := 200 * (0)) (by omega) (by omega) ?_
    have c1_ := hF2371.at c1_ (by omega) (g_on c1_ c0_)
    have hF := hF.trans hF2371 (by omega) (fun q hq => (fun h => h ▸ (Or.inl rfl)))
    exact g_iret C hI hS (by omega) ⟨1, 0, tn, tx, 0, rfl, (by omega), hF, (by rw [show nI tn = ty from hty.symm]; exact c2372), c1_, (by unfold mT; first | (rw [if_pos (by omega)]) | (rw [if_neg (by omega), show nI (tn + 1) = 0 from (gadd hty nl1).symm]))⟩ dX4_type_14
set_option maxHeartbeats 4000000 in
set_option maxRecDepth 100000 in
theorem c_X4_written (l : Launch) {D : gD} (hB : gBs D) (G : gH) (n : Nat) (mm : Nat) (ag : Nat) (ab : Nat) (ah : Nat) (ch : Int32) (asv : Nat) (hs : Int32) (aas : Nat) (ain : Nat) (ty : Int32) (er : Int32) (awy : Nat) (ir : Int32) (ali : Nat) (ln : Int32) (th : Int32) (pl : Int32) (wr : Int32) (ato : Nat) (tc : Nat → Nat) (tn : Nat) (a1 : Int32) (c0_ : G mm = some (.inl (23, [.ref ag, .ref ab, .ref ah, .int ch, .ref asv, .int hs, .ref aas, .ref ain, .int ty, .int er, .ref awy, .int ir, .ref ali, .int ln, .int th, .int pl, .int wr, .ref ato]))) (c1_ : G ali = some (aC 60 (fun k => nI (tc k)))) (hz : gz D ≤ mm) (hln : ln = nI tn) (ht60 : tn ≤ 60) (htc : ∀ k, tc k < 65536) : gMet l D yX4_written (ws_ yX4_written cX4_written 2 (some FieldType.char)) 2 0 G n [.ref mm, .int a1] (fun (v : Option Value) (G1 : gH) (n1 : Nat) => ∃ (th2 : Int32) (r : Int32), v = some (.int r) ∧ n ≤ n1 ∧ gF G G1 n (fun q : Nat => q = mm) ∧ G1 mm = some (.inl (23, [.ref ag, .ref ab, .ref ah, .int ch, .ref asv, .int hs, .ref aas, .ref ain, .int ty, .int er, .ref awy, .int ir, .ref ali, .int ln, .int th2, .int pl, .int wr, .ref ato])) ∧ qWritten (fun k => nI (tc k)) ln a1 = (th2, r)) gNox := by
  refine g_start (by decide) (Nat.le_of_ble_eq_true rfl) ?_
  intro p e s m below meth c ls C hnm hxt hI hl
  have hx := C.x
  have hb := C.b
  have hS : va_S (gA D) s.heap s.heap [] := va_S.rf
  have hz0 := hI.z
  have lc0_ := hI.lt c0_
  have lc1_ := hI.lt c1_
  have hF : gF G G n (fun q : Nat => q = mm) := gF.rf _ _ _
  have hl : lv_has ls 2 [(0, .ref mm), (1, .int a1)] := hl
  refine lv_aload_n hx hb dX4_written_0 rfl (lv_at hl 0 rfl) ?_
  refine lv_iload_n hx hb dX4_written_1 rfl (lv_at hl 1 rfl) ?_
  refine lv_iconst (v := 0) hx hb dX4_written_2 (by decide) ?_
  refine lv_aload_n hx hb dX4_written_3 rfl (lv_at hl 0 rfl) ?_
  refine g_get C hI c0_ kc23 13 rfl q2580 (fun _ h9 => h9) dX4_written_4 ?_
  refine lv_iconst (v := 1) hx hb dX4_written_7 (by decide) ?_
  refine lv_isub hx hb dX4_written_8 ?_
  refine g_S (As := [.int a1, .int 0, .int (ln - 1)]) (rest := [.ref mm]) (lv := [(0, .ref mm), (1, .int a1)]) C hI hS (c_X4_in l hB G n a1 0 (ln - 1)  ) q2634 q2635 q94 q2636 (⟨by decide, by decide, by decide⟩ : gArg _ 3) rfl ⟨by decide, by decide⟩ (by omega) hl rfl (Nat.le_of_ble_eq_true rfl) dX4_written_9 (fun v2373 G2374 n2375 H locs hp2376 hI hS => ?_) gKx.no
  obtain ⟨rfl, eG2374, en2375⟩ := hp2376
  refine W.widen (k := 0) (n := 200 * (0)) (by omega) (by omega) ?_
  rw [eG2374, en2375] at hI
  refine lv_if_eq (tgt := 19) hx hb dX4_written_12 (by decide) (fun c_2379 => ?_) (fun c_2379 => ?_)
  · skip
    refine lv_iconst (v := 1) hx hb dX4_written_19 (by decide) ?_
    refine g_put (fs2 := [.ref ag, .ref ab, .ref ah, .int ch, .ref asv, .int hs, .ref aas, .ref ain, .int ty, .int er, .ref awy, .int ir, .ref ali, .int ln, .int 1, .int pl, .int wr, .ref ato]) C hI hS c0_ (by omega) kc23 14 (Nat.le_of_ble_eq_true rfl) q2581 (fun _ h9 => h9) rfl rfl rfl rfl dX4_written_20 (fun G2380 H locs e2381 hI hS => ?_)
    have c1_ := gE_k e2381 c1_ (g_on c1_ c0_)
    have c0_ : G2380 mm = some (.inl (23, [.ref ag, .ref ab, .ref ah, .int ch, .ref asv, .int hs, .ref aas, .ref ain, .int ty, .int er, .ref awy, .int ir, .ref ali, .int ln, .int 1, .int pl, .int wr, .ref ato])) := gE_s e2381
    have hF := gE_F e2381 hF (Or.inr rfl)
    refine lv_aload_n hx hb dX4_written_23 rfl (lv_at hl 0 rfl) ?_
    refine g_get C hI c0_ kc23 14 rfl q2581 (fun _ h9 => h9) dX4_written_24 ?_
    refine lv_if_ne (tgt := 39) hx hb dX4_written_27 (by decide) (fun c_2382 => ?_) (fun c_2382 => ?_)
    · skip
      refine lv_iconst (v := 0) hx hb dX4_written_39 (by decide) ?_
      exact g_zret C hI hS (by omega) (by first | rfl | exact narC (htc _)) ⟨1, 0, rfl, (by omega), hF, c0_, (by simp [qWritten, c_2379, c_2382])⟩ dX4_written_40
    · exact absurd c_2382 (by decide)
  · skip
    obtain ⟨j_a1, hj_a1, ej_a1⟩ := gin_lt (n := tn) c_2379 hln (by omega)
    have tj_a1 : a1.toNatClampNeg = j_a1 := by rw [ej_a1]; exact nI_clamp (by omega)
    refine lv_iconst (v := 0) hx hb dX4_written_15 (by decide) ?_
    refine lv_goto (tgt := 20) hx hb dX4_written_16 (by decide) ?_
    refine g_put (fs2 := [.ref ag, .ref ab, .ref ah, .int ch, .ref asv, .int hs, .ref aas, .ref ain, .int ty, .int er, .ref awy, .int ir, .ref ali, .int ln, .int 0, .int pl, .int wr, .ref ato]) C hI hS c0_ (by omega) kc23 14 (Nat.le_of_ble_eq_true rfl) q2581 (fun _ h9 => h9) rfl rfl rfl rfl dX4_written_20 (fun G2383 H locs e2384 hI hS => ?_)
    have c1_ := gE_k e2384 c1_ (g_on c1_ c0_)
    have c0_ : G2383 mm = some (.inl (23, [.ref ag, .ref ab, .ref ah, .int ch, .ref asv, .int hs, .ref aas, .ref ain, .int ty, .int er, .ref awy, .int ir, .ref ali, .int ln, .int 0, .int pl, .int wr, .ref ato])) := gE_s e2384
    have hF := gE_F e2384 hF (Or.inr rfl)
    refine lv_aload_n hx hb dX4_written_23 rfl (lv_at hl 0 rfl) ?_
    refine g_get C hI c0_ kc23 14 rfl q2581 (fun _ h9 => h9) dX4_written_24 ?_
    refine lv_if_ne (tgt := 39) hx hb dX4_written_27 (by decide) (fun c_2385 => ?_) (fun c_2385 => ?_)
    · exact absurd (by decide) c_2385
    · skip
      refine lv_aload_n hx hb dX4_written_30 rfl (lv_at hl 0 rfl) ?_
      refine g_get C hI c0_ kc23 12 rfl q2579 (fun _ h9 => h9) dX4_written_31 ?_
      refine lv_iload_n hx hb dX4_written_34 rfl (lv_at hl 1 rfl) ?_
      refine g_cald (v := .int ((fun k => nI (tc k)) j_a1)) C hI c1_ (gix ej_a1 (by omega) (by omega)) (congrArg Value.int (gixv (f := fun k => nI (tc k)) ej_a1 (by omega))) dX4_written_35 ?_
      refine lv_goto (tgt := 40) hx hb dX4_written_36 (by decide) ?_
      exact g_zret C hI hS (by omega) (by first | rfl | exact narC (htc _)) ⟨0, (fun k => nI (tc k)) j_a1, rfl, (by omega), hF, c0_, (by simp [qWritten, c_2379, tj_a1, c_2385])⟩ dX4_written_40
