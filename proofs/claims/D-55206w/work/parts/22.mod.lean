/-! THE REFERENCE, 10: reading -/
/-- typed letters tc, tn of them; a place and whether it is wrong -/
abbrev sSt : Type := Nat × Int32
def sHere (tc : Nat → Nat) (tn p : Nat) : Int32 := if tn ≤ p then -1 else nI (tc p)
def sNeeds (tc : Nat → Nat) (tn : Nat) (c : Int32) (st : sSt) : sSt := if ¬ st.2 = 0 then (st.1, 1) else if sHere tc tn st.1 = c then (st.1 + 1, 0) else (st.1, 1)
def sNT (tc : Nat → Nat) (tn : Nat) : List Nat → sSt → sSt
  | [], st => st
  | c :: L, st => sNT tc tn L (sNeeds tc tn (nI c) st)
theorem sNT_app (tc : Nat → Nat) (tn : Nat) (A B : List Nat) (st : sSt) : sNT tc tn (A ++ B) st = sNT tc tn B (sNT tc tn A st) := by
  induction A generalizing st with
  | nil => rfl
  | cons c A ih => exact ih _
theorem sNT_take (tc : Nat → Nat) (tn : Nat) {L : List Nat} {k : Nat} (h : k < L.length) (st : sSt) : sNT tc tn (L.take (k + 1)) st = sNeeds tc tn (nI (L.getD k 0)) (sNT tc tn (L.take k) st) := by
  rw [List.take_succ_eq_append_getElem h, sNT_app, List.getD_eq_getElem?_getD, List.getElem?_eq_getElem h]
  rfl
theorem sHere_lt {tc : Nat → Nat} {tn p q : Nat} (hq : q < 65536) (h : sHere tc tn p = nI q) : p < tn := by
  unfold sHere at h
  split at h
  · exact absurd (congrArg Int32.toInt h) (by rw [nI_toInt (by omega), show (-1 : Int32).toInt = -1 by decide]; omega)
  · omega
theorem sNeeds_le {tc : Nat → Nat} {tn q : Nat} (hq : q < 65536) {st : sSt} (h : st.1 ≤ tn) : (sNeeds tc tn (nI q) st).1 ≤ tn := by
  unfold sNeeds
  split
  · exact h
  · split
    · next c => exact sHere_lt hq c
    · exact h
theorem sNeeds_01 {tc : Nat → Nat} {tn : Nat} {c : Int32} {st : sSt} : (sNeeds tc tn c st).2 = 0 ∨ (sNeeds tc tn c st).2 = 1 := by
  unfold sNeeds
  split
  · exact Or.inr rfl
  · split
    · exact Or.inl rfl
    · exact Or.inr rfl
theorem sNT_le {tc : Nat → Nat} {tn : Nat} {L : List Nat} (hL : ∀ c ∈ L, c < 65536) {st : sSt} (h : st.1 ≤ tn) : (sNT tc tn L st).1 ≤ tn := by
  induction L generalizing st with
  | nil => exact h
  | cons c L ih => exact ih (fun c' hc => hL c' (List.mem_cons_of_mem _ hc)) (sNeeds_le (hL c List.mem_cons_self) h)
theorem sNT_01 {tc : Nat → Nat} {tn : Nat} {L : List Nat} {st : sSt} (h : st.2 = 0 ∨ st.2 = 1) : (sNT tc tn L st).2 = 0 ∨ (sNT tc tn L st).2 = 1 := by
  induction L generalizing st with
  | nil => exact h
  | cons c L ih => exact ih sNeeds_01
theorem sNeeds_ge {tc : Nat → Nat} {tn : Nat} {c : Int32} {st : sSt} : st.1 ≤ (sNeeds tc tn c st).1 := by
  unfold sNeeds
  split
  · exact Nat.le_refl _
  · split
    · exact Nat.le_succ _
    · exact Nat.le_refl _
theorem sNT_ge {tc : Nat → Nat} {tn : Nat} {L : List Nat} {st : sSt} : st.1 ≤ (sNT tc tn L st).1 := by
  induction L generalizing st with
  | nil => exact Nat.le_refl _
  | cons c L ih => exact Nat.le_trans sNeeds_ge ih
/-- the words: out home shoot haul land swell riddle days, each with a space -/
def wL (k : Nat) : List Nat := ([[111, 117, 116, 32], [104, 111, 109, 101, 32], [115, 104, 111, 111, 116, 32], [104, 97, 117, 108, 32], [108, 97, 110, 100, 32], [115, 119, 101, 108, 108, 32], [114, 105, 100, 100, 108, 101, 32], [100, 97, 121, 115, 32]] : List (List Nat)).getD k []
def sIsW (tc : Nat → Nat) (tn k p : Nat) : Int32 := if ¬ nI ((wL k).getD 0 0) = sHere tc tn p then 0 else if k ≠ 1 ∧ k ≠ 2 then 1 else if ¬ nI ((wL k).getD 1 0) = sHere tc tn (p + 1) then 0 else 1
def sWdF (tc : Nat → Nat) (tn p : Nat) : Nat → Nat → Nat
  | 0, k => k
  | n + 1, k => if ¬ sIsW tc tn k p = 0 then k else sWdF tc tn p n (k + 1)
def sWd (tc : Nat → Nat) (tn p : Nat) : Nat := sWdF tc tn p 7 0
theorem sWdF_le (tc : Nat → Nat) (tn p : Nat) : ∀ n k, sWdF tc tn p n k ≤ n + k
  | 0, k => by simp [sWdF]
  | n + 1, k => by
    unfold sWdF
    split
    · omega
    · have := sWdF_le tc tn p n (k + 1)
      omega
theorem sWd_le (tc : Nat → Nat) (tn p : Nat) : sWd tc tn p ≤ 7 := sWdF_le tc tn p 7 0
def sDigit (tc : Nat → Nat) (tn : Nat) (st : sSt) : sSt × Int32 := if ¬ st.2 = 0 then ((st.1, 1), 0) else if gin (sHere tc tn st.1) 48 57 = 0 then ((st.1, 1), 0) else ((st.1 + 1, 0), sHere tc tn st.1 - 48)
def sNumber (tc : Nat → Nat) (tn : Nat) (st : sSt) : sSt × Int32 :=
  if ¬ (sDigit tc tn st).1.2 = 0 then sDigit tc tn st else if gin (sHere tc tn (sDigit tc tn st).1.1) 48 57 = 0 then sDigit tc tn st else
  ((sDigit tc tn (sDigit tc tn st).1).1, 10 * (sDigit tc tn st).2 + (sDigit tc tn (sDigit tc tn st).1).2)
def sBait (tc : Nat → Nat) (tn : Nat) (st : sSt) : sSt × Int32 :=
  if ¬ sHere tc tn st.1 = 102 then (if ¬ sHere tc tn st.1 = 109 then (sNT tc tn [99, 114, 97, 98] st, 0) else (sNT tc tn [109, 105, 120, 101, 100] st, 2)) else (sNT tc tn [102, 105, 115, 104] st, 1)
theorem sDigit_le {tc : Nat → Nat} {tn : Nat} {st : sSt} (h : st.1 ≤ tn) : (sDigit tc tn st).1.1 ≤ tn := by
  unfold sDigit
  split
  · exact h
  · split
    · exact h
    · next c =>
      obtain ⟨j, h1, h2, e⟩ := gin_okL (a := 48) (k := 57) c (by decide) (by decide)
      exact sHere_lt (by omega) e
theorem sDigit_ge {tc : Nat → Nat} {tn : Nat} {st : sSt} : st.1 ≤ (sDigit tc tn st).1.1 := by
  unfold sDigit
  split
  · exact Nat.le_refl _
  · split
    · exact Nat.le_refl _
    · exact Nat.le_succ _
theorem sDigit_gt {tc : Nat → Nat} {tn : Nat} {st : sSt} (h : (sDigit tc tn st).1.2 = 0) : st.1 < (sDigit tc tn st).1.1 := by
  unfold sDigit at h ⊢
  split at h
  · cases h
  · next c =>
    rw [if_neg c]
    split at h
    · cases h
    · next d => rw [if_neg d]; exact Nat.lt_succ_self _
theorem sDigit_01 {tc : Nat → Nat} {tn : Nat} {st : sSt} : (sDigit tc tn st).1.2 = 0 ∨ (sDigit tc tn st).1.2 = 1 := by
  unfold sDigit
  split
  · exact Or.inr rfl
  · split
    · exact Or.inr rfl
    · exact Or.inl rfl
theorem sNumber_le {tc : Nat → Nat} {tn : Nat} {st : sSt} (h : st.1 ≤ tn) : (sNumber tc tn st).1.1 ≤ tn := by
  unfold sNumber
  split
  · exact sDigit_le h
  · split
    · exact sDigit_le h
    · exact sDigit_le (sDigit_le h)
theorem sNumber_01 {tc : Nat → Nat} {tn : Nat} {st : sSt} : (sNumber tc tn st).1.2 = 0 ∨ (sNumber tc tn st).1.2 = 1 := by
  unfold sNumber
  split
  · exact sDigit_01
  · split
    · exact sDigit_01
    · exact sDigit_01
theorem sBait_le {tc : Nat → Nat} {tn : Nat} {st : sSt} (h : st.1 ≤ tn) : (sBait tc tn st).1.1 ≤ tn := by
  unfold sBait
  split
  · split
    · exact sNT_le (by decide) h
    · exact sNT_le (by decide) h
  · exact sNT_le (by decide) h
theorem sBait_01 {tc : Nat → Nat} {tn : Nat} {st : sSt} (h : st.2 = 0 ∨ st.2 = 1) : (sBait tc tn st).1.2 = 0 ∨ (sBait tc tn st).1.2 = 1 := by
  unfold sBait
  split
  · split
    · exact sNT_01 h
    · exact sNT_01 h
  · exact sNT_01 h
set_option maxHeartbeats 4000000 in
set_option maxRecDepth 100000 in
theorem c_X4_here (l : Launch) {D : gD} (hB : gBs D) (G : gH) (n : Nat) (mm : Nat) (ag : Nat) (ab : Nat) (ah : Nat) (ch : Int32) (asv : Nat) (hs : Int32) (aas : Nat) (ain : Nat) (ty : Int32) (er : Int32) (awy : Nat) (ir : Int32) (ali : Nat) (ln : Int32) (th : Int32) (pl : Int32) (wr : Int32) (ato : Nat) (tc : Nat → Nat) (tn : Nat) (p0 : Nat) (c0_ : G mm = some (.inl (23, [.ref ag, .ref ab, .ref ah, .int ch, .ref asv, .int hs, .ref aas, .ref ain, .int ty, .int er, .ref awy, .int ir, .ref ali, .int ln, .int th, .int pl, .int wr, .ref ato]))) (c1_ : G ain = some (aC 60 (fun k => nI (tc k)))) (hty : ty = nI tn) (ht60 : tn ≤ 60) (hpl : pl = nI p0) (hp60 : p0 ≤ tn) : gMet l D yX4_here (ws_ yX4_here cX4_here 1 (some FieldType.int)) 1 0 G n [.ref mm] (fun (v : Option Value) (G1 : gH) (n1 : Nat) => v = some (.int (sHere tc tn p0)) ∧ G1 = G ∧ n1 = n) gNox := by
  refine g_start (by decide) (Nat.le_of_ble_eq_true rfl) ?_
  intro p e s m below meth c ls C hnm hxt hI hl
  have hx := C.x
  have hb := C.b
  have hS : va_S (gA D) s.heap s.heap [] := va_S.rf
  have hz0 := hI.z
  have lc0_ := hI.lt c0_
  have lc1_ := hI.lt c1_
  have hF : gF G G n gNone := gF.rf _ _ _
  have hl : lv_has ls 1 [(0, .ref mm)] := hl
  refine lv_aload_n hx hb dX4_here_0 rfl (lv_at hl 0 rfl) ?_
  refine g_get C hI c0_ kc23 15 rfl q2582 (fun _ h9 => h9) dX4_here_1 ?_
  refine lv_aload_n hx hb dX4_here_4 rfl (lv_at hl 0 rfl) ?_
  refine g_get C hI c0_ kc23 8 rfl q2575 (fun _ h9 => h9) dX4_here_5 ?_
  refine lv_icmp_ge (tgt := 23) hx hb dX4_here_8 (by decide) (fun c_2983 => ?_) (fun c_2983 => ?_)
  · skip
    try have k_2984 : tn ≤ p0 := (nI_leE hty hpl (by omega) (by omega)).mp c_2983
    refine lv_iconst (v := (-1)) hx hb dX4_here_23 (by decide) ?_
    exact g_iret C hI hS (by omega) ⟨(by unfold sHere; first | rw [if_pos (by omega)] | rw [if_neg (by omega)]), rfl, rfl⟩ dX4_here_24
  · skip
    try have k_2985 : ¬ (tn ≤ p0) := (not_congr (nI_leE hty hpl (by omega) (by omega))).mp c_2983
    refine lv_aload_n hx hb dX4_here_11 rfl (lv_at hl 0 rfl) ?_
    refine g_get C hI c0_ kc23 7 rfl q2574 (fun _ h9 => h9) dX4_here_12 ?_
    refine lv_aload_n hx hb dX4_here_15 rfl (lv_at hl 0 rfl) ?_
    refine g_get C hI c0_ kc23 15 rfl q2582 (fun _ h9 => h9) dX4_here_16 ?_
    refine g_cald (v := .int (nI (tc p0))) C hI c1_ (gix hpl (by omega) (by omega)) (congrArg Value.int (gixv (f := fun k => nI (tc k)) hpl (by omega))) dX4_here_19 ?_
    refine lv_goto (tgt := 24) hx hb dX4_here_20 (by decide) ?_
    exact g_iret C hI hS (by omega) ⟨(by unfold sHere; first | rw [if_pos (by omega)] | rw [if_neg (by omega)]), rfl, rfl⟩ dX4_here_24
set_option maxHeartbeats 4000000 in
set_option maxRecDepth 100000 in
theorem c_X4_needs (l : Launch) {D : gD} (hB : gBs D) (G : gH) (n : Nat) (mm : Nat) (ag : Nat) (ab : Nat) (ah : Nat) (ch : Int32) (asv : Nat) (hs : Int32) (aas : Nat) (ain : Nat) (ty : Int32) (er : Int32) (awy : Nat) (ir : Int32) (ali : Nat) (ln : Int32) (th : Int32) (pl : Int32) (wr : Int32) (ato : Nat) (tc : Nat → Nat) (tn : Nat) (p0 : Nat) (q : Nat) (a1 : Int32) (c0_ : G mm = some (.inl (23, [.ref ag, .ref ab, .ref ah, .int ch, .ref asv, .int hs, .ref aas, .ref ain, .int ty, .int er, .ref awy, .int ir, .ref ali, .int ln, .int th, .int pl, .int wr, .ref ato]))) (c1_ : G ain = some (aC 60 (fun k => nI (tc k)))) (hz : gz D ≤ mm) (hty : ty = nI tn) (ht60 : tn ≤ 60) (hpl : pl = nI p0) (hp60 : p0 ≤ tn) (hw : wr = 0 ∨ wr = 1) (hq6 : q < 65536) (ea : a1 = nI q) : gMet l D yX4_needs (ws_ yX4_needs cX4_needs 2 none) 2 0 G n [.ref mm, .int a1] (fun (v : Option Value) (G1 : gH) (n1 : Nat) => ∃ (pl2 : Nat) (wr2 : Int32), v = none ∧ n ≤ n1 ∧ gF G G1 n (fun q : Nat => q = mm) ∧ G1 mm = some (.inl (23, [.ref ag, .ref ab, .ref ah, .int ch, .ref asv, .int hs, .ref aas, .ref ain, .int ty, .int er, .ref awy, .int ir, .ref ali, .int ln, .int th, .int (nI pl2), .int wr2, .ref ato])) ∧ sNeeds tc tn a1 (p0, wr) = (pl2, wr2) ∧ pl2 ≤ tn ∧ (wr2 = 0 ∨ wr2 = 1)) gNox := by
  refine g_start (by decide) (Nat.le_of_ble_eq_true rfl) ?_
  intro p e s m below meth c ls C hnm hxt hI hl
  have hx := C.x
  have hb := C.b
  have hS : va_S (gA D) s.heap s.heap [] := va_S.rf
  have hz0 := hI.z
  have lc0_ := hI.lt c0_
  have lc1_ := hI.lt c1_
  have hF : gF G G n (fun q : Nat => q = mm) := gF.rf _ _ _
  have hl : lv_has ls 2 [(0, .ref mm), (1, .int a1)] := hl
  refine lv_aload_n hx hb dX4_needs_0 rfl (lv_at hl 0 rfl) ?_
  refine lv_aload_n hx hb dX4_needs_1 rfl (lv_at hl 0 rfl) ?_
  refine g_get C hI c0_ kc23 16 rfl q2583 (fun _ h9 => h9) dX4_needs_2 ?_
  refine lv_if_ne (tgt := 16) hx hb dX4_needs_5 (by decide) (fun c_2986 => ?_) (fun c_2986 => ?_)
  · skip
    refine lv_iconst (v := 1) hx hb dX4_needs_16 (by decide) ?_
    refine lv_goto (tgt := 21) hx hb dX4_needs_17 (by decide) ?_
    refine g_put (fs2 := [.ref ag, .ref ab, .ref ah, .int ch, .ref asv, .int hs, .ref aas, .ref ain, .int ty, .int er, .ref awy, .int ir, .ref ali, .int ln, .int th, .int pl, .int 1, .ref ato]) C hI hS c0_ (by omega) kc23 16 (Nat.le_of_ble_eq_true rfl) q2583 (fun _ h9 => h9) rfl rfl rfl rfl dX4_needs_21 (fun G2987 H locs e2988 hI hS => ?_)
    have c1_ := gE_k e2988 c1_ (g_on c1_ c0_)
    have c0_ : G2987 mm = some (.inl (23, [.ref ag, .ref ab, .ref ah, .int ch, .ref asv, .int hs, .ref aas, .ref ain, .int ty, .int er, .ref awy, .int ir, .ref ali, .int ln, .int th, .int pl, .int 1, .ref ato])) := gE_s e2988
    have hF := gE_F e2988 hF (Or.inr rfl)
    refine lv_aload_n hx hb dX4_needs_24 rfl (lv_at hl 0 rfl) ?_
    refine lv_dup hx hb dX4_needs_25 rfl ?_
    refine g_get C hI c0_ kc23 15 rfl q2582 (fun _ h9 => h9) dX4_needs_26 ?_
    refine lv_aload_n hx hb dX4_needs_29 rfl (lv_at hl 0 rfl) ?_
    refine g_get C hI c0_ kc23 16 rfl q2583 (fun _ h9 => h9) dX4_needs_30 ?_
    refine lv_if_eq (tgt := 40) hx hb dX4_needs_33 (by decide) (fun c_2989 => ?_) (fun c_2989 => ?_)
    · exact absurd c_2989 (by decide)
    · skip
      refine lv_iconst (v := 0) hx hb dX4_needs_36 (by decide) ?_
      refine lv_goto (tgt := 41) hx hb dX4_needs_37 (by decide) ?_
      refine lv_iadd hx hb dX4_needs_41 ?_
      refine g_put (fs2 := [.ref ag, .ref ab, .ref ah, .int ch, .ref asv, .int hs, .ref aas, .ref ain, .int ty, .int er, .ref awy, .int ir, .ref ali, .int ln, .int th, .int (pl + 0), .int 1, .ref ato]) C hI hS c0_ (by omega) kc23 15 (Nat.le_of_ble_eq_true rfl) q2582 (fun _ h9 => h9) rfl rfl rfl rfl dX4_needs_42 (fun G2990 H locs e2991 hI hS => ?_)
      have c1_ := gE_k e2991 c1_ (g_on c1_ c0_)
      have c0_ : G2990 mm = some (.inl (23, [.ref ag, .ref ab, .ref ah, .int ch, .ref asv, .int hs, .ref aas, .ref ain, .int ty, .int er, .ref awy, .int ir, .ref ali, .int ln, .int th, .int (pl + 0), .int 1, .ref ato])) := gE_s e2991
      have hF := gE_F e2991 hF (Or.inr rfl)
      exact g_vret C hI hS (by omega) ⟨p0 + 0, 1, rfl, (by omega), hF, (by rw [show nI (p0 + 0) = pl + 0 from (gadd hpl nl0).symm]; exact c0_), (by simp [sNeeds, c_2986, c_2989]), (by omega), (by decide)⟩ dX4_needs_45
  · skip
    refine lv_aload_n hx hb dX4_needs_8 rfl (lv_at hl 0 rfl) ?_
    refine g_V (As := []) (rest := [.ref mm]) (lv := [(0, .ref mm), (1, .int a1)]) C hI hS (c_X4_here l hB G n mm ag ab ah ch asv hs aas ain ty er awy ir ali ln th pl wr ato tc tn p0 c0_ c1_ hty (by omega) hpl hp60) c0_ rfl rfl q2869 q2871 qs63 q94 q2872 (⟨by decide, by decide, by decide⟩ : gArg _ 0) rfl ⟨by decide, by decide⟩ (by omega) hl rfl (Nat.le_of_ble_eq_true rfl) dX4_needs_9 (fun v2992 G2993 n2994 H locs hp2995 hI hS => ?_) gKx.no
    obtain ⟨rfl, eG2993, en2994⟩ := hp2995
    refine W.widen (k := 0) (n := 200 * (0)) (by omega) (by omega) ?_
    rw [eG2993, en2994] at hI
    refine lv_iload_n hx hb dX4_needs_12 rfl (lv_at hl 1 rfl) ?_
    refine lv_icmp_eq (tgt := 20) hx hb dX4_needs_13 (by decide) (fun c_2998 => ?_) (fun c_2998 => ?_)
    · skip
      have hlt := sHere_lt (by omega) (c_2998.trans ea)
      refine lv_iconst (v := 0) hx hb dX4_needs_20 (by decide) ?_
      refine g_put (fs2 := [.ref ag, .ref ab, .ref ah, .int ch, .ref asv, .int hs, .ref aas, .ref ain, .int ty, .int er, .ref awy, .int ir, .ref ali, .int ln, .int th, .int pl, .int 0, .ref ato]) C hI hS c0_ (by omega) kc23 16 (Nat.le_of_ble_eq_true rfl) q2583 (fun _ h9 => h9) rfl rfl rfl rfl dX4_needs_21 (fun G2999 H locs e3000 hI hS => ?_)
      have c1_ := gE_k e3000 c1_ (g_on c1_ c0_)
      have c0_ : G2999 mm = some (.inl (23, [.ref ag, .ref ab, .ref ah, .int ch, .ref asv, .int hs, .ref aas, .ref ain, .int ty, .int er, .ref awy, .int ir, .ref ali, .int ln, .int th, .int pl, .int 0, .ref ato])) := gE_s e3000
      have hF := gE_F e3000 hF (Or.inr rfl)
      refine lv_aload_n hx hb dX4_needs_24 rfl (lv_at hl 0 rfl) ?_
      refine lv_dup hx hb dX4_needs_25 rfl ?_
      refine g_get C hI c0_ kc23 15 rfl q2582 (fun _ h9 => h9) dX4_needs_26 ?_
      refine lv_aload_n hx hb dX4_needs_29 rfl (lv_at hl 0 rfl) ?_
      refine g_get C hI c0_ kc23 16 rfl q2583 (fun _ h9 => h9) dX4_needs_30 ?_
      refine lv_if_eq (tgt := 40) hx hb dX4_needs_33 (by decide) (fun c_3001 => ?_) (fun c_3001 => ?_)
      · skip
        refine lv_iconst (v := 1) hx hb dX4_needs_40 (by decide) ?_
        refine lv_iadd hx hb dX4_needs_41 ?_
        refine g_put (fs2 := [.ref ag, .ref ab, .ref ah, .int ch, .ref asv, .int hs, .ref aas, .ref ain, .int ty, .int er, .ref awy, .int ir, .ref ali, .int ln, .int th, .int (pl + 1), .int 0, .ref ato]) C hI hS c0_ (by omega) kc23 15 (Nat.le_of_ble_eq_true rfl) q2582 (fun _ h9 => h9) rfl rfl rfl rfl dX4_needs_42 (fun G3002 H locs e3003 hI hS => ?_)
        have c1_ := gE_k e3003 c1_ (g_on c1_ c0_)
        have c0_ : G3002 mm = some (.inl (23, [.ref ag, .ref ab, .ref ah, .int ch, .ref asv, .int hs, .ref aas, .ref ain, .int ty, .int er, .ref awy, .int ir, .ref ali, .int ln, .int th, .int (pl + 1), .int 0, .ref ato])) := gE_s e3003
        have hF := gE_F e3003 hF (Or.inr rfl)
        exact g_vret C hI hS (by omega) ⟨p0 + 1, 0, rfl, (by omega), hF, (by rw [show nI (p0 + 1) = pl + 1 from (gadd hpl nl1).symm]; exact c0_), (by simp [sNeeds, eq_true c_2986, eq_true c_2998, eq_true c_3001]), (by omega), (by decide)⟩ dX4_needs_45
      · exact absurd (by decide) c_3001
    · skip
      refine lv_iconst (v := 1) hx hb dX4_needs_16 (by decide) ?_
      refine lv_goto (tgt := 21) hx hb dX4_needs_17 (by decide) ?_
      refine g_put (fs2 := [.ref ag, .ref ab, .ref ah, .int ch, .ref asv, .int hs, .ref aas, .ref ain, .int ty, .int er, .ref awy, .int ir, .ref ali, .int ln, .int th, .int pl, .int 1, .ref ato]) C hI hS c0_ (by omega) kc23 16 (Nat.le_of_ble_eq_true rfl) q2583 (fun _ h9 => h9) rfl rfl rfl rfl dX4_needs_21 (fun G3004 H locs e3005 hI hS => ?_)
      have c1_ := gE_k e3005 c1_ (g_on c1_ c0_)
      have c0_ : G3004 mm = some (.inl (23, [.ref ag, .ref ab, .ref ah, .int ch, .ref asv, .int hs, .ref aas, .ref ain, .int ty, .int er, .ref awy, .int ir, .ref ali, .int ln, .int th, .int pl, .int 1, .ref ato])) := gE_s e3005
      have hF := gE_F e3005 hF (Or.inr rfl)
      refine lv_aload_n hx hb dX4_needs_24 rfl (lv_at hl 0 rfl) ?_
      refine lv_dup hx hb dX4_needs_25 rfl ?_
      refine g_get C hI c0_ kc23 15 rfl q2582 (fun _ h9 => h9) dX4_needs_26 ?_
      refine lv_aload_n hx hb dX4_needs_29 rfl (lv_at hl 0 rfl) ?_
      refine g_get C hI c0_ kc23 16 rfl q2583 (fun _ h9 => h9) dX4_needs_30 ?_
      refine lv_if_eq (tgt := 40) hx hb dX4_needs_33 (by decide) (fun c_3006 => ?_) (fun c_3006 => ?_)
      · exact absurd c_3006 (by decide)
      · skip
        refine lv_iconst (v := 0) hx hb dX4_needs_36 (by decide) ?_
        refine lv_goto (tgt := 41) hx hb dX4_needs_37 (by decide) ?_
        refine lv_iadd hx hb dX4_needs_41 ?_
        refine g_put (fs2 := [.ref ag, .ref ab, .ref ah, .int ch, .ref asv, .int hs, .ref aas, .ref ain, .int ty, .int er, .ref awy, .int ir, .ref ali, .int ln, .int th, .int (pl + 0), .int 1, .ref ato]) C hI hS c0_ (by omega) kc23 15 (Nat.le_of_ble_eq_true rfl) q2582 (fun _ h9 => h9) rfl rfl rfl rfl dX4_needs_42 (fun G3007 H locs e3008 hI hS => ?_)
        have c1_ := gE_k e3008 c1_ (g_on c1_ c0_)
        have c0_ : G3007 mm = some (.inl (23, [.ref ag, .ref ab, .ref ah, .int ch, .ref asv, .int hs, .ref aas, .ref ain, .int ty, .int er, .ref awy, .int ir, .ref ali, .int ln, .int th, .int (pl + 0), .int 1, .ref ato])) := gE_s e3008
        have hF := gE_F e3008 hF (Or.inr rfl)
        exact g_vret C hI hS (by omega) ⟨p0 + 0, 1, rfl, (by omega), hF, (by rw [show nI (p0 + 0) = pl + 0 from (gadd hpl nl0).symm]; exact c0_), (by simp [sNeeds, eq_true c_2986, c_2998, c_3006]), (by omega), (by decide)⟩ dX4_needs_45
set_option maxHeartbeats 4000000 in
set_option maxRecDepth 100000 in
theorem c_X4_needsText (l : Launch) {D : gD} (hB : gBs D) (G : gH) (n : Nat) (mm : Nat) (ag : Nat) (ab : Nat) (ah : Nat) (ch : Int32) (asv : Nat) (hs : Int32) (aas : Nat) (ain : Nat) (ty : Int32) (er : Int32) (awy : Nat) (ir : Int32) (ali : Nat) (ln : Int32) (th : Int32) (pl : Int32) (wr : Int32) (ato : Nat) (tc : Nat → Nat) (tn : Nat) (p0 : Nat) (va : Nat) (hsx : Int32) (hsy : Int32) (L : List Nat) (sa : Nat) (c0_ : G mm = some (.inl (23, [.ref ag, .ref ab, .ref ah, .int ch, .ref asv, .int hs, .ref aas, .ref ain, .int ty, .int er, .ref awy, .int ir, .ref ali, .int ln, .int th, .int pl, .int wr, .ref ato]))) (c1_ : G ain = some (aC 60 (fun k => nI (tc k)))) (c2_ : G sa = some (.inl (21, [.ref va, .int 0, .int hsx, .int hsy]))) (c3_ : G va = some (aB L.length (fun i => nI (L.getD i 0)))) (hz : gz D ≤ mm) (hty : ty = nI tn) (ht60 : tn ≤ 60) (hpl : pl = nI p0) (hp60 : p0 ≤ tn) (hw : wr = 0 ∨ wr = 1) (hLb : L.length ≤ 60) (hL : ∀ c ∈ L, c < 128) : gMet l D yX4_needsText (ws_ yX4_needsText cX4_needsText 3 none) 5 0 G n [.ref mm, .ref sa] (fun (v : Option Value) (G1 : gH) (n1 : Nat) => ∃ (pl2 : Nat) (wr2 : Int32), v = none ∧ n ≤ n1 ∧ gF G G1 n (fun q : Nat => q = mm) ∧ G1 mm = some (.inl (23, [.ref ag, .ref ab, .ref ah, .int ch, .ref asv, .int hs, .ref aas, .ref ain, .int ty, .int er, .ref awy, .int ir, .ref ali, .int ln, .int th, .int (nI pl2), .int wr2, .ref ato])) ∧ sNT tc tn L (p0, wr) = (pl2, wr2) ∧ pl2 ≤ tn ∧ (wr2 = 0 ∨ wr2 = 1)) gNox := by
  refine g_start (by decide) (Nat.le_of_ble_eq_true rfl) ?_
  intro p e s m below meth c ls C hnm hxt hI hl
  have hx := C.x
  have hb := C.b
  have hS : va_S (gA D) s.heap s.heap [] := va_S.rf
  have hz0 := hI.z
  have lc0_ := hI.lt c0_
  have lc1_ := hI.lt c1_
  have lc2_ := hI.lt c2_
  have lc3_ := hI.lt c3_
  have hF : gF G G n (fun q : Nat => q = mm) := gF.rf _ _ _
  have hl : lv_has ls 3 [(0, .ref mm), (1, .ref sa)] := hl
  refine lv_iconst (v := 0) hx hb dX4_needsText_0 (by decide) ?_
  refine lv_istore_n (lv' := [(2, .int 0), (0, .ref mm), (1, .ref sa)]) hx hb dX4_needsText_1 rfl hl (by decide) rfl (fun ls hl => ?_)
  have key3009 : ∀ (r : Nat) (k : Nat) (xk : Int32) (sp : Nat) (sw : Int32), (k ≤ L.length) → (L.length < k + r) → (xk = nI k) → (sNT tc tn (L.take k) (p0, wr) = (sp, sw)) → (sp ≤ tn) → (sw = 0 ∨ sw = 1) → ∀ (G3010 : gH) (n3011 : Nat) (H : Heap) (locs : List Loc) (ls : Array Slot), G3010 mm = some (.inl (23, [.ref ag, .ref ab, .ref ah, .int ch, .ref asv, .int hs, .ref aas, .ref ain, .int ty, .int er, .ref awy, .int ir, .ref ali, .int ln, .int th, .int (nI sp), .int sw, .ref ato])) → G3010 ain = some (aC 60 (fun k => nI (tc k))) → G3010 sa = some (.inl (21, [.ref va, .int 0, .int hsx, .int hsy])) → G3010 va = some (aB L.length (fun i => nI (L.getD i 0))) → n ≤ n3011 → gI D G3010 n3011 H → va_S (gA D) s.heap H locs → gF G G3010 n (fun q : Nat => q = mm) → lv_has ls 3 [(2, .int xk), (0, .ref mm), (1, .ref sa)] → W p l e (gR 5 0) s m ([.ref mm, .ref sa] : List Value).toArray below meth c H locs (0) (200 * (0)) (gM below D (fun (v : Option Value) (G1 : gH) (n1 : Nat) => ∃ (pl2 : Nat) (wr2 : Int32), v = none ∧ n ≤ n1 ∧ gF G G1 n (fun q : Nat => q = mm) ∧ G1 mm = some (.inl (23, [.ref ag, .ref ab, .ref ah, .int ch, .ref asv, .int hs, .ref aas, .ref ain, .int ty, .int er, .ref awy, .int ir, .ref ali, .int ln, .int th, .int (nI pl2), .int wr2, .ref ato])) ∧ sNT tc tn L (p0, wr) = (pl2, wr2) ∧ pl2 ≤ tn ∧ (wr2 = 0 ∨ wr2 = 1)) gNox ([.ref mm, .ref sa] : List Value).toArray s 0) (F0 m 2 ls []) := by
    intro r
    induction r with
    | zero =>
      intro k xk sp sw hk hr hxk hst hsp hsw
      exact absurd trivial (fun _ => (by omega))
    | succ r ih3016 =>
      intro k xk sp sw hk hr hxk hst hsp hsw
      intro G3010 n3011 H locs ls c3012 c3013 c3014 c3015 hn3017 hI hS hF hl
      refine lv_iload_n hx hb dX4_needsText_2 rfl (lv_at hl 0 rfl) ?_
      refine lv_aload_n hx hb dX4_needsText_3 rfl (lv_at hl 2 rfl) ?_
      refine g_V (As := []) (rest := [.int xk]) (lv := [(2, .int xk), (0, .ref mm), (1, .ref sa)]) C hI hS (c_J11_length l hB G3010 n3011 sa va hsx hsy L.length (fun i => nI (L.getD i 0)) c3014 c3015 ) c3014 rfl rfl q2877 q692 q693 q92 q694 (⟨by decide, by decide, by decide⟩ : gArg _ 0) rfl ⟨by decide, by decide⟩ (by omega) hl rfl (Nat.le_of_ble_eq_true rfl) dX4_needsText_4 (fun v3018 G3019 n3020 H locs hp3021 hI hS => ?_) gKx.no
      obtain ⟨rfl, eG3019, en3020⟩ := hp3021
      refine W.widen (k := 0) (n := 200 * (0)) (by omega) (by omega) ?_
      rw [eG3019, en3020] at hI
      refine lv_icmp_ge (tgt := 25) hx hb dX4_needsText_7 (by decide) (fun c_3024 => ?_) (fun c_3024 => ?_)
      · skip
        try have k_3025 : L.length ≤ k := (nI_leE rfl hxk (by omega) (by omega)).mp c_3024
        have hke : k = L.length := by omega
        exact g_vret C hI hS (by omega) ⟨sp, sw, rfl, (by omega), hF, c3012, (by rw [hke, List.take_length] at hst; exact hst), (by omega), hsw⟩ dX4_needsText_25
      · skip
        try have k_3026 : ¬ (L.length ≤ k) := (not_congr (nI_leE rfl hxk (by omega) (by omega))).mp c_3024
        refine lv_aload_n hx hb dX4_needsText_10 rfl (lv_at hl 1 rfl) ?_
        refine lv_aload_n hx hb dX4_needsText_11 rfl (lv_at hl 2 rfl) ?_
        refine lv_iload_n hx hb dX4_needsText_12 rfl (lv_at hl 0 rfl) ?_
        refine g_V (As := [.int xk]) (rest := [.ref mm]) (lv := [(2, .int xk), (0, .ref mm), (1, .ref sa)]) C hI hS (c_J11_charAt l hB G3010 n3011 sa va hsx hsy L.length (fun i => nI (L.getD i 0)) k (L.getD k 0) xk c3014 c3015 hxk (by omega) (by omega) (chB (by rw [List.getD_eq_getElem?_getD, List.getElem?_eq_getElem (by omega)]; exact hL _ (List.getElem_mem _))) (by rw [List.getD_eq_getElem?_getD, List.getElem?_eq_getElem (by omega)]; exact Nat.lt_trans (hL _ (List.getElem_mem _)) (by decide))) c3014 rfl rfl q2868 q2158 q2991 q92 q2160 (⟨by decide, by decide, by decide⟩ : gArg _ 1) rfl ⟨by decide, by decide⟩ (by omega) hl rfl (Nat.le_of_ble_eq_true rfl) dX4_needsText_13 (fun v3027 G3028 n3029 H locs hp3030 hI hS => ?_) gKx.no
        obtain ⟨rfl, eG3028, en3029⟩ := hp3030
        refine W.widen (k := 0) (n := 200 * (0)) (by omega) (by omega) ?_
        rw [eG3028, en3029] at hI
        refine g_V (As := [.int (nI (L.getD k 0))]) (rest := []) (lv := [(2, .int xk), (0, .ref mm), (1, .ref sa)]) C hI hS (c_X4_needs l hB G3010 n3011 mm ag ab ah ch asv hs aas ain ty er awy ir ali ln th (nI sp) sw ato tc _ sp (L.getD k 0) (nI (L.getD k 0)) c3012 c3013 (by omega) hty (by omega) rfl hsp hsw (by rw [List.getD_eq_getElem?_getD, List.getElem?_eq_getElem (by omega)]; exact Nat.lt_trans (hL _ (List.getElem_mem _)) (by decide)) rfl) c3012 rfl rfl q2878 q2880 qs65 q94 q2881 (⟨by decide, by decide, by decide⟩ : gArg _ 1) rfl ⟨by decide, by decide⟩ (by omega) hl rfl (Nat.le_of_ble_eq_true rfl) dX4_needsText_16 (fun v3033 G3034 n3035 H locs hp3036 hI hS => ?_) gKx.no
        obtain ⟨pl2_3037, wr2_3038, rfl, hn3039, hF3040, c3041, hq3042, hle3043, hw23044⟩ := hp3036
        refine W.widen (k := 0) (n := 200 * (0)) (by omega) (by omega) ?_
        have c3013 := hF3040.at c3013 (by omega) (g_on c3013 c3012)
        have c3014 := hF3040.at c3014 (by omega) (g_nc c3014 c3012 (by decide))
        have c3015 := hF3040.at c3015 (by omega) (g_on c3015 c3012)
        have hF := hF.trans hF3040 (by omega) (fun q hq => (fun h => h ▸ rfl))
        refine lv_iinc (v := xk + 1) (lv' := [(2, .int (xk + 1)), (0, .ref mm), (1, .ref sa)]) hx hb dX4_needsText_19 hl (k := 0) rfl (by first | rfl | decide) (by decide) rfl (fun ls hl => ?_)
        refine lv_goto (tgt := 2) hx hb dX4_needsText_22 (by decide) ?_
        exact ih3016 (k + 1) (xk + 1) pl2_3037 wr2_3038 (by omega) (by omega) (gadd hxk nl1) (by rw [sNT_take tc tn (by omega), hst]; exact hq3042) hle3043 hw23044 _ _ _ _ _ c3041 c3013 c3014 c3015 (by omega) hI hS hF (lv_sub hl [0, 1, 2] rfl)
  exact key3009 (L.length + 1) 0 0 p0 wr (by omega) (by omega) nl0 rfl hp60 hw _ _ _ _ _ (by rw [← hpl]; exact c0_) c1_ c2_ c3_ (Nat.le_refl _) hI hS hF (lv_sub hl [0, 1, 2] rfl)
set_option maxHeartbeats 4000000 in
set_option maxRecDepth 100000 in
theorem c_X4_word0 (l : Launch) {D : gD} (hB : gBs D) (G : gH) (n : Nat) : gMet l D yX4_word (ws_ yX4_word cX4_word 1 (some (FieldType.object "java/lang/String"))) 1 0 G n [.int 0] (fun (v : Option Value) (G1 : gH) (n1 : Nat) => v = some (.ref (gk D 125)) ∧ G1 = G ∧ n1 = n) gNox := by
  refine g_start (by decide) (Nat.le_of_ble_eq_true rfl) ?_
  intro p e s m below meth c ls C hnm hxt hI hl
  have hx := C.x
  have hb := C.b
  have hS : va_S (gA D) s.heap s.heap [] := va_S.rf
  have hz0 := hI.z
  have hF : gF G G n gNone := gF.rf _ _ _
  have hl : lv_has ls 1 [(0, .int 0)] := hl
  refine lv_iload_n hx hb dX4_word_0 rfl (lv_at hl 0 rfl) ?_
  refine lv_tableIn (off := 43) (tgt := 44) hx hb dX4_word_1 (by decide) (by decide) (by rfl) (by decide) ?_
  refine g_ldcS C (sr_WhelkFleetModel_157 D) dX4_word_44 ?_
  have lc3045 : gk D 125 < gz D := (hB.tx (j := 25) rfl).1
  have lc3046 : gk D 225 < gz D := (hB.tx (j := 25) rfl).2.1
  have c3045 : G (gk D 125) = some (.inl (21, [.ref (gk D 225), .int 0, .int 3422866, .int 0])) := hI.bs ⟨lc3045, (hB.tx (j := 25) rfl).2.2.1⟩
  have c3046 : G (gk D 225) = some (aB (([111, 117, 116, 32] : List Nat).length) (fun i => nI (([111, 117, 116, 32] : List Nat).getD i 0))) := hI.bs ⟨lc3046, (hB.tx (j := 25) rfl).2.2.2⟩
  exact g_aret C hI hS (by omega) (by first | exact Or.inl ⟨_, rfl⟩ | exact Or.inr ⟨_, rfl⟩) (Or.inr ⟨_, rfl⟩) ⟨rfl, rfl, rfl⟩ dX4_word_46
set_option maxHeartbeats 4000000 in
set_option maxRecDepth 100000 in
theorem c_X4_word1 (l : Launch) {D : gD} (hB : gBs D) (G : gH) (n : Nat) : gMet l D yX4_word (ws_ yX4_word cX4_word 1 (some (FieldType.object "java/lang/String"))) 1 0 G n [.int 1] (fun (v : Option Value) (G1 : gH) (n1 : Nat) => v = some (.ref (gk D 126)) ∧ G1 = G ∧ n1 = n) gNox := by
  refine g_start (by decide) (Nat.le_of_ble_eq_true rfl) ?_
  intro p e s m below meth c ls C hnm hxt hI hl
  have hx := C.x
  have hb := C.b
  have hS : va_S (gA D) s.heap s.heap [] := va_S.rf
  have hz0 := hI.z
  have hF : gF G G n gNone := gF.rf _ _ _
  have hl : lv_has ls 1 [(0, .int 1)] := hl
  refine lv_iload_n hx hb dX4_word_0 rfl (lv_at hl 0 rfl) ?_
  refine lv_tableIn (off := 46) (tgt := 47) hx hb dX4_word_1 (by decide) (by decide) (by rfl) (by decide) ?_
  refine g_ldcS C (sr_WhelkFleetModel_159 D) dX4_word_47 ?_
  have lc3047 : gk D 126 < gz D := (hB.tx (j := 26) rfl).1
  have lc3048 : gk D 226 < gz D := (hB.tx (j := 26) rfl).2.1
  have c3047 : G (gk D 126) = some (.inl (21, [.ref (gk D 226), .int 0, .int 99460897, .int 0])) := hI.bs ⟨lc3047, (hB.tx (j := 26) rfl).2.2.1⟩
  have c3048 : G (gk D 226) = some (aB (([104, 111, 109, 101, 32] : List Nat).length) (fun i => nI (([104, 111, 109, 101, 32] : List Nat).getD i 0))) := hI.bs ⟨lc3048, (hB.tx (j := 26) rfl).2.2.2⟩
  exact g_aret C hI hS (by omega) (by first | exact Or.inl ⟨_, rfl⟩ | exact Or.inr ⟨_, rfl⟩) (Or.inr ⟨_, rfl⟩) ⟨rfl, rfl, rfl⟩ dX4_word_49
set_option maxHeartbeats 4000000 in
set_option maxRecDepth 100000 in
theorem c_X4_word2 (l : Launch) {D : gD} (hB : gBs D) (G : gH) (n : Nat) : gMet l D yX4_word (ws_ yX4_word cX4_word 1 (some (FieldType.object "java/lang/String"))) 1 0 G n [.int 2] (fun (v : Option Value) (G1 : gH) (n1 : Nat) => v = some (.ref (gk D 127)) ∧ G1 = G ∧ n1 = n) gNox := by
  refine g_start (by decide) (Nat.le_of_ble_eq_true rfl) ?_
  intro p e s m below meth c ls C hnm hxt hI hl
  have hx := C.x
  have hb := C.b
  have hS : va_S (gA D) s.heap s.heap [] := va_S.rf
  have hz0 := hI.z
  have hF : gF G G n gNone := gF.rf _ _ _
  have hl : lv_has ls 1 [(0, .int 2)] := hl
  refine lv_iload_n hx hb dX4_word_0 rfl (lv_at hl 0 rfl) ?_
  refine lv_tableIn (off := 49) (tgt := 50) hx hb dX4_word_1 (by decide) (by decide) (by rfl) (by decide) ?_
  refine g_ldcS C (sr_WhelkFleetModel_161 D) dX4_word_50 ?_
  have lc3049 : gk D 127 < gz D := (hB.tx (j := 27) rfl).1
  have lc3050 : gk D 227 < gz D := (hB.tx (j := 27) rfl).2.1
  have c3049 : G (gk D 127) = some (.inl (21, [.ref (gk D 227), .int 0, .int (-903151647), .int 0])) := hI.bs ⟨lc3049, (hB.tx (j := 27) rfl).2.2.1⟩
  have c3050 : G (gk D 227) = some (aB (([115, 104, 111, 111, 116, 32] : List Nat).length) (fun i => nI (([115, 104, 111, 111, 116, 32] : List Nat).getD i 0))) := hI.bs ⟨lc3050, (hB.tx (j := 27) rfl).2.2.2⟩
  exact g_aret C hI hS (by omega) (by first | exact Or.inl ⟨_, rfl⟩ | exact Or.inr ⟨_, rfl⟩) (Or.inr ⟨_, rfl⟩) ⟨rfl, rfl, rfl⟩ dX4_word_52
set_option maxHeartbeats 4000000 in
set_option maxRecDepth 100000 in
theorem c_X4_word3 (l : Launch) {D : gD} (hB : gBs D) (G : gH) (n : Nat) : gMet l D yX4_word (ws_ yX4_word cX4_word 1 (some (FieldType.object "java/lang/String"))) 1 0 G n [.int 3] (fun (v : Option Value) (G1 : gH) (n1 : Nat) => v = some (.ref (gk D 128)) ∧ G1 = G ∧ n1 = n) gNox := by
  refine g_start (by decide) (Nat.le_of_ble_eq_true rfl) ?_
  intro p e s m below meth c ls C hnm hxt hI hl
  have hx := C.x
  have hb := C.b
  have hS : va_S (gA D) s.heap s.heap [] := va_S.rf
  have hz0 := hI.z
  have hF : gF G G n gNone := gF.rf _ _ _
  have hl : lv_has ls 1 [(0, .int 3)] := hl
  refine lv_iload_n hx hb dX4_word_0 rfl (lv_at hl 0 rfl) ?_
  refine lv_tableIn (off := 52) (tgt := 53) hx hb dX4_word_1 (by decide) (by decide) (by rfl) (by decide) ?_
  refine g_ldcS C (sr_WhelkFleetModel_163 D) dX4_word_53 ?_
  have lc3051 : gk D 128 < gz D := (hB.tx (j := 28) rfl).1
  have lc3052 : gk D 228 < gz D := (hB.tx (j := 28) rfl).2.1
  have c3051 : G (gk D 128) = some (.inl (21, [.ref (gk D 228), .int 0, .int 99051728, .int 0])) := hI.bs ⟨lc3051, (hB.tx (j := 28) rfl).2.2.1⟩
  have c3052 : G (gk D 228) = some (aB (([104, 97, 117, 108, 32] : List Nat).length) (fun i => nI (([104, 97, 117, 108, 32] : List Nat).getD i 0))) := hI.bs ⟨lc3052, (hB.tx (j := 28) rfl).2.2.2⟩
  exact g_aret C hI hS (by omega) (by first | exact Or.inl ⟨_, rfl⟩ | exact Or.inr ⟨_, rfl⟩) (Or.inr ⟨_, rfl⟩) ⟨rfl, rfl, rfl⟩ dX4_word_55
set_option maxHeartbeats 4000000 in
set_option maxRecDepth 100000 in
theorem c_X4_word4 (l : Launch) {D : gD} (hB : gBs D) (G : gH) (n : Nat) : gMet l D yX4_word (ws_ yX4_word cX4_word 1 (some (FieldType.object "java/lang/String"))) 1 0 G n [.int 4] (fun (v : Option Value) (G1 : gH) (n1 : Nat) => v = some (.ref (gk D 129)) ∧ G1 = G ∧ n1 = n) gNox := by
  refine g_start (by decide) (Nat.le_of_ble_eq_true rfl) ?_
  intro p e s m below meth c ls C hnm hxt hI hl
  have hx := C.x
  have hb := C.b
  have hS : va_S (gA D) s.heap s.heap [] := va_S.rf
  have hz0 := hI.z
  have hF : gF G G n gNone := gF.rf _ _ _
  have hl : lv_has ls 1 [(0, .int 4)] := hl
  refine lv_iload_n hx hb dX4_word_0 rfl (lv_at hl 0 rfl) ?_
  refine lv_tableIn (off := 55) (tgt := 56) hx hb dX4_word_1 (by decide) (by decide) (by rfl) (by decide) ?_
  refine g_ldcS C (sr_WhelkFleetModel_165 D) dX4_word_56 ?_
  have lc3053 : gk D 129 < gz D := (hB.tx (j := 29) rfl).1
  have lc3054 : gk D 229 < gz D := (hB.tx (j := 29) rfl).2.1
  have c3053 : G (gk D 129) = some (.inl (21, [.ref (gk D 229), .int 0, .int 102738837, .int 0])) := hI.bs ⟨lc3053, (hB.tx (j := 29) rfl).2.2.1⟩
  have c3054 : G (gk D 229) = some (aB (([108, 97, 110, 100, 32] : List Nat).length) (fun i => nI (([108, 97, 110, 100, 32] : List Nat).getD i 0))) := hI.bs ⟨lc3054, (hB.tx (j := 29) rfl).2.2.2⟩
  exact g_aret C hI hS (by omega) (by first | exact Or.inl ⟨_, rfl⟩ | exact Or.inr ⟨_, rfl⟩) (Or.inr ⟨_, rfl⟩) ⟨rfl, rfl, rfl⟩ dX4_word_58
set_option maxHeartbeats 4000000 in
set_option maxRecDepth 100000 in
theorem c_X4_word5 (l : Launch) {D : gD} (hB : gBs D) (G : gH) (n : Nat) : gMet l D yX4_word (ws_ yX4_word cX4_word 1 (some (FieldType.object "java/lang/String"))) 1 0 G n [.int 5] (fun (v : Option Value) (G1 : gH) (n1 : Nat) => v = some (.ref (gk D 130)) ∧ G1 = G ∧ n1 = n) gNox := by
  refine g_start (by decide) (Nat.le_of_ble_eq_true rfl) ?_
  intro p e s m below meth c ls C hnm hxt hI hl
  have hx := C.x
  have hb := C.b
  have hS : va_S (gA D) s.heap s.heap [] := va_S.rf
  have hz0 := hI.z
  have hF : gF G G n gNone := gF.rf _ _ _
  have hl : lv_has ls 1 [(0, .int 5)] := hl
  refine lv_iload_n hx hb dX4_word_0 rfl (lv_at hl 0 rfl) ?_
  refine lv_tableIn (off := 58) (tgt := 59) hx hb dX4_word_1 (by decide) (by decide) (by rfl) (by decide) ?_
  refine g_ldcS C (sr_WhelkFleetModel_167 D) dX4_word_59 ?_
  have lc3055 : gk D 130 < gz D := (hB.tx (j := 30) rfl).1
  have lc3056 : gk D 230 < gz D := (hB.tx (j := 30) rfl).2.1
  have c3055 : G (gk D 130) = some (.inl (21, [.ref (gk D 230), .int 0, .int (-889599873), .int 0])) := hI.bs ⟨lc3055, (hB.tx (j := 30) rfl).2.2.1⟩
  have c3056 : G (gk D 230) = some (aB (([115, 119, 101, 108, 108, 32] : List Nat).length) (fun i => nI (([115, 119, 101, 108, 108, 32] : List Nat).getD i 0))) := hI.bs ⟨lc3056, (hB.tx (j := 30) rfl).2.2.2⟩
  exact g_aret C hI hS (by omega) (by first | exact Or.inl ⟨_, rfl⟩ | exact Or.inr ⟨_, rfl⟩) (Or.inr ⟨_, rfl⟩) ⟨rfl, rfl, rfl⟩ dX4_word_61
set_option maxHeartbeats 4000000 in
set_option maxRecDepth 100000 in
theorem c_X4_word6 (l : Launch) {D : gD} (hB : gBs D) (G : gH) (n : Nat) : gMet l D yX4_word (ws_ yX4_word cX4_word 1 (some (FieldType.object "java/lang/String"))) 1 0 G n [.int 6] (fun (v : Option Value) (G1 : gH) (n1 : Nat) => v = some (.ref (gk D 131)) ∧ G1 = G ∧ n1 = n) gNox := by
  refine g_start (by decide) (Nat.le_of_ble_eq_true rfl) ?_
  intro p e s m below meth c ls C hnm hxt hI hl
  have hx := C.x
  have hb := C.b
  have hS : va_S (gA D) s.heap s.heap [] := va_S.rf
  have hz0 := hI.z
  have hF : gF G G n gNone := gF.rf _ _ _
  have hl : lv_has ls 1 [(0, .int 6)] := hl
  refine lv_iload_n hx hb dX4_word_0 rfl (lv_at hl 0 rfl) ?_
  refine lv_tableIn (off := 61) (tgt := 62) hx hb dX4_word_1 (by decide) (by decide) (by rfl) (by decide) ?_
  refine g_ldcS C (sr_WhelkFleetModel_169 D) dX4_word_62 ?_
  have lc3057 : gk D 131 < gz D := (hB.tx (j := 31) rfl).1
  have lc3058 : gk D 231 < gz D := (hB.tx (j := 31) rfl).2.1
  have c3057 : G (gk D 131) = some (.inl (21, [.ref (gk D 231), .int 0, .int 1197703536, .int 0])) := hI.bs ⟨lc3057, (hB.tx (j := 31) rfl).2.2.1⟩
  have c3058 : G (gk D 231) = some (aB (([114, 105, 100, 100, 108, 101, 32] : List Nat).length) (fun i => nI (([114, 105, 100, 100, 108, 101, 32] : List Nat).getD i 0))) := hI.bs ⟨lc3058, (hB.tx (j := 31) rfl).2.2.2⟩
  exact g_aret C hI hS (by omega) (by first | exact Or.inl ⟨_, rfl⟩ | exact Or.inr ⟨_, rfl⟩) (Or.inr ⟨_, rfl⟩) ⟨rfl, rfl, rfl⟩ dX4_word_64
set_option maxHeartbeats 4000000 in
set_option maxRecDepth 100000 in
theorem c_X4_word7 (l : Launch) {D : gD} (hB : gBs D) (G : gH) (n : Nat) : gMet l D yX4_word (ws_ yX4_word cX4_word 1 (some (FieldType.object "java/lang/String"))) 1 0 G n [.int 7] (fun (v : Option Value) (G1 : gH) (n1 : Nat) => v = some (.ref (gk D 132)) ∧ G1 = G ∧ n1 = n) gNox := by
  refine g_start (by decide) (Nat.le_of_ble_eq_true rfl) ?_
  intro p e s m below meth c ls C hnm hxt hI hl
  have hx := C.x
  have hb := C.b
  have hS : va_S (gA D) s.heap s.heap [] := va_S.rf
  have hz0 := hI.z
  have hF : gF G G n gNone := gF.rf _ _ _
  have hl : lv_has ls 1 [(0, .int 7)] := hl
  refine lv_iload_n hx hb dX4_word_0 rfl (lv_at hl 0 rfl) ?_
  refine lv_tableOut (tgt := 65) hx hb dX4_word_1 (by decide) (by decide) ?_
  refine g_ldcS C (sr_WhelkFleetModel_171 D) dX4_word_65 ?_
  have lc3059 : gk D 132 < gz D := (hB.tx (j := 32) rfl).1
  have lc3060 : gk D 232 < gz D := (hB.tx (j := 32) rfl).2.1
  have c3059 : G (gk D 132) = some (.inl (21, [.ref (gk D 232), .int 0, .int 95361705, .int 0])) := hI.bs ⟨lc3059, (hB.tx (j := 32) rfl).2.2.1⟩
  have c3060 : G (gk D 232) = some (aB (([100, 97, 121, 115, 32] : List Nat).length) (fun i => nI (([100, 97, 121, 115, 32] : List Nat).getD i 0))) := hI.bs ⟨lc3060, (hB.tx (j := 32) rfl).2.2.2⟩
  exact g_aret C hI hS (by omega) (by first | exact Or.inl ⟨_, rfl⟩ | exact Or.inr ⟨_, rfl⟩) (Or.inr ⟨_, rfl⟩) ⟨rfl, rfl, rfl⟩ dX4_word_67
set_option maxHeartbeats 4000000 in
set_option maxRecDepth 100000 in
theorem c_X4_isWord0 (l : Launch) {D : gD} (hB : gBs D) (G : gH) (n : Nat) (mm : Nat) (ag : Nat) (ab : Nat) (ah : Nat) (ch : Int32) (asv : Nat) (hs : Int32) (aas : Nat) (ain : Nat) (ty : Int32) (er : Int32) (awy : Nat) (ir : Int32) (ali : Nat) (ln : Int32) (th : Int32) (pl : Int32) (wr : Int32) (ato : Nat) (tc : Nat → Nat) (tn : Nat) (p0 : Nat) (c0_ : G mm = some (.inl (23, [.ref ag, .ref ab, .ref ah, .int ch, .ref asv, .int hs, .ref aas, .ref ain, .int ty, .int er, .ref awy, .int ir, .ref ali, .int ln, .int th, .int pl, .int wr, .ref ato]))) (c1_ : G ain = some (aC 60 (fun k => nI (tc k)))) (hty : ty = nI tn) (ht60 : tn ≤ 60) (hpl : pl = nI p0) (hp60 : p0 ≤ tn) : gMet l D yX4_isWord (ws_ yX4_isWord cX4_isWord 4 (some FieldType.boolean)) 5 0 G n [.ref mm, .int 0] (fun (v : Option Value) (G1 : gH) (n1 : Nat) => v = some (.int (sIsW tc tn 0 p0)) ∧ G1 = G ∧ n1 = n) gNox := by
  refine g_start (by decide) (Nat.le_of_ble_eq_true rfl) ?_
  intro p e s m below meth c ls C hnm hxt hI hl
  have hx := C.x
  have hb := C.b
  have hS : va_S (gA D) s.heap s.heap [] := va_S.rf
  have hz0 := hI.z
  have lc0_ := hI.lt c0_
  have lc1_ := hI.lt c1_
  have hF : gF G G n gNone := gF.rf _ _ _
  have hl : lv_has ls 4 [(0, .ref mm), (1, .int 0)] := hl
  refine lv_aload_n hx hb dX4_isWord_0 rfl (lv_at hl 0 rfl) ?_
  refine g_get C hI c0_ kc23 15 rfl q2582 (fun _ h9 => h9) dX4_isWord_1 ?_
  refine lv_iconst (v := 1) hx hb dX4_isWord_4 (by decide) ?_
  refine lv_iadd hx hb dX4_isWord_5 ?_
  refine lv_aload_n hx hb dX4_isWord_6 rfl (lv_at hl 0 rfl) ?_
  refine g_get C hI c0_ kc23 8 rfl q2575 (fun _ h9 => h9) dX4_isWord_7 ?_
  refine lv_icmp_ge (tgt := 27) hx hb dX4_isWord_10 (by decide) (fun c_3061 => ?_) (fun c_3061 => ?_)
  · skip
    try have k_3062 : tn ≤ (p0 + 1) := (nI_leE hty (gadd hpl nl1) (by omega) (by omega)).mp c_3061
    have hnx : sHere tc tn (p0 + 1) = -1 := by unfold sHere; rw [if_pos (by omega)]
    refine lv_iconst (v := (-1)) hx hb dX4_isWord_27 (by decide) ?_
    refine lv_istore_n (lv' := [(2, .int (-1)), (0, .ref mm), (1, .int 0)]) hx hb dX4_isWord_28 rfl hl (by decide) rfl (fun ls hl => ?_)
    refine lv_iload_n hx hb dX4_isWord_29 rfl (lv_at hl 2 rfl) ?_
    refine lv_iconst (v := 1) hx hb dX4_isWord_30 (by decide) ?_
    refine lv_icmp_eq (tgt := 43) hx hb dX4_isWord_31 (by decide) (fun c_3063 => ?_) (fun c_3063 => ?_)
    · exact absurd c_3063 (by decide)
    · skip
      refine lv_iload_n hx hb dX4_isWord_34 rfl (lv_at hl 2 rfl) ?_
      refine lv_iconst (v := 2) hx hb dX4_isWord_35 (by decide) ?_
      refine lv_icmp_eq (tgt := 43) hx hb dX4_isWord_36 (by decide) (fun c_3064 => ?_) (fun c_3064 => ?_)
      · exact absurd c_3064 (by decide)
      · skip
        refine lv_iconst (v := 1) hx hb dX4_isWord_39 (by decide) ?_
        refine lv_goto (tgt := 44) hx hb dX4_isWord_40 (by decide) ?_
        refine lv_istore_n (lv' := [(3, .int 1), (2, .int (-1)), (0, .ref mm), (1, .int 0)]) hx hb dX4_isWord_44 rfl hl (by decide) rfl (fun ls hl => ?_)
        refine lv_iload_n hx hb dX4_isWord_45 rfl (lv_at hl 3 rfl) ?_
        refine g_S (As := [.int 0]) (rest := []) (lv := [(3, .int 1), (2, .int (-1)), (0, .ref mm), (1, .int 0)]) C hI hS (c_X4_word0 l hB G n   ) q2857 q2858 q94 q2859 (⟨by decide, by decide, by decide⟩ : gArg _ 1) rfl ⟨by decide, by decide⟩ (by omega) hl rfl (Nat.le_of_ble_eq_true rfl) dX4_isWord_46 (fun v3065 G3066 n3067 H locs hp3068 hI hS => ?_) gKx.no
        obtain ⟨rfl, eG3066, en3067⟩ := hp3068
        refine W.widen (k := 0) (n := 200 * (0)) (by omega) (by omega) ?_
        rw [eG3066, en3067] at hI
        have lc3071 : gk D 125 < gz D := (hB.tx (j := 25) rfl).1
        have lc3072 : gk D 225 < gz D := (hB.tx (j := 25) rfl).2.1
        have c3071 : G (gk D 125) = some (.inl (21, [.ref (gk D 225), .int 0, .int 3422866, .int 0])) := hI.bs ⟨lc3071, (hB.tx (j := 25) rfl).2.2.1⟩
        have c3072 : G (gk D 225) = some (aB (([111, 117, 116, 32] : List Nat).length) (fun i => nI (([111, 117, 116, 32] : List Nat).getD i 0))) := hI.bs ⟨lc3072, (hB.tx (j := 25) rfl).2.2.2⟩
        refine lv_iconst (v := 0) hx hb dX4_isWord_49 (by decide) ?_
        refine g_V (As := [.int 0]) (rest := []) (lv := [(3, .int 1), (2, .int (-1)), (0, .ref mm), (1, .int 0)]) C hI hS (c_J11_charAt l hB G n (gk D 125) (gk D 225) 3422866 0 (([111, 117, 116, 32] : List Nat).length) (fun i => nI (([111, 117, 116, 32] : List Nat).getD i 0)) 0 111 0 c3071 c3072 nl0 (by decide) (by decide) (chB (q := 111) (by decide)) (by decide)) c3071 rfl rfl q2868 q2158 q2991 q92 q2160 (⟨by decide, by decide, by decide⟩ : gArg _ 1) rfl ⟨by decide, by decide⟩ (by omega) hl rfl (Nat.le_of_ble_eq_true rfl) dX4_isWord_50 (fun v3073 G3074 n3075 H locs hp3076 hI hS => ?_) gKx.no
        obtain ⟨rfl, eG3074, en3075⟩ := hp3076
        refine W.widen (k := 0) (n := 200 * (0)) (by omega) (by omega) ?_
        rw [eG3074, en3075] at hI
        refine lv_aload_n hx hb dX4_isWord_53 rfl (lv_at hl 2 rfl) ?_
        refine g_V (As := []) (rest := [.int (nI 111)]) (lv := [(3, .int 1), (2, .int (-1)), (0, .ref mm), (1, .int 0)]) C hI hS (c_X4_here l hB G n mm ag ab ah ch asv hs aas ain ty er awy ir ali ln th pl wr ato tc tn p0 c0_ c1_ hty (by omega) hpl (by omega)) c0_ rfl rfl q2869 q2871 qs63 q94 q2872 (⟨by decide, by decide, by decide⟩ : gArg _ 0) rfl ⟨by decide, by decide⟩ (by omega) hl rfl (Nat.le_of_ble_eq_true rfl) dX4_isWord_54 (fun v3079 G3080 n3081 H locs hp3082 hI hS => ?_) gKx.no
        obtain ⟨rfl, eG3080, en3081⟩ := hp3082
        refine W.widen (k := 0) (n := 200 * (0)) (by omega) (by omega) ?_
        rw [eG3080, en3081] at hI
        refine lv_icmp_ne (tgt := 80) hx hb dX4_isWord_57 (by decide) (fun c_3085 => ?_) (fun c_3085 => ?_)
        · skip
          refine lv_iconst (v := 0) hx hb dX4_isWord_80 (by decide) ?_
          exact g_zret C hI hS (by omega) rfl ⟨(by simp [sIsW, wL, c_3061, hnx, c_3063, c_3064, c_3085]), rfl, rfl⟩ dX4_isWord_81
        · skip
          refine lv_iload_n hx hb dX4_isWord_60 rfl (lv_at hl 0 rfl) ?_
          refine lv_if_ne (tgt := 76) hx hb dX4_isWord_61 (by decide) (fun c_3086 => ?_) (fun c_3086 => ?_)
          · skip
            refine lv_iconst (v := 1) hx hb dX4_isWord_76 (by decide) ?_
            refine lv_goto (tgt := 81) hx hb dX4_isWord_77 (by decide) ?_
            exact g_zret C hI hS (by omega) rfl ⟨(by simp [sIsW, wL, c_3061, hnx, c_3063, c_3064, c_3085, c_3086]), rfl, rfl⟩ dX4_isWord_81
          · exact absurd c_3086 (by decide)
  · skip
    try have k_3087 : ¬ (tn ≤ (p0 + 1)) := (not_congr (nI_leE hty (gadd hpl nl1) (by omega) (by omega))).mp c_3061
    have hnx : sHere tc tn (p0 + 1) = nI (tc (p0 + 1)) := by unfold sHere; rw [if_neg (by omega)]
    refine lv_aload_n hx hb dX4_isWord_13 rfl (lv_at hl 0 rfl) ?_
    refine g_get C hI c0_ kc23 7 rfl q2574 (fun _ h9 => h9) dX4_isWord_14 ?_
    refine lv_aload_n hx hb dX4_isWord_17 rfl (lv_at hl 0 rfl) ?_
    refine g_get C hI c0_ kc23 15 rfl q2582 (fun _ h9 => h9) dX4_isWord_18 ?_
    refine lv_iconst (v := 1) hx hb dX4_isWord_21 (by decide) ?_
    refine lv_iadd hx hb dX4_isWord_22 ?_
    refine g_cald (v := .int (nI (tc (p0 + 1)))) C hI c1_ (gix (gadd hpl nl1) (by omega) (by omega)) (congrArg Value.int (gixv (f := fun k => nI (tc k)) (gadd hpl nl1) (by omega))) dX4_isWord_23 ?_
    refine lv_goto (tgt := 28) hx hb dX4_isWord_24 (by decide) ?_
    refine lv_istore_n (lv' := [(2, .int (nI (tc (p0 + 1)))), (0, .ref mm), (1, .int 0)]) hx hb dX4_isWord_28 rfl hl (by decide) rfl (fun ls hl => ?_)
    refine lv_iload_n hx hb dX4_isWord_29 rfl (lv_at hl 2 rfl) ?_
    refine lv_iconst (v := 1) hx hb dX4_isWord_30 (by decide) ?_
    refine lv_icmp_eq (tgt := 43) hx hb dX4_isWord_31 (by decide) (fun c_3088 => ?_) (fun c_3088 => ?_)
    · exact absurd c_3088 (by decide)
    · skip
      refine lv_iload_n hx hb dX4_isWord_34 rfl (lv_at hl 2 rfl) ?_
      refine lv_iconst (v := 2) hx hb dX4_isWord_35 (by decide) ?_
      refine lv_icmp_eq (tgt := 43) hx hb dX4_isWord_36 (by decide) (fun c_3089 => ?_) (fun c_3089 => ?_)
      · exact absurd c_3089 (by decide)
      · skip
        refine lv_iconst (v := 1) hx hb dX4_isWord_39 (by decide) ?_
        refine lv_goto (tgt := 44) hx hb dX4_isWord_40 (by decide) ?_
        refine lv_istore_n (lv' := [(3, .int 1), (2, .int (nI (tc (p0 + 1)))), (0, .ref mm), (1, .int 0)]) hx hb dX4_isWord_44 rfl hl (by decide) rfl (fun ls hl => ?_)
        refine lv_iload_n hx hb dX4_isWord_45 rfl (lv_at hl 3 rfl) ?_
        refine g_S (As := [.int 0]) (rest := []) (lv := [(3, .int 1), (2, .int (nI (tc (p0 + 1)))), (0, .ref mm), (1, .int 0)]) C hI hS (c_X4_word0 l hB G n   ) q2857 q2858 q94 q2859 (⟨by decide, by decide, by decide⟩ : gArg _ 1) rfl ⟨by decide, by decide⟩ (by omega) hl rfl (Nat.le_of_ble_eq_true rfl) dX4_isWord_46 (fun v3090 G3091 n3092 H locs hp3093 hI hS => ?_) gKx.no
        obtain ⟨rfl, eG3091, en3092⟩ := hp3093
        refine W.widen (k := 0) (n := 200 * (0)) (by omega) (by omega) ?_
        rw [eG3091, en3092] at hI
        have lc3096 : gk D 125 < gz D := (hB.tx (j := 25) rfl).1
        have lc3097 : gk D 225 < gz D := (hB.tx (j := 25) rfl).2.1
        have c3096 : G (gk D 125) = some (.inl (21, [.ref (gk D 225), .int 0, .int 3422866, .int 0])) := hI.bs ⟨lc3096, (hB.tx (j := 25) rfl).2.2.1⟩
        have c3097 : G (gk D 225) = some (aB (([111, 117, 116, 32] : List Nat).length) (fun i => nI (([111, 117, 116, 32] : List Nat).getD i 0))) := hI.bs ⟨lc3097, (hB.tx (j := 25) rfl).2.2.2⟩
        refine lv_iconst (v := 0) hx hb dX4_isWord_49 (by decide) ?_
        refine g_V (As := [.int 0]) (rest := []) (lv := [(3, .int 1), (2, .int (nI (tc (p0 + 1)))), (0, .ref mm), (1, .int 0)]) C hI hS (c_J11_charAt l hB G n (gk D 125) (gk D 225) 3422866 0 (([111, 117, 116, 32] : List Nat).length) (fun i => nI (([111, 117, 116, 32] : List Nat).getD i 0)) 0 111 0 c3096 c3097 nl0 (by decide) (by decide) (chB (q := 111) (by decide)) (by decide)) c3096 rfl rfl q2868 q2158 q2991 q92 q2160 (⟨by decide, by decide, by decide⟩ : gArg _ 1) rfl ⟨by decide, by decide⟩ (by omega) hl rfl (Nat.le_of_ble_eq_true rfl) dX4_isWord_50 (fun v3098 G3099 n3100 H locs hp3101 hI hS => ?_) gKx.no
        obtain ⟨rfl, eG3099, en3100⟩ := hp3101
        refine W.widen (k := 0) (n := 200 * (0)) (by omega) (by omega) ?_
        rw [eG3099, en3100] at hI
        refine lv_aload_n hx hb dX4_isWord_53 rfl (lv_at hl 2 rfl) ?_
        refine g_V (As := []) (rest := [.int (nI 111)]) (lv := [(3, .int 1), (2, .int (nI (tc (p0 + 1)))), (0, .ref mm), (1, .int 0)]) C hI hS (c_X4_here l hB G n mm ag ab ah ch asv hs aas ain ty er awy ir ali ln th pl wr ato tc tn p0 c0_ c1_ hty (by omega) hpl (by omega)) c0_ rfl rfl q2869 q2871 qs63 q94 q2872 (⟨by decide, by decide, by decide⟩ : gArg _ 0) rfl ⟨by decide, by decide⟩ (by omega) hl rfl (Nat.le_of_ble_eq_true rfl) dX4_isWord_54 (fun v3104 G3105 n3106 H locs hp3107 hI hS => ?_) gKx.no
        obtain ⟨rfl, eG3105, en3106⟩ := hp3107
        refine W.widen (k := 0) (n := 200 * (0)) (by omega) (by omega) ?_
        rw [eG3105, en3106] at hI
        refine lv_icmp_ne (tgt := 80) hx hb dX4_isWord_57 (by decide) (fun c_3110 => ?_) (fun c_3110 => ?_)
        · skip
          refine lv_iconst (v := 0) hx hb dX4_isWord_80 (by decide) ?_
          exact g_zret C hI hS (by omega) rfl ⟨(by simp [sIsW, wL, c_3061, hnx, c_3088, c_3089, c_3110]), rfl, rfl⟩ dX4_isWord_81
        · skip
          refine lv_iload_n hx hb dX4_isWord_60 rfl (lv_at hl 0 rfl) ?_
          refine lv_if_ne (tgt := 76) hx hb dX4_isWord_61 (by decide) (fun c_3111 => ?_) (fun c_3111 => ?_)
          · skip
            refine lv_iconst (v := 1) hx hb dX4_isWord_76 (by decide) ?_
            refine lv_goto (tgt := 81) hx hb dX4_isWord_77 (by decide) ?_
            exact g_zret C hI hS (by omega) rfl ⟨(by simp [sIsW, wL, c_3061, hnx, c_3088, c_3089, c_3110, c_3111]), rfl, rfl⟩ dX4_isWord_81
          · exact absurd c_3111 (by decide)
set_option maxHeartbeats 4000000 in
set_option maxRecDepth 100000 in
theorem c_X4_isWord1 (l : Launch) {D : gD} (hB : gBs D) (G : gH) (n : Nat) (mm : Nat) (ag : Nat) (ab : Nat) (ah : Nat) (ch : Int32) (asv : Nat) (hs : Int32) (aas : Nat) (ain : Nat) (ty : Int32) (er : Int32) (awy : Nat) (ir : Int32) (ali : Nat) (ln : Int32) (th : Int32) (pl : Int32) (wr : Int32) (ato : Nat) (tc : Nat → Nat) (tn : Nat) (p0 : Nat) (c0_ : G mm = some (.inl (23, [.ref ag, .ref ab, .ref ah, .int ch, .ref asv, .int hs, .ref aas, .ref ain, .int ty, .int er, .ref awy, .int ir, .ref ali, .int ln, .int th, .int pl, .int wr, .ref ato]))) (c1_ : G ain = some (aC 60 (fun k => nI (tc k)))) (hty : ty = nI tn) (ht60 : tn ≤ 60) (hpl : pl = nI p0) (hp60 : p0 ≤ tn) : gMet l D yX4_isWord (ws_ yX4_isWord cX4_isWord 4 (some FieldType.boolean)) 5 0 G n [.ref mm, .int 1] (fun (v : Option Value) (G1 : gH) (n1 : Nat) => v = some (.int (sIsW tc tn 1 p0)) ∧ G1 = G ∧ n1 = n) gNox := by
  refine g_start (by decide) (Nat.le_of_ble_eq_true rfl) ?_
  intro p e s m below meth c ls C hnm hxt hI hl
  have hx := C.x
  have hb := C.b
  have hS : va_S (gA D) s.heap s.heap [] := va_S.rf
  have hz0 := hI.z
  have lc0_ := hI.lt c0_
  have lc1_ := hI.lt c1_
  have hF : gF G G n gNone := gF.rf _ _ _
  have hl : lv_has ls 4 [(0, .ref mm), (1, .int 1)] := hl
  refine lv_aload_n hx hb dX4_isWord_0 rfl (lv_at hl 0 rfl) ?_
  refine g_get C hI c0_ kc23 15 rfl q2582 (fun _ h9 => h9) dX4_isWord_1 ?_
  refine lv_iconst (v := 1) hx hb dX4_isWord_4 (by decide) ?_
  refine lv_iadd hx hb dX4_isWord_5 ?_
  refine lv_aload_n hx hb dX4_isWord_6 rfl (lv_at hl 0 rfl) ?_
  refine g_get C hI c0_ kc23 8 rfl q2575 (fun _ h9 => h9) dX4_isWord_7 ?_
  refine lv_icmp_ge (tgt := 27) hx hb dX4_isWord_10 (by decide) (fun c_3112 => ?_) (fun c_3112 => ?_)
  · skip
    try have k_3113 : tn ≤ (p0 + 1) := (nI_leE hty (gadd hpl nl1) (by omega) (by omega)).mp c_3112
    have hnx : sHere tc tn (p0 + 1) = -1 := by unfold sHere; rw [if_pos (by omega)]
    refine lv_iconst (v := (-1)) hx hb dX4_isWord_27 (by decide) ?_
    refine lv_istore_n (lv' := [(2, .int (-1)), (0, .ref mm), (1, .int 1)]) hx hb dX4_isWord_28 rfl hl (by decide) rfl (fun ls hl => ?_)
    refine lv_iload_n hx hb dX4_isWord_29 rfl (lv_at hl 2 rfl) ?_
    refine lv_iconst (v := 1) hx hb dX4_isWord_30 (by decide) ?_
    refine lv_icmp_eq (tgt := 43) hx hb dX4_isWord_31 (by decide) (fun c_3114 => ?_) (fun c_3114 => ?_)
    · skip
      refine lv_iconst (v := 0) hx hb dX4_isWord_43 (by decide) ?_
      refine lv_istore_n (lv' := [(3, .int 0), (2, .int (-1)), (0, .ref mm), (1, .int 1)]) hx hb dX4_isWord_44 rfl hl (by decide) rfl (fun ls hl => ?_)
      refine lv_iload_n hx hb dX4_isWord_45 rfl (lv_at hl 3 rfl) ?_
      refine g_S (As := [.int 1]) (rest := []) (lv := [(3, .int 0), (2, .int (-1)), (0, .ref mm), (1, .int 1)]) C hI hS (c_X4_word1 l hB G n   ) q2857 q2858 q94 q2859 (⟨by decide, by decide, by decide⟩ : gArg _ 1) rfl ⟨by decide, by decide⟩ (by omega) hl rfl (Nat.le_of_ble_eq_true rfl) dX4_isWord_46 (fun v3115 G3116 n3117 H locs hp3118 hI hS => ?_) gKx.no
      obtain ⟨rfl, eG3116, en3117⟩ := hp3118
      refine W.widen (k := 0) (n := 200 * (0)) (by omega) (by omega) ?_
      rw [eG3116, en3117] at hI
      have lc3121 : gk D 126 < gz D := (hB.tx (j := 26) rfl).1
      have lc3122 : gk D 226 < gz D := (hB.tx (j := 26) rfl).2.1
      have c3121 : G (gk D 126) = some (.inl (21, [.ref (gk D 226), .int 0, .int 99460897, .int 0])) := hI.bs ⟨lc3121, (hB.tx (j := 26) rfl).2.2.1⟩
      have c3122 : G (gk D 226) = some (aB (([104, 111, 109, 101, 32] : List Nat).length) (fun i => nI (([104, 111, 109, 101, 32] : List Nat).getD i 0))) := hI.bs ⟨lc3122, (hB.tx (j := 26) rfl).2.2.2⟩
      refine lv_iconst (v := 0) hx hb dX4_isWord_49 (by decide) ?_
      refine g_V (As := [.int 0]) (rest := []) (lv := [(3, .int 0), (2, .int (-1)), (0, .ref mm), (1, .int 1)]) C hI hS (c_J11_charAt l hB G n (gk D 126) (gk D 226) 99460897 0 (([104, 111, 109, 101, 32] : List Nat).length) (fun i => nI (([104, 111, 109, 101, 32] : List Nat).getD i 0)) 0 104 0 c3121 c3122 nl0 (by decide) (by decide) (chB (q := 104) (by decide)) (by decide)) c3121 rfl rfl q2868 q2158 q2991 q92 q2160 (⟨by decide, by decide, by decide⟩ : gArg _ 1) rfl ⟨by decide, by decide⟩ (by omega) hl rfl (Nat.le_of_ble_eq_true rfl) dX4_isWord_50 (fun v3123 G3124 n3125 H locs hp3126 hI hS => ?_) gKx.no
      obtain ⟨rfl, eG3124, en3125⟩ := hp3126
      refine W.widen (k := 0) (n := 200 * (0)) (by omega) (by omega) ?_
      rw [eG3124, en3125] at hI
      refine lv_aload_n hx hb dX4_isWord_53 rfl (lv_at hl 2 rfl) ?_
      refine g_V (As := []) (rest := [.int (nI 104)]) (lv := [(3, .int 0), (2, .int (-1)), (0, .ref mm), (1, .int 1)]) C hI hS (c_X4_here l hB G n mm ag ab ah ch asv hs aas ain ty er awy ir ali ln th pl wr ato tc tn p0 c0_ c1_ hty (by omega) hpl (by omega)) c0_ rfl rfl q2869 q2871 qs63 q94 q2872 (⟨by decide, by decide, by decide⟩ : gArg _ 0) rfl ⟨by decide, by decide⟩ (by omega) hl rfl (Nat.le_of_ble_eq_true rfl) dX4_isWord_54 (fun v3129 G3130 n3131 H locs hp3132 hI hS => ?_) gKx.no
      obtain ⟨rfl, eG3130, en3131⟩ := hp3132
      refine W.widen (k := 0) (n := 200 * (0)) (by omega) (by omega) ?_
      rw [eG3130, en3131] at hI
      refine lv_icmp_ne (tgt := 80) hx hb dX4_isWord_57 (by decide) (fun c_3135 => ?_) (fun c_3135 => ?_)
      · skip
        refine lv_iconst (v := 0) hx hb dX4_isWord_80 (by decide) ?_
        exact g_zret C hI hS (by omega) rfl ⟨(by simp [sIsW, wL, c_3112, hnx, c_3114, c_3135]), rfl, rfl⟩ dX4_isWord_81
      · skip
        refine lv_iload_n hx hb dX4_isWord_60 rfl (lv_at hl 0 rfl) ?_
        refine lv_if_ne (tgt := 76) hx hb dX4_isWord_61 (by decide) (fun c_3136 => ?_) (fun c_3136 => ?_)
        · exact absurd (by decide) c_3136
        · skip
          refine lv_iload_n hx hb dX4_isWord_64 rfl (lv_at hl 3 rfl) ?_
          refine g_S (As := [.int 1]) (rest := []) (lv := [(3, .int 0), (2, .int (-1)), (0, .ref mm), (1, .int 1)]) C hI hS (c_X4_word1 l hB G n   ) q2857 q2858 q94 q2859 (⟨by decide, by decide, by decide⟩ : gArg _ 1) rfl ⟨by decide, by decide⟩ (by omega) hl rfl (Nat.le_of_ble_eq_true rfl) dX4_isWord_65 (fun v3137 G3138 n3139 H locs hp3140 hI hS => ?_) gKx.no
          obtain ⟨rfl, eG3138, en3139⟩ := hp3140
          refine W.widen (k := 0) (n := 200 * (0)) (by omega) (by omega) ?_
          rw [eG3138, en3139] at hI
          refine lv_iconst (v := 1) hx hb dX4_isWord_68 (by decide) ?_
          refine g_V (As := [.int 1]) (rest := []) (lv := [(3, .int 0), (2, .int (-1)), (0, .ref mm), (1, .int 1)]) C hI hS (c_J11_charAt l hB G n (gk D 126) (gk D 226) 99460897 0 (([104, 111, 109, 101, 32] : List Nat).length) (fun i => nI (([104, 111, 109, 101, 32] : List Nat).getD i 0)) 1 111 1 c3121 c3122 nl1 (by decide) (by decide) (chB (q := 111) (by decide)) (by decide)) c3121 rfl rfl q2868 q2158 q2991 q92 q2160 (⟨by decide, by decide, by decide⟩ : gArg _ 1) rfl ⟨by decide, by decide⟩ (by omega) hl rfl (Nat.le_of_ble_eq_true rfl) dX4_isWord_69 (fun v3143 G3144 n3145 H locs hp3146 hI hS => ?_) gKx.no
          obtain ⟨rfl, eG3144, en3145⟩ := hp3146
          refine W.widen (k := 0) (n := 200 * (0)) (by omega) (by omega) ?_
          rw [eG3144, en3145] at hI
          refine lv_iload_n hx hb dX4_isWord_72 rfl (lv_at hl 1 rfl) ?_
          refine lv_icmp_ne (tgt := 80) hx hb dX4_isWord_73 (by decide) (fun c_3149 => ?_) (fun c_3149 => ?_)
          · skip
            refine lv_iconst (v := 0) hx hb dX4_isWord_80 (by decide) ?_
            exact g_zret C hI hS (by omega) rfl ⟨(by simp [sIsW, wL, c_3112, hnx, c_3114, c_3135, c_3136, c_3149]), rfl, rfl⟩ dX4_isWord_81
          · skip
            refine lv_iconst (v := 1) hx hb dX4_isWord_76 (by decide) ?_
            refine lv_goto (tgt := 81) hx hb dX4_isWord_77 (by decide) ?_
            exact g_zret C hI hS (by omega) rfl ⟨(by simp [sIsW, wL, c_3112, hnx, c_3114, c_3135, c_3136, c_3149]), rfl, rfl⟩ dX4_isWord_81
    · exact absurd (by decide) c_3114
  · skip
    try have k_3150 : ¬ (tn ≤ (p0 + 1)) := (not_congr (nI_leE hty (gadd hpl nl1) (by omega) (by omega))).mp c_3112
    have hnx : sHere tc tn (p0 + 1) = nI (tc (p0 + 1)) := by unfold sHere; rw [if_neg (by omega)]
    refine lv_aload_n hx hb dX4_isWord_13 rfl (lv_at hl 0 rfl) ?_
    refine g_get C hI c0_ kc23 7 rfl q2574 (fun _ h9 => h9) dX4_isWord_14 ?_
    refine lv_aload_n hx hb dX4_isWord_17 rfl (lv_at hl 0 rfl) ?_
    refine g_get C hI c0_ kc23 15 rfl q2582 (fun _ h9 => h9) dX4_isWord_18 ?_
    refine lv_iconst (v := 1) hx hb dX4_isWord_21 (by decide) ?_
    refine lv_iadd hx hb dX4_isWord_22 ?_
    refine g_cald (v := .int (nI (tc (p0 + 1)))) C hI c1_ (gix (gadd hpl nl1) (by omega) (by omega)) (congrArg Value.int (gixv (f := fun k => nI (tc k)) (gadd hpl nl1) (by omega))) dX4_isWord_23 ?_
    refine lv_goto (tgt := 28) hx hb dX4_isWord_24 (by decide) ?_
    refine lv_istore_n (lv' := [(2, .int (nI (tc (p0 + 1)))), (0, .ref mm), (1, .int 1)]) hx hb dX4_isWord_28 rfl hl (by decide) rfl (fun ls hl => ?_)
    refine lv_iload_n hx hb dX4_isWord_29 rfl (lv_at hl 2 rfl) ?_
    refine lv_iconst (v := 1) hx hb dX4_isWord_30 (by decide) ?_
    refine lv_icmp_eq (tgt := 43) hx hb dX4_isWord_31 (by decide) (fun c_3151 => ?_) (fun c_3151 => ?_)
    · skip
      refine lv_iconst (v := 0) hx hb dX4_isWord_43 (by decide) ?_
      refine lv_istore_n (lv' := [(3, .int 0), (2, .int (nI (tc (p0 + 1)))), (0, .ref mm), (1, .int 1)]) hx hb dX4_isWord_44 rfl hl (by decide) rfl (fun ls hl => ?_)
      refine lv_iload_n hx hb dX4_isWord_45 rfl (lv_at hl 3 rfl) ?_
      refine g_S (As := [.int 1]) (rest := []) (lv := [(3, .int 0), (2, .int (nI (tc (p0 + 1)))), (0, .ref mm), (1, .int 1)]) C hI hS (c_X4_word1 l hB G n   ) q2857 q2858 q94 q2859 (⟨by decide, by decide, by decide⟩ : gArg _ 1) rfl ⟨by decide, by decide⟩ (by omega) hl rfl (Nat.le_of_ble_eq_true rfl) dX4_isWord_46 (fun v3152 G3153 n3154 H locs hp3155 hI hS => ?_) gKx.no
      obtain ⟨rfl, eG3153, en3154⟩ := hp3155
      refine W.widen (k := 0) (n := 200 * (0)) (by omega) (by omega) ?_
      rw [eG3153, en3154] at hI
      have lc3158 : gk D 126 < gz D := (hB.tx (j := 26) rfl).1
      have lc3159 : gk D 226 < gz D := (hB.tx (j := 26) rfl).2.1
      have c3158 : G (gk D 126) = some (.inl (21, [.ref (gk D 226), .int 0, .int 99460897, .int 0])) := hI.bs ⟨lc3158, (hB.tx (j := 26) rfl).2.2.1⟩
      have c3159 : G (gk D 226) = some (aB (([104, 111, 109, 101, 32] : List Nat).length) (fun i => nI (([104, 111, 109, 101, 32] : List Nat).getD i 0))) := hI.bs ⟨lc3159, (hB.tx (j := 26) rfl).2.2.2⟩
      refine lv_iconst (v := 0) hx hb dX4_isWord_49 (by decide) ?_
      refine g_V (As := [.int 0]) (rest := []) (lv := [(3, .int 0), (2, .int (nI (tc (p0 + 1)))), (0, .ref mm), (1, .int 1)]) C hI hS (c_J11_charAt l hB G n (gk D 126) (gk D 226) 99460897 0 (([104, 111, 109, 101, 32] : List Nat).length) (fun i => nI (([104, 111, 109, 101, 32] : List Nat).getD i 0)) 0 104 0 c3158 c3159 nl0 (by decide) (by decide) (chB (q := 104) (by decide)) (by decide)) c3158 rfl rfl q2868 q2158 q2991 q92 q2160 (⟨by decide, by decide, by decide⟩ : gArg _ 1) rfl ⟨by decide, by decide⟩ (by omega) hl rfl (Nat.le_of_ble_eq_true rfl) dX4_isWord_50 (fun v3160 G3161 n3162 H locs hp3163 hI hS => ?_) gKx.no
      obtain ⟨rfl, eG3161, en3162⟩ := hp3163
      refine W.widen (k := 0) (n := 200 * (0)) (by omega) (by omega) ?_
      rw [eG3161, en3162] at hI
      refine lv_aload_n hx hb dX4_isWord_53 rfl (lv_at hl 2 rfl) ?_
      refine g_V (As := []) (rest := [.int (nI 104)]) (lv := [(3, .int 0), (2, .int (nI (tc (p0 + 1)))), (0, .ref mm), (1, .int 1)]) C hI hS (c_X4_here l hB G n mm ag ab ah ch asv hs aas ain ty er awy ir ali ln th pl wr ato tc tn p0 c0_ c1_ hty (by omega) hpl (by omega)) c0_ rfl rfl q2869 q2871 qs63 q94 q2872 (⟨by decide, by decide, by decide⟩ : gArg _ 0) rfl ⟨by decide, by decide⟩ (by omega) hl rfl (Nat.le_of_ble_eq_true rfl) dX4_isWord_54 (fun v3166 G3167 n3168 H locs hp3169 hI hS => ?_) gKx.no
      obtain ⟨rfl, eG3167, en3168⟩ := hp3169
      refine W.widen (k := 0) (n := 200 * (0)) (by omega) (by omega) ?_
      rw [eG3167, en3168] at hI
      refine lv_icmp_ne (tgt := 80) hx hb dX4_isWord_57 (by decide) (fun c_3172 => ?_) (fun c_3172 => ?_)
      · skip
        refine lv_iconst (v := 0) hx hb dX4_isWord_80 (by decide) ?_
        exact g_zret C hI hS (by omega) rfl ⟨(by simp [sIsW, wL, c_3112, hnx, c_3151, c_3172]), rfl, rfl⟩ dX4_isWord_81
      · skip
        refine lv_iload_n hx hb dX4_isWord_60 rfl (lv_at hl 0 rfl) ?_
        refine lv_if_ne (tgt := 76) hx hb dX4_isWord_61 (by decide) (fun c_3173 => ?_) (fun c_3173 => ?_)
        · exact absurd (by decide) c_3173
        · skip
          refine lv_iload_n hx hb dX4_isWord_64 rfl (lv_at hl 3 rfl) ?_
          refine g_S (As := [.int 1]) (rest := []) (lv := [(3, .int 0), (2, .int (nI (tc (p0 + 1)))), (0, .ref mm), (1, .int 1)]) C hI hS (c_X4_word1 l hB G n   ) q2857 q2858 q94 q2859 (⟨by decide, by decide, by decide⟩ : gArg _ 1) rfl ⟨by decide, by decide⟩ (by omega) hl rfl (Nat.le_of_ble_eq_true rfl) dX4_isWord_65 (fun v3174 G3175 n3176 H locs hp3177 hI hS => ?_) gKx.no
          obtain ⟨rfl, eG3175, en3176⟩ := hp3177
          refine W.widen (k := 0) (n := 200 * (0)) (by omega) (by omega) ?_
          rw [eG3175, en3176] at hI
          refine lv_iconst (v := 1) hx hb dX4_isWord_68 (by decide) ?_
          refine g_V (As := [.int 1]) (rest := []) (lv := [(3, .int 0), (2, .int (nI (tc (p0 + 1)))), (0, .ref mm), (1, .int 1)]) C hI hS (c_J11_charAt l hB G n (gk D 126) (gk D 226) 99460897 0 (([104, 111, 109, 101, 32] : List Nat).length) (fun i => nI (([104, 111, 109, 101, 32] : List Nat).getD i 0)) 1 111 1 c3158 c3159 nl1 (by decide) (by decide) (chB (q := 111) (by decide)) (by decide)) c3158 rfl rfl q2868 q2158 q2991 q92 q2160 (⟨by decide, by decide, by decide⟩ : gArg _ 1) rfl ⟨by decide, by decide⟩ (by omega) hl rfl (Nat.le_of_ble_eq_true rfl) dX4_isWord_69 (fun v3180 G3181 n3182 H locs hp3183 hI hS => ?_) gKx.no
          obtain ⟨rfl, eG3181, en3182⟩ := hp3183
          refine W.widen (k := 0) (n := 200 * (0)) (by omega) (by omega) ?_
          rw [eG3181, en3182] at hI
          refine lv_iload_n hx hb dX4_isWord_72 rfl (lv_at hl 1 rfl) ?_
          refine lv_icmp_ne (tgt := 80) hx hb dX4_isWord_73 (by decide) (fun c_3186 => ?_) (fun c_3186 => ?_)
          · skip
            try have k_3187 : ¬ (111 = (tc (p0 + 1))) := (not_congr (nI_eqE rfl rfl (by omega) (by omega))).mp c_3186
            refine lv_iconst (v := 0) hx hb dX4_isWord_80 (by decide) ?_
            exact g_zret C hI hS (by omega) rfl ⟨(by simp [sIsW, wL, c_3112, hnx, c_3151, c_3172, c_3173, c_3186]), rfl, rfl⟩ dX4_isWord_81
          · skip
            try have k_3188 : 111 = (tc (p0 + 1)) := (nI_eqE rfl rfl (by omega) (by omega)).mp c_3186
            refine lv_iconst (v := 1) hx hb dX4_isWord_76 (by decide) ?_
            refine lv_goto (tgt := 81) hx hb dX4_isWord_77 (by decide) ?_
            exact g_zret C hI hS (by omega) rfl ⟨(by simp [sIsW, wL, c_3112, hnx, c_3151, c_3172, c_3173, c_3186]), rfl, rfl⟩ dX4_isWord_81
    · exact absurd (by decide) c_3151
set_option maxHeartbeats 4000000 in
set_option maxRecDepth 100000 in
theorem c_X4_isWord2 (l : Launch) {D : gD} (hB : gBs D) (G : gH) (n : Nat) (mm : Nat) (ag : Nat) (ab : Nat) (ah : Nat) (ch : Int32) (asv : Nat) (hs : Int32) (aas : Nat) (ain : Nat) (ty : Int32) (er : Int32) (awy : Nat) (ir : Int32) (ali : Nat) (ln : Int32) (th : Int32) (pl : Int32) (wr : Int32) (ato : Nat) (tc : Nat → Nat) (tn : Nat) (p0 : Nat) (c0_ : G mm = some (.inl (23, [.ref ag, .ref ab, .ref ah, .int ch, .ref asv, .int hs, .ref aas, .ref ain, .int ty, .int er, .ref awy, .int ir, .ref ali, .int ln, .int th, .int pl, .int wr, .ref ato]))) (c1_ : G ain = some (aC 60 (fun k => nI (tc k)))) (hty : ty = nI tn) (ht60 : tn ≤ 60) (hpl : pl = nI p0) (hp60 : p0 ≤ tn) : gMet l D yX4_isWord (ws_ yX4_isWord cX4_isWord 4 (some FieldType.boolean)) 5 0 G n [.ref mm, .int 2] (fun (v : Option Value) (G1 : gH) (n1 : Nat) => v = some (.int (sIsW tc tn 2 p0)) ∧ G1 = G ∧ n1 = n) gNox := by
  refine g_start (by decide) (Nat.le_of_ble_eq_true rfl) ?_
  intro p e s m below meth c ls C hnm hxt hI hl
  have hx := C.x
  have hb := C.b
  have hS : va_S (gA D) s.heap s.heap [] := va_S.rf
  have hz0 := hI.z
  have lc0_ := hI.lt c0_
  have lc1_ := hI.lt c1_
  have hF : gF G G n gNone := gF.rf _ _ _
  have hl : lv_has ls 4 [(0, .ref mm), (1, .int 2)] := hl
  refine lv_aload_n hx hb dX4_isWord_0 rfl (lv_at hl 0 rfl) ?_
  refine g_get C hI c0_ kc23 15 rfl q2582 (fun _ h9 => h9) dX4_isWord_1 ?_
  refine lv_iconst (v := 1) hx hb dX4_isWord_4 (by decide) ?_
  refine lv_iadd hx hb dX4_isWord_5 ?_
  refine lv_aload_n hx hb dX4_isWord_6 rfl (lv_at hl 0 rfl) ?_
  refine g_get C hI c0_ kc23 8 rfl q2575 (fun _ h9 => h9) dX4_isWord_7 ?_
  refine lv_icmp_ge (tgt := 27) hx hb dX4_isWord_10 (by decide) (fun c_3189 => ?_) (fun c_3189 => ?_)
  · skip
    try have k_3190 : tn ≤ (p0 + 1) := (nI_leE hty (gadd hpl nl1) (by omega) (by omega)).mp c_3189
    have hnx : sHere tc tn (p0 + 1) = -1 := by unfold sHere; rw [if_pos (by omega)]
    refine lv_iconst (v := (-1)) hx hb dX4_isWord_27 (by decide) ?_
    refine lv_istore_n (lv' := [(2, .int (-1)), (0, .ref mm), (1, .int 2)]) hx hb dX4_isWord_28 rfl hl (by decide) rfl (fun ls hl => ?_)
    refine lv_iload_n hx hb dX4_isWord_29 rfl (lv_at hl 2 rfl) ?_
    refine lv_iconst (v := 1) hx hb dX4_isWord_30 (by decide) ?_
    refine lv_icmp_eq (tgt := 43) hx hb dX4_isWord_31 (by decide) (fun c_3191 => ?_) (fun c_3191 => ?_)
    · exact absurd c_3191 (by decide)
    · skip
      refine lv_iload_n hx hb dX4_isWord_34 rfl (lv_at hl 2 rfl) ?_
      refine lv_iconst (v := 2) hx hb dX4_isWord_35 (by decide) ?_
      refine lv_icmp_eq (tgt := 43) hx hb dX4_isWord_36 (by decide) (fun c_3192 => ?_) (fun c_3192 => ?_)
      · skip
        refine lv_iconst (v := 0) hx hb dX4_isWord_43 (by decide) ?_
        refine lv_istore_n (lv' := [(3, .int 0), (2, .int (-1)), (0, .ref mm), (1, .int 2)]) hx hb dX4_isWord_44 rfl hl (by decide) rfl (fun ls hl => ?_)
        refine lv_iload_n hx hb dX4_isWord_45 rfl (lv_at hl 3 rfl) ?_
        refine g_S (As := [.int 2]) (rest := []) (lv := [(3, .int 0), (2, .int (-1)), (0, .ref mm), (1, .int 2)]) C hI hS (c_X4_word2 l hB G n   ) q2857 q2858 q94 q2859 (⟨by decide, by decide, by decide⟩ : gArg _ 1) rfl ⟨by decide, by decide⟩ (by omega) hl rfl (Nat.le_of_ble_eq_true rfl) dX4_isWord_46 (fun v3193 G3194 n3195 H locs hp3196 hI hS => ?_) gKx.no
        obtain ⟨rfl, eG3194, en3195⟩ := hp3196
        refine W.widen (k := 0) (n := 200 * (0)) (by omega) (by omega) ?_
        rw [eG3194, en3195] at hI
        have lc3199 : gk D 127 < gz D := (hB.tx (j := 27) rfl).1
        have lc3200 : gk D 227 < gz D := (hB.tx (j := 27) rfl).2.1
        have c3199 : G (gk D 127) = some (.inl (21, [.ref (gk D 227), .int 0, .int (-903151647), .int 0])) := hI.bs ⟨lc3199, (hB.tx (j := 27) rfl).2.2.1⟩
        have c3200 : G (gk D 227) = some (aB (([115, 104, 111, 111, 116, 32] : List Nat).length) (fun i => nI (([115, 104, 111, 111, 116, 32] : List Nat).getD i 0))) := hI.bs ⟨lc3200, (hB.tx (j := 27) rfl).2.2.2⟩
        refine lv_iconst (v := 0) hx hb dX4_isWord_49 (by decide) ?_
        refine g_V (As := [.int 0]) (rest := []) (lv := [(3, .int 0), (2, .int (-1)), (0, .ref mm), (1, .int 2)]) C hI hS (c_J11_charAt l hB G n (gk D 127) (gk D 227) (-903151647) 0 (([115, 104, 111, 111, 116, 32] : List Nat).length) (fun i => nI (([115, 104, 111, 111, 116, 32] : List Nat).getD i 0)) 0 115 0 c3199 c3200 nl0 (by decide) (by decide) (chB (q := 115) (by decide)) (by decide)) c3199 rfl rfl q2868 q2158 q2991 q92 q2160 (⟨by decide, by decide, by decide⟩ : gArg _ 1) rfl ⟨by decide, by decide⟩ (by omega) hl rfl (Nat.le_of_ble_eq_true rfl) dX4_isWord_50 (fun v3201 G3202 n3203 H locs hp3204 hI hS => ?_) gKx.no
        obtain ⟨rfl, eG3202, en3203⟩ := hp3204
        refine W.widen (k := 0) (n := 200 * (0)) (by omega) (by omega) ?_
        rw [eG3202, en3203] at hI
        refine lv_aload_n hx hb dX4_isWord_53 rfl (lv_at hl 2 rfl) ?_
        refine g_V (As := []) (rest := [.int (nI 115)]) (lv := [(3, .int 0), (2, .int (-1)), (0, .ref mm), (1, .int 2)]) C hI hS (c_X4_here l hB G n mm ag ab ah ch asv hs aas ain ty er awy ir ali ln th pl wr ato tc tn p0 c0_ c1_ hty (by omega) hpl (by omega)) c0_ rfl rfl q2869 q2871 qs63 q94 q2872 (⟨by decide, by decide, by decide⟩ : gArg _ 0) rfl ⟨by decide, by decide⟩ (by omega) hl rfl (Nat.le_of_ble_eq_true rfl) dX4_isWord_54 (fun v3207 G3208 n3209 H locs hp3210 hI hS => ?_) gKx.no
        obtain ⟨rfl, eG3208, en3209⟩ := hp3210
        refine W.widen (k := 0) (n := 200 * (0)) (by omega) (by omega) ?_
        rw [eG3208, en3209] at hI
        refine lv_icmp_ne (tgt := 80) hx hb dX4_isWord_57 (by decide) (fun c_3213 => ?_) (fun c_3213 => ?_)
        · skip
          refine lv_iconst (v := 0) hx hb dX4_isWord_80 (by decide) ?_
          exact g_zret C hI hS (by omega) rfl ⟨(by simp [sIsW, wL, c_3189, hnx, c_3191, c_3192, c_3213]), rfl, rfl⟩ dX4_isWord_81
        · skip
          refine lv_iload_n hx hb dX4_isWord_60 rfl (lv_at hl 0 rfl) ?_
          refine lv_if_ne (tgt := 76) hx hb dX4_isWord_61 (by decide) (fun c_3214 => ?_) (fun c_3214 => ?_)
          · exact absurd (by decide) c_3214
          · skip
            refine lv_iload_n hx hb dX4_isWord_64 rfl (lv_at hl 3 rfl) ?_
            refine g_S (As := [.int 2]) (rest := []) (lv := [(3, .int 0), (2, .int (-1)), (0, .ref mm), (1, .int 2)]) C hI hS (c_X4_word2 l hB G n   ) q2857 q2858 q94 q2859 (⟨by decide, by decide, by decide⟩ : gArg _ 1) rfl ⟨by decide, by decide⟩ (by omega) hl rfl (Nat.le_of_ble_eq_true rfl) dX4_isWord_65 (fun v3215 G3216 n3217 H locs hp3218 hI hS => ?_) gKx.no
            obtain ⟨rfl, eG3216, en3217⟩ := hp3218
            refine W.widen (k := 0) (n := 200 * (0)) (by omega) (by omega) ?_
            rw [eG3216, en3217] at hI
            refine lv_iconst (v := 1) hx hb dX4_isWord_68 (by decide) ?_
            refine g_V (As := [.int 1]) (rest := []) (lv := [(3, .int 0), (2, .int (-1)), (0, .ref mm), (1, .int 2)]) C hI hS (c_J11_charAt l hB G n (gk D 127) (gk D 227) (-903151647) 0 (([115, 104, 111, 111, 116, 32] : List Nat).length) (fun i => nI (([115, 104, 111, 111, 116, 32] : List Nat).getD i 0)) 1 104 1 c3199 c3200 nl1 (by decide) (by decide) (chB (q := 104) (by decide)) (by decide)) c3199 rfl rfl q2868 q2158 q2991 q92 q2160 (⟨by decide, by decide, by decide⟩ : gArg _ 1) rfl ⟨by decide, by decide⟩ (by omega) hl rfl (Nat.le_of_ble_eq_true rfl) dX4_isWord_69 (fun v3221 G3222 n3223 H locs hp3224 hI hS => ?_) gKx.no
            obtain ⟨rfl, eG3222, en3223⟩ := hp3224
            refine W.widen (k := 0) (n := 200 * (0)) (by omega) (by omega) ?_
            rw [eG3222, en3223] at hI
            refine lv_iload_n hx hb dX4_isWord_72 rfl (lv_at hl 1 rfl) ?_
            refine lv_icmp_ne (tgt := 80) hx hb dX4_isWord_73 (by decide) (fun c_3227 => ?_) (fun c_3227 => ?_)
            · skip
              refine lv_iconst (v := 0) hx hb dX4_isWord_80 (by decide) ?_
              exact g_zret C hI hS (by omega) rfl ⟨(by simp [sIsW, wL, c_3189, hnx, c_3191, c_3192, c_3213, c_3214, c_3227]), rfl, rfl⟩ dX4_isWord_81
            · skip
              refine lv_iconst (v := 1) hx hb dX4_isWord_76 (by decide) ?_
              refine lv_goto (tgt := 81) hx hb dX4_isWord_77 (by decide) ?_
              exact g_zret C hI hS (by omega) rfl ⟨(by simp [sIsW, wL, c_3189, hnx, c_3191, c_3192, c_3213, c_3214, c_3227]), rfl, rfl⟩ dX4_isWord_81
      · exact absurd (by decide) c_3192
  · skip
    try have k_3228 : ¬ (tn ≤ (p0 + 1)) := (not_congr (nI_leE hty (gadd hpl nl1) (by omega) (by omega))).mp c_3189
    have hnx : sHere tc tn (p0 + 1) = nI (tc (p0 + 1)) := by unfold sHere; rw [if_neg (by omega)]
    refine lv_aload_n hx hb dX4_isWord_13 rfl (lv_at hl 0 rfl) ?_
    refine g_get C hI c0_ kc23 7 rfl q2574 (fun _ h9 => h9) dX4_isWord_14 ?_
    refine lv_aload_n hx hb dX4_isWord_17 rfl (lv_at hl 0 rfl) ?_
    refine g_get C hI c0_ kc23 15 rfl q2582 (fun _ h9 => h9) dX4_isWord_18 ?_
    refine lv_iconst (v := 1) hx hb dX4_isWord_21 (by decide) ?_
    refine lv_iadd hx hb dX4_isWord_22 ?_
    refine g_cald (v := .int (nI (tc (p0 + 1)))) C hI c1_ (gix (gadd hpl nl1) (by omega) (by omega)) (congrArg Value.int (gixv (f := fun k => nI (tc k)) (gadd hpl nl1) (by omega))) dX4_isWord_23 ?_
    refine lv_goto (tgt := 28) hx hb dX4_isWord_24 (by decide) ?_
    refine lv_istore_n (lv' := [(2, .int (nI (tc (p0 + 1)))), (0, .ref mm), (1, .int 2)]) hx hb dX4_isWord_28 rfl hl (by decide) rfl (fun ls hl => ?_)
    refine lv_iload_n hx hb dX4_isWord_29 rfl (lv_at hl 2 rfl) ?_
    refine lv_iconst (v := 1) hx hb dX4_isWord_30 (by decide) ?_
    refine lv_icmp_eq (tgt := 43) hx hb dX4_isWord_31 (by decide) (fun c_3229 => ?_) (fun c_3229 => ?_)
    · exact absurd c_3229 (by decide)
    · skip
      refine lv_iload_n hx hb dX4_isWord_34 rfl (lv_at hl 2 rfl) ?_
      refine lv_iconst (v := 2) hx hb dX4_isWord_35 (by decide) ?_
      refine lv_icmp_eq (tgt := 43) hx hb dX4_isWord_36 (by decide) (fun c_3230 => ?_) (fun c_3230 => ?_)
      · skip
        refine lv_iconst (v := 0) hx hb dX4_isWord_43 (by decide) ?_
        refine lv_istore_n (lv' := [(3, .int 0), (2, .int (nI (tc (p0 + 1)))), (0, .ref mm), (1, .int 2)]) hx hb dX4_isWord_44 rfl hl (by decide) rfl (fun ls hl => ?_)
        refine lv_iload_n hx hb dX4_isWord_45 rfl (lv_at hl 3 rfl) ?_
        refine g_S (As := [.int 2]) (rest := []) (lv := [(3, .int 0), (2, .int (nI (tc (p0 + 1)))), (0, .ref mm), (1, .int 2)]) C hI hS (c_X4_word2 l hB G n   ) q2857 q2858 q94 q2859 (⟨by decide, by decide, by decide⟩ : gArg _ 1) rfl ⟨by decide, by decide⟩ (by omega) hl rfl (Nat.le_of_ble_eq_true rfl) dX4_isWord_46 (fun v3231 G3232 n3233 H locs hp3234 hI hS => ?_) gKx.no
        obtain ⟨rfl, eG3232, en3233⟩ := hp3234
        refine W.widen (k := 0) (n := 200 * (0)) (by omega) (by omega) ?_
        rw [eG3232, en3233] at hI
        have lc3237 : gk D 127 < gz D := (hB.tx (j := 27) rfl).1
        have lc3238 : gk D 227 < gz D := (hB.tx (j := 27) rfl).2.1
        have c3237 : G (gk D 127) = some (.inl (21, [.ref (gk D 227), .int 0, .int (-903151647), .int 0])) := hI.bs ⟨lc3237, (hB.tx (j := 27) rfl).2.2.1⟩
        have c3238 : G (gk D 227) = some (aB (([115, 104, 111, 111, 116, 32] : List Nat).length) (fun i => nI (([115, 104, 111, 111, 116, 32] : List Nat).getD i 0))) := hI.bs ⟨lc3238, (hB.tx (j := 27) rfl).2.2.2⟩
        refine lv_iconst (v := 0) hx hb dX4_isWord_49 (by decide) ?_
        refine g_V (As := [.int 0]) (rest := []) (lv := [(3, .int 0), (2, .int (nI (tc (p0 + 1)))), (0, .ref mm), (1, .int 2)]) C hI hS (c_J11_charAt l hB G n (gk D 127) (gk D 227) (-903151647) 0 (([115, 104, 111, 111, 116, 32] : List Nat).length) (fun i => nI (([115, 104, 111, 111, 116, 32] : List Nat).getD i 0)) 0 115 0 c3237 c3238 nl0 (by decide) (by decide) (chB (q := 115) (by decide)) (by decide)) c3237 rfl rfl q2868 q2158 q2991 q92 q2160 (⟨by decide, by decide, by decide⟩ : gArg _ 1) rfl ⟨by decide, by decide⟩ (by omega) hl rfl (Nat.le_of_ble_eq_true rfl) dX4_isWord_50 (fun v3239 G3240 n3241 H locs hp3242 hI hS => ?_) gKx.no
        obtain ⟨rfl, eG3240, en3241⟩ := hp3242
        refine W.widen (k := 0) (n := 200 * (0)) (by omega) (by omega) ?_
        rw [eG3240, en3241] at hI
        refine lv_aload_n hx hb dX4_isWord_53 rfl (lv_at hl 2 rfl) ?_
        refine g_V (As := []) (rest := [.int (nI 115)]) (lv := [(3, .int 0), (2, .int (nI (tc (p0 + 1)))), (0, .ref mm), (1, .int 2)]) C hI hS (c_X4_here l hB G n mm ag ab ah ch asv hs aas ain ty er awy ir ali ln th pl wr ato tc tn p0 c0_ c1_ hty (by omega) hpl (by omega)) c0_ rfl rfl q2869 q2871 qs63 q94 q2872 (⟨by decide, by decide, by decide⟩ : gArg _ 0) rfl ⟨by decide, by decide⟩ (by omega) hl rfl (Nat.le_of_ble_eq_true rfl) dX4_isWord_54 (fun v3245 G3246 n3247 H locs hp3248 hI hS => ?_) gKx.no
        obtain ⟨rfl, eG3246, en3247⟩ := hp3248
        refine W.widen (k := 0) (n := 200 * (0)) (by omega) (by omega) ?_
        rw [eG3246, en3247] at hI
        refine lv_icmp_ne (tgt := 80) hx hb dX4_isWord_57 (by decide) (fun c_3251 => ?_) (fun c_3251 => ?_)
        · skip
          refine lv_iconst (v := 0) hx hb dX4_isWord_80 (by decide) ?_
          exact g_zret C hI hS (by omega) rfl ⟨(by simp [sIsW, wL, c_3189, hnx, c_3229, c_3230, c_3251]), rfl, rfl⟩ dX4_isWord_81
        · skip
          refine lv_iload_n hx hb dX4_isWord_60 rfl (lv_at hl 0 rfl) ?_
          refine lv_if_ne (tgt := 76) hx hb dX4_isWord_61 (by decide) (fun c_3252 => ?_) (fun c_3252 => ?_)
          · exact absurd (by decide) c_3252
          · skip
            refine lv_iload_n hx hb dX4_isWord_64 rfl (lv_at hl 3 rfl) ?_
            refine g_S (As := [.int 2]) (rest := []) (lv := [(3, .int 0), (2, .int (nI (tc (p0 + 1)))), (0, .ref mm), (1, .int 2)]) C hI hS (c_X4_word2 l hB G n   ) q2857 q2858 q94 q2859 (⟨by decide, by decide, by decide⟩ : gArg _ 1) rfl ⟨by decide, by decide⟩ (by omega) hl rfl (Nat.le_of_ble_eq_true rfl) dX4_isWord_65 (fun v3253 G3254 n3255 H locs hp3256 hI hS => ?_) gKx.no
            obtain ⟨rfl, eG3254, en3255⟩ := hp3256
            refine W.widen (k := 0) (n := 200 * (0)) (by omega) (by omega) ?_
            rw [eG3254, en3255] at hI
            refine lv_iconst (v := 1) hx hb dX4_isWord_68 (by decide) ?_
            refine g_V (As := [.int 1]) (rest := []) (lv := [(3, .int 0), (2, .int (nI (tc (p0 + 1)))), (0, .ref mm), (1, .int 2)]) C hI hS (c_J11_charAt l hB G n (gk D 127) (gk D 227) (-903151647) 0 (([115, 104, 111, 111, 116, 32] : List Nat).length) (fun i => nI (([115, 104, 111, 111, 116, 32] : List Nat).getD i 0)) 1 104 1 c3237 c3238 nl1 (by decide) (by decide) (chB (q := 104) (by decide)) (by decide)) c3237 rfl rfl q2868 q2158 q2991 q92 q2160 (⟨by decide, by decide, by decide⟩ : gArg _ 1) rfl ⟨by decide, by decide⟩ (by omega) hl rfl (Nat.le_of_ble_eq_true rfl) dX4_isWord_69 (fun v3259 G3260 n3261 H locs hp3262 hI hS => ?_) gKx.no
            obtain ⟨rfl, eG3260, en3261⟩ := hp3262
            refine W.widen (k := 0) (n := 200 * (0)) (by omega) (by omega) ?_
            rw [eG3260, en3261] at hI
            refine lv_iload_n hx hb dX4_isWord_72 rfl (lv_at hl 1 rfl) ?_
            refine lv_icmp_ne (tgt := 80) hx hb dX4_isWord_73 (by decide) (fun c_3265 => ?_) (fun c_3265 => ?_)
            · skip
              try have k_3266 : ¬ (104 = (tc (p0 + 1))) := (not_congr (nI_eqE rfl rfl (by omega) (by omega))).mp c_3265
              refine lv_iconst (v := 0) hx hb dX4_isWord_80 (by decide) ?_
              exact g_zret C hI hS (by omega) rfl ⟨(by simp [sIsW, wL, c_3189, hnx, c_3229, c_3230, c_3251, c_3252, c_3265]), rfl, rfl⟩ dX4_isWord_81
            · skip
              try have k_3267 : 104 = (tc (p0 + 1)) := (nI_eqE rfl rfl (by omega) (by omega)).mp c_3265
              refine lv_iconst (v := 1) hx hb dX4_isWord_76 (by decide) ?_
              refine lv_goto (tgt := 81) hx hb dX4_isWord_77 (by decide) ?_
              exact g_zret C hI hS (by omega) rfl ⟨(by simp [sIsW, wL, c_3189, hnx, c_3229, c_3230, c_3251, c_3252, c_3265]), rfl, rfl⟩ dX4_isWord_81
      · exact absurd (by decide) c_3230
set_option maxHeartbeats 4000000 in
set_option maxRecDepth 100000 in
theorem c_X4_isWord3 (l : Launch) {D : gD} (hB : gBs D) (G : gH) (n : Nat) (mm : Nat) (ag : Nat) (ab : Nat) (ah : Nat) (ch : Int32) (asv : Nat) (hs : Int32) (aas : Nat) (ain : Nat) (ty : Int32) (er : Int32) (awy : Nat) (ir : Int32) (ali : Nat) (ln : Int32) (th : Int32) (pl : Int32) (wr : Int32) (ato : Nat) (tc : Nat → Nat) (tn : Nat) (p0 : Nat) (c0_ : G mm = some (.inl (23, [.ref ag, .ref ab, .ref ah, .int ch, .ref asv, .int hs, .ref aas, .ref ain, .int ty, .int er, .ref awy, .int ir, .ref ali, .int ln, .int th, .int pl, .int wr, .ref ato]))) (c1_ : G ain = some (aC 60 (fun k => nI (tc k)))) (hty : ty = nI tn) (ht60 : tn ≤ 60) (hpl : pl = nI p0) (hp60 : p0 ≤ tn) : gMet l D yX4_isWord (ws_ yX4_isWord cX4_isWord 4 (some FieldType.boolean)) 5 0 G n [.ref mm, .int 3] (fun (v : Option Value) (G1 : gH) (n1 : Nat) => v = some (.int (sIsW tc tn 3 p0)) ∧ G1 = G ∧ n1 = n) gNox := by
  refine g_start (by decide) (Nat.le_of_ble_eq_true rfl) ?_
  intro p e s m below meth c ls C hnm hxt hI hl
  have hx := C.x
  have hb := C.b
  have hS : va_S (gA D) s.heap s.heap [] := va_S.rf
  have hz0 := hI.z
  have lc0_ := hI.lt c0_
  have lc1_ := hI.lt c1_
  have hF : gF G G n gNone := gF.rf _ _ _
  have hl : lv_has ls 4 [(0, .ref mm), (1, .int 3)] := hl
  refine lv_aload_n hx hb dX4_isWord_0 rfl (lv_at hl 0 rfl) ?_
  refine g_get C hI c0_ kc23 15 rfl q2582 (fun _ h9 => h9) dX4_isWord_1 ?_
  refine lv_iconst (v := 1) hx hb dX4_isWord_4 (by decide) ?_
  refine lv_iadd hx hb dX4_isWord_5 ?_
  refine lv_aload_n hx hb dX4_isWord_6 rfl (lv_at hl 0 rfl) ?_
  refine g_get C hI c0_ kc23 8 rfl q2575 (fun _ h9 => h9) dX4_isWord_7 ?_
  refine lv_icmp_ge (tgt := 27) hx hb dX4_isWord_10 (by decide) (fun c_3268 => ?_) (fun c_3268 => ?_)
  · skip
    try have k_3269 : tn ≤ (p0 + 1) := (nI_leE hty (gadd hpl nl1) (by omega) (by omega)).mp c_3268
    have hnx : sHere tc tn (p0 + 1) = -1 := by unfold sHere; rw [if_pos (by omega)]
    refine lv_iconst (v := (-1)) hx hb dX4_isWord_27 (by decide) ?_
    refine lv_istore_n (lv' := [(2, .int (-1)), (0, .ref mm), (1, .int 3)]) hx hb dX4_isWord_28 rfl hl (by decide) rfl (fun ls hl => ?_)
    refine lv_iload_n hx hb dX4_isWord_29 rfl (lv_at hl 2 rfl) ?_
    refine lv_iconst (v := 1) hx hb dX4_isWord_30 (by decide) ?_
    refine lv_icmp_eq (tgt := 43) hx hb dX4_isWord_31 (by decide) (fun c_3270 => ?_) (fun c_3270 => ?_)
    · exact absurd c_3270 (by decide)
    · skip
      refine lv_iload_n hx hb dX4_isWord_34 rfl (lv_at hl 2 rfl) ?_
      refine lv_iconst (v := 2) hx hb dX4_isWord_35 (by decide) ?_
      refine lv_icmp_eq (tgt := 43) hx hb dX4_isWord_36 (by decide) (fun c_3271 => ?_) (fun c_3271 => ?_)
      · exact absurd c_3271 (by decide)
      · skip
        refine lv_iconst (v := 1) hx hb dX4_isWord_39 (by decide) ?_
        refine lv_goto (tgt := 44) hx hb dX4_isWord_40 (by decide) ?_
        refine lv_istore_n (lv' := [(3, .int 1), (2, .int (-1)), (0, .ref mm), (1, .int 3)]) hx hb dX4_isWord_44 rfl hl (by decide) rfl (fun ls hl => ?_)
        refine lv_iload_n hx hb dX4_isWord_45 rfl (lv_at hl 3 rfl) ?_
        refine g_S (As := [.int 3]) (rest := []) (lv := [(3, .int 1), (2, .int (-1)), (0, .ref mm), (1, .int 3)]) C hI hS (c_X4_word3 l hB G n   ) q2857 q2858 q94 q2859 (⟨by decide, by decide, by decide⟩ : gArg _ 1) rfl ⟨by decide, by decide⟩ (by omega) hl rfl (Nat.le_of_ble_eq_true rfl) dX4_isWord_46 (fun v3272 G3273 n3274 H locs hp3275 hI hS => ?_) gKx.no
        obtain ⟨rfl, eG3273, en3274⟩ := hp3275
        refine W.widen (k := 0) (n := 200 * (0)) (by omega) (by omega) ?_
        rw [eG3273, en3274] at hI
        have lc3278 : gk D 128 < gz D := (hB.tx (j := 28) rfl).1
        have lc3279 : gk D 228 < gz D := (hB.tx (j := 28) rfl).2.1
        have c3278 : G (gk D 128) = some (.inl (21, [.ref (gk D 228), .int 0, .int 99051728, .int 0])) := hI.bs ⟨lc3278, (hB.tx (j := 28) rfl).2.2.1⟩
        have c3279 : G (gk D 228) = some (aB (([104, 97, 117, 108, 32] : List Nat).length) (fun i => nI (([104, 97, 117, 108, 32] : List Nat).getD i 0))) := hI.bs ⟨lc3279, (hB.tx (j := 28) rfl).2.2.2⟩
        refine lv_iconst (v := 0) hx hb dX4_isWord_49 (by decide) ?_
        refine g_V (As := [.int 0]) (rest := []) (lv := [(3, .int 1), (2, .int (-1)), (0, .ref mm), (1, .int 3)]) C hI hS (c_J11_charAt l hB G n (gk D 128) (gk D 228) 99051728 0 (([104, 97, 117, 108, 32] : List Nat).length) (fun i => nI (([104, 97, 117, 108, 32] : List Nat).getD i 0)) 0 104 0 c3278 c3279 nl0 (by decide) (by decide) (chB (q := 104) (by decide)) (by decide)) c3278 rfl rfl q2868 q2158 q2991 q92 q2160 (⟨by decide, by decide, by decide⟩ : gArg _ 1) rfl ⟨by decide, by decide⟩ (by omega) hl rfl (Nat.le_of_ble_eq_true rfl) dX4_isWord_50 (fun v3280 G3281 n3282 H locs hp3283 hI hS => ?_) gKx.no
        obtain ⟨rfl, eG3281, en3282⟩ := hp3283
        refine W.widen (k := 0) (n := 200 * (0)) (by omega) (by omega) ?_
        rw [eG3281, en3282] at hI
        refine lv_aload_n hx hb dX4_isWord_53 rfl (lv_at hl 2 rfl) ?_
        refine g_V (As := []) (rest := [.int (nI 104)]) (lv := [(3, .int 1), (2, .int (-1)), (0, .ref mm), (1, .int 3)]) C hI hS (c_X4_here l hB G n mm ag ab ah ch asv hs aas ain ty er awy ir ali ln th pl wr ato tc tn p0 c0_ c1_ hty (by omega) hpl (by omega)) c0_ rfl rfl q2869 q2871 qs63 q94 q2872 (⟨by decide, by decide, by decide⟩ : gArg _ 0) rfl ⟨by decide, by decide⟩ (by omega) hl rfl (Nat.le_of_ble_eq_true rfl) dX4_isWord_54 (fun v3286 G3287 n3288 H locs hp3289 hI hS => ?_) gKx.no
        obtain ⟨rfl, eG3287, en3288⟩ := hp3289
        refine W.widen (k := 0) (n := 200 * (0)) (by omega) (by omega) ?_
        rw [eG3287, en3288] at hI
        refine lv_icmp_ne (tgt := 80) hx hb dX4_isWord_57 (by decide) (fun c_3292 => ?_) (fun c_3292 => ?_)
        · skip
          refine lv_iconst (v := 0) hx hb dX4_isWord_80 (by decide) ?_
          exact g_zret C hI hS (by omega) rfl ⟨(by simp [sIsW, wL, c_3268, hnx, c_3270, c_3271, c_3292]), rfl, rfl⟩ dX4_isWord_81
        · skip
          refine lv_iload_n hx hb dX4_isWord_60 rfl (lv_at hl 0 rfl) ?_
          refine lv_if_ne (tgt := 76) hx hb dX4_isWord_61 (by decide) (fun c_3293 => ?_) (fun c_3293 => ?_)
          · skip
            refine lv_iconst (v := 1) hx hb dX4_isWord_76 (by decide) ?_
            refine lv_goto (tgt := 81) hx hb dX4_isWord_77 (by decide) ?_
            exact g_zret C hI hS (by omega) rfl ⟨(by simp [sIsW, wL, c_3268, hnx, c_3270, c_3271, c_3292, c_3293]), rfl, rfl⟩ dX4_isWord_81
          · exact absurd c_3293 (by decide)
  · skip
    try have k_3294 : ¬ (tn ≤ (p0 + 1)) := (not_congr (nI_leE hty (gadd hpl nl1) (by omega) (by omega))).mp c_3268
    have hnx : sHere tc tn (p0 + 1) = nI (tc (p0 + 1)) := by unfold sHere; rw [if_neg (by omega)]
    refine lv_aload_n hx hb dX4_isWord_13 rfl (lv_at hl 0 rfl) ?_
    refine g_get C hI c0_ kc23 7 rfl q2574 (fun _ h9 => h9) dX4_isWord_14 ?_
    refine lv_aload_n hx hb dX4_isWord_17 rfl (lv_at hl 0 rfl) ?_
    refine g_get C hI c0_ kc23 15 rfl q2582 (fun _ h9 => h9) dX4_isWord_18 ?_
    refine lv_iconst (v := 1) hx hb dX4_isWord_21 (by decide) ?_
    refine lv_iadd hx hb dX4_isWord_22 ?_
    refine g_cald (v := .int (nI (tc (p0 + 1)))) C hI c1_ (gix (gadd hpl nl1) (by omega) (by omega)) (congrArg Value.int (gixv (f := fun k => nI (tc k)) (gadd hpl nl1) (by omega))) dX4_isWord_23 ?_
    refine lv_goto (tgt := 28) hx hb dX4_isWord_24 (by decide) ?_
    refine lv_istore_n (lv' := [(2, .int (nI (tc (p0 + 1)))), (0, .ref mm), (1, .int 3)]) hx hb dX4_isWord_28 rfl hl (by decide) rfl (fun ls hl => ?_)
    refine lv_iload_n hx hb dX4_isWord_29 rfl (lv_at hl 2 rfl) ?_
    refine lv_iconst (v := 1) hx hb dX4_isWord_30 (by decide) ?_
    refine lv_icmp_eq (tgt := 43) hx hb dX4_isWord_31 (by decide) (fun c_3295 => ?_) (fun c_3295 => ?_)
    · exact absurd c_3295 (by decide)
    · skip
      refine lv_iload_n hx hb dX4_isWord_34 rfl (lv_at hl 2 rfl) ?_
      refine lv_iconst (v := 2) hx hb dX4_isWord_35 (by decide) ?_
      refine lv_icmp_eq (tgt := 43) hx hb dX4_isWord_36 (by decide) (fun c_3296 => ?_) (fun c_3296 => ?_)
      · exact absurd c_3296 (by decide)
      · skip
        refine lv_iconst (v := 1) hx hb dX4_isWord_39 (by decide) ?_
        refine lv_goto (tgt := 44) hx hb dX4_isWord_40 (by decide) ?_
        refine lv_istore_n (lv' := [(3, .int 1), (2, .int (nI (tc (p0 + 1)))), (0, .ref mm), (1, .int 3)]) hx hb dX4_isWord_44 rfl hl (by decide) rfl (fun ls hl => ?_)
        refine lv_iload_n hx hb dX4_isWord_45 rfl (lv_at hl 3 rfl) ?_
        refine g_S (As := [.int 3]) (rest := []) (lv := [(3, .int 1), (2, .int (nI (tc (p0 + 1)))), (0, .ref mm), (1, .int 3)]) C hI hS (c_X4_word3 l hB G n   ) q2857 q2858 q94 q2859 (⟨by decide, by decide, by decide⟩ : gArg _ 1) rfl ⟨by decide, by decide⟩ (by omega) hl rfl (Nat.le_of_ble_eq_true rfl) dX4_isWord_46 (fun v3297 G3298 n3299 H locs hp3300 hI hS => ?_) gKx.no
        obtain ⟨rfl, eG3298, en3299⟩ := hp3300
        refine W.widen (k := 0) (n := 200 * (0)) (by omega) (by omega) ?_
        rw [eG3298, en3299] at hI
        have lc3303 : gk D 128 < gz D := (hB.tx (j := 28) rfl).1
        have lc3304 : gk D 228 < gz D := (hB.tx (j := 28) rfl).2.1
        have c3303 : G (gk D 128) = some (.inl (21, [.ref (gk D 228), .int 0, .int 99051728, .int 0])) := hI.bs ⟨lc3303, (hB.tx (j := 28) rfl).2.2.1⟩
        have c3304 : G (gk D 228) = some (aB (([104, 97, 117, 108, 32] : List Nat).length) (fun i => nI (([104, 97, 117, 108, 32] : List Nat).getD i 0))) := hI.bs ⟨lc3304, (hB.tx (j := 28) rfl).2.2.2⟩
        refine lv_iconst (v := 0) hx hb dX4_isWord_49 (by decide) ?_
        refine g_V (As := [.int 0]) (rest := []) (lv := [(3, .int 1), (2, .int (nI (tc (p0 + 1)))), (0, .ref mm), (1, .int 3)]) C hI hS (c_J11_charAt l hB G n (gk D 128) (gk D 228) 99051728 0 (([104, 97, 117, 108, 32] : List Nat).length) (fun i => nI (([104, 97, 117, 108, 32] : List Nat).getD i 0)) 0 104 0 c3303 c3304 nl0 (by decide) (by decide) (chB (q := 104) (by decide)) (by decide)) c3303 rfl rfl q2868 q2158 q2991 q92 q2160 (⟨by decide, by decide, by decide⟩ : gArg _ 1) rfl ⟨by decide, by decide⟩ (by omega) hl rfl (Nat.le_of_ble_eq_true rfl) dX4_isWord_50 (fun v3305 G3306 n3307 H locs hp3308 hI hS => ?_) gKx.no
        obtain ⟨rfl, eG3306, en3307⟩ := hp3308
        refine W.widen (k := 0) (n := 200 * (0)) (by omega) (by omega) ?_
        rw [eG3306, en3307] at hI
        refine lv_aload_n hx hb dX4_isWord_53 rfl (lv_at hl 2 rfl) ?_
        refine g_V (As := []) (rest := [.int (nI 104)]) (lv := [(3, .int 1), (2, .int (nI (tc (p0 + 1)))), (0, .ref mm), (1, .int 3)]) C hI hS (c_X4_here l hB G n mm ag ab ah ch asv hs aas ain ty er awy ir ali ln th pl wr ato tc tn p0 c0_ c1_ hty (by omega) hpl (by omega)) c0_ rfl rfl q2869 q2871 qs63 q94 q2872 (⟨by decide, by decide, by decide⟩ : gArg _ 0) rfl ⟨by decide, by decide⟩ (by omega) hl rfl (Nat.le_of_ble_eq_true rfl) dX4_isWord_54 (fun v3311 G3312 n3313 H locs hp3314 hI hS => ?_) gKx.no
        obtain ⟨rfl, eG3312, en3313⟩ := hp3314
        refine W.widen (k := 0) (n := 200 * (0)) (by omega) (by omega) ?_
        rw [eG3312, en3313] at hI
        refine lv_icmp_ne (tgt := 80) hx hb dX4_isWord_57 (by decide) (fun c_3317 => ?_) (fun c_3317 => ?_)
        · skip
          refine lv_iconst (v := 0) hx hb dX4_isWord_80 (by decide) ?_
          exact g_zret C hI hS (by omega) rfl ⟨(by simp [sIsW, wL, c_3268, hnx, c_3295, c_3296, c_3317]), rfl, rfl⟩ dX4_isWord_81
        · skip
          refine lv_iload_n hx hb dX4_isWord_60 rfl (lv_at hl 0 rfl) ?_
          refine lv_if_ne (tgt := 76) hx hb dX4_isWord_61 (by decide) (fun c_3318 => ?_) (fun c_3318 => ?_)
          · skip
            refine lv_iconst (v := 1) hx hb dX4_isWord_76 (by decide) ?_
            refine lv_goto (tgt := 81) hx hb dX4_isWord_77 (by decide) ?_
            exact g_zret C hI hS (by omega) rfl ⟨(by simp [sIsW, wL, c_3268, hnx, c_3295, c_3296, c_3317, c_3318]), rfl, rfl⟩ dX4_isWord_81
          · exact absurd c_3318 (by decide)
set_option maxHeartbeats 4000000 in
set_option maxRecDepth 100000 in
theorem c_X4_isWord4 (l : Launch) {D : gD} (hB : gBs D) (G : gH) (n : Nat) (mm : Nat) (ag : Nat) (ab : Nat) (ah : Nat) (ch : Int32) (asv : Nat) (hs : Int32) (aas : Nat) (ain : Nat) (ty : Int32) (er : Int32) (awy : Nat) (ir : Int32) (ali : Nat) (ln : Int32) (th : Int32) (pl : Int32) (wr : Int32) (ato : Nat) (tc : Nat → Nat) (tn : Nat) (p0 : Nat) (c0_ : G mm = some (.inl (23, [.ref ag, .ref ab, .ref ah, .int ch, .ref asv, .int hs, .ref aas, .ref ain, .int ty, .int er, .ref awy, .int ir, .ref ali, .int ln, .int th, .int pl, .int wr, .ref ato]))) (c1_ : G ain = some (aC 60 (fun k => nI (tc k)))) (hty : ty = nI tn) (ht60 : tn ≤ 60) (hpl : pl = nI p0) (hp60 : p0 ≤ tn) : gMet l D yX4_isWord (ws_ yX4_isWord cX4_isWord 4 (some FieldType.boolean)) 5 0 G n [.ref mm, .int 4] (fun (v : Option Value) (G1 : gH) (n1 : Nat) => v = some (.int (sIsW tc tn 4 p0)) ∧ G1 = G ∧ n1 = n) gNox := by
  refine g_start (by decide) (Nat.le_of_ble_eq_true rfl) ?_
  intro p e s m below meth c ls C hnm hxt hI hl
  have hx := C.x
  have hb := C.b
  have hS : va_S (gA D) s.heap s.heap [] := va_S.rf
  have hz0 := hI.z
  have lc0_ := hI.lt c0_
  have lc1_ := hI.lt c1_
  have hF : gF G G n gNone := gF.rf _ _ _
  have hl : lv_has ls 4 [(0, .ref mm), (1, .int 4)] := hl
  refine lv_aload_n hx hb dX4_isWord_0 rfl (lv_at hl 0 rfl) ?_
  refine g_get C hI c0_ kc23 15 rfl q2582 (fun _ h9 => h9) dX4_isWord_1 ?_
  refine lv_iconst (v := 1) hx hb dX4_isWord_4 (by decide) ?_
  refine lv_iadd hx hb dX4_isWord_5 ?_
  refine lv_aload_n hx hb dX4_isWord_6 rfl (lv_at hl 0 rfl) ?_
  refine g_get C hI c0_ kc23 8 rfl q2575 (fun _ h9 => h9) dX4_isWord_7 ?_
  refine lv_icmp_ge (tgt := 27) hx hb dX4_isWord_10 (by decide) (fun c_3319 => ?_) (fun c_3319 => ?_)
  · skip
    try have k_3320 : tn ≤ (p0 + 1) := (nI_leE hty (gadd hpl nl1) (by omega) (by omega)).mp c_3319
    have hnx : sHere tc tn (p0 + 1) = -1 := by unfold sHere; rw [if_pos (by omega)]
    refine lv_iconst (v := (-1)) hx hb dX4_isWord_27 (by decide) ?_
    refine lv_istore_n (lv' := [(2, .int (-1)), (0, .ref mm), (1, .int 4)]) hx hb dX4_isWord_28 rfl hl (by decide) rfl (fun ls hl => ?_)
    refine lv_iload_n hx hb dX4_isWord_29 rfl (lv_at hl 2 rfl) ?_
    refine lv_iconst (v := 1) hx hb dX4_isWord_30 (by decide) ?_
    refine lv_icmp_eq (tgt := 43) hx hb dX4_isWord_31 (by decide) (fun c_3321 => ?_) (fun c_3321 => ?_)
    · exact absurd c_3321 (by decide)
    · skip
      refine lv_iload_n hx hb dX4_isWord_34 rfl (lv_at hl 2 rfl) ?_
      refine lv_iconst (v := 2) hx hb dX4_isWord_35 (by decide) ?_
      refine lv_icmp_eq (tgt := 43) hx hb dX4_isWord_36 (by decide) (fun c_3322 => ?_) (fun c_3322 => ?_)
      · exact absurd c_3322 (by decide)
      · skip
        refine lv_iconst (v := 1) hx hb dX4_isWord_39 (by decide) ?_
        refine lv_goto (tgt := 44) hx hb dX4_isWord_40 (by decide) ?_
        refine lv_istore_n (lv' := [(3, .int 1), (2, .int (-1)), (0, .ref mm), (1, .int 4)]) hx hb dX4_isWord_44 rfl hl (by decide) rfl (fun ls hl => ?_)
        refine lv_iload_n hx hb dX4_isWord_45 rfl (lv_at hl 3 rfl) ?_
        refine g_S (As := [.int 4]) (rest := []) (lv := [(3, .int 1), (2, .int (-1)), (0, .ref mm), (1, .int 4)]) C hI hS (c_X4_word4 l hB G n   ) q2857 q2858 q94 q2859 (⟨by decide, by decide, by decide⟩ : gArg _ 1) rfl ⟨by decide, by decide⟩ (by omega) hl rfl (Nat.le_of_ble_eq_true rfl) dX4_isWord_46 (fun v3323 G3324 n3325 H locs hp3326 hI hS => ?_) gKx.no
        obtain ⟨rfl, eG3324, en3325⟩ := hp3326
        refine W.widen (k := 0) (n := 200 * (0)) (by omega) (by omega) ?_
        rw [eG3324, en3325] at hI
        have lc3329 : gk D 129 < gz D := (hB.tx (j := 29) rfl).1
        have lc3330 : gk D 229 < gz D := (hB.tx (j := 29) rfl).2.1
        have c3329 : G (gk D 129) = some (.inl (21, [.ref (gk D 229), .int 0, .int 102738837, .int 0])) := hI.bs ⟨lc3329, (hB.tx (j := 29) rfl).2.2.1⟩
        have c3330 : G (gk D 229) = some (aB (([108, 97, 110, 100, 32] : List Nat).length) (fun i => nI (([108, 97, 110, 100, 32] : List Nat).getD i 0))) := hI.bs ⟨lc3330, (hB.tx (j := 29) rfl).2.2.2⟩
        refine lv_iconst (v := 0) hx hb dX4_isWord_49 (by decide) ?_
        refine g_V (As := [.int 0]) (rest := []) (lv := [(3, .int 1), (2, .int (-1)), (0, .ref mm), (1, .int 4)]) C hI hS (c_J11_charAt l hB G n (gk D 129) (gk D 229) 102738837 0 (([108, 97, 110, 100, 32] : List Nat).length) (fun i => nI (([108, 97, 110, 100, 32] : List Nat).getD i 0)) 0 108 0 c3329 c3330 nl0 (by decide) (by decide) (chB (q := 108) (by decide)) (by decide)) c3329 rfl rfl q2868 q2158 q2991 q92 q2160 (⟨by decide, by decide, by decide⟩ : gArg _ 1) rfl ⟨by decide, by decide⟩ (by omega) hl rfl (Nat.le_of_ble_eq_true rfl) dX4_isWord_50 (fun v3331 G3332 n3333 H locs hp3334 hI hS => ?_) gKx.no
        obtain ⟨rfl, eG3332, en3333⟩ := hp3334
        refine W.widen (k := 0) (n := 200 * (0)) (by omega) (by omega) ?_
        rw [eG3332, en3333] at hI
        refine lv_aload_n hx hb dX4_isWord_53 rfl (lv_at hl 2 rfl) ?_
        refine g_V (As := []) (rest := [.int (nI 108)]) (lv := [(3, .int 1), (2, .int (-1)), (0, .ref mm), (1, .int 4)]) C hI hS (c_X4_here l hB G n mm ag ab ah ch asv hs aas ain ty er awy ir ali ln th pl wr ato tc tn p0 c0_ c1_ hty (by omega) hpl (by omega)) c0_ rfl rfl q2869 q2871 qs63 q94 q2872 (⟨by decide, by decide, by decide⟩ : gArg _ 0) rfl ⟨by decide, by decide⟩ (by omega) hl rfl (Nat.le_of_ble_eq_true rfl) dX4_isWord_54 (fun v3337 G3338 n3339 H locs hp3340 hI hS => ?_) gKx.no
        obtain ⟨rfl, eG3338, en3339⟩ := hp3340
        refine W.widen (k := 0) (n := 200 * (0)) (by omega) (by omega) ?_
        rw [eG3338, en3339] at hI
        refine lv_icmp_ne (tgt := 80) hx hb dX4_isWord_57 (by decide) (fun c_3343 => ?_) (fun c_3343 => ?_)
        · skip
          refine lv_iconst (v := 0) hx hb dX4_isWord_80 (by decide) ?_
          exact g_zret C hI hS (by omega) rfl ⟨(by simp [sIsW, wL, c_3319, hnx, c_3321, c_3322, c_3343]), rfl, rfl⟩ dX4_isWord_81
        · skip
          refine lv_iload_n hx hb dX4_isWord_60 rfl (lv_at hl 0 rfl) ?_
          refine lv_if_ne (tgt := 76) hx hb dX4_isWord_61 (by decide) (fun c_3344 => ?_) (fun c_3344 => ?_)
          · skip
            refine lv_iconst (v := 1) hx hb dX4_isWord_76 (by decide) ?_
            refine lv_goto (tgt := 81) hx hb dX4_isWord_77 (by decide) ?_
            exact g_zret C hI hS (by omega) rfl ⟨(by simp [sIsW, wL, c_3319, hnx, c_3321, c_3322, c_3343, c_3344]), rfl, rfl⟩ dX4_isWord_81
          · exact absurd c_3344 (by decide)
  · skip
    try have k_3345 : ¬ (tn ≤ (p0 + 1)) := (not_congr (nI_leE hty (gadd hpl nl1) (by omega) (by omega))).mp c_3319
    have hnx : sHere tc tn (p0 + 1) = nI (tc (p0 + 1)) := by unfold sHere; rw [if_neg (by omega)]
    refine lv_aload_n hx hb dX4_isWord_13 rfl (lv_at hl 0 rfl) ?_
    refine g_get C hI c0_ kc23 7 rfl q2574 (fun _ h9 => h9) dX4_isWord_14 ?_
    refine lv_aload_n hx hb dX4_isWord_17 rfl (lv_at hl 0 rfl) ?_
    refine g_get C hI c0_ kc23 15 rfl q2582 (fun _ h9 => h9) dX4_isWord_18 ?_
    refine lv_iconst (v := 1) hx hb dX4_isWord_21 (by decide) ?_
    refine lv_iadd hx hb dX4_isWord_22 ?_
    refine g_cald (v := .int (nI (tc (p0 + 1)))) C hI c1_ (gix (gadd hpl nl1) (by omega) (by omega)) (congrArg Value.int (gixv (f := fun k => nI (tc k)) (gadd hpl nl1) (by omega))) dX4_isWord_23 ?_
    refine lv_goto (tgt := 28) hx hb dX4_isWord_24 (by decide) ?_
    refine lv_istore_n (lv' := [(2, .int (nI (tc (p0 + 1)))), (0, .ref mm), (1, .int 4)]) hx hb dX4_isWord_28 rfl hl (by decide) rfl (fun ls hl => ?_)
    refine lv_iload_n hx hb dX4_isWord_29 rfl (lv_at hl 2 rfl) ?_
    refine lv_iconst (v := 1) hx hb dX4_isWord_30 (by decide) ?_
    refine lv_icmp_eq (tgt := 43) hx hb dX4_isWord_31 (by decide) (fun c_3346 => ?_) (fun c_3346 => ?_)
    · exact absurd c_3346 (by decide)
    · skip
      refine lv_iload_n hx hb dX4_isWord_34 rfl (lv_at hl 2 rfl) ?_
      refine lv_iconst (v := 2) hx hb dX4_isWord_35 (by decide) ?_
      refine lv_icmp_eq (tgt := 43) hx hb dX4_isWord_36 (by decide) (fun c_3347 => ?_) (fun c_3347 => ?_)
      · exact absurd c_3347 (by decide)
      · skip
        refine lv_iconst (v := 1) hx hb dX4_isWord_39 (by decide) ?_
        refine lv_goto (tgt := 44) hx hb dX4_isWord_40 (by decide) ?_
        refine lv_istore_n (lv' := [(3, .int 1), (2, .int (nI (tc (p0 + 1)))), (0, .ref mm), (1, .int 4)]) hx hb dX4_isWord_44 rfl hl (by decide) rfl (fun ls hl => ?_)
        refine lv_iload_n hx hb dX4_isWord_45 rfl (lv_at hl 3 rfl) ?_
        refine g_S (As := [.int 4]) (rest := []) (lv := [(3, .int 1), (2, .int (nI (tc (p0 + 1)))), (0, .ref mm), (1, .int 4)]) C hI hS (c_X4_word4 l hB G n   ) q2857 q2858 q94 q2859 (⟨by decide, by decide, by decide⟩ : gArg _ 1) rfl ⟨by decide, by decide⟩ (by omega) hl rfl (Nat.le_of_ble_eq_true rfl) dX4_isWord_46 (fun v3348 G3349 n3350 H locs hp3351 hI hS => ?_) gKx.no
        obtain ⟨rfl, eG3349, en3350⟩ := hp3351
        refine W.widen (k := 0) (n := 200 * (0)) (by omega) (by omega) ?_
        rw [eG3349, en3350] at hI
        have lc3354 : gk D 129 < gz D := (hB.tx (j := 29) rfl).1
        have lc3355 : gk D 229 < gz D := (hB.tx (j := 29) rfl).2.1
        have c3354 : G (gk D 129) = some (.inl (21, [.ref (gk D 229), .int 0, .int 102738837, .int 0])) := hI.bs ⟨lc3354, (hB.tx (j := 29) rfl).2.2.1⟩
        have c3355 : G (gk D 229) = some (aB (([108, 97, 110, 100, 32] : List Nat).length) (fun i => nI (([108, 97, 110, 100, 32] : List Nat).getD i 0))) := hI.bs ⟨lc3355, (hB.tx (j := 29) rfl).2.2.2⟩
        refine lv_iconst (v := 0) hx hb dX4_isWord_49 (by decide) ?_
        refine g_V (As := [.int 0]) (rest := []) (lv := [(3, .int 1), (2, .int (nI (tc (p0 + 1)))), (0, .ref mm), (1, .int 4)]) C hI hS (c_J11_charAt l hB G n (gk D 129) (gk D 229) 102738837 0 (([108, 97, 110, 100, 32] : List Nat).length) (fun i => nI (([108, 97, 110, 100, 32] : List Nat).getD i 0)) 0 108 0 c3354 c3355 nl0 (by decide) (by decide) (chB (q := 108) (by decide)) (by decide)) c3354 rfl rfl q2868 q2158 q2991 q92 q2160 (⟨by decide, by decide, by decide⟩ : gArg _ 1) rfl ⟨by decide, by decide⟩ (by omega) hl rfl (Nat.le_of_ble_eq_true rfl) dX4_isWord_50 (fun v3356 G3357 n3358 H locs hp3359 hI hS => ?_) gKx.no
        obtain ⟨rfl, eG3357, en3358⟩ := hp3359
        refine W.widen (k := 0) (n := 200 * (0)) (by omega) (by omega) ?_
        rw [eG3357, en3358] at hI
        refine lv_aload_n hx hb dX4_isWord_53 rfl (lv_at hl 2 rfl) ?_
        refine g_V (As := []) (rest := [.int (nI 108)]) (lv := [(3, .int 1), (2, .int (nI (tc (p0 + 1)))), (0, .ref mm), (1, .int 4)]) C hI hS (c_X4_here l hB G n mm ag ab ah ch asv hs aas ain ty er awy ir ali ln th pl wr ato tc tn p0 c0_ c1_ hty (by omega) hpl (by omega)) c0_ rfl rfl q2869 q2871 qs63 q94 q2872 (⟨by decide, by decide, by decide⟩ : gArg _ 0) rfl ⟨by decide, by decide⟩ (by omega) hl rfl (Nat.le_of_ble_eq_true rfl) dX4_isWord_54 (fun v3362 G3363 n3364 H locs hp3365 hI hS => ?_) gKx.no
        obtain ⟨rfl, eG3363, en3364⟩ := hp3365
        refine W.widen (k := 0) (n := 200 * (0)) (by omega) (by omega) ?_
        rw [eG3363, en3364] at hI
        refine lv_icmp_ne (tgt := 80) hx hb dX4_isWord_57 (by decide) (fun c_3368 => ?_) (fun c_3368 => ?_)
        · skip
          refine lv_iconst (v := 0) hx hb dX4_isWord_80 (by decide) ?_
          exact g_zret C hI hS (by omega) rfl ⟨(by simp [sIsW, wL, c_3319, hnx, c_3346, c_3347, c_3368]), rfl, rfl⟩ dX4_isWord_81
        · skip
          refine lv_iload_n hx hb dX4_isWord_60 rfl (lv_at hl 0 rfl) ?_
          refine lv_if_ne (tgt := 76) hx hb dX4_isWord_61 (by decide) (fun c_3369 => ?_) (fun c_3369 => ?_)
          · skip
            refine lv_iconst (v := 1) hx hb dX4_isWord_76 (by decide) ?_
            refine lv_goto (tgt := 81) hx hb dX4_isWord_77 (by decide) ?_
            exact g_zret C hI hS (by omega) rfl ⟨(by simp [sIsW, wL, c_3319, hnx, c_3346, c_3347, c_3368, c_3369]), rfl, rfl⟩ dX4_isWord_81
          · exact absurd c_3369 (by decide)
set_option maxHeartbeats 4000000 in
set_option maxRecDepth 100000 in
theorem c_X4_isWord5 (l : Launch) {D : gD} (hB : gBs D) (G : gH) (n : Nat) (mm : Nat) (ag : Nat) (ab : Nat) (ah : Nat) (ch : Int32) (asv : Nat) (hs : Int32) (aas : Nat) (ain : Nat) (ty : Int32) (er : Int32) (awy : Nat) (ir : Int32) (ali : Nat) (ln : Int32) (th : Int32) (pl : Int32) (wr : Int32) (ato : Nat) (tc : Nat → Nat) (tn : Nat) (p0 : Nat) (c0_ : G mm = some (.inl (23, [.ref ag, .ref ab, .ref ah, .int ch, .ref asv, .int hs, .ref aas, .ref ain, .int ty, .int er, .ref awy, .int ir, .ref ali, .int ln, .int th, .int pl, .int wr, .ref ato]))) (c1_ : G ain = some (aC 60 (fun k => nI (tc k)))) (hty : ty = nI tn) (ht60 : tn ≤ 60) (hpl : pl = nI p0) (hp60 : p0 ≤ tn) : gMet l D yX4_isWord (ws_ yX4_isWord cX4_isWord 4 (some FieldType.boolean)) 5 0 G n [.ref mm, .int 5] (fun (v : Option Value) (G1 : gH) (n1 : Nat) => v = some (.int (sIsW tc tn 5 p0)) ∧ G1 = G ∧ n1 = n) gNox := by
  refine g_start (by decide) (Nat.le_of_ble_eq_true rfl) ?_
  intro p e s m below meth c ls C hnm hxt hI hl
  have hx := C.x
  have hb := C.b
  have hS : va_S (gA D) s.heap s.heap [] := va_S.rf
  have hz0 := hI.z
  have lc0_ := hI.lt c0_
  have lc1_ := hI.lt c1_
  have hF : gF G G n gNone := gF.rf _ _ _
  have hl : lv_has ls 4 [(0, .ref mm), (1, .int 5)] := hl
  refine lv_aload_n hx hb dX4_isWord_0 rfl (lv_at hl 0 rfl) ?_
  refine g_get C hI c0_ kc23 15 rfl q2582 (fun _ h9 => h9) dX4_isWord_1 ?_
  refine lv_iconst (v := 1) hx hb dX4_isWord_4 (by decide) ?_
  refine lv_iadd hx hb dX4_isWord_5 ?_
  refine lv_aload_n hx hb dX4_isWord_6 rfl (lv_at hl 0 rfl) ?_
  refine g_get C hI c0_ kc23 8 rfl q2575 (fun _ h9 => h9) dX4_isWord_7 ?_
  refine lv_icmp_ge (tgt := 27) hx hb dX4_isWord_10 (by decide) (fun c_3370 => ?_) (fun c_3370 => ?_)
  · skip
    try have k_3371 : tn ≤ (p0 + 1) := (nI_leE hty (gadd hpl nl1) (by omega) (by omega)).mp c_3370
    have hnx : sHere tc tn (p0 + 1) = -1 := by unfold sHere; rw [if_pos (by omega)]
    refine lv_iconst (v := (-1)) hx hb dX4_isWord_27 (by decide) ?_
    refine lv_istore_n (lv' := [(2, .int (-1)), (0, .ref mm), (1, .int 5)]) hx hb dX4_isWord_28 rfl hl (by decide) rfl (fun ls hl => ?_)
    refine lv_iload_n hx hb dX4_isWord_29 rfl (lv_at hl 2 rfl) ?_
    refine lv_iconst (v := 1) hx hb dX4_isWord_30 (by decide) ?_
    refine lv_icmp_eq (tgt := 43) hx hb dX4_isWord_31 (by decide) (fun c_3372 => ?_) (fun c_3372 => ?_)
    · exact absurd c_3372 (by decide)
    · skip
      refine lv_iload_n hx hb dX4_isWord_34 rfl (lv_at hl 2 rfl) ?_
      refine lv_iconst (v := 2) hx hb dX4_isWord_35 (by decide) ?_
      refine lv_icmp_eq (tgt := 43) hx hb dX4_isWord_36 (by decide) (fun c_3373 => ?_) (fun c_3373 => ?_)
      · exact absurd c_3373 (by decide)
      · skip
        refine lv_iconst (v := 1) hx hb dX4_isWord_39 (by decide) ?_
        refine lv_goto (tgt := 44) hx hb dX4_isWord_40 (by decide) ?_
        refine lv_istore_n (lv' := [(3, .int 1), (2, .int (-1)), (0, .ref mm), (1, .int 5)]) hx hb dX4_isWord_44 rfl hl (by decide) rfl (fun ls hl => ?_)
        refine lv_iload_n hx hb dX4_isWord_45 rfl (lv_at hl 3 rfl) ?_
        refine g_S (As := [.int 5]) (rest := []) (lv := [(3, .int 1), (2, .int (-1)), (0, .ref mm), (1, .int 5)]) C hI hS (c_X4_word5 l hB G n   ) q2857 q2858 q94 q2859 (⟨by decide, by decide, by decide⟩ : gArg _ 1) rfl ⟨by decide, by decide⟩ (by omega) hl rfl (Nat.le_of_ble_eq_true rfl) dX4_isWord_46 (fun v3374 G3375 n3376 H locs hp3377 hI hS => ?_) gKx.no
        obtain ⟨rfl, eG3375, en3376⟩ := hp3377
        refine W.widen (k := 0) (n := 200 * (0)) (by omega) (by omega) ?_
        rw [eG3375, en3376] at hI
        have lc3380 : gk D 130 < gz D := (hB.tx (j := 30) rfl).1
        have lc3381 : gk D 230 < gz D := (hB.tx (j := 30) rfl).2.1
        have c3380 : G (gk D 130) = some (.inl (21, [.ref (gk D 230), .int 0, .int (-889599873), .int 0])) := hI.bs ⟨lc3380, (hB.tx (j := 30) rfl).2.2.1⟩
        have c3381 : G (gk D 230) = some (aB (([115, 119, 101, 108, 108, 32] : List Nat).length) (fun i => nI (([115, 119, 101, 108, 108, 32] : List Nat).getD i 0))) := hI.bs ⟨lc3381, (hB.tx (j := 30) rfl).2.2.2⟩
        refine lv_iconst (v := 0) hx hb dX4_isWord_49 (by decide) ?_
        refine g_V (As := [.int 0]) (rest := []) (lv := [(3, .int 1), (2, .int (-1)), (0, .ref mm), (1, .int 5)]) C hI hS (c_J11_charAt l hB G n (gk D 130) (gk D 230) (-889599873) 0 (([115, 119, 101, 108, 108, 32] : List Nat).length) (fun i => nI (([115, 119, 101, 108, 108, 32] : List Nat).getD i 0)) 0 115 0 c3380 c3381 nl0 (by decide) (by decide) (chB (q := 115) (by decide)) (by decide)) c3380 rfl rfl q2868 q2158 q2991 q92 q2160 (⟨by decide, by decide, by decide⟩ : gArg _ 1) rfl ⟨by decide, by decide⟩ (by omega) hl rfl (Nat.le_of_ble_eq_true rfl) dX4_isWord_50 (fun v3382 G3383 n3384 H locs hp3385 hI hS => ?_) gKx.no
        obtain ⟨rfl, eG3383, en3384⟩ := hp3385
        refine W.widen (k := 0) (n := 200 * (0)) (by omega) (by omega) ?_
        rw [eG3383, en3384] at hI
        refine lv_aload_n hx hb dX4_isWord_53 rfl (lv_at hl 2 rfl) ?_
        refine g_V (As := []) (rest := [.int (nI 115)]) (lv := [(3, .int 1), (2, .int (-1)), (0, .ref mm), (1, .int 5)]) C hI hS (c_X4_here l hB G n mm ag ab ah ch asv hs aas ain ty er awy ir ali ln th pl wr ato tc tn p0 c0_ c1_ hty (by omega) hpl (by omega)) c0_ rfl rfl q2869 q2871 qs63 q94 q2872 (⟨by decide, by decide, by decide⟩ : gArg _ 0) rfl ⟨by decide, by decide⟩ (by omega) hl rfl (Nat.le_of_ble_eq_true rfl) dX4_isWord_54 (fun v3388 G3389 n3390 H locs hp3391 hI hS => ?_) gKx.no
        obtain ⟨rfl, eG3389, en3390⟩ := hp3391
        refine W.widen (k := 0) (n := 200 * (0)) (by omega) (by omega) ?_
        rw [eG3389, en3390] at hI
        refine lv_icmp_ne (tgt := 80) hx hb dX4_isWord_57 (by decide) (fun c_3394 => ?_) (fun c_3394 => ?_)
        · skip
          refine lv_iconst (v := 0) hx hb dX4_isWord_80 (by decide) ?_
          exact g_zret C hI hS (by omega) rfl ⟨(by simp [sIsW, wL, c_3370, hnx, c_3372, c_3373, c_3394]), rfl, rfl⟩ dX4_isWord_81
        · skip
          refine lv_iload_n hx hb dX4_isWord_60 rfl (lv_at hl 0 rfl) ?_
          refine lv_if_ne (tgt := 76) hx hb dX4_isWord_61 (by decide) (fun c_3395 => ?_) (fun c_3395 => ?_)
          · skip
            refine lv_iconst (v := 1) hx hb dX4_isWord_76 (by decide) ?_
            refine lv_goto (tgt := 81) hx hb dX4_isWord_77 (by decide) ?_
            exact g_zret C hI hS (by omega) rfl ⟨(by simp [sIsW, wL, c_3370, hnx, c_3372, c_3373, c_3394, c_3395]), rfl, rfl⟩ dX4_isWord_81
          · exact absurd c_3395 (by decide)
  · skip
    try have k_3396 : ¬ (tn ≤ (p0 + 1)) := (not_congr (nI_leE hty (gadd hpl nl1) (by omega) (by omega))).mp c_3370
    have hnx : sHere tc tn (p0 + 1) = nI (tc (p0 + 1)) := by unfold sHere; rw [if_neg (by omega)]
    refine lv_aload_n hx hb dX4_isWord_13 rfl (lv_at hl 0 rfl) ?_
    refine g_get C hI c0_ kc23 7 rfl q2574 (fun _ h9 => h9) dX4_isWord_14 ?_
    refine lv_aload_n hx hb dX4_isWord_17 rfl (lv_at hl 0 rfl) ?_
    refine g_get C hI c0_ kc23 15 rfl q2582 (fun _ h9 => h9) dX4_isWord_18 ?_
    refine lv_iconst (v := 1) hx hb dX4_isWord_21 (by decide) ?_
    refine lv_iadd hx hb dX4_isWord_22 ?_
    refine g_cald (v := .int (nI (tc (p0 + 1)))) C hI c1_ (gix (gadd hpl nl1) (by omega) (by omega)) (congrArg Value.int (gixv (f := fun k => nI (tc k)) (gadd hpl nl1) (by omega))) dX4_isWord_23 ?_
    refine lv_goto (tgt := 28) hx hb dX4_isWord_24 (by decide) ?_
    refine lv_istore_n (lv' := [(2, .int (nI (tc (p0 + 1)))), (0, .ref mm), (1, .int 5)]) hx hb dX4_isWord_28 rfl hl (by decide) rfl (fun ls hl => ?_)
    refine lv_iload_n hx hb dX4_isWord_29 rfl (lv_at hl 2 rfl) ?_
    refine lv_iconst (v := 1) hx hb dX4_isWord_30 (by decide) ?_
    refine lv_icmp_eq (tgt := 43) hx hb dX4_isWord_31 (by decide) (fun c_3397 => ?_) (fun c_3397 => ?_)
    · exact absurd c_3397 (by decide)
    · skip
      refine lv_iload_n hx hb dX4_isWord_34 rfl (lv_at hl 2 rfl) ?_
      refine lv_iconst (v := 2) hx hb dX4_isWord_35 (by decide) ?_
      refine lv_icmp_eq (tgt := 43) hx hb dX4_isWord_36 (by decide) (fun c_3398 => ?_) (fun c_3398 => ?_)
      · exact absurd c_3398 (by decide)
      · skip
        refine lv_iconst (v := 1) hx hb dX4_isWord_39 (by decide) ?_
        refine lv_goto (tgt := 44) hx hb dX4_isWord_40 (by decide) ?_
        refine lv_istore_n (lv' := [(3, .int 1), (2, .int (nI (tc (p0 + 1)))), (0, .ref mm), (1, .int 5)]) hx hb dX4_isWord_44 rfl hl (by decide) rfl (fun ls hl => ?_)
        refine lv_iload_n hx hb dX4_isWord_45 rfl (lv_at hl 3 rfl) ?_
        refine g_S (As := [.int 5]) (rest := []) (lv := [(3, .int 1), (2, .int (nI (tc (p0 + 1)))), (0, .ref mm), (1, .int 5)]) C hI hS (c_X4_word5 l hB G n   ) q2857 q2858 q94 q2859 (⟨by decide, by decide, by decide⟩ : gArg _ 1) rfl ⟨by decide, by decide⟩ (by omega) hl rfl (Nat.le_of_ble_eq_true rfl) dX4_isWord_46 (fun v3399 G3400 n3401 H locs hp3402 hI hS => ?_) gKx.no
        obtain ⟨rfl, eG3400, en3401⟩ := hp3402
        refine W.widen (k := 0) (n := 200 * (0)) (by omega) (by omega) ?_
        rw [eG3400, en3401] at hI
        have lc3405 : gk D 130 < gz D := (hB.tx (j := 30) rfl).1
        have lc3406 : gk D 230 < gz D := (hB.tx (j := 30) rfl).2.1
        have c3405 : G (gk D 130) = some (.inl (21, [.ref (gk D 230), .int 0, .int (-889599873), .int 0])) := hI.bs ⟨lc3405, (hB.tx (j := 30) rfl).2.2.1⟩
        have c3406 : G (gk D 230) = some (aB (([115, 119, 101, 108, 108, 32] : List Nat).length) (fun i => nI (([115, 119, 101, 108, 108, 32] : List Nat).getD i 0))) := hI.bs ⟨lc3406, (hB.tx (j := 30) rfl).2.2.2⟩
        refine lv_iconst (v := 0) hx hb dX4_isWord_49 (by decide) ?_
        refine g_V (As := [.int 0]) (rest := []) (lv := [(3, .int 1), (2, .int (nI (tc (p0 + 1)))), (0, .ref mm), (1, .int 5)]) C hI hS (c_J11_charAt l hB G n (gk D 130) (gk D 230) (-889599873) 0 (([115, 119, 101, 108, 108, 32] : List Nat).length) (fun i => nI (([115, 119, 101, 108, 108, 32] : List Nat).getD i 0)) 0 115 0 c3405 c3406 nl0 (by decide) (by decide) (chB (q := 115) (by decide)) (by decide)) c3405 rfl rfl q2868 q2158 q2991 q92 q2160 (⟨by decide, by decide, by decide⟩ : gArg _ 1) rfl ⟨by decide, by decide⟩ (by omega) hl rfl (Nat.le_of_ble_eq_true rfl) dX4_isWord_50 (fun v3407 G3408 n3409 H locs hp3410 hI hS => ?_) gKx.no
        obtain ⟨rfl, eG3408, en3409⟩ := hp3410
        refine W.widen (k := 0) (n := 200 * (0)) (by omega) (by omega) ?_
        rw [eG3408, en3409] at hI
        refine lv_aload_n hx hb dX4_isWord_53 rfl (lv_at hl 2 rfl) ?_
        refine g_V (As := []) (rest := [.int (nI 115)]) (lv := [(3, .int 1), (2, .int (nI (tc (p0 + 1)))), (0, .ref mm), (1, .int 5)]) C hI hS (c_X4_here l hB G n mm ag ab ah ch asv hs aas ain ty er awy ir ali ln th pl wr ato tc tn p0 c0_ c1_ hty (by omega) hpl (by omega)) c0_ rfl rfl q2869 q2871 qs63 q94 q2872 (⟨by decide, by decide, by decide⟩ : gArg _ 0) rfl ⟨by decide, by decide⟩ (by omega) hl rfl (Nat.le_of_ble_eq_true rfl) dX4_isWord_54 (fun v3413 G3414 n3415 H locs hp3416 hI hS => ?_) gKx.no
        obtain ⟨rfl, eG3414, en3415⟩ := hp3416
        refine W.widen (k := 0) (n := 200 * (0)) (by omega) (by omega) ?_
        rw [eG3414, en3415] at hI
        refine lv_icmp_ne (tgt := 80) hx hb dX4_isWord_57 (by decide) (fun c_3419 => ?_) (fun c_3419 => ?_)
        · skip
          refine lv_iconst (v := 0) hx hb dX4_isWord_80 (by decide) ?_
          exact g_zret C hI hS (by omega) rfl ⟨(by simp [sIsW, wL, c_3370, hnx, c_3397, c_3398, c_3419]), rfl, rfl⟩ dX4_isWord_81
        · skip
          refine lv_iload_n hx hb dX4_isWord_60 rfl (lv_at hl 0 rfl) ?_
          refine lv_if_ne (tgt := 76) hx hb dX4_isWord_61 (by decide) (fun c_3420 => ?_) (fun c_3420 => ?_)
          · skip
            refine lv_iconst (v := 1) hx hb dX4_isWord_76 (by decide) ?_
            refine lv_goto (tgt := 81) hx hb dX4_isWord_77 (by decide) ?_
            exact g_zret C hI hS (by omega) rfl ⟨(by simp [sIsW, wL, c_3370, hnx, c_3397, c_3398, c_3419, c_3420]), rfl, rfl⟩ dX4_isWord_81
          · exact absurd c_3420 (by decide)
set_option maxHeartbeats 4000000 in
set_option maxRecDepth 100000 in
theorem c_X4_isWord6 (l : Launch) {D : gD} (hB : gBs D) (G : gH) (n : Nat) (mm : Nat) (ag : Nat) (ab : Nat) (ah : Nat) (ch : Int32) (asv : Nat) (hs : Int32) (aas : Nat) (ain : Nat) (ty : Int32) (er : Int32) (awy : Nat) (ir : Int32) (ali : Nat) (ln : Int32) (th : Int32) (pl : Int32) (wr : Int32) (ato : Nat) (tc : Nat → Nat) (tn : Nat) (p0 : Nat) (c0_ : G mm = some (.inl (23, [.ref ag, .ref ab, .ref ah, .int ch, .ref asv, .int hs, .ref aas, .ref ain, .int ty, .int er, .ref awy, .int ir, .ref ali, .int ln, .int th, .int pl, .int wr, .ref ato]))) (c1_ : G ain = some (aC 60 (fun k => nI (tc k)))) (hty : ty = nI tn) (ht60 : tn ≤ 60) (hpl : pl = nI p0) (hp60 : p0 ≤ tn) : gMet l D yX4_isWord (ws_ yX4_isWord cX4_isWord 4 (some FieldType.boolean)) 5 0 G n [.ref mm, .int 6] (fun (v : Option Value) (G1 : gH) (n1 : Nat) => v = some (.int (sIsW tc tn 6 p0)) ∧ G1 = G ∧ n1 = n) gNox := by
  refine g_start (by decide) (Nat.le_of_ble_eq_true rfl) ?_
  intro p e s m below meth c ls C hnm hxt hI hl
  have hx := C.x
  have hb := C.b
  have hS : va_S (gA D) s.heap s.heap [] := va_S.rf
  have hz0 := hI.z
  have lc0_ := hI.lt c0_
  have lc1_ := hI.lt c1_
  have hF : gF G G n gNone := gF.rf _ _ _
  have hl : lv_has ls 4 [(0, .ref mm), (1, .int 6)] := hl
  refine lv_aload_n hx hb dX4_isWord_0 rfl (lv_at hl 0 rfl) ?_
  refine g_get C hI c0_ kc23 15 rfl q2582 (fun _ h9 => h9) dX4_isWord_1 ?_
  refine lv_iconst (v := 1) hx hb dX4_isWord_4 (by decide) ?_
  refine lv_iadd hx hb dX4_isWord_5 ?_
  refine lv_aload_n hx hb dX4_isWord_6 rfl (lv_at hl 0 rfl) ?_
  refine g_get C hI c0_ kc23 8 rfl q2575 (fun _ h9 => h9) dX4_isWord_7 ?_
  refine lv_icmp_ge (tgt := 27) hx hb dX4_isWord_10 (by decide) (fun c_3421 => ?_) (fun c_3421 => ?_)
  · skip
    try have k_3422 : tn ≤ (p0 + 1) := (nI_leE hty (gadd hpl nl1) (by omega) (by omega)).mp c_3421
    have hnx : sHere tc tn (p0 + 1) = -1 := by unfold sHere; rw [if_pos (by omega)]
    refine lv_iconst (v := (-1)) hx hb dX4_isWord_27 (by decide) ?_
    refine lv_istore_n (lv' := [(2, .int (-1)), (0, .ref mm), (1, .int 6)]) hx hb dX4_isWord_28 rfl hl (by decide) rfl (fun ls hl => ?_)
    refine lv_iload_n hx hb dX4_isWord_29 rfl (lv_at hl 2 rfl) ?_
    refine lv_iconst (v := 1) hx hb dX4_isWord_30 (by decide) ?_
    refine lv_icmp_eq (tgt := 43) hx hb dX4_isWord_31 (by decide) (fun c_3423 => ?_) (fun c_3423 => ?_)
    · exact absurd c_3423 (by decide)
    · skip
      refine lv_iload_n hx hb dX4_isWord_34 rfl (lv_at hl 2 rfl) ?_
      refine lv_iconst (v := 2) hx hb dX4_isWord_35 (by decide) ?_
      refine lv_icmp_eq (tgt := 43) hx hb dX4_isWord_36 (by decide) (fun c_3424 => ?_) (fun c_3424 => ?_)
      · exact absurd c_3424 (by decide)
      · skip
        refine lv_iconst (v := 1) hx hb dX4_isWord_39 (by decide) ?_
        refine lv_goto (tgt := 44) hx hb dX4_isWord_40 (by decide) ?_
        refine lv_istore_n (lv' := [(3, .int 1), (2, .int (-1)), (0, .ref mm), (1, .int 6)]) hx hb dX4_isWord_44 rfl hl (by decide) rfl (fun ls hl => ?_)
        refine lv_iload_n hx hb dX4_isWord_45 rfl (lv_at hl 3 rfl) ?_
        refine g_S (As := [.int 6]) (rest := []) (lv := [(3, .int 1), (2, .int (-1)), (0, .ref mm), (1, .int 6)]) C hI hS (c_X4_word6 l hB G n   ) q2857 q2858 q94 q2859 (⟨by decide, by decide, by decide⟩ : gArg _ 1) rfl ⟨by decide, by decide⟩ (by omega) hl rfl (Nat.le_of_ble_eq_true rfl) dX4_isWord_46 (fun v3425 G3426 n3427 H locs hp3428 hI hS => ?_) gKx.no
        obtain ⟨rfl, eG3426, en3427⟩ := hp3428
        refine W.widen (k := 0) (n := 200 * (0)) (by omega) (by omega) ?_
        rw [eG3426, en3427] at hI
        have lc3431 : gk D 131 < gz D := (hB.tx (j := 31) rfl).1
        have lc3432 : gk D 231 < gz D := (hB.tx (j := 31) rfl).2.1
        have c3431 : G (gk D 131) = some (.inl (21, [.ref (gk D 231), .int 0, .int 1197703536, .int 0])) := hI.bs ⟨lc3431, (hB.tx (j := 31) rfl).2.2.1⟩
        have c3432 : G (gk D 231) = some (aB (([114, 105, 100, 100, 108, 101, 32] : List Nat).length) (fun i => nI (([114, 105, 100, 100, 108, 101, 32] : List Nat).getD i 0))) := hI.bs ⟨lc3432, (hB.tx (j := 31) rfl).2.2.2⟩
        refine lv_iconst (v := 0) hx hb dX4_isWord_49 (by decide) ?_
        refine g_V (As := [.int 0]) (rest := []) (lv := [(3, .int 1), (2, .int (-1)), (0, .ref mm), (1, .int 6)]) C hI hS (c_J11_charAt l hB G n (gk D 131) (gk D 231) 1197703536 0 (([114, 105, 100, 100, 108, 101, 32] : List Nat).length) (fun i => nI (([114, 105, 100, 100, 108, 101, 32] : List Nat).getD i 0)) 0 114 0 c3431 c3432 nl0 (by decide) (by decide) (chB (q := 114) (by decide)) (by decide)) c3431 rfl rfl q2868 q2158 q2991 q92 q2160 (⟨by decide, by decide, by decide⟩ : gArg _ 1) rfl ⟨by decide, by decide⟩ (by omega) hl rfl (Nat.le_of_ble_eq_true rfl) dX4_isWord_50 (fun v3433 G3434 n3435 H locs hp3436 hI hS => ?_) gKx.no
        obtain ⟨rfl, eG3434, en3435⟩ := hp3436
        refine W.widen (k := 0) (n := 200 * (0)) (by omega) (by omega) ?_
        rw [eG3434, en3435] at hI
        refine lv_aload_n hx hb dX4_isWord_53 rfl (lv_at hl 2 rfl) ?_
        refine g_V (As := []) (rest := [.int (nI 114)]) (lv := [(3, .int 1), (2, .int (-1)), (0, .ref mm), (1, .int 6)]) C hI hS (c_X4_here l hB G n mm ag ab ah ch asv hs aas ain ty er awy ir ali ln th pl wr ato tc tn p0 c0_ c1_ hty (by omega) hpl (by omega)) c0_ rfl rfl q2869 q2871 qs63 q94 q2872 (⟨by decide, by decide, by decide⟩ : gArg _ 0) rfl ⟨by decide, by decide⟩ (by omega) hl rfl (Nat.le_of_ble_eq_true rfl) dX4_isWord_54 (fun v3439 G3440 n3441 H locs hp3442 hI hS => ?_) gKx.no
        obtain ⟨rfl, eG3440, en3441⟩ := hp3442
        refine W.widen (k := 0) (n := 200 * (0)) (by omega) (by omega) ?_
        rw [eG3440, en3441] at hI
        refine lv_icmp_ne (tgt := 80) hx hb dX4_isWord_57 (by decide) (fun c_3445 => ?_) (fun c_3445 => ?_)
        · skip
          refine lv_iconst (v := 0) hx hb dX4_isWord_80 (by decide) ?_
          exact g_zret C hI hS (by omega) rfl ⟨(by simp [sIsW, wL, c_3421, hnx, c_3423, c_3424, c_3445]), rfl, rfl⟩ dX4_isWord_81
        · skip
          refine lv_iload_n hx hb dX4_isWord_60 rfl (lv_at hl 0 rfl) ?_
          refine lv_if_ne (tgt := 76) hx hb dX4_isWord_61 (by decide) (fun c_3446 => ?_) (fun c_3446 => ?_)
          · skip
            refine lv_iconst (v := 1) hx hb dX4_isWord_76 (by decide) ?_
            refine lv_goto (tgt := 81) hx hb dX4_isWord_77 (by decide) ?_
            exact g_zret C hI hS (by omega) rfl ⟨(by simp [sIsW, wL, c_3421, hnx, c_3423, c_3424, c_3445, c_3446]), rfl, rfl⟩ dX4_isWord_81
          · exact absurd c_3446 (by decide)
  · skip
    try have k_3447 : ¬ (tn ≤ (p0 + 1)) := (not_congr (nI_leE hty (gadd hpl nl1) (by omega) (by omega))).mp c_3421
    have hnx : sHere tc tn (p0 + 1) = nI (tc (p0 + 1)) := by unfold sHere; rw [if_neg (by omega)]
    refine lv_aload_n hx hb dX4_isWord_13 rfl (lv_at hl 0 rfl) ?_
    refine g_get C hI c0_ kc23 7 rfl q2574 (fun _ h9 => h9) dX4_isWord_14 ?_
    refine lv_aload_n hx hb dX4_isWord_17 rfl (lv_at hl 0 rfl) ?_
    refine g_get C hI c0_ kc23 15 rfl q2582 (fun _ h9 => h9) dX4_isWord_18 ?_
    refine lv_iconst (v := 1) hx hb dX4_isWord_21 (by decide) ?_
    refine lv_iadd hx hb dX4_isWord_22 ?_
    refine g_cald (v := .int (nI (tc (p0 + 1)))) C hI c1_ (gix (gadd hpl nl1) (by omega) (by omega)) (congrArg Value.int (gixv (f := fun k => nI (tc k)) (gadd hpl nl1) (by omega))) dX4_isWord_23 ?_
    refine lv_goto (tgt := 28) hx hb dX4_isWord_24 (by decide) ?_
    refine lv_istore_n (lv' := [(2, .int (nI (tc (p0 + 1)))), (0, .ref mm), (1, .int 6)]) hx hb dX4_isWord_28 rfl hl (by decide) rfl (fun ls hl => ?_)
    refine lv_iload_n hx hb dX4_isWord_29 rfl (lv_at hl 2 rfl) ?_
    refine lv_iconst (v := 1) hx hb dX4_isWord_30 (by decide) ?_
    refine lv_icmp_eq (tgt := 43) hx hb dX4_isWord_31 (by decide) (fun c_3448 => ?_) (fun c_3448 => ?_)
    · exact absurd c_3448 (by decide)
    · skip
      refine lv_iload_n hx hb dX4_isWord_34 rfl (lv_at hl 2 rfl) ?_
      refine lv_iconst (v := 2) hx hb dX4_isWord_35 (by decide) ?_
      refine lv_icmp_eq (tgt := 43) hx hb dX4_isWord_36 (by decide) (fun c_3449 => ?_) (fun c_3449 => ?_)
      · exact absurd c_3449 (by decide)
      · skip
        refine lv_iconst (v := 1) hx hb dX4_isWord_39 (by decide) ?_
        refine lv_goto (tgt := 44) hx hb dX4_isWord_40 (by decide) ?_
        refine lv_istore_n (lv' := [(3, .int 1), (2, .int (nI (tc (p0 + 1)))), (0, .ref mm), (1, .int 6)]) hx hb dX4_isWord_44 rfl hl (by decide) rfl (fun ls hl => ?_)
        refine lv_iload_n hx hb dX4_isWord_45 rfl (lv_at hl 3 rfl) ?_
        refine g_S (As := [.int 6]) (rest := []) (lv := [(3, .int 1), (2, .int (nI (tc (p0 + 1)))), (0, .ref mm), (1, .int 6)]) C hI hS (c_X4_word6 l hB G n   ) q2857 q2858 q94 q2859 (⟨by decide, by decide, by decide⟩ : gArg _ 1) rfl ⟨by decide, by decide⟩ (by omega) hl rfl (Nat.le_of_ble_eq_true rfl) dX4_isWord_46 (fun v3450 G3451 n3452 H locs hp3453 hI hS => ?_) gKx.no
        obtain ⟨rfl, eG3451, en3452⟩ := hp3453
        refine W.widen (k := 0) (n := 200 * (0)) (by omega) (by omega) ?_
        rw [eG3451, en3452] at hI
        have lc3456 : gk D 131 < gz D := (hB.tx (j := 31) rfl).1
        have lc3457 : gk D 231 < gz D := (hB.tx (j := 31) rfl).2.1
        have c3456 : G (gk D 131) = some (.inl (21, [.ref (gk D 231), .int 0, .int 1197703536, .int 0])) := hI.bs ⟨lc3456, (hB.tx (j := 31) rfl).2.2.1⟩
        have c3457 : G (gk D 231) = some (aB (([114, 105, 100, 100, 108, 101, 32] : List Nat).length) (fun i => nI (([114, 105, 100, 100, 108, 101, 32] : List Nat).getD i 0))) := hI.bs ⟨lc3457, (hB.tx (j := 31) rfl).2.2.2⟩
        refine lv_iconst (v := 0) hx hb dX4_isWord_49 (by decide) ?_
        refine g_V (As := [.int 0]) (rest := []) (lv := [(3, .int 1), (2, .int (nI (tc (p0 + 1)))), (0, .ref mm), (1, .int 6)]) C hI hS (c_J11_charAt l hB G n (gk D 131) (gk D 231) 1197703536 0 (([114, 105, 100, 100, 108, 101, 32] : List Nat).length) (fun i => nI (([114, 105, 100, 100, 108, 101, 32] : List Nat).getD i 0)) 0 114 0 c3456 c3457 nl0 (by decide) (by decide) (chB (q := 114) (by decide)) (by decide)) c3456 rfl rfl q2868 q2158 q2991 q92 q2160 (⟨by decide, by decide, by decide⟩ : gArg _ 1) rfl ⟨by decide, by decide⟩ (by omega) hl rfl (Nat.le_of_ble_eq_true rfl) dX4_isWord_50 (fun v3458 G3459 n3460 H locs hp3461 hI hS => ?_) gKx.no
        obtain ⟨rfl, eG3459, en3460⟩ := hp3461
        refine W.widen (k := 0) (n := 200 * (0)) (by omega) (by omega) ?_
        rw [eG3459, en3460] at hI
        refine lv_aload_n hx hb dX4_isWord_53 rfl (lv_at hl 2 rfl) ?_
        refine g_V (As := []) (rest := [.int (nI 114)]) (lv := [(3, .int 1), (2, .int (nI (tc (p0 + 1)))), (0, .ref mm), (1, .int 6)]) C hI hS (c_X4_here l hB G n mm ag ab ah ch asv hs aas ain ty er awy ir ali ln th pl wr ato tc tn p0 c0_ c1_ hty (by omega) hpl (by omega)) c0_ rfl rfl q2869 q2871 qs63 q94 q2872 (⟨by decide, by decide, by decide⟩ : gArg _ 0) rfl ⟨by decide, by decide⟩ (by omega) hl rfl (Nat.le_of_ble_eq_true rfl) dX4_isWord_54 (fun v3464 G3465 n3466 H locs hp3467 hI hS => ?_) gKx.no
        obtain ⟨rfl, eG3465, en3466⟩ := hp3467
        refine W.widen (k := 0) (n := 200 * (0)) (by omega) (by omega) ?_
        rw [eG3465, en3466] at hI
        refine lv_icmp_ne (tgt := 80) hx hb dX4_isWord_57 (by decide) (fun c_3470 => ?_) (fun c_3470 => ?_)
        · skip
          refine lv_iconst (v := 0) hx hb dX4_isWord_80 (by decide) ?_
          exact g_zret C hI hS (by omega) rfl ⟨(by simp [sIsW, wL, c_3421, hnx, c_3448, c_3449, c_3470]), rfl, rfl⟩ dX4_isWord_81
        · skip
          refine lv_iload_n hx hb dX4_isWord_60 rfl (lv_at hl 0 rfl) ?_
          refine lv_if_ne (tgt := 76) hx hb dX4_isWord_61 (by decide) (fun c_3471 => ?_) (fun c_3471 => ?_)
          · skip
            refine lv_iconst (v := 1) hx hb dX4_isWord_76 (by decide) ?_
            refine lv_goto (tgt := 81) hx hb dX4_isWord_77 (by decide) ?_
            exact g_zret C hI hS (by omega) rfl ⟨(by simp [sIsW, wL, c_3421, hnx, c_3448, c_3449, c_3470, c_3471]), rfl, rfl⟩ dX4_isWord_81
          · exact absurd c_3471 (by decide)
set_option maxHeartbeats 4000000 in
set_option maxRecDepth 100000 in
theorem c_X4_isWord7 (l : Launch) {D : gD} (hB : gBs D) (G : gH) (n : Nat) (mm : Nat) (ag : Nat) (ab : Nat) (ah : Nat) (ch : Int32) (asv : Nat) (hs : Int32) (aas : Nat) (ain : Nat) (ty : Int32) (er : Int32) (awy : Nat) (ir : Int32) (ali : Nat) (ln : Int32) (th : Int32) (pl : Int32) (wr : Int32) (ato : Nat) (tc : Nat → Nat) (tn : Nat) (p0 : Nat) (c0_ : G mm = some (.inl (23, [.ref ag, .ref ab, .ref ah, .int ch, .ref asv, .int hs, .ref aas, .ref ain, .int ty, .int er, .ref awy, .int ir, .ref ali, .int ln, .int th, .int pl, .int wr, .ref ato]))) (c1_ : G ain = some (aC 60 (fun k => nI (tc k)))) (hty : ty = nI tn) (ht60 : tn ≤ 60) (hpl : pl = nI p0) (hp60 : p0 ≤ tn) : gMet l D yX4_isWord (ws_ yX4_isWord cX4_isWord 4 (some FieldType.boolean)) 5 0 G n [.ref mm, .int 7] (fun (v : Option Value) (G1 : gH) (n1 : Nat) => v = some (.int (sIsW tc tn 7 p0)) ∧ G1 = G ∧ n1 = n) gNox := by
  refine g_start (by decide) (Nat.le_of_ble_eq_true rfl) ?_
  intro p e s m below meth c ls C hnm hxt hI hl
  have hx := C.x
  have hb := C.b
  have hS : va_S (gA D) s.heap s.heap [] := va_S.rf
  have hz0 := hI.z
  have lc0_ := hI.lt c0_
  have lc1_ := hI.lt c1_
  have hF : gF G G n gNone := gF.rf _ _ _
  have hl : lv_has ls 4 [(0, .ref mm), (1, .int 7)] := hl
  refine lv_aload_n hx hb dX4_isWord_0 rfl (lv_at hl 0 rfl) ?_
  refine g_get C hI c0_ kc23 15 rfl q2582 (fun _ h9 => h9) dX4_isWord_1 ?_
  refine lv_iconst (v := 1) hx hb dX4_isWord_4 (by decide) ?_
  refine lv_iadd hx hb dX4_isWord_5 ?_
  refine lv_aload_n hx hb dX4_isWord_6 rfl (lv_at hl 0 rfl) ?_
  refine g_get C hI c0_ kc23 8 rfl q2575 (fun _ h9 => h9) dX4_isWord_7 ?_
  refine lv_icmp_ge (tgt := 27) hx hb dX4_isWord_10 (by decide) (fun c_3472 => ?_) (fun c_3472 => ?_)
  · skip
    try have k_3473 : tn ≤ (p0 + 1) := (nI_leE hty (gadd hpl nl1) (by omega) (by omega)).mp c_3472
    have hnx : sHere tc tn (p0 + 1) = -1 := by unfold sHere; rw [if_pos (by omega)]
    refine lv_iconst (v := (-1)) hx hb dX4_isWord_27 (by decide) ?_
    refine lv_istore_n (lv' := [(2, .int (-1)), (0, .ref mm), (1, .int 7)]) hx hb dX4_isWord_28 rfl hl (by decide) rfl (fun ls hl => ?_)
    refine lv_iload_n hx hb dX4_isWord_29 rfl (lv_at hl 2 rfl) ?_
    refine lv_iconst (v := 1) hx hb dX4_isWord_30 (by decide) ?_
    refine lv_icmp_eq (tgt := 43) hx hb dX4_isWord_31 (by decide) (fun c_3474 => ?_) (fun c_3474 => ?_)
    · exact absurd c_3474 (by decide)
    · skip
      refine lv_iload_n hx hb dX4_isWord_34 rfl (lv_at hl 2 rfl) ?_
      refine lv_iconst (v := 2) hx hb dX4_isWord_35 (by decide) ?_
      refine lv_icmp_eq (tgt := 43) hx hb dX4_isWord_36 (by decide) (fun c_3475 => ?_) (fun c_3475 => ?_)
      · exact absurd c_3475 (by decide)
      · skip
        refine lv_iconst (v := 1) hx hb dX4_isWord_39 (by decide) ?_
        refine lv_goto (tgt := 44) hx hb dX4_isWord_40 (by decide) ?_
        refine lv_istore_n (lv' := [(3, .int 1), (2, .int (-1)), (0, .ref mm), (1, .int 7)]) hx hb dX4_isWord_44 rfl hl (by decide) rfl (fun ls hl => ?_)
        refine lv_iload_n hx hb dX4_isWord_45 rfl (lv_at hl 3 rfl) ?_
        refine g_S (As := [.int 7]) (rest := []) (lv := [(3, .int 1), (2, .int (-1)), (0, .ref mm), (1, .int 7)]) C hI hS (c_X4_word7 l hB G n   ) q2857 q2858 q94 q2859 (⟨by decide, by decide, by decide⟩ : gArg _ 1) rfl ⟨by decide, by decide⟩ (by omega) hl rfl (Nat.le_of_ble_eq_true rfl) dX4_isWord_46 (fun v3476 G3477 n3478 H locs hp3479 hI hS => ?_) gKx.no
        obtain ⟨rfl, eG3477, en3478⟩ := hp3479
        refine W.widen (k := 0) (n := 200 * (0)) (by omega) (by omega) ?_
        rw [eG3477, en3478] at hI
        have lc3482 : gk D 132 < gz D := (hB.tx (j := 32) rfl).1
        have lc3483 : gk D 232 < gz D := (hB.tx (j := 32) rfl).2.1
        have c3482 : G (gk D 132) = some (.inl (21, [.ref (gk D 232), .int 0, .int 95361705, .int 0])) := hI.bs ⟨lc3482, (hB.tx (j := 32) rfl).2.2.1⟩
        have c3483 : G (gk D 232) = some (aB (([100, 97, 121, 115, 32] : List Nat).length) (fun i => nI (([100, 97, 121, 115, 32] : List Nat).getD i 0))) := hI.bs ⟨lc3483, (hB.tx (j := 32) rfl).2.2.2⟩
        refine lv_iconst (v := 0) hx hb dX4_isWord_49 (by decide) ?_
        refine g_V (As := [.int 0]) (rest := []) (lv := [(3, .int 1), (2, .int (-1)), (0, .ref mm), (1, .int 7)]) C hI hS (c_J11_charAt l hB G n (gk D 132) (gk D 232) 95361705 0 (([100, 97, 121, 115, 32] : List Nat).length) (fun i => nI (([100, 97, 121, 115, 32] : List Nat).getD i 0)) 0 100 0 c3482 c3483 nl0 (by decide) (by decide) (chB (q := 100) (by decide)) (by decide)) c3482 rfl rfl q2868 q2158 q2991 q92 q2160 (⟨by decide, by decide, by decide⟩ : gArg _ 1) rfl ⟨by decide, by decide⟩ (by omega) hl rfl (Nat.le_of_ble_eq_true rfl) dX4_isWord_50 (fun v3484 G3485 n3486 H locs hp3487 hI hS => ?_) gKx.no
        obtain ⟨rfl, eG3485, en3486⟩ := hp3487
        refine W.widen (k := 0) (n := 200 * (0)) (by omega) (by omega) ?_
        rw [eG3485, en3486] at hI
        refine lv_aload_n hx hb dX4_isWord_53 rfl (lv_at hl 2 rfl) ?_
        refine g_V (As := []) (rest := [.int (nI 100)]) (lv := [(3, .int 1), (2, .int (-1)), (0, .ref mm), (1, .int 7)]) C hI hS (c_X4_here l hB G n mm ag ab ah ch asv hs aas ain ty er awy ir ali ln th pl wr ato tc tn p0 c0_ c1_ hty (by omega) hpl (by omega)) c0_ rfl rfl q2869 q2871 qs63 q94 q2872 (⟨by decide, by decide, by decide⟩ : gArg _ 0) rfl ⟨by decide, by decide⟩ (by omega) hl rfl (Nat.le_of_ble_eq_true rfl) dX4_isWord_54 (fun v3490 G3491 n3492 H locs hp3493 hI hS => ?_) gKx.no
        obtain ⟨rfl, eG3491, en3492⟩ := hp3493
        refine W.widen (k := 0) (n := 200 * (0)) (by omega) (by omega) ?_
        rw [eG3491, en3492] at hI
        refine lv_icmp_ne (tgt := 80) hx hb dX4_isWord_57 (by decide) (fun c_3496 => ?_) (fun c_3496 => ?_)
        · skip
          refine lv_iconst (v := 0) hx hb dX4_isWord_80 (by decide) ?_
          exact g_zret C hI hS (by omega) rfl ⟨(by simp [sIsW, wL, c_3472, hnx, c_3474, c_3475, c_3496]), rfl, rfl⟩ dX4_isWord_81
        · skip
          refine lv_iload_n hx hb dX4_isWord_60 rfl (lv_at hl 0 rfl) ?_
          refine lv_if_ne (tgt := 76) hx hb dX4_isWord_61 (by decide) (fun c_3497 => ?_) (fun c_3497 => ?_)
          · skip
            refine lv_iconst (v := 1) hx hb dX4_isWord_76 (by decide) ?_
            refine lv_goto (tgt := 81) hx hb dX4_isWord_77 (by decide) ?_
            exact g_zret C hI hS (by omega) rfl ⟨(by simp [sIsW, wL, c_3472, hnx, c_3474, c_3475, c_3496, c_3497]), rfl, rfl⟩ dX4_isWord_81
          · exact absurd c_3497 (by decide)
  · skip
    try have k_3498 : ¬ (tn ≤ (p0 + 1)) := (not_congr (nI_leE hty (gadd hpl nl1) (by omega) (by omega))).mp c_3472
    have hnx : sHere tc tn (p0 + 1) = nI (tc (p0 + 1)) := by unfold sHere; rw [if_neg (by omega)]
    refine lv_aload_n hx hb dX4_isWord_13 rfl (lv_at hl 0 rfl) ?_
    refine g_get C hI c0_ kc23 7 rfl q2574 (fun _ h9 => h9) dX4_isWord_14 ?_
    refine lv_aload_n hx hb dX4_isWord_17 rfl (lv_at hl 0 rfl) ?_
    refine g_get C hI c0_ kc23 15 rfl q2582 (fun _ h9 => h9) dX4_isWord_18 ?_
    refine lv_iconst (v := 1) hx hb dX4_isWord_21 (by decide) ?_
    refine lv_iadd hx hb dX4_isWord_22 ?_
    refine g_cald (v := .int (nI (tc (p0 + 1)))) C hI c1_ (gix (gadd hpl nl1) (by omega) (by omega)) (congrArg Value.int (gixv (f := fun k => nI (tc k)) (gadd hpl nl1) (by omega))) dX4_isWord_23 ?_
    refine lv_goto (tgt := 28) hx hb dX4_isWord_24 (by decide) ?_
    refine lv_istore_n (lv' := [(2, .int (nI (tc (p0 + 1)))), (0, .ref mm), (1, .int 7)]) hx hb dX4_isWord_28 rfl hl (by decide) rfl (fun ls hl => ?_)
    refine lv_iload_n hx hb dX4_isWord_29 rfl (lv_at hl 2 rfl) ?_
    refine lv_iconst (v := 1) hx hb dX4_isWord_30 (by decide) ?_
    refine lv_icmp_eq (tgt := 43) hx hb dX4_isWord_31 (by decide) (fun c_3499 => ?_) (fun c_3499 => ?_)
    · exact absurd c_3499 (by decide)
    · skip
      refine lv_iload_n hx hb dX4_isWord_34 rfl (lv_at hl 2 rfl) ?_
      refine lv_iconst (v := 2) hx hb dX4_isWord_35 (by decide) ?_
      refine lv_icmp_eq (tgt := 43) hx hb dX4_isWord_36 (by decide) (fun c_3500 => ?_) (fun c_3500 => ?_)
      · exact absurd c_3500 (by decide)
      · skip
        refine lv_iconst (v := 1) hx hb dX4_isWord_39 (by decide) ?_
        refine lv_goto (tgt := 44) hx hb dX4_isWord_40 (by decide) ?_
        refine lv_istore_n (lv' := [(3, .int 1), (2, .int (nI (tc (p0 + 1)))), (0, .ref mm), (1, .int 7)]) hx hb dX4_isWord_44 rfl hl (by decide) rfl (fun ls hl => ?_)
        refine lv_iload_n hx hb dX4_isWord_45 rfl (lv_at hl 3 rfl) ?_
        refine g_S (As := [.int 7]) (rest := []) (lv := [(3, .int 1), (2, .int (nI (tc (p0 + 1)))), (0, .ref mm), (1, .int 7)]) C hI hS (c_X4_word7 l hB G n   ) q2857 q2858 q94 q2859 (⟨by decide, by decide, by decide⟩ : gArg _ 1) rfl ⟨by decide, by decide⟩ (by omega) hl rfl (Nat.le_of_ble_eq_true rfl) dX4_isWord_46 (fun v3501 G3502 n3503 H locs hp3504 hI hS => ?_) gKx.no
        obtain ⟨rfl, eG3502, en3503⟩ := hp3504
        refine W.widen (k := 0) (n := 200 * (0)) (by omega) (by omega) ?_
        rw [eG3502, en3503] at hI
        have lc3507 : gk D 132 < gz D := (hB.tx (j := 32) rfl).1
        have lc3508 : gk D 232 < gz D := (hB.tx (j := 32) rfl).2.1
        have c3507 : G (gk D 132) = some (.inl (21, [.ref (gk D 232), .int 0, .int 95361705, .int 0])) := hI.bs ⟨lc3507, (hB.tx (j := 32) rfl).2.2.1⟩
        have c3508 : G (gk D 232) = some (aB (([100, 97, 121, 115, 32] : List Nat).length) (fun i => nI (([100, 97, 121, 115, 32] : List Nat).getD i 0))) := hI.bs ⟨lc3508, (hB.tx (j := 32) rfl).2.2.2⟩
        refine lv_iconst (v := 0) hx hb dX4_isWord_49 (by decide) ?_
        refine g_V (As := [.int 0]) (rest := []) (lv := [(3, .int 1), (2, .int (nI (tc (p0 + 1)))), (0, .ref mm), (1, .int 7)]) C hI hS (c_J11_charAt l hB G n (gk D 132) (gk D 232) 95361705 0 (([100, 97, 121, 115, 32] : List Nat).length) (fun i => nI (([100, 97, 121, 115, 32] : List Nat).getD i 0)) 0 100 0 c3507 c3508 nl0 (by decide) (by decide) (chB (q := 100) (by decide)) (by decide)) c3507 rfl rfl q2868 q2158 q2991 q92 q2160 (⟨by decide, by decide, by decide⟩ : gArg _ 1) rfl ⟨by decide, by decide⟩ (by omega) hl rfl (Nat.le_of_ble_eq_true rfl) dX4_isWord_50 (fun v3509 G3510 n3511 H locs hp3512 hI hS => ?_) gKx.no
        obtain ⟨rfl, eG3510, en3511⟩ := hp3512
        refine W.widen (k := 0) (n := 200 * (0)) (by omega) (by omega) ?_
        rw [eG3510, en3511] at hI
        refine lv_aload_n hx hb dX4_isWord_53 rfl (lv_at hl 2 rfl) ?_
        refine g_V (As := []) (rest := [.int (nI 100)]) (lv := [(3, .int 1), (2, .int (nI (tc (p0 + 1)))), (0, .ref mm), (1, .int 7)]) C hI hS (c_X4_here l hB G n mm ag ab ah ch asv hs aas ain ty er awy ir ali ln th pl wr ato tc tn p0 c0_ c1_ hty (by omega) hpl (by omega)) c0_ rfl rfl q2869 q2871 qs63 q94 q2872 (⟨by decide, by decide, by decide⟩ : gArg _ 0) rfl ⟨by decide, by decide⟩ (by omega) hl rfl (Nat.le_of_ble_eq_true rfl) dX4_isWord_54 (fun v3515 G3516 n3517 H locs hp3518 hI hS => ?_) gKx.no
        obtain ⟨rfl, eG3516, en3517⟩ := hp3518
        refine W.widen (k := 0) (n := 200 * (0)) (by omega) (by omega) ?_
        rw [eG3516, en3517] at hI
        refine lv_icmp_ne (tgt := 80) hx hb dX4_isWord_57 (by decide) (fun c_3521 => ?_) (fun c_3521 => ?_)
        · skip
          refine lv_iconst (v := 0) hx hb dX4_isWord_80 (by decide) ?_
          exact g_zret C hI hS (by omega) rfl ⟨(by simp [sIsW, wL, c_3472, hnx, c_3499, c_3500, c_3521]), rfl, rfl⟩ dX4_isWord_81
        · skip
          refine lv_iload_n hx hb dX4_isWord_60 rfl (lv_at hl 0 rfl) ?_
          refine lv_if_ne (tgt := 76) hx hb dX4_isWord_61 (by decide) (fun c_3522 => ?_) (fun c_3522 => ?_)
          · skip
            refine lv_iconst (v := 1) hx hb dX4_isWord_76 (by decide) ?_
            refine lv_goto (tgt := 81) hx hb dX4_isWord_77 (by decide) ?_
            exact g_zret C hI hS (by omega) rfl ⟨(by simp [sIsW, wL, c_3472, hnx, c_3499, c_3500, c_3521, c_3522]), rfl, rfl⟩ dX4_isWord_81
          · exact absurd c_3522 (by decide)
set_option maxHeartbeats 4000000 in
set_option maxRecDepth 100000 in
theorem c_X4_readsWord (l : Launch) {D : gD} (hB : gBs D) (G : gH) (n : Nat) (mm : Nat) (ag : Nat) (ab : Nat) (ah : Nat) (ch : Int32) (asv : Nat) (hs : Int32) (aas : Nat) (ain : Nat) (ty : Int32) (er : Int32) (awy : Nat) (ir : Int32) (ali : Nat) (ln : Int32) (th : Int32) (pl : Int32) (wr : Int32) (ato : Nat) (tc : Nat → Nat) (tn : Nat) (p0 : Nat) (c0_ : G mm = some (.inl (23, [.ref ag, .ref ab, .ref ah, .int ch, .ref asv, .int hs, .ref aas, .ref ain, .int ty, .int er, .ref awy, .int ir, .ref ali, .int ln, .int th, .int pl, .int wr, .ref ato]))) (c1_ : G ain = some (aC 60 (fun k => nI (tc k)))) (hz : gz D ≤ mm) (hty : ty = nI tn) (ht60 : tn ≤ 60) (hpl : pl = nI p0) (hp60 : p0 ≤ tn) (hw : wr = 0 ∨ wr = 1) : gMet l D yX4_readsWord (ws_ yX4_readsWord cX4_readsWord 2 (some FieldType.int)) 6 0 G n [.ref mm] (fun (v : Option Value) (G1 : gH) (n1 : Nat) => ∃ (r : Int32) (pl2 : Nat) (wr2 : Int32), v = some (.int r) ∧ n ≤ n1 ∧ gF G G1 n (fun q : Nat => q = mm) ∧ G1 mm = some (.inl (23, [.ref ag, .ref ab, .ref ah, .int ch, .ref asv, .int hs, .ref aas, .ref ain, .int ty, .int er, .ref awy, .int ir, .ref ali, .int ln, .int th, .int (nI pl2), .int wr2, .ref ato])) ∧ r = nI (sWd tc tn p0) ∧ sNT tc tn (wL (sWd tc tn p0)) (p0, wr) = (pl2, wr2) ∧ pl2 ≤ tn ∧ (wr2 = 0 ∨ wr2 = 1)) gNox := by
  refine g_start (by decide) (Nat.le_of_ble_eq_true rfl) ?_
  intro p e s m below meth c ls C hnm hxt hI hl
  have hx := C.x
  have hb := C.b
  have hS : va_S (gA D) s.heap s.heap [] := va_S.rf
  have hz0 := hI.z
  have lc0_ := hI.lt c0_
  have lc1_ := hI.lt c1_
  have hF : gF G G n (fun q : Nat => q = mm) := gF.rf _ _ _
  have hl : lv_has ls 2 [(0, .ref mm)] := hl
  refine lv_iconst (v := 0) hx hb dX4_readsWord_0 (by decide) ?_
  refine lv_istore_n (lv' := [(1, .int 0), (0, .ref mm)]) hx hb dX4_readsWord_1 rfl hl (by decide) rfl (fun ls hl => ?_)
  refine lv_iload_n hx hb dX4_readsWord_2 rfl (lv_at hl 0 rfl) ?_
  refine lv_bipush (v := 7) hx hb dX4_readsWord_3 (by decide) ?_
  refine lv_icmp_ge (tgt := 22) hx hb dX4_readsWord_5 (by decide) (fun c_3523 => ?_) (fun c_3523 => ?_)
  · exact absurd c_3523 (by decide)
  · skip
    refine lv_aload_n hx hb dX4_readsWord_8 rfl (lv_at hl 1 rfl) ?_
    refine lv_iload_n hx hb dX4_readsWord_9 rfl (lv_at hl 0 rfl) ?_
    refine g_V (As := [.int 0]) (rest := []) (lv := [(1, .int 0), (0, .ref mm)]) C hI hS (c_X4_isWord0 l hB G n mm ag ab ah ch asv hs aas ain ty er awy ir ali ln th pl wr ato tc tn p0 c0_ c1_ hty (by omega) hpl hp60) c0_ rfl rfl q2853 q2855 qs62 q94 q2856 (⟨by decide, by decide, by decide⟩ : gArg _ 1) rfl ⟨by decide, by decide⟩ (by omega) hl rfl (Nat.le_of_ble_eq_true rfl) dX4_readsWord_10 (fun v3524 G3525 n3526 H locs hp3527 hI hS => ?_) gKx.no
    obtain ⟨rfl, eG3525, en3526⟩ := hp3527
    refine W.widen (k := 0) (n := 200 * (0)) (by omega) (by omega) ?_
    rw [eG3525, en3526] at hI
    refine lv_if_ne (tgt := 22) hx hb dX4_readsWord_13 (by decide) (fun c_3530 => ?_) (fun c_3530 => ?_)
    · skip
      refine lv_aload_n hx hb dX4_readsWord_22 rfl (lv_at hl 1 rfl) ?_
      refine lv_iload_n hx hb dX4_readsWord_23 rfl (lv_at hl 0 rfl) ?_
      refine g_S (As := [.int 0]) (rest := [.ref mm]) (lv := [(1, .int 0), (0, .ref mm)]) C hI hS (c_X4_word0 l hB G n   ) q2857 q2858 q94 q2859 (⟨by decide, by decide, by decide⟩ : gArg _ 1) rfl ⟨by decide, by decide⟩ (by omega) hl rfl (Nat.le_of_ble_eq_true rfl) dX4_readsWord_24 (fun v3531 G3532 n3533 H locs hp3534 hI hS => ?_) gKx.no
      obtain ⟨rfl, eG3532, en3533⟩ := hp3534
      refine W.widen (k := 0) (n := 200 * (0)) (by omega) (by omega) ?_
      rw [eG3532, en3533] at hI
      have lc3537 : gk D 125 < gz D := (hB.tx (j := 25) rfl).1
      have lc3538 : gk D 225 < gz D := (hB.tx (j := 25) rfl).2.1
      have c3537 : G (gk D 125) = some (.inl (21, [.ref (gk D 225), .int 0, .int 3422866, .int 0])) := hI.bs ⟨lc3537, (hB.tx (j := 25) rfl).2.2.1⟩
      have c3538 : G (gk D 225) = some (aB (([111, 117, 116, 32] : List Nat).length) (fun i => nI (([111, 117, 116, 32] : List Nat).getD i 0))) := hI.bs ⟨lc3538, (hB.tx (j := 25) rfl).2.2.2⟩
      refine g_V (As := [.ref (gk D 125)]) (rest := []) (lv := [(1, .int 0), (0, .ref mm)]) C hI hS (c_X4_needsText l hB G n mm ag ab ah ch asv hs aas ain ty er awy ir ali ln th pl wr ato tc tn p0 (gk D 225) 3422866 0 ([111, 117, 116, 32] : List Nat) (gk D 125) c0_ c1_ c3537 c3538 (by omega) hty (by omega) hpl hp60 hw (by decide) (by decide)) c0_ rfl rfl q2873 q2875 qs64 q94 q2876 (⟨by decide, by decide, by decide⟩ : gArg _ 1) rfl ⟨by decide, by decide⟩ (by omega) hl rfl (Nat.le_of_ble_eq_true rfl) dX4_readsWord_27 (fun v3539 G3540 n3541 H locs hp3542 hI hS => ?_) gKx.no
      obtain ⟨pl2_3543, wr2_3544, rfl, hn3545, hF3546, c3547, hq3548, hle3549, hw23550⟩ := hp3542
      refine W.widen (k := 0) (n := 200 * (0)) (by omega) (by omega) ?_
      have c1_ := hF3546.at c1_ (by omega) (g_on c1_ c0_)
      have c3537 := hF3546.at c3537 (by omega) (g_nc c3537 c0_ (by decide))
      have c3538 := hF3546.at c3538 (by omega) (g_on c3538 c0_)
      have hF := hF.trans hF3546 (by omega) (fun q hq => (fun h => h ▸ rfl))
      refine lv_iload_n hx hb dX4_readsWord_30 rfl (lv_at hl 0 rfl) ?_
      have hwk : sWd tc tn p0 = 0 := (by simp [sWd, sWdF, c_3523, c_3530])
      exact g_iret C hI hS (by omega) ⟨0, pl2_3543, wr2_3544, rfl, (by omega), hF, c3547, (by rw [hwk]; rfl), (by rw [hwk]; exact hq3548), hle3549, hw23550⟩ dX4_readsWord_31
    · skip
      refine lv_iinc (v := 1) (lv' := [(1, .int 1), (0, .ref mm)]) hx hb dX4_readsWord_16 hl (k := 0) rfl (by first | rfl | decide) (by decide) rfl (fun ls hl => ?_)
      refine lv_goto (tgt := 2) hx hb dX4_readsWord_19 (by decide) ?_
      refine lv_iload_n hx hb dX4_readsWord_2 rfl (lv_at hl 0 rfl) ?_
      refine lv_bipush (v := 7) hx hb dX4_readsWord_3 (by decide) ?_
      refine lv_icmp_ge (tgt := 22) hx hb dX4_readsWord_5 (by decide) (fun c_3551 => ?_) (fun c_3551 => ?_)
      · exact absurd c_3551 (by decide)
      · skip
        refine lv_aload_n hx hb dX4_readsWord_8 rfl (lv_at hl 1 rfl) ?_
        refine lv_iload_n hx hb dX4_readsWord_9 rfl (lv_at hl 0 rfl) ?_
        refine g_V (As := [.int 1]) (rest := []) (lv := [(1, .int 1), (0, .ref mm)]) C hI hS (c_X4_isWord1 l hB G n mm ag ab ah ch asv hs aas ain ty er awy ir ali ln th pl wr ato tc tn p0 c0_ c1_ hty (by omega) hpl hp60) c0_ rfl rfl q2853 q2855 qs62 q94 q2856 (⟨by decide, by decide, by decide⟩ : gArg _ 1) rfl ⟨by decide, by decide⟩ (by omega) hl rfl (Nat.le_of_ble_eq_true rfl) dX4_readsWord_10 (fun v3552 G3553 n3554 H locs hp3555 hI hS => ?_) gKx.no
        obtain ⟨rfl, eG3553, en3554⟩ := hp3555
        refine W.widen (k := 0) (n := 200 * (0)) (by omega) (by omega) ?_
        rw [eG3553, en3554] at hI
        refine lv_if_ne (tgt := 22) hx hb dX4_readsWord_13 (by decide) (fun c_3558 => ?_) (fun c_3558 => ?_)
        · skip
          refine lv_aload_n hx hb dX4_readsWord_22 rfl (lv_at hl 1 rfl) ?_
          refine lv_iload_n hx hb dX4_readsWord_23 rfl (lv_at hl 0 rfl) ?_
          refine g_S (As := [.int 1]) (rest := [.ref mm]) (lv := [(1, .int 1), (0, .ref mm)]) C hI hS (c_X4_word1 l hB G n   ) q2857 q2858 q94 q2859 (⟨by decide, by decide, by decide⟩ : gArg _ 1) rfl ⟨by decide, by decide⟩ (by omega) hl rfl (Nat.le_of_ble_eq_true rfl) dX4_readsWord_24 (fun v3559 G3560 n3561 H locs hp3562 hI hS => ?_) gKx.no
          obtain ⟨rfl, eG3560, en3561⟩ := hp3562
          refine W.widen (k := 0) (n := 200 * (0)) (by omega) (by omega) ?_
          rw [eG3560, en3561] at hI
          have lc3565 : gk D 126 < gz D := (hB.tx (j := 26) rfl).1
          have lc3566 : gk D 226 < gz D := (hB.tx (j := 26) rfl).2.1
          have c3565 : G (gk D 126) = some (.inl (21, [.ref (gk D 226), .int 0, .int 99460897, .int 0])) := hI.bs ⟨lc3565, (hB.tx (j := 26) rfl).2.2.1⟩
          have c3566 : G (gk D 226) = some (aB (([104, 111, 109, 101, 32] : List Nat).length) (fun i => nI (([104, 111, 109, 101, 32] : List Nat).getD i 0))) := hI.bs ⟨lc3566, (hB.tx (j := 26) rfl).2.2.2⟩
          refine g_V (As := [.ref (gk D 126)]) (rest := []) (lv := [(1, .int 1), (0, .ref mm)]) C hI hS (c_X4_needsText l hB G n mm ag ab ah ch asv hs aas ain ty er awy ir ali ln th pl wr ato tc tn p0 (gk D 226) 99460897 0 ([104, 111, 109, 101, 32] : List Nat) (gk D 126) c0_ c1_ c3565 c3566 (by omega) hty (by omega) hpl hp60 hw (by decide) (by decide)) c0_ rfl rfl q2873 q2875 qs64 q94 q2876 (⟨by decide, by decide, by decide⟩ : gArg _ 1) rfl ⟨by decide, by decide⟩ (by omega) hl rfl (Nat.le_of_ble_eq_true rfl) dX4_readsWord_27 (fun v3567 G3568 n3569 H locs hp3570 hI hS => ?_) gKx.no
          obtain ⟨pl2_3571, wr2_3572, rfl, hn3573, hF3574, c3575, hq3576, hle3577, hw23578⟩ := hp3570
          refine W.widen (k := 0) (n := 200 * (0)) (by omega) (by omega) ?_
          have c1_ := hF3574.at c1_ (by omega) (g_on c1_ c0_)
          have c3565 := hF3574.at c3565 (by omega) (g_nc c3565 c0_ (by decide))
          have c3566 := hF3574.at c3566 (by omega) (g_on c3566 c0_)
          have hF := hF.trans hF3574 (by omega) (fun q hq => (fun h => h ▸ rfl))
          refine lv_iload_n hx hb dX4_readsWord_30 rfl (lv_at hl 0 rfl) ?_
          have hwk : sWd tc tn p0 = 1 := (by simp [sWd, sWdF, c_3523, eq_true c_3530, c_3551, c_3558])
          exact g_iret C hI hS (by omega) ⟨1, pl2_3571, wr2_3572, rfl, (by omega), hF, c3575, (by rw [hwk]; rfl), (by rw [hwk]; exact hq3576), hle3577, hw23578⟩ dX4_readsWord_31
        · skip
          refine lv_iinc (v := 2) (lv' := [(1, .int 2), (0, .ref mm)]) hx hb dX4_readsWord_16 hl (k := 0) rfl (by first | rfl | decide) (by decide) rfl (fun ls hl => ?_)
          refine lv_goto (tgt := 2) hx hb dX4_readsWord_19 (by decide) ?_
          refine lv_iload_n hx hb dX4_readsWord_2 rfl (lv_at hl 0 rfl) ?_
          refine lv_bipush (v := 7) hx hb dX4_readsWord_3 (by decide) ?_
          refine lv_icmp_ge (tgt := 22) hx hb dX4_readsWord_5 (by decide) (fun c_3579 => ?_) (fun c_3579 => ?_)
          · exact absurd c_3579 (by decide)
          · skip
            refine lv_aload_n hx hb dX4_readsWord_8 rfl (lv_at hl 1 rfl) ?_
            refine lv_iload_n hx hb dX4_readsWord_9 rfl (lv_at hl 0 rfl) ?_
            refine g_V (As := [.int 2]) (rest := []) (lv := [(1, .int 2), (0, .ref mm)]) C hI hS (c_X4_isWord2 l hB G n mm ag ab ah ch asv hs aas ain ty er awy ir ali ln th pl wr ato tc tn p0 c0_ c1_ hty (by omega) hpl hp60) c0_ rfl rfl q2853 q2855 qs62 q94 q2856 (⟨by decide, by decide, by decide⟩ : gArg _ 1) rfl ⟨by decide, by decide⟩ (by omega) hl rfl (Nat.le_of_ble_eq_true rfl) dX4_readsWord_10 (fun v3580 G3581 n3582 H locs hp3583 hI hS => ?_) gKx.no
            obtain ⟨rfl, eG3581, en3582⟩ := hp3583
            refine W.widen (k := 0) (n := 200 * (0)) (by omega) (by omega) ?_
            rw [eG3581, en3582] at hI
            refine lv_if_ne (tgt := 22) hx hb dX4_readsWord_13 (by decide) (fun c_3586 => ?_) (fun c_3586 => ?_)
            · skip
              refine lv_aload_n hx hb dX4_readsWord_22 rfl (lv_at hl 1 rfl) ?_
              refine lv_iload_n hx hb dX4_readsWord_23 rfl (lv_at hl 0 rfl) ?_
              refine g_S (As := [.int 2]) (rest := [.ref mm]) (lv := [(1, .int 2), (0, .ref mm)]) C hI hS (c_X4_word2 l hB G n   ) q2857 q2858 q94 q2859 (⟨by decide, by decide, by decide⟩ : gArg _ 1) rfl ⟨by decide, by decide⟩ (by omega) hl rfl (Nat.le_of_ble_eq_true rfl) dX4_readsWord_24 (fun v3587 G3588 n3589 H locs hp3590 hI hS => ?_) gKx.no
              obtain ⟨rfl, eG3588, en3589⟩ := hp3590
              refine W.widen (k := 0) (n := 200 * (0)) (by omega) (by omega) ?_
              rw [eG3588, en3589] at hI
              have lc3593 : gk D 127 < gz D := (hB.tx (j := 27) rfl).1
              have lc3594 : gk D 227 < gz D := (hB.tx (j := 27) rfl).2.1
              have c3593 : G (gk D 127) = some (.inl (21, [.ref (gk D 227), .int 0, .int (-903151647), .int 0])) := hI.bs ⟨lc3593, (hB.tx (j := 27) rfl).2.2.1⟩
              have c3594 : G (gk D 227) = some (aB (([115, 104, 111, 111, 116, 32] : List Nat).length) (fun i => nI (([115, 104, 111, 111, 116, 32] : List Nat).getD i 0))) := hI.bs ⟨lc3594, (hB.tx (j := 27) rfl).2.2.2⟩
              refine g_V (As := [.ref (gk D 127)]) (rest := []) (lv := [(1, .int 2), (0, .ref mm)]) C hI hS (c_X4_needsText l hB G n mm ag ab ah ch asv hs aas ain ty er awy ir ali ln th pl wr ato tc tn p0 (gk D 227) (-903151647) 0 ([115, 104, 111, 111, 116, 32] : List Nat) (gk D 127) c0_ c1_ c3593 c3594 (by omega) hty (by omega) hpl hp60 hw (by decide) (by decide)) c0_ rfl rfl q2873 q2875 qs64 q94 q2876 (⟨by decide, by decide, by decide⟩ : gArg _ 1) rfl ⟨by decide, by decide⟩ (by omega) hl rfl (Nat.le_of_ble_eq_true rfl) dX4_readsWord_27 (fun v3595 G3596 n3597 H locs hp3598 hI hS => ?_) gKx.no
              obtain ⟨pl2_3599, wr2_3600, rfl, hn3601, hF3602, c3603, hq3604, hle3605, hw23606⟩ := hp3598
              refine W.widen (k := 0) (n := 200 * (0)) (by omega) (by omega) ?_
              have c1_ := hF3602.at c1_ (by omega) (g_on c1_ c0_)
              have c3593 := hF3602.at c3593 (by omega) (g_nc c3593 c0_ (by decide))
              have c3594 := hF3602.at c3594 (by omega) (g_on c3594 c0_)
              have hF := hF.trans hF3602 (by omega) (fun q hq => (fun h => h ▸ rfl))
              refine lv_iload_n hx hb dX4_readsWord_30 rfl (lv_at hl 0 rfl) ?_
              have hwk : sWd tc tn p0 = 2 := (by simp [sWd, sWdF, c_3523, eq_true c_3530, c_3551, eq_true c_3558, c_3579, c_3586])
              exact g_iret C hI hS (by omega) ⟨2, pl2_3599, wr2_3600, rfl, (by omega), hF, c3603, (by rw [hwk]; rfl), (by rw [hwk]; exact hq3604), hle3605, hw23606⟩ dX4_readsWord_31
            · skip
              refine lv_iinc (v := 3) (lv' := [(1, .int 3), (0, .ref mm)]) hx hb dX4_readsWord_16 hl (k := 0) rfl (by first | rfl | decide) (by decide) rfl (fun ls hl => ?_)
              refine lv_goto (tgt := 2) hx hb dX4_readsWord_19 (by decide) ?_
              refine lv_iload_n hx hb dX4_readsWord_2 rfl (lv_at hl 0 rfl) ?_
              refine lv_bipush (v := 7) hx hb dX4_readsWord_3 (by decide) ?_
              refine lv_icmp_ge (tgt := 22) hx hb dX4_readsWord_5 (by decide) (fun c_3607 => ?_) (fun c_3607 => ?_)
              · exact absurd c_3607 (by decide)
              · skip
                refine lv_aload_n hx hb dX4_readsWord_8 rfl (lv_at hl 1 rfl) ?_
                refine lv_iload_n hx hb dX4_readsWord_9 rfl (lv_at hl 0 rfl) ?_
                refine g_V (As := [.int 3]) (rest := []) (lv := [(1, .int 3), (0, .ref mm)]) C hI hS (c_X4_isWord3 l hB G n mm ag ab ah ch asv hs aas ain ty er awy ir ali ln th pl wr ato tc tn p0 c0_ c1_ hty (by omega) hpl hp60) c0_ rfl rfl q2853 q2855 qs62 q94 q2856 (⟨by decide, by decide, by decide⟩ : gArg _ 1) rfl ⟨by decide, by decide⟩ (by omega) hl rfl (Nat.le_of_ble_eq_true rfl) dX4_readsWord_10 (fun v3608 G3609 n3610 H locs hp3611 hI hS => ?_) gKx.no
                obtain ⟨rfl, eG3609, en3610⟩ := hp3611
                refine W.widen (k := 0) (n := 200 * (0)) (by omega) (by omega) ?_
                rw [eG3609, en3610] at hI
                refine lv_if_ne (tgt := 22) hx hb dX4_readsWord_13 (by decide) (fun c_3614 => ?_) (fun c_3614 => ?_)
                · skip
                  refine lv_aload_n hx hb dX4_readsWord_22 rfl (lv_at hl 1 rfl) ?_
                  refine lv_iload_n hx hb dX4_readsWord_23 rfl (lv_at hl 0 rfl) ?_
                  refine g_S (As := [.int 3]) (rest := [.ref mm]) (lv := [(1, .int 3), (0, .ref mm)]) C hI hS (c_X4_word3 l hB G n   ) q2857 q2858 q94 q2859 (⟨by decide, by decide, by decide⟩ : gArg _ 1) rfl ⟨by decide, by decide⟩ (by omega) hl rfl (Nat.le_of_ble_eq_true rfl) dX4_readsWord_24 (fun v3615 G3616 n3617 H locs hp3618 hI hS => ?_) gKx.no
                  obtain ⟨rfl, eG3616, en3617⟩ := hp3618
                  refine W.widen (k := 0) (n := 200 * (0)) (by omega) (by omega) ?_
                  rw [eG3616, en3617] at hI
                  have lc3621 : gk D 128 < gz D := (hB.tx (j := 28) rfl).1
                  have lc3622 : gk D 228 < gz D := (hB.tx (j := 28) rfl).2.1
                  have c3621 : G (gk D 128) = some (.inl (21, [.ref (gk D 228), .int 0, .int 99051728, .int 0])) := hI.bs ⟨lc3621, (hB.tx (j := 28) rfl).2.2.1⟩
                  have c3622 : G (gk D 228) = some (aB (([104, 97, 117, 108, 32] : List Nat).length) (fun i => nI (([104, 97, 117, 108, 32] : List Nat).getD i 0))) := hI.bs ⟨lc3622, (hB.tx (j := 28) rfl).2.2.2⟩
                  refine g_V (As := [.ref (gk D 128)]) (rest := []) (lv := [(1, .int 3), (0, .ref mm)]) C hI hS (c_X4_needsText l hB G n mm ag ab ah ch asv hs aas ain ty er awy ir ali ln th pl wr ato tc tn p0 (gk D 228) 99051728 0 ([104, 97, 117, 108, 32] : List Nat) (gk D 128) c0_ c1_ c3621 c3622 (by omega) hty (by omega) hpl hp60 hw (by decide) (by decide)) c0_ rfl rfl q2873 q2875 qs64 q94 q2876 (⟨by decide, by decide, by decide⟩ : gArg _ 1) rfl ⟨by decide, by decide⟩ (by omega) hl rfl (Nat.le_of_ble_eq_true rfl) dX4_readsWord_27 (fun v3623 G3624 n3625 H locs hp3626 hI hS => ?_) gKx.no
                  obtain ⟨pl2_3627, wr2_3628, rfl, hn3629, hF3630, c3631, hq3632, hle3633, hw23634⟩ := hp3626
                  refine W.widen (k := 0) (n := 200 * (0)) (by omega) (by omega) ?_
                  have c1_ := hF3630.at c1_ (by omega) (g_on c1_ c0_)
                  have c3621 := hF3630.at c3621 (by omega) (g_nc c3621 c0_ (by decide))
                  have c3622 := hF3630.at c3622 (by omega) (g_on c3622 c0_)
                  have hF := hF.trans hF3630 (by omega) (fun q hq => (fun h => h ▸ rfl))
                  refine lv_iload_n hx hb dX4_readsWord_30 rfl (lv_at hl 0 rfl) ?_
                  have hwk : sWd tc tn p0 = 3 := (by simp [sWd, sWdF, c_3523, eq_true c_3530, c_3551, eq_true c_3558, c_3579, eq_true c_3586, c_3607, c_3614])
                  exact g_iret C hI hS (by omega) ⟨3, pl2_3627, wr2_3628, rfl, (by omega), hF, c3631, (by rw [hwk]; rfl), (by rw [hwk]; exact hq3632), hle3633, hw23634⟩ dX4_readsWord_31
                · skip
                  refine lv_iinc (v := 4) (lv' := [(1, .int 4), (0, .ref mm)]) hx hb dX4_readsWord_16 hl (k := 0) rfl (by first | rfl | decide) (by decide) rfl (fun ls hl => ?_)
                  refine lv_goto (tgt := 2) hx hb dX4_readsWord_19 (by decide) ?_
                  refine lv_iload_n hx hb dX4_readsWord_2 rfl (lv_at hl 0 rfl) ?_
                  refine lv_bipush (v := 7) hx hb dX4_readsWord_3 (by decide) ?_
                  refine lv_icmp_ge (tgt := 22) hx hb dX4_readsWord_5 (by decide) (fun c_3635 => ?_) (fun c_3635 => ?_)
                  · exact absurd c_3635 (by decide)
                  · skip
                    refine lv_aload_n hx hb dX4_readsWord_8 rfl (lv_at hl 1 rfl) ?_
                    refine lv_iload_n hx hb dX4_readsWord_9 rfl (lv_at hl 0 rfl) ?_
                    refine g_V (As := [.int 4]) (rest := []) (lv := [(1, .int 4), (0, .ref mm)]) C hI hS (c_X4_isWord4 l hB G n mm ag ab ah ch asv hs aas ain ty er awy ir ali ln th pl wr ato tc tn p0 c0_ c1_ hty (by omega) hpl hp60) c0_ rfl rfl q2853 q2855 qs62 q94 q2856 (⟨by decide, by decide, by decide⟩ : gArg _ 1) rfl ⟨by decide, by decide⟩ (by omega) hl rfl (Nat.le_of_ble_eq_true rfl) dX4_readsWord_10 (fun v3636 G3637 n3638 H locs hp3639 hI hS => ?_) gKx.no
                    obtain ⟨rfl, eG3637, en3638⟩ := hp3639
                    refine W.widen (k := 0) (n := 200 * (0)) (by omega) (by omega) ?_
                    rw [eG3637, en3638] at hI
                    refine lv_if_ne (tgt := 22) hx hb dX4_readsWord_13 (by decide) (fun c_3642 => ?_) (fun c_3642 => ?_)
                    · skip
                      refine lv_aload_n hx hb dX4_readsWord_22 rfl (lv_at hl 1 rfl) ?_
                      refine lv_iload_n hx hb dX4_readsWord_23 rfl (lv_at hl 0 rfl) ?_
                      refine g_S (As := [.int 4]) (rest := [.ref mm]) (lv := [(1, .int 4), (0, .ref mm)]) C hI hS (c_X4_word4 l hB G n   ) q2857 q2858 q94 q2859 (⟨by decide, by decide, by decide⟩ : gArg _ 1) rfl ⟨by decide, by decide⟩ (by omega) hl rfl (Nat.le_of_ble_eq_true rfl) dX4_readsWord_24 (fun v3643 G3644 n3645 H locs hp3646 hI hS => ?_) gKx.no
                      obtain ⟨rfl, eG3644, en3645⟩ := hp3646
                      refine W.widen (k := 0) (n := 200 * (0)) (by omega) (by omega) ?_
                      rw [eG3644, en3645] at hI
                      have lc3649 : gk D 129 < gz D := (hB.tx (j := 29) rfl).1
                      have lc3650 : gk D 229 < gz D := (hB.tx (j := 29) rfl).2.1
                      have c3649 : G (gk D 129) = some (.inl (21, [.ref (gk D 229), .int 0, .int 102738837, .int 0])) := hI.bs ⟨lc3649, (hB.tx (j := 29) rfl).2.2.1⟩
                      have c3650 : G (gk D 229) = some (aB (([108, 97, 110, 100, 32] : List Nat).length) (fun i => nI (([108, 97, 110, 100, 32] : List Nat).getD i 0))) := hI.bs ⟨lc3650, (hB.tx (j := 29) rfl).2.2.2⟩
                      refine g_V (As := [.ref (gk D 129)]) (rest := []) (lv := [(1, .int 4), (0, .ref mm)]) C hI hS (c_X4_needsText l hB G n mm ag ab ah ch asv hs aas ain ty er awy ir ali ln th pl wr ato tc tn p0 (gk D 229) 102738837 0 ([108, 97, 110, 100, 32] : List Nat) (gk D 129) c0_ c1_ c3649 c3650 (by omega) hty (by omega) hpl hp60 hw (by decide) (by decide)) c0_ rfl rfl q2873 q2875 qs64 q94 q2876 (⟨by decide, by decide, by decide⟩ : gArg _ 1) rfl ⟨by decide, by decide⟩ (by omega) hl rfl (Nat.le_of_ble_eq_true rfl) dX4_readsWord_27 (fun v3651 G3652 n3653 H locs hp3654 hI hS => ?_) gKx.no
                      obtain ⟨pl2_3655, wr2_3656, rfl, hn3657, hF3658, c3659, hq3660, hle3661, hw23662⟩ := hp3654
                      refine W.widen (k := 0) (n := 200 * (0)) (by omega) (by omega) ?_
                      have c1_ := hF3658.at c1_ (by omega) (g_on c1_ c0_)
                      have c3649 := hF3658.at c3649 (by omega) (g_nc c3649 c0_ (by decide))
                      have c3650 := hF3658.at c3650 (by omega) (g_on c3650 c0_)
                      have hF := hF.trans hF3658 (by omega) (fun q hq => (fun h => h ▸ rfl))
                      refine lv_iload_n hx hb dX4_readsWord_30 rfl (lv_at hl 0 rfl) ?_
                      have hwk : sWd tc tn p0 = 4 := (by simp [sWd, sWdF, c_3523, eq_true c_3530, c_3551, eq_true c_3558, c_3579, eq_true c_3586, c_3607, eq_true c_3614, c_3635, c_3642])
                      exact g_iret C hI hS (by omega) ⟨4, pl2_3655, wr2_3656, rfl, (by omega), hF, c3659, (by rw [hwk]; rfl), (by rw [hwk]; exact hq3660), hle3661, hw23662⟩ dX4_readsWord_31
                    · skip
                      refine lv_iinc (v := 5) (lv' := [(1, .int 5), (0, .ref mm)]) hx hb dX4_readsWord_16 hl (k := 0) rfl (by first | rfl | decide) (by decide) rfl (fun ls hl => ?_)
                      refine lv_goto (tgt := 2) hx hb dX4_readsWord_19 (by decide) ?_
                      refine lv_iload_n hx hb dX4_readsWord_2 rfl (lv_at hl 0 rfl) ?_
                      refine lv_bipush (v := 7) hx hb dX4_readsWord_3 (by decide) ?_
                      refine lv_icmp_ge (tgt := 22) hx hb dX4_readsWord_5 (by decide) (fun c_3663 => ?_) (fun c_3663 => ?_)
                      · exact absurd c_3663 (by decide)
                      · skip
                        refine lv_aload_n hx hb dX4_readsWord_8 rfl (lv_at hl 1 rfl) ?_
                        refine lv_iload_n hx hb dX4_readsWord_9 rfl (lv_at hl 0 rfl) ?_
                        refine g_V (As := [.int 5]) (rest := []) (lv := [(1, .int 5), (0, .ref mm)]) C hI hS (c_X4_isWord5 l hB G n mm ag ab ah ch asv hs aas ain ty er awy ir ali ln th pl wr ato tc tn p0 c0_ c1_ hty (by omega) hpl hp60) c0_ rfl rfl q2853 q2855 qs62 q94 q2856 (⟨by decide, by decide, by decide⟩ : gArg _ 1) rfl ⟨by decide, by decide⟩ (by omega) hl rfl (Nat.le_of_ble_eq_true rfl) dX4_readsWord_10 (fun v3664 G3665 n3666 H locs hp3667 hI hS => ?_) gKx.no
                        obtain ⟨rfl, eG3665, en3666⟩ := hp3667
                        refine W.widen (k := 0) (n := 200 * (0)) (by omega) (by omega) ?_
                        rw [eG3665, en3666] at hI
                        refine lv_if_ne (tgt := 22) hx hb dX4_readsWord_13 (by decide) (fun c_3670 => ?_) (fun c_3670 => ?_)
                        · skip
                          refine lv_aload_n hx hb dX4_readsWord_22 rfl (lv_at hl 1 rfl) ?_
                          refine lv_iload_n hx hb dX4_readsWord_23 rfl (lv_at hl 0 rfl) ?_
                          refine g_S (As := [.int 5]) (rest := [.ref mm]) (lv := [(1, .int 5), (0, .ref mm)]) C hI hS (c_X4_word5 l hB G n   ) q2857 q2858 q94 q2859 (⟨by decide, by decide, by decide⟩ : gArg _ 1) rfl ⟨by decide, by decide⟩ (by omega) hl rfl (Nat.le_of_ble_eq_true rfl) dX4_readsWord_24 (fun v3671 G3672 n3673 H locs hp3674 hI hS => ?_) gKx.no
                          obtain ⟨rfl, eG3672, en3673⟩ := hp3674
                          refine W.widen (k := 0) (n := 200 * (0)) (by omega) (by omega) ?_
                          rw [eG3672, en3673] at hI
                          have lc3677 : gk D 130 < gz D := (hB.tx (j := 30) rfl).1
                          have lc3678 : gk D 230 < gz D := (hB.tx (j := 30) rfl).2.1
                          have c3677 : G (gk D 130) = some (.inl (21, [.ref (gk D 230), .int 0, .int (-889599873), .int 0])) := hI.bs ⟨lc3677, (hB.tx (j := 30) rfl).2.2.1⟩
                          have c3678 : G (gk D 230) = some (aB (([115, 119, 101, 108, 108, 32] : List Nat).length) (fun i => nI (([115, 119, 101, 108, 108, 32] : List Nat).getD i 0))) := hI.bs ⟨lc3678, (hB.tx (j := 30) rfl).2.2.2⟩
                          refine g_V (As := [.ref (gk D 130)]) (rest := []) (lv := [(1, .int 5), (0, .ref mm)]) C hI hS (c_X4_needsText l hB G n mm ag ab ah ch asv hs aas ain ty er awy ir ali ln th pl wr ato tc tn p0 (gk D 230) (-889599873) 0 ([115, 119, 101, 108, 108, 32] : List Nat) (gk D 130) c0_ c1_ c3677 c3678 (by omega) hty (by omega) hpl hp60 hw (by decide) (by decide)) c0_ rfl rfl q2873 q2875 qs64 q94 q2876 (⟨by decide, by decide, by decide⟩ : gArg _ 1) rfl ⟨by decide, by decide⟩ (by omega) hl rfl (Nat.le_of_ble_eq_true rfl) dX4_readsWord_27 (fun v3679 G3680 n3681 H locs hp3682 hI hS => ?_) gKx.no
                          obtain ⟨pl2_3683, wr2_3684, rfl, hn3685, hF3686, c3687, hq3688, hle3689, hw23690⟩ := hp3682
                          refine W.widen (k := 0) (n := 200 * (0)) (by omega) (by omega) ?_
                          have c1_ := hF3686.at c1_ (by omega) (g_on c1_ c0_)
                          have c3677 := hF3686.at c3677 (by omega) (g_nc c3677 c0_ (by decide))
                          have c3678 := hF3686.at c3678 (by omega) (g_on c3678 c0_)
                          have hF := hF.trans hF3686 (by omega) (fun q hq => (fun h => h ▸ rfl))
                          refine lv_iload_n hx hb dX4_readsWord_30 rfl (lv_at hl 0 rfl) ?_
                          have hwk : sWd tc tn p0 = 5 := (by simp [sWd, sWdF, c_3523, eq_true c_3530, c_3551, eq_true c_3558, c_3579, eq_true c_3586, c_3607, eq_true c_3614, c_3635, eq_true c_3642, c_3663, c_3670])
                          exact g_iret C hI hS (by omega) ⟨5, pl2_3683, wr2_3684, rfl, (by omega), hF, c3687, (by rw [hwk]; rfl), (by rw [hwk]; exact hq3688), hle3689, hw23690⟩ dX4_readsWord_31
                        · skip
                          refine lv_iinc (v := 6) (lv' := [(1, .int 6), (0, .ref mm)]) hx hb dX4_readsWord_16 hl (k := 0) rfl (by first | rfl | decide) (by decide) rfl (fun ls hl => ?_)
                          refine lv_goto (tgt := 2) hx hb dX4_readsWord_19 (by decide) ?_
                          refine lv_iload_n hx hb dX4_readsWord_2 rfl (lv_at hl 0 rfl) ?_
                          refine lv_bipush (v := 7) hx hb dX4_readsWord_3 (by decide) ?_
                          refine lv_icmp_ge (tgt := 22) hx hb dX4_readsWord_5 (by decide) (fun c_3691 => ?_) (fun c_3691 => ?_)
                          · exact absurd c_3691 (by decide)
                          · skip
                            refine lv_aload_n hx hb dX4_readsWord_8 rfl (lv_at hl 1 rfl) ?_
                            refine lv_iload_n hx hb dX4_readsWord_9 rfl (lv_at hl 0 rfl) ?_
                            refine g_V (As := [.int 6]) (rest := []) (lv := [(1, .int 6), (0, .ref mm)]) C hI hS (c_X4_isWord6 l hB G n mm ag ab ah ch asv hs aas ain ty er awy ir ali ln th pl wr ato tc tn p0 c0_ c1_ hty (by omega) hpl hp60) c0_ rfl rfl q2853 q2855 qs62 q94 q2856 (⟨by decide, by decide, by decide⟩ : gArg _ 1) rfl ⟨by decide, by decide⟩ (by omega) hl rfl (Nat.le_of_ble_eq_true rfl) dX4_readsWord_10 (fun v3692 G3693 n3694 H locs hp3695 hI hS => ?_) gKx.no
                            obtain ⟨rfl, eG3693, en3694⟩ := hp3695
                            refine W.widen (k := 0) (n := 200 * (0)) (by omega) (by omega) ?_
                            rw [eG3693, en3694] at hI
                            refine lv_if_ne (tgt := 22) hx hb dX4_readsWord_13 (by decide) (fun c_3698 => ?_) (fun c_3698 => ?_)
                            · skip
                              refine lv_aload_n hx hb dX4_readsWord_22 rfl (lv_at hl 1 rfl) ?_
                              refine lv_iload_n hx hb dX4_readsWord_23 rfl (lv_at hl 0 rfl) ?_
                              refine g_S (As := [.int 6]) (rest := [.ref mm]) (lv := [(1, .int 6), (0, .ref mm)]) C hI hS (c_X4_word6 l hB G n   ) q2857 q2858 q94 q2859 (⟨by decide, by decide, by decide⟩ : gArg _ 1) rfl ⟨by decide, by decide⟩ (by omega) hl rfl (Nat.le_of_ble_eq_true rfl) dX4_readsWord_24 (fun v3699 G3700 n3701 H locs hp3702 hI hS => ?_) gKx.no
                              obtain ⟨rfl, eG3700, en3701⟩ := hp3702
                              refine W.widen (k := 0) (n := 200 * (0)) (by omega) (by omega) ?_
                              rw [eG3700, en3701] at hI
                              have lc3705 : gk D 131 < gz D := (hB.tx (j := 31) rfl).1
                              have lc3706 : gk D 231 < gz D := (hB.tx (j := 31) rfl).2.1
                              have c3705 : G (gk D 131) = some (.inl (21, [.ref (gk D 231), .int 0, .int 1197703536, .int 0])) := hI.bs ⟨lc3705, (hB.tx (j := 31) rfl).2.2.1⟩
                              have c3706 : G (gk D 231) = some (aB (([114, 105, 100, 100, 108, 101, 32] : List Nat).length) (fun i => nI (([114, 105, 100, 100, 108, 101, 32] : List Nat).getD i 0))) := hI.bs ⟨lc3706, (hB.tx (j := 31) rfl).2.2.2⟩
                              refine g_V (As := [.ref (gk D 131)]) (rest := []) (lv := [(1, .int 6), (0, .ref mm)]) C hI hS (c_X4_needsText l hB G n mm ag ab ah ch asv hs aas ain ty er awy ir ali ln th pl wr ato tc tn p0 (gk D 231) 1197703536 0 ([114, 105, 100, 100, 108, 101, 32] : List Nat) (gk D 131) c0_ c1_ c3705 c3706 (by omega) hty (by omega) hpl hp60 hw (by decide) (by decide)) c0_ rfl rfl q2873 q2875 qs64 q94 q2876 (⟨by decide, by decide, by decide⟩ : gArg _ 1) rfl ⟨by decide, by decide⟩ (by omega) hl rfl (Nat.le_of_ble_eq_true rfl) dX4_readsWord_27 (fun v3707 G3708 n3709 H locs hp3710 hI hS => ?_) gKx.no
                              obtain ⟨pl2_3711, wr2_3712, rfl, hn3713, hF3714, c3715, hq3716, hle3717, hw23718⟩ := hp3710
                              refine W.widen (k := 0) (n := 200 * (0)) (by omega) (by omega) ?_
                              have c1_ := hF3714.at c1_ (by omega) (g_on c1_ c0_)
                              have c3705 := hF3714.at c3705 (by omega) (g_nc c3705 c0_ (by decide))
                              have c3706 := hF3714.at c3706 (by omega) (g_on c3706 c0_)
                              have hF := hF.trans hF3714 (by omega) (fun q hq => (fun h => h ▸ rfl))
                              refine lv_iload_n hx hb dX4_readsWord_30 rfl (lv_at hl 0 rfl) ?_
                              have hwk : sWd tc tn p0 = 6 := (by simp [sWd, sWdF, c_3523, eq_true c_3530, c_3551, eq_true c_3558, c_3579, eq_true c_3586, c_3607, eq_true c_3614, c_3635, eq_true c_3642, c_3663, eq_true c_3670, c_3691, c_3698])
                              exact g_iret C hI hS (by omega) ⟨6, pl2_3711, wr2_3712, rfl, (by omega), hF, c3715, (by rw [hwk]; rfl), (by rw [hwk]; exact hq3716), hle3717, hw23718⟩ dX4_readsWord_31
                            · skip
                              refine lv_iinc (v := 7) (lv' := [(1, .int 7), (0, .ref mm)]) hx hb dX4_readsWord_16 hl (k := 0) rfl (by first | rfl | decide) (by decide) rfl (fun ls hl => ?_)
                              refine lv_goto (tgt := 2) hx hb dX4_readsWord_19 (by decide) ?_
                              refine lv_iload_n hx hb dX4_readsWord_2 rfl (lv_at hl 0 rfl) ?_
                              refine lv_bipush (v := 7) hx hb dX4_readsWord_3 (by decide) ?_
                              refine lv_icmp_ge (tgt := 22) hx hb dX4_readsWord_5 (by decide) (fun c_3719 => ?_) (fun c_3719 => ?_)
                              · skip
                                refine lv_aload_n hx hb dX4_readsWord_22 rfl (lv_at hl 1 rfl) ?_
                                refine lv_iload_n hx hb dX4_readsWord_23 rfl (lv_at hl 0 rfl) ?_
                                refine g_S (As := [.int 7]) (rest := [.ref mm]) (lv := [(1, .int 7), (0, .ref mm)]) C hI hS (c_X4_word7 l hB G n   ) q2857 q2858 q94 q2859 (⟨by decide, by decide, by decide⟩ : gArg _ 1) rfl ⟨by decide, by decide⟩ (by omega) hl rfl (Nat.le_of_ble_eq_true rfl) dX4_readsWord_24 (fun v3720 G3721 n3722 H locs hp3723 hI hS => ?_) gKx.no
                                obtain ⟨rfl, eG3721, en3722⟩ := hp3723
                                refine W.widen (k := 0) (n := 200 * (0)) (by omega) (by omega) ?_
                                rw [eG3721, en3722] at hI
                                have lc3726 : gk D 132 < gz D := (hB.tx (j := 32) rfl).1
                                have lc3727 : gk D 232 < gz D := (hB.tx (j := 32) rfl).2.1
                                have c3726 : G (gk D 132) = some (.inl (21, [.ref (gk D 232), .int 0, .int 95361705, .int 0])) := hI.bs ⟨lc3726, (hB.tx (j := 32) rfl).2.2.1⟩
                                have c3727 : G (gk D 232) = some (aB (([100, 97, 121, 115, 32] : List Nat).length) (fun i => nI (([100, 97, 121, 115, 32] : List Nat).getD i 0))) := hI.bs ⟨lc3727, (hB.tx (j := 32) rfl).2.2.2⟩
                                refine g_V (As := [.ref (gk D 132)]) (rest := []) (lv := [(1, .int 7), (0, .ref mm)]) C hI hS (c_X4_needsText l hB G n mm ag ab ah ch asv hs aas ain ty er awy ir ali ln th pl wr ato tc tn p0 (gk D 232) 95361705 0 ([100, 97, 121, 115, 32] : List Nat) (gk D 132) c0_ c1_ c3726 c3727 (by omega) hty (by omega) hpl hp60 hw (by decide) (by decide)) c0_ rfl rfl q2873 q2875 qs64 q94 q2876 (⟨by decide, by decide, by decide⟩ : gArg _ 1) rfl ⟨by decide, by decide⟩ (by omega) hl rfl (Nat.le_of_ble_eq_true rfl) dX4_readsWord_27 (fun v3728 G3729 n3730 H locs hp3731 hI hS => ?_) gKx.no
                                obtain ⟨pl2_3732, wr2_3733, rfl, hn3734, hF3735, c3736, hq3737, hle3738, hw23739⟩ := hp3731
                                refine W.widen (k := 0) (n := 200 * (0)) (by omega) (by omega) ?_
                                have c1_ := hF3735.at c1_ (by omega) (g_on c1_ c0_)
                                have c3726 := hF3735.at c3726 (by omega) (g_nc c3726 c0_ (by decide))
                                have c3727 := hF3735.at c3727 (by omega) (g_on c3727 c0_)
                                have hF := hF.trans hF3735 (by omega) (fun q hq => (fun h => h ▸ rfl))
                                refine lv_iload_n hx hb dX4_readsWord_30 rfl (lv_at hl 0 rfl) ?_
                                have hwk : sWd tc tn p0 = 7 := (by simp [sWd, sWdF, c_3523, eq_true c_3530, c_3551, eq_true c_3558, c_3579, eq_true c_3586, c_3607, eq_true c_3614, c_3635, eq_true c_3642, c_3663, eq_true c_3670, c_3691, eq_true c_3698, c_3719])
                                exact g_iret C hI hS (by omega) ⟨7, pl2_3732, wr2_3733, rfl, (by omega), hF, c3736, (by rw [hwk]; rfl), (by rw [hwk]; exact hq3737), hle3738, hw23739⟩ dX4_readsWord_31
                              · exact absurd (by decide) c_3719
set_option maxHeartbeats 4000000 in
set_option maxRecDepth 100000 in
theorem c_X4_digit (l : Launch) {D : gD} (hB : gBs D) (G : gH) (n : Nat) (mm : Nat) (ag : Nat) (ab : Nat) (ah : Nat) (ch : Int32) (asv : Nat) (hs : Int32) (aas : Nat) (ain : Nat) (ty : Int32) (er : Int32) (awy : Nat) (ir : Int32) (ali : Nat) (ln : Int32) (th : Int32) (pl : Int32) (wr : Int32) (ato : Nat) (tc : Nat → Nat) (tn : Nat) (p0 : Nat) (c0_ : G mm = some (.inl (23, [.ref ag, .ref ab, .ref ah, .int ch, .ref asv, .int hs, .ref aas, .ref ain, .int ty, .int er, .ref awy, .int ir, .ref ali, .int ln, .int th, .int pl, .int wr, .ref ato]))) (c1_ : G ain = some (aC 60 (fun k => nI (tc k)))) (hz : gz D ≤ mm) (hty : ty = nI tn) (ht60 : tn ≤ 60) (hpl : pl = nI p0) (hp60 : p0 ≤ tn) (hw : wr = 0 ∨ wr = 1) : gMet l D yX4_digit (ws_ yX4_digit cX4_digit 2 (some FieldType.int)) 2 0 G n [.ref mm] (fun (v : Option Value) (G1 : gH) (n1 : Nat) => ∃ (pl2 : Nat) (wr2 : Int32) (r : Int32), v = some (.int r) ∧ n ≤ n1 ∧ gF G G1 n (fun q : Nat => q = mm) ∧ G1 mm = some (.inl (23, [.ref ag, .ref ab, .ref ah, .int ch, .ref asv, .int hs, .ref aas, .ref ain, .int ty, .int er, .ref awy, .int ir, .ref ali, .int ln, .int th, .int (nI pl2), .int wr2, .ref ato])) ∧ sDigit tc tn (p0, wr) = ((pl2, wr2), r) ∧ pl2 ≤ tn ∧ (wr2 = 0 ∨ wr2 = 1)) gNox := by
  refine g_start (by decide) (Nat.le_of_ble_eq_true rfl) ?_
  intro p e s m below meth c ls C hnm hxt hI hl
  have hx := C.x
  have hb := C.b
  have hS : va_S (gA D) s.heap s.heap [] := va_S.rf
  have hz0 := hI.z
  have lc0_ := hI.lt c0_
  have lc1_ := hI.lt c1_
  have hF : gF G G n (fun q : Nat => q = mm) := gF.rf _ _ _
  have hl : lv_has ls 2 [(0, .ref mm)] := hl
  refine lv_aload_n hx hb dX4_digit_0 rfl (lv_at hl 0 rfl) ?_
  refine lv_aload_n hx hb dX4_digit_1 rfl (lv_at hl 0 rfl) ?_
  refine g_get C hI c0_ kc23 16 rfl q2583 (fun _ h9 => h9) dX4_digit_2 ?_
  refine lv_if_ne (tgt := 22) hx hb dX4_digit_5 (by decide) (fun c_3740 => ?_) (fun c_3740 => ?_)
  · skip
    refine lv_iconst (v := 1) hx hb dX4_digit_22 (by decide) ?_
    refine lv_goto (tgt := 27) hx hb dX4_digit_23 (by decide) ?_
    refine g_put (fs2 := [.ref ag, .ref ab, .ref ah, .int ch, .ref asv, .int hs, .ref aas, .ref ain, .int ty, .int er, .ref awy, .int ir, .ref ali, .int ln, .int th, .int pl, .int 1, .ref ato]) C hI hS c0_ (by omega) kc23 16 (Nat.le_of_ble_eq_true rfl) q2583 (fun _ h9 => h9) rfl rfl rfl rfl dX4_digit_27 (fun G3741 H locs e3742 hI hS => ?_)
    have c1_ := gE_k e3742 c1_ (g_on c1_ c0_)
    have c0_ : G3741 mm = some (.inl (23, [.ref ag, .ref ab, .ref ah, .int ch, .ref asv, .int hs, .ref aas, .ref ain, .int ty, .int er, .ref awy, .int ir, .ref ali, .int ln, .int th, .int pl, .int 1, .ref ato])) := gE_s e3742
    have hF := gE_F e3742 hF (Or.inr rfl)
    refine lv_aload_n hx hb dX4_digit_30 rfl (lv_at hl 0 rfl) ?_
    refine g_get C hI c0_ kc23 16 rfl q2583 (fun _ h9 => h9) dX4_digit_31 ?_
    refine lv_if_eq (tgt := 41) hx hb dX4_digit_34 (by decide) (fun c_3743 => ?_) (fun c_3743 => ?_)
    · exact absurd c_3743 (by decide)
    · skip
      refine lv_iconst (v := 0) hx hb dX4_digit_37 (by decide) ?_
      refine lv_goto (tgt := 48) hx hb dX4_digit_38 (by decide) ?_
      refine lv_istore_n (lv' := [(1, .int 0), (0, .ref mm)]) hx hb dX4_digit_48 rfl hl (by decide) rfl (fun ls hl => ?_)
      refine lv_aload_n hx hb dX4_digit_49 rfl (lv_at hl 1 rfl) ?_
      refine lv_dup hx hb dX4_digit_50 rfl ?_
      refine g_get C hI c0_ kc23 15 rfl q2582 (fun _ h9 => h9) dX4_digit_51 ?_
      refine lv_aload_n hx hb dX4_digit_54 rfl (lv_at hl 1 rfl) ?_
      refine g_get C hI c0_ kc23 16 rfl q2583 (fun _ h9 => h9) dX4_digit_55 ?_
      refine lv_if_eq (tgt := 65) hx hb dX4_digit_58 (by decide) (fun c_3744 => ?_) (fun c_3744 => ?_)
      · exact absurd c_3744 (by decide)
      · skip
        refine lv_iconst (v := 0) hx hb dX4_digit_61 (by decide) ?_
        refine lv_goto (tgt := 66) hx hb dX4_digit_62 (by decide) ?_
        refine lv_iadd hx hb dX4_digit_66 ?_
        refine g_put (fs2 := [.ref ag, .ref ab, .ref ah, .int ch, .ref asv, .int hs, .ref aas, .ref ain, .int ty, .int er, .ref awy, .int ir, .ref ali, .int ln, .int th, .int (pl + 0), .int 1, .ref ato]) C hI hS c0_ (by omega) kc23 15 (Nat.le_of_ble_eq_true rfl) q2582 (fun _ h9 => h9) rfl rfl rfl rfl dX4_digit_67 (fun G3745 H locs e3746 hI hS => ?_)
        have c1_ := gE_k e3746 c1_ (g_on c1_ c0_)
        have c0_ : G3745 mm = some (.inl (23, [.ref ag, .ref ab, .ref ah, .int ch, .ref asv, .int hs, .ref aas, .ref ain, .int ty, .int er, .ref awy, .int ir, .ref ali, .int ln, .int th, .int (pl + 0), .int 1, .ref ato])) := gE_s e3746
        have hF := gE_F e3746 hF (Or.inr rfl)
        refine lv_iload_n hx hb dX4_digit_70 rfl (lv_at hl 0 rfl) ?_
        exact g_iret C hI hS (by omega) ⟨p0 + 0, 1, 0, rfl, (by omega), hF, (by rw [show nI (p0 + 0) = pl + 0 from (gadd hpl nl0).symm]; exact c0_), (by simp [sDigit, c_3740, c_3743, c_3744]), (by omega), (by decide)⟩ dX4_digit_71
  · skip
    refine lv_aload_n hx hb dX4_digit_8 rfl (lv_at hl 0 rfl) ?_
    refine g_V (As := []) (rest := [.ref mm]) (lv := [(0, .ref mm)]) C hI hS (c_X4_here l hB G n mm ag ab ah ch asv hs aas ain ty er awy ir ali ln th pl wr ato tc tn p0 c0_ c1_ hty (by omega) hpl (by omega)) c0_ rfl rfl q2869 q2871 qs63 q94 q2872 (⟨by decide, by decide, by decide⟩ : gArg _ 0) rfl ⟨by decide, by decide⟩ (by omega) hl rfl (Nat.le_of_ble_eq_true rfl) dX4_digit_9 (fun v3747 G3748 n3749 H locs hp3750 hI hS => ?_) gKx.no
    obtain ⟨rfl, eG3748, en3749⟩ := hp3750
    refine W.widen (k := 0) (n := 200 * (0)) (by omega) (by omega) ?_
    rw [eG3748, en3749] at hI
    refine lv_bipush (v := 48) hx hb dX4_digit_12 (by decide) ?_
    refine lv_bipush (v := 57) hx hb dX4_digit_14 (by decide) ?_
    refine g_S (As := [.int (sHere tc tn p0), .int 48, .int 57]) (rest := [.ref mm]) (lv := [(0, .ref mm)]) C hI hS (c_X4_in l hB G n (sHere tc tn p0) 48 57  ) q2634 q2635 q94 q2636 (⟨by decide, by decide, by decide⟩ : gArg _ 3) rfl ⟨by decide, by decide⟩ (by omega) hl rfl (Nat.le_of_ble_eq_true rfl) dX4_digit_16 (fun v3753 G3754 n3755 H locs hp3756 hI hS => ?_) gKx.no
    obtain ⟨rfl, eG3754, en3755⟩ := hp3756
    refine W.widen (k := 0) (n := 200 * (0)) (by omega) (by omega) ?_
    rw [eG3754, en3755] at hI
    refine lv_if_ne (tgt := 26) hx hb dX4_digit_19 (by decide) (fun c_3759 => ?_) (fun c_3759 => ?_)
    · skip
      obtain ⟨j_sHeretctnp0, hlj_sHeretctnp0, hj_sHeretctnp0, ej_sHeretctnp0⟩ := gin_okL (a := 48) (k := 57) c_3759 (by decide) (by decide)
      have tj_sHeretctnp0 : (sHere tc tn p0).toNatClampNeg = j_sHeretctnp0 := by rw [ej_sHeretctnp0]; exact nI_clamp (by omega)
      obtain ⟨dj, hd1, hd2, ed⟩ := gin_okL (a := 48) (k := 57) c_3759 (by decide) (by decide)
      have hlt := sHere_lt (by omega) ed
      refine lv_iconst (v := 0) hx hb dX4_digit_26 (by decide) ?_
      refine g_put (fs2 := [.ref ag, .ref ab, .ref ah, .int ch, .ref asv, .int hs, .ref aas, .ref ain, .int ty, .int er, .ref awy, .int ir, .ref ali, .int ln, .int th, .int pl, .int 0, .ref ato]) C hI hS c0_ (by omega) kc23 16 (Nat.le_of_ble_eq_true rfl) q2583 (fun _ h9 => h9) rfl rfl rfl rfl dX4_digit_27 (fun G3760 H locs e3761 hI hS => ?_)
      have c1_ := gE_k e3761 c1_ (g_on c1_ c0_)
      have c0_ : G3760 mm = some (.inl (23, [.ref ag, .ref ab, .ref ah, .int ch, .ref asv, .int hs, .ref aas, .ref ain, .int ty, .int er, .ref awy, .int ir, .ref ali, .int ln, .int th, .int pl, .int 0, .ref ato])) := gE_s e3761
      have hF := gE_F e3761 hF (Or.inr rfl)
      refine lv_aload_n hx hb dX4_digit_30 rfl (lv_at hl 0 rfl) ?_
      refine g_get C hI c0_ kc23 16 rfl q2583 (fun _ h9 => h9) dX4_digit_31 ?_
      refine lv_if_eq (tgt := 41) hx hb dX4_digit_34 (by decide) (fun c_3762 => ?_) (fun c_3762 => ?_)
      · skip
        refine lv_aload_n hx hb dX4_digit_41 rfl (lv_at hl 0 rfl) ?_
        refine g_V (As := []) (rest := []) (lv := [(0, .ref mm)]) C hI hS (c_X4_here l hB G3760 n mm ag ab ah ch asv hs aas ain ty er awy ir ali ln th pl 0 ato tc tn p0 c0_ c1_ hty (by omega) hpl (by omega)) c0_ rfl rfl q2869 q2871 qs63 q94 q2872 (⟨by decide, by decide, by decide⟩ : gArg _ 0) rfl ⟨by decide, by decide⟩ (by omega) hl rfl (Nat.le_of_ble_eq_true rfl) dX4_digit_42 (fun v3763 G3764 n3765 H locs hp3766 hI hS => ?_) gKx.no
        obtain ⟨rfl, eG3764, en3765⟩ := hp3766
        refine W.widen (k := 0) (n := 200 * (0)) (by omega) (by omega) ?_
        rw [eG3764, en3765] at hI
        refine lv_bipush (v := 48) hx hb dX4_digit_45 (by decide) ?_
        refine lv_isub hx hb dX4_digit_47 ?_
        refine lv_istore_n (lv' := [(1, .int ((sHere tc tn p0) - 48)), (0, .ref mm)]) hx hb dX4_digit_48 rfl hl (by decide) rfl (fun ls hl => ?_)
        refine lv_aload_n hx hb dX4_digit_49 rfl (lv_at hl 1 rfl) ?_
        refine lv_dup hx hb dX4_digit_50 rfl ?_
        refine g_get C hI c0_ kc23 15 rfl q2582 (fun _ h9 => h9) dX4_digit_51 ?_
        refine lv_aload_n hx hb dX4_digit_54 rfl (lv_at hl 1 rfl) ?_
        refine g_get C hI c0_ kc23 16 rfl q2583 (fun _ h9 => h9) dX4_digit_55 ?_
        refine lv_if_eq (tgt := 65) hx hb dX4_digit_58 (by decide) (fun c_3769 => ?_) (fun c_3769 => ?_)
        · skip
          refine lv_iconst (v := 1) hx hb dX4_digit_65 (by decide) ?_
          refine lv_iadd hx hb dX4_digit_66 ?_
          refine g_put (fs2 := [.ref ag, .ref ab, .ref ah, .int ch, .ref asv, .int hs, .ref aas, .ref ain, .int ty, .int er, .ref awy, .int ir, .ref ali, .int ln, .int th, .int (pl + 1), .int 0, .ref ato]) C hI hS c0_ (by omega) kc23 15 (Nat.le_of_ble_eq_true rfl) q2582 (fun _ h9 => h9) rfl rfl rfl rfl dX4_digit_67 (fun G3770 H locs e3771 hI hS => ?_)
          have c1_ := gE_k e3771 c1_ (g_on c1_ c0_)
          have c0_ : G3770 mm = some (.inl (23, [.ref ag, .ref ab, .ref ah, .int ch, .ref asv, .int hs, .ref aas, .ref ain, .int ty, .int er, .ref awy, .int ir, .ref ali, .int ln, .int th, .int (pl + 1), .int 0, .ref ato])) := gE_s e3771
          have hF := gE_F e3771 hF (Or.inr rfl)
          refine lv_iload_n hx hb dX4_digit_70 rfl (lv_at hl 0 rfl) ?_
          exact g_iret C hI hS (by omega) ⟨p0 + 1, 0, (sHere tc tn p0) - 48, rfl, (by omega), hF, (by rw [show nI (p0 + 1) = pl + 1 from (gadd hpl nl1).symm]; exact c0_), (by simp [sDigit, c_3740, c_3759, tj_sHeretctnp0, c_3762, c_3769]), (by omega), (by decide)⟩ dX4_digit_71
        · exact absurd (by decide) c_3769
      · exact absurd (by decide) c_3762
    · skip
      refine lv_iconst (v := 1) hx hb dX4_digit_22 (by decide) ?_
      refine lv_goto (tgt := 27) hx hb dX4_digit_23 (by decide) ?_
      refine g_put (fs2 := [.ref ag, .ref ab, .ref ah, .int ch, .ref asv, .int hs, .ref aas, .ref ain, .int ty, .int er, .ref awy, .int ir, .ref ali, .int ln, .int th, .int pl, .int 1, .ref ato]) C hI hS c0_ (by omega) kc23 16 (Nat.le_of_ble_eq_true rfl) q2583 (fun _ h9 => h9) rfl rfl rfl rfl dX4_digit_27 (fun G3772 H locs e3773 hI hS => ?_)
      have c1_ := gE_k e3773 c1_ (g_on c1_ c0_)
      have c0_ : G3772 mm = some (.inl (23, [.ref ag, .ref ab, .ref ah, .int ch, .ref asv, .int hs, .ref aas, .ref ain, .int ty, .int er, .ref awy, .int ir, .ref ali, .int ln, .int th, .int pl, .int 1, .ref ato])) := gE_s e3773
      have hF := gE_F e3773 hF (Or.inr rfl)
      refine lv_aload_n hx hb dX4_digit_30 rfl (lv_at hl 0 rfl) ?_
      refine g_get C hI c0_ kc23 16 rfl q2583 (fun _ h9 => h9) dX4_digit_31 ?_
      refine lv_if_eq (tgt := 41) hx hb dX4_digit_34 (by decide) (fun c_3774 => ?_) (fun c_3774 => ?_)
      · exact absurd c_3774 (by decide)
      · skip
        refine lv_iconst (v := 0) hx hb dX4_digit_37 (by decide) ?_
        refine lv_goto (tgt := 48) hx hb dX4_digit_38 (by decide) ?_
        refine lv_istore_n (lv' := [(1, .int 0), (0, .ref mm)]) hx hb dX4_digit_48 rfl hl (by decide) rfl (fun ls hl => ?_)
        refine lv_aload_n hx hb dX4_digit_49 rfl (lv_at hl 1 rfl) ?_
        refine lv_dup hx hb dX4_digit_50 rfl ?_
        refine g_get C hI c0_ kc23 15 rfl q2582 (fun _ h9 => h9) dX4_digit_51 ?_
        refine lv_aload_n hx hb dX4_digit_54 rfl (lv_at hl 1 rfl) ?_
        refine g_get C hI c0_ kc23 16 rfl q2583 (fun _ h9 => h9) dX4_digit_55 ?_
        refine lv_if_eq (tgt := 65) hx hb dX4_digit_58 (by decide) (fun c_3775 => ?_) (fun c_3775 => ?_)
        · exact absurd c_3775 (by decide)
        · skip
          refine lv_iconst (v := 0) hx hb dX4_digit_61 (by decide) ?_
          refine lv_goto (tgt := 66) hx hb dX4_digit_62 (by decide) ?_
          refine lv_iadd hx hb dX4_digit_66 ?_
          refine g_put (fs2 := [.ref ag, .ref ab, .ref ah, .int ch, .ref asv, .int hs, .ref aas, .ref ain, .int ty, .int er, .ref awy, .int ir, .ref ali, .int ln, .int th, .int (pl + 0), .int 1, .ref ato]) C hI hS c0_ (by omega) kc23 15 (Nat.le_of_ble_eq_true rfl) q2582 (fun _ h9 => h9) rfl rfl rfl rfl dX4_digit_67 (fun G3776 H locs e3777 hI hS => ?_)
          have c1_ := gE_k e3777 c1_ (g_on c1_ c0_)
          have c0_ : G3776 mm = some (.inl (23, [.ref ag, .ref ab, .ref ah, .int ch, .ref asv, .int hs, .ref aas, .ref ain, .int ty, .int er, .ref awy, .int ir, .ref ali, .int ln, .int th, .int (pl + 0), .int 1, .ref ato])) := gE_s e3777
          have hF := gE_F e3777 hF (Or.inr rfl)
          refine lv_iload_n hx hb dX4_digit_70 rfl (lv_at hl 0 rfl) ?_
          exact g_iret C hI hS (by omega) ⟨p0 + 0, 1, 0, rfl, (by omega), hF, (by rw [show nI (p0 + 0) = pl + 0 from (gadd hpl nl0).symm]; exact c0_), (by simp [sDigit, c_3740, c_3759, c_3774, c_3775]), (by omega), (by decide)⟩ dX4_digit_71
set_option maxHeartbeats 4000000 in
set_option maxRecDepth 100000 in
theorem c_X4_number (l : Launch) {D : gD} (hB : gBs D) (G : gH) (n : Nat) (mm : Nat) (ag : Nat) (ab : Nat) (ah : Nat) (ch : Int32) (asv : Nat) (hs : Int32) (aas : Nat) (ain : Nat) (ty : Int32) (er : Int32) (awy : Nat) (ir : Int32) (ali : Nat) (ln : Int32) (th : Int32) (pl : Int32) (wr : Int32) (ato : Nat) (tc : Nat → Nat) (tn : Nat) (p0 : Nat) (c0_ : G mm = some (.inl (23, [.ref ag, .ref ab, .ref ah, .int ch, .ref asv, .int hs, .ref aas, .ref ain, .int ty, .int er, .ref awy, .int ir, .ref ali, .int ln, .int th, .int pl, .int wr, .ref ato]))) (c1_ : G ain = some (aC 60 (fun k => nI (tc k)))) (hz : gz D ≤ mm) (hty : ty = nI tn) (ht60 : tn ≤ 60) (hpl : pl = nI p0) (hp60 : p0 ≤ tn) (hw : wr = 0 ∨ wr = 1) : gMet l D yX4_number (ws_ yX4_number cX4_number 2 (some FieldType.int)) 3 0 G n [.ref mm] (fun (v : Option Value) (G1 : gH) (n1 : Nat) => ∃ (pl2 : Nat) (wr2 : Int32) (r : Int32), v = some (.int r) ∧ n ≤ n1 ∧ gF G G1 n (fun q : Nat => q = mm) ∧ G1 mm = some (.inl (23, [.ref ag, .ref ab, .ref ah, .int ch, .ref asv, .int hs, .ref aas, .ref ain, .int ty, .int er, .ref awy, .int ir, .ref ali, .int ln, .int th, .int (nI pl2), .int wr2, .ref ato])) ∧ sNumber tc tn (p0, wr) = ((pl2, wr2), r) ∧ pl2 ≤ tn ∧ (wr2 = 0 ∨ wr2 = 1)) gNox := by
  refine g_start (by decide) (Nat.le_of_ble_eq_true rfl) ?_
  intro p e s m below meth c ls C hnm hxt hI hl
  have hx := C.x
  have hb := C.b
  have hS : va_S (gA D) s.heap s.heap [] := va_S.rf
  have hz0 := hI.z
  have lc0_ := hI.lt c0_
  have lc1_ := hI.lt c1_
  have hF : gF G G n (fun q : Nat => q = mm) := gF.rf _ _ _
  have hl : lv_has ls 2 [(0, .ref mm)] := hl
  refine lv_aload_n hx hb dX4_number_0 rfl (lv_at hl 0 rfl) ?_
  refine g_V (As := []) (rest := []) (lv := [(0, .ref mm)]) C hI hS (c_X4_digit l hB G n mm ag ab ah ch asv hs aas ain ty er awy ir ali ln th pl wr ato tc tn p0 c0_ c1_ (by omega) hty (by omega) hpl hp60 hw) c0_ rfl rfl q2886 q2888 qs67 q94 q2889 (⟨by decide, by decide, by decide⟩ : gArg _ 0) rfl ⟨by decide, by decide⟩ (by omega) hl rfl (Nat.le_of_ble_eq_true rfl) dX4_number_1 (fun v3778 G3779 n3780 H locs hp3781 hI hS => ?_) gKx.no
  obtain ⟨pl2_3782, wr2_3783, r_3784, rfl, hn3785, hF3786, c3787, hq3788, hle3789, hw23790⟩ := hp3781
  refine W.widen (k := 0) (n := 200 * (0)) (by omega) (by omega) ?_
  have c1_ := hF3786.at c1_ (by omega) (g_on c1_ c0_)
  have hF := hF.trans hF3786 (by omega) (fun q hq => (fun h => h ▸ rfl))
  refine lv_istore_n (lv' := [(1, .int r_3784), (0, .ref mm)]) hx hb dX4_number_4 rfl hl (by decide) rfl (fun ls hl => ?_)
  refine lv_aload_n hx hb dX4_number_5 rfl (lv_at hl 1 rfl) ?_
  refine g_get C hI c3787 kc23 16 rfl q2583 (fun _ h9 => h9) dX4_number_6 ?_
  refine lv_if_ne (tgt := 38) hx hb dX4_number_9 (by decide) (fun c_3791 => ?_) (fun c_3791 => ?_)
  · skip
    refine lv_iload_n hx hb dX4_number_38 rfl (lv_at hl 0 rfl) ?_
    exact g_iret C hI hS (by omega) ⟨pl2_3782, wr2_3783, r_3784, rfl, (by omega), hF, c3787, (by simp [sNumber, hq3788, c_3791]), hle3789, hw23790⟩ dX4_number_39
  · skip
    refine lv_aload_n hx hb dX4_number_12 rfl (lv_at hl 1 rfl) ?_
    refine g_V (As := []) (rest := []) (lv := [(1, .int r_3784), (0, .ref mm)]) C hI hS (c_X4_here l hB G3779 n3780 mm ag ab ah ch asv hs aas ain ty er awy ir ali ln th (nI pl2_3782) wr2_3783 ato tc tn pl2_3782 c3787 c1_ hty (by omega) rfl (by omega)) c3787 rfl rfl q2869 q2871 qs63 q94 q2872 (⟨by decide, by decide, by decide⟩ : gArg _ 0) rfl ⟨by decide, by decide⟩ (by omega) hl rfl (Nat.le_of_ble_eq_true rfl) dX4_number_13 (fun v3792 G3793 n3794 H locs hp3795 hI hS => ?_) gKx.no
    obtain ⟨rfl, eG3793, en3794⟩ := hp3795
    refine W.widen (k := 0) (n := 200 * (0)) (by omega) (by omega) ?_
    rw [eG3793, en3794] at hI
    refine lv_bipush (v := 48) hx hb dX4_number_16 (by decide) ?_
    refine lv_bipush (v := 57) hx hb dX4_number_18 (by decide) ?_
    refine g_S (As := [.int (sHere tc tn pl2_3782), .int 48, .int 57]) (rest := []) (lv := [(1, .int r_3784), (0, .ref mm)]) C hI hS (c_X4_in l hB G3779 n3780 (sHere tc tn pl2_3782) 48 57  ) q2634 q2635 q94 q2636 (⟨by decide, by decide, by decide⟩ : gArg _ 3) rfl ⟨by decide, by decide⟩ (by omega) hl rfl (Nat.le_of_ble_eq_true rfl) dX4_number_20 (fun v3798 G3799 n3800 H locs hp3801 hI hS => ?_) gKx.no
    obtain ⟨rfl, eG3799, en3800⟩ := hp3801
    refine W.widen (k := 0) (n := 200 * (0)) (by omega) (by omega) ?_
    rw [eG3799, en3800] at hI
    refine lv_if_eq (tgt := 38) hx hb dX4_number_23 (by decide) (fun c_3804 => ?_) (fun c_3804 => ?_)
    · skip
      refine lv_iload_n hx hb dX4_number_38 rfl (lv_at hl 0 rfl) ?_
      exact g_iret C hI hS (by omega) ⟨pl2_3782, wr2_3783, r_3784, rfl, (by omega), hF, c3787, (by simp [sNumber, hq3788, eq_true c_3791, eq_true c_3804]), hle3789, hw23790⟩ dX4_number_39
    · skip
      obtain ⟨j_sHeretctnpl2_3782, hlj_sHeretctnpl2_3782, hj_sHeretctnpl2_3782, ej_sHeretctnpl2_3782⟩ := gin_okL (a := 48) (k := 57) c_3804 (by decide) (by decide)
      have tj_sHeretctnpl2_3782 : (sHere tc tn pl2_3782).toNatClampNeg = j_sHeretctnpl2_3782 := by rw [ej_sHeretctnpl2_3782]; exact nI_clamp (by omega)
      refine lv_bipush (v := 10) hx hb dX4_number_26 (by decide) ?_
      refine lv_iload_n hx hb dX4_number_28 rfl (lv_at hl 0 rfl) ?_
      refine lv_imul hx hb dX4_number_29 ?_
      refine lv_aload_n hx hb dX4_number_30 rfl (lv_at hl 1 rfl) ?_
      refine g_V (As := []) (rest := [.int (10 * r_3784)]) (lv := [(1, .int r_3784), (0, .ref mm)]) C hI hS (c_X4_digit l hB G3779 n3780 mm ag ab ah ch asv hs aas ain ty er awy ir ali ln th (nI pl2_3782) wr2_3783 ato tc tn pl2_3782 c3787 c1_ (by omega) hty (by omega) rfl hle3789 hw23790) c3787 rfl rfl q2886 q2888 qs67 q94 q2889 (⟨by decide, by decide, by decide⟩ : gArg _ 0) rfl ⟨by decide, by decide⟩ (by omega) hl rfl (Nat.le_of_ble_eq_true rfl) dX4_number_31 (fun v3805 G3806 n3807 H locs hp3808 hI hS => ?_) gKx.no
      obtain ⟨pl2_3809, wr2_3810, r_3811, rfl, hn3812, hF3813, c3814, hq3815, hle3816, hw23817⟩ := hp3808
      refine W.widen (k := 0) (n := 200 * (0)) (by omega) (by omega) ?_
      have c1_ := hF3813.at c1_ (by omega) (g_on c1_ c3787)
      have hF := hF.trans hF3813 (by omega) (fun q hq => (fun h => h ▸ rfl))
      refine lv_iadd hx hb dX4_number_34 ?_
      refine lv_goto (tgt := 39) hx hb dX4_number_35 (by decide) ?_
      exact g_iret C hI hS (by omega) ⟨pl2_3809, wr2_3810, (10 * r_3784) + r_3811, rfl, (by omega), hF, c3814, (by simp [sNumber, hq3788, eq_true c_3791, c_3804, tj_sHeretctnpl2_3782, hq3815]), hle3816, hw23817⟩ dX4_number_39
set_option maxHeartbeats 4000000 in
set_option maxRecDepth 100000 in
theorem c_X4_baitRead (l : Launch) {D : gD} (hB : gBs D) (G : gH) (n : Nat) (mm : Nat) (ag : Nat) (ab : Nat) (ah : Nat) (ch : Int32) (asv : Nat) (hs : Int32) (aas : Nat) (ain : Nat) (ty : Int32) (er : Int32) (awy : Nat) (ir : Int32) (ali : Nat) (ln : Int32) (th : Int32) (pl : Int32) (wr : Int32) (ato : Nat) (tc : Nat → Nat) (tn : Nat) (p0 : Nat) (c0_ : G mm = some (.inl (23, [.ref ag, .ref ab, .ref ah, .int ch, .ref asv, .int hs, .ref aas, .ref ain, .int ty, .int er, .ref awy, .int ir, .ref ali, .int ln, .int th, .int pl, .int wr, .ref ato]))) (c1_ : G ain = some (aC 60 (fun k => nI (tc k)))) (hz : gz D ≤ mm) (hty : ty = nI tn) (ht60 : tn ≤ 60) (hpl : pl = nI p0) (hp60 : p0 ≤ tn) (hw : wr = 0 ∨ wr = 1) : gMet l D yX4_baitRead (ws_ yX4_baitRead cX4_baitRead 2 (some FieldType.int)) 6 0 G n [.ref mm] (fun (v : Option Value) (G1 : gH) (n1 : Nat) => ∃ (pl2 : Nat) (wr2 : Int32) (r : Int32), v = some (.int r) ∧ n ≤ n1 ∧ gF G G1 n (fun q : Nat => q = mm) ∧ G1 mm = some (.inl (23, [.ref ag, .ref ab, .ref ah, .int ch, .ref asv, .int hs, .ref aas, .ref ain, .int ty, .int er, .ref awy, .int ir, .ref ali, .int ln, .int th, .int (nI pl2), .int wr2, .ref ato])) ∧ sBait tc tn (p0, wr) = ((pl2, wr2), r) ∧ pl2 ≤ tn ∧ (wr2 = 0 ∨ wr2 = 1)) gNox := by
  refine g_start (by decide) (Nat.le_of_ble_eq_true rfl) ?_
  intro p e s m below meth c ls C hnm hxt hI hl
  have hx := C.x
  have hb := C.b
  have hS : va_S (gA D) s.heap s.heap [] := va_S.rf
  have hz0 := hI.z
  have lc0_ := hI.lt c0_
  have lc1_ := hI.lt c1_
  have hF : gF G G n (fun q : Nat => q = mm) := gF.rf _ _ _
  have hl : lv_has ls 2 [(0, .ref mm)] := hl
  refine lv_aload_n hx hb dX4_baitRead_0 rfl (lv_at hl 0 rfl) ?_
  refine g_V (As := []) (rest := []) (lv := [(0, .ref mm)]) C hI hS (c_X4_here l hB G n mm ag ab ah ch asv hs aas ain ty er awy ir ali ln th pl wr ato tc tn p0 c0_ c1_ hty (by omega) hpl (by omega)) c0_ rfl rfl q2869 q2871 qs63 q94 q2872 (⟨by decide, by decide, by decide⟩ : gArg _ 0) rfl ⟨by decide, by decide⟩ (by omega) hl rfl (Nat.le_of_ble_eq_true rfl) dX4_baitRead_1 (fun v3818 G3819 n3820 H locs hp3821 hI hS => ?_) gKx.no
  obtain ⟨rfl, eG3819, en3820⟩ := hp3821
  refine W.widen (k := 0) (n := 200 * (0)) (by omega) (by omega) ?_
  rw [eG3819, en3820] at hI
  refine lv_istore_n (lv' := [(1, .int (sHere tc tn p0)), (0, .ref mm)]) hx hb dX4_baitRead_4 rfl hl (by decide) rfl (fun ls hl => ?_)
  refine lv_aload_n hx hb dX4_baitRead_5 rfl (lv_at hl 1 rfl) ?_
  refine lv_iload_n hx hb dX4_baitRead_6 rfl (lv_at hl 0 rfl) ?_
  refine lv_bipush (v := 102) hx hb dX4_baitRead_7 (by decide) ?_
  refine lv_icmp_ne (tgt := 17) hx hb dX4_baitRead_9 (by decide) (fun c_3824 => ?_) (fun c_3824 => ?_)
  · skip
    refine lv_iload_n hx hb dX4_baitRead_17 rfl (lv_at hl 0 rfl) ?_
    refine lv_bipush (v := 109) hx hb dX4_baitRead_18 (by decide) ?_
    refine lv_icmp_ne (tgt := 28) hx hb dX4_baitRead_20 (by decide) (fun c_3825 => ?_) (fun c_3825 => ?_)
    · skip
      refine g_ldcS C (sr_WhelkFleetModel_212 D) dX4_baitRead_28 ?_
      have lc3826 : gk D 119 < gz D := (hB.tx (j := 19) rfl).1
      have lc3827 : gk D 219 < gz D := (hB.tx (j := 19) rfl).2.1
      have c3826 : G (gk D 119) = some (.inl (21, [.ref (gk D 219), .int 0, .int 3061968, .int 0])) := hI.bs ⟨lc3826, (hB.tx (j := 19) rfl).2.2.1⟩
      have c3827 : G (gk D 219) = some (aB (([99, 114, 97, 98] : List Nat).length) (fun i => nI (([99, 114, 97, 98] : List Nat).getD i 0))) := hI.bs ⟨lc3827, (hB.tx (j := 19) rfl).2.2.2⟩
      refine g_V (As := [.ref (gk D 119)]) (rest := []) (lv := [(1, .int (sHere tc tn p0)), (0, .ref mm)]) C hI hS (c_X4_needsText l hB G n mm ag ab ah ch asv hs aas ain ty er awy ir ali ln th pl wr ato tc tn p0 (gk D 219) 3061968 0 ([99, 114, 97, 98] : List Nat) (gk D 119) c0_ c1_ c3826 c3827 (by omega) hty (by omega) hpl hp60 hw (by decide) (by decide)) c0_ rfl rfl q2873 q2875 qs64 q94 q2876 (⟨by decide, by decide, by decide⟩ : gArg _ 1) rfl ⟨by decide, by decide⟩ (by omega) hl rfl (Nat.le_of_ble_eq_true rfl) dX4_baitRead_30 (fun v3828 G3829 n3830 H locs hp3831 hI hS => ?_) gKx.no
      obtain ⟨pl2_3832, wr2_3833, rfl, hn3834, hF3835, c3836, hq3837, hle3838, hw23839⟩ := hp3831
      refine W.widen (k := 0) (n := 200 * (0)) (by omega) (by omega) ?_
      have c1_ := hF3835.at c1_ (by omega) (g_on c1_ c0_)
      have c3826 := hF3835.at c3826 (by omega) (g_nc c3826 c0_ (by decide))
      have c3827 := hF3835.at c3827 (by omega) (g_on c3827 c0_)
      have hF := hF.trans hF3835 (by omega) (fun q hq => (fun h => h ▸ rfl))
      refine lv_iload_n hx hb dX4_baitRead_33 rfl (lv_at hl 0 rfl) ?_
      refine lv_bipush (v := 102) hx hb dX4_baitRead_34 (by decide) ?_
      refine lv_icmp_ne (tgt := 43) hx hb dX4_baitRead_36 (by decide) (fun c_3840 => ?_) (fun c_3840 => ?_)
      · skip
        refine lv_iload_n hx hb dX4_baitRead_43 rfl (lv_at hl 0 rfl) ?_
        refine lv_bipush (v := 109) hx hb dX4_baitRead_44 (by decide) ?_
        refine lv_icmp_ne (tgt := 53) hx hb dX4_baitRead_46 (by decide) (fun c_3841 => ?_) (fun c_3841 => ?_)
        · skip
          refine lv_iconst (v := 0) hx hb dX4_baitRead_53 (by decide) ?_
          exact g_iret C hI hS (by omega) ⟨pl2_3832, wr2_3833, 0, rfl, (by omega), hF, c3836, (by simp [sBait, c_3824, c_3825, hq3837, c_3840, c_3841]), hle3838, hw23839⟩ dX4_baitRead_54
        · exact absurd c_3841 c_3825
      · exact absurd c_3840 c_3824
    · skip
      refine g_ldcS C (sr_WhelkFleetModel_210 D) dX4_baitRead_23 ?_
      have lc3842 : gk D 121 < gz D := (hB.tx (j := 21) rfl).1
      have lc3843 : gk D 221 < gz D := (hB.tx (j := 21) rfl).2.1
      have c3842 : G (gk D 121) = some (.inl (21, [.ref (gk D 221), .int 0, .int 103910395, .int 0])) := hI.bs ⟨lc3842, (hB.tx (j := 21) rfl).2.2.1⟩
      have c3843 : G (gk D 221) = some (aB (([109, 105, 120, 101, 100] : List Nat).length) (fun i => nI (([109, 105, 120, 101, 100] : List Nat).getD i 0))) := hI.bs ⟨lc3843, (hB.tx (j := 21) rfl).2.2.2⟩
      refine lv_goto (tgt := 30) hx hb dX4_baitRead_25 (by decide) ?_
      refine g_V (As := [.ref (gk D 121)]) (rest := []) (lv := [(1, .int (sHere tc tn p0)), (0, .ref mm)]) C hI hS (c_X4_needsText l hB G n mm ag ab ah ch asv hs aas ain ty er awy ir ali ln th pl wr ato tc tn p0 (gk D 221) 103910395 0 ([109, 105, 120, 101, 100] : List Nat) (gk D 121) c0_ c1_ c3842 c3843 (by omega) hty (by omega) hpl hp60 hw (by decide) (by decide)) c0_ rfl rfl q2873 q2875 qs64 q94 q2876 (⟨by decide, by decide, by decide⟩ : gArg _ 1) rfl ⟨by decide, by decide⟩ (by omega) hl rfl (Nat.le_of_ble_eq_true rfl) dX4_baitRead_30 (fun v3844 G3845 n3846 H locs hp3847 hI hS => ?_) gKx.no
      obtain ⟨pl2_3848, wr2_3849, rfl, hn3850, hF3851, c3852, hq3853, hle3854, hw23855⟩ := hp3847
      refine W.widen (k := 0) (n := 200 * (0)) (by omega) (by omega) ?_
      have c1_ := hF3851.at c1_ (by omega) (g_on c1_ c0_)
      have c3842 := hF3851.at c3842 (by omega) (g_nc c3842 c0_ (by decide))
      have c3843 := hF3851.at c3843 (by omega) (g_on c3843 c0_)
      have hF := hF.trans hF3851 (by omega) (fun q hq => (fun h => h ▸ rfl))
      refine lv_iload_n hx hb dX4_baitRead_33 rfl (lv_at hl 0 rfl) ?_
      refine lv_bipush (v := 102) hx hb dX4_baitRead_34 (by decide) ?_
      refine lv_icmp_ne (tgt := 43) hx hb dX4_baitRead_36 (by decide) (fun c_3856 => ?_) (fun c_3856 => ?_)
      · skip
        refine lv_iload_n hx hb dX4_baitRead_43 rfl (lv_at hl 0 rfl) ?_
        refine lv_bipush (v := 109) hx hb dX4_baitRead_44 (by decide) ?_
        refine lv_icmp_ne (tgt := 53) hx hb dX4_baitRead_46 (by decide) (fun c_3857 => ?_) (fun c_3857 => ?_)
        · exact absurd c_3825 c_3857
        · skip
          refine lv_iconst (v := 2) hx hb dX4_baitRead_49 (by decide) ?_
          refine lv_goto (tgt := 54) hx hb dX4_baitRead_50 (by decide) ?_
          exact g_iret C hI hS (by omega) ⟨pl2_3848, wr2_3849, 2, rfl, (by omega), hF, c3852, (by simp [sBait, c_3824, eq_true c_3825, hq3853, c_3856, eq_true c_3857]), hle3854, hw23855⟩ dX4_baitRead_54
      · exact absurd c_3856 c_3824
  · skip
    refine g_ldcS C (sr_WhelkFleetModel_208 D) dX4_baitRead_12 ?_
    have lc3858 : gk D 120 < gz D := (hB.tx (j := 20) rfl).1
    have lc3859 : gk D 220 < gz D := (hB.tx (j := 20) rfl).2.1
    have c3858 : G (gk D 120) = some (.inl (21, [.ref (gk D 220), .int 0, .int 3143256, .int 0])) := hI.bs ⟨lc3858, (hB.tx (j := 20) rfl).2.2.1⟩
    have c3859 : G (gk D 220) = some (aB (([102, 105, 115, 104] : List Nat).length) (fun i => nI (([102, 105, 115, 104] : List Nat).getD i 0))) := hI.bs ⟨lc3859, (hB.tx (j := 20) rfl).2.2.2⟩
    refine lv_goto (tgt := 30) hx hb dX4_baitRead_14 (by decide) ?_
    refine g_V (As := [.ref (gk D 120)]) (rest := []) (lv := [(1, .int (sHere tc tn p0)), (0, .ref mm)]) C hI hS (c_X4_needsText l hB G n mm ag ab ah ch asv hs aas ain ty er awy ir ali ln th pl wr ato tc tn p0 (gk D 220) 3143256 0 ([102, 105, 115, 104] : List Nat) (gk D 120) c0_ c1_ c3858 c3859 (by omega) hty (by omega) hpl hp60 hw (by decide) (by decide)) c0_ rfl rfl q2873 q2875 qs64 q94 q2876 (⟨by decide, by decide, by decide⟩ : gArg _ 1) rfl ⟨by decide, by decide⟩ (by omega) hl rfl (Nat.le_of_ble_eq_true rfl) dX4_baitRead_30 (fun v3860 G3861 n3862 H locs hp3863 hI hS => ?_) gKx.no
    obtain ⟨pl2_3864, wr2_3865, rfl, hn3866, hF3867, c3868, hq3869, hle3870, hw23871⟩ := hp3863
    refine W.widen (k := 0) (n := 200 * (0)) (by omega) (by omega) ?_
    have c1_ := hF3867.at c1_ (by omega) (g_on c1_ c0_)
    have c3858 := hF3867.at c3858 (by omega) (g_nc c3858 c0_ (by decide))
    have c3859 := hF3867.at c3859 (by omega) (g_on c3859 c0_)
    have hF := hF.trans hF3867 (by omega) (fun q hq => (fun h => h ▸ rfl))
    refine lv_iload_n hx hb dX4_baitRead_33 rfl (lv_at hl 0 rfl) ?_
    refine lv_bipush (v := 102) hx hb dX4_baitRead_34 (by decide) ?_
    refine lv_icmp_ne (tgt := 43) hx hb dX4_baitRead_36 (by decide) (fun c_3872 => ?_) (fun c_3872 => ?_)
    · exact absurd c_3824 c_3872
    · skip
      refine lv_iconst (v := 1) hx hb dX4_baitRead_39 (by decide) ?_
      refine lv_goto (tgt := 54) hx hb dX4_baitRead_40 (by decide) ?_
      exact g_iret C hI hS (by omega) ⟨pl2_3864, wr2_3865, 1, rfl, (by omega), hF, c3868, (by simp [sBait, eq_true c_3824, hq3869, eq_true c_3872]), hle3870, hw23871⟩ dX4_baitRead_54
