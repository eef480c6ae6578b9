/-! THE REFERENCE, 11: reading, and what is told is done -/
/-- an order read: its word, its numbers, laid at k .. k + 3 -/
def sOrder (tc : Nat → Nat) (tn : Nat) (tv : Nat → Int32) (k : Nat) (st : sSt) : sSt × (Nat → Int32) :=
  let wd := sWd tc tn st.1
  let st1 := sNT tc tn (wL wd) st
  let r1 := if ¬ wd = 7 then sDigit tc tn st1 else sNumber tc tn st1
  let t2 := gup (gup tv k (nI wd)) (k + 1) r1.2
  if wd = 0 then
    let r2 := sDigit tc tn (sNT tc tn [32, 116, 111, 32] r1.1)
    (r2.1, gup t2 (k + 2) r2.2)
  else if wd = 2 then
    let r2 := sDigit tc tn (sNT tc tn [32, 98, 121, 32] r1.1)
    let r3 := sBait tc tn (sNT tc tn [32, 119, 105, 116, 104, 32] r2.1)
    (r3.1, gup (gup t2 (k + 2) r2.2) (k + 3) r3.2)
  else if wd = 3 then
    let r2 := sDigit tc tn (sNT tc tn [32, 98, 121, 32] r1.1)
    (r2.1, gup t2 (k + 2) r2.2)
  else (r1.1, t2)
/-- all orders: how many, where it ended, what was laid -/
def sTx (tc : Nat → Nat) (tn : Nat) : Nat → Nat → Nat → (Nat → Int32) → Nat × sSt × (Nat → Int32)
  | 0, n, p, tv => (n, (p, 0), tv)
  | m + 1, n, p, tv =>
    let o := sOrder tc tn tv (4 * n) (p, 0)
    if ¬ o.1.2 = 0 then (n + 1, o.1, o.2) else if ¬ sHere tc tn o.1.1 = 59 then (n + 1, o.1, o.2) else sTx tc tn m (n + 1) (o.1.1 + 1) o.2
theorem sTx_s (tc : Nat → Nat) (tn m n p : Nat) (tv : Nat → Int32) : sTx tc tn (m + 1) n p tv = (if ¬ (sOrder tc tn tv (4 * n) (p, 0)).1.2 = 0 then (n + 1, (sOrder tc tn tv (4 * n) (p, 0)).1, (sOrder tc tn tv (4 * n) (p, 0)).2) else if ¬ sHere tc tn (sOrder tc tn tv (4 * n) (p, 0)).1.1 = 59 then (n + 1, (sOrder tc tn tv (4 * n) (p, 0)).1, (sOrder tc tn tv (4 * n) (p, 0)).2) else sTx tc tn m (n + 1) ((sOrder tc tn tv (4 * n) (p, 0)).1.1 + 1) (sOrder tc tn tv (4 * n) (p, 0)).2) := rfl
def sText (tc : Nat → Nat) (tn : Nat) (tv : Nat → Int32) : Nat × sSt × (Nat → Int32) :=
  let x := sTx tc tn 62 0 0 tv
  (x.1, (x.2.1.1, if ¬ x.2.1.2 = 0 then 1 else if tn ≤ x.2.1.1 then 0 else 1), x.2.2)
theorem sNT_w1 {tc : Nat → Nat} {tn : Nat} {L : List Nat} {st : sSt} (h : ¬ st.2 = 0) : ¬ (sNT tc tn L st).2 = 0 := by
  induction L generalizing st with
  | nil => exact h
  | cons c L ih =>
    refine ih ?_
    unfold sNeeds
    rw [if_pos h]
    exact (by decide : ¬ (1 : Int32) = 0)
theorem sDigit_w1 {tc : Nat → Nat} {tn : Nat} {st : sSt} (h : ¬ st.2 = 0) : ¬ (sDigit tc tn st).1.2 = 0 := by
  unfold sDigit
  rw [if_pos h]
  exact (by decide : ¬ (1 : Int32) = 0)
theorem sBait_w1 {tc : Nat → Nat} {tn : Nat} {st : sSt} (h : ¬ st.2 = 0) : ¬ (sBait tc tn st).1.2 = 0 := by
  unfold sBait
  split
  · split
    · exact sNT_w1 h
    · exact sNT_w1 h
  · exact sNT_w1 h
theorem sBait_ge {tc : Nat → Nat} {tn : Nat} {st : sSt} : st.1 ≤ (sBait tc tn st).1.1 := by
  unfold sBait
  split
  · split
    · exact sNT_ge
    · exact sNT_ge
  · exact sNT_ge
theorem sNumber_gt {tc : Nat → Nat} {tn : Nat} {st : sSt} (h : (sNumber tc tn st).1.2 = 0) : st.1 < (sNumber tc tn st).1.1 := by
  unfold sNumber at h ⊢
  split at h
  · next c => exact absurd h c
  · next c =>
    have c2 : (sDigit tc tn st).1.2 = 0 := Decidable.of_not_not c
    have := sDigit_gt c2
    rw [if_neg c]
    split
    · exact this
    · exact Nat.lt_of_lt_of_le this sDigit_ge
/-- an order that is right is not empty -/
theorem sOrder_gt {tc : Nat → Nat} {tn : Nat} {tv : Nat → Int32} {k p : Nat} (h : (sOrder tc tn tv k (p, 0)).1.2 = 0) : p < (sOrder tc tn tv k (p, 0)).1.1 := by
  have key : ∀ st1 : sSt, p ≤ st1.1 → ∀ wd : Nat, (if ¬ wd = 7 then sDigit tc tn st1 else sNumber tc tn st1).1.2 = 0 → p < (if ¬ wd = 7 then sDigit tc tn st1 else sNumber tc tn st1).1.1 := by
    intro st1 h1 wd h2
    split
    · next c => rw [if_pos c] at h2; exact Nat.lt_of_le_of_lt h1 (sDigit_gt h2)
    · next c => rw [if_neg c] at h2; exact Nat.lt_of_le_of_lt h1 (sNumber_gt h2)
  have h0 : p ≤ (sNT tc tn (wL (sWd tc tn p)) (p, 0)).1 := sNT_ge (st := (p, 0))
  have key2 := key _ h0 (sWd tc tn p)
  unfold sOrder at h ⊢
  dsimp only at h ⊢
  generalize (if ¬ sWd tc tn p = 7 then sDigit tc tn (sNT tc tn (wL (sWd tc tn p)) (p, 0)) else sNumber tc tn (sNT tc tn (wL (sWd tc tn p)) (p, 0))) = r1 at h key2 ⊢
  by_cases c0 : sWd tc tn p = 0
  · rw [if_pos c0] at h ⊢
    dsimp only at h ⊢
    by_cases hw : r1.1.2 = 0
    · exact Nat.lt_of_lt_of_le (key2 hw) (Nat.le_trans sNT_ge sDigit_ge)
    · exact absurd h (sDigit_w1 (sNT_w1 hw))
  · rw [if_neg c0] at h ⊢
    by_cases c2 : sWd tc tn p = 2
    · rw [if_pos c2] at h ⊢
      dsimp only at h ⊢
      by_cases hw : r1.1.2 = 0
      · exact Nat.lt_of_lt_of_le (key2 hw) (Nat.le_trans (Nat.le_trans sNT_ge sDigit_ge) (Nat.le_trans sNT_ge sBait_ge))
      · exact absurd h (sBait_w1 (sNT_w1 (sDigit_w1 (sNT_w1 hw))))
    · rw [if_neg c2] at h ⊢
      by_cases c3 : sWd tc tn p = 3
      · rw [if_pos c3] at h ⊢
        dsimp only at h ⊢
        by_cases hw : r1.1.2 = 0
        · exact Nat.lt_of_lt_of_le (key2 hw) (Nat.le_trans sNT_ge sDigit_ge)
        · exact absurd h (sDigit_w1 (sNT_w1 hw))
      · rw [if_neg c3] at h ⊢
        exact key2 h
/-- what a told order does -/
def sDo (f tv : Nat → Int32) (k : Nat) : sO :=
  if tv k = 0 then dOut f (tv (k + 1)) (tv (k + 2)) else if tv k = 1 then dHome f (tv (k + 1)) else if tv k = 2 then dShoot f (tv (k + 2)) (tv (k + 1)) (tv (k + 3)) else
  if tv k = 3 then dHaul f (tv (k + 2)) (tv (k + 1)) else if tv k = 4 then dLand f (tv (k + 1)) else if tv k = 5 then dSwell f (tv (k + 1)) else if tv k = 6 then dRiddle f (tv (k + 1)) else dPass f (tv (k + 1))
set_option maxHeartbeats 4000000 in
set_option maxRecDepth 100000 in
theorem c_X4_readsOrder (l : Launch) {D : gD} (hB : gBs D) (G : gH) (n : Nat) (mm : Nat) (ag : Nat) (ab : Nat) (ah : Nat) (ch : Int32) (asv : Nat) (hs : Int32) (aas : Nat) (ain : Nat) (ty : Int32) (er : Int32) (awy : Nat) (ir : Int32) (ali : Nat) (ln : Int32) (th : Int32) (pl : Int32) (wr : Int32) (ato : Nat) (tc : Nat → Nat) (tn : Nat) (p0 : Nat) (tv : Nat → Int32) (kk : Nat) (a1 : Int32) (c0_ : G mm = some (.inl (23, [.ref ag, .ref ab, .ref ah, .int ch, .ref asv, .int hs, .ref aas, .ref ain, .int ty, .int er, .ref awy, .int ir, .ref ali, .int ln, .int th, .int pl, .int wr, .ref ato]))) (c1_ : G ain = some (aC 60 (fun k => nI (tc k)))) (c2_ : G ato = some (aI 240 tv)) (hz : gz D ≤ mm) (hty : ty = nI tn) (ht60 : tn ≤ 60) (hpl : pl = nI p0) (hp60 : p0 ≤ tn) (hw : wr = 0 ∨ wr = 1) (hzt : gz D ≤ ato) (ek : a1 = nI kk) (hk4 : kk + 3 < 240) : gMet l D yX4_readsOrder (ws_ yX4_readsOrder cX4_readsOrder 3 none) 7 0 G n [.ref mm, .int a1] (fun (v : Option Value) (G1 : gH) (n1 : Nat) => ∃ (pl2 : Nat) (wr2 : Int32) (tv2 : Nat → Int32), v = none ∧ n ≤ n1 ∧ gF G G1 n (fun q : Nat => q = mm ∨ q = ato) ∧ G1 mm = some (.inl (23, [.ref ag, .ref ab, .ref ah, .int ch, .ref asv, .int hs, .ref aas, .ref ain, .int ty, .int er, .ref awy, .int ir, .ref ali, .int ln, .int th, .int (nI pl2), .int wr2, .ref ato])) ∧ G1 ato = some (aI 240 tv2) ∧ sOrder tc tn tv kk (p0, wr) = ((pl2, wr2), tv2) ∧ pl2 ≤ tn ∧ (wr2 = 0 ∨ wr2 = 1)) gNox := by
  refine g_start (by decide) (Nat.le_of_ble_eq_true rfl) ?_
  intro p e s m below meth c ls C hnm hxt hI hl
  have hx := C.x
  have hb := C.b
  have hS : va_S (gA D) s.heap s.heap [] := va_S.rf
  have hz0 := hI.z
  have lc0_ := hI.lt c0_
  have lc1_ := hI.lt c1_
  have lc2_ := hI.lt c2_
  have hF : gF G G n (fun q : Nat => q = mm ∨ q = ato) := gF.rf _ _ _
  have hl : lv_has ls 3 [(0, .ref mm), (1, .int a1)] := hl
  refine lv_aload_n hx hb dX4_readsOrder_0 rfl (lv_at hl 0 rfl) ?_
  refine g_V (As := []) (rest := []) (lv := [(0, .ref mm), (1, .int a1)]) C hI hS (c_X4_readsWord l hB G n mm ag ab ah ch asv hs aas ain ty er awy ir ali ln th pl wr ato tc tn p0 c0_ c1_ (by omega) hty (by omega) hpl hp60 hw) c0_ rfl rfl q2849 q2851 qs61 q94 q2852 (⟨by decide, by decide, by decide⟩ : gArg _ 0) rfl ⟨by decide, by decide⟩ (by omega) hl rfl (Nat.le_of_ble_eq_true rfl) dX4_readsOrder_1 (fun v3873 G3874 n3875 H locs hp3876 hI hS => ?_) gKx.no
  obtain ⟨r_3877, pl2_3878, wr2_3879, rfl, hn3880, hF3881, c3882, hwd3883, hq3884, hle3885, hw23886⟩ := hp3876
  refine W.widen (k := 0) (n := 200 * (0)) (by omega) (by omega) ?_
  have c1_ := hF3881.at c1_ (by omega) (g_on c1_ c0_)
  have c2_ := hF3881.at c2_ (by omega) (g_on c2_ c0_)
  have hF := hF.trans hF3881 (by omega) (fun q hq => (fun h => h ▸ (Or.inl rfl)))
  have hwle := sWd_le tc tn p0
  have hwq := hq3884
  have hwd := hwd3883
  refine lv_istore_n (lv' := [(2, .int r_3877), (0, .ref mm), (1, .int a1)]) hx hb dX4_readsOrder_4 rfl hl (by decide) rfl (fun ls hl => ?_)
  refine lv_aload_n hx hb dX4_readsOrder_5 rfl (lv_at hl 1 rfl) ?_
  refine g_get C hI c3882 kc23 17 rfl q2584 (fun _ h9 => h9) dX4_readsOrder_6 ?_
  refine lv_iload_n hx hb dX4_readsOrder_9 rfl (lv_at hl 2 rfl) ?_
  refine lv_iload_n hx hb dX4_readsOrder_10 rfl (lv_at hl 0 rfl) ?_
  refine g_iast C hI hS c2_ (by omega) (gix ek (by omega) (by omega)) dX4_readsOrder_11 (fun G3887 H locs e3888 hI hS => ?_)
  rw [gup_e ek (by omega)] at e3888
  have c1_ := gE_k e3888 c1_ (g_na c1_ c2_ (Or.inl (by decide)))
  have c3882 := gE_k e3888 c3882 (g_no c3882 c2_)
  have c2_ : G3887 ato = some (aI 240 (gup tv kk r_3877)) := gE_s e3888
  have hF := gE_F e3888 hF (Or.inr (Or.inr (rfl)))
  refine lv_aload_n hx hb dX4_readsOrder_12 rfl (lv_at hl 1 rfl) ?_
  refine g_get C hI c3882 kc23 17 rfl q2584 (fun _ h9 => h9) dX4_readsOrder_13 ?_
  refine lv_iload_n hx hb dX4_readsOrder_16 rfl (lv_at hl 2 rfl) ?_
  refine lv_iconst (v := 1) hx hb dX4_readsOrder_17 (by decide) ?_
  refine lv_iadd hx hb dX4_readsOrder_18 ?_
  refine lv_iload_n hx hb dX4_readsOrder_19 rfl (lv_at hl 0 rfl) ?_
  refine lv_bipush (v := 7) hx hb dX4_readsOrder_20 (by decide) ?_
  refine lv_icmp_ne (tgt := 32) hx hb dX4_readsOrder_22 (by decide) (fun c_3890 => ?_) (fun c_3890 => ?_)
  · skip
    have k_3891 : ¬ ((sWd tc tn p0) = 7) := (not_congr (nI_eqE hwd nl7 (by omega) (by omega))).mp c_3890
    refine lv_aload_n hx hb dX4_readsOrder_32 rfl (lv_at hl 1 rfl) ?_
    refine g_V (As := []) (rest := [.int (a1 + 1), .ref ato]) (lv := [(2, .int r_3877), (0, .ref mm), (1, .int a1)]) C hI hS (c_X4_digit l hB G3887 n3875 mm ag ab ah ch asv hs aas ain ty er awy ir ali ln th (nI pl2_3878) wr2_3879 ato tc tn pl2_3878 c3882 c1_ (by omega) hty (by omega) rfl hle3885 hw23886) c3882 rfl rfl q2886 q2888 qs67 q94 q2889 (⟨by decide, by decide, by decide⟩ : gArg _ 0) rfl ⟨by decide, by decide⟩ (by omega) hl rfl (Nat.le_of_ble_eq_true rfl) dX4_readsOrder_33 (fun v3892 G3893 n3894 H locs hp3895 hI hS => ?_) gKx.no
    obtain ⟨pl2_3896, wr2_3897, r_3898, rfl, hn3899, hF3900, c3901, hq3902, hle3903, hw23904⟩ := hp3895
    refine W.widen (k := 0) (n := 200 * (0)) (by omega) (by omega) ?_
    have c1_ := hF3900.at c1_ (by omega) (g_on c1_ c3882)
    have c2_ := hF3900.at c2_ (by omega) (g_on c2_ c3882)
    have hF := hF.trans hF3900 (by omega) (fun q hq => (fun h => h ▸ (Or.inl rfl)))
    refine g_iast C hI hS c2_ (by omega) (gix (gadd ek nl1) (by omega) (by omega)) dX4_readsOrder_36 (fun G3905 H locs e3906 hI hS => ?_)
    rw [gup_e (gadd ek nl1) (by omega)] at e3906
    have c1_ := gE_k e3906 c1_ (g_na c1_ c2_ (Or.inl (by decide)))
    have c3901 := gE_k e3906 c3901 (g_no c3901 c2_)
    have c2_ : G3905 ato = some (aI 240 (gup (gup tv kk r_3877) (kk + 1) r_3898)) := gE_s e3906
    have hF := gE_F e3906 hF (Or.inr (Or.inr (rfl)))
    refine lv_iload_n hx hb dX4_readsOrder_37 rfl (lv_at hl 0 rfl) ?_
    refine lv_if_eq (tgt := 51) hx hb dX4_readsOrder_38 (by decide) (fun c_3908 => ?_) (fun c_3908 => ?_)
    · skip
      have k_3909 : (sWd tc tn p0) = 0 := (nI_eqE hwd nl0 (by omega) (by omega)).mp c_3908
      refine lv_aload_n hx hb dX4_readsOrder_51 rfl (lv_at hl 1 rfl) ?_
      refine lv_iload_n hx hb dX4_readsOrder_52 rfl (lv_at hl 0 rfl) ?_
      refine lv_if_ne (tgt := 61) hx hb dX4_readsOrder_53 (by decide) (fun c_3910 => ?_) (fun c_3910 => ?_)
      · exact absurd c_3908 c_3910
      · skip
        have k_3911 : (sWd tc tn p0) = 0 := (nI_eqE hwd nl0 (by omega) (by omega)).mp c_3910
        refine g_ldcS C (sr_WhelkFleetModel_220 D) dX4_readsOrder_56 ?_
        have lc3912 : gk D 115 < gz D := (hB.tx (j := 15) rfl).1
        have lc3913 : gk D 215 < gz D := (hB.tx (j := 15) rfl).2.1
        have c3912 : G3905 (gk D 115) = some (.inl (21, [.ref (gk D 215), .int 0, .int 1068261, .int 0])) := hI.bs ⟨lc3912, (hB.tx (j := 15) rfl).2.2.1⟩
        have c3913 : G3905 (gk D 215) = some (aB (([32, 116, 111, 32] : List Nat).length) (fun i => nI (([32, 116, 111, 32] : List Nat).getD i 0))) := hI.bs ⟨lc3913, (hB.tx (j := 15) rfl).2.2.2⟩
        refine lv_goto (tgt := 63) hx hb dX4_readsOrder_58 (by decide) ?_
        refine g_V (As := [.ref (gk D 115)]) (rest := []) (lv := [(2, .int r_3877), (0, .ref mm), (1, .int a1)]) C hI hS (c_X4_needsText l hB G3905 n3894 mm ag ab ah ch asv hs aas ain ty er awy ir ali ln th (nI pl2_3896) wr2_3897 ato tc tn pl2_3896 (gk D 215) 1068261 0 ([32, 116, 111, 32] : List Nat) (gk D 115) c3901 c1_ c3912 c3913 (by omega) hty (by omega) rfl hle3903 hw23904 (by decide) (by decide)) c3901 rfl rfl q2873 q2875 qs64 q94 q2876 (⟨by decide, by decide, by decide⟩ : gArg _ 1) rfl ⟨by decide, by decide⟩ (by omega) hl rfl (Nat.le_of_ble_eq_true rfl) dX4_readsOrder_63 (fun v3914 G3915 n3916 H locs hp3917 hI hS => ?_) gKx.no
        obtain ⟨pl2_3918, wr2_3919, rfl, hn3920, hF3921, c3922, hq3923, hle3924, hw23925⟩ := hp3917
        refine W.widen (k := 0) (n := 200 * (0)) (by omega) (by omega) ?_
        have c1_ := hF3921.at c1_ (by omega) (g_on c1_ c3901)
        have c2_ := hF3921.at c2_ (by omega) (g_on c2_ c3901)
        have c3912 := hF3921.at c3912 (by omega) (g_nc c3912 c3901 (by decide))
        have c3913 := hF3921.at c3913 (by omega) (g_on c3913 c3901)
        have hF := hF.trans hF3921 (by omega) (fun q hq => (fun h => h ▸ (Or.inl rfl)))
        refine lv_aload_n hx hb dX4_readsOrder_66 rfl (lv_at hl 1 rfl) ?_
        refine g_get C hI c3922 kc23 17 rfl q2584 (fun _ h9 => h9) dX4_readsOrder_67 ?_
        refine lv_iload_n hx hb dX4_readsOrder_70 rfl (lv_at hl 2 rfl) ?_
        refine lv_iconst (v := 2) hx hb dX4_readsOrder_71 (by decide) ?_
        refine lv_iadd hx hb dX4_readsOrder_72 ?_
        refine lv_aload_n hx hb dX4_readsOrder_73 rfl (lv_at hl 1 rfl) ?_
        refine g_V (As := []) (rest := [.int (a1 + 2), .ref ato]) (lv := [(2, .int r_3877), (0, .ref mm), (1, .int a1)]) C hI hS (c_X4_digit l hB G3915 n3916 mm ag ab ah ch asv hs aas ain ty er awy ir ali ln th (nI pl2_3918) wr2_3919 ato tc tn pl2_3918 c3922 c1_ (by omega) hty (by omega) rfl hle3924 hw23925) c3922 rfl rfl q2886 q2888 qs67 q94 q2889 (⟨by decide, by decide, by decide⟩ : gArg _ 0) rfl ⟨by decide, by decide⟩ (by omega) hl rfl (Nat.le_of_ble_eq_true rfl) dX4_readsOrder_74 (fun v3926 G3927 n3928 H locs hp3929 hI hS => ?_) gKx.no
        obtain ⟨pl2_3930, wr2_3931, r_3932, rfl, hn3933, hF3934, c3935, hq3936, hle3937, hw23938⟩ := hp3929
        refine W.widen (k := 0) (n := 200 * (0)) (by omega) (by omega) ?_
        have c1_ := hF3934.at c1_ (by omega) (g_on c1_ c3922)
        have c2_ := hF3934.at c2_ (by omega) (g_on c2_ c3922)
        have c3912 := hF3934.at c3912 (by omega) (g_nc c3912 c3922 (by decide))
        have c3913 := hF3934.at c3913 (by omega) (g_on c3913 c3922)
        have hF := hF.trans hF3934 (by omega) (fun q hq => (fun h => h ▸ (Or.inl rfl)))
        refine g_iast C hI hS c2_ (by omega) (gix (gadd ek nl2) (by omega) (by omega)) dX4_readsOrder_77 (fun G3939 H locs e3940 hI hS => ?_)
        rw [gup_e (gadd ek nl2) (by omega)] at e3940
        have c1_ := gE_k e3940 c1_ (g_na c1_ c2_ (Or.inl (by decide)))
        have c3912 := gE_k e3940 c3912 (g_no c3912 c2_)
        have c3913 := gE_k e3940 c3913 (g_na c3913 c2_ (Or.inl (by decide)))
        have c3935 := gE_k e3940 c3935 (g_no c3935 c2_)
        have c2_ : G3939 ato = some (aI 240 (gup (gup (gup tv kk r_3877) (kk + 1) r_3898) (kk + 2) r_3932)) := gE_s e3940
        have hF := gE_F e3940 hF (Or.inr (Or.inr (rfl)))
        refine lv_iload_n hx hb dX4_readsOrder_78 rfl (lv_at hl 0 rfl) ?_
        refine lv_iconst (v := 2) hx hb dX4_readsOrder_79 (by decide) ?_
        refine lv_icmp_ne (tgt := 101) hx hb dX4_readsOrder_80 (by decide) (fun c_3942 => ?_) (fun c_3942 => ?_)
        · skip
          have k_3943 : ¬ ((sWd tc tn p0) = 2) := (not_congr (nI_eqE hwd nl2 (by omega) (by omega))).mp c_3942
          exact g_vret C hI hS (by omega) ⟨pl2_3930, wr2_3931, gup (gup (gup tv kk r_3877) (kk + 1) r_3898) (kk + 2) r_3932, rfl, (by omega), hF, c3935, c2_, (by simp [sOrder, hwq, ← hwd, c_3890, k_3891, hq3902, eq_true c_3908, eq_true k_3909, eq_true c_3910, eq_true k_3911, hq3923, hq3936, c_3942, k_3943]), hle3937, hw23938⟩ dX4_readsOrder_101
        · exact absurd c_3942 (fun h => absurd (c_3910.symm.trans h) (by decide))
    · skip
      have k_3944 : ¬ ((sWd tc tn p0) = 0) := (not_congr (nI_eqE hwd nl0 (by omega) (by omega))).mp c_3908
      refine lv_iload_n hx hb dX4_readsOrder_41 rfl (lv_at hl 0 rfl) ?_
      refine lv_iconst (v := 2) hx hb dX4_readsOrder_42 (by decide) ?_
      refine lv_icmp_eq (tgt := 51) hx hb dX4_readsOrder_43 (by decide) (fun c_3945 => ?_) (fun c_3945 => ?_)
      · skip
        have k_3946 : (sWd tc tn p0) = 2 := (nI_eqE hwd nl2 (by omega) (by omega)).mp c_3945
        refine lv_aload_n hx hb dX4_readsOrder_51 rfl (lv_at hl 1 rfl) ?_
        refine lv_iload_n hx hb dX4_readsOrder_52 rfl (lv_at hl 0 rfl) ?_
        refine lv_if_ne (tgt := 61) hx hb dX4_readsOrder_53 (by decide) (fun c_3947 => ?_) (fun c_3947 => ?_)
        · skip
          have k_3948 : ¬ ((sWd tc tn p0) = 0) := (not_congr (nI_eqE hwd nl0 (by omega) (by omega))).mp c_3947
          refine g_ldcS C (sr_WhelkFleetModel_222 D) dX4_readsOrder_61 ?_
          have lc3949 : gk D 116 < gz D := (hB.tx (j := 16) rfl).1
          have lc3950 : gk D 216 < gz D := (hB.tx (j := 16) rfl).2.1
          have c3949 : G3905 (gk D 116) = some (.inl (21, [.ref (gk D 216), .int 0, .int 1051273, .int 0])) := hI.bs ⟨lc3949, (hB.tx (j := 16) rfl).2.2.1⟩
          have c3950 : G3905 (gk D 216) = some (aB (([32, 98, 121, 32] : List Nat).length) (fun i => nI (([32, 98, 121, 32] : List Nat).getD i 0))) := hI.bs ⟨lc3950, (hB.tx (j := 16) rfl).2.2.2⟩
          refine g_V (As := [.ref (gk D 116)]) (rest := []) (lv := [(2, .int r_3877), (0, .ref mm), (1, .int a1)]) C hI hS (c_X4_needsText l hB G3905 n3894 mm ag ab ah ch asv hs aas ain ty er awy ir ali ln th (nI pl2_3896) wr2_3897 ato tc tn pl2_3896 (gk D 216) 1051273 0 ([32, 98, 121, 32] : List Nat) (gk D 116) c3901 c1_ c3949 c3950 (by omega) hty (by omega) rfl hle3903 hw23904 (by decide) (by decide)) c3901 rfl rfl q2873 q2875 qs64 q94 q2876 (⟨by decide, by decide, by decide⟩ : gArg _ 1) rfl ⟨by decide, by decide⟩ (by omega) hl rfl (Nat.le_of_ble_eq_true rfl) dX4_readsOrder_63 (fun v3951 G3952 n3953 H locs hp3954 hI hS => ?_) gKx.no
          obtain ⟨pl2_3955, wr2_3956, rfl, hn3957, hF3958, c3959, hq3960, hle3961, hw23962⟩ := hp3954
          refine W.widen (k := 0) (n := 200 * (0)) (by omega) (by omega) ?_
          have c1_ := hF3958.at c1_ (by omega) (g_on c1_ c3901)
          have c2_ := hF3958.at c2_ (by omega) (g_on c2_ c3901)
          have c3949 := hF3958.at c3949 (by omega) (g_nc c3949 c3901 (by decide))
          have c3950 := hF3958.at c3950 (by omega) (g_on c3950 c3901)
          have hF := hF.trans hF3958 (by omega) (fun q hq => (fun h => h ▸ (Or.inl rfl)))
          refine lv_aload_n hx hb dX4_readsOrder_66 rfl (lv_at hl 1 rfl) ?_
          refine g_get C hI c3959 kc23 17 rfl q2584 (fun _ h9 => h9) dX4_readsOrder_67 ?_
          refine lv_iload_n hx hb dX4_readsOrder_70 rfl (lv_at hl 2 rfl) ?_
          refine lv_iconst (v := 2) hx hb dX4_readsOrder_71 (by decide) ?_
          refine lv_iadd hx hb dX4_readsOrder_72 ?_
          refine lv_aload_n hx hb dX4_readsOrder_73 rfl (lv_at hl 1 rfl) ?_
          refine g_V (As := []) (rest := [.int (a1 + 2), .ref ato]) (lv := [(2, .int r_3877), (0, .ref mm), (1, .int a1)]) C hI hS (c_X4_digit l hB G3952 n3953 mm ag ab ah ch asv hs aas ain ty er awy ir ali ln th (nI pl2_3955) wr2_3956 ato tc tn pl2_3955 c3959 c1_ (by omega) hty (by omega) rfl hle3961 hw23962) c3959 rfl rfl q2886 q2888 qs67 q94 q2889 (⟨by decide, by decide, by decide⟩ : gArg _ 0) rfl ⟨by decide, by decide⟩ (by omega) hl rfl (Nat.le_of_ble_eq_true rfl) dX4_readsOrder_74 (fun v3963 G3964 n3965 H locs hp3966 hI hS => ?_) gKx.no
          obtain ⟨pl2_3967, wr2_3968, r_3969, rfl, hn3970, hF3971, c3972, hq3973, hle3974, hw23975⟩ := hp3966
          refine W.widen (k := 0) (n := 200 * (0)) (by omega) (by omega) ?_
          have c1_ := hF3971.at c1_ (by omega) (g_on c1_ c3959)
          have c2_ := hF3971.at c2_ (by omega) (g_on c2_ c3959)
          have c3949 := hF3971.at c3949 (by omega) (g_nc c3949 c3959 (by decide))
          have c3950 := hF3971.at c3950 (by omega) (g_on c3950 c3959)
          have hF := hF.trans hF3971 (by omega) (fun q hq => (fun h => h ▸ (Or.inl rfl)))
          refine g_iast C hI hS c2_ (by omega) (gix (gadd ek nl2) (by omega) (by omega)) dX4_readsOrder_77 (fun G3976 H locs e3977 hI hS => ?_)
          rw [gup_e (gadd ek nl2) (by omega)] at e3977
          have c1_ := gE_k e3977 c1_ (g_na c1_ c2_ (Or.inl (by decide)))
          have c3949 := gE_k e3977 c3949 (g_no c3949 c2_)
          have c3950 := gE_k e3977 c3950 (g_na c3950 c2_ (Or.inl (by decide)))
          have c3972 := gE_k e3977 c3972 (g_no c3972 c2_)
          have c2_ : G3976 ato = some (aI 240 (gup (gup (gup tv kk r_3877) (kk + 1) r_3898) (kk + 2) r_3969)) := gE_s e3977
          have hF := gE_F e3977 hF (Or.inr (Or.inr (rfl)))
          refine lv_iload_n hx hb dX4_readsOrder_78 rfl (lv_at hl 0 rfl) ?_
          refine lv_iconst (v := 2) hx hb dX4_readsOrder_79 (by decide) ?_
          refine lv_icmp_ne (tgt := 101) hx hb dX4_readsOrder_80 (by decide) (fun c_3979 => ?_) (fun c_3979 => ?_)
          · exact absurd c_3945 c_3979
          · skip
            have k_3980 : (sWd tc tn p0) = 2 := (nI_eqE hwd nl2 (by omega) (by omega)).mp c_3979
            refine lv_aload_n hx hb dX4_readsOrder_83 rfl (lv_at hl 1 rfl) ?_
            refine g_ldcS C (sr_WhelkFleetModel_224 D) dX4_readsOrder_84 ?_
            have lc3981 : gk D 117 < gz D := (hB.tx (j := 17) rfl).1
            have lc3982 : gk D 217 < gz D := (hB.tx (j := 17) rfl).2.1
            have c3981 : G3976 (gk D 117) = some (.inl (21, [.ref (gk D 217), .int 0, .int 1029274618, .int 0])) := hI.bs ⟨lc3981, (hB.tx (j := 17) rfl).2.2.1⟩
            have c3982 : G3976 (gk D 217) = some (aB (([32, 119, 105, 116, 104, 32] : List Nat).length) (fun i => nI (([32, 119, 105, 116, 104, 32] : List Nat).getD i 0))) := hI.bs ⟨lc3982, (hB.tx (j := 17) rfl).2.2.2⟩
            refine g_V (As := [.ref (gk D 117)]) (rest := []) (lv := [(2, .int r_3877), (0, .ref mm), (1, .int a1)]) C hI hS (c_X4_needsText l hB G3976 n3965 mm ag ab ah ch asv hs aas ain ty er awy ir ali ln th (nI pl2_3967) wr2_3968 ato tc tn pl2_3967 (gk D 217) 1029274618 0 ([32, 119, 105, 116, 104, 32] : List Nat) (gk D 117) c3972 c1_ c3981 c3982 (by omega) hty (by omega) rfl hle3974 hw23975 (by decide) (by decide)) c3972 rfl rfl q2873 q2875 qs64 q94 q2876 (⟨by decide, by decide, by decide⟩ : gArg _ 1) rfl ⟨by decide, by decide⟩ (by omega) hl rfl (Nat.le_of_ble_eq_true rfl) dX4_readsOrder_86 (fun v3983 G3984 n3985 H locs hp3986 hI hS => ?_) gKx.no
            obtain ⟨pl2_3987, wr2_3988, rfl, hn3989, hF3990, c3991, hq3992, hle3993, hw23994⟩ := hp3986
            refine W.widen (k := 0) (n := 200 * (0)) (by omega) (by omega) ?_
            have c1_ := hF3990.at c1_ (by omega) (g_on c1_ c3972)
            have c2_ := hF3990.at c2_ (by omega) (g_on c2_ c3972)
            have c3949 := hF3990.at c3949 (by omega) (g_nc c3949 c3972 (by decide))
            have c3950 := hF3990.at c3950 (by omega) (g_on c3950 c3972)
            have c3981 := hF3990.at c3981 (by omega) (g_nc c3981 c3972 (by decide))
            have c3982 := hF3990.at c3982 (by omega) (g_on c3982 c3972)
            have hF := hF.trans hF3990 (by omega) (fun q hq => (fun h => h ▸ (Or.inl rfl)))
            refine lv_aload_n hx hb dX4_readsOrder_89 rfl (lv_at hl 1 rfl) ?_
            refine g_get C hI c3991 kc23 17 rfl q2584 (fun _ h9 => h9) dX4_readsOrder_90 ?_
            refine lv_iload_n hx hb dX4_readsOrder_93 rfl (lv_at hl 2 rfl) ?_
            refine lv_iconst (v := 3) hx hb dX4_readsOrder_94 (by decide) ?_
            refine lv_iadd hx hb dX4_readsOrder_95 ?_
            refine lv_aload_n hx hb dX4_readsOrder_96 rfl (lv_at hl 1 rfl) ?_
            refine g_V (As := []) (rest := [.int (a1 + 3), .ref ato]) (lv := [(2, .int r_3877), (0, .ref mm), (1, .int a1)]) C hI hS (c_X4_baitRead l hB G3984 n3985 mm ag ab ah ch asv hs aas ain ty er awy ir ali ln th (nI pl2_3987) wr2_3988 ato tc tn pl2_3987 c3991 c1_ (by omega) hty (by omega) rfl hle3993 hw23994) c3991 rfl rfl q2893 q2895 qs68 q94 q2896 (⟨by decide, by decide, by decide⟩ : gArg _ 0) rfl ⟨by decide, by decide⟩ (by omega) hl rfl (Nat.le_of_ble_eq_true rfl) dX4_readsOrder_97 (fun v3995 G3996 n3997 H locs hp3998 hI hS => ?_) gKx.no
            obtain ⟨pl2_3999, wr2_4000, r_4001, rfl, hn4002, hF4003, c4004, hq4005, hle4006, hw24007⟩ := hp3998
            refine W.widen (k := 0) (n := 200 * (0)) (by omega) (by omega) ?_
            have c1_ := hF4003.at c1_ (by omega) (g_on c1_ c3991)
            have c2_ := hF4003.at c2_ (by omega) (g_on c2_ c3991)
            have c3949 := hF4003.at c3949 (by omega) (g_nc c3949 c3991 (by decide))
            have c3950 := hF4003.at c3950 (by omega) (g_on c3950 c3991)
            have c3981 := hF4003.at c3981 (by omega) (g_nc c3981 c3991 (by decide))
            have c3982 := hF4003.at c3982 (by omega) (g_on c3982 c3991)
            have hF := hF.trans hF4003 (by omega) (fun q hq => (fun h => h ▸ (Or.inl rfl)))
            refine g_iast C hI hS c2_ (by omega) (gix (gadd ek nl3) (by omega) (by omega)) dX4_readsOrder_100 (fun G4008 H locs e4009 hI hS => ?_)
            rw [gup_e (gadd ek nl3) (by omega)] at e4009
            have c1_ := gE_k e4009 c1_ (g_na c1_ c2_ (Or.inl (by decide)))
            have c3949 := gE_k e4009 c3949 (g_no c3949 c2_)
            have c3950 := gE_k e4009 c3950 (g_na c3950 c2_ (Or.inl (by decide)))
            have c3981 := gE_k e4009 c3981 (g_no c3981 c2_)
            have c3982 := gE_k e4009 c3982 (g_na c3982 c2_ (Or.inl (by decide)))
            have c4004 := gE_k e4009 c4004 (g_no c4004 c2_)
            have c2_ : G4008 ato = some (aI 240 (gup (gup (gup (gup tv kk r_3877) (kk + 1) r_3898) (kk + 2) r_3969) (kk + 3) r_4001)) := gE_s e4009
            have hF := gE_F e4009 hF (Or.inr (Or.inr (rfl)))
            exact g_vret C hI hS (by omega) ⟨pl2_3999, wr2_4000, gup (gup (gup (gup tv kk r_3877) (kk + 1) r_3898) (kk + 2) r_3969) (kk + 3) r_4001, rfl, (by omega), hF, c4004, c2_, (by simp [sOrder, hwq, ← hwd, c_3890, k_3891, hq3902, c_3908, k_3944, eq_true c_3945, eq_true k_3946, c_3947, k_3948, hq3960, hq3973, eq_true c_3979, eq_true k_3980, hq3992, hq4005]), hle4006, hw24007⟩ dX4_readsOrder_101
        · exact absurd c_3947 c_3908
      · skip
        have k_4011 : ¬ ((sWd tc tn p0) = 2) := (not_congr (nI_eqE hwd nl2 (by omega) (by omega))).mp c_3945
        refine lv_iload_n hx hb dX4_readsOrder_46 rfl (lv_at hl 0 rfl) ?_
        refine lv_iconst (v := 3) hx hb dX4_readsOrder_47 (by decide) ?_
        refine lv_icmp_ne (tgt := 78) hx hb dX4_readsOrder_48 (by decide) (fun c_4012 => ?_) (fun c_4012 => ?_)
        · skip
          have k_4013 : ¬ ((sWd tc tn p0) = 3) := (not_congr (nI_eqE hwd nl3 (by omega) (by omega))).mp c_4012
          refine lv_iload_n hx hb dX4_readsOrder_78 rfl (lv_at hl 0 rfl) ?_
          refine lv_iconst (v := 2) hx hb dX4_readsOrder_79 (by decide) ?_
          refine lv_icmp_ne (tgt := 101) hx hb dX4_readsOrder_80 (by decide) (fun c_4014 => ?_) (fun c_4014 => ?_)
          · skip
            have k_4015 : ¬ ((sWd tc tn p0) = 2) := (not_congr (nI_eqE hwd nl2 (by omega) (by omega))).mp c_4014
            exact g_vret C hI hS (by omega) ⟨pl2_3896, wr2_3897, gup (gup tv kk r_3877) (kk + 1) r_3898, rfl, (by omega), hF, c3901, c2_, (by simp [sOrder, hwq, ← hwd, c_3890, k_3891, hq3902, c_3908, k_3944, c_3945, k_4011, c_4012, k_4013, c_4014, k_4015]), hle3903, hw23904⟩ dX4_readsOrder_101
          · exact absurd c_4014 c_3945
        · skip
          have k_4016 : (sWd tc tn p0) = 3 := (nI_eqE hwd nl3 (by omega) (by omega)).mp c_4012
          refine lv_aload_n hx hb dX4_readsOrder_51 rfl (lv_at hl 1 rfl) ?_
          refine lv_iload_n hx hb dX4_readsOrder_52 rfl (lv_at hl 0 rfl) ?_
          refine lv_if_ne (tgt := 61) hx hb dX4_readsOrder_53 (by decide) (fun c_4017 => ?_) (fun c_4017 => ?_)
          · skip
            have k_4018 : ¬ ((sWd tc tn p0) = 0) := (not_congr (nI_eqE hwd nl0 (by omega) (by omega))).mp c_4017
            refine g_ldcS C (sr_WhelkFleetModel_222 D) dX4_readsOrder_61 ?_
            have lc4019 : gk D 116 < gz D := (hB.tx (j := 16) rfl).1
            have lc4020 : gk D 216 < gz D := (hB.tx (j := 16) rfl).2.1
            have c4019 : G3905 (gk D 116) = some (.inl (21, [.ref (gk D 216), .int 0, .int 1051273, .int 0])) := hI.bs ⟨lc4019, (hB.tx (j := 16) rfl).2.2.1⟩
            have c4020 : G3905 (gk D 216) = some (aB (([32, 98, 121, 32] : List Nat).length) (fun i => nI (([32, 98, 121, 32] : List Nat).getD i 0))) := hI.bs ⟨lc4020, (hB.tx (j := 16) rfl).2.2.2⟩
            refine g_V (As := [.ref (gk D 116)]) (rest := []) (lv := [(2, .int r_3877), (0, .ref mm), (1, .int a1)]) C hI hS (c_X4_needsText l hB G3905 n3894 mm ag ab ah ch asv hs aas ain ty er awy ir ali ln th (nI pl2_3896) wr2_3897 ato tc tn pl2_3896 (gk D 216) 1051273 0 ([32, 98, 121, 32] : List Nat) (gk D 116) c3901 c1_ c4019 c4020 (by omega) hty (by omega) rfl hle3903 hw23904 (by decide) (by decide)) c3901 rfl rfl q2873 q2875 qs64 q94 q2876 (⟨by decide, by decide, by decide⟩ : gArg _ 1) rfl ⟨by decide, by decide⟩ (by omega) hl rfl (Nat.le_of_ble_eq_true rfl) dX4_readsOrder_63 (fun v4021 G4022 n4023 H locs hp4024 hI hS => ?_) gKx.no
            obtain ⟨pl2_4025, wr2_4026, rfl, hn4027, hF4028, c4029, hq4030, hle4031, hw24032⟩ := hp4024
            refine W.widen (k := 0) (n := 200 * (0)) (by omega) (by omega) ?_
            have c1_ := hF4028.at c1_ (by omega) (g_on c1_ c3901)
            have c2_ := hF4028.at c2_ (by omega) (g_on c2_ c3901)
            have c4019 := hF4028.at c4019 (by omega) (g_nc c4019 c3901 (by decide))
            have c4020 := hF4028.at c4020 (by omega) (g_on c4020 c3901)
            have hF := hF.trans hF4028 (by omega) (fun q hq => (fun h => h ▸ (Or.inl rfl)))
            refine lv_aload_n hx hb dX4_readsOrder_66 rfl (lv_at hl 1 rfl) ?_
            refine g_get C hI c4029 kc23 17 rfl q2584 (fun _ h9 => h9) dX4_readsOrder_67 ?_
            refine lv_iload_n hx hb dX4_readsOrder_70 rfl (lv_at hl 2 rfl) ?_
            refine lv_iconst (v := 2) hx hb dX4_readsOrder_71 (by decide) ?_
            refine lv_iadd hx hb dX4_readsOrder_72 ?_
            refine lv_aload_n hx hb dX4_readsOrder_73 rfl (lv_at hl 1 rfl) ?_
            refine g_V (As := []) (rest := [.int (a1 + 2), .ref ato]) (lv := [(2, .int r_3877), (0, .ref mm), (1, .int a1)]) C hI hS (c_X4_digit l hB G4022 n4023 mm ag ab ah ch asv hs aas ain ty er awy ir ali ln th (nI pl2_4025) wr2_4026 ato tc tn pl2_4025 c4029 c1_ (by omega) hty (by omega) rfl hle4031 hw24032) c4029 rfl rfl q2886 q2888 qs67 q94 q2889 (⟨by decide, by decide, by decide⟩ : gArg _ 0) rfl ⟨by decide, by decide⟩ (by omega) hl rfl (Nat.le_of_ble_eq_true rfl) dX4_readsOrder_74 (fun v4033 G4034 n4035 H locs hp4036 hI hS => ?_) gKx.no
            obtain ⟨pl2_4037, wr2_4038, r_4039, rfl, hn4040, hF4041, c4042, hq4043, hle4044, hw24045⟩ := hp4036
            refine W.widen (k := 0) (n := 200 * (0)) (by omega) (by omega) ?_
            have c1_ := hF4041.at c1_ (by omega) (g_on c1_ c4029)
            have c2_ := hF4041.at c2_ (by omega) (g_on c2_ c4029)
            have c4019 := hF4041.at c4019 (by omega) (g_nc c4019 c4029 (by decide))
            have c4020 := hF4041.at c4020 (by omega) (g_on c4020 c4029)
            have hF := hF.trans hF4041 (by omega) (fun q hq => (fun h => h ▸ (Or.inl rfl)))
            refine g_iast C hI hS c2_ (by omega) (gix (gadd ek nl2) (by omega) (by omega)) dX4_readsOrder_77 (fun G4046 H locs e4047 hI hS => ?_)
            rw [gup_e (gadd ek nl2) (by omega)] at e4047
            have c1_ := gE_k e4047 c1_ (g_na c1_ c2_ (Or.inl (by decide)))
            have c4019 := gE_k e4047 c4019 (g_no c4019 c2_)
            have c4020 := gE_k e4047 c4020 (g_na c4020 c2_ (Or.inl (by decide)))
            have c4042 := gE_k e4047 c4042 (g_no c4042 c2_)
            have c2_ : G4046 ato = some (aI 240 (gup (gup (gup tv kk r_3877) (kk + 1) r_3898) (kk + 2) r_4039)) := gE_s e4047
            have hF := gE_F e4047 hF (Or.inr (Or.inr (rfl)))
            refine lv_iload_n hx hb dX4_readsOrder_78 rfl (lv_at hl 0 rfl) ?_
            refine lv_iconst (v := 2) hx hb dX4_readsOrder_79 (by decide) ?_
            refine lv_icmp_ne (tgt := 101) hx hb dX4_readsOrder_80 (by decide) (fun c_4049 => ?_) (fun c_4049 => ?_)
            · skip
              have k_4050 : ¬ ((sWd tc tn p0) = 2) := (not_congr (nI_eqE hwd nl2 (by omega) (by omega))).mp c_4049
              exact g_vret C hI hS (by omega) ⟨pl2_4037, wr2_4038, gup (gup (gup tv kk r_3877) (kk + 1) r_3898) (kk + 2) r_4039, rfl, (by omega), hF, c4042, c2_, (by simp [sOrder, hwq, ← hwd, c_3890, k_3891, hq3902, c_3908, k_3944, c_3945, k_4011, eq_true c_4012, eq_true k_4016, c_4017, k_4018, hq4030, hq4043, c_4049, k_4050]), hle4044, hw24045⟩ dX4_readsOrder_101
            · exact absurd c_4049 c_3945
          · exact absurd c_4017 c_3908
  · skip
    have k_4051 : (sWd tc tn p0) = 7 := (nI_eqE hwd nl7 (by omega) (by omega)).mp c_3890
    refine lv_aload_n hx hb dX4_readsOrder_25 rfl (lv_at hl 1 rfl) ?_
    refine g_V (As := []) (rest := [.int (a1 + 1), .ref ato]) (lv := [(2, .int r_3877), (0, .ref mm), (1, .int a1)]) C hI hS (c_X4_number l hB G3887 n3875 mm ag ab ah ch asv hs aas ain ty er awy ir ali ln th (nI pl2_3878) wr2_3879 ato tc tn pl2_3878 c3882 c1_ (by omega) hty (by omega) rfl hle3885 hw23886) c3882 rfl rfl q2882 q2884 qs66 q94 q2885 (⟨by decide, by decide, by decide⟩ : gArg _ 0) rfl ⟨by decide, by decide⟩ (by omega) hl rfl (Nat.le_of_ble_eq_true rfl) dX4_readsOrder_26 (fun v4052 G4053 n4054 H locs hp4055 hI hS => ?_) gKx.no
    obtain ⟨pl2_4056, wr2_4057, r_4058, rfl, hn4059, hF4060, c4061, hq4062, hle4063, hw24064⟩ := hp4055
    refine W.widen (k := 0) (n := 200 * (0)) (by omega) (by omega) ?_
    have c1_ := hF4060.at c1_ (by omega) (g_on c1_ c3882)
    have c2_ := hF4060.at c2_ (by omega) (g_on c2_ c3882)
    have hF := hF.trans hF4060 (by omega) (fun q hq => (fun h => h ▸ (Or.inl rfl)))
    refine lv_goto (tgt := 36) hx hb dX4_readsOrder_29 (by decide) ?_
    refine g_iast C hI hS c2_ (by omega) (gix (gadd ek nl1) (by omega) (by omega)) dX4_readsOrder_36 (fun G4065 H locs e4066 hI hS => ?_)
    rw [gup_e (gadd ek nl1) (by omega)] at e4066
    have c1_ := gE_k e4066 c1_ (g_na c1_ c2_ (Or.inl (by decide)))
    have c4061 := gE_k e4066 c4061 (g_no c4061 c2_)
    have c2_ : G4065 ato = some (aI 240 (gup (gup tv kk r_3877) (kk + 1) r_4058)) := gE_s e4066
    have hF := gE_F e4066 hF (Or.inr (Or.inr (rfl)))
    refine lv_iload_n hx hb dX4_readsOrder_37 rfl (lv_at hl 0 rfl) ?_
    refine lv_if_eq (tgt := 51) hx hb dX4_readsOrder_38 (by decide) (fun c_4068 => ?_) (fun c_4068 => ?_)
    · exact absurd c_4068 (fun h => absurd (c_3890.symm.trans h) (by decide))
    · skip
      have k_4069 : ¬ ((sWd tc tn p0) = 0) := (not_congr (nI_eqE hwd nl0 (by omega) (by omega))).mp c_4068
      refine lv_iload_n hx hb dX4_readsOrder_41 rfl (lv_at hl 0 rfl) ?_
      refine lv_iconst (v := 2) hx hb dX4_readsOrder_42 (by decide) ?_
      refine lv_icmp_eq (tgt := 51) hx hb dX4_readsOrder_43 (by decide) (fun c_4070 => ?_) (fun c_4070 => ?_)
      · exact absurd c_4070 (fun h => absurd (c_3890.symm.trans h) (by decide))
      · skip
        have k_4071 : ¬ ((sWd tc tn p0) = 2) := (not_congr (nI_eqE hwd nl2 (by omega) (by omega))).mp c_4070
        refine lv_iload_n hx hb dX4_readsOrder_46 rfl (lv_at hl 0 rfl) ?_
        refine lv_iconst (v := 3) hx hb dX4_readsOrder_47 (by decide) ?_
        refine lv_icmp_ne (tgt := 78) hx hb dX4_readsOrder_48 (by decide) (fun c_4072 => ?_) (fun c_4072 => ?_)
        · skip
          have k_4073 : ¬ ((sWd tc tn p0) = 3) := (not_congr (nI_eqE hwd nl3 (by omega) (by omega))).mp c_4072
          refine lv_iload_n hx hb dX4_readsOrder_78 rfl (lv_at hl 0 rfl) ?_
          refine lv_iconst (v := 2) hx hb dX4_readsOrder_79 (by decide) ?_
          refine lv_icmp_ne (tgt := 101) hx hb dX4_readsOrder_80 (by decide) (fun c_4074 => ?_) (fun c_4074 => ?_)
          · skip
            have k_4075 : ¬ ((sWd tc tn p0) = 2) := (not_congr (nI_eqE hwd nl2 (by omega) (by omega))).mp c_4074
            exact g_vret C hI hS (by omega) ⟨pl2_4056, wr2_4057, gup (gup tv kk r_3877) (kk + 1) r_4058, rfl, (by omega), hF, c4061, c2_, (by simp [sOrder, hwq, ← hwd, eq_true c_3890, eq_true k_4051, hq4062, c_4068, k_4069, c_4070, k_4071, c_4072, k_4073, c_4074, k_4075]), hle4063, hw24064⟩ dX4_readsOrder_101
          · exact absurd c_4074 c_4070
        · exact absurd c_4072 (fun h => absurd (c_3890.symm.trans h) (by decide))
set_option maxHeartbeats 4000000 in
set_option maxRecDepth 100000 in
theorem c_X4_readsText (l : Launch) {D : gD} (hB : gBs D) (G : gH) (n : Nat) (mm : Nat) (ag : Nat) (ab : Nat) (ah : Nat) (ch : Int32) (asv : Nat) (hs : Int32) (aas : Nat) (ain : Nat) (ty : Int32) (er : Int32) (awy : Nat) (ir : Int32) (ali : Nat) (ln : Int32) (th : Int32) (pl : Int32) (wr : Int32) (ato : Nat) (tc : Nat → Nat) (tn : Nat) (tv : Nat → Int32) (c0_ : G mm = some (.inl (23, [.ref ag, .ref ab, .ref ah, .int ch, .ref asv, .int hs, .ref aas, .ref ain, .int ty, .int er, .ref awy, .int ir, .ref ali, .int ln, .int th, .int pl, .int wr, .ref ato]))) (c1_ : G ain = some (aC 60 (fun k => nI (tc k)))) (c2_ : G ato = some (aI 240 tv)) (hz : gz D ≤ mm) (hty : ty = nI tn) (ht60 : tn ≤ 60) (hzt : gz D ≤ ato) : gMet l D yX4_readsText (ws_ yX4_readsText cX4_readsText 3 (some FieldType.int)) 8 0 G n [.ref mm] (fun (v : Option Value) (G1 : gH) (n1 : Nat) => ∃ (n2 : Nat) (pl2 : Nat) (wr2 : Int32) (tv2 : Nat → Int32), v = some (.int (nI n2)) ∧ n ≤ n1 ∧ gF G G1 n (fun q : Nat => q = mm ∨ q = ato) ∧ G1 mm = some (.inl (23, [.ref ag, .ref ab, .ref ah, .int ch, .ref asv, .int hs, .ref aas, .ref ain, .int 0, .int er, .ref awy, .int ir, .ref ali, .int ln, .int th, .int (nI pl2), .int wr2, .ref ato])) ∧ G1 ato = some (aI 240 tv2) ∧ sText tc tn tv = (n2, (pl2, wr2), tv2) ∧ pl2 ≤ 60 ∧ n2 ≤ 31) gNox := by
  refine g_start (by decide) (Nat.le_of_ble_eq_true rfl) ?_
  intro p e s m below meth c ls C hnm hxt hI hl
  have hx := C.x
  have hb := C.b
  have hS : va_S (gA D) s.heap s.heap [] := va_S.rf
  have hz0 := hI.z
  have lc0_ := hI.lt c0_
  have lc1_ := hI.lt c1_
  have lc2_ := hI.lt c2_
  have hF : gF G G n (fun q : Nat => q = mm ∨ q = ato) := gF.rf _ _ _
  have hl : lv_has ls 3 [(0, .ref mm)] := hl
  refine lv_aload_n hx hb dX4_readsText_0 rfl (lv_at hl 0 rfl) ?_
  refine lv_iconst (v := 0) hx hb dX4_readsText_1 (by decide) ?_
  refine g_put (fs2 := [.ref ag, .ref ab, .ref ah, .int ch, .ref asv, .int hs, .ref aas, .ref ain, .int ty, .int er, .ref awy, .int ir, .ref ali, .int ln, .int th, .int 0, .int wr, .ref ato]) C hI hS c0_ (by omega) kc23 15 (Nat.le_of_ble_eq_true rfl) q2582 (fun _ h9 => h9) rfl rfl rfl rfl dX4_readsText_2 (fun G4076 H locs e4077 hI hS => ?_)
  have c1_ := gE_k e4077 c1_ (g_on c1_ c0_)
  have c2_ := gE_k e4077 c2_ (g_on c2_ c0_)
  have c0_ : G4076 mm = some (.inl (23, [.ref ag, .ref ab, .ref ah, .int ch, .ref asv, .int hs, .ref aas, .ref ain, .int ty, .int er, .ref awy, .int ir, .ref ali, .int ln, .int th, .int 0, .int wr, .ref ato])) := gE_s e4077
  have hF := gE_F e4077 hF (Or.inr (Or.inl rfl))
  refine lv_aload_n hx hb dX4_readsText_5 rfl (lv_at hl 0 rfl) ?_
  refine lv_iconst (v := 0) hx hb dX4_readsText_6 (by decide) ?_
  refine g_put (fs2 := [.ref ag, .ref ab, .ref ah, .int ch, .ref asv, .int hs, .ref aas, .ref ain, .int ty, .int er, .ref awy, .int ir, .ref ali, .int ln, .int th, .int 0, .int 0, .ref ato]) C hI hS c0_ (by omega) kc23 16 (Nat.le_of_ble_eq_true rfl) q2583 (fun _ h9 => h9) rfl rfl rfl rfl dX4_readsText_7 (fun G4078 H locs e4079 hI hS => ?_)
  have c1_ := gE_k e4079 c1_ (g_on c1_ c0_)
  have c2_ := gE_k e4079 c2_ (g_on c2_ c0_)
  have c0_ : G4078 mm = some (.inl (23, [.ref ag, .ref ab, .ref ah, .int ch, .ref asv, .int hs, .ref aas, .ref ain, .int ty, .int er, .ref awy, .int ir, .ref ali, .int ln, .int th, .int 0, .int 0, .ref ato])) := gE_s e4079
  have hF := gE_F e4079 hF (Or.inr (Or.inl rfl))
  refine lv_iconst (v := 0) hx hb dX4_readsText_10 (by decide) ?_
  refine lv_istore_n (lv' := [(1, .int 0), (0, .ref mm)]) hx hb dX4_readsText_11 rfl hl (by decide) rfl (fun ls hl => ?_)
  refine lv_iconst (v := 1) hx hb dX4_readsText_12 (by decide) ?_
  refine lv_istore_n (lv' := [(2, .int 1), (1, .int 0), (0, .ref mm)]) hx hb dX4_readsText_13 rfl hl (by decide) rfl (fun ls hl => ?_)
  have key4080 : ∀ (r : Nat) (nn : Nat) (xn : Int32) (pz : Nat) (tv2 : Nat → Int32), (61 < pz + r) → (2 * nn ≤ pz) → (pz ≤ tn) → (xn = nI nn) → (sTx tc tn r nn pz tv2 = sTx tc tn 62 0 0 tv) → ∀ (G4081 : gH) (n4082 : Nat) (H : Heap) (locs : List Loc) (ls : Array Slot), G4081 mm = some (.inl (23, [.ref ag, .ref ab, .ref ah, .int ch, .ref asv, .int hs, .ref aas, .ref ain, .int ty, .int er, .ref awy, .int ir, .ref ali, .int ln, .int th, .int (nI pz), .int 0, .ref ato])) → G4081 ain = some (aC 60 (fun k => nI (tc k))) → G4081 ato = some (aI 240 tv2) → n ≤ n4082 → gI D G4081 n4082 H → va_S (gA D) s.heap H locs → gF G G4081 n (fun q : Nat => q = mm ∨ q = ato) → lv_has ls 3 [(2, .int 1), (1, .int xn), (0, .ref mm)] → W p l e (gR 8 0) s m ([.ref mm] : List Value).toArray below meth c H locs (0) (200 * (0)) (gM below D (fun (v : Option Value) (G1 : gH) (n1 : Nat) => ∃ (n2 : Nat) (pl2 : Nat) (wr2 : Int32) (tv2 : Nat → Int32), v = some (.int (nI n2)) ∧ n ≤ n1 ∧ gF G G1 n (fun q : Nat => q = mm ∨ q = ato) ∧ G1 mm = some (.inl (23, [.ref ag, .ref ab, .ref ah, .int ch, .ref asv, .int hs, .ref aas, .ref ain, .int 0, .int er, .ref awy, .int ir, .ref ali, .int ln, .int th, .int (nI pl2), .int wr2, .ref ato])) ∧ G1 ato = some (aI 240 tv2) ∧ sText tc tn tv = (n2, (pl2, wr2), tv2) ∧ pl2 ≤ 60 ∧ n2 ≤ 31) gNox ([.ref mm] : List Value).toArray s 0) (F0 m 14 ls []) := by
    intro r
    induction r with
    | zero =>
      intro nn xn pz tv2 hr hpn hpp hxn hrs
      exact absurd trivial (fun _ => (by omega))
    | succ r ih4086 =>
      intro nn xn pz tv2 hr hpn hpp hxn hrs
      intro G4081 n4082 H locs ls c4083 c4084 c4085 hn4087 hI hS hF hl
      refine lv_iload_n hx hb dX4_readsText_14 rfl (lv_at hl 0 rfl) ?_
      refine lv_if_eq (tgt := 71) hx hb dX4_readsText_15 (by decide) (fun c_4088 => ?_) (fun c_4088 => ?_)
      · exact absurd c_4088 (by decide)
      · skip
        refine lv_aload_n hx hb dX4_readsText_18 rfl (lv_at hl 2 rfl) ?_
        refine lv_iconst (v := 4) hx hb dX4_readsText_19 (by decide) ?_
        refine lv_iload_n hx hb dX4_readsText_20 rfl (lv_at hl 1 rfl) ?_
        refine lv_imul hx hb dX4_readsText_21 ?_
        refine g_V (As := [.int (4 * xn)]) (rest := []) (lv := [(2, .int 1), (1, .int xn), (0, .ref mm)]) C hI hS (c_X4_readsOrder l hB G4081 n4082 mm ag ab ah ch asv hs aas ain ty er awy ir ali ln th (nI pz) 0 ato tc tn pz tv2 (4 * nn) (4 * xn) c4083 c4084 c4085 (by omega) hty (by omega) rfl hpp (by decide) (by omega) (gmul nl4 hxn) (by omega)) c4083 rfl rfl q2845 q2847 qs60 q94 q2848 (⟨by decide, by decide, by decide⟩ : gArg _ 1) rfl ⟨by decide, by decide⟩ (by omega) hl rfl (Nat.le_of_ble_eq_true rfl) dX4_readsText_22 (fun v4089 G4090 n4091 H locs hp4092 hI hS => ?_) gKx.no
        obtain ⟨pl2_4093, wr2_4094, tv2_4095, rfl, hn4096, hF4097, c4098, c4099, hq4100, hle4101, hw24102⟩ := hp4092
        refine W.widen (k := 0) (n := 200 * (0)) (by omega) (by omega) ?_
        have c4084 := hF4097.at c4084 (by omega) (fun h => h.elim (g_on c4084 c4083) (g_na c4084 c4085 (Or.inl (by decide))))
        have hF := hF.trans hF4097 (by omega) (fun q hq => (fun h => h.elim (fun h => h ▸ (Or.inl rfl)) (fun h => h ▸ (Or.inr (rfl)))))
        refine lv_iinc (v := xn + 1) (lv' := [(1, .int (xn + 1)), (2, .int 1), (0, .ref mm)]) hx hb dX4_readsText_25 hl (k := 1) rfl (by first | rfl | decide) (by decide) rfl (fun ls hl => ?_)
        refine lv_aload_n hx hb dX4_readsText_28 rfl (lv_at hl 2 rfl) ?_
        refine g_get C hI c4098 kc23 16 rfl q2583 (fun _ h9 => h9) dX4_readsText_29 ?_
        refine lv_if_ne (tgt := 48) hx hb dX4_readsText_32 (by decide) (fun c_4103 => ?_) (fun c_4103 => ?_)
        · skip
          refine lv_iconst (v := 0) hx hb dX4_readsText_48 (by decide) ?_
          refine lv_istore_n (lv' := [(2, .int 0), (1, .int (xn + 1)), (0, .ref mm)]) hx hb dX4_readsText_49 rfl hl (by decide) rfl (fun ls hl => ?_)
          refine lv_aload_n hx hb dX4_readsText_50 rfl (lv_at hl 2 rfl) ?_
          refine lv_dup hx hb dX4_readsText_51 rfl ?_
          refine g_get C hI c4098 kc23 15 rfl q2582 (fun _ h9 => h9) dX4_readsText_52 ?_
          refine lv_iload_n hx hb dX4_readsText_55 rfl (lv_at hl 0 rfl) ?_
          refine lv_if_eq (tgt := 63) hx hb dX4_readsText_56 (by decide) (fun c_4104 => ?_) (fun c_4104 => ?_)
          · skip
            refine lv_iconst (v := 0) hx hb dX4_readsText_63 (by decide) ?_
            refine lv_iadd hx hb dX4_readsText_64 ?_
            refine g_put (fs2 := [.ref ag, .ref ab, .ref ah, .int ch, .ref asv, .int hs, .ref aas, .ref ain, .int ty, .int er, .ref awy, .int ir, .ref ali, .int ln, .int th, .int ((nI pl2_4093) + 0), .int wr2_4094, .ref ato]) C hI hS c4098 (by omega) kc23 15 (Nat.le_of_ble_eq_true rfl) q2582 (fun _ h9 => h9) rfl rfl rfl rfl dX4_readsText_65 (fun G4105 H locs e4106 hI hS => ?_)
            have c4084 := gE_k e4106 c4084 (g_on c4084 c4098)
            have c4099 := gE_k e4106 c4099 (g_on c4099 c4098)
            have c4098 : G4105 mm = some (.inl (23, [.ref ag, .ref ab, .ref ah, .int ch, .ref asv, .int hs, .ref aas, .ref ain, .int ty, .int er, .ref awy, .int ir, .ref ali, .int ln, .int th, .int ((nI pl2_4093) + 0), .int wr2_4094, .ref ato])) := gE_s e4106
            have hF := gE_F e4106 hF (Or.inr (Or.inl rfl))
            refine lv_goto (tgt := 14) hx hb dX4_readsText_68 (by decide) ?_
            refine lv_iload_n hx hb dX4_readsText_14 rfl (lv_at hl 0 rfl) ?_
            refine lv_if_eq (tgt := 71) hx hb dX4_readsText_15 (by decide) (fun c_4107 => ?_) (fun c_4107 => ?_)
            · skip
              refine lv_aload_n hx hb dX4_readsText_71 rfl (lv_at hl 2 rfl) ?_
              refine lv_aload_n hx hb dX4_readsText_72 rfl (lv_at hl 2 rfl) ?_
              refine g_get C hI c4098 kc23 16 rfl q2583 (fun _ h9 => h9) dX4_readsText_73 ?_
              refine lv_if_ne (tgt := 90) hx hb dX4_readsText_76 (by decide) (fun c_4108 => ?_) (fun c_4108 => ?_)
              · skip
                refine lv_iconst (v := 1) hx hb dX4_readsText_90 (by decide) ?_
                refine lv_goto (tgt := 95) hx hb dX4_readsText_91 (by decide) ?_
                refine g_put (fs2 := [.ref ag, .ref ab, .ref ah, .int ch, .ref asv, .int hs, .ref aas, .ref ain, .int ty, .int er, .ref awy, .int ir, .ref ali, .int ln, .int th, .int ((nI pl2_4093) + 0), .int 1, .ref ato]) C hI hS c4098 (by omega) kc23 16 (Nat.le_of_ble_eq_true rfl) q2583 (fun _ h9 => h9) rfl rfl rfl rfl dX4_readsText_95 (fun G4109 H locs e4110 hI hS => ?_)
                have c4084 := gE_k e4110 c4084 (g_on c4084 c4098)
                have c4099 := gE_k e4110 c4099 (g_on c4099 c4098)
                have c4098 : G4109 mm = some (.inl (23, [.ref ag, .ref ab, .ref ah, .int ch, .ref asv, .int hs, .ref aas, .ref ain, .int ty, .int er, .ref awy, .int ir, .ref ali, .int ln, .int th, .int ((nI pl2_4093) + 0), .int 1, .ref ato])) := gE_s e4110
                have hF := gE_F e4110 hF (Or.inr (Or.inl rfl))
                refine lv_aload_n hx hb dX4_readsText_98 rfl (lv_at hl 2 rfl) ?_
                refine lv_iconst (v := 0) hx hb dX4_readsText_99 (by decide) ?_
                refine g_put (fs2 := [.ref ag, .ref ab, .ref ah, .int ch, .ref asv, .int hs, .ref aas, .ref ain, .int 0, .int er, .ref awy, .int ir, .ref ali, .int ln, .int th, .int ((nI pl2_4093) + 0), .int 1, .ref ato]) C hI hS c4098 (by omega) kc23 8 (Nat.le_of_ble_eq_true rfl) q2575 (fun _ h9 => h9) rfl rfl rfl rfl dX4_readsText_100 (fun G4111 H locs e4112 hI hS => ?_)
                have c4084 := gE_k e4112 c4084 (g_on c4084 c4098)
                have c4099 := gE_k e4112 c4099 (g_on c4099 c4098)
                have c4098 : G4111 mm = some (.inl (23, [.ref ag, .ref ab, .ref ah, .int ch, .ref asv, .int hs, .ref aas, .ref ain, .int 0, .int er, .ref awy, .int ir, .ref ali, .int ln, .int th, .int ((nI pl2_4093) + 0), .int 1, .ref ato])) := gE_s e4112
                have hF := gE_F e4112 hF (Or.inr (Or.inl rfl))
                refine lv_iload_n hx hb dX4_readsText_103 rfl (lv_at hl 1 rfl) ?_
                exact g_iret C hI hS (by omega) ⟨nn + 1, pl2_4093, 1, tv2_4095, (by rw [show xn + 1 = nI (nn + 1) from (gadd hxn nl1)]), (by omega), hF, (by rw [show nI (pl2_4093) = (nI pl2_4093) + 0 from ((gadd rfl nl0)).symm]; exact c4098), c4099, (by unfold sText; rw [← hrs, sTx_s, hq4100]; simp [c_4088, c_4103, eq_true c_4104, eq_true c_4107, c_4108]), (by omega), (by have := hle4101; omega)⟩ dX4_readsText_104
              · exact absurd c_4108 c_4103
            · exact absurd (by decide) c_4107
          · exact absurd (by decide) c_4104
        · skip
          refine lv_aload_n hx hb dX4_readsText_35 rfl (lv_at hl 2 rfl) ?_
          refine g_V (As := []) (rest := []) (lv := [(1, .int (xn + 1)), (2, .int 1), (0, .ref mm)]) C hI hS (c_X4_here l hB G4090 n4091 mm ag ab ah ch asv hs aas ain ty er awy ir ali ln th (nI pl2_4093) wr2_4094 ato tc tn pl2_4093 c4098 c4084 hty (by omega) rfl hle4101) c4098 rfl rfl q2869 q2871 qs63 q94 q2872 (⟨by decide, by decide, by decide⟩ : gArg _ 0) rfl ⟨by decide, by decide⟩ (by omega) hl rfl (Nat.le_of_ble_eq_true rfl) dX4_readsText_36 (fun v4113 G4114 n4115 H locs hp4116 hI hS => ?_) gKx.no
          obtain ⟨rfl, eG4114, en4115⟩ := hp4116
          refine W.widen (k := 0) (n := 200 * (0)) (by omega) (by omega) ?_
          rw [eG4114, en4115] at hI
          refine lv_bipush (v := 59) hx hb dX4_readsText_39 (by decide) ?_
          refine lv_icmp_ne (tgt := 48) hx hb dX4_readsText_41 (by decide) (fun c_4119 => ?_) (fun c_4119 => ?_)
          · skip
            refine lv_iconst (v := 0) hx hb dX4_readsText_48 (by decide) ?_
            refine lv_istore_n (lv' := [(2, .int 0), (1, .int (xn + 1)), (0, .ref mm)]) hx hb dX4_readsText_49 rfl hl (by decide) rfl (fun ls hl => ?_)
            refine lv_aload_n hx hb dX4_readsText_50 rfl (lv_at hl 2 rfl) ?_
            refine lv_dup hx hb dX4_readsText_51 rfl ?_
            refine g_get C hI c4098 kc23 15 rfl q2582 (fun _ h9 => h9) dX4_readsText_52 ?_
            refine lv_iload_n hx hb dX4_readsText_55 rfl (lv_at hl 0 rfl) ?_
            refine lv_if_eq (tgt := 63) hx hb dX4_readsText_56 (by decide) (fun c_4120 => ?_) (fun c_4120 => ?_)
            · skip
              refine lv_iconst (v := 0) hx hb dX4_readsText_63 (by decide) ?_
              refine lv_iadd hx hb dX4_readsText_64 ?_
              refine g_put (fs2 := [.ref ag, .ref ab, .ref ah, .int ch, .ref asv, .int hs, .ref aas, .ref ain, .int ty, .int er, .ref awy, .int ir, .ref ali, .int ln, .int th, .int ((nI pl2_4093) + 0), .int wr2_4094, .ref ato]) C hI hS c4098 (by omega) kc23 15 (Nat.le_of_ble_eq_true rfl) q2582 (fun _ h9 => h9) rfl rfl rfl rfl dX4_readsText_65 (fun G4121 H locs e4122 hI hS => ?_)
              have c4084 := gE_k e4122 c4084 (g_on c4084 c4098)
              have c4099 := gE_k e4122 c4099 (g_on c4099 c4098)
              have c4098 : G4121 mm = some (.inl (23, [.ref ag, .ref ab, .ref ah, .int ch, .ref asv, .int hs, .ref aas, .ref ain, .int ty, .int er, .ref awy, .int ir, .ref ali, .int ln, .int th, .int ((nI pl2_4093) + 0), .int wr2_4094, .ref ato])) := gE_s e4122
              have hF := gE_F e4122 hF (Or.inr (Or.inl rfl))
              refine lv_goto (tgt := 14) hx hb dX4_readsText_68 (by decide) ?_
              refine lv_iload_n hx hb dX4_readsText_14 rfl (lv_at hl 0 rfl) ?_
              refine lv_if_eq (tgt := 71) hx hb dX4_readsText_15 (by decide) (fun c_4123 => ?_) (fun c_4123 => ?_)
              · skip
                refine lv_aload_n hx hb dX4_readsText_71 rfl (lv_at hl 2 rfl) ?_
                refine lv_aload_n hx hb dX4_readsText_72 rfl (lv_at hl 2 rfl) ?_
                refine g_get C hI c4098 kc23 16 rfl q2583 (fun _ h9 => h9) dX4_readsText_73 ?_
                refine lv_if_ne (tgt := 90) hx hb dX4_readsText_76 (by decide) (fun c_4124 => ?_) (fun c_4124 => ?_)
                · exact absurd c_4103 c_4124
                · skip
                  refine lv_aload_n hx hb dX4_readsText_79 rfl (lv_at hl 2 rfl) ?_
                  refine g_get C hI c4098 kc23 15 rfl q2582 (fun _ h9 => h9) dX4_readsText_80 ?_
                  refine lv_aload_n hx hb dX4_readsText_83 rfl (lv_at hl 2 rfl) ?_
                  refine g_get C hI c4098 kc23 8 rfl q2575 (fun _ h9 => h9) dX4_readsText_84 ?_
                  refine lv_icmp_ge (tgt := 94) hx hb dX4_readsText_87 (by decide) (fun c_4125 => ?_) (fun c_4125 => ?_)
                  · skip
                    have k_4126 : tn ≤ pl2_4093 := (nI_leE hty (gadd rfl nl0) (by omega) (by omega)).mp c_4125
                    refine lv_iconst (v := 0) hx hb dX4_readsText_94 (by decide) ?_
                    refine g_put (fs2 := [.ref ag, .ref ab, .ref ah, .int ch, .ref asv, .int hs, .ref aas, .ref ain, .int ty, .int er, .ref awy, .int ir, .ref ali, .int ln, .int th, .int ((nI pl2_4093) + 0), .int 0, .ref ato]) C hI hS c4098 (by omega) kc23 16 (Nat.le_of_ble_eq_true rfl) q2583 (fun _ h9 => h9) rfl rfl rfl rfl dX4_readsText_95 (fun G4127 H locs e4128 hI hS => ?_)
                    have c4084 := gE_k e4128 c4084 (g_on c4084 c4098)
                    have c4099 := gE_k e4128 c4099 (g_on c4099 c4098)
                    have c4098 : G4127 mm = some (.inl (23, [.ref ag, .ref ab, .ref ah, .int ch, .ref asv, .int hs, .ref aas, .ref ain, .int ty, .int er, .ref awy, .int ir, .ref ali, .int ln, .int th, .int ((nI pl2_4093) + 0), .int 0, .ref ato])) := gE_s e4128
                    have hF := gE_F e4128 hF (Or.inr (Or.inl rfl))
                    refine lv_aload_n hx hb dX4_readsText_98 rfl (lv_at hl 2 rfl) ?_
                    refine lv_iconst (v := 0) hx hb dX4_readsText_99 (by decide) ?_
                    refine g_put (fs2 := [.ref ag, .ref ab, .ref ah, .int ch, .ref asv, .int hs, .ref aas, .ref ain, .int 0, .int er, .ref awy, .int ir, .ref ali, .int ln, .int th, .int ((nI pl2_4093) + 0), .int 0, .ref ato]) C hI hS c4098 (by omega) kc23 8 (Nat.le_of_ble_eq_true rfl) q2575 (fun _ h9 => h9) rfl rfl rfl rfl dX4_readsText_100 (fun G4129 H locs e4130 hI hS => ?_)
                    have c4084 := gE_k e4130 c4084 (g_on c4084 c4098)
                    have c4099 := gE_k e4130 c4099 (g_on c4099 c4098)
                    have c4098 : G4129 mm = some (.inl (23, [.ref ag, .ref ab, .ref ah, .int ch, .ref asv, .int hs, .ref aas, .ref ain, .int 0, .int er, .ref awy, .int ir, .ref ali, .int ln, .int th, .int ((nI pl2_4093) + 0), .int 0, .ref ato])) := gE_s e4130
                    have hF := gE_F e4130 hF (Or.inr (Or.inl rfl))
                    refine lv_iload_n hx hb dX4_readsText_103 rfl (lv_at hl 1 rfl) ?_
                    exact g_iret C hI hS (by omega) ⟨nn + 1, pl2_4093, 0, tv2_4095, (by rw [show xn + 1 = nI (nn + 1) from (gadd hxn nl1)]), (by omega), hF, (by rw [show nI (pl2_4093) = (nI pl2_4093) + 0 from ((gadd rfl nl0)).symm]; exact c4098), c4099, (by unfold sText; rw [← hrs, sTx_s, hq4100]; simp [c_4088, eq_true c_4103, c_4119, eq_true c_4120, eq_true c_4123, eq_true c_4124, c_4125, k_4126]), (by omega), (by have := hle4101; omega)⟩ dX4_readsText_104
                  · skip
                    have k_4131 : ¬ (tn ≤ pl2_4093) := (not_congr (nI_leE hty (gadd rfl nl0) (by omega) (by omega))).mp c_4125
                    refine lv_iconst (v := 1) hx hb dX4_readsText_90 (by decide) ?_
                    refine lv_goto (tgt := 95) hx hb dX4_readsText_91 (by decide) ?_
                    refine g_put (fs2 := [.ref ag, .ref ab, .ref ah, .int ch, .ref asv, .int hs, .ref aas, .ref ain, .int ty, .int er, .ref awy, .int ir, .ref ali, .int ln, .int th, .int ((nI pl2_4093) + 0), .int 1, .ref ato]) C hI hS c4098 (by omega) kc23 16 (Nat.le_of_ble_eq_true rfl) q2583 (fun _ h9 => h9) rfl rfl rfl rfl dX4_readsText_95 (fun G4132 H locs e4133 hI hS => ?_)
                    have c4084 := gE_k e4133 c4084 (g_on c4084 c4098)
                    have c4099 := gE_k e4133 c4099 (g_on c4099 c4098)
                    have c4098 : G4132 mm = some (.inl (23, [.ref ag, .ref ab, .ref ah, .int ch, .ref asv, .int hs, .ref aas, .ref ain, .int ty, .int er, .ref awy, .int ir, .ref ali, .int ln, .int th, .int ((nI pl2_4093) + 0), .int 1, .ref ato])) := gE_s e4133
                    have hF := gE_F e4133 hF (Or.inr (Or.inl rfl))
                    refine lv_aload_n hx hb dX4_readsText_98 rfl (lv_at hl 2 rfl) ?_
                    refine lv_iconst (v := 0) hx hb dX4_readsText_99 (by decide) ?_
                    refine g_put (fs2 := [.ref ag, .ref ab, .ref ah, .int ch, .ref asv, .int hs, .ref aas, .ref ain, .int 0, .int er, .ref awy, .int ir, .ref ali, .int ln, .int th, .int ((nI pl2_4093) + 0), .int 1, .ref ato]) C hI hS c4098 (by omega) kc23 8 (Nat.le_of_ble_eq_true rfl) q2575 (fun _ h9 => h9) rfl rfl rfl rfl dX4_readsText_100 (fun G4134 H locs e4135 hI hS => ?_)
                    have c4084 := gE_k e4135 c4084 (g_on c4084 c4098)
                    have c4099 := gE_k e4135 c4099 (g_on c4099 c4098)
                    have c4098 : G4134 mm = some (.inl (23, [.ref ag, .ref ab, .ref ah, .int ch, .ref asv, .int hs, .ref aas, .ref ain, .int 0, .int er, .ref awy, .int ir, .ref ali, .int ln, .int th, .int ((nI pl2_4093) + 0), .int 1, .ref ato])) := gE_s e4135
                    have hF := gE_F e4135 hF (Or.inr (Or.inl rfl))
                    refine lv_iload_n hx hb dX4_readsText_103 rfl (lv_at hl 1 rfl) ?_
                    exact g_iret C hI hS (by omega) ⟨nn + 1, pl2_4093, 1, tv2_4095, (by rw [show xn + 1 = nI (nn + 1) from (gadd hxn nl1)]), (by omega), hF, (by rw [show nI (pl2_4093) = (nI pl2_4093) + 0 from ((gadd rfl nl0)).symm]; exact c4098), c4099, (by unfold sText; rw [← hrs, sTx_s, hq4100]; simp [c_4088, eq_true c_4103, c_4119, eq_true c_4120, eq_true c_4123, eq_true c_4124, c_4125, k_4131]), (by omega), (by have := hle4101; omega)⟩ dX4_readsText_104
              · exact absurd (by decide) c_4123
            · exact absurd (by decide) c_4120
          · skip
            refine lv_iconst (v := 1) hx hb dX4_readsText_44 (by decide) ?_
            refine lv_goto (tgt := 49) hx hb dX4_readsText_45 (by decide) ?_
            refine lv_istore_n (lv' := [(2, .int 1), (1, .int (xn + 1)), (0, .ref mm)]) hx hb dX4_readsText_49 rfl hl (by decide) rfl (fun ls hl => ?_)
            refine lv_aload_n hx hb dX4_readsText_50 rfl (lv_at hl 2 rfl) ?_
            refine lv_dup hx hb dX4_readsText_51 rfl ?_
            refine g_get C hI c4098 kc23 15 rfl q2582 (fun _ h9 => h9) dX4_readsText_52 ?_
            refine lv_iload_n hx hb dX4_readsText_55 rfl (lv_at hl 0 rfl) ?_
            refine lv_if_eq (tgt := 63) hx hb dX4_readsText_56 (by decide) (fun c_4136 => ?_) (fun c_4136 => ?_)
            · exact absurd c_4136 (by decide)
            · skip
              refine lv_iconst (v := 1) hx hb dX4_readsText_59 (by decide) ?_
              refine lv_goto (tgt := 64) hx hb dX4_readsText_60 (by decide) ?_
              refine lv_iadd hx hb dX4_readsText_64 ?_
              refine g_put (fs2 := [.ref ag, .ref ab, .ref ah, .int ch, .ref asv, .int hs, .ref aas, .ref ain, .int ty, .int er, .ref awy, .int ir, .ref ali, .int ln, .int th, .int ((nI pl2_4093) + 1), .int wr2_4094, .ref ato]) C hI hS c4098 (by omega) kc23 15 (Nat.le_of_ble_eq_true rfl) q2582 (fun _ h9 => h9) rfl rfl rfl rfl dX4_readsText_65 (fun G4137 H locs e4138 hI hS => ?_)
              have c4084 := gE_k e4138 c4084 (g_on c4084 c4098)
              have c4099 := gE_k e4138 c4099 (g_on c4099 c4098)
              have c4098 : G4137 mm = some (.inl (23, [.ref ag, .ref ab, .ref ah, .int ch, .ref asv, .int hs, .ref aas, .ref ain, .int ty, .int er, .ref awy, .int ir, .ref ali, .int ln, .int th, .int ((nI pl2_4093) + 1), .int wr2_4094, .ref ato])) := gE_s e4138
              have hF := gE_F e4138 hF (Or.inr (Or.inl rfl))
              refine lv_goto (tgt := 14) hx hb dX4_readsText_68 (by decide) ?_
              have hgt := sOrder_gt (tc := tc) (tn := tn) (tv := tv2) (k := 4 * nn) (p := pz) (by rw [hq4100]; assumption)
              rw [hq4100] at hgt
              have hlt9 := sHere_lt (tc := tc) (tn := tn) (p := pl2_4093) (q := 59) (by decide) (by assumption)
              dsimp only at hgt
              have h0 : wr2_4094 = 0 := by assumption
              rw [h0, show (nI pl2_4093) + 1 = nI (pl2_4093 + 1) from (gadd rfl nl1)] at c4098
              exact ih4086 (nn + 1) (xn + 1) (pl2_4093 + 1) tv2_4095 (by omega) (by omega) (by omega) (gadd hxn nl1) (by rw [← hrs, sTx_s, hq4100]; dsimp only; rw [if_neg (fun h => h h0), if_neg (fun h => h (by assumption))]) _ _ _ _ _ c4098 c4084 c4099 (by omega) hI hS hF (lv_sub hl [0, 1, 2] rfl)
  exact key4080 62 0 0 0 tv (by omega) (by omega) (by omega) nl0 rfl _ _ _ _ _ c0_ c1_ c2_ (Nat.le_refl _) hI hS hF (lv_sub hl [0, 1, 2] rfl)
