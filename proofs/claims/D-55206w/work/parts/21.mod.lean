/-! THE REFERENCE, 9: describe, the start -/
theorem nl240 : (240 : Int32) = nI 240 := rfl
theorem sNum_n (v : Nat) : (sNum v).length = sLg v + 1 := by unfold sNum; exact sDg_len _ _
theorem sLg_le (v : Nat) : sLg v ≤ 5 := by unfold sLg; (repeat' split) <;> omega
def mDe (f : Nat → Int32) (ir ln : Int32) (lx : Nat → Nat) (a : Int32) : Int32 × Int32 × Int32 × (Nat → Nat) × Int32 :=
  if gin a 0 (f 24 - 1) = 0 then (1, 0, ln, lx, 0) else (0, ir, nI (sDesc f a.toNatClampNeg).length, sPut lx 0 (sDesc f a.toNatClampNeg), nI (sDesc f a.toNatClampNeg).length)
set_option maxHeartbeats 4000000 in
set_option maxRecDepth 100000 in
theorem c_X4_describe (l : Launch) {D : gD} (hB : gBs D) (G : gH) (n : Nat) (mm : Nat) (ag : Nat) (ab : Nat) (ah : Nat) (ch : Int32) (asv : Nat) (hs : Int32) (aas : Nat) (ain : Nat) (ty : Int32) (er : Int32) (awy : Nat) (ir : Int32) (ali : Nat) (ln : Int32) (th : Int32) (pl : Int32) (wr : Int32) (ato : Nat) (f : Nat → Int32) (nb : Nat) (lx : Nat → Nat) (a1 : Int32) (c0_ : G mm = some (.inl (23, [.ref ag, .ref ab, .ref ah, .int ch, .ref asv, .int hs, .ref aas, .ref ain, .int ty, .int er, .ref awy, .int ir, .ref ali, .int ln, .int th, .int pl, .int wr, .ref ato]))) (c1_ : G ag = some (aI 112 f)) (c2_ : G ali = some (aC 60 (fun k => nI (lx k)))) (hz : gz D ≤ mm) (hzl : gz D ≤ ali) (hnb : f 24 = nI nb) (hb3 : nb ≤ 3) (hgr : ∀ b, b < nb → f (28 + b) = -1 ∨ ∃ p, p ≤ 5 ∧ f (28 + b) = nI p) (hhr : ∀ b, b < nb → ∃ h, h ≤ 10 ∧ f (31 + b) = nI h) (hmi : ∀ b, b < nb → ∃ h, h < 1000000 ∧ f (34 + b) = nI h) (hla : ∀ b, b < nb → ∃ h, h < 1000000 ∧ f (37 + b) = nI h) : gMet l D yX4_describe (ws_ yX4_describe cX4_describe 2 (some FieldType.int)) 6 0 G n [.ref mm, .int a1] (fun (v : Option Value) (G1 : gH) (n1 : Nat) => ∃ (th2 : Int32) (ir2 : Int32) (ln2 : Int32) (lx2 : Nat → Nat) (r : Int32), v = some (.int r) ∧ n ≤ n1 ∧ gF G G1 n (fun q : Nat => q = mm ∨ q = ali) ∧ G1 mm = some (.inl (23, [.ref ag, .ref ab, .ref ah, .int ch, .ref asv, .int hs, .ref aas, .ref ain, .int ty, .int er, .ref awy, .int ir2, .ref ali, .int ln2, .int th2, .int pl, .int wr, .ref ato])) ∧ G1 ali = some (aC 60 (fun k => nI (lx2 k))) ∧ mDe f ir ln lx a1 = (th2, ir2, ln2, lx2, r)) gNox := by
  refine g_start (by decide) (Nat.le_of_ble_eq_true rfl) ?_
  intro p e s m below meth c ls C hnm hxt hI hl
  have hx := C.x
  have hb := C.b
  have hS : va_S (gA D) s.heap s.heap [] := va_S.rf
  have hz0 := hI.z
  have lc0_ := hI.lt c0_
  have lc1_ := hI.lt c1_
  have lc2_ := hI.lt c2_
  have hF : gF G G n (fun q : Nat => q = mm ∨ q = ali) := gF.rf _ _ _
  have hl : lv_has ls 2 [(0, .ref mm), (1, .int a1)] := hl
  refine lv_aload_n hx hb dX4_describe_0 rfl (lv_at hl 0 rfl) ?_
  refine lv_iload_n hx hb dX4_describe_1 rfl (lv_at hl 1 rfl) ?_
  refine g_V (As := [.int a1]) (rest := []) (lv := [(0, .ref mm), (1, .int a1)]) C hI hS (c_X4_isBoat l hB G n mm ag ab ah ch asv hs aas ain ty er awy ir ali ln th pl wr ato f a1 c0_ c1_ ) c0_ rfl rfl q2702 q2704 qs40 q94 q2705 (⟨by decide, by decide, by decide⟩ : gArg _ 1) rfl ⟨by decide, by decide⟩ (by omega) hl rfl (Nat.le_of_ble_eq_true rfl) dX4_describe_2 (fun v2635 G2636 n2637 H locs hp2638 hI hS => ?_) gKx.no
  obtain ⟨rfl, eG2636, en2637⟩ := hp2638
  refine W.widen (k := 0) (n := 200 * (0)) (by omega) (by omega) ?_
  rw [eG2636, en2637] at hI
  refine lv_if_ne (tgt := 14) hx hb dX4_describe_5 (by decide) (fun c_2641 => ?_) (fun c_2641 => ?_)
  · skip
    obtain ⟨j_a1, hj_a1, ej_a1⟩ := gin_lt (n := nb) c_2641 hnb (by omega)
    have tj_a1 : a1.toNatClampNeg = j_a1 := by rw [ej_a1]; exact nI_clamp (by omega)
    obtain ⟨hh, hhh, ehh⟩ := hhr j_a1 (by omega)
    have thh : (f (31 + j_a1)).toNatClampNeg = hh := by rw [ehh]; exact nI_clamp (by omega)
    have nhh := sNum_n hh
    have bhh := sLg_le hh
    obtain ⟨mi, hmi, emi⟩ := hmi j_a1 (by omega)
    have tmi : (f (34 + j_a1)).toNatClampNeg = mi := by rw [emi]; exact nI_clamp (by omega)
    have nmi := sNum_n mi
    have bmi := sLg_le mi
    obtain ⟨la, hla, ela⟩ := hla j_a1 (by omega)
    have tla : (f (37 + j_a1)).toNatClampNeg = la := by rw [ela]; exact nI_clamp (by omega)
    have nla := sNum_n la
    have bla := sLg_le la
    have njj := sNum_n j_a1
    have bjj := sLg_le j_a1
    refine lv_aload_n hx hb dX4_describe_14 rfl (lv_at hl 0 rfl) ?_
    refine lv_iconst (v := 0) hx hb dX4_describe_15 (by decide) ?_
    refine g_put (fs2 := [.ref ag, .ref ab, .ref ah, .int ch, .ref asv, .int hs, .ref aas, .ref ain, .int ty, .int er, .ref awy, .int ir, .ref ali, .int 0, .int th, .int pl, .int wr, .ref ato]) C hI hS c0_ (by omega) kc23 13 (Nat.le_of_ble_eq_true rfl) q2580 (fun _ h9 => h9) rfl rfl rfl rfl dX4_describe_16 (fun G2642 H locs e2643 hI hS => ?_)
    have c1_ := gE_k e2643 c1_ (g_on c1_ c0_)
    have c2_ := gE_k e2643 c2_ (g_on c2_ c0_)
    have c0_ : G2642 mm = some (.inl (23, [.ref ag, .ref ab, .ref ah, .int ch, .ref asv, .int hs, .ref aas, .ref ain, .int ty, .int er, .ref awy, .int ir, .ref ali, .int 0, .int th, .int pl, .int wr, .ref ato])) := gE_s e2643
    have hF := gE_F e2643 hF (Or.inr (Or.inl rfl))
    refine lv_aload_n hx hb dX4_describe_19 rfl (lv_at hl 0 rfl) ?_
    refine g_ldcS C (sr_WhelkFleetModel_247 D) dX4_describe_20 ?_
    have lc2644 : gk D 123 < gz D := (hB.tx (j := 23) rfl).1
    have lc2645 : gk D 223 < gz D := (hB.tx (j := 23) rfl).2.1
    have c2644 : G2642 (gk D 123) = some (.inl (21, [.ref (gk D 223), .int 0, .int 93908704, .int 0])) := hI.bs ⟨lc2644, (hB.tx (j := 23) rfl).2.2.1⟩
    have c2645 : G2642 (gk D 223) = some (aB (([98, 111, 97, 116, 32] : List Nat).length) (fun i => nI (([98, 111, 97, 116, 32] : List Nat).getD i 0))) := hI.bs ⟨lc2645, (hB.tx (j := 23) rfl).2.2.2⟩
    refine g_V (As := [.ref (gk D 123)]) (rest := []) (lv := [(0, .ref mm), (1, .int a1)]) C hI hS (c_X4_putsText l hB G2642 n mm ag ab ah ch asv hs aas ain ty er awy ir ali 0 th pl wr ato lx 0 (gk D 123) (gk D 223) 93908704 0 ([98, 111, 97, 116, 32] : List Nat) c0_ c2_ c2644 c2645 (by omega) (by omega) nl0 (by simp only [List.length_cons, List.length_nil] at *; omega) (by decide)) c0_ rfl rfl q2921 q2923 qs71 q94 q2924 (⟨by decide, by decide, by decide⟩ : gArg _ 1) rfl ⟨by decide, by decide⟩ (by omega) hl rfl (Nat.le_of_ble_eq_true rfl) dX4_describe_22 (fun v2646 G2647 n2648 H locs hp2649 hI hS => ?_) gKx.no
    obtain ⟨rfl, hn2650, hF2651, c2652, c2653⟩ := hp2649
    refine W.widen (k := 0) (n := 200 * (0)) (by omega) (by omega) ?_
    have c1_ := hF2651.at c1_ (by omega) (fun h => h.elim (g_on c1_ c0_) (g_na c1_ c2_ (Or.inl (by decide))))
    have c2644 := hF2651.at c2644 (by omega) (fun h => h.elim (g_nc c2644 c0_ (by decide)) (g_no c2644 c2_))
    have c2645 := hF2651.at c2645 (by omega) (fun h => h.elim (g_on c2645 c0_) (g_na c2645 c2_ (Or.inl (by decide))))
    have hF := hF.trans hF2651 (by omega) (fun q hq => (fun h => h.elim (fun h => h ▸ (Or.inl rfl)) (fun h => h ▸ (Or.inr (rfl)))))
    refine lv_aload_n hx hb dX4_describe_25 rfl (lv_at hl 0 rfl) ?_
    refine lv_iload_n hx hb dX4_describe_26 rfl (lv_at hl 1 rfl) ?_
    refine g_V (As := [.int a1]) (rest := []) (lv := [(0, .ref mm), (1, .int a1)]) C hI hS (c_X4_putsNumber l hB G2647 n2648 mm ag ab ah ch asv hs aas ain ty er awy ir ali (nI (0 + ([98, 111, 97, 116, 32] : List Nat).length)) th pl wr ato (sPut lx 0 ([98, 111, 97, 116, 32] : List Nat)) (0 + ([98, 111, 97, 116, 32] : List Nat).length) j_a1 a1 c2652 c2653 (by omega) (by omega) rfl (by simp only [List.length_cons, List.length_nil] at *; omega) ej_a1 (by omega)) c2652 rfl rfl q2929 q2931 qs73 q94 q2932 (⟨by decide, by decide, by decide⟩ : gArg _ 1) rfl ⟨by decide, by decide⟩ (by omega) hl rfl (Nat.le_of_ble_eq_true rfl) dX4_describe_27 (fun v2654 G2655 n2656 H locs hp2657 hI hS => ?_) gKx.no
    obtain ⟨rfl, hn2658, hF2659, c2660, c2661⟩ := hp2657
    refine W.widen (k := 0) (n := 200 * (0)) (by omega) (by omega) ?_
    have c1_ := hF2659.at c1_ (by omega) (fun h => h.elim (g_on c1_ c2652) (g_na c1_ c2653 (Or.inl (by decide))))
    have c2644 := hF2659.at c2644 (by omega) (fun h => h.elim (g_nc c2644 c2652 (by decide)) (g_no c2644 c2653))
    have c2645 := hF2659.at c2645 (by omega) (fun h => h.elim (g_on c2645 c2652) (g_na c2645 c2653 (Or.inl (by decide))))
    have hF := hF.trans hF2659 (by omega) (fun q hq => (fun h => h.elim (fun h => h ▸ (Or.inl rfl)) (fun h => h ▸ (Or.inr (rfl)))))
    refine lv_aload_n hx hb dX4_describe_30 rfl (lv_at hl 0 rfl) ?_
    refine lv_aload_n hx hb dX4_describe_31 rfl (lv_at hl 0 rfl) ?_
    refine g_get C hI c2660 kc23 0 rfl q2567 (fun _ h9 => h9) dX4_describe_32 ?_
    refine lv_bipush (v := 28) hx hb dX4_describe_35 (by decide) ?_
    refine lv_iload_n hx hb dX4_describe_37 rfl (lv_at hl 1 rfl) ?_
    refine lv_iadd hx hb dX4_describe_38 ?_
    refine g_iald (v := .int (f (28 + j_a1))) C hI c1_ (gix (gadd nl28 ej_a1) (by omega) (by omega)) (congrArg Value.int (gixv (f := f) (gadd nl28 ej_a1) (by omega))) dX4_describe_39 ?_
    refine lv_iconst (v := (-1)) hx hb dX4_describe_40 (by decide) ?_
    refine lv_icmp_ne (tgt := 49) hx hb dX4_describe_41 (by decide) (fun c_2662 => ?_) (fun c_2662 => ?_)
    · skip
      obtain ⟨gp, hgp, egp⟩ := (hgr j_a1 (by omega)).resolve_left c_2662
      have tgp : (f (28 + j_a1)).toNatClampNeg = gp := by rw [egp]; exact nI_clamp (by omega)
      have ngp := sNum_n gp
      have bgp := sLg_le gp
      refine g_ldcSW C (sr_WhelkFleetModel_257 D) dX4_describe_49 ?_
      have lc2663 : gk D 134 < gz D := (hB.tx (j := 34) rfl).1
      have lc2664 : gk D 234 < gz D := (hB.tx (j := 34) rfl).2.1
      have c2663 : G2655 (gk D 134) = some (.inl (21, [.ref (gk D 234), .int 0, .int 1050157, .int 0])) := hI.bs ⟨lc2663, (hB.tx (j := 34) rfl).2.2.1⟩
      have c2664 : G2655 (gk D 234) = some (aB (([32, 97, 116, 32] : List Nat).length) (fun i => nI (([32, 97, 116, 32] : List Nat).getD i 0))) := hI.bs ⟨lc2664, (hB.tx (j := 34) rfl).2.2.2⟩
      refine g_V (As := [.ref (gk D 134)]) (rest := []) (lv := [(0, .ref mm), (1, .int a1)]) C hI hS (c_X4_putsText l hB G2655 n2656 mm ag ab ah ch asv hs aas ain ty er awy ir ali (nI ((0 + ([98, 111, 97, 116, 32] : List Nat).length) + (sNum j_a1).length)) th pl wr ato (sPut (sPut lx 0 ([98, 111, 97, 116, 32] : List Nat)) (0 + ([98, 111, 97, 116, 32] : List Nat).length) (sNum j_a1)) ((0 + ([98, 111, 97, 116, 32] : List Nat).length) + (sNum j_a1).length) (gk D 134) (gk D 234) 1050157 0 ([32, 97, 116, 32] : List Nat) c2660 c2661 c2663 c2664 (by omega) (by omega) rfl (by simp only [List.length_cons, List.length_nil] at *; omega) (by decide)) c2660 rfl rfl q2921 q2923 qs71 q94 q2924 (⟨by decide, by decide, by decide⟩ : gArg _ 1) rfl ⟨by decide, by decide⟩ (by omega) hl rfl (Nat.le_of_ble_eq_true rfl) dX4_describe_52 (fun v2665 G2666 n2667 H locs hp2668 hI hS => ?_) gKx.no
      obtain ⟨rfl, hn2669, hF2670, c2671, c2672⟩ := hp2668
      refine W.widen (k := 0) (n := 200 * (0)) (by omega) (by omega) ?_
      have c1_ := hF2670.at c1_ (by omega) (fun h => h.elim (g_on c1_ c2660) (g_na c1_ c2661 (Or.inl (by decide))))
      have c2644 := hF2670.at c2644 (by omega) (fun h => h.elim (g_nc c2644 c2660 (by decide)) (g_no c2644 c2661))
      have c2645 := hF2670.at c2645 (by omega) (fun h => h.elim (g_on c2645 c2660) (g_na c2645 c2661 (Or.inl (by decide))))
      have c2663 := hF2670.at c2663 (by omega) (fun h => h.elim (g_nc c2663 c2660 (by decide)) (g_no c2663 c2661))
      have c2664 := hF2670.at c2664 (by omega) (fun h => h.elim (g_on c2664 c2660) (g_na c2664 c2661 (Or.inl (by decide))))
      have hF := hF.trans hF2670 (by omega) (fun q hq => (fun h => h.elim (fun h => h ▸ (Or.inl rfl)) (fun h => h ▸ (Or.inr (rfl)))))
      refine lv_aload_n hx hb dX4_describe_55 rfl (lv_at hl 0 rfl) ?_
      refine g_get C hI c2671 kc23 0 rfl q2567 (fun _ h9 => h9) dX4_describe_56 ?_
      refine lv_bipush (v := 28) hx hb dX4_describe_59 (by decide) ?_
      refine lv_iload_n hx hb dX4_describe_61 rfl (lv_at hl 1 rfl) ?_
      refine lv_iadd hx hb dX4_describe_62 ?_
      refine g_iald (v := .int (f (28 + j_a1))) C hI c1_ (gix (gadd nl28 ej_a1) (by omega) (by omega)) (congrArg Value.int (gixv (f := f) (gadd nl28 ej_a1) (by omega))) dX4_describe_63 ?_
      refine lv_iconst (v := (-1)) hx hb dX4_describe_64 (by decide) ?_
      refine lv_icmp_eq (tgt := 81) hx hb dX4_describe_65 (by decide) (fun c_2673 => ?_) (fun c_2673 => ?_)
      · exact absurd c_2673 c_2662
      · skip
        refine lv_aload_n hx hb dX4_describe_68 rfl (lv_at hl 0 rfl) ?_
        refine lv_aload_n hx hb dX4_describe_69 rfl (lv_at hl 0 rfl) ?_
        refine g_get C hI c2671 kc23 0 rfl q2567 (fun _ h9 => h9) dX4_describe_70 ?_
        refine lv_bipush (v := 28) hx hb dX4_describe_73 (by decide) ?_
        refine lv_iload_n hx hb dX4_describe_75 rfl (lv_at hl 1 rfl) ?_
        refine lv_iadd hx hb dX4_describe_76 ?_
        refine g_iald (v := .int (f (28 + j_a1))) C hI c1_ (gix (gadd nl28 ej_a1) (by omega) (by omega)) (congrArg Value.int (gixv (f := f) (gadd nl28 ej_a1) (by omega))) dX4_describe_77 ?_
        refine g_V (As := [.int (f (28 + j_a1))]) (rest := []) (lv := [(0, .ref mm), (1, .int a1)]) C hI hS (c_X4_putsNumber l hB G2666 n2667 mm ag ab ah ch asv hs aas ain ty er awy ir ali (nI (((0 + ([98, 111, 97, 116, 32] : List Nat).length) + (sNum j_a1).length) + ([32, 97, 116, 32] : List Nat).length)) th pl wr ato (sPut (sPut (sPut lx 0 ([98, 111, 97, 116, 32] : List Nat)) (0 + ([98, 111, 97, 116, 32] : List Nat).length) (sNum j_a1)) ((0 + ([98, 111, 97, 116, 32] : List Nat).length) + (sNum j_a1).length) ([32, 97, 116, 32] : List Nat)) (((0 + ([98, 111, 97, 116, 32] : List Nat).length) + (sNum j_a1).length) + ([32, 97, 116, 32] : List Nat).length) gp (f (28 + j_a1)) c2671 c2672 (by omega) (by omega) rfl (by simp only [List.length_cons, List.length_nil] at *; omega) egp (by omega)) c2671 rfl rfl q2929 q2931 qs73 q94 q2932 (⟨by decide, by decide, by decide⟩ : gArg _ 1) rfl ⟨by decide, by decide⟩ (by omega) hl rfl (Nat.le_of_ble_eq_true rfl) dX4_describe_78 (fun v2674 G2675 n2676 H locs hp2677 hI hS => ?_) gKx.no
        obtain ⟨rfl, hn2678, hF2679, c2680, c2681⟩ := hp2677
        refine W.widen (k := 0) (n := 200 * (0)) (by omega) (by omega) ?_
        have c1_ := hF2679.at c1_ (by omega) (fun h => h.elim (g_on c1_ c2671) (g_na c1_ c2672 (Or.inl (by decide))))
        have c2644 := hF2679.at c2644 (by omega) (fun h => h.elim (g_nc c2644 c2671 (by decide)) (g_no c2644 c2672))
        have c2645 := hF2679.at c2645 (by omega) (fun h => h.elim (g_on c2645 c2671) (g_na c2645 c2672 (Or.inl (by decide))))
        have c2663 := hF2679.at c2663 (by omega) (fun h => h.elim (g_nc c2663 c2671 (by decide)) (g_no c2663 c2672))
        have c2664 := hF2679.at c2664 (by omega) (fun h => h.elim (g_on c2664 c2671) (g_na c2664 c2672 (Or.inl (by decide))))
        have hF := hF.trans hF2679 (by omega) (fun q hq => (fun h => h.elim (fun h => h ▸ (Or.inl rfl)) (fun h => h ▸ (Or.inr (rfl)))))
        refine lv_aload_n hx hb dX4_describe_81 rfl (lv_at hl 0 rfl) ?_
        refine lv_bipush (v := 32) hx hb dX4_describe_82 (by decide) ?_
        refine g_V (As := [.int 32]) (rest := []) (lv := [(0, .ref mm), (1, .int a1)]) C hI hS (c_X4_puts l hB G2675 n2676 mm ag ab ah ch asv hs aas ain ty er awy ir ali (nI ((((0 + ([98, 111, 97, 116, 32] : List Nat).length) + (sNum j_a1).length) + ([32, 97, 116, 32] : List Nat).length) + (sNum gp).length)) th pl wr ato (sPut (sPut (sPut (sPut lx 0 ([98, 111, 97, 116, 32] : List Nat)) (0 + ([98, 111, 97, 116, 32] : List Nat).length) (sNum j_a1)) ((0 + ([98, 111, 97, 116, 32] : List Nat).length) + (sNum j_a1).length) ([32, 97, 116, 32] : List Nat)) (((0 + ([98, 111, 97, 116, 32] : List Nat).length) + (sNum j_a1).length) + ([32, 97, 116, 32] : List Nat).length) (sNum gp)) ((((0 + ([98, 111, 97, 116, 32] : List Nat).length) + (sNum j_a1).length) + ([32, 97, 116, 32] : List Nat).length) + (sNum gp).length) 32 32 c2680 c2681 (by omega) (by omega) rfl (by simp only [List.length_cons, List.length_nil] at *; omega) nl32 (by omega)) c2680 rfl rfl q2925 q2927 qs72 q94 q2928 (⟨by decide, by decide, by decide⟩ : gArg _ 1) rfl ⟨by decide, by decide⟩ (by omega) hl rfl (Nat.le_of_ble_eq_true rfl) dX4_describe_84 (fun v2682 G2683 n2684 H locs hp2685 hI hS => ?_) gKx.no
        obtain ⟨rfl, hn2686, hF2687, c2688, c2689⟩ := hp2685
        refine W.widen (k := 0) (n := 200 * (0)) (by omega) (by omega) ?_
        have c1_ := hF2687.at c1_ (by omega) (fun h => h.elim (g_on c1_ c2680) (g_na c1_ c2681 (Or.inl (by decide))))
        have c2644 := hF2687.at c2644 (by omega) (fun h => h.elim (g_nc c2644 c2680 (by decide)) (g_no c2644 c2681))
        have c2645 := hF2687.at c2645 (by omega) (fun h => h.elim (g_on c2645 c2680) (g_na c2645 c2681 (Or.inl (by decide))))
        have c2663 := hF2687.at c2663 (by omega) (fun h => h.elim (g_nc c2663 c2680 (by decide)) (g_no c2663 c2681))
        have c2664 := hF2687.at c2664 (by omega) (fun h => h.elim (g_on c2664 c2680) (g_na c2664 c2681 (Or.inl (by decide))))
        have hF := hF.trans hF2687 (by omega) (fun q hq => (fun h => h.elim (fun h => h ▸ (Or.inl rfl)) (fun h => h ▸ (Or.inr (rfl)))))
        refine lv_aload_n hx hb dX4_describe_87 rfl (lv_at hl 0 rfl) ?_
        refine lv_aload_n hx hb dX4_describe_88 rfl (lv_at hl 0 rfl) ?_
        refine g_get C hI c2688 kc23 0 rfl q2567 (fun _ h9 => h9) dX4_describe_89 ?_
        refine lv_bipush (v := 31) hx hb dX4_describe_92 (by decide) ?_
        refine lv_iload_n hx hb dX4_describe_94 rfl (lv_at hl 1 rfl) ?_
        refine lv_iadd hx hb dX4_describe_95 ?_
        refine g_iald (v := .int (f (31 + j_a1))) C hI c1_ (gix (gadd nl31 ej_a1) (by omega) (by omega)) (congrArg Value.int (gixv (f := f) (gadd nl31 ej_a1) (by omega))) dX4_describe_96 ?_
        refine g_V (As := [.int (f (31 + j_a1))]) (rest := []) (lv := [(0, .ref mm), (1, .int a1)]) C hI hS (c_X4_putsNumber l hB G2683 n2684 mm ag ab ah ch asv hs aas ain ty er awy ir ali (nI (((((0 + ([98, 111, 97, 116, 32] : List Nat).length) + (sNum j_a1).length) + ([32, 97, 116, 32] : List Nat).length) + (sNum gp).length) + 1)) th pl wr ato (gup (sPut (sPut (sPut (sPut lx 0 ([98, 111, 97, 116, 32] : List Nat)) (0 + ([98, 111, 97, 116, 32] : List Nat).length) (sNum j_a1)) ((0 + ([98, 111, 97, 116, 32] : List Nat).length) + (sNum j_a1).length) ([32, 97, 116, 32] : List Nat)) (((0 + ([98, 111, 97, 116, 32] : List Nat).length) + (sNum j_a1).length) + ([32, 97, 116, 32] : List Nat).length) (sNum gp)) ((((0 + ([98, 111, 97, 116, 32] : List Nat).length) + (sNum j_a1).length) + ([32, 97, 116, 32] : List Nat).length) + (sNum gp).length) 32) (((((0 + ([98, 111, 97, 116, 32] : List Nat).length) + (sNum j_a1).length) + ([32, 97, 116, 32] : List Nat).length) + (sNum gp).length) + 1) hh (f (31 + j_a1)) c2688 c2689 (by omega) (by omega) rfl (by simp only [List.length_cons, List.length_nil] at *; omega) ehh (by omega)) c2688 rfl rfl q2929 q2931 qs73 q94 q2932 (⟨by decide, by decide, by decide⟩ : gArg _ 1) rfl ⟨by decide, by decide⟩ (by omega) hl rfl (Nat.le_of_ble_eq_true rfl) dX4_describe_97 (fun v2690 G2691 n2692 H locs hp2693 hI hS => ?_) gKx.no
        obtain ⟨rfl, hn2694, hF2695, c2696, c2697⟩ := hp2693
        refine W.widen (k := 0) (n := 200 * (0)) (by omega) (by omega) ?_
        have c1_ := hF2695.at c1_ (by omega) (fun h => h.elim (g_on c1_ c2688) (g_na c1_ c2689 (Or.inl (by decide))))
        have c2644 := hF2695.at c2644 (by omega) (fun h => h.elim (g_nc c2644 c2688 (by decide)) (g_no c2644 c2689))
        have c2645 := hF2695.at c2645 (by omega) (fun h => h.elim (g_on c2645 c2688) (g_na c2645 c2689 (Or.inl (by decide))))
        have c2663 := hF2695.at c2663 (by omega) (fun h => h.elim (g_nc c2663 c2688 (by decide)) (g_no c2663 c2689))
        have c2664 := hF2695.at c2664 (by omega) (fun h => h.elim (g_on c2664 c2688) (g_na c2664 c2689 (Or.inl (by decide))))
        have hF := hF.trans hF2695 (by omega) (fun q hq => (fun h => h.elim (fun h => h ▸ (Or.inl rfl)) (fun h => h ▸ (Or.inr (rfl)))))
        refine lv_aload_n hx hb dX4_describe_100 rfl (lv_at hl 0 rfl) ?_
        refine lv_bipush (v := 104) hx hb dX4_describe_101 (by decide) ?_
        refine g_V (As := [.int 104]) (rest := []) (lv := [(0, .ref mm), (1, .int a1)]) C hI hS (c_X4_puts l hB G2691 n2692 mm ag ab ah ch asv hs aas ain ty er awy ir ali (nI ((((((0 + ([98, 111, 97, 116, 32] : List Nat).length) + (sNum j_a1).length) + ([32, 97, 116, 32] : List Nat).length) + (sNum gp).length) + 1) + (sNum hh).length)) th pl wr ato (sPut (gup (sPut (sPut (sPut (sPut lx 0 ([98, 111, 97, 116, 32] : List Nat)) (0 + ([98, 111, 97, 116, 32] : List Nat).length) (sNum j_a1)) ((0 + ([98, 111, 97, 116, 32] : List Nat).length) + (sNum j_a1).length) ([32, 97, 116, 32] : List Nat)) (((0 + ([98, 111, 97, 116, 32] : List Nat).length) + (sNum j_a1).length) + ([32, 97, 116, 32] : List Nat).length) (sNum gp)) ((((0 + ([98, 111, 97, 116, 32] : List Nat).length) + (sNum j_a1).length) + ([32, 97, 116, 32] : List Nat).length) + (sNum gp).length) 32) (((((0 + ([98, 111, 97, 116, 32] : List Nat).length) + (sNum j_a1).length) + ([32, 97, 116, 32] : List Nat).length) + (sNum gp).length) + 1) (sNum hh)) ((((((0 + ([98, 111, 97, 116, 32] : List Nat).length) + (sNum j_a1).length) + ([32, 97, 116, 32] : List Nat).length) + (sNum gp).length) + 1) + (sNum hh).length) 104 104 c2696 c2697 (by omega) (by omega) rfl (by simp only [List.length_cons, List.length_nil] at *; omega) nl104 (by omega)) c2696 rfl rfl q2925 q2927 qs72 q94 q2928 (⟨by decide, by decide, by decide⟩ : gArg _ 1) rfl ⟨by decide, by decide⟩ (by omega) hl rfl (Nat.le_of_ble_eq_true rfl) dX4_describe_103 (fun v2698 G2699 n2700 H locs hp2701 hI hS => ?_) gKx.no
        obtain ⟨rfl, hn2702, hF2703, c2704, c2705⟩ := hp2701
        refine W.widen (k := 0) (n := 200 * (0)) (by omega) (by omega) ?_
        have c1_ := hF2703.at c1_ (by omega) (fun h => h.elim (g_on c1_ c2696) (g_na c1_ c2697 (Or.inl (by decide))))
        have c2644 := hF2703.at c2644 (by omega) (fun h => h.elim (g_nc c2644 c2696 (by decide)) (g_no c2644 c2697))
        have c2645 := hF2703.at c2645 (by omega) (fun h => h.elim (g_on c2645 c2696) (g_na c2645 c2697 (Or.inl (by decide))))
        have c2663 := hF2703.at c2663 (by omega) (fun h => h.elim (g_nc c2663 c2696 (by decide)) (g_no c2663 c2697))
        have c2664 := hF2703.at c2664 (by omega) (fun h => h.elim (g_on c2664 c2696) (g_na c2664 c2697 (Or.inl (by decide))))
        have hF := hF.trans hF2703 (by omega) (fun q hq => (fun h => h.elim (fun h => h ▸ (Or.inl rfl)) (fun h => h ▸ (Or.inr (rfl)))))
        refine lv_aload_n hx hb dX4_describe_106 rfl (lv_at hl 0 rfl) ?_
        refine lv_iload_n hx hb dX4_describe_107 rfl (lv_at hl 1 rfl) ?_
        refine g_V (As := [.int a1]) (rest := []) (lv := [(0, .ref mm), (1, .int a1)]) C hI hS (c_X4_inHold l hB G2699 n2700 mm ag ab ah ch asv hs aas ain ty er awy ir ali (nI (((((((0 + ([98, 111, 97, 116, 32] : List Nat).length) + (sNum j_a1).length) + ([32, 97, 116, 32] : List Nat).length) + (sNum gp).length) + 1) + (sNum hh).length) + 1)) th pl wr ato f j_a1 a1 c2704 c1_ (by omega) ej_a1) c2704 rfl rfl q2766 q2768 qs50 q94 q2769 (⟨by decide, by decide, by decide⟩ : gArg _ 1) rfl ⟨by decide, by decide⟩ (by omega) hl rfl (Nat.le_of_ble_eq_true rfl) dX4_describe_108 (fun v2706 G2707 n2708 H locs hp2709 hI hS => ?_) gKx.no
        obtain ⟨rfl, eG2707, en2708⟩ := hp2709
        refine W.widen (k := 0) (n := 200 * (0)) (by omega) (by omega) ?_
        rw [eG2707, en2708] at hI
        refine lv_if_le (tgt := 158) hx hb dX4_describe_111 (by decide) (fun c_2712 => ?_) (fun c_2712 => ?_)
        · skip
          refine lv_aload_n hx hb dX4_describe_158 rfl (lv_at hl 0 rfl) ?_
          refine lv_aload_n hx hb dX4_describe_159 rfl (lv_at hl 0 rfl) ?_
          refine g_get C hI c2704 kc23 13 rfl q2580 (fun _ h9 => h9) dX4_describe_160 ?_
          refine g_V (As := [.int (nI (((((((0 + ([98, 111, 97, 116, 32] : List Nat).length) + (sNum j_a1).length) + ([32, 97, 116, 32] : List Nat).length) + (sNum gp).length) + 1) + (sNum hh).length) + 1))]) (rest := []) (lv := [(0, .ref mm), (1, .int a1)]) C hI hS (c_X4_done l hB G2699 n2700 mm ag ab ah ch asv hs aas ain ty er awy ir ali (nI (((((((0 + ([98, 111, 97, 116, 32] : List Nat).length) + (sNum j_a1).length) + ([32, 97, 116, 32] : List Nat).length) + (sNum gp).length) + 1) + (sNum hh).length) + 1)) th pl wr ato (nI (((((((0 + ([98, 111, 97, 116, 32] : List Nat).length) + (sNum j_a1).length) + ([32, 97, 116, 32] : List Nat).length) + (sNum gp).length) + 1) + (sNum hh).length) + 1)) c2704 (by omega)) c2704 rfl rfl q2644 q2646 qs35 q94 q2647 (⟨by decide, by decide, by decide⟩ : gArg _ 1) rfl ⟨by decide, by decide⟩ (by omega) hl rfl (Nat.le_of_ble_eq_true rfl) dX4_describe_163 (fun v2713 G2714 n2715 H locs hp2716 hI hS => ?_) gKx.no
          obtain ⟨rfl, hn2717, hF2718, c2719⟩ := hp2716
          refine W.widen (k := 0) (n := 200 * (0)) (by omega) (by omega) ?_
          have c1_ := hF2718.at c1_ (by omega) (g_on c1_ c2704)
          have c2644 := hF2718.at c2644 (by omega) (g_nc c2644 c2704 (by decide))
          have c2645 := hF2718.at c2645 (by omega) (g_on c2645 c2704)
          have c2663 := hF2718.at c2663 (by omega) (g_nc c2663 c2704 (by decide))
          have c2664 := hF2718.at c2664 (by omega) (g_on c2664 c2704)
          have c2705 := hF2718.at c2705 (by omega) (g_on c2705 c2704)
          have hF := hF.trans hF2718 (by omega) (fun q hq => (fun h => h ▸ (Or.inl rfl)))
          exact g_iret C hI hS (by omega) ⟨0, ir, nI (((((((0 + ([98, 111, 97, 116, 32] : List Nat).length) + (sNum j_a1).length) + ([32, 97, 116, 32] : List Nat).length) + (sNum gp).length) + 1) + (sNum hh).length) + 1), gup (sPut (gup (sPut (sPut (sPut (sPut lx 0 ([98, 111, 97, 116, 32] : List Nat)) (0 + ([98, 111, 97, 116, 32] : List Nat).length) (sNum j_a1)) ((0 + ([98, 111, 97, 116, 32] : List Nat).length) + (sNum j_a1).length) ([32, 97, 116, 32] : List Nat)) (((0 + ([98, 111, 97, 116, 32] : List Nat).length) + (sNum j_a1).length) + ([32, 97, 116, 32] : List Nat).length) (sNum gp)) ((((0 + ([98, 111, 97, 116, 32] : List Nat).length) + (sNum j_a1).length) + ([32, 97, 116, 32] : List Nat).length) + (sNum gp).length) 32) (((((0 + ([98, 111, 97, 116, 32] : List Nat).length) + (sNum j_a1).length) + ([32, 97, 116, 32] : List Nat).length) + (sNum gp).length) + 1) (sNum hh)) ((((((0 + ([98, 111, 97, 116, 32] : List Nat).length) + (sNum j_a1).length) + ([32, 97, 116, 32] : List Nat).length) + (sNum gp).length) + 1) + (sNum hh).length) 104, nI (((((((0 + ([98, 111, 97, 116, 32] : List Nat).length) + (sNum j_a1).length) + ([32, 97, 116, 32] : List Nat).length) + (sNum gp).length) + 1) + (sNum hh).length) + 1), rfl, (by omega), hF, c2719, c2705, (by simp [mDe, sDesc, sWhere, sHold, sPut_app, sPut, Nat.add_assoc, c_2641, tj_a1, thh, tmi, tla, c_2662, tgp, c_2673, c_2712] <;> (congr 1; omega))⟩ dX4_describe_166
        · skip
          refine lv_aload_n hx hb dX4_describe_114 rfl (lv_at hl 0 rfl) ?_
          refine lv_bipush (v := 32) hx hb dX4_describe_115 (by decide) ?_
          refine g_V (As := [.int 32]) (rest := []) (lv := [(0, .ref mm), (1, .int a1)]) C hI hS (c_X4_puts l hB G2699 n2700 mm ag ab ah ch asv hs aas ain ty er awy ir ali (nI (((((((0 + ([98, 111, 97, 116, 32] : List Nat).length) + (sNum j_a1).length) + ([32, 97, 116, 32] : List Nat).length) + (sNum gp).length) + 1) + (sNum hh).length) + 1)) th pl wr ato (gup (sPut (gup (sPut (sPut (sPut (sPut lx 0 ([98, 111, 97, 116, 32] : List Nat)) (0 + ([98, 111, 97, 116, 32] : List Nat).length) (sNum j_a1)) ((0 + ([98, 111, 97, 116, 32] : List Nat).length) + (sNum j_a1).length) ([32, 97, 116, 32] : List Nat)) (((0 + ([98, 111, 97, 116, 32] : List Nat).length) + (sNum j_a1).length) + ([32, 97, 116, 32] : List Nat).length) (sNum gp)) ((((0 + ([98, 111, 97, 116, 32] : List Nat).length) + (sNum j_a1).length) + ([32, 97, 116, 32] : List Nat).length) + (sNum gp).length) 32) (((((0 + ([98, 111, 97, 116, 32] : List Nat).length) + (sNum j_a1).length) + ([32, 97, 116, 32] : List Nat).length) + (sNum gp).length) + 1) (sNum hh)) ((((((0 + ([98, 111, 97, 116, 32] : List Nat).length) + (sNum j_a1).length) + ([32, 97, 116, 32] : List Nat).length) + (sNum gp).length) + 1) + (sNum hh).length) 104) (((((((0 + ([98, 111, 97, 116, 32] : List Nat).length) + (sNum j_a1).length) + ([32, 97, 116, 32] : List Nat).length) + (sNum gp).length) + 1) + (sNum hh).length) + 1) 32 32 c2704 c2705 (by omega) (by omega) rfl (by simp only [List.length_cons, List.length_nil] at *; omega) nl32 (by omega)) c2704 rfl rfl q2925 q2927 qs72 q94 q2928 (⟨by decide, by decide, by decide⟩ : gArg _ 1) rfl ⟨by decide, by decide⟩ (by omega) hl rfl (Nat.le_of_ble_eq_true rfl) dX4_describe_117 (fun v2720 G2721 n2722 H locs hp2723 hI hS => ?_) gKx.no
          obtain ⟨rfl, hn2724, hF2725, c2726, c2727⟩ := hp2723
          refine W.widen (k := 0) (n := 200 * (0)) (by omega) (by omega) ?_
          have c1_ := hF2725.at c1_ (by omega) (fun h => h.elim (g_on c1_ c2704) (g_na c1_ c2705 (Or.inl (by decide))))
          have c2644 := hF2725.at c2644 (by omega) (fun h => h.elim (g_nc c2644 c2704 (by decide)) (g_no c2644 c2705))
          have c2645 := hF2725.at c2645 (by omega) (fun h => h.elim (g_on c2645 c2704) (g_na c2645 c2705 (Or.inl (by decide))))
          have c2663 := hF2725.at c2663 (by omega) (fun h => h.elim (g_nc c2663 c2704 (by decide)) (g_no c2663 c2705))
          have c2664 := hF2725.at c2664 (by omega) (fun h => h.elim (g_on c2664 c2704) (g_na c2664 c2705 (Or.inl (by decide))))
          have hF := hF.trans hF2725 (by omega) (fun q hq => (fun h => h.elim (fun h => h ▸ (Or.inl rfl)) (fun h => h ▸ (Or.inr (rfl)))))
          refine lv_aload_n hx hb dX4_describe_120 rfl (lv_at hl 0 rfl) ?_
          refine lv_aload_n hx hb dX4_describe_121 rfl (lv_at hl 0 rfl) ?_
          refine g_get C hI c2726 kc23 0 rfl q2567 (fun _ h9 => h9) dX4_describe_122 ?_
          refine lv_bipush (v := 34) hx hb dX4_describe_125 (by decide) ?_
          refine lv_iload_n hx hb dX4_describe_127 rfl (lv_at hl 1 rfl) ?_
          refine lv_iadd hx hb dX4_describe_128 ?_
          refine g_iald (v := .int (f (34 + j_a1))) C hI c1_ (gix (gadd nl34 ej_a1) (by omega) (by omega)) (congrArg Value.int (gixv (f := f) (gadd nl34 ej_a1) (by omega))) dX4_describe_129 ?_
          refine g_V (As := [.int (f (34 + j_a1))]) (rest := []) (lv := [(0, .ref mm), (1, .int a1)]) C hI hS (c_X4_putsNumber l hB G2721 n2722 mm ag ab ah ch asv hs aas ain ty er awy ir ali (nI ((((((((0 + ([98, 111, 97, 116, 32] : List Nat).length) + (sNum j_a1).length) + ([32, 97, 116, 32] : List Nat).length) + (sNum gp).length) + 1) + (sNum hh).length) + 1) + 1)) th pl wr ato (gup (gup (sPut (gup (sPut (sPut (sPut (sPut lx 0 ([98, 111, 97, 116, 32] : List Nat)) (0 + ([98, 111, 97, 116, 32] : List Nat).length) (sNum j_a1)) ((0 + ([98, 111, 97, 116, 32] : List Nat).length) + (sNum j_a1).length) ([32, 97, 116, 32] : List Nat)) (((0 + ([98, 111, 97, 116, 32] : List Nat).length) + (sNum j_a1).length) + ([32, 97, 116, 32] : List Nat).length) (sNum gp)) ((((0 + ([98, 111, 97, 116, 32] : List Nat).length) + (sNum j_a1).length) + ([32, 97, 116, 32] : List Nat).length) + (sNum gp).length) 32) (((((0 + ([98, 111, 97, 116, 32] : List Nat).length) + (sNum j_a1).length) + ([32, 97, 116, 32] : List Nat).length) + (sNum gp).length) + 1) (sNum hh)) ((((((0 + ([98, 111, 97, 116, 32] : List Nat).length) + (sNum j_a1).length) + ([32, 97, 116, 32] : List Nat).length) + (sNum gp).length) + 1) + (sNum hh).length) 104) (((((((0 + ([98, 111, 97, 116, 32] : List Nat).length) + (sNum j_a1).length) + ([32, 97, 116, 32] : List Nat).length) + (sNum gp).length) + 1) + (sNum hh).length) + 1) 32) ((((((((0 + ([98, 111, 97, 116, 32] : List Nat).length) + (sNum j_a1).length) + ([32, 97, 116, 32] : List Nat).length) + (sNum gp).length) + 1) + (sNum hh).length) + 1) + 1) mi (f (34 + j_a1)) c2726 c2727 (by omega) (by omega) rfl (by simp only [List.length_cons, List.length_nil] at *; omega) emi (by omega)) c2726 rfl rfl q2929 q2931 qs73 q94 q2932 (⟨by decide, by decide, by decide⟩ : gArg _ 1) rfl ⟨by decide, by decide⟩ (by omega) hl rfl (Nat.le_of_ble_eq_true rfl) dX4_describe_130 (fun v2728 G2729 n2730 H locs hp2731 hI hS => ?_) gKx.no
          obtain ⟨rfl, hn2732, hF2733, c2734, c2735⟩ := hp2731
          refine W.widen (k := 0) (n := 200 * (0)) (by omega) (by omega) ?_
          have c1_ := hF2733.at c1_ (by omega) (fun h => h.elim (g_on c1_ c2726) (g_na c1_ c2727 (Or.inl (by decide))))
          have c2644 := hF2733.at c2644 (by omega) (fun h => h.elim (g_nc c2644 c2726 (by decide)) (g_no c2644 c2727))
          have c2645 := hF2733.at c2645 (by omega) (fun h => h.elim (g_on c2645 c2726) (g_na c2645 c2727 (Or.inl (by decide))))
          have c2663 := hF2733.at c2663 (by omega) (fun h => h.elim (g_nc c2663 c2726 (by decide)) (g_no c2663 c2727))
          have c2664 := hF2733.at c2664 (by omega) (fun h => h.elim (g_on c2664 c2726) (g_na c2664 c2727 (Or.inl (by decide))))
          have hF := hF.trans hF2733 (by omega) (fun q hq => (fun h => h.elim (fun h => h ▸ (Or.inl rfl)) (fun h => h ▸ (Or.inr (rfl)))))
          refine lv_aload_n hx hb dX4_describe_133 rfl (lv_at hl 0 rfl) ?_
          refine lv_bipush (v := 109) hx hb dX4_describe_134 (by decide) ?_
          refine g_V (As := [.int 109]) (rest := []) (lv := [(0, .ref mm), (1, .int a1)]) C hI hS (c_X4_puts l hB G2729 n2730 mm ag ab ah ch asv hs aas ain ty er awy ir ali (nI (((((((((0 + ([98, 111, 97, 116, 32] : List Nat).length) + (sNum j_a1).length) + ([32, 97, 116, 32] : List Nat).length) + (sNum gp).length) + 1) + (sNum hh).length) + 1) + 1) + (sNum mi).length)) th pl wr ato (sPut (gup (gup (sPut (gup (sPut (sPut (sPut (sPut lx 0 ([98, 111, 97, 116, 32] : List Nat)) (0 + ([98, 111, 97, 116, 32] : List Nat).length) (sNum j_a1)) ((0 + ([98, 111, 97, 116, 32] : List Nat).length) + (sNum j_a1).length) ([32, 97, 116, 32] : List Nat)) (((0 + ([98, 111, 97, 116, 32] : List Nat).length) + (sNum j_a1).length) + ([32, 97, 116, 32] : List Nat).length) (sNum gp)) ((((0 + ([98, 111, 97, 116, 32] : List Nat).length) + (sNum j_a1).length) + ([32, 97, 116, 32] : List Nat).length) + (sNum gp).length) 32) (((((0 + ([98, 111, 97, 116, 32] : List Nat).length) + (sNum j_a1).length) + ([32, 97, 116, 32] : List Nat).length) + (sNum gp).length) + 1) (sNum hh)) ((((((0 + ([98, 111, 97, 116, 32] : List Nat).length) + (sNum j_a1).length) + ([32, 97, 116, 32] : List Nat).length) + (sNum gp).length) + 1) + (sNum hh).length) 104) (((((((0 + ([98, 111, 97, 116, 32] : List Nat).length) + (sNum j_a1).length) + ([32, 97, 116, 32] : List Nat).length) + (sNum gp).length) + 1) + (sNum hh).length) + 1) 32) ((((((((0 + ([98, 111, 97, 116, 32] : List Nat).length) + (sNum j_a1).length) + ([32, 97, 116, 32] : List Nat).length) + (sNum gp).length) + 1) + (sNum hh).length) + 1) + 1) (sNum mi)) (((((((((0 + ([98, 111, 97, 116, 32] : List Nat).length) + (sNum j_a1).length) + ([32, 97, 116, 32] : List Nat).length) + (sNum gp).length) + 1) + (sNum hh).length) + 1) + 1) + (sNum mi).length) 109 109 c2734 c2735 (by omega) (by omega) rfl (by simp only [List.length_cons, List.length_nil] at *; omega) nl109 (by omega)) c2734 rfl rfl q2925 q2927 qs72 q94 q2928 (⟨by decide, by decide, by decide⟩ : gArg _ 1) rfl ⟨by decide, by decide⟩ (by omega) hl rfl (Nat.le_of_ble_eq_true rfl) dX4_describe_136 (fun v2736 G2737 n2738 H locs hp2739 hI hS => ?_) gKx.no
          obtain ⟨rfl, hn2740, hF2741, c2742, c2743⟩ := hp2739
          refine W.widen (k := 0) (n := 200 * (0)) (by omega) (by omega) ?_
          have c1_ := hF2741.at c1_ (by omega) (fun h => h.elim (g_on c1_ c2734) (g_na c1_ c2735 (Or.inl (by decide))))
          have c2644 := hF2741.at c2644 (by omega) (fun h => h.elim (g_nc c2644 c2734 (by decide)) (g_no c2644 c2735))
          have c2645 := hF2741.at c2645 (by omega) (fun h => h.elim (g_on c2645 c2734) (g_na c2645 c2735 (Or.inl (by decide))))
          have c2663 := hF2741.at c2663 (by omega) (fun h => h.elim (g_nc c2663 c2734 (by decide)) (g_no c2663 c2735))
          have c2664 := hF2741.at c2664 (by omega) (fun h => h.elim (g_on c2664 c2734) (g_na c2664 c2735 (Or.inl (by decide))))
          have hF := hF.trans hF2741 (by omega) (fun q hq => (fun h => h.elim (fun h => h ▸ (Or.inl rfl)) (fun h => h ▸ (Or.inr (rfl)))))
          refine lv_aload_n hx hb dX4_describe_139 rfl (lv_at hl 0 rfl) ?_
          refine lv_aload_n hx hb dX4_describe_140 rfl (lv_at hl 0 rfl) ?_
          refine g_get C hI c2742 kc23 0 rfl q2567 (fun _ h9 => h9) dX4_describe_141 ?_
          refine lv_bipush (v := 37) hx hb dX4_describe_144 (by decide) ?_
          refine lv_iload_n hx hb dX4_describe_146 rfl (lv_at hl 1 rfl) ?_
          refine lv_iadd hx hb dX4_describe_147 ?_
          refine g_iald (v := .int (f (37 + j_a1))) C hI c1_ (gix (gadd nl37 ej_a1) (by omega) (by omega)) (congrArg Value.int (gixv (f := f) (gadd nl37 ej_a1) (by omega))) dX4_describe_148 ?_
          refine g_V (As := [.int (f (37 + j_a1))]) (rest := []) (lv := [(0, .ref mm), (1, .int a1)]) C hI hS (c_X4_putsNumber l hB G2737 n2738 mm ag ab ah ch asv hs aas ain ty er awy ir ali (nI ((((((((((0 + ([98, 111, 97, 116, 32] : List Nat).length) + (sNum j_a1).length) + ([32, 97, 116, 32] : List Nat).length) + (sNum gp).length) + 1) + (sNum hh).length) + 1) + 1) + (sNum mi).length) + 1)) th pl wr ato (gup (sPut (gup (gup (sPut (gup (sPut (sPut (sPut (sPut lx 0 ([98, 111, 97, 116, 32] : List Nat)) (0 + ([98, 111, 97, 116, 32] : List Nat).length) (sNum j_a1)) ((0 + ([98, 111, 97, 116, 32] : List Nat).length) + (sNum j_a1).length) ([32, 97, 116, 32] : List Nat)) (((0 + ([98, 111, 97, 116, 32] : List Nat).length) + (sNum j_a1).length) + ([32, 97, 116, 32] : List Nat).length) (sNum gp)) ((((0 + ([98, 111, 97, 116, 32] : List Nat).length) + (sNum j_a1).length) + ([32, 97, 116, 32] : List Nat).length) + (sNum gp).length) 32) (((((0 + ([98, 111, 97, 116, 32] : List Nat).length) + (sNum j_a1).length) + ([32, 97, 116, 32] : List Nat).length) + (sNum gp).length) + 1) (sNum hh)) ((((((0 + ([98, 111, 97, 116, 32] : List Nat).length) + (sNum j_a1).length) + ([32, 97, 116, 32] : List Nat).length) + (sNum gp).length) + 1) + (sNum hh).length) 104) (((((((0 + ([98, 111, 97, 116, 32] : List Nat).length) + (sNum j_a1).length) + ([32, 97, 116, 32] : List Nat).length) + (sNum gp).length) + 1) + (sNum hh).length) + 1) 32) ((((((((0 + ([98, 111, 97, 116, 32] : List Nat).length) + (sNum j_a1).length) + ([32, 97, 116, 32] : List Nat).length) + (sNum gp).length) + 1) + (sNum hh).length) + 1) + 1) (sNum mi)) (((((((((0 + ([98, 111, 97, 116, 32] : List Nat).length) + (sNum j_a1).length) + ([32, 97, 116, 32] : List Nat).length) + (sNum gp).length) + 1) + (sNum hh).length) + 1) + 1) + (sNum mi).length) 109) ((((((((((0 + ([98, 111, 97, 116, 32] : List Nat).length) + (sNum j_a1).length) + ([32, 97, 116, 32] : List Nat).length) + (sNum gp).length) + 1) + (sNum hh).length) + 1) + 1) + (sNum mi).length) + 1) la (f (37 + j_a1)) c2742 c2743 (by omega) (by omega) rfl (by simp only [List.length_cons, List.length_nil] at *; omega) ela (by omega)) c2742 rfl rfl q2929 q2931 qs73 q94 q2932 (⟨by decide, by decide, by decide⟩ : gArg _ 1) rfl ⟨by decide, by decide⟩ (by omega) hl rfl (Nat.le_of_ble_eq_true rfl) dX4_describe_149 (fun v2744 G2745 n2746 H locs hp2747 hI hS => ?_) gKx.no
          obtain ⟨rfl, hn2748, hF2749, c2750, c2751⟩ := hp2747
          refine W.widen (k := 0) (n := 200 * (0)) (by omega) (by omega) ?_
          have c1_ := hF2749.at c1_ (by omega) (fun h => h.elim (g_on c1_ c2742) (g_na c1_ c2743 (Or.inl (by decide))))
          have c2644 := hF2749.at c2644 (by omega) (fun h => h.elim (g_nc c2644 c2742 (by decide)) (g_no c2644 c2743))
          have c2645 := hF2749.at c2645 (by omega) (fun h => h.elim (g_on c2645 c2742) (g_na c2645 c2743 (Or.inl (by decide))))
          have c2663 := hF2749.at c2663 (by omega) (fun h => h.elim (g_nc c2663 c2742 (by decide)) (g_no c2663 c2743))
          have c2664 := hF2749.at c2664 (by omega) (fun h => h.elim (g_on c2664 c2742) (g_na c2664 c2743 (Or.inl (by decide))))
          have hF := hF.trans hF2749 (by omega) (fun q hq => (fun h => h.elim (fun h => h ▸ (Or.inl rfl)) (fun h => h ▸ (Or.inr (rfl)))))
          refine lv_aload_n hx hb dX4_describe_152 rfl (lv_at hl 0 rfl) ?_
          refine lv_bipush (v := 108) hx hb dX4_describe_153 (by decide) ?_
          refine g_V (As := [.int 108]) (rest := []) (lv := [(0, .ref mm), (1, .int a1)]) C hI hS (c_X4_puts l hB G2745 n2746 mm ag ab ah ch asv hs aas ain ty er awy ir ali (nI (((((((((((0 + ([98, 111, 97, 116, 32] : List Nat).length) + (sNum j_a1).length) + ([32, 97, 116, 32] : List Nat).length) + (sNum gp).length) + 1) + (sNum hh).length) + 1) + 1) + (sNum mi).length) + 1) + (sNum la).length)) th pl wr ato (sPut (gup (sPut (gup (gup (sPut (gup (sPut (sPut (sPut (sPut lx 0 ([98, 111, 97, 116, 32] : List Nat)) (0 + ([98, 111, 97, 116, 32] : List Nat).length) (sNum j_a1)) ((0 + ([98, 111, 97, 116, 32] : List Nat).length) + (sNum j_a1).length) ([32, 97, 116, 32] : List Nat)) (((0 + ([98, 111, 97, 116, 32] : List Nat).length) + (sNum j_a1).length) + ([32, 97, 116, 32] : List Nat).length) (sNum gp)) ((((0 + ([98, 111, 97, 116, 32] : List Nat).length) + (sNum j_a1).length) + ([32, 97, 116, 32] : List Nat).length) + (sNum gp).length) 32) (((((0 + ([98, 111, 97, 116, 32] : List Nat).length) + (sNum j_a1).length) + ([32, 97, 116, 32] : List Nat).length) + (sNum gp).length) + 1) (sNum hh)) ((((((0 + ([98, 111, 97, 116, 32] : List Nat).length) + (sNum j_a1).length) + ([32, 97, 116, 32] : List Nat).length) + (sNum gp).length) + 1) + (sNum hh).length) 104) (((((((0 + ([98, 111, 97, 116, 32] : List Nat).length) + (sNum j_a1).length) + ([32, 97, 116, 32] : List Nat).length) + (sNum gp).length) + 1) + (sNum hh).length) + 1) 32) ((((((((0 + ([98, 111, 97, 116, 32] : List Nat).length) + (sNum j_a1).length) + ([32, 97, 116, 32] : List Nat).length) + (sNum gp).length) + 1) + (sNum hh).length) + 1) + 1) (sNum mi)) (((((((((0 + ([98, 111, 97, 116, 32] : List Nat).length) + (sNum j_a1).length) + ([32, 97, 116, 32] : List Nat).length) + (sNum gp).length) + 1) + (sNum hh).length) + 1) + 1) + (sNum mi).length) 109) ((((((((((0 + ([98, 111, 97, 116, 32] : List Nat).length) + (sNum j_a1).length) + ([32, 97, 116, 32] : List Nat).length) + (sNum gp).length) + 1) + (sNum hh).length) + 1) + 1) + (sNum mi).length) + 1) (sNum la)) (((((((((((0 + ([98, 111, 97, 116, 32] : List Nat).length) + (sNum j_a1).length) + ([32, 97, 116, 32] : List Nat).length) + (sNum gp).length) + 1) + (sNum hh).length) + 1) + 1) + (sNum mi).length) + 1) + (sNum la).length) 108 108 c2750 c2751 (by omega) (by omega) rfl (by simp only [List.length_cons, List.length_nil] at *; omega) nl108 (by omega)) c2750 rfl rfl q2925 q2927 qs72 q94 q2928 (⟨by decide, by decide, by decide⟩ : gArg _ 1) rfl ⟨by decide, by decide⟩ (by omega) hl rfl (Nat.le_of_ble_eq_true rfl) dX4_describe_155 (fun v2752 G2753 n2754 H locs hp2755 hI hS => ?_) gKx.no
          obtain ⟨rfl, hn2756, hF2757, c2758, c2759⟩ := hp2755
          refine W.widen (k := 0) (n := 200 * (0)) (by omega) (by omega) ?_
          have c1_ := hF2757.at c1_ (by omega) (fun h => h.elim (g_on c1_ c2750) (g_na c1_ c2751 (Or.inl (by decide))))
          have c2644 := hF2757.at c2644 (by omega) (fun h => h.elim (g_nc c2644 c2750 (by decide)) (g_no c2644 c2751))
          have c2645 := hF2757.at c2645 (by omega) (fun h => h.elim (g_on c2645 c2750) (g_na c2645 c2751 (Or.inl (by decide))))
          have c2663 := hF2757.at c2663 (by omega) (fun h => h.elim (g_nc c2663 c2750 (by decide)) (g_no c2663 c2751))
          have c2664 := hF2757.at c2664 (by omega) (fun h => h.elim (g_on c2664 c2750) (g_na c2664 c2751 (Or.inl (by decide))))
          have hF := hF.trans hF2757 (by omega) (fun q hq => (fun h => h.elim (fun h => h ▸ (Or.inl rfl)) (fun h => h ▸ (Or.inr (rfl)))))
          refine lv_aload_n hx hb dX4_describe_158 rfl (lv_at hl 0 rfl) ?_
          refine lv_aload_n hx hb dX4_describe_159 rfl (lv_at hl 0 rfl) ?_
          refine g_get C hI c2758 kc23 13 rfl q2580 (fun _ h9 => h9) dX4_describe_160 ?_
          refine g_V (As := [.int (nI ((((((((((((0 + ([98, 111, 97, 116, 32] : List Nat).length) + (sNum j_a1).length) + ([32, 97, 116, 32] : List Nat).length) + (sNum gp).length) + 1) + (sNum hh).length) + 1) + 1) + (sNum mi).length) + 1) + (sNum la).length) + 1))]) (rest := []) (lv := [(0, .ref mm), (1, .int a1)]) C hI hS (c_X4_done l hB G2753 n2754 mm ag ab ah ch asv hs aas ain ty er awy ir ali (nI ((((((((((((0 + ([98, 111, 97, 116, 32] : List Nat).length) + (sNum j_a1).length) + ([32, 97, 116, 32] : List Nat).length) + (sNum gp).length) + 1) + (sNum hh).length) + 1) + 1) + (sNum mi).length) + 1) + (sNum la).length) + 1)) th pl wr ato (nI ((((((((((((0 + ([98, 111, 97, 116, 32] : List Nat).length) + (sNum j_a1).length) + ([32, 97, 116, 32] : List Nat).length) + (sNum gp).length) + 1) + (sNum hh).length) + 1) + 1) + (sNum mi).length) + 1) + (sNum la).length) + 1)) c2758 (by omega)) c2758 rfl rfl q2644 q2646 qs35 q94 q2647 (⟨by decide, by decide, by decide⟩ : gArg _ 1) rfl ⟨by decide, by decide⟩ (by omega) hl rfl (Nat.le_of_ble_eq_true rfl) dX4_describe_163 (fun v2760 G2761 n2762 H locs hp2763 hI hS => ?_) gKx.no
          obtain ⟨rfl, hn2764, hF2765, c2766⟩ := hp2763
          refine W.widen (k := 0) (n := 200 * (0)) (by omega) (by omega) ?_
          have c1_ := hF2765.at c1_ (by omega) (g_on c1_ c2758)
          have c2644 := hF2765.at c2644 (by omega) (g_nc c2644 c2758 (by decide))
          have c2645 := hF2765.at c2645 (by omega) (g_on c2645 c2758)
          have c2663 := hF2765.at c2663 (by omega) (g_nc c2663 c2758 (by decide))
          have c2664 := hF2765.at c2664 (by omega) (g_on c2664 c2758)
          have c2759 := hF2765.at c2759 (by omega) (g_on c2759 c2758)
          have hF := hF.trans hF2765 (by omega) (fun q hq => (fun h => h ▸ (Or.inl rfl)))
          exact g_iret C hI hS (by omega) ⟨0, ir, nI ((((((((((((0 + ([98, 111, 97, 116, 32] : List Nat).length) + (sNum j_a1).length) + ([32, 97, 116, 32] : List Nat).length) + (sNum gp).length) + 1) + (sNum hh).length) + 1) + 1) + (sNum mi).length) + 1) + (sNum la).length) + 1), gup (sPut (gup (sPut (gup (gup (sPut (gup (sPut (sPut (sPut (sPut lx 0 ([98, 111, 97, 116, 32] : List Nat)) (0 + ([98, 111, 97, 116, 32] : List Nat).length) (sNum j_a1)) ((0 + ([98, 111, 97, 116, 32] : List Nat).length) + (sNum j_a1).length) ([32, 97, 116, 32] : List Nat)) (((0 + ([98, 111, 97, 116, 32] : List Nat).length) + (sNum j_a1).length) + ([32, 97, 116, 32] : List Nat).length) (sNum gp)) ((((0 + ([98, 111, 97, 116, 32] : List Nat).length) + (sNum j_a1).length) + ([32, 97, 116, 32] : List Nat).length) + (sNum gp).length) 32) (((((0 + ([98, 111, 97, 116, 32] : List Nat).length) + (sNum j_a1).length) + ([32, 97, 116, 32] : List Nat).length) + (sNum gp).length) + 1) (sNum hh)) ((((((0 + ([98, 111, 97, 116, 32] : List Nat).length) + (sNum j_a1).length) + ([32, 97, 116, 32] : List Nat).length) + (sNum gp).length) + 1) + (sNum hh).length) 104) (((((((0 + ([98, 111, 97, 116, 32] : List Nat).length) + (sNum j_a1).length) + ([32, 97, 116, 32] : List Nat).length) + (sNum gp).length) + 1) + (sNum hh).length) + 1) 32) ((((((((0 + ([98, 111, 97, 116, 32] : List Nat).length) + (sNum j_a1).length) + ([32, 97, 116, 32] : List Nat).length) + (sNum gp).length) + 1) + (sNum hh).length) + 1) + 1) (sNum mi)) (((((((((0 + ([98, 111, 97, 116, 32] : List Nat).length) + (sNum j_a1).length) + ([32, 97, 116, 32] : List Nat).length) + (sNum gp).length) + 1) + (sNum hh).length) + 1) + 1) + (sNum mi).length) 109) ((((((((((0 + ([98, 111, 97, 116, 32] : List Nat).length) + (sNum j_a1).length) + ([32, 97, 116, 32] : List Nat).length) + (sNum gp).length) + 1) + (sNum hh).length) + 1) + 1) + (sNum mi).length) + 1) (sNum la)) (((((((((((0 + ([98, 111, 97, 116, 32] : List Nat).length) + (sNum j_a1).length) + ([32, 97, 116, 32] : List Nat).length) + (sNum gp).length) + 1) + (sNum hh).length) + 1) + 1) + (sNum mi).length) + 1) + (sNum la).length) 108, nI ((((((((((((0 + ([98, 111, 97, 116, 32] : List Nat).length) + (sNum j_a1).length) + ([32, 97, 116, 32] : List Nat).length) + (sNum gp).length) + 1) + (sNum hh).length) + 1) + 1) + (sNum mi).length) + 1) + (sNum la).length) + 1), rfl, (by omega), hF, c2766, c2759, (by simp [mDe, sDesc, sWhere, sHold, sPut_app, sPut, Nat.add_assoc, c_2641, tj_a1, thh, tmi, tla, c_2662, tgp, c_2673, c_2712] <;> (congr 1; omega))⟩ dX4_describe_166
    · skip
      refine g_ldcS C (sr_WhelkFleetModel_255 D) dX4_describe_44 ?_
      have lc2767 : gk D 133 < gz D := (hB.tx (j := 33) rfl).1
      have lc2768 : gk D 233 < gz D := (hB.tx (j := 33) rfl).2.1
      have c2767 : G2655 (gk D 133) = some (.inl (21, [.ref (gk D 233), .int 0, .int 32761087, .int 0])) := hI.bs ⟨lc2767, (hB.tx (j := 33) rfl).2.2.1⟩
      have c2768 : G2655 (gk D 233) = some (aB (([32, 104, 111, 109, 101] : List Nat).length) (fun i => nI (([32, 104, 111, 109, 101] : List Nat).getD i 0))) := hI.bs ⟨lc2768, (hB.tx (j := 33) rfl).2.2.2⟩
      refine lv_goto (tgt := 52) hx hb dX4_describe_46 (by decide) ?_
      refine g_V (As := [.ref (gk D 133)]) (rest := []) (lv := [(0, .ref mm), (1, .int a1)]) C hI hS (c_X4_putsText l hB G2655 n2656 mm ag ab ah ch asv hs aas ain ty er awy ir ali (nI ((0 + ([98, 111, 97, 116, 32] : List Nat).length) + (sNum j_a1).length)) th pl wr ato (sPut (sPut lx 0 ([98, 111, 97, 116, 32] : List Nat)) (0 + ([98, 111, 97, 116, 32] : List Nat).length) (sNum j_a1)) ((0 + ([98, 111, 97, 116, 32] : List Nat).length) + (sNum j_a1).length) (gk D 133) (gk D 233) 32761087 0 ([32, 104, 111, 109, 101] : List Nat) c2660 c2661 c2767 c2768 (by omega) (by omega) rfl (by simp only [List.length_cons, List.length_nil] at *; omega) (by decide)) c2660 rfl rfl q2921 q2923 qs71 q94 q2924 (⟨by decide, by decide, by decide⟩ : gArg _ 1) rfl ⟨by decide, by decide⟩ (by omega) hl rfl (Nat.le_of_ble_eq_true rfl) dX4_describe_52 (fun v2769 G2770 n2771 H locs hp2772 hI hS => ?_) gKx.no
      obtain ⟨rfl, hn2773, hF2774, c2775, c2776⟩ := hp2772
      refine W.widen (k := 0) (n := 200 * (0)) (by omega) (by omega) ?_
      have c1_ := hF2774.at c1_ (by omega) (fun h => h.elim (g_on c1_ c2660) (g_na c1_ c2661 (Or.inl (by decide))))
      have c2644 := hF2774.at c2644 (by omega) (fun h => h.elim (g_nc c2644 c2660 (by decide)) (g_no c2644 c2661))
      have c2645 := hF2774.at c2645 (by omega) (fun h => h.elim (g_on c2645 c2660) (g_na c2645 c2661 (Or.inl (by decide))))
      have c2767 := hF2774.at c2767 (by omega) (fun h => h.elim (g_nc c2767 c2660 (by decide)) (g_no c2767 c2661))
      have c2768 := hF2774.at c2768 (by omega) (fun h => h.elim (g_on c2768 c2660) (g_na c2768 c2661 (Or.inl (by decide))))
      have hF := hF.trans hF2774 (by omega) (fun q hq => (fun h => h.elim (fun h => h ▸ (Or.inl rfl)) (fun h => h ▸ (Or.inr (rfl)))))
      refine lv_aload_n hx hb dX4_describe_55 rfl (lv_at hl 0 rfl) ?_
      refine g_get C hI c2775 kc23 0 rfl q2567 (fun _ h9 => h9) dX4_describe_56 ?_
      refine lv_bipush (v := 28) hx hb dX4_describe_59 (by decide) ?_
      refine lv_iload_n hx hb dX4_describe_61 rfl (lv_at hl 1 rfl) ?_
      refine lv_iadd hx hb dX4_describe_62 ?_
      refine g_iald (v := .int (f (28 + j_a1))) C hI c1_ (gix (gadd nl28 ej_a1) (by omega) (by omega)) (congrArg Value.int (gixv (f := f) (gadd nl28 ej_a1) (by omega))) dX4_describe_63 ?_
      refine lv_iconst (v := (-1)) hx hb dX4_describe_64 (by decide) ?_
      refine lv_icmp_eq (tgt := 81) hx hb dX4_describe_65 (by decide) (fun c_2777 => ?_) (fun c_2777 => ?_)
      · skip
        refine lv_aload_n hx hb dX4_describe_81 rfl (lv_at hl 0 rfl) ?_
        refine lv_bipush (v := 32) hx hb dX4_describe_82 (by decide) ?_
        refine g_V (As := [.int 32]) (rest := []) (lv := [(0, .ref mm), (1, .int a1)]) C hI hS (c_X4_puts l hB G2770 n2771 mm ag ab ah ch asv hs aas ain ty er awy ir ali (nI (((0 + ([98, 111, 97, 116, 32] : List Nat).length) + (sNum j_a1).length) + ([32, 104, 111, 109, 101] : List Nat).length)) th pl wr ato (sPut (sPut (sPut lx 0 ([98, 111, 97, 116, 32] : List Nat)) (0 + ([98, 111, 97, 116, 32] : List Nat).length) (sNum j_a1)) ((0 + ([98, 111, 97, 116, 32] : List Nat).length) + (sNum j_a1).length) ([32, 104, 111, 109, 101] : List Nat)) (((0 + ([98, 111, 97, 116, 32] : List Nat).length) + (sNum j_a1).length) + ([32, 104, 111, 109, 101] : List Nat).length) 32 32 c2775 c2776 (by omega) (by omega) rfl (by simp only [List.length_cons, List.length_nil] at *; omega) nl32 (by omega)) c2775 rfl rfl q2925 q2927 qs72 q94 q2928 (⟨by decide, by decide, by decide⟩ : gArg _ 1) rfl ⟨by decide, by decide⟩ (by omega) hl rfl (Nat.le_of_ble_eq_true rfl) dX4_describe_84 (fun v2778 G2779 n2780 H locs hp2781 hI hS => ?_) gKx.no
        obtain ⟨rfl, hn2782, hF2783, c2784, c2785⟩ := hp2781
        refine W.widen (k := 0) (n := 200 * (0)) (by omega) (by omega) ?_
        have c1_ := hF2783.at c1_ (by omega) (fun h => h.elim (g_on c1_ c2775) (g_na c1_ c2776 (Or.inl (by decide))))
        have c2644 := hF2783.at c2644 (by omega) (fun h => h.elim (g_nc c2644 c2775 (by decide)) (g_no c2644 c2776))
        have c2645 := hF2783.at c2645 (by omega) (fun h => h.elim (g_on c2645 c2775) (g_na c2645 c2776 (Or.inl (by decide))))
        have c2767 := hF2783.at c2767 (by omega) (fun h => h.elim (g_nc c2767 c2775 (by decide)) (g_no c2767 c2776))
        have c2768 := hF2783.at c2768 (by omega) (fun h => h.elim (g_on c2768 c2775) (g_na c2768 c2776 (Or.inl (by decide))))
        have hF := hF.trans hF2783 (by omega) (fun q hq => (fun h => h.elim (fun h => h ▸ (Or.inl rfl)) (fun h => h ▸ (Or.inr (rfl)))))
        refine lv_aload_n hx hb dX4_describe_87 rfl (lv_at hl 0 rfl) ?_
        refine lv_aload_n hx hb dX4_describe_88 rfl (lv_at hl 0 rfl) ?_
        refine g_get C hI c2784 kc23 0 rfl q2567 (fun _ h9 => h9) dX4_describe_89 ?_
        refine lv_bipush (v := 31) hx hb dX4_describe_92 (by decide) ?_
        refine lv_iload_n hx hb dX4_describe_94 rfl (lv_at hl 1 rfl) ?_
        refine lv_iadd hx hb dX4_describe_95 ?_
        refine g_iald (v := .int (f (31 + j_a1))) C hI c1_ (gix (gadd nl31 ej_a1) (by omega) (by omega)) (congrArg Value.int (gixv (f := f) (gadd nl31 ej_a1) (by omega))) dX4_describe_96 ?_
        refine g_V (As := [.int (f (31 + j_a1))]) (rest := []) (lv := [(0, .ref mm), (1, .int a1)]) C hI hS (c_X4_putsNumber l hB G2779 n2780 mm ag ab ah ch asv hs aas ain ty er awy ir ali (nI ((((0 + ([98, 111, 97, 116, 32] : List Nat).length) + (sNum j_a1).length) + ([32, 104, 111, 109, 101] : List Nat).length) + 1)) th pl wr ato (gup (sPut (sPut (sPut lx 0 ([98, 111, 97, 116, 32] : List Nat)) (0 + ([98, 111, 97, 116, 32] : List Nat).length) (sNum j_a1)) ((0 + ([98, 111, 97, 116, 32] : List Nat).length) + (sNum j_a1).length) ([32, 104, 111, 109, 101] : List Nat)) (((0 + ([98, 111, 97, 116, 32] : List Nat).length) + (sNum j_a1).length) + ([32, 104, 111, 109, 101] : List Nat).length) 32) ((((0 + ([98, 111, 97, 116, 32] : List Nat).length) + (sNum j_a1).length) + ([32, 104, 111, 109, 101] : List Nat).length) + 1) hh (f (31 + j_a1)) c2784 c2785 (by omega) (by omega) rfl (by simp only [List.length_cons, List.length_nil] at *; omega) ehh (by omega)) c2784 rfl rfl q2929 q2931 qs73 q94 q2932 (⟨by decide, by decide, by decide⟩ : gArg _ 1) rfl ⟨by decide, by decide⟩ (by omega) hl rfl (Nat.le_of_ble_eq_true rfl) dX4_describe_97 (fun v2786 G2787 n2788 H locs hp2789 hI hS => ?_) gKx.no
        obtain ⟨rfl, hn2790, hF2791, c2792, c2793⟩ := hp2789
        refine W.widen (k := 0) (n := 200 * (0)) (by omega) (by omega) ?_
        have c1_ := hF2791.at c1_ (by omega) (fun h => h.elim (g_on c1_ c2784) (g_na c1_ c2785 (Or.inl (by decide))))
        have c2644 := hF2791.at c2644 (by omega) (fun h => h.elim (g_nc c2644 c2784 (by decide)) (g_no c2644 c2785))
        have c2645 := hF2791.at c2645 (by omega) (fun h => h.elim (g_on c2645 c2784) (g_na c2645 c2785 (Or.inl (by decide))))
        have c2767 := hF2791.at c2767 (by omega) (fun h => h.elim (g_nc c2767 c2784 (by decide)) (g_no c2767 c2785))
        have c2768 := hF2791.at c2768 (by omega) (fun h => h.elim (g_on c2768 c2784) (g_na c2768 c2785 (Or.inl (by decide))))
        have hF := hF.trans hF2791 (by omega) (fun q hq => (fun h => h.elim (fun h => h ▸ (Or.inl rfl)) (fun h => h ▸ (Or.inr (rfl)))))
        refine lv_aload_n hx hb dX4_describe_100 rfl (lv_at hl 0 rfl) ?_
        refine lv_bipush (v := 104) hx hb dX4_describe_101 (by decide) ?_
        refine g_V (As := [.int 104]) (rest := []) (lv := [(0, .ref mm), (1, .int a1)]) C hI hS (c_X4_puts l hB G2787 n2788 mm ag ab ah ch asv hs aas ain ty er awy ir ali (nI (((((0 + ([98, 111, 97, 116, 32] : List Nat).length) + (sNum j_a1).length) + ([32, 104, 111, 109, 101] : List Nat).length) + 1) + (sNum hh).length)) th pl wr ato (sPut (gup (sPut (sPut (sPut lx 0 ([98, 111, 97, 116, 32] : List Nat)) (0 + ([98, 111, 97, 116, 32] : List Nat).length) (sNum j_a1)) ((0 + ([98, 111, 97, 116, 32] : List Nat).length) + (sNum j_a1).length) ([32, 104, 111, 109, 101] : List Nat)) (((0 + ([98, 111, 97, 116, 32] : List Nat).length) + (sNum j_a1).length) + ([32, 104, 111, 109, 101] : List Nat).length) 32) ((((0 + ([98, 111, 97, 116, 32] : List Nat).length) + (sNum j_a1).length) + ([32, 104, 111, 109, 101] : List Nat).length) + 1) (sNum hh)) (((((0 + ([98, 111, 97, 116, 32] : List Nat).length) + (sNum j_a1).length) + ([32, 104, 111, 109, 101] : List Nat).length) + 1) + (sNum hh).length) 104 104 c2792 c2793 (by omega) (by omega) rfl (by simp only [List.length_cons, List.length_nil] at *; omega) nl104 (by omega)) c2792 rfl rfl q2925 q2927 qs72 q94 q2928 (⟨by decide, by decide, by decide⟩ : gArg _ 1) rfl ⟨by decide, by decide⟩ (by omega) hl rfl (Nat.le_of_ble_eq_true rfl) dX4_describe_103 (fun v2794 G2795 n2796 H locs hp2797 hI hS => ?_) gKx.no
        obtain ⟨rfl, hn2798, hF2799, c2800, c2801⟩ := hp2797
        refine W.widen (k := 0) (n := 200 * (0)) (by omega) (by omega) ?_
        have c1_ := hF2799.at c1_ (by omega) (fun h => h.elim (g_on c1_ c2792) (g_na c1_ c2793 (Or.inl (by decide))))
        have c2644 := hF2799.at c2644 (by omega) (fun h => h.elim (g_nc c2644 c2792 (by decide)) (g_no c2644 c2793))
        have c2645 := hF2799.at c2645 (by omega) (fun h => h.elim (g_on c2645 c2792) (g_na c2645 c2793 (Or.inl (by decide))))
        have c2767 := hF2799.at c2767 (by omega) (fun h => h.elim (g_nc c2767 c2792 (by decide)) (g_no c2767 c2793))
        have c2768 := hF2799.at c2768 (by omega) (fun h => h.elim (g_on c2768 c2792) (g_na c2768 c2793 (Or.inl (by decide))))
        have hF := hF.trans hF2799 (by omega) (fun q hq => (fun h => h.elim (fun h => h ▸ (Or.inl rfl)) (fun h => h ▸ (Or.inr (rfl)))))
        refine lv_aload_n hx hb dX4_describe_106 rfl (lv_at hl 0 rfl) ?_
        refine lv_iload_n hx hb dX4_describe_107 rfl (lv_at hl 1 rfl) ?_
        refine g_V (As := [.int a1]) (rest := []) (lv := [(0, .ref mm), (1, .int a1)]) C hI hS (c_X4_inHold l hB G2795 n2796 mm ag ab ah ch asv hs aas ain ty er awy ir ali (nI ((((((0 + ([98, 111, 97, 116, 32] : List Nat).length) + (sNum j_a1).length) + ([32, 104, 111, 109, 101] : List Nat).length) + 1) + (sNum hh).length) + 1)) th pl wr ato f j_a1 a1 c2800 c1_ (by omega) ej_a1) c2800 rfl rfl q2766 q2768 qs50 q94 q2769 (⟨by decide, by decide, by decide⟩ : gArg _ 1) rfl ⟨by decide, by decide⟩ (by omega) hl rfl (Nat.le_of_ble_eq_true rfl) dX4_describe_108 (fun v2802 G2803 n2804 H locs hp2805 hI hS => ?_) gKx.no
        obtain ⟨rfl, eG2803, en2804⟩ := hp2805
        refine W.widen (k := 0) (n := 200 * (0)) (by omega) (by omega) ?_
        rw [eG2803, en2804] at hI
        refine lv_if_le (tgt := 158) hx hb dX4_describe_111 (by decide) (fun c_2808 => ?_) (fun c_2808 => ?_)
        · skip
          refine lv_aload_n hx hb dX4_describe_158 rfl (lv_at hl 0 rfl) ?_
          refine lv_aload_n hx hb dX4_describe_159 rfl (lv_at hl 0 rfl) ?_
          refine g_get C hI c2800 kc23 13 rfl q2580 (fun _ h9 => h9) dX4_describe_160 ?_
          refine g_V (As := [.int (nI ((((((0 + ([98, 111, 97, 116, 32] : List Nat).length) + (sNum j_a1).length) + ([32, 104, 111, 109, 101] : List Nat).length) + 1) + (sNum hh).length) + 1))]) (rest := []) (lv := [(0, .ref mm), (1, .int a1)]) C hI hS (c_X4_done l hB G2795 n2796 mm ag ab ah ch asv hs aas ain ty er awy ir ali (nI ((((((0 + ([98, 111, 97, 116, 32] : List Nat).length) + (sNum j_a1).length) + ([32, 104, 111, 109, 101] : List Nat).length) + 1) + (sNum hh).length) + 1)) th pl wr ato (nI ((((((0 + ([98, 111, 97, 116, 32] : List Nat).length) + (sNum j_a1).length) + ([32, 104, 111, 109, 101] : List Nat).length) + 1) + (sNum hh).length) + 1)) c2800 (by omega)) c2800 rfl rfl q2644 q2646 qs35 q94 q2647 (⟨by decide, by decide, by decide⟩ : gArg _ 1) rfl ⟨by decide, by decide⟩ (by omega) hl rfl (Nat.le_of_ble_eq_true rfl) dX4_describe_163 (fun v2809 G2810 n2811 H locs hp2812 hI hS => ?_) gKx.no
          obtain ⟨rfl, hn2813, hF2814, c2815⟩ := hp2812
          refine W.widen (k := 0) (n := 200 * (0)) (by omega) (by omega) ?_
          have c1_ := hF2814.at c1_ (by omega) (g_on c1_ c2800)
          have c2644 := hF2814.at c2644 (by omega) (g_nc c2644 c2800 (by decide))
          have c2645 := hF2814.at c2645 (by omega) (g_on c2645 c2800)
          have c2767 := hF2814.at c2767 (by omega) (g_nc c2767 c2800 (by decide))
          have c2768 := hF2814.at c2768 (by omega) (g_on c2768 c2800)
          have c2801 := hF2814.at c2801 (by omega) (g_on c2801 c2800)
          have hF := hF.trans hF2814 (by omega) (fun q hq => (fun h => h ▸ (Or.inl rfl)))
          exact g_iret C hI hS (by omega) ⟨0, ir, nI ((((((0 + ([98, 111, 97, 116, 32] : List Nat).length) + (sNum j_a1).length) + ([32, 104, 111, 109, 101] : List Nat).length) + 1) + (sNum hh).length) + 1), gup (sPut (gup (sPut (sPut (sPut lx 0 ([98, 111, 97, 116, 32] : List Nat)) (0 + ([98, 111, 97, 116, 32] : List Nat).length) (sNum j_a1)) ((0 + ([98, 111, 97, 116, 32] : List Nat).length) + (sNum j_a1).length) ([32, 104, 111, 109, 101] : List Nat)) (((0 + ([98, 111, 97, 116, 32] : List Nat).length) + (sNum j_a1).length) + ([32, 104, 111, 109, 101] : List Nat).length) 32) ((((0 + ([98, 111, 97, 116, 32] : List Nat).length) + (sNum j_a1).length) + ([32, 104, 111, 109, 101] : List Nat).length) + 1) (sNum hh)) (((((0 + ([98, 111, 97, 116, 32] : List Nat).length) + (sNum j_a1).length) + ([32, 104, 111, 109, 101] : List Nat).length) + 1) + (sNum hh).length) 104, nI ((((((0 + ([98, 111, 97, 116, 32] : List Nat).length) + (sNum j_a1).length) + ([32, 104, 111, 109, 101] : List Nat).length) + 1) + (sNum hh).length) + 1), rfl, (by omega), hF, c2815, c2801, (by simp [mDe, sDesc, sWhere, sHold, sPut_app, sPut, Nat.add_assoc, c_2641, tj_a1, thh, tmi, tla, eq_true c_2662, eq_true c_2777, c_2808] <;> (congr 1; omega))⟩ dX4_describe_166
        · skip
          refine lv_aload_n hx hb dX4_describe_114 rfl (lv_at hl 0 rfl) ?_
          refine lv_bipush (v := 32) hx hb dX4_describe_115 (by decide) ?_
          refine g_V (As := [.int 32]) (rest := []) (lv := [(0, .ref mm), (1, .int a1)]) C hI hS (c_X4_puts l hB G2795 n2796 mm ag ab ah ch asv hs aas ain ty er awy ir ali (nI ((((((0 + ([98, 111, 97, 116, 32] : List Nat).length) + (sNum j_a1).length) + ([32, 104, 111, 109, 101] : List Nat).length) + 1) + (sNum hh).length) + 1)) th pl wr ato (gup (sPut (gup (sPut (sPut (sPut lx 0 ([98, 111, 97, 116, 32] : List Nat)) (0 + ([98, 111, 97, 116, 32] : List Nat).length) (sNum j_a1)) ((0 + ([98, 111, 97, 116, 32] : List Nat).length) + (sNum j_a1).length) ([32, 104, 111, 109, 101] : List Nat)) (((0 + ([98, 111, 97, 116, 32] : List Nat).length) + (sNum j_a1).length) + ([32, 104, 111, 109, 101] : List Nat).length) 32) ((((0 + ([98, 111, 97, 116, 32] : List Nat).length) + (sNum j_a1).length) + ([32, 104, 111, 109, 101] : List Nat).length) + 1) (sNum hh)) (((((0 + ([98, 111, 97, 116, 32] : List Nat).length) + (sNum j_a1).length) + ([32, 104, 111, 109, 101] : List Nat).length) + 1) + (sNum hh).length) 104) ((((((0 + ([98, 111, 97, 116, 32] : List Nat).length) + (sNum j_a1).length) + ([32, 104, 111, 109, 101] : List Nat).length) + 1) + (sNum hh).length) + 1) 32 32 c2800 c2801 (by omega) (by omega) rfl (by simp only [List.length_cons, List.length_nil] at *; omega) nl32 (by omega)) c2800 rfl rfl q2925 q2927 qs72 q94 q2928 (⟨by decide, by decide, by decide⟩ : gArg _ 1) rfl ⟨by decide, by decide⟩ (by omega) hl rfl (Nat.le_of_ble_eq_true rfl) dX4_describe_117 (fun v2816 G2817 n2818 H locs hp2819 hI hS => ?_) gKx.no
          obtain ⟨rfl, hn2820, hF2821, c2822, c2823⟩ := hp2819
          refine W.widen (k := 0) (n := 200 * (0)) (by omega) (by omega) ?_
          have c1_ := hF2821.at c1_ (by omega) (fun h => h.elim (g_on c1_ c2800) (g_na c1_ c2801 (Or.inl (by decide))))
          have c2644 := hF2821.at c2644 (by omega) (fun h => h.elim (g_nc c2644 c2800 (by decide)) (g_no c2644 c2801))
          have c2645 := hF2821.at c2645 (by omega) (fun h => h.elim (g_on c2645 c2800) (g_na c2645 c2801 (Or.inl (by decide))))
          have c2767 := hF2821.at c2767 (by omega) (fun h => h.elim (g_nc c2767 c2800 (by decide)) (g_no c2767 c2801))
          have c2768 := hF2821.at c2768 (by omega) (fun h => h.elim (g_on c2768 c2800) (g_na c2768 c2801 (Or.inl (by decide))))
          have hF := hF.trans hF2821 (by omega) (fun q hq => (fun h => h.elim (fun h => h ▸ (Or.inl rfl)) (fun h => h ▸ (Or.inr (rfl)))))
          refine lv_aload_n hx hb dX4_describe_120 rfl (lv_at hl 0 rfl) ?_
          refine lv_aload_n hx hb dX4_describe_121 rfl (lv_at hl 0 rfl) ?_
          refine g_get C hI c2822 kc23 0 rfl q2567 (fun _ h9 => h9) dX4_describe_122 ?_
          refine lv_bipush (v := 34) hx hb dX4_describe_125 (by decide) ?_
          refine lv_iload_n hx hb dX4_describe_127 rfl (lv_at hl 1 rfl) ?_
          refine lv_iadd hx hb dX4_describe_128 ?_
          refine g_iald (v := .int (f (34 + j_a1))) C hI c1_ (gix (gadd nl34 ej_a1) (by omega) (by omega)) (congrArg Value.int (gixv (f := f) (gadd nl34 ej_a1) (by omega))) dX4_describe_129 ?_
          refine g_V (As := [.int (f (34 + j_a1))]) (rest := []) (lv := [(0, .ref mm), (1, .int a1)]) C hI hS (c_X4_putsNumber l hB G2817 n2818 mm ag ab ah ch asv hs aas ain ty er awy ir ali (nI (((((((0 + ([98, 111, 97, 116, 32] : List Nat).length) + (sNum j_a1).length) + ([32, 104, 111, 109, 101] : List Nat).length) + 1) + (sNum hh).length) + 1) + 1)) th pl wr ato (gup (gup (sPut (gup (sPut (sPut (sPut lx 0 ([98, 111, 97, 116, 32] : List Nat)) (0 + ([98, 111, 97, 116, 32] : List Nat).length) (sNum j_a1)) ((0 + ([98, 111, 97, 116, 32] : List Nat).length) + (sNum j_a1).length) ([32, 104, 111, 109, 101] : List Nat)) (((0 + ([98, 111, 97, 116, 32] : List Nat).length) + (sNum j_a1).length) + ([32, 104, 111, 109, 101] : List Nat).length) 32) ((((0 + ([98, 111, 97, 116, 32] : List Nat).length) + (sNum j_a1).length) + ([32, 104, 111, 109, 101] : List Nat).length) + 1) (sNum hh)) (((((0 + ([98, 111, 97, 116, 32] : List Nat).length) + (sNum j_a1).length) + ([32, 104, 111, 109, 101] : List Nat).length) + 1) + (sNum hh).length) 104) ((((((0 + ([98, 111, 97, 116, 32] : List Nat).length) + (sNum j_a1).length) + ([32, 104, 111, 109, 101] : List Nat).length) + 1) + (sNum hh).length) + 1) 32) (((((((0 + ([98, 111, 97, 116, 32] : List Nat).length) + (sNum j_a1).length) + ([32, 104, 111, 109, 101] : List Nat).length) + 1) + (sNum hh).length) + 1) + 1) mi (f (34 + j_a1)) c2822 c2823 (by omega) (by omega) rfl (by simp only [List.length_cons, List.length_nil] at *; omega) emi (by omega)) c2822 rfl rfl q2929 q2931 qs73 q94 q2932 (⟨by decide, by decide, by decide⟩ : gArg _ 1) rfl ⟨by decide, by decide⟩ (by omega) hl rfl (Nat.le_of_ble_eq_true rfl) dX4_describe_130 (fun v2824 G2825 n2826 H locs hp2827 hI hS => ?_) gKx.no
          obtain ⟨rfl, hn2828, hF2829, c2830, c2831⟩ := hp2827
          refine W.widen (k := 0) (n := 200 * (0)) (by omega) (by omega) ?_
          have c1_ := hF2829.at c1_ (by omega) (fun h => h.elim (g_on c1_ c2822) (g_na c1_ c2823 (Or.inl (by decide))))
          have c2644 := hF2829.at c2644 (by omega) (fun h => h.elim (g_nc c2644 c2822 (by decide)) (g_no c2644 c2823))
          have c2645 := hF2829.at c2645 (by omega) (fun h => h.elim (g_on c2645 c2822) (g_na c2645 c2823 (Or.inl (by decide))))
          have c2767 := hF2829.at c2767 (by omega) (fun h => h.elim (g_nc c2767 c2822 (by decide)) (g_no c2767 c2823))
          have c2768 := hF2829.at c2768 (by omega) (fun h => h.elim (g_on c2768 c2822) (g_na c2768 c2823 (Or.inl (by decide))))
          have hF := hF.trans hF2829 (by omega) (fun q hq => (fun h => h.elim (fun h => h ▸ (Or.inl rfl)) (fun h => h ▸ (Or.inr (rfl)))))
          refine lv_aload_n hx hb dX4_describe_133 rfl (lv_at hl 0 rfl) ?_
          refine lv_bipush (v := 109) hx hb dX4_describe_134 (by decide) ?_
          refine g_V (As := [.int 109]) (rest := []) (lv := [(0, .ref mm), (1, .int a1)]) C hI hS (c_X4_puts l hB G2825 n2826 mm ag ab ah ch asv hs aas ain ty er awy ir ali (nI ((((((((0 + ([98, 111, 97, 116, 32] : List Nat).length) + (sNum j_a1).length) + ([32, 104, 111, 109, 101] : List Nat).length) + 1) + (sNum hh).length) + 1) + 1) + (sNum mi).length)) th pl wr ato (sPut (gup (gup (sPut (gup (sPut (sPut (sPut lx 0 ([98, 111, 97, 116, 32] : List Nat)) (0 + ([98, 111, 97, 116, 32] : List Nat).length) (sNum j_a1)) ((0 + ([98, 111, 97, 116, 32] : List Nat).length) + (sNum j_a1).length) ([32, 104, 111, 109, 101] : List Nat)) (((0 + ([98, 111, 97, 116, 32] : List Nat).length) + (sNum j_a1).length) + ([32, 104, 111, 109, 101] : List Nat).length) 32) ((((0 + ([98, 111, 97, 116, 32] : List Nat).length) + (sNum j_a1).length) + ([32, 104, 111, 109, 101] : List Nat).length) + 1) (sNum hh)) (((((0 + ([98, 111, 97, 116, 32] : List Nat).length) + (sNum j_a1).length) + ([32, 104, 111, 109, 101] : List Nat).length) + 1) + (sNum hh).length) 104) ((((((0 + ([98, 111, 97, 116, 32] : List Nat).length) + (sNum j_a1).length) + ([32, 104, 111, 109, 101] : List Nat).length) + 1) + (sNum hh).length) + 1) 32) (((((((0 + ([98, 111, 97, 116, 32] : List Nat).length) + (sNum j_a1).length) + ([32, 104, 111, 109, 101] : List Nat).length) + 1) + (sNum hh).length) + 1) + 1) (sNum mi)) ((((((((0 + ([98, 111, 97, 116, 32] : List Nat).length) + (sNum j_a1).length) + ([32, 104, 111, 109, 101] : List Nat).length) + 1) + (sNum hh).length) + 1) + 1) + (sNum mi).length) 109 109 c2830 c2831 (by omega) (by omega) rfl (by simp only [List.length_cons, List.length_nil] at *; omega) nl109 (by omega)) c2830 rfl rfl q2925 q2927 qs72 q94 q2928 (⟨by decide, by decide, by decide⟩ : gArg _ 1) rfl ⟨by decide, by decide⟩ (by omega) hl rfl (Nat.le_of_ble_eq_true rfl) dX4_describe_136 (fun v2832 G2833 n2834 H locs hp2835 hI hS => ?_) gKx.no
          obtain ⟨rfl, hn2836, hF2837, c2838, c2839⟩ := hp2835
          refine W.widen (k := 0) (n := 200 * (0)) (by omega) (by omega) ?_
          have c1_ := hF2837.at c1_ (by omega) (fun h => h.elim (g_on c1_ c2830) (g_na c1_ c2831 (Or.inl (by decide))))
          have c2644 := hF2837.at c2644 (by omega) (fun h => h.elim (g_nc c2644 c2830 (by decide)) (g_no c2644 c2831))
          have c2645 := hF2837.at c2645 (by omega) (fun h => h.elim (g_on c2645 c2830) (g_na c2645 c2831 (Or.inl (by decide))))
          have c2767 := hF2837.at c2767 (by omega) (fun h => h.elim (g_nc c2767 c2830 (by decide)) (g_no c2767 c2831))
          have c2768 := hF2837.at c2768 (by omega) (fun h => h.elim (g_on c2768 c2830) (g_na c2768 c2831 (Or.inl (by decide))))
          have hF := hF.trans hF2837 (by omega) (fun q hq => (fun h => h.elim (fun h => h ▸ (Or.inl rfl)) (fun h => h ▸ (Or.inr (rfl)))))
          refine lv_aload_n hx hb dX4_describe_139 rfl (lv_at hl 0 rfl) ?_
          refine lv_aload_n hx hb dX4_describe_140 rfl (lv_at hl 0 rfl) ?_
          refine g_get C hI c2838 kc23 0 rfl q2567 (fun _ h9 => h9) dX4_describe_141 ?_
          refine lv_bipush (v := 37) hx hb dX4_describe_144 (by decide) ?_
          refine lv_iload_n hx hb dX4_describe_146 rfl (lv_at hl 1 rfl) ?_
          refine lv_iadd hx hb dX4_describe_147 ?_
          refine g_iald (v := .int (f (37 + j_a1))) C hI c1_ (gix (gadd nl37 ej_a1) (by omega) (by omega)) (congrArg Value.int (gixv (f := f) (gadd nl37 ej_a1) (by omega))) dX4_describe_148 ?_
          refine g_V (As := [.int (f (37 + j_a1))]) (rest := []) (lv := [(0, .ref mm), (1, .int a1)]) C hI hS (c_X4_putsNumber l hB G2833 n2834 mm ag ab ah ch asv hs aas ain ty er awy ir ali (nI (((((((((0 + ([98, 111, 97, 116, 32] : List Nat).length) + (sNum j_a1).length) + ([32, 104, 111, 109, 101] : List Nat).length) + 1) + (sNum hh).length) + 1) + 1) + (sNum mi).length) + 1)) th pl wr ato (gup (sPut (gup (gup (sPut (gup (sPut (sPut (sPut lx 0 ([98, 111, 97, 116, 32] : List Nat)) (0 + ([98, 111, 97, 116, 32] : List Nat).length) (sNum j_a1)) ((0 + ([98, 111, 97, 116, 32] : List Nat).length) + (sNum j_a1).length) ([32, 104, 111, 109, 101] : List Nat)) (((0 + ([98, 111, 97, 116, 32] : List Nat).length) + (sNum j_a1).length) + ([32, 104, 111, 109, 101] : List Nat).length) 32) ((((0 + ([98, 111, 97, 116, 32] : List Nat).length) + (sNum j_a1).length) + ([32, 104, 111, 109, 101] : List Nat).length) + 1) (sNum hh)) (((((0 + ([98, 111, 97, 116, 32] : List Nat).length) + (sNum j_a1).length) + ([32, 104, 111, 109, 101] : List Nat).length) + 1) + (sNum hh).length) 104) ((((((0 + ([98, 111, 97, 116, 32] : List Nat).length) + (sNum j_a1).length) + ([32, 104, 111, 109, 101] : List Nat).length) + 1) + (sNum hh).length) + 1) 32) (((((((0 + ([98, 111, 97, 116, 32] : List Nat).length) + (sNum j_a1).length) + ([32, 104, 111, 109, 101] : List Nat).length) + 1) + (sNum hh).length) + 1) + 1) (sNum mi)) ((((((((0 + ([98, 111, 97, 116, 32] : List Nat).length) + (sNum j_a1).length) + ([32, 104, 111, 109, 101] : List Nat).length) + 1) + (sNum hh).length) + 1) + 1) + (sNum mi).length) 109) (((((((((0 + ([98, 111, 97, 116, 32] : List Nat).length) + (sNum j_a1).length) + ([32, 104, 111, 109, 101] : List Nat).length) + 1) + (sNum hh).length) + 1) + 1) + (sNum mi).length) + 1) la (f (37 + j_a1)) c2838 c2839 (by omega) (by omega) rfl (by simp only [List.length_cons, List.length_nil] at *; omega) ela (by omega)) c2838 rfl rfl q2929 q2931 qs73 q94 q2932 (⟨by decide, by decide, by decide⟩ : gArg _ 1) rfl ⟨by decide, by decide⟩ (by omega) hl rfl (Nat.le_of_ble_eq_true rfl) dX4_describe_149 (fun v2840 G2841 n2842 H locs hp2843 hI hS => ?_) gKx.no
          obtain ⟨rfl, hn2844, hF2845, c2846, c2847⟩ := hp2843
          refine W.widen (k := 0) (n := 200 * (0)) (by omega) (by omega) ?_
          have c1_ := hF2845.at c1_ (by omega) (fun h => h.elim (g_on c1_ c2838) (g_na c1_ c2839 (Or.inl (by decide))))
          have c2644 := hF2845.at c2644 (by omega) (fun h => h.elim (g_nc c2644 c2838 (by decide)) (g_no c2644 c2839))
          have c2645 := hF2845.at c2645 (by omega) (fun h => h.elim (g_on c2645 c2838) (g_na c2645 c2839 (Or.inl (by decide))))
          have c2767 := hF2845.at c2767 (by omega) (fun h => h.elim (g_nc c2767 c2838 (by decide)) (g_no c2767 c2839))
          have c2768 := hF2845.at c2768 (by omega) (fun h => h.elim (g_on c2768 c2838) (g_na c2768 c2839 (Or.inl (by decide))))
          have hF := hF.trans hF2845 (by omega) (fun q hq => (fun h => h.elim (fun h => h ▸ (Or.inl rfl)) (fun h => h ▸ (Or.inr (rfl)))))
          refine lv_aload_n hx hb dX4_describe_152 rfl (lv_at hl 0 rfl) ?_
          refine lv_bipush (v := 108) hx hb dX4_describe_153 (by decide) ?_
          refine g_V (As := [.int 108]) (rest := []) (lv := [(0, .ref mm), (1, .int a1)]) C hI hS (c_X4_puts l hB G2841 n2842 mm ag ab ah ch asv hs aas ain ty er awy ir ali (nI ((((((((((0 + ([98, 111, 97, 116, 32] : List Nat).length) + (sNum j_a1).length) + ([32, 104, 111, 109, 101] : List Nat).length) + 1) + (sNum hh).length) + 1) + 1) + (sNum mi).length) + 1) + (sNum la).length)) th pl wr ato (sPut (gup (sPut (gup (gup (sPut (gup (sPut (sPut (sPut lx 0 ([98, 111, 97, 116, 32] : List Nat)) (0 + ([98, 111, 97, 116, 32] : List Nat).length) (sNum j_a1)) ((0 + ([98, 111, 97, 116, 32] : List Nat).length) + (sNum j_a1).length) ([32, 104, 111, 109, 101] : List Nat)) (((0 + ([98, 111, 97, 116, 32] : List Nat).length) + (sNum j_a1).length) + ([32, 104, 111, 109, 101] : List Nat).length) 32) ((((0 + ([98, 111, 97, 116, 32] : List Nat).length) + (sNum j_a1).length) + ([32, 104, 111, 109, 101] : List Nat).length) + 1) (sNum hh)) (((((0 + ([98, 111, 97, 116, 32] : List Nat).length) + (sNum j_a1).length) + ([32, 104, 111, 109, 101] : List Nat).length) + 1) + (sNum hh).length) 104) ((((((0 + ([98, 111, 97, 116, 32] : List Nat).length) + (sNum j_a1).length) + ([32, 104, 111, 109, 101] : List Nat).length) + 1) + (sNum hh).length) + 1) 32) (((((((0 + ([98, 111, 97, 116, 32] : List Nat).length) + (sNum j_a1).length) + ([32, 104, 111, 109, 101] : List Nat).length) + 1) + (sNum hh).length) + 1) + 1) (sNum mi)) ((((((((0 + ([98, 111, 97, 116, 32] : List Nat).length) + (sNum j_a1).length) + ([32, 104, 111, 109, 101] : List Nat).length) + 1) + (sNum hh).length) + 1) + 1) + (sNum mi).length) 109) (((((((((0 + ([98, 111, 97, 116, 32] : List Nat).length) + (sNum j_a1).length) + ([32, 104, 111, 109, 101] : List Nat).length) + 1) + (sNum hh).length) + 1) + 1) + (sNum mi).length) + 1) (sNum la)) ((((((((((0 + ([98, 111, 97, 116, 32] : List Nat).length) + (sNum j_a1).length) + ([32, 104, 111, 109, 101] : List Nat).length) + 1) + (sNum hh).length) + 1) + 1) + (sNum mi).length) + 1) + (sNum la).length) 108 108 c2846 c2847 (by omega) (by omega) rfl (by simp only [List.length_cons, List.length_nil] at *; omega) nl108 (by omega)) c2846 rfl rfl q2925 q2927 qs72 q94 q2928 (⟨by decide, by decide, by decide⟩ : gArg _ 1) rfl ⟨by decide, by decide⟩ (by omega) hl rfl (Nat.le_of_ble_eq_true rfl) dX4_describe_155 (fun v2848 G2849 n2850 H locs hp2851 hI hS => ?_) gKx.no
          obtain ⟨rfl, hn2852, hF2853, c2854, c2855⟩ := hp2851
          refine W.widen (k := 0) (n := 200 * (0)) (by omega) (by omega) ?_
          have c1_ := hF2853.at c1_ (by omega) (fun h => h.elim (g_on c1_ c2846) (g_na c1_ c2847 (Or.inl (by decide))))
          have c2644 := hF2853.at c2644 (by omega) (fun h => h.elim (g_nc c2644 c2846 (by decide)) (g_no c2644 c2847))
          have c2645 := hF2853.at c2645 (by omega) (fun h => h.elim (g_on c2645 c2846) (g_na c2645 c2847 (Or.inl (by decide))))
          have c2767 := hF2853.at c2767 (by omega) (fun h => h.elim (g_nc c2767 c2846 (by decide)) (g_no c2767 c2847))
          have c2768 := hF2853.at c2768 (by omega) (fun h => h.elim (g_on c2768 c2846) (g_na c2768 c2847 (Or.inl (by decide))))
          have hF := hF.trans hF2853 (by omega) (fun q hq => (fun h => h.elim (fun h => h ▸ (Or.inl rfl)) (fun h => h ▸ (Or.inr (rfl)))))
          refine lv_aload_n hx hb dX4_describe_158 rfl (lv_at hl 0 rfl) ?_
          refine lv_aload_n hx hb dX4_describe_159 rfl (lv_at hl 0 rfl) ?_
          refine g_get C hI c2854 kc23 13 rfl q2580 (fun _ h9 => h9) dX4_describe_160 ?_
          refine g_V (As := [.int (nI (((((((((((0 + ([98, 111, 97, 116, 32] : List Nat).length) + (sNum j_a1).length) + ([32, 104, 111, 109, 101] : List Nat).length) + 1) + (sNum hh).length) + 1) + 1) + (sNum mi).length) + 1) + (sNum la).length) + 1))]) (rest := []) (lv := [(0, .ref mm), (1, .int a1)]) C hI hS (c_X4_done l hB G2849 n2850 mm ag ab ah ch asv hs aas ain ty er awy ir ali (nI (((((((((((0 + ([98, 111, 97, 116, 32] : List Nat).length) + (sNum j_a1).length) + ([32, 104, 111, 109, 101] : List Nat).length) + 1) + (sNum hh).length) + 1) + 1) + (sNum mi).length) + 1) + (sNum la).length) + 1)) th pl wr ato (nI (((((((((((0 + ([98, 111, 97, 116, 32] : List Nat).length) + (sNum j_a1).length) + ([32, 104, 111, 109, 101] : List Nat).length) + 1) + (sNum hh).length) + 1) + 1) + (sNum mi).length) + 1) + (sNum la).length) + 1)) c2854 (by omega)) c2854 rfl rfl q2644 q2646 qs35 q94 q2647 (⟨by decide, by decide, by decide⟩ : gArg _ 1) rfl ⟨by decide, by decide⟩ (by omega) hl rfl (Nat.le_of_ble_eq_true rfl) dX4_describe_163 (fun v2856 G2857 n2858 H locs hp2859 hI hS => ?_) gKx.no
          obtain ⟨rfl, hn2860, hF2861, c2862⟩ := hp2859
          refine W.widen (k := 0) (n := 200 * (0)) (by omega) (by omega) ?_
          have c1_ := hF2861.at c1_ (by omega) (g_on c1_ c2854)
          have c2644 := hF2861.at c2644 (by omega) (g_nc c2644 c2854 (by decide))
          have c2645 := hF2861.at c2645 (by omega) (g_on c2645 c2854)
          have c2767 := hF2861.at c2767 (by omega) (g_nc c2767 c2854 (by decide))
          have c2768 := hF2861.at c2768 (by omega) (g_on c2768 c2854)
          have c2855 := hF2861.at c2855 (by omega) (g_on c2855 c2854)
          have hF := hF.trans hF2861 (by omega) (fun q hq => (fun h => h ▸ (Or.inl rfl)))
          exact g_iret C hI hS (by omega) ⟨0, ir, nI (((((((((((0 + ([98, 111, 97, 116, 32] : List Nat).length) + (sNum j_a1).length) + ([32, 104, 111, 109, 101] : List Nat).length) + 1) + (sNum hh).length) + 1) + 1) + (sNum mi).length) + 1) + (sNum la).length) + 1), gup (sPut (gup (sPut (gup (gup (sPut (gup (sPut (sPut (sPut lx 0 ([98, 111, 97, 116, 32] : List Nat)) (0 + ([98, 111, 97, 116, 32] : List Nat).length) (sNum j_a1)) ((0 + ([98, 111, 97, 116, 32] : List Nat).length) + (sNum j_a1).length) ([32, 104, 111, 109, 101] : List Nat)) (((0 + ([98, 111, 97, 116, 32] : List Nat).length) + (sNum j_a1).length) + ([32, 104, 111, 109, 101] : List Nat).length) 32) ((((0 + ([98, 111, 97, 116, 32] : List Nat).length) + (sNum j_a1).length) + ([32, 104, 111, 109, 101] : List Nat).length) + 1) (sNum hh)) (((((0 + ([98, 111, 97, 116, 32] : List Nat).length) + (sNum j_a1).length) + ([32, 104, 111, 109, 101] : List Nat).length) + 1) + (sNum hh).length) 104) ((((((0 + ([98, 111, 97, 116, 32] : List Nat).length) + (sNum j_a1).length) + ([32, 104, 111, 109, 101] : List Nat).length) + 1) + (sNum hh).length) + 1) 32) (((((((0 + ([98, 111, 97, 116, 32] : List Nat).length) + (sNum j_a1).length) + ([32, 104, 111, 109, 101] : List Nat).length) + 1) + (sNum hh).length) + 1) + 1) (sNum mi)) ((((((((0 + ([98, 111, 97, 116, 32] : List Nat).length) + (sNum j_a1).length) + ([32, 104, 111, 109, 101] : List Nat).length) + 1) + (sNum hh).length) + 1) + 1) + (sNum mi).length) 109) (((((((((0 + ([98, 111, 97, 116, 32] : List Nat).length) + (sNum j_a1).length) + ([32, 104, 111, 109, 101] : List Nat).length) + 1) + (sNum hh).length) + 1) + 1) + (sNum mi).length) + 1) (sNum la)) ((((((((((0 + ([98, 111, 97, 116, 32] : List Nat).length) + (sNum j_a1).length) + ([32, 104, 111, 109, 101] : List Nat).length) + 1) + (sNum hh).length) + 1) + 1) + (sNum mi).length) + 1) + (sNum la).length) 108, nI (((((((((((0 + ([98, 111, 97, 116, 32] : List Nat).length) + (sNum j_a1).length) + ([32, 104, 111, 109, 101] : List Nat).length) + 1) + (sNum hh).length) + 1) + 1) + (sNum mi).length) + 1) + (sNum la).length) + 1), rfl, (by omega), hF, c2862, c2855, (by simp [mDe, sDesc, sWhere, sHold, sPut_app, sPut, Nat.add_assoc, c_2641, tj_a1, thh, tmi, tla, eq_true c_2662, eq_true c_2777, c_2808] <;> (congr 1; omega))⟩ dX4_describe_166
      · exact absurd c_2662 c_2777
  · skip
    refine lv_aload_n hx hb dX4_describe_8 rfl (lv_at hl 0 rfl) ?_
    refine lv_iconst (v := 1) hx hb dX4_describe_9 (by decide) ?_
    refine g_V (As := [.int 1]) (rest := []) (lv := [(0, .ref mm), (1, .int a1)]) C hI hS (c_X4_fails l hB G n mm ag ab ah ch asv hs aas ain ty er awy ir ali ln th pl wr ato 1 c0_ (by omega)) c0_ rfl rfl q2637 q2639 qs34 q94 q2640 (⟨by decide, by decide, by decide⟩ : gArg _ 1) rfl ⟨by decide, by decide⟩ (by omega) hl rfl (Nat.le_of_ble_eq_true rfl) dX4_describe_10 (fun v2863 G2864 n2865 H locs hp2866 hI hS => ?_) gKx.no
    obtain ⟨rfl, hn2867, hF2868, c2869⟩ := hp2866
    refine W.widen (k := 0) (n := 200 * (0)) (by omega) (by omega) ?_
    have c1_ := hF2868.at c1_ (by omega) (g_on c1_ c0_)
    have c2_ := hF2868.at c2_ (by omega) (g_on c2_ c0_)
    have hF := hF.trans hF2868 (by omega) (fun q hq => (fun h => h ▸ (Or.inl rfl)))
    exact g_iret C hI hS (by omega) ⟨1, 0, ln, lx, 0, rfl, (by omega), hF, c2869, c2_, (by simp [mDe, sDesc, sWhere, sHold, sPut_app, sPut, Nat.add_assoc, eq_true c_2641] <;> (congr 1; omega))⟩ dX4_describe_13
set_option maxHeartbeats 4000000 in
set_option maxRecDepth 100000 in
theorem c_X4_init (l : Launch) {D : gD} (hB : gBs D) (G : gH) (n : Nat) (mm : Nat) (c0_ : G mm = some (.inl (23, [.null, .null, .null, .int 0, .null, .int 0, .null, .null, .int 0, .int 0, .null, .int 0, .null, .int 0, .int 0, .int 0, .int 0, .null]))) (hz : gz D ≤ mm) : gMet l D yX4_init (ws_ yX4_init cX4_init 2 none) 2 14 G n [.ref mm] (fun (v : Option Value) (G1 : gH) (n1 : Nat) => v = none ∧ n ≤ n1 ∧ gF G G1 n (fun q : Nat => q = mm) ∧ G1 mm = some (.inl (23, [.ref n, .ref (n + 1), .ref (n + 2), .int 0, .ref (n + 3), .int 0, .ref (n + 4), .ref (n + 5), .int 0, .int (-1), .ref (n + 6), .int 0, .ref (n + 7), .int 0, .int 0, .int 0, .int 0, .ref (n + 8)])) ∧ G1 n = some (aI 112 sInit) ∧ G1 (n + 1) = some (aI 112 (fun _ => 0)) ∧ G1 (n + 2) = some (aI 896 (fun _ => 0)) ∧ G1 (n + 3) = some (aI 112 (fun _ => 0)) ∧ G1 (n + 4) = some (aI 112 (fun _ => 0)) ∧ G1 (n + 5) = some (aC 60 (fun _ => 0)) ∧ G1 (n + 6) = some (aI 6 (fun _ => 0)) ∧ G1 (n + 7) = some (aC 60 (fun _ => 0)) ∧ G1 (n + 8) = some (aI 240 (fun _ => 0))) gNox := by
  refine g_start (by decide) (Nat.le_of_ble_eq_true rfl) ?_
  intro p e s m below meth c ls C hnm hxt hI hl
  have hx := C.x
  have hb := C.b
  have hS : va_S (gA D) s.heap s.heap [] := va_S.rf
  have hz0 := hI.z
  have lc0_ := hI.lt c0_
  have hF : gF G G n (fun q : Nat => q = mm) := gF.rf _ _ _
  have hl : lv_has ls 2 [(0, .ref mm)] := hl
  refine lv_aload_n hx hb dX4_init_0 rfl (lv_at hl 0 rfl) ?_
  refine W.objInit hx hb C.ow (C.ts _ q2566) (C.ts _ q135) (C.ts _ q136) rfl (by rw [C.ml]; exact hl.1) rfl dX4_init_1 (show 1 ≤ 2 by decide) (show _ ≤ 60 * 2 by simp [Value.category]) ?_
  refine W.eq (g2 := F0 m 4 ls []) rfl ?_
  refine lv_aload_n hx hb dX4_init_4 rfl (lv_at hl 0 rfl) ?_
  refine lv_bipush (v := 112) hx hb dX4_init_5 (by decide) ?_
  refine g_newa (atype := .int) (t := 0) (N := 112) (u := 1) (dv := .int 0) C hI hS (by decide) rfl q213 (by rw [show (112 : Int32) = nI 112 from nl112]; exact nI_pos (by omega)) (by rw [show (112 : Int32) = nI 112 from nl112]; exact nI_clamp (by omega)) (by omega) (by decide) (by omega) (by omega) rfl dX4_init_7 (fun G2870 H e2871 hI hS => ?_)
  have c0_ := gE_k e2871 c0_ (by omega)
  have c2872 : G2870 n = some (aI 112 (fun _ => 0)) := gE_s e2871
  have hF := gE_F e2871 hF (Or.inl (by omega))
  refine g_putF (fs2 := [.ref n, .null, .null, .int 0, .null, .int 0, .null, .null, .int 0, .int 0, .null, .int 0, .null, .int 0, .int 0, .int 0, .int 0, .null]) C hnm hI hS c0_ (by omega) kc23 0 (Nat.le_of_ble_eq_true rfl) q2567 (fun _ h9 => h9) rfl rfl rfl rfl rfl dX4_init_9 (fun G2873 H locs e2874 hI hS => ?_)
  have c2872 := gE_k e2874 c2872 (g_on c2872 c0_)
  have c0_ : G2873 mm = some (.inl (23, [.ref n, .null, .null, .int 0, .null, .int 0, .null, .null, .int 0, .int 0, .null, .int 0, .null, .int 0, .int 0, .int 0, .int 0, .null])) := gE_s e2874
  have hF := gE_F e2874 hF (Or.inr rfl)
  refine lv_aload_n hx hb dX4_init_12 rfl (lv_at hl 0 rfl) ?_
  refine lv_bipush (v := 112) hx hb dX4_init_13 (by decide) ?_
  refine g_newa (atype := .int) (t := 0) (N := 112) (u := 1) (dv := .int 0) C hI hS (by decide) rfl q213 (by rw [show (112 : Int32) = nI 112 from nl112]; exact nI_pos (by omega)) (by rw [show (112 : Int32) = nI 112 from nl112]; exact nI_clamp (by omega)) (by omega) (by decide) (by omega) (by omega) rfl dX4_init_15 (fun G2875 H e2876 hI hS => ?_)
  have c0_ := gE_k e2876 c0_ (by omega)
  have c2872 := gE_k e2876 c2872 (by omega)
  have c2877 : G2875 (n + 1) = some (aI 112 (fun _ => 0)) := gE_s e2876
  have hF := gE_F e2876 hF (Or.inl (by omega))
  refine g_putF (fs2 := [.ref n, .ref (n + 1), .null, .int 0, .null, .int 0, .null, .null, .int 0, .int 0, .null, .int 0, .null, .int 0, .int 0, .int 0, .int 0, .null]) C hnm hI hS c0_ (by omega) kc23 1 (Nat.le_of_ble_eq_true rfl) q2568 (fun _ h9 => h9) rfl rfl rfl rfl rfl dX4_init_17 (fun G2878 H locs e2879 hI hS => ?_)
  have c2872 := gE_k e2879 c2872 (g_on c2872 c0_)
  have c2877 := gE_k e2879 c2877 (g_on c2877 c0_)
  have c0_ : G2878 mm = some (.inl (23, [.ref n, .ref (n + 1), .null, .int 0, .null, .int 0, .null, .null, .int 0, .int 0, .null, .int 0, .null, .int 0, .int 0, .int 0, .int 0, .null])) := gE_s e2879
  have hF := gE_F e2879 hF (Or.inr rfl)
  refine lv_aload_n hx hb dX4_init_20 rfl (lv_at hl 0 rfl) ?_
  refine lv_sipush (v := 896) hx hb dX4_init_21 (by decide) ?_
  refine g_newa (atype := .int) (t := 0) (N := 896) (u := 5) (dv := .int 0) C hI hS (by decide) rfl q213 (by rw [show (896 : Int32) = nI 896 from nl896]; exact nI_pos (by omega)) (by rw [show (896 : Int32) = nI 896 from nl896]; exact nI_clamp (by omega)) (by omega) (by decide) (by omega) (by omega) rfl dX4_init_24 (fun G2880 H e2881 hI hS => ?_)
  have c0_ := gE_k e2881 c0_ (by omega)
  have c2872 := gE_k e2881 c2872 (by omega)
  have c2877 := gE_k e2881 c2877 (by omega)
  have c2882 : G2880 (n + 2) = some (aI 896 (fun _ => 0)) := gE_s e2881
  have hF := gE_F e2881 hF (Or.inl (by omega))
  refine g_putF (fs2 := [.ref n, .ref (n + 1), .ref (n + 2), .int 0, .null, .int 0, .null, .null, .int 0, .int 0, .null, .int 0, .null, .int 0, .int 0, .int 0, .int 0, .null]) C hnm hI hS c0_ (by omega) kc23 2 (Nat.le_of_ble_eq_true rfl) q2569 (fun _ h9 => h9) rfl rfl rfl rfl rfl dX4_init_26 (fun G2883 H locs e2884 hI hS => ?_)
  have c2872 := gE_k e2884 c2872 (g_on c2872 c0_)
  have c2877 := gE_k e2884 c2877 (g_on c2877 c0_)
  have c2882 := gE_k e2884 c2882 (g_on c2882 c0_)
  have c0_ : G2883 mm = some (.inl (23, [.ref n, .ref (n + 1), .ref (n + 2), .int 0, .null, .int 0, .null, .null, .int 0, .int 0, .null, .int 0, .null, .int 0, .int 0, .int 0, .int 0, .null])) := gE_s e2884
  have hF := gE_F e2884 hF (Or.inr rfl)
  refine lv_aload_n hx hb dX4_init_29 rfl (lv_at hl 0 rfl) ?_
  refine lv_bipush (v := 112) hx hb dX4_init_30 (by decide) ?_
  refine g_newa (atype := .int) (t := 0) (N := 112) (u := 1) (dv := .int 0) C hI hS (by decide) rfl q213 (by rw [show (112 : Int32) = nI 112 from nl112]; exact nI_pos (by omega)) (by rw [show (112 : Int32) = nI 112 from nl112]; exact nI_clamp (by omega)) (by omega) (by decide) (by omega) (by omega) rfl dX4_init_32 (fun G2885 H e2886 hI hS => ?_)
  have c0_ := gE_k e2886 c0_ (by omega)
  have c2872 := gE_k e2886 c2872 (by omega)
  have c2877 := gE_k e2886 c2877 (by omega)
  have c2882 := gE_k e2886 c2882 (by omega)
  have c2887 : G2885 (n + 3) = some (aI 112 (fun _ => 0)) := gE_s e2886
  have hF := gE_F e2886 hF (Or.inl (by omega))
  refine g_putF (fs2 := [.ref n, .ref (n + 1), .ref (n + 2), .int 0, .ref (n + 3), .int 0, .null, .null, .int 0, .int 0, .null, .int 0, .null, .int 0, .int 0, .int 0, .int 0, .null]) C hnm hI hS c0_ (by omega) kc23 4 (Nat.le_of_ble_eq_true rfl) q2571 (fun _ h9 => h9) rfl rfl rfl rfl rfl dX4_init_34 (fun G2888 H locs e2889 hI hS => ?_)
  have c2872 := gE_k e2889 c2872 (g_on c2872 c0_)
  have c2877 := gE_k e2889 c2877 (g_on c2877 c0_)
  have c2882 := gE_k e2889 c2882 (g_on c2882 c0_)
  have c2887 := gE_k e2889 c2887 (g_on c2887 c0_)
  have c0_ : G2888 mm = some (.inl (23, [.ref n, .ref (n + 1), .ref (n + 2), .int 0, .ref (n + 3), .int 0, .null, .null, .int 0, .int 0, .null, .int 0, .null, .int 0, .int 0, .int 0, .int 0, .null])) := gE_s e2889
  have hF := gE_F e2889 hF (Or.inr rfl)
  refine lv_aload_n hx hb dX4_init_37 rfl (lv_at hl 0 rfl) ?_
  refine lv_bipush (v := 112) hx hb dX4_init_38 (by decide) ?_
  refine g_newa (atype := .int) (t := 0) (N := 112) (u := 1) (dv := .int 0) C hI hS (by decide) rfl q213 (by rw [show (112 : Int32) = nI 112 from nl112]; exact nI_pos (by omega)) (by rw [show (112 : Int32) = nI 112 from nl112]; exact nI_clamp (by omega)) (by omega) (by decide) (by omega) (by omega) rfl dX4_init_40 (fun G2890 H e2891 hI hS => ?_)
  have c0_ := gE_k e2891 c0_ (by omega)
  have c2872 := gE_k e2891 c2872 (by omega)
  have c2877 := gE_k e2891 c2877 (by omega)
  have c2882 := gE_k e2891 c2882 (by omega)
  have c2887 := gE_k e2891 c2887 (by omega)
  have c2892 : G2890 (n + 4) = some (aI 112 (fun _ => 0)) := gE_s e2891
  have hF := gE_F e2891 hF (Or.inl (by omega))
  refine g_putF (fs2 := [.ref n, .ref (n + 1), .ref (n + 2), .int 0, .ref (n + 3), .int 0, .ref (n + 4), .null, .int 0, .int 0, .null, .int 0, .null, .int 0, .int 0, .int 0, .int 0, .null]) C hnm hI hS c0_ (by omega) kc23 6 (Nat.le_of_ble_eq_true rfl) q2573 (fun _ h9 => h9) rfl rfl rfl rfl rfl dX4_init_42 (fun G2893 H locs e2894 hI hS => ?_)
  have c2872 := gE_k e2894 c2872 (g_on c2872 c0_)
  have c2877 := gE_k e2894 c2877 (g_on c2877 c0_)
  have c2882 := gE_k e2894 c2882 (g_on c2882 c0_)
  have c2887 := gE_k e2894 c2887 (g_on c2887 c0_)
  have c2892 := gE_k e2894 c2892 (g_on c2892 c0_)
  have c0_ : G2893 mm = some (.inl (23, [.ref n, .ref (n + 1), .ref (n + 2), .int 0, .ref (n + 3), .int 0, .ref (n + 4), .null, .int 0, .int 0, .null, .int 0, .null, .int 0, .int 0, .int 0, .int 0, .null])) := gE_s e2894
  have hF := gE_F e2894 hF (Or.inr rfl)
  refine lv_aload_n hx hb dX4_init_45 rfl (lv_at hl 0 rfl) ?_
  refine lv_bipush (v := 60) hx hb dX4_init_46 (by decide) ?_
  refine g_newa (atype := .char) (t := 2) (N := 60) (u := 1) (dv := .int 0) C hI hS (by decide) rfl q2622 (by rw [show (60 : Int32) = nI 60 from nl60]; exact nI_pos (by omega)) (by rw [show (60 : Int32) = nI 60 from nl60]; exact nI_clamp (by omega)) (by omega) (by decide) (by omega) (by omega) rfl dX4_init_48 (fun G2895 H e2896 hI hS => ?_)
  have c0_ := gE_k e2896 c0_ (by omega)
  have c2872 := gE_k e2896 c2872 (by omega)
  have c2877 := gE_k e2896 c2877 (by omega)
  have c2882 := gE_k e2896 c2882 (by omega)
  have c2887 := gE_k e2896 c2887 (by omega)
  have c2892 := gE_k e2896 c2892 (by omega)
  have c2897 : G2895 (n + 5) = some (aC 60 (fun _ => 0)) := gE_s e2896
  have hF := gE_F e2896 hF (Or.inl (by omega))
  refine g_putF (fs2 := [.ref n, .ref (n + 1), .ref (n + 2), .int 0, .ref (n + 3), .int 0, .ref (n + 4), .ref (n + 5), .int 0, .int 0, .null, .int 0, .null, .int 0, .int 0, .int 0, .int 0, .null]) C hnm hI hS c0_ (by omega) kc23 7 (Nat.le_of_ble_eq_true rfl) q2574 (fun _ h9 => h9) rfl rfl rfl rfl rfl dX4_init_50 (fun G2898 H locs e2899 hI hS => ?_)
  have c2872 := gE_k e2899 c2872 (g_on c2872 c0_)
  have c2877 := gE_k e2899 c2877 (g_on c2877 c0_)
  have c2882 := gE_k e2899 c2882 (g_on c2882 c0_)
  have c2887 := gE_k e2899 c2887 (g_on c2887 c0_)
  have c2892 := gE_k e2899 c2892 (g_on c2892 c0_)
  have c2897 := gE_k e2899 c2897 (g_on c2897 c0_)
  have c0_ : G2898 mm = some (.inl (23, [.ref n, .ref (n + 1), .ref (n + 2), .int 0, .ref (n + 3), .int 0, .ref (n + 4), .ref (n + 5), .int 0, .int 0, .null, .int 0, .null, .int 0, .int 0, .int 0, .int 0, .null])) := gE_s e2899
  have hF := gE_F e2899 hF (Or.inr rfl)
  refine lv_aload_n hx hb dX4_init_53 rfl (lv_at hl 0 rfl) ?_
  refine lv_iconst (v := (-1)) hx hb dX4_init_54 (by decide) ?_
  refine g_put (fs2 := [.ref n, .ref (n + 1), .ref (n + 2), .int 0, .ref (n + 3), .int 0, .ref (n + 4), .ref (n + 5), .int 0, .int (-1), .null, .int 0, .null, .int 0, .int 0, .int 0, .int 0, .null]) C hI hS c0_ (by omega) kc23 9 (Nat.le_of_ble_eq_true rfl) q2576 (fun _ h9 => h9) rfl rfl rfl rfl dX4_init_55 (fun G2900 H locs e2901 hI hS => ?_)
  have c2872 := gE_k e2901 c2872 (g_on c2872 c0_)
  have c2877 := gE_k e2901 c2877 (g_on c2877 c0_)
  have c2882 := gE_k e2901 c2882 (g_on c2882 c0_)
  have c2887 := gE_k e2901 c2887 (g_on c2887 c0_)
  have c2892 := gE_k e2901 c2892 (g_on c2892 c0_)
  have c2897 := gE_k e2901 c2897 (g_on c2897 c0_)
  have c0_ : G2900 mm = some (.inl (23, [.ref n, .ref (n + 1), .ref (n + 2), .int 0, .ref (n + 3), .int 0, .ref (n + 4), .ref (n + 5), .int 0, .int (-1), .null, .int 0, .null, .int 0, .int 0, .int 0, .int 0, .null])) := gE_s e2901
  have hF := gE_F e2901 hF (Or.inr rfl)
  refine lv_aload_n hx hb dX4_init_58 rfl (lv_at hl 0 rfl) ?_
  refine lv_bipush (v := 6) hx hb dX4_init_59 (by decide) ?_
  refine g_newa (atype := .int) (t := 0) (N := 6) (u := 1) (dv := .int 0) C hI hS (by decide) rfl q213 (by rw [show (6 : Int32) = nI 6 from nl6]; exact nI_pos (by omega)) (by rw [show (6 : Int32) = nI 6 from nl6]; exact nI_clamp (by omega)) (by omega) (by decide) (by omega) (by omega) rfl dX4_init_61 (fun G2902 H e2903 hI hS => ?_)
  have c0_ := gE_k e2903 c0_ (by omega)
  have c2872 := gE_k e2903 c2872 (by omega)
  have c2877 := gE_k e2903 c2877 (by omega)
  have c2882 := gE_k e2903 c2882 (by omega)
  have c2887 := gE_k e2903 c2887 (by omega)
  have c2892 := gE_k e2903 c2892 (by omega)
  have c2897 := gE_k e2903 c2897 (by omega)
  have c2904 : G2902 (n + 6) = some (aI 6 (fun _ => 0)) := gE_s e2903
  have hF := gE_F e2903 hF (Or.inl (by omega))
  refine g_putF (fs2 := [.ref n, .ref (n + 1), .ref (n + 2), .int 0, .ref (n + 3), .int 0, .ref (n + 4), .ref (n + 5), .int 0, .int (-1), .ref (n + 6), .int 0, .null, .int 0, .int 0, .int 0, .int 0, .null]) C hnm hI hS c0_ (by omega) kc23 10 (Nat.le_of_ble_eq_true rfl) q2577 (fun _ h9 => h9) rfl rfl rfl rfl rfl dX4_init_63 (fun G2905 H locs e2906 hI hS => ?_)
  have c2872 := gE_k e2906 c2872 (g_on c2872 c0_)
  have c2877 := gE_k e2906 c2877 (g_on c2877 c0_)
  have c2882 := gE_k e2906 c2882 (g_on c2882 c0_)
  have c2887 := gE_k e2906 c2887 (g_on c2887 c0_)
  have c2892 := gE_k e2906 c2892 (g_on c2892 c0_)
  have c2897 := gE_k e2906 c2897 (g_on c2897 c0_)
  have c2904 := gE_k e2906 c2904 (g_on c2904 c0_)
  have c0_ : G2905 mm = some (.inl (23, [.ref n, .ref (n + 1), .ref (n + 2), .int 0, .ref (n + 3), .int 0, .ref (n + 4), .ref (n + 5), .int 0, .int (-1), .ref (n + 6), .int 0, .null, .int 0, .int 0, .int 0, .int 0, .null])) := gE_s e2906
  have hF := gE_F e2906 hF (Or.inr rfl)
  refine lv_aload_n hx hb dX4_init_66 rfl (lv_at hl 0 rfl) ?_
  refine lv_bipush (v := 60) hx hb dX4_init_67 (by decide) ?_
  refine g_newa (atype := .char) (t := 2) (N := 60) (u := 1) (dv := .int 0) C hI hS (by decide) rfl q2622 (by rw [show (60 : Int32) = nI 60 from nl60]; exact nI_pos (by omega)) (by rw [show (60 : Int32) = nI 60 from nl60]; exact nI_clamp (by omega)) (by omega) (by decide) (by omega) (by omega) rfl dX4_init_69 (fun G2907 H e2908 hI hS => ?_)
  have c0_ := gE_k e2908 c0_ (by omega)
  have c2872 := gE_k e2908 c2872 (by omega)
  have c2877 := gE_k e2908 c2877 (by omega)
  have c2882 := gE_k e2908 c2882 (by omega)
  have c2887 := gE_k e2908 c2887 (by omega)
  have c2892 := gE_k e2908 c2892 (by omega)
  have c2897 := gE_k e2908 c2897 (by omega)
  have c2904 := gE_k e2908 c2904 (by omega)
  have c2909 : G2907 (n + 7) = some (aC 60 (fun _ => 0)) := gE_s e2908
  have hF := gE_F e2908 hF (Or.inl (by omega))
  refine g_putF (fs2 := [.ref n, .ref (n + 1), .ref (n + 2), .int 0, .ref (n + 3), .int 0, .ref (n + 4), .ref (n + 5), .int 0, .int (-1), .ref (n + 6), .int 0, .ref (n + 7), .int 0, .int 0, .int 0, .int 0, .null]) C hnm hI hS c0_ (by omega) kc23 12 (Nat.le_of_ble_eq_true rfl) q2579 (fun _ h9 => h9) rfl rfl rfl rfl rfl dX4_init_71 (fun G2910 H locs e2911 hI hS => ?_)
  have c2872 := gE_k e2911 c2872 (g_on c2872 c0_)
  have c2877 := gE_k e2911 c2877 (g_on c2877 c0_)
  have c2882 := gE_k e2911 c2882 (g_on c2882 c0_)
  have c2887 := gE_k e2911 c2887 (g_on c2887 c0_)
  have c2892 := gE_k e2911 c2892 (g_on c2892 c0_)
  have c2897 := gE_k e2911 c2897 (g_on c2897 c0_)
  have c2904 := gE_k e2911 c2904 (g_on c2904 c0_)
  have c2909 := gE_k e2911 c2909 (g_on c2909 c0_)
  have c0_ : G2910 mm = some (.inl (23, [.ref n, .ref (n + 1), .ref (n + 2), .int 0, .ref (n + 3), .int 0, .ref (n + 4), .ref (n + 5), .int 0, .int (-1), .ref (n + 6), .int 0, .ref (n + 7), .int 0, .int 0, .int 0, .int 0, .null])) := gE_s e2911
  have hF := gE_F e2911 hF (Or.inr rfl)
  refine lv_aload_n hx hb dX4_init_74 rfl (lv_at hl 0 rfl) ?_
  refine lv_sipush (v := 240) hx hb dX4_init_75 (by decide) ?_
  refine g_newa (atype := .int) (t := 0) (N := 240) (u := 2) (dv := .int 0) C hI hS (by decide) rfl q213 (by rw [show (240 : Int32) = nI 240 from nl240]; exact nI_pos (by omega)) (by rw [show (240 : Int32) = nI 240 from nl240]; exact nI_clamp (by omega)) (by omega) (by decide) (by omega) (by omega) rfl dX4_init_78 (fun G2912 H e2913 hI hS => ?_)
  have c0_ := gE_k e2913 c0_ (by omega)
  have c2872 := gE_k e2913 c2872 (by omega)
  have c2877 := gE_k e2913 c2877 (by omega)
  have c2882 := gE_k e2913 c2882 (by omega)
  have c2887 := gE_k e2913 c2887 (by omega)
  have c2892 := gE_k e2913 c2892 (by omega)
  have c2897 := gE_k e2913 c2897 (by omega)
  have c2904 := gE_k e2913 c2904 (by omega)
  have c2909 := gE_k e2913 c2909 (by omega)
  have c2914 : G2912 (n + 8) = some (aI 240 (fun _ => 0)) := gE_s e2913
  have hF := gE_F e2913 hF (Or.inl (by omega))
  refine g_putF (fs2 := [.ref n, .ref (n + 1), .ref (n + 2), .int 0, .ref (n + 3), .int 0, .ref (n + 4), .ref (n + 5), .int 0, .int (-1), .ref (n + 6), .int 0, .ref (n + 7), .int 0, .int 0, .int 0, .int 0, .ref (n + 8)]) C hnm hI hS c0_ (by omega) kc23 17 (Nat.le_of_ble_eq_true rfl) q2584 (fun _ h9 => h9) rfl rfl rfl rfl rfl dX4_init_80 (fun G2915 H locs e2916 hI hS => ?_)
  have c2872 := gE_k e2916 c2872 (g_on c2872 c0_)
  have c2877 := gE_k e2916 c2877 (g_on c2877 c0_)
  have c2882 := gE_k e2916 c2882 (g_on c2882 c0_)
  have c2887 := gE_k e2916 c2887 (g_on c2887 c0_)
  have c2892 := gE_k e2916 c2892 (g_on c2892 c0_)
  have c2897 := gE_k e2916 c2897 (g_on c2897 c0_)
  have c2904 := gE_k e2916 c2904 (g_on c2904 c0_)
  have c2909 := gE_k e2916 c2909 (g_on c2909 c0_)
  have c2914 := gE_k e2916 c2914 (g_on c2914 c0_)
  have c0_ : G2915 mm = some (.inl (23, [.ref n, .ref (n + 1), .ref (n + 2), .int 0, .ref (n + 3), .int 0, .ref (n + 4), .ref (n + 5), .int 0, .int (-1), .ref (n + 6), .int 0, .ref (n + 7), .int 0, .int 0, .int 0, .int 0, .ref (n + 8)])) := gE_s e2916
  have hF := gE_F e2916 hF (Or.inr rfl)
  refine lv_aload_n hx hb dX4_init_83 rfl (lv_at hl 0 rfl) ?_
  refine g_get C hI c0_ kc23 0 rfl q2567 (fun _ h9 => h9) dX4_init_84 ?_
  refine lv_iconst (v := 1) hx hb dX4_init_87 (by decide) ?_
  refine lv_iconst (v := 2) hx hb dX4_init_88 (by decide) ?_
  refine g_iast C hI hS c2872 (by omega) (gix nl1 (by omega) (by omega)) dX4_init_89 (fun G2917 H locs e2918 hI hS => ?_)
  rw [gup_e nl1 (by omega)] at e2918
  have c0_ := gE_k e2918 c0_ (g_no c0_ c2872)
  have c2877 := gE_k e2918 c2877 (by omega)
  have c2882 := gE_k e2918 c2882 (g_na c2882 c2872 (Or.inr (by decide)))
  have c2887 := gE_k e2918 c2887 (by omega)
  have c2892 := gE_k e2918 c2892 (by omega)
  have c2897 := gE_k e2918 c2897 (g_na c2897 c2872 (Or.inl (by decide)))
  have c2904 := gE_k e2918 c2904 (g_na c2904 c2872 (Or.inr (by decide)))
  have c2909 := gE_k e2918 c2909 (g_na c2909 c2872 (Or.inl (by decide)))
  have c2914 := gE_k e2918 c2914 (g_na c2914 c2872 (Or.inr (by decide)))
  have c2872 : G2917 n = some (aI 112 (gup (fun _ => 0) 1 2)) := gE_s e2918
  have hF := gE_F e2918 hF (Or.inl (by omega))
  refine lv_aload_n hx hb dX4_init_90 rfl (lv_at hl 0 rfl) ?_
  refine g_get C hI c0_ kc23 0 rfl q2567 (fun _ h9 => h9) dX4_init_91 ?_
  refine lv_iconst (v := 2) hx hb dX4_init_94 (by decide) ?_
  refine lv_iconst (v := 1) hx hb dX4_init_95 (by decide) ?_
  refine g_iast C hI hS c2872 (by omega) (gix nl2 (by omega) (by omega)) dX4_init_96 (fun G2920 H locs e2921 hI hS => ?_)
  rw [gup_e nl2 (by omega)] at e2921
  have c0_ := gE_k e2921 c0_ (g_no c0_ c2872)
  have c2877 := gE_k e2921 c2877 (by omega)
  have c2882 := gE_k e2921 c2882 (g_na c2882 c2872 (Or.inr (by decide)))
  have c2887 := gE_k e2921 c2887 (by omega)
  have c2892 := gE_k e2921 c2892 (by omega)
  have c2897 := gE_k e2921 c2897 (g_na c2897 c2872 (Or.inl (by decide)))
  have c2904 := gE_k e2921 c2904 (g_na c2904 c2872 (Or.inr (by decide)))
  have c2909 := gE_k e2921 c2909 (g_na c2909 c2872 (Or.inl (by decide)))
  have c2914 := gE_k e2921 c2914 (g_na c2914 c2872 (Or.inr (by decide)))
  have c2872 : G2920 n = some (aI 112 (gup (gup (fun _ => 0) 1 2) 2 1)) := gE_s e2921
  have hF := gE_F e2921 hF (Or.inl (by omega))
  refine lv_iconst (v := 0) hx hb dX4_init_97 (by decide) ?_
  refine lv_istore_n (lv' := [(1, .int 0), (0, .ref mm)]) hx hb dX4_init_98 rfl hl (by decide) rfl (fun ls hl => ?_)
  refine lv_iload_n hx hb dX4_init_99 rfl (lv_at hl 0 rfl) ?_
  refine lv_bipush (v := 6) hx hb dX4_init_100 (by decide) ?_
  refine lv_icmp_ge (tgt := 153) hx hb dX4_init_102 (by decide) (fun c_2923 => ?_) (fun c_2923 => ?_)
  · exact absurd c_2923 (by decide)
  · skip
    refine lv_aload_n hx hb dX4_init_105 rfl (lv_at hl 1 rfl) ?_
    refine g_get C hI c0_ kc23 0 rfl q2567 (fun _ h9 => h9) dX4_init_106 ?_
    refine lv_iconst (v := 3) hx hb dX4_init_109 (by decide) ?_
    refine lv_iconst (v := 3) hx hb dX4_init_110 (by decide) ?_
    refine lv_iload_n hx hb dX4_init_111 rfl (lv_at hl 0 rfl) ?_
    refine lv_imul hx hb dX4_init_112 ?_
    rw [show ((3 : Int32) * 0 : Int32) = 0 from by decide]
    refine lv_iadd hx hb dX4_init_113 ?_
    rw [show ((3 : Int32) + 0 : Int32) = 3 from by decide]
    refine lv_sipush (v := 200) hx hb dX4_init_114 (by decide) ?_
    refine g_iast C hI hS c2872 (by omega) (gix nl3 (by omega) (by omega)) dX4_init_117 (fun G2924 H locs e2925 hI hS => ?_)
    rw [gup_e nl3 (by omega)] at e2925
    have c0_ := gE_k e2925 c0_ (g_no c0_ c2872)
    have c2877 := gE_k e2925 c2877 (by omega)
    have c2882 := gE_k e2925 c2882 (g_na c2882 c2872 (Or.inr (by decide)))
    have c2887 := gE_k e2925 c2887 (by omega)
    have c2892 := gE_k e2925 c2892 (by omega)
    have c2897 := gE_k e2925 c2897 (g_na c2897 c2872 (Or.inl (by decide)))
    have c2904 := gE_k e2925 c2904 (g_na c2904 c2872 (Or.inr (by decide)))
    have c2909 := gE_k e2925 c2909 (g_na c2909 c2872 (Or.inl (by decide)))
    have c2914 := gE_k e2925 c2914 (g_na c2914 c2872 (Or.inr (by decide)))
    have c2872 : G2924 n = some (aI 112 (gup (gup (gup (fun _ => 0) 1 2) 2 1) 3 200)) := gE_s e2925
    have hF := gE_F e2925 hF (Or.inl (by omega))
    refine lv_aload_n hx hb dX4_init_118 rfl (lv_at hl 1 rfl) ?_
    refine g_get C hI c0_ kc23 0 rfl q2567 (fun _ h9 => h9) dX4_init_119 ?_
    refine lv_iconst (v := 3) hx hb dX4_init_122 (by decide) ?_
    refine lv_iconst (v := 3) hx hb dX4_init_123 (by decide) ?_
    refine lv_iload_n hx hb dX4_init_124 rfl (lv_at hl 0 rfl) ?_
    refine lv_imul hx hb dX4_init_125 ?_
    rw [show ((3 : Int32) * 0 : Int32) = 0 from by decide]
    refine lv_iadd hx hb dX4_init_126 ?_
    rw [show ((3 : Int32) + 0 : Int32) = 3 from by decide]
    refine lv_iconst (v := 1) hx hb dX4_init_127 (by decide) ?_
    refine lv_iadd hx hb dX4_init_128 ?_
    rw [show ((3 : Int32) + 1 : Int32) = 4 from by decide]
    refine lv_sipush (v := 150) hx hb dX4_init_129 (by decide) ?_
    refine g_iast C hI hS c2872 (by omega) (gix nl4 (by omega) (by omega)) dX4_init_132 (fun G2927 H locs e2928 hI hS => ?_)
    rw [gup_e nl4 (by omega)] at e2928
    have c0_ := gE_k e2928 c0_ (g_no c0_ c2872)
    have c2877 := gE_k e2928 c2877 (by omega)
    have c2882 := gE_k e2928 c2882 (g_na c2882 c2872 (Or.inr (by decide)))
    have c2887 := gE_k e2928 c2887 (by omega)
    have c2892 := gE_k e2928 c2892 (by omega)
    have c2897 := gE_k e2928 c2897 (g_na c2897 c2872 (Or.inl (by decide)))
    have c2904 := gE_k e2928 c2904 (g_na c2904 c2872 (Or.inr (by decide)))
    have c2909 := gE_k e2928 c2909 (g_na c2909 c2872 (Or.inl (by decide)))
    have c2914 := gE_k e2928 c2914 (g_na c2914 c2872 (Or.inr (by decide)))
    have c2872 : G2927 n = some (aI 112 (gup (gup (gup (gup (fun _ => 0) 1 2) 2 1) 3 200) 4 150)) := gE_s e2928
    have hF := gE_F e2928 hF (Or.inl (by omega))
    refine lv_aload_n hx hb dX4_init_133 rfl (lv_at hl 1 rfl) ?_
    refine g_get C hI c0_ kc23 0 rfl q2567 (fun _ h9 => h9) dX4_init_134 ?_
    refine lv_iconst (v := 3) hx hb dX4_init_137 (by decide) ?_
    refine lv_iconst (v := 3) hx hb dX4_init_138 (by decide) ?_
    refine lv_iload_n hx hb dX4_init_139 rfl (lv_at hl 0 rfl) ?_
    refine lv_imul hx hb dX4_init_140 ?_
    rw [show ((3 : Int32) * 0 : Int32) = 0 from by decide]
    refine lv_iadd hx hb dX4_init_141 ?_
    rw [show ((3 : Int32) + 0 : Int32) = 3 from by decide]
    refine lv_iconst (v := 2) hx hb dX4_init_142 (by decide) ?_
    refine lv_iadd hx hb dX4_init_143 ?_
    rw [show ((3 : Int32) + 2 : Int32) = 5 from by decide]
    refine lv_bipush (v := 60) hx hb dX4_init_144 (by decide) ?_
    refine g_iast C hI hS c2872 (by omega) (gix nl5 (by omega) (by omega)) dX4_init_146 (fun G2930 H locs e2931 hI hS => ?_)
    rw [gup_e nl5 (by omega)] at e2931
    have c0_ := gE_k e2931 c0_ (g_no c0_ c2872)
    have c2877 := gE_k e2931 c2877 (by omega)
    have c2882 := gE_k e2931 c2882 (g_na c2882 c2872 (Or.inr (by decide)))
    have c2887 := gE_k e2931 c2887 (by omega)
    have c2892 := gE_k e2931 c2892 (by omega)
    have c2897 := gE_k e2931 c2897 (g_na c2897 c2872 (Or.inl (by decide)))
    have c2904 := gE_k e2931 c2904 (g_na c2904 c2872 (Or.inr (by decide)))
    have c2909 := gE_k e2931 c2909 (g_na c2909 c2872 (Or.inl (by decide)))
    have c2914 := gE_k e2931 c2914 (g_na c2914 c2872 (Or.inr (by decide)))
    have c2872 : G2930 n = some (aI 112 (gup (gup (gup (gup (gup (fun _ => 0) 1 2) 2 1) 3 200) 4 150) 5 60)) := gE_s e2931
    have hF := gE_F e2931 hF (Or.inl (by omega))
    refine lv_iinc (v := 1) (lv' := [(1, .int 1), (0, .ref mm)]) hx hb dX4_init_147 hl (k := 0) rfl (by first | rfl | decide) (by decide) rfl (fun ls hl => ?_)
    refine lv_goto (tgt := 99) hx hb dX4_init_150 (by decide) ?_
    refine lv_iload_n hx hb dX4_init_99 rfl (lv_at hl 0 rfl) ?_
    refine lv_bipush (v := 6) hx hb dX4_init_100 (by decide) ?_
    refine lv_icmp_ge (tgt := 153) hx hb dX4_init_102 (by decide) (fun c_2933 => ?_) (fun c_2933 => ?_)
    · exact absurd c_2933 (by decide)
    · skip
      refine lv_aload_n hx hb dX4_init_105 rfl (lv_at hl 1 rfl) ?_
      refine g_get C hI c0_ kc23 0 rfl q2567 (fun _ h9 => h9) dX4_init_106 ?_
      refine lv_iconst (v := 3) hx hb dX4_init_109 (by decide) ?_
      refine lv_iconst (v := 3) hx hb dX4_init_110 (by decide) ?_
      refine lv_iload_n hx hb dX4_init_111 rfl (lv_at hl 0 rfl) ?_
      refine lv_imul hx hb dX4_init_112 ?_
      rw [show ((3 : Int32) * 1 : Int32) = 3 from by decide]
      refine lv_iadd hx hb dX4_init_113 ?_
      rw [show ((3 : Int32) + 3 : Int32) = 6 from by decide]
      refine lv_sipush (v := 200) hx hb dX4_init_114 (by decide) ?_
      refine g_iast C hI hS c2872 (by omega) (gix nl6 (by omega) (by omega)) dX4_init_117 (fun G2934 H locs e2935 hI hS => ?_)
      rw [gup_e nl6 (by omega)] at e2935
      have c0_ := gE_k e2935 c0_ (g_no c0_ c2872)
      have c2877 := gE_k e2935 c2877 (by omega)
      have c2882 := gE_k e2935 c2882 (g_na c2882 c2872 (Or.inr (by decide)))
      have c2887 := gE_k e2935 c2887 (by omega)
      have c2892 := gE_k e2935 c2892 (by omega)
      have c2897 := gE_k e2935 c2897 (g_na c2897 c2872 (Or.inl (by decide)))
      have c2904 := gE_k e2935 c2904 (g_na c2904 c2872 (Or.inr (by decide)))
      have c2909 := gE_k e2935 c2909 (g_na c2909 c2872 (Or.inl (by decide)))
      have c2914 := gE_k e2935 c2914 (g_na c2914 c2872 (Or.inr (by decide)))
      have c2872 : G2934 n = some (aI 112 (gup (gup (gup (gup (gup (gup (fun _ => 0) 1 2) 2 1) 3 200) 4 150) 5 60) 6 200)) := gE_s e2935
      have hF := gE_F e2935 hF (Or.inl (by omega))
      refine lv_aload_n hx hb dX4_init_118 rfl (lv_at hl 1 rfl) ?_
      refine g_get C hI c0_ kc23 0 rfl q2567 (fun _ h9 => h9) dX4_init_119 ?_
      refine lv_iconst (v := 3) hx hb dX4_init_122 (by decide) ?_
      refine lv_iconst (v := 3) hx hb dX4_init_123 (by decide) ?_
      refine lv_iload_n hx hb dX4_init_124 rfl (lv_at hl 0 rfl) ?_
      refine lv_imul hx hb dX4_init_125 ?_
      rw [show ((3 : Int32) * 1 : Int32) = 3 from by decide]
      refine lv_iadd hx hb dX4_init_126 ?_
      rw [show ((3 : Int32) + 3 : Int32) = 6 from by decide]
      refine lv_iconst (v := 1) hx hb dX4_init_127 (by decide) ?_
      refine lv_iadd hx hb dX4_init_128 ?_
      rw [show ((6 : Int32) + 1 : Int32) = 7 from by decide]
      refine lv_sipush (v := 150) hx hb dX4_init_129 (by decide) ?_
      refine g_iast C hI hS c2872 (by omega) (gix nl7 (by omega) (by omega)) dX4_init_132 (fun G2937 H locs e2938 hI hS => ?_)
      rw [gup_e nl7 (by omega)] at e2938
      have c0_ := gE_k e2938 c0_ (g_no c0_ c2872)
      have c2877 := gE_k e2938 c2877 (by omega)
      have c2882 := gE_k e2938 c2882 (g_na c2882 c2872 (Or.inr (by decide)))
      have c2887 := gE_k e2938 c2887 (by omega)
      have c2892 := gE_k e2938 c2892 (by omega)
      have c2897 := gE_k e2938 c2897 (g_na c2897 c2872 (Or.inl (by decide)))
      have c2904 := gE_k e2938 c2904 (g_na c2904 c2872 (Or.inr (by decide)))
      have c2909 := gE_k e2938 c2909 (g_na c2909 c2872 (Or.inl (by decide)))
      have c2914 := gE_k e2938 c2914 (g_na c2914 c2872 (Or.inr (by decide)))
      have c2872 : G2937 n = some (aI 112 (gup (gup (gup (gup (gup (gup (gup (fun _ => 0) 1 2) 2 1) 3 200) 4 150) 5 60) 6 200) 7 150)) := gE_s e2938
      have hF := gE_F e2938 hF (Or.inl (by omega))
      refine lv_aload_n hx hb dX4_init_133 rfl (lv_at hl 1 rfl) ?_
      refine g_get C hI c0_ kc23 0 rfl q2567 (fun _ h9 => h9) dX4_init_134 ?_
      refine lv_iconst (v := 3) hx hb dX4_init_137 (by decide) ?_
      refine lv_iconst (v := 3) hx hb dX4_init_138 (by decide) ?_
      refine lv_iload_n hx hb dX4_init_139 rfl (lv_at hl 0 rfl) ?_
      refine lv_imul hx hb dX4_init_140 ?_
      rw [show ((3 : Int32) * 1 : Int32) = 3 from by decide]
      refine lv_iadd hx hb dX4_init_141 ?_
      rw [show ((3 : Int32) + 3 : Int32) = 6 from by decide]
      refine lv_iconst (v := 2) hx hb dX4_init_142 (by decide) ?_
      refine lv_iadd hx hb dX4_init_143 ?_
      rw [show ((6 : Int32) + 2 : Int32) = 8 from by decide]
      refine lv_bipush (v := 60) hx hb dX4_init_144 (by decide) ?_
      refine g_iast C hI hS c2872 (by omega) (gix nl8 (by omega) (by omega)) dX4_init_146 (fun G2940 H locs e2941 hI hS => ?_)
      rw [gup_e nl8 (by omega)] at e2941
      have c0_ := gE_k e2941 c0_ (g_no c0_ c2872)
      have c2877 := gE_k e2941 c2877 (by omega)
      have c2882 := gE_k e2941 c2882 (g_na c2882 c2872 (Or.inr (by decide)))
      have c2887 := gE_k e2941 c2887 (by omega)
      have c2892 := gE_k e2941 c2892 (by omega)
      have c2897 := gE_k e2941 c2897 (g_na c2897 c2872 (Or.inl (by decide)))
      have c2904 := gE_k e2941 c2904 (g_na c2904 c2872 (Or.inr (by decide)))
      have c2909 := gE_k e2941 c2909 (g_na c2909 c2872 (Or.inl (by decide)))
      have c2914 := gE_k e2941 c2914 (g_na c2914 c2872 (Or.inr (by decide)))
      have c2872 : G2940 n = some (aI 112 (gup (gup (gup (gup (gup (gup (gup (gup (fun _ => 0) 1 2) 2 1) 3 200) 4 150) 5 60) 6 200) 7 150) 8 60)) := gE_s e2941
      have hF := gE_F e2941 hF (Or.inl (by omega))
      refine lv_iinc (v := 2) (lv' := [(1, .int 2), (0, .ref mm)]) hx hb dX4_init_147 hl (k := 0) rfl (by first | rfl | decide) (by decide) rfl (fun ls hl => ?_)
      refine lv_goto (tgt := 99) hx hb dX4_init_150 (by decide) ?_
      refine lv_iload_n hx hb dX4_init_99 rfl (lv_at hl 0 rfl) ?_
      refine lv_bipush (v := 6) hx hb dX4_init_100 (by decide) ?_
      refine lv_icmp_ge (tgt := 153) hx hb dX4_init_102 (by decide) (fun c_2943 => ?_) (fun c_2943 => ?_)
      · exact absurd c_2943 (by decide)
      · skip
        refine lv_aload_n hx hb dX4_init_105 rfl (lv_at hl 1 rfl) ?_
        refine g_get C hI c0_ kc23 0 rfl q2567 (fun _ h9 => h9) dX4_init_106 ?_
        refine lv_iconst (v := 3) hx hb dX4_init_109 (by decide) ?_
        refine lv_iconst (v := 3) hx hb dX4_init_110 (by decide) ?_
        refine lv_iload_n hx hb dX4_init_111 rfl (lv_at hl 0 rfl) ?_
        refine lv_imul hx hb dX4_init_112 ?_
        rw [show ((3 : Int32) * 2 : Int32) = 6 from by decide]
        refine lv_iadd hx hb dX4_init_113 ?_
        rw [show ((3 : Int32) + 6 : Int32) = 9 from by decide]
        refine lv_sipush (v := 200) hx hb dX4_init_114 (by decide) ?_
        refine g_iast C hI hS c2872 (by omega) (gix nl9 (by omega) (by omega)) dX4_init_117 (fun G2944 H locs e2945 hI hS => ?_)
        rw [gup_e nl9 (by omega)] at e2945
        have c0_ := gE_k e2945 c0_ (g_no c0_ c2872)
        have c2877 := gE_k e2945 c2877 (by omega)
        have c2882 := gE_k e2945 c2882 (g_na c2882 c2872 (Or.inr (by decide)))
        have c2887 := gE_k e2945 c2887 (by omega)
        have c2892 := gE_k e2945 c2892 (by omega)
        have c2897 := gE_k e2945 c2897 (g_na c2897 c2872 (Or.inl (by decide)))
        have c2904 := gE_k e2945 c2904 (g_na c2904 c2872 (Or.inr (by decide)))
        have c2909 := gE_k e2945 c2909 (g_na c2909 c2872 (Or.inl (by decide)))
        have c2914 := gE_k e2945 c2914 (g_na c2914 c2872 (Or.inr (by decide)))
        have c2872 : G2944 n = some (aI 112 (gup (gup (gup (gup (gup (gup (gup (gup (gup (fun _ => 0) 1 2) 2 1) 3 200) 4 150) 5 60) 6 200) 7 150) 8 60) 9 200)) := gE_s e2945
        have hF := gE_F e2945 hF (Or.inl (by omega))
        refine lv_aload_n hx hb dX4_init_118 rfl (lv_at hl 1 rfl) ?_
        refine g_get C hI c0_ kc23 0 rfl q2567 (fun _ h9 => h9) dX4_init_119 ?_
        refine lv_iconst (v := 3) hx hb dX4_init_122 (by decide) ?_
        refine lv_iconst (v := 3) hx hb dX4_init_123 (by decide) ?_
        refine lv_iload_n hx hb dX4_init_124 rfl (lv_at hl 0 rfl) ?_
        refine lv_imul hx hb dX4_init_125 ?_
        rw [show ((3 : Int32) * 2 : Int32) = 6 from by decide]
        refine lv_iadd hx hb dX4_init_126 ?_
        rw [show ((3 : Int32) + 6 : Int32) = 9 from by decide]
        refine lv_iconst (v := 1) hx hb dX4_init_127 (by decide) ?_
        refine lv_iadd hx hb dX4_init_128 ?_
        rw [show ((9 : Int32) + 1 : Int32) = 10 from by decide]
        refine lv_sipush (v := 150) hx hb dX4_init_129 (by decide) ?_
        refine g_iast C hI hS c2872 (by omega) (gix nl10 (by omega) (by omega)) dX4_init_132 (fun G2947 H locs e2948 hI hS => ?_)
        rw [gup_e nl10 (by omega)] at e2948
        have c0_ := gE_k e2948 c0_ (g_no c0_ c2872)
        have c2877 := gE_k e2948 c2877 (by omega)
        have c2882 := gE_k e2948 c2882 (g_na c2882 c2872 (Or.inr (by decide)))
        have c2887 := gE_k e2948 c2887 (by omega)
        have c2892 := gE_k e2948 c2892 (by omega)
        have c2897 := gE_k e2948 c2897 (g_na c2897 c2872 (Or.inl (by decide)))
        have c2904 := gE_k e2948 c2904 (g_na c2904 c2872 (Or.inr (by decide)))
        have c2909 := gE_k e2948 c2909 (g_na c2909 c2872 (Or.inl (by decide)))
        have c2914 := gE_k e2948 c2914 (g_na c2914 c2872 (Or.inr (by decide)))
        have c2872 : G2947 n = some (aI 112 (gup (gup (gup (gup (gup (gup (gup (gup (gup (gup (fun _ => 0) 1 2) 2 1) 3 200) 4 150) 5 60) 6 200) 7 150) 8 60) 9 200) 10 150)) := gE_s e2948
        have hF := gE_F e2948 hF (Or.inl (by omega))
        refine lv_aload_n hx hb dX4_init_133 rfl (lv_at hl 1 rfl) ?_
        refine g_get C hI c0_ kc23 0 rfl q2567 (fun _ h9 => h9) dX4_init_134 ?_
        refine lv_iconst (v := 3) hx hb dX4_init_137 (by decide) ?_
        refine lv_iconst (v := 3) hx hb dX4_init_138 (by decide) ?_
        refine lv_iload_n hx hb dX4_init_139 rfl (lv_at hl 0 rfl) ?_
        refine lv_imul hx hb dX4_init_140 ?_
        rw [show ((3 : Int32) * 2 : Int32) = 6 from by decide]
        refine lv_iadd hx hb dX4_init_141 ?_
        rw [show ((3 : Int32) + 6 : Int32) = 9 from by decide]
        refine lv_iconst (v := 2) hx hb dX4_init_142 (by decide) ?_
        refine lv_iadd hx hb dX4_init_143 ?_
        rw [show ((9 : Int32) + 2 : Int32) = 11 from by decide]
        refine lv_bipush (v := 60) hx hb dX4_init_144 (by decide) ?_
        refine g_iast C hI hS c2872 (by omega) (gix nl11 (by omega) (by omega)) dX4_init_146 (fun G2950 H locs e2951 hI hS => ?_)
        rw [gup_e nl11 (by omega)] at e2951
        have c0_ := gE_k e2951 c0_ (g_no c0_ c2872)
        have c2877 := gE_k e2951 c2877 (by omega)
        have c2882 := gE_k e2951 c2882 (g_na c2882 c2872 (Or.inr (by decide)))
        have c2887 := gE_k e2951 c2887 (by omega)
        have c2892 := gE_k e2951 c2892 (by omega)
        have c2897 := gE_k e2951 c2897 (g_na c2897 c2872 (Or.inl (by decide)))
        have c2904 := gE_k e2951 c2904 (g_na c2904 c2872 (Or.inr (by decide)))
        have c2909 := gE_k e2951 c2909 (g_na c2909 c2872 (Or.inl (by decide)))
        have c2914 := gE_k e2951 c2914 (g_na c2914 c2872 (Or.inr (by decide)))
        have c2872 : G2950 n = some (aI 112 (gup (gup (gup (gup (gup (gup (gup (gup (gup (gup (gup (fun _ => 0) 1 2) 2 1) 3 200) 4 150) 5 60) 6 200) 7 150) 8 60) 9 200) 10 150) 11 60)) := gE_s e2951
        have hF := gE_F e2951 hF (Or.inl (by omega))
        refine lv_iinc (v := 3) (lv' := [(1, .int 3), (0, .ref mm)]) hx hb dX4_init_147 hl (k := 0) rfl (by first | rfl | decide) (by decide) rfl (fun ls hl => ?_)
        refine lv_goto (tgt := 99) hx hb dX4_init_150 (by decide) ?_
        refine lv_iload_n hx hb dX4_init_99 rfl (lv_at hl 0 rfl) ?_
        refine lv_bipush (v := 6) hx hb dX4_init_100 (by decide) ?_
        refine lv_icmp_ge (tgt := 153) hx hb dX4_init_102 (by decide) (fun c_2953 => ?_) (fun c_2953 => ?_)
        · exact absurd c_2953 (by decide)
        · skip
          refine lv_aload_n hx hb dX4_init_105 rfl (lv_at hl 1 rfl) ?_
          refine g_get C hI c0_ kc23 0 rfl q2567 (fun _ h9 => h9) dX4_init_106 ?_
          refine lv_iconst (v := 3) hx hb dX4_init_109 (by decide) ?_
          refine lv_iconst (v := 3) hx hb dX4_init_110 (by decide) ?_
          refine lv_iload_n hx hb dX4_init_111 rfl (lv_at hl 0 rfl) ?_
          refine lv_imul hx hb dX4_init_112 ?_
          rw [show ((3 : Int32) * 3 : Int32) = 9 from by decide]
          refine lv_iadd hx hb dX4_init_113 ?_
          rw [show ((3 : Int32) + 9 : Int32) = 12 from by decide]
          refine lv_sipush (v := 200) hx hb dX4_init_114 (by decide) ?_
          refine g_iast C hI hS c2872 (by omega) (gix nl12 (by omega) (by omega)) dX4_init_117 (fun G2954 H locs e2955 hI hS => ?_)
          rw [gup_e nl12 (by omega)] at e2955
          have c0_ := gE_k e2955 c0_ (g_no c0_ c2872)
          have c2877 := gE_k e2955 c2877 (by omega)
          have c2882 := gE_k e2955 c2882 (g_na c2882 c2872 (Or.inr (by decide)))
          have c2887 := gE_k e2955 c2887 (by omega)
          have c2892 := gE_k e2955 c2892 (by omega)
          have c2897 := gE_k e2955 c2897 (g_na c2897 c2872 (Or.inl (by decide)))
          have c2904 := gE_k e2955 c2904 (g_na c2904 c2872 (Or.inr (by decide)))
          have c2909 := gE_k e2955 c2909 (g_na c2909 c2872 (Or.inl (by decide)))
          have c2914 := gE_k e2955 c2914 (g_na c2914 c2872 (Or.inr (by decide)))
          have c2872 : G2954 n = some (aI 112 (gup (gup (gup (gup (gup (gup (gup (gup (gup (gup (gup (gup (fun _ => 0) 1 2) 2 1) 3 200) 4 150) 5 60) 6 200) 7 150) 8 60) 9 200) 10 150) 11 60) 12 200)) := gE_s e2955
          have hF := gE_F e2955 hF (Or.inl (by omega))
          refine lv_aload_n hx hb dX4_init_118 rfl (lv_at hl 1 rfl) ?_
          refine g_get C hI c0_ kc23 0 rfl q2567 (fun _ h9 => h9) dX4_init_119 ?_
          refine lv_iconst (v := 3) hx hb dX4_init_122 (by decide) ?_
          refine lv_iconst (v := 3) hx hb dX4_init_123 (by decide) ?_
          refine lv_iload_n hx hb dX4_init_124 rfl (lv_at hl 0 rfl) ?_
          refine lv_imul hx hb dX4_init_125 ?_
          rw [show ((3 : Int32) * 3 : Int32) = 9 from by decide]
          refine lv_iadd hx hb dX4_init_126 ?_
          rw [show ((3 : Int32) + 9 : Int32) = 12 from by decide]
          refine lv_iconst (v := 1) hx hb dX4_init_127 (by decide) ?_
          refine lv_iadd hx hb dX4_init_128 ?_
          rw [show ((12 : Int32) + 1 : Int32) = 13 from by decide]
          refine lv_sipush (v := 150) hx hb dX4_init_129 (by decide) ?_
          refine g_iast C hI hS c2872 (by omega) (gix nl13 (by omega) (by omega)) dX4_init_132 (fun G2957 H locs e2958 hI hS => ?_)
          rw [gup_e nl13 (by omega)] at e2958
          have c0_ := gE_k e2958 c0_ (g_no c0_ c2872)
          have c2877 := gE_k e2958 c2877 (by omega)
          have c2882 := gE_k e2958 c2882 (g_na c2882 c2872 (Or.inr (by decide)))
          have c2887 := gE_k e2958 c2887 (by omega)
          have c2892 := gE_k e2958 c2892 (by omega)
          have c2897 := gE_k e2958 c2897 (g_na c2897 c2872 (Or.inl (by decide)))
          have c2904 := gE_k e2958 c2904 (g_na c2904 c2872 (Or.inr (by decide)))
          have c2909 := gE_k e2958 c2909 (g_na c2909 c2872 (Or.inl (by decide)))
          have c2914 := gE_k e2958 c2914 (g_na c2914 c2872 (Or.inr (by decide)))
          have c2872 : G2957 n = some (aI 112 (gup (gup (gup (gup (gup (gup (gup (gup (gup (gup (gup (gup (gup (fun _ => 0) 1 2) 2 1) 3 200) 4 150) 5 60) 6 200) 7 150) 8 60) 9 200) 10 150) 11 60) 12 200) 13 150)) := gE_s e2958
          have hF := gE_F e2958 hF (Or.inl (by omega))
          refine lv_aload_n hx hb dX4_init_133 rfl (lv_at hl 1 rfl) ?_
          refine g_get C hI c0_ kc23 0 rfl q2567 (fun _ h9 => h9) dX4_init_134 ?_
          refine lv_iconst (v := 3) hx hb dX4_init_137 (by decide) ?_
          refine lv_iconst (v := 3) hx hb dX4_init_138 (by decide) ?_
          refine lv_iload_n hx hb dX4_init_139 rfl (lv_at hl 0 rfl) ?_
          refine lv_imul hx hb dX4_init_140 ?_
          rw [show ((3 : Int32) * 3 : Int32) = 9 from by decide]
          refine lv_iadd hx hb dX4_init_141 ?_
          rw [show ((3 : Int32) + 9 : Int32) = 12 from by decide]
          refine lv_iconst (v := 2) hx hb dX4_init_142 (by decide) ?_
          refine lv_iadd hx hb dX4_init_143 ?_
          rw [show ((12 : Int32) + 2 : Int32) = 14 from by decide]
          refine lv_bipush (v := 60) hx hb dX4_init_144 (by decide) ?_
          refine g_iast C hI hS c2872 (by omega) (gix nl14 (by omega) (by omega)) dX4_init_146 (fun G2960 H locs e2961 hI hS => ?_)
          rw [gup_e nl14 (by omega)] at e2961
          have c0_ := gE_k e2961 c0_ (g_no c0_ c2872)
          have c2877 := gE_k e2961 c2877 (by omega)
          have c2882 := gE_k e2961 c2882 (g_na c2882 c2872 (Or.inr (by decide)))
          have c2887 := gE_k e2961 c2887 (by omega)
          have c2892 := gE_k e2961 c2892 (by omega)
          have c2897 := gE_k e2961 c2897 (g_na c2897 c2872 (Or.inl (by decide)))
          have c2904 := gE_k e2961 c2904 (g_na c2904 c2872 (Or.inr (by decide)))
          have c2909 := gE_k e2961 c2909 (g_na c2909 c2872 (Or.inl (by decide)))
          have c2914 := gE_k e2961 c2914 (g_na c2914 c2872 (Or.inr (by decide)))
          have c2872 : G2960 n = some (aI 112 (gup (gup (gup (gup (gup (gup (gup (gup (gup (gup (gup (gup (gup (gup (fun _ => 0) 1 2) 2 1) 3 200) 4 150) 5 60) 6 200) 7 150) 8 60) 9 200) 10 150) 11 60) 12 200) 13 150) 14 60)) := gE_s e2961
          have hF := gE_F e2961 hF (Or.inl (by omega))
          refine lv_iinc (v := 4) (lv' := [(1, .int 4), (0, .ref mm)]) hx hb dX4_init_147 hl (k := 0) rfl (by first | rfl | decide) (by decide) rfl (fun ls hl => ?_)
          refine lv_goto (tgt := 99) hx hb dX4_init_150 (by decide) ?_
          refine lv_iload_n hx hb dX4_init_99 rfl (lv_at hl 0 rfl) ?_
          refine lv_bipush (v := 6) hx hb dX4_init_100 (by decide) ?_
          refine lv_icmp_ge (tgt := 153) hx hb dX4_init_102 (by decide) (fun c_2963 => ?_) (fun c_2963 => ?_)
          · exact absurd c_2963 (by decide)
          · skip
            refine lv_aload_n hx hb dX4_init_105 rfl (lv_at hl 1 rfl) ?_
            refine g_get C hI c0_ kc23 0 rfl q2567 (fun _ h9 => h9) dX4_init_106 ?_
            refine lv_iconst (v := 3) hx hb dX4_init_109 (by decide) ?_
            refine lv_iconst (v := 3) hx hb dX4_init_110 (by decide) ?_
            refine lv_iload_n hx hb dX4_init_111 rfl (lv_at hl 0 rfl) ?_
            refine lv_imul hx hb dX4_init_112 ?_
            rw [show ((3 : Int32) * 4 : Int32) = 12 from by decide]
            refine lv_iadd hx hb dX4_init_113 ?_
            rw [show ((3 : Int32) + 12 : Int32) = 15 from by decide]
            refine lv_sipush (v := 200) hx hb dX4_init_114 (by decide) ?_
            refine g_iast C hI hS c2872 (by omega) (gix nl15 (by omega) (by omega)) dX4_init_117 (fun G2964 H locs e2965 hI hS => ?_)
            rw [gup_e nl15 (by omega)] at e2965
            have c0_ := gE_k e2965 c0_ (g_no c0_ c2872)
            have c2877 := gE_k e2965 c2877 (by omega)
            have c2882 := gE_k e2965 c2882 (g_na c2882 c2872 (Or.inr (by decide)))
            have c2887 := gE_k e2965 c2887 (by omega)
            have c2892 := gE_k e2965 c2892 (by omega)
            have c2897 := gE_k e2965 c2897 (g_na c2897 c2872 (Or.inl (by decide)))
            have c2904 := gE_k e2965 c2904 (g_na c2904 c2872 (Or.inr (by decide)))
            have c2909 := gE_k e2965 c2909 (g_na c2909 c2872 (Or.inl (by decide)))
            have c2914 := gE_k e2965 c2914 (g_na c2914 c2872 (Or.inr (by decide)))
            have c2872 : G2964 n = some (aI 112 (gup (gup (gup (gup (gup (gup (gup (gup (gup (gup (gup (gup (gup (gup (gup (fun _ => 0) 1 2) 2 1) 3 200) 4 150) 5 60) 6 200) 7 150) 8 60) 9 200) 10 150) 11 60) 12 200) 13 150) 14 60) 15 200)) := gE_s e2965
            have hF := gE_F e2965 hF (Or.inl (by omega))
            refine lv_aload_n hx hb dX4_init_118 rfl (lv_at hl 1 rfl) ?_
            refine g_get C hI c0_ kc23 0 rfl q2567 (fun _ h9 => h9) dX4_init_119 ?_
            refine lv_iconst (v := 3) hx hb dX4_init_122 (by decide) ?_
            refine lv_iconst (v := 3) hx hb dX4_init_123 (by decide) ?_
            refine lv_iload_n hx hb dX4_init_124 rfl (lv_at hl 0 rfl) ?_
            refine lv_imul hx hb dX4_init_125 ?_
            rw [show ((3 : Int32) * 4 : Int32) = 12 from by decide]
            refine lv_iadd hx hb dX4_init_126 ?_
            rw [show ((3 : Int32) + 12 : Int32) = 15 from by decide]
            refine lv_iconst (v := 1) hx hb dX4_init_127 (by decide) ?_
            refine lv_iadd hx hb dX4_init_128 ?_
            rw [show ((15 : Int32) + 1 : Int32) = 16 from by decide]
            refine lv_sipush (v := 150) hx hb dX4_init_129 (by decide) ?_
            refine g_iast C hI hS c2872 (by omega) (gix nl16 (by omega) (by omega)) dX4_init_132 (fun G2967 H locs e2968 hI hS => ?_)
            rw [gup_e nl16 (by omega)] at e2968
            have c0_ := gE_k e2968 c0_ (g_no c0_ c2872)
            have c2877 := gE_k e2968 c2877 (by omega)
            have c2882 := gE_k e2968 c2882 (g_na c2882 c2872 (Or.inr (by decide)))
            have c2887 := gE_k e2968 c2887 (by omega)
            have c2892 := gE_k e2968 c2892 (by omega)
            have c2897 := gE_k e2968 c2897 (g_na c2897 c2872 (Or.inl (by decide)))
            have c2904 := gE_k e2968 c2904 (g_na c2904 c2872 (Or.inr (by decide)))
            have c2909 := gE_k e2968 c2909 (g_na c2909 c2872 (Or.inl (by decide)))
            have c2914 := gE_k e2968 c2914 (g_na c2914 c2872 (Or.inr (by decide)))
            have c2872 : G2967 n = some (aI 112 (gup (gup (gup (gup (gup (gup (gup (gup (gup (gup (gup (gup (gup (gup (gup (gup (fun _ => 0) 1 2) 2 1) 3 200) 4 150) 5 60) 6 200) 7 150) 8 60) 9 200) 10 150) 11 60) 12 200) 13 150) 14 60) 15 200) 16 150)) := gE_s e2968
            have hF := gE_F e2968 hF (Or.inl (by omega))
            refine lv_aload_n hx hb dX4_init_133 rfl (lv_at hl 1 rfl) ?_
            refine g_get C hI c0_ kc23 0 rfl q2567 (fun _ h9 => h9) dX4_init_134 ?_
            refine lv_iconst (v := 3) hx hb dX4_init_137 (by decide) ?_
            refine lv_iconst (v := 3) hx hb dX4_init_138 (by decide) ?_
            refine lv_iload_n hx hb dX4_init_139 rfl (lv_at hl 0 rfl) ?_
            refine lv_imul hx hb dX4_init_140 ?_
            rw [show ((3 : Int32) * 4 : Int32) = 12 from by decide]
            refine lv_iadd hx hb dX4_init_141 ?_
            rw [show ((3 : Int32) + 12 : Int32) = 15 from by decide]
            refine lv_iconst (v := 2) hx hb dX4_init_142 (by decide) ?_
            refine lv_iadd hx hb dX4_init_143 ?_
            rw [show ((15 : Int32) + 2 : Int32) = 17 from by decide]
            refine lv_bipush (v := 60) hx hb dX4_init_144 (by decide) ?_
            refine g_iast C hI hS c2872 (by omega) (gix nl17 (by omega) (by omega)) dX4_init_146 (fun G2970 H locs e2971 hI hS => ?_)
            rw [gup_e nl17 (by omega)] at e2971
            have c0_ := gE_k e2971 c0_ (g_no c0_ c2872)
            have c2877 := gE_k e2971 c2877 (by omega)
            have c2882 := gE_k e2971 c2882 (g_na c2882 c2872 (Or.inr (by decide)))
            have c2887 := gE_k e2971 c2887 (by omega)
            have c2892 := gE_k e2971 c2892 (by omega)
            have c2897 := gE_k e2971 c2897 (g_na c2897 c2872 (Or.inl (by decide)))
            have c2904 := gE_k e2971 c2904 (g_na c2904 c2872 (Or.inr (by decide)))
            have c2909 := gE_k e2971 c2909 (g_na c2909 c2872 (Or.inl (by decide)))
            have c2914 := gE_k e2971 c2914 (g_na c2914 c2872 (Or.inr (by decide)))
            have c2872 : G2970 n = some (aI 112 (gup (gup (gup (gup (gup (gup (gup (gup (gup (gup (gup (gup (gup (gup (gup (gup (gup (fun _ => 0) 1 2) 2 1) 3 200) 4 150) 5 60) 6 200) 7 150) 8 60) 9 200) 10 150) 11 60) 12 200) 13 150) 14 60) 15 200) 16 150) 17 60)) := gE_s e2971
            have hF := gE_F e2971 hF (Or.inl (by omega))
            refine lv_iinc (v := 5) (lv' := [(1, .int 5), (0, .ref mm)]) hx hb dX4_init_147 hl (k := 0) rfl (by first | rfl | decide) (by decide) rfl (fun ls hl => ?_)
            refine lv_goto (tgt := 99) hx hb dX4_init_150 (by decide) ?_
            refine lv_iload_n hx hb dX4_init_99 rfl (lv_at hl 0 rfl) ?_
            refine lv_bipush (v := 6) hx hb dX4_init_100 (by decide) ?_
            refine lv_icmp_ge (tgt := 153) hx hb dX4_init_102 (by decide) (fun c_2973 => ?_) (fun c_2973 => ?_)
            · exact absurd c_2973 (by decide)
            · skip
              refine lv_aload_n hx hb dX4_init_105 rfl (lv_at hl 1 rfl) ?_
              refine g_get C hI c0_ kc23 0 rfl q2567 (fun _ h9 => h9) dX4_init_106 ?_
              refine lv_iconst (v := 3) hx hb dX4_init_109 (by decide) ?_
              refine lv_iconst (v := 3) hx hb dX4_init_110 (by decide) ?_
              refine lv_iload_n hx hb dX4_init_111 rfl (lv_at hl 0 rfl) ?_
              refine lv_imul hx hb dX4_init_112 ?_
              rw [show ((3 : Int32) * 5 : Int32) = 15 from by decide]
              refine lv_iadd hx hb dX4_init_113 ?_
              rw [show ((3 : Int32) + 15 : Int32) = 18 from by decide]
              refine lv_sipush (v := 200) hx hb dX4_init_114 (by decide) ?_
              refine g_iast C hI hS c2872 (by omega) (gix nl18 (by omega) (by omega)) dX4_init_117 (fun G2974 H locs e2975 hI hS => ?_)
              rw [gup_e nl18 (by omega)] at e2975
              have c0_ := gE_k e2975 c0_ (g_no c0_ c2872)
              have c2877 := gE_k e2975 c2877 (by omega)
              have c2882 := gE_k e2975 c2882 (g_na c2882 c2872 (Or.inr (by decide)))
              have c2887 := gE_k e2975 c2887 (by omega)
              have c2892 := gE_k e2975 c2892 (by omega)
              have c2897 := gE_k e2975 c2897 (g_na c2897 c2872 (Or.inl (by decide)))
              have c2904 := gE_k e2975 c2904 (g_na c2904 c2872 (Or.inr (by decide)))
              have c2909 := gE_k e2975 c2909 (g_na c2909 c2872 (Or.inl (by decide)))
              have c2914 := gE_k e2975 c2914 (g_na c2914 c2872 (Or.inr (by decide)))
              have c2872 : G2974 n = some (aI 112 (gup (gup (gup (gup (gup (gup (gup (gup (gup (gup (gup (gup (gup (gup (gup (gup (gup (gup (fun _ => 0) 1 2) 2 1) 3 200) 4 150) 5 60) 6 200) 7 150) 8 60) 9 200) 10 150) 11 60) 12 200) 13 150) 14 60) 15 200) 16 150) 17 60) 18 200)) := gE_s e2975
              have hF := gE_F e2975 hF (Or.inl (by omega))
              refine lv_aload_n hx hb dX4_init_118 rfl (lv_at hl 1 rfl) ?_
              refine g_get C hI c0_ kc23 0 rfl q2567 (fun _ h9 => h9) dX4_init_119 ?_
              refine lv_iconst (v := 3) hx hb dX4_init_122 (by decide) ?_
              refine lv_iconst (v := 3) hx hb dX4_init_123 (by decide) ?_
              refine lv_iload_n hx hb dX4_init_124 rfl (lv_at hl 0 rfl) ?_
              refine lv_imul hx hb dX4_init_125 ?_
              rw [show ((3 : Int32) * 5 : Int32) = 15 from by decide]
              refine lv_iadd hx hb dX4_init_126 ?_
              rw [show ((3 : Int32) + 15 : Int32) = 18 from by decide]
              refine lv_iconst (v := 1) hx hb dX4_init_127 (by decide) ?_
              refine lv_iadd hx hb dX4_init_128 ?_
              rw [show ((18 : Int32) + 1 : Int32) = 19 from by decide]
              refine lv_sipush (v := 150) hx hb dX4_init_129 (by decide) ?_
              refine g_iast C hI hS c2872 (by omega) (gix nl19 (by omega) (by omega)) dX4_init_132 (fun G2977 H locs e2978 hI hS => ?_)
              rw [gup_e nl19 (by omega)] at e2978
              have c0_ := gE_k e2978 c0_ (g_no c0_ c2872)
              have c2877 := gE_k e2978 c2877 (by omega)
              have c2882 := gE_k e2978 c2882 (g_na c2882 c2872 (Or.inr (by decide)))
              have c2887 := gE_k e2978 c2887 (by omega)
              have c2892 := gE_k e2978 c2892 (by omega)
              have c2897 := gE_k e2978 c2897 (g_na c2897 c2872 (Or.inl (by decide)))
              have c2904 := gE_k e2978 c2904 (g_na c2904 c2872 (Or.inr (by decide)))
              have c2909 := gE_k e2978 c2909 (g_na c2909 c2872 (Or.inl (by decide)))
              have c2914 := gE_k e2978 c2914 (g_na c2914 c2872 (Or.inr (by decide)))
              have c2872 : G2977 n = some (aI 112 (gup (gup (gup (gup (gup (gup (gup (gup (gup (gup (gup (gup (gup (gup (gup (gup (gup (gup (gup (fun _ => 0) 1 2) 2 1) 3 200) 4 150) 5 60) 6 200) 7 150) 8 60) 9 200) 10 150) 11 60) 12 200) 13 150) 14 60) 15 200) 16 150) 17 60) 18 200) 19 150)) := gE_s e2978
              have hF := gE_F e2978 hF (Or.inl (by omega))
              refine lv_aload_n hx hb dX4_init_133 rfl (lv_at hl 1 rfl) ?_
              refine g_get C hI c0_ kc23 0 rfl q2567 (fun _ h9 => h9) dX4_init_134 ?_
              refine lv_iconst (v := 3) hx hb dX4_init_137 (by decide) ?_
              refine lv_iconst (v := 3) hx hb dX4_init_138 (by decide) ?_
              refine lv_iload_n hx hb dX4_init_139 rfl (lv_at hl 0 rfl) ?_
              refine lv_imul hx hb dX4_init_140 ?_
              rw [show ((3 : Int32) * 5 : Int32) = 15 from by decide]
              refine lv_iadd hx hb dX4_init_141 ?_
              rw [show ((3 : Int32) + 15 : Int32) = 18 from by decide]
              refine lv_iconst (v := 2) hx hb dX4_init_142 (by decide) ?_
              refine lv_iadd hx hb dX4_init_143 ?_
              rw [show ((18 : Int32) + 2 : Int32) = 20 from by decide]
              refine lv_bipush (v := 60) hx hb dX4_init_144 (by decide) ?_
              refine g_iast C hI hS c2872 (by omega) (gix nl20 (by omega) (by omega)) dX4_init_146 (fun G2980 H locs e2981 hI hS => ?_)
              rw [gup_e nl20 (by omega)] at e2981
              have c0_ := gE_k e2981 c0_ (g_no c0_ c2872)
              have c2877 := gE_k e2981 c2877 (by omega)
              have c2882 := gE_k e2981 c2882 (g_na c2882 c2872 (Or.inr (by decide)))
              have c2887 := gE_k e2981 c2887 (by omega)
              have c2892 := gE_k e2981 c2892 (by omega)
              have c2897 := gE_k e2981 c2897 (g_na c2897 c2872 (Or.inl (by decide)))
              have c2904 := gE_k e2981 c2904 (g_na c2904 c2872 (Or.inr (by decide)))
              have c2909 := gE_k e2981 c2909 (g_na c2909 c2872 (Or.inl (by decide)))
              have c2914 := gE_k e2981 c2914 (g_na c2914 c2872 (Or.inr (by decide)))
              have c2872 : G2980 n = some (aI 112 (gup (gup (gup (gup (gup (gup (gup (gup (gup (gup (gup (gup (gup (gup (gup (gup (gup (gup (gup (gup (fun _ => 0) 1 2) 2 1) 3 200) 4 150) 5 60) 6 200) 7 150) 8 60) 9 200) 10 150) 11 60) 12 200) 13 150) 14 60) 15 200) 16 150) 17 60) 18 200) 19 150) 20 60)) := gE_s e2981
              have hF := gE_F e2981 hF (Or.inl (by omega))
              refine lv_iinc (v := 6) (lv' := [(1, .int 6), (0, .ref mm)]) hx hb dX4_init_147 hl (k := 0) rfl (by first | rfl | decide) (by decide) rfl (fun ls hl => ?_)
              refine lv_goto (tgt := 99) hx hb dX4_init_150 (by decide) ?_
              refine lv_iload_n hx hb dX4_init_99 rfl (lv_at hl 0 rfl) ?_
              refine lv_bipush (v := 6) hx hb dX4_init_100 (by decide) ?_
              refine lv_icmp_ge (tgt := 153) hx hb dX4_init_102 (by decide) (fun c_2983 => ?_) (fun c_2983 => ?_)
              · skip
                refine lv_iconst (v := 0) hx hb dX4_init_153 (by decide) ?_
                refine lv_istore_n (lv' := [(1, .int 0), (0, .ref mm)]) hx hb dX4_init_154 rfl hl (by decide) rfl (fun ls hl => ?_)
                refine lv_iload_n hx hb dX4_init_155 rfl (lv_at hl 0 rfl) ?_
                refine lv_iconst (v := 3) hx hb dX4_init_156 (by decide) ?_
                refine lv_icmp_ge (tgt := 177) hx hb dX4_init_157 (by decide) (fun c_2984 => ?_) (fun c_2984 => ?_)
                · exact absurd c_2984 (by decide)
                · skip
                  refine lv_aload_n hx hb dX4_init_160 rfl (lv_at hl 1 rfl) ?_
                  refine g_get C hI c0_ kc23 0 rfl q2567 (fun _ h9 => h9) dX4_init_161 ?_
                  refine lv_bipush (v := 21) hx hb dX4_init_164 (by decide) ?_
                  refine lv_iload_n hx hb dX4_init_166 rfl (lv_at hl 0 rfl) ?_
                  refine lv_iadd hx hb dX4_init_167 ?_
                  rw [show ((21 : Int32) + 0 : Int32) = 21 from by decide]
                  refine lv_bipush (v := 20) hx hb dX4_init_168 (by decide) ?_
                  refine g_iast C hI hS c2872 (by omega) (gix nl21 (by omega) (by omega)) dX4_init_170 (fun G2985 H locs e2986 hI hS => ?_)
                  rw [gup_e nl21 (by omega)] at e2986
                  have c0_ := gE_k e2986 c0_ (g_no c0_ c2872)
                  have c2877 := gE_k e2986 c2877 (by omega)
                  have c2882 := gE_k e2986 c2882 (g_na c2882 c2872 (Or.inr (by decide)))
                  have c2887 := gE_k e2986 c2887 (by omega)
                  have c2892 := gE_k e2986 c2892 (by omega)
                  have c2897 := gE_k e2986 c2897 (g_na c2897 c2872 (Or.inl (by decide)))
                  have c2904 := gE_k e2986 c2904 (g_na c2904 c2872 (Or.inr (by decide)))
                  have c2909 := gE_k e2986 c2909 (g_na c2909 c2872 (Or.inl (by decide)))
                  have c2914 := gE_k e2986 c2914 (g_na c2914 c2872 (Or.inr (by decide)))
                  have c2872 : G2985 n = some (aI 112 (gup (gup (gup (gup (gup (gup (gup (gup (gup (gup (gup (gup (gup (gup (gup (gup (gup (gup (gup (gup (gup (fun _ => 0) 1 2) 2 1) 3 200) 4 150) 5 60) 6 200) 7 150) 8 60) 9 200) 10 150) 11 60) 12 200) 13 150) 14 60) 15 200) 16 150) 17 60) 18 200) 19 150) 20 60) 21 20)) := gE_s e2986
                  have hF := gE_F e2986 hF (Or.inl (by omega))
                  refine lv_iinc (v := 1) (lv' := [(1, .int 1), (0, .ref mm)]) hx hb dX4_init_171 hl (k := 0) rfl (by first | rfl | decide) (by decide) rfl (fun ls hl => ?_)
                  refine lv_goto (tgt := 155) hx hb dX4_init_174 (by decide) ?_
                  refine lv_iload_n hx hb dX4_init_155 rfl (lv_at hl 0 rfl) ?_
                  refine lv_iconst (v := 3) hx hb dX4_init_156 (by decide) ?_
                  refine lv_icmp_ge (tgt := 177) hx hb dX4_init_157 (by decide) (fun c_2988 => ?_) (fun c_2988 => ?_)
                  · exact absurd c_2988 (by decide)
                  · skip
                    refine lv_aload_n hx hb dX4_init_160 rfl (lv_at hl 1 rfl) ?_
                    refine g_get C hI c0_ kc23 0 rfl q2567 (fun _ h9 => h9) dX4_init_161 ?_
                    refine lv_bipush (v := 21) hx hb dX4_init_164 (by decide) ?_
                    refine lv_iload_n hx hb dX4_init_166 rfl (lv_at hl 0 rfl) ?_
                    refine lv_iadd hx hb dX4_init_167 ?_
                    rw [show ((21 : Int32) + 1 : Int32) = 22 from by decide]
                    refine lv_bipush (v := 20) hx hb dX4_init_168 (by decide) ?_
                    refine g_iast C hI hS c2872 (by omega) (gix nl22 (by omega) (by omega)) dX4_init_170 (fun G2989 H locs e2990 hI hS => ?_)
                    rw [gup_e nl22 (by omega)] at e2990
                    have c0_ := gE_k e2990 c0_ (g_no c0_ c2872)
                    have c2877 := gE_k e2990 c2877 (by omega)
                    have c2882 := gE_k e2990 c2882 (g_na c2882 c2872 (Or.inr (by decide)))
                    have c2887 := gE_k e2990 c2887 (by omega)
                    have c2892 := gE_k e2990 c2892 (by omega)
                    have c2897 := gE_k e2990 c2897 (g_na c2897 c2872 (Or.inl (by decide)))
                    have c2904 := gE_k e2990 c2904 (g_na c2904 c2872 (Or.inr (by decide)))
                    have c2909 := gE_k e2990 c2909 (g_na c2909 c2872 (Or.inl (by decide)))
                    have c2914 := gE_k e2990 c2914 (g_na c2914 c2872 (Or.inr (by decide)))
                    have c2872 : G2989 n = some (aI 112 (gup (gup (gup (gup (gup (gup (gup (gup (gup (gup (gup (gup (gup (gup (gup (gup (gup (gup (gup (gup (gup (gup (fun _ => 0) 1 2) 2 1) 3 200) 4 150) 5 60) 6 200) 7 150) 8 60) 9 200) 10 150) 11 60) 12 200) 13 150) 14 60) 15 200) 16 150) 17 60) 18 200) 19 150) 20 60) 21 20) 22 20)) := gE_s e2990
                    have hF := gE_F e2990 hF (Or.inl (by omega))
                    refine lv_iinc (v := 2) (lv' := [(1, .int 2), (0, .ref mm)]) hx hb dX4_init_171 hl (k := 0) rfl (by first | rfl | decide) (by decide) rfl (fun ls hl => ?_)
                    refine lv_goto (tgt := 155) hx hb dX4_init_174 (by decide) ?_
                    refine lv_iload_n hx hb dX4_init_155 rfl (lv_at hl 0 rfl) ?_
                    refine lv_iconst (v := 3) hx hb dX4_init_156 (by decide) ?_
                    refine lv_icmp_ge (tgt := 177) hx hb dX4_init_157 (by decide) (fun c_2992 => ?_) (fun c_2992 => ?_)
                    · exact absurd c_2992 (by decide)
                    · skip
                      refine lv_aload_n hx hb dX4_init_160 rfl (lv_at hl 1 rfl) ?_
                      refine g_get C hI c0_ kc23 0 rfl q2567 (fun _ h9 => h9) dX4_init_161 ?_
                      refine lv_bipush (v := 21) hx hb dX4_init_164 (by decide) ?_
                      refine lv_iload_n hx hb dX4_init_166 rfl (lv_at hl 0 rfl) ?_
                      refine lv_iadd hx hb dX4_init_167 ?_
                      rw [show ((21 : Int32) + 2 : Int32) = 23 from by decide]
                      refine lv_bipush (v := 20) hx hb dX4_init_168 (by decide) ?_
                      refine g_iast C hI hS c2872 (by omega) (gix nl23 (by omega) (by omega)) dX4_init_170 (fun G2993 H locs e2994 hI hS => ?_)
                      rw [gup_e nl23 (by omega)] at e2994
                      have c0_ := gE_k e2994 c0_ (g_no c0_ c2872)
                      have c2877 := gE_k e2994 c2877 (by omega)
                      have c2882 := gE_k e2994 c2882 (g_na c2882 c2872 (Or.inr (by decide)))
                      have c2887 := gE_k e2994 c2887 (by omega)
                      have c2892 := gE_k e2994 c2892 (by omega)
                      have c2897 := gE_k e2994 c2897 (g_na c2897 c2872 (Or.inl (by decide)))
                      have c2904 := gE_k e2994 c2904 (g_na c2904 c2872 (Or.inr (by decide)))
                      have c2909 := gE_k e2994 c2909 (g_na c2909 c2872 (Or.inl (by decide)))
                      have c2914 := gE_k e2994 c2914 (g_na c2914 c2872 (Or.inr (by decide)))
                      have c2872 : G2993 n = some (aI 112 (gup (gup (gup (gup (gup (gup (gup (gup (gup (gup (gup (gup (gup (gup (gup (gup (gup (gup (gup (gup (gup (gup (gup (fun _ => 0) 1 2) 2 1) 3 200) 4 150) 5 60) 6 200) 7 150) 8 60) 9 200) 10 150) 11 60) 12 200) 13 150) 14 60) 15 200) 16 150) 17 60) 18 200) 19 150) 20 60) 21 20) 22 20) 23 20)) := gE_s e2994
                      have hF := gE_F e2994 hF (Or.inl (by omega))
                      refine lv_iinc (v := 3) (lv' := [(1, .int 3), (0, .ref mm)]) hx hb dX4_init_171 hl (k := 0) rfl (by first | rfl | decide) (by decide) rfl (fun ls hl => ?_)
                      refine lv_goto (tgt := 155) hx hb dX4_init_174 (by decide) ?_
                      refine lv_iload_n hx hb dX4_init_155 rfl (lv_at hl 0 rfl) ?_
                      refine lv_iconst (v := 3) hx hb dX4_init_156 (by decide) ?_
                      refine lv_icmp_ge (tgt := 177) hx hb dX4_init_157 (by decide) (fun c_2996 => ?_) (fun c_2996 => ?_)
                      · skip
                        exact g_vret C hI hS (by omega) ⟨rfl, (by omega), hF, c0_, (by exact c2872), c2877, c2882, c2887, c2892, c2897, c2904, c2909, c2914⟩ dX4_init_177
                      · exact absurd (by decide) c_2996
              · exact absurd (by decide) c_2983
