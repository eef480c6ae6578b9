/-! THE REFERENCE, 12: read -/
set_option maxHeartbeats 4000000 in
set_option maxRecDepth 100000 in
theorem c_X4_does (l : Launch) {D : gD} (hB : gBs D) (G : gH) (n : Nat) (mm : Nat) (ag : Nat) (ab : Nat) (ah : Nat) (ch : Int32) (asv : Nat) (hs : Int32) (aas : Nat) (ain : Nat) (ty : Int32) (er : Int32) (awy : Nat) (ir : Int32) (ali : Nat) (ln : Int32) (th : Int32) (pl : Int32) (wr : Int32) (ato : Nat) (f : Nat → Int32) (y : Nat → Int32) (nb : Nat) (ns : Nat) (tv : Nat → Int32) (kk : Nat) (a1 : Int32) (c0_ : G mm = some (.inl (23, [.ref ag, .ref ab, .ref ah, .int ch, .ref asv, .int hs, .ref aas, .ref ain, .int ty, .int er, .ref awy, .int ir, .ref ali, .int ln, .int th, .int pl, .int wr, .ref ato]))) (c1_ : G ag = some (aI 112 f)) (c2_ : G awy = some (aI 6 y)) (c3_ : G ato = some (aI 240 tv)) (hz : gz D ≤ mm) (hzg : gz D ≤ ag) (hzw : gz D ≤ awy) (hnb : f 24 = nI nb) (hb3 : nb ≤ 3) (hns : f 46 = nI ns) (hs10 : ns ≤ 10) (hat : ∀ s, s < ns → f (57 + s) = -1 ∨ ∃ p, p ≤ 5 ∧ f (57 + s) = nI p) (ek : a1 = nI kk) (hk4 : kk + 3 < 240) : gMet l D yX4_does (ws_ yX4_does cX4_does 3 (some FieldType.int)) 5 0 G n [.ref mm, .int a1] (fun (v : Option Value) (G1 : gH) (n1 : Nat) => ∃ (th2 : Int32) (ir2 : Int32) (r : Int32) (f2 : Nat → Int32) (y2 : Nat → Int32), v = some (.int r) ∧ n ≤ n1 ∧ gF G G1 n (fun q : Nat => q = mm ∨ q = ag ∨ q = awy) ∧ G1 mm = some (.inl (23, [.ref ag, .ref ab, .ref ah, .int ch, .ref asv, .int hs, .ref aas, .ref ain, .int ty, .int er, .ref awy, .int ir2, .ref ali, .int ln, .int th2, .int pl, .int wr, .ref ato])) ∧ G1 ag = some (aI 112 f2) ∧ G1 awy = some (aI 6 y2) ∧ mR (if tv kk = 2 then 3 else 2) ir y f (sDo f tv kk) = (th2, ir2, y2, r, f2)) gNox := by
  refine g_start (by decide) (Nat.le_of_ble_eq_true rfl) ?_
  intro p e s m below meth c ls C hnm hxt hI hl
  have hx := C.x
  have hb := C.b
  have hS : va_S (gA D) s.heap s.heap [] := va_S.rf
  have hz0 := hI.z
  have lc0_ := hI.lt c0_
  have lc1_ := hI.lt c1_
  have lc2_ := hI.lt c2_
  have lc3_ := hI.lt c3_
  have hF : gF G G n (fun q : Nat => q = mm ∨ q = ag ∨ q = awy) := gF.rf _ _ _
  have hl : lv_has ls 3 [(0, .ref mm), (1, .int a1)] := hl
  refine lv_aload_n hx hb dX4_does_0 rfl (lv_at hl 0 rfl) ?_
  refine g_get C hI c0_ kc23 17 rfl q2584 (fun _ h9 => h9) dX4_does_1 ?_
  refine lv_iload_n hx hb dX4_does_4 rfl (lv_at hl 1 rfl) ?_
  refine lv_iconst (v := 1) hx hb dX4_does_5 (by decide) ?_
  refine lv_iadd hx hb dX4_does_6 ?_
  refine g_iald (v := .int (tv (kk + 1))) C hI c3_ (gix (gadd ek nl1) (by omega) (by omega)) (congrArg Value.int (gixv (f := tv) (gadd ek nl1) (by omega))) dX4_does_7 ?_
  refine lv_istore_n (lv' := [(2, .int (tv (kk + 1))), (0, .ref mm), (1, .int a1)]) hx hb dX4_does_8 rfl hl (by decide) rfl (fun ls hl => ?_)
  refine lv_aload_n hx hb dX4_does_9 rfl (lv_at hl 1 rfl) ?_
  refine g_get C hI c0_ kc23 17 rfl q2584 (fun _ h9 => h9) dX4_does_10 ?_
  refine lv_iload_n hx hb dX4_does_13 rfl (lv_at hl 2 rfl) ?_
  refine g_iald (v := .int (tv kk)) C hI c3_ (gix ek (by omega) (by omega)) (congrArg Value.int (gixv (f := tv) ek (by omega))) dX4_does_14 ?_
  by_cases c_4139 : tv kk = 0
  · skip
    refine lv_tableIn (off := 41) (tgt := 56) hx hb dX4_does_15 (by rw [c_4139]; decide) (by rw [c_4139]; decide) (by rw [c_4139]; rfl) (by decide) ?_
    refine lv_aload_n hx hb dX4_does_56 rfl (lv_at hl 1 rfl) ?_
    refine lv_iload_n hx hb dX4_does_57 rfl (lv_at hl 0 rfl) ?_
    refine lv_aload_n hx hb dX4_does_58 rfl (lv_at hl 1 rfl) ?_
    refine g_get C hI c0_ kc23 17 rfl q2584 (fun _ h9 => h9) dX4_does_59 ?_
    refine lv_iload_n hx hb dX4_does_62 rfl (lv_at hl 2 rfl) ?_
    refine lv_iconst (v := 2) hx hb dX4_does_63 (by decide) ?_
    refine lv_iadd hx hb dX4_does_64 ?_
    refine g_iald (v := .int (tv (kk + 2))) C hI c3_ (gix (gadd ek nl2) (by omega) (by omega)) (congrArg Value.int (gixv (f := tv) (gadd ek nl2) (by omega))) dX4_does_65 ?_
    refine g_V (As := [.int (tv (kk + 1)), .int (tv (kk + 2))]) (rest := []) (lv := [(2, .int (tv (kk + 1))), (0, .ref mm), (1, .int a1)]) C hI hS (c_X4_goesOut l hB G n mm ag ab ah ch asv hs aas ain ty er awy ir ali ln th pl wr ato f y _ _ (tv (kk + 1)) (tv (kk + 2)) c0_ c1_ c2_ (by omega) (by omega) (by omega) (by assumption) (by omega) (by assumption) (by omega)) c0_ rfl rfl q2722 q2724 qs43 q94 q2725 (⟨by decide, by decide, by decide⟩ : gArg _ 2) rfl ⟨by decide, by decide⟩ (by omega) hl rfl (Nat.le_of_ble_eq_true rfl) dX4_does_66 (fun v4140 G4141 n4142 H locs hp4143 hI hS => ?_) gKx.no
    obtain ⟨th2_4144, ir2_4145, r_4146, f2_4147, y2_4148, rfl, hn4149, hF4150, c4151, c4152, c4153, hq4154⟩ := hp4143
    refine W.widen (k := 0) (n := 200 * (0)) (by omega) (by omega) ?_
    have c3_ := hF4150.at c3_ (by omega) (fun h => h.elim (g_on c3_ c0_) (fun h => h.elim (g_na c3_ c1_ (Or.inr (by decide))) (g_na c3_ c2_ (Or.inr (by decide)))))
    have hF := hF.trans hF4150 (by omega) (fun q hq => (fun h => h.elim (fun h => h ▸ (Or.inl rfl)) (fun h => h.elim (fun h => h ▸ (Or.inr (Or.inl rfl))) (fun h => h ▸ (Or.inr (Or.inr (rfl)))))))
    exact g_iret C hI hS (by omega) ⟨th2_4144, ir2_4145, r_4146, f2_4147, y2_4148, rfl, (by omega), hF, c4151, c4152, c4153, (by have h9 := hq4154; simp [sDo, c_4139]; exact h9)⟩ dX4_does_69
  by_cases c_4155 : tv kk = 1
  · skip
    refine lv_tableIn (off := 55) (tgt := 70) hx hb dX4_does_15 (by rw [c_4155]; decide) (by rw [c_4155]; decide) (by rw [c_4155]; rfl) (by decide) ?_
    refine lv_aload_n hx hb dX4_does_70 rfl (lv_at hl 1 rfl) ?_
    refine lv_iload_n hx hb dX4_does_71 rfl (lv_at hl 0 rfl) ?_
    refine g_V (As := [.int (tv (kk + 1))]) (rest := []) (lv := [(2, .int (tv (kk + 1))), (0, .ref mm), (1, .int a1)]) C hI hS (c_X4_goesHome l hB G n mm ag ab ah ch asv hs aas ain ty er awy ir ali ln th pl wr ato f y _ _ (tv (kk + 1)) c0_ c1_ c2_ (by omega) (by omega) (by omega) (by assumption) (by omega) (by assumption) (by omega)) c0_ rfl rfl q2730 q2732 qs44 q94 q2733 (⟨by decide, by decide, by decide⟩ : gArg _ 1) rfl ⟨by decide, by decide⟩ (by omega) hl rfl (Nat.le_of_ble_eq_true rfl) dX4_does_72 (fun v4156 G4157 n4158 H locs hp4159 hI hS => ?_) gKx.no
    obtain ⟨th2_4160, ir2_4161, r_4162, f2_4163, y2_4164, rfl, hn4165, hF4166, c4167, c4168, c4169, hq4170⟩ := hp4159
    refine W.widen (k := 0) (n := 200 * (0)) (by omega) (by omega) ?_
    have c3_ := hF4166.at c3_ (by omega) (fun h => h.elim (g_on c3_ c0_) (fun h => h.elim (g_na c3_ c1_ (Or.inr (by decide))) (g_na c3_ c2_ (Or.inr (by decide)))))
    have hF := hF.trans hF4166 (by omega) (fun q hq => (fun h => h.elim (fun h => h ▸ (Or.inl rfl)) (fun h => h.elim (fun h => h ▸ (Or.inr (Or.inl rfl))) (fun h => h ▸ (Or.inr (Or.inr (rfl)))))))
    exact g_iret C hI hS (by omega) ⟨th2_4160, ir2_4161, r_4162, f2_4163, y2_4164, rfl, (by omega), hF, c4167, c4168, c4169, (by have h9 := hq4170; simp [sDo, c_4139, c_4155]; exact h9)⟩ dX4_does_75
  by_cases c_4171 : tv kk = 2
  · skip
    refine lv_tableIn (off := 61) (tgt := 76) hx hb dX4_does_15 (by rw [c_4171]; decide) (by rw [c_4171]; decide) (by rw [c_4171]; rfl) (by decide) ?_
    refine lv_aload_n hx hb dX4_does_76 rfl (lv_at hl 1 rfl) ?_
    refine lv_aload_n hx hb dX4_does_77 rfl (lv_at hl 1 rfl) ?_
    refine g_get C hI c0_ kc23 17 rfl q2584 (fun _ h9 => h9) dX4_does_78 ?_
    refine lv_iload_n hx hb dX4_does_81 rfl (lv_at hl 2 rfl) ?_
    refine lv_iconst (v := 2) hx hb dX4_does_82 (by decide) ?_
    refine lv_iadd hx hb dX4_does_83 ?_
    refine g_iald (v := .int (tv (kk + 2))) C hI c3_ (gix (gadd ek nl2) (by omega) (by omega)) (congrArg Value.int (gixv (f := tv) (gadd ek nl2) (by omega))) dX4_does_84 ?_
    refine lv_iload_n hx hb dX4_does_85 rfl (lv_at hl 0 rfl) ?_
    refine lv_aload_n hx hb dX4_does_86 rfl (lv_at hl 1 rfl) ?_
    refine g_get C hI c0_ kc23 17 rfl q2584 (fun _ h9 => h9) dX4_does_87 ?_
    refine lv_iload_n hx hb dX4_does_90 rfl (lv_at hl 2 rfl) ?_
    refine lv_iconst (v := 3) hx hb dX4_does_91 (by decide) ?_
    refine lv_iadd hx hb dX4_does_92 ?_
    refine g_iald (v := .int (tv (kk + 3))) C hI c3_ (gix (gadd ek nl3) (by omega) (by omega)) (congrArg Value.int (gixv (f := tv) (gadd ek nl3) (by omega))) dX4_does_93 ?_
    refine g_V (As := [.int (tv (kk + 2)), .int (tv (kk + 1)), .int (tv (kk + 3))]) (rest := []) (lv := [(2, .int (tv (kk + 1))), (0, .ref mm), (1, .int a1)]) C hI hS (c_X4_shoots l hB G n mm ag ab ah ch asv hs aas ain ty er awy ir ali ln th pl wr ato f y _ _ (tv (kk + 2)) (tv (kk + 1)) (tv (kk + 3)) c0_ c1_ c2_ (by omega) (by omega) (by omega) (by assumption) (by omega) (by assumption) (by omega)) c0_ rfl rfl q2738 q2740 qs45 q94 q2741 (⟨by decide, by decide, by decide⟩ : gArg _ 3) rfl ⟨by decide, by decide⟩ (by omega) hl rfl (Nat.le_of_ble_eq_true rfl) dX4_does_94 (fun v4172 G4173 n4174 H locs hp4175 hI hS => ?_) gKx.no
    obtain ⟨th2_4176, ir2_4177, r_4178, f2_4179, y2_4180, rfl, hn4181, hF4182, c4183, c4184, c4185, hq4186⟩ := hp4175
    refine W.widen (k := 0) (n := 200 * (0)) (by omega) (by omega) ?_
    have c3_ := hF4182.at c3_ (by omega) (fun h => h.elim (g_on c3_ c0_) (fun h => h.elim (g_na c3_ c1_ (Or.inr (by decide))) (g_na c3_ c2_ (Or.inr (by decide)))))
    have hF := hF.trans hF4182 (by omega) (fun q hq => (fun h => h.elim (fun h => h ▸ (Or.inl rfl)) (fun h => h.elim (fun h => h ▸ (Or.inr (Or.inl rfl))) (fun h => h ▸ (Or.inr (Or.inr (rfl)))))))
    exact g_iret C hI hS (by omega) ⟨th2_4176, ir2_4177, r_4178, f2_4179, y2_4180, rfl, (by omega), hF, c4183, c4184, c4185, (by have h9 := hq4186; simp [sDo, c_4139, c_4155, c_4171]; exact h9)⟩ dX4_does_97
  by_cases c_4187 : tv kk = 3
  · skip
    refine lv_tableIn (off := 83) (tgt := 98) hx hb dX4_does_15 (by rw [c_4187]; decide) (by rw [c_4187]; decide) (by rw [c_4187]; rfl) (by decide) ?_
    refine lv_aload_n hx hb dX4_does_98 rfl (lv_at hl 1 rfl) ?_
    refine lv_aload_n hx hb dX4_does_99 rfl (lv_at hl 1 rfl) ?_
    refine g_get C hI c0_ kc23 17 rfl q2584 (fun _ h9 => h9) dX4_does_100 ?_
    refine lv_iload_n hx hb dX4_does_103 rfl (lv_at hl 2 rfl) ?_
    refine lv_iconst (v := 2) hx hb dX4_does_104 (by decide) ?_
    refine lv_iadd hx hb dX4_does_105 ?_
    refine g_iald (v := .int (tv (kk + 2))) C hI c3_ (gix (gadd ek nl2) (by omega) (by omega)) (congrArg Value.int (gixv (f := tv) (gadd ek nl2) (by omega))) dX4_does_106 ?_
    refine lv_iload_n hx hb dX4_does_107 rfl (lv_at hl 0 rfl) ?_
    refine g_V (As := [.int (tv (kk + 2)), .int (tv (kk + 1))]) (rest := []) (lv := [(2, .int (tv (kk + 1))), (0, .ref mm), (1, .int a1)]) C hI hS (c_X4_hauls l hB G n mm ag ab ah ch asv hs aas ain ty er awy ir ali ln th pl wr ato f y _ _ (tv (kk + 2)) (tv (kk + 1)) c0_ c1_ c2_ (by omega) (by omega) (by omega) (by assumption) (by omega) (by assumption) (by omega) (by omega)) c0_ rfl rfl q2746 q2748 qs46 q94 q2749 (⟨by decide, by decide, by decide⟩ : gArg _ 2) rfl ⟨by decide, by decide⟩ (by omega) hl rfl (Nat.le_of_ble_eq_true rfl) dX4_does_108 (fun v4188 G4189 n4190 H locs hp4191 hI hS => ?_) gKx.no
    obtain ⟨th2_4192, ir2_4193, r_4194, f2_4195, y2_4196, rfl, hn4197, hF4198, c4199, c4200, c4201, hq4202⟩ := hp4191
    refine W.widen (k := 0) (n := 200 * (0)) (by omega) (by omega) ?_
    have c3_ := hF4198.at c3_ (by omega) (fun h => h.elim (g_on c3_ c0_) (fun h => h.elim (g_na c3_ c1_ (Or.inr (by decide))) (g_na c3_ c2_ (Or.inr (by decide)))))
    have hF := hF.trans hF4198 (by omega) (fun q hq => (fun h => h.elim (fun h => h ▸ (Or.inl rfl)) (fun h => h.elim (fun h => h ▸ (Or.inr (Or.inl rfl))) (fun h => h ▸ (Or.inr (Or.inr (rfl)))))))
    exact g_iret C hI hS (by omega) ⟨th2_4192, ir2_4193, r_4194, f2_4195, y2_4196, rfl, (by omega), hF, c4199, c4200, c4201, (by have h9 := hq4202; simp [sDo, c_4139, c_4155, c_4171, c_4187]; exact h9)⟩ dX4_does_111
  by_cases c_4203 : tv kk = 4
  · skip
    refine lv_tableIn (off := 97) (tgt := 112) hx hb dX4_does_15 (by rw [c_4203]; decide) (by rw [c_4203]; decide) (by rw [c_4203]; rfl) (by decide) ?_
    refine lv_aload_n hx hb dX4_does_112 rfl (lv_at hl 1 rfl) ?_
    refine lv_iload_n hx hb dX4_does_113 rfl (lv_at hl 0 rfl) ?_
    refine g_V (As := [.int (tv (kk + 1))]) (rest := []) (lv := [(2, .int (tv (kk + 1))), (0, .ref mm), (1, .int a1)]) C hI hS (c_X4_lands l hB G n mm ag ab ah ch asv hs aas ain ty er awy ir ali ln th pl wr ato f y _ _ (tv (kk + 1)) c0_ c1_ c2_ (by omega) (by omega) (by omega) (by assumption) (by omega) (by assumption) (by omega)) c0_ rfl rfl q2762 q2764 qs49 q94 q2765 (⟨by decide, by decide, by decide⟩ : gArg _ 1) rfl ⟨by decide, by decide⟩ (by omega) hl rfl (Nat.le_of_ble_eq_true rfl) dX4_does_114 (fun v4204 G4205 n4206 H locs hp4207 hI hS => ?_) gKx.no
    obtain ⟨th2_4208, ir2_4209, r_4210, f2_4211, y2_4212, rfl, hn4213, hF4214, c4215, c4216, c4217, hq4218⟩ := hp4207
    refine W.widen (k := 0) (n := 200 * (0)) (by omega) (by omega) ?_
    have c3_ := hF4214.at c3_ (by omega) (fun h => h.elim (g_on c3_ c0_) (fun h => h.elim (g_na c3_ c1_ (Or.inr (by decide))) (g_na c3_ c2_ (Or.inr (by decide)))))
    have hF := hF.trans hF4214 (by omega) (fun q hq => (fun h => h.elim (fun h => h ▸ (Or.inl rfl)) (fun h => h.elim (fun h => h ▸ (Or.inr (Or.inl rfl))) (fun h => h ▸ (Or.inr (Or.inr (rfl)))))))
    exact g_iret C hI hS (by omega) ⟨th2_4208, ir2_4209, r_4210, f2_4211, y2_4212, rfl, (by omega), hF, c4215, c4216, c4217, (by have h9 := hq4218; simp [sDo, c_4139, c_4155, c_4171, c_4187, c_4203]; exact h9)⟩ dX4_does_117
  by_cases c_4219 : tv kk = 5
  · skip
    refine lv_tableIn (off := 103) (tgt := 118) hx hb dX4_does_15 (by rw [c_4219]; decide) (by rw [c_4219]; decide) (by rw [c_4219]; rfl) (by decide) ?_
    refine lv_aload_n hx hb dX4_does_118 rfl (lv_at hl 1 rfl) ?_
    refine lv_iload_n hx hb dX4_does_119 rfl (lv_at hl 0 rfl) ?_
    refine g_V (As := [.int (tv (kk + 1))]) (rest := []) (lv := [(2, .int (tv (kk + 1))), (0, .ref mm), (1, .int a1)]) C hI hS (c_X4_swells l hB G n mm ag ab ah ch asv hs aas ain ty er awy ir ali ln th pl wr ato f y _ _ (tv (kk + 1)) c0_ c1_ c2_ (by omega) (by omega) (by omega) (by assumption) (by omega) (by assumption) (by omega)) c0_ rfl rfl q2805 q2807 qs55 q94 q2808 (⟨by decide, by decide, by decide⟩ : gArg _ 1) rfl ⟨by decide, by decide⟩ (by omega) hl rfl (Nat.le_of_ble_eq_true rfl) dX4_does_120 (fun v4220 G4221 n4222 H locs hp4223 hI hS => ?_) gKx.no
    obtain ⟨th2_4224, ir2_4225, r_4226, f2_4227, y2_4228, rfl, hn4229, hF4230, c4231, c4232, c4233, hq4234⟩ := hp4223
    refine W.widen (k := 0) (n := 200 * (0)) (by omega) (by omega) ?_
    have c3_ := hF4230.at c3_ (by omega) (fun h => h.elim (g_on c3_ c0_) (fun h => h.elim (g_na c3_ c1_ (Or.inr (by decide))) (g_na c3_ c2_ (Or.inr (by decide)))))
    have hF := hF.trans hF4230 (by omega) (fun q hq => (fun h => h.elim (fun h => h ▸ (Or.inl rfl)) (fun h => h.elim (fun h => h ▸ (Or.inr (Or.inl rfl))) (fun h => h ▸ (Or.inr (Or.inr (rfl)))))))
    exact g_iret C hI hS (by omega) ⟨th2_4224, ir2_4225, r_4226, f2_4227, y2_4228, rfl, (by omega), hF, c4231, c4232, c4233, (by have h9 := hq4234; simp [sDo, c_4139, c_4155, c_4171, c_4187, c_4203, c_4219]; exact h9)⟩ dX4_does_123
  by_cases c_4235 : tv kk = 6
  · skip
    refine lv_tableIn (off := 109) (tgt := 124) hx hb dX4_does_15 (by rw [c_4235]; decide) (by rw [c_4235]; decide) (by rw [c_4235]; rfl) (by decide) ?_
    refine lv_aload_n hx hb dX4_does_124 rfl (lv_at hl 1 rfl) ?_
    refine lv_iload_n hx hb dX4_does_125 rfl (lv_at hl 0 rfl) ?_
    refine g_V (As := [.int (tv (kk + 1))]) (rest := []) (lv := [(2, .int (tv (kk + 1))), (0, .ref mm), (1, .int a1)]) C hI hS (c_X4_riddles l hB G n mm ag ab ah ch asv hs aas ain ty er awy ir ali ln th pl wr ato f y _ _ (tv (kk + 1)) c0_ c1_ c2_ (by omega) (by omega) (by omega) (by assumption) (by omega) (by assumption) (by omega)) c0_ rfl rfl q2813 q2815 qs56 q94 q2816 (⟨by decide, by decide, by decide⟩ : gArg _ 1) rfl ⟨by decide, by decide⟩ (by omega) hl rfl (Nat.le_of_ble_eq_true rfl) dX4_does_126 (fun v4236 G4237 n4238 H locs hp4239 hI hS => ?_) gKx.no
    obtain ⟨th2_4240, ir2_4241, r_4242, f2_4243, y2_4244, rfl, hn4245, hF4246, c4247, c4248, c4249, hq4250⟩ := hp4239
    refine W.widen (k := 0) (n := 200 * (0)) (by omega) (by omega) ?_
    have c3_ := hF4246.at c3_ (by omega) (fun h => h.elim (g_on c3_ c0_) (fun h => h.elim (g_na c3_ c1_ (Or.inr (by decide))) (g_na c3_ c2_ (Or.inr (by decide)))))
    have hF := hF.trans hF4246 (by omega) (fun q hq => (fun h => h.elim (fun h => h ▸ (Or.inl rfl)) (fun h => h.elim (fun h => h ▸ (Or.inr (Or.inl rfl))) (fun h => h ▸ (Or.inr (Or.inr (rfl)))))))
    exact g_iret C hI hS (by omega) ⟨th2_4240, ir2_4241, r_4242, f2_4243, y2_4244, rfl, (by omega), hF, c4247, c4248, c4249, (by have h9 := hq4250; simp [sDo, c_4139, c_4155, c_4171, c_4187, c_4203, c_4219, c_4235]; exact h9)⟩ dX4_does_129
  refine lv_tableOut (tgt := 130) hx hb dX4_does_15 (by have := lv_neT c_4139 (a := 0) (by decide); have := lv_neT c_4155 (a := 1) (by decide); have := lv_neT c_4171 (a := 2) (by decide); have := lv_neT c_4187 (a := 3) (by decide); have := lv_neT c_4203 (a := 4) (by decide); have := lv_neT c_4219 (a := 5) (by decide); have := lv_neT c_4235 (a := 6) (by decide); omega) (by decide) ?_
  refine lv_aload_n hx hb dX4_does_130 rfl (lv_at hl 1 rfl) ?_
  refine lv_iload_n hx hb dX4_does_131 rfl (lv_at hl 0 rfl) ?_
  refine g_V (As := [.int (tv (kk + 1))]) (rest := []) (lv := [(2, .int (tv (kk + 1))), (0, .ref mm), (1, .int a1)]) C hI hS (c_X4_passes l hB G n mm ag ab ah ch asv hs aas ain ty er awy ir ali ln th pl wr ato f y _ _ (tv (kk + 1)) c0_ c1_ c2_ (by omega) (by omega) (by omega) (by assumption) (by omega) (by assumption) (by omega)) c0_ rfl rfl q2821 q2823 qs57 q94 q2824 (⟨by decide, by decide, by decide⟩ : gArg _ 1) rfl ⟨by decide, by decide⟩ (by omega) hl rfl (Nat.le_of_ble_eq_true rfl) dX4_does_132 (fun v4251 G4252 n4253 H locs hp4254 hI hS => ?_) gKx.no
  obtain ⟨th2_4255, ir2_4256, r_4257, f2_4258, y2_4259, rfl, hn4260, hF4261, c4262, c4263, c4264, hq4265⟩ := hp4254
  refine W.widen (k := 0) (n := 200 * (0)) (by omega) (by omega) ?_
  have c3_ := hF4261.at c3_ (by omega) (fun h => h.elim (g_on c3_ c0_) (fun h => h.elim (g_na c3_ c1_ (Or.inr (by decide))) (g_na c3_ c2_ (Or.inr (by decide)))))
  have hF := hF.trans hF4261 (by omega) (fun q hq => (fun h => h.elim (fun h => h ▸ (Or.inl rfl)) (fun h => h.elim (fun h => h ▸ (Or.inr (Or.inl rfl))) (fun h => h ▸ (Or.inr (Or.inr (rfl)))))))
  exact g_iret C hI hS (by omega) ⟨th2_4255, ir2_4256, r_4257, f2_4258, y2_4259, rfl, (by omega), hF, c4262, c4263, c4264, (by have h9 := hq4265; simp [sDo, c_4139, c_4155, c_4171, c_4187, c_4203, c_4219, c_4235]; exact h9)⟩ dX4_does_135
set_option maxHeartbeats 4000000 in
set_option maxRecDepth 100000 in
theorem c_X4_refusedOrder (l : Launch) {D : gD} (hB : gBs D) (G : gH) (n : Nat) (mm : Nat) (ag : Nat) (ab : Nat) (ah : Nat) (ch : Int32) (asv : Nat) (hs : Int32) (aas : Nat) (ain : Nat) (ty : Int32) (er : Int32) (awy : Nat) (ir : Int32) (ali : Nat) (ln : Int32) (th : Int32) (pl : Int32) (wr : Int32) (ato : Nat) (y : Nat → Int32) (a1 : Int32) (c0_ : G mm = some (.inl (23, [.ref ag, .ref ab, .ref ah, .int ch, .ref asv, .int hs, .ref aas, .ref ain, .int ty, .int er, .ref awy, .int ir, .ref ali, .int ln, .int th, .int pl, .int wr, .ref ato]))) (c1_ : G awy = some (aI 6 y)) (hzw : gz D ≤ awy) : gMet l D yX4_refusedOrder (ws_ yX4_refusedOrder cX4_refusedOrder 3 none) 1 0 G n [.ref mm, .int a1] (fun (v : Option Value) (G1 : gH) (n1 : Nat) => v = none ∧ n ≤ n1 ∧ gF G G1 n (fun q : Nat => q = awy) ∧ G1 awy = some (aI 6 (sRO ir y a1))) gNox := by
  refine g_start (by decide) (Nat.le_of_ble_eq_true rfl) ?_
  intro p e s m below meth c ls C hnm hxt hI hl
  have hx := C.x
  have hb := C.b
  have hS : va_S (gA D) s.heap s.heap [] := va_S.rf
  have hz0 := hI.z
  have lc0_ := hI.lt c0_
  have lc1_ := hI.lt c1_
  have hF : gF G G n (fun q : Nat => q = awy) := gF.rf _ _ _
  have hl : lv_has ls 3 [(0, .ref mm), (1, .int a1)] := hl
  refine lv_iconst (v := 5) hx hb dX4_refusedOrder_0 (by decide) ?_
  refine lv_istore_n (lv' := [(2, .int 5), (0, .ref mm), (1, .int a1)]) hx hb dX4_refusedOrder_1 rfl hl (by decide) rfl (fun ls hl => ?_)
  refine lv_iload_n hx hb dX4_refusedOrder_2 rfl (lv_at hl 0 rfl) ?_
  refine lv_iconst (v := 2) hx hb dX4_refusedOrder_3 (by decide) ?_
  refine lv_icmp_lt (tgt := 38) hx hb dX4_refusedOrder_4 (by decide) (fun c_4266 => ?_) (fun c_4266 => ?_)
  · exact absurd c_4266 (by decide)
  · skip
    refine lv_aload_n hx hb dX4_refusedOrder_7 rfl (lv_at hl 1 rfl) ?_
    refine g_get C hI c0_ kc23 10 rfl q2577 (fun _ h9 => h9) dX4_refusedOrder_8 ?_
    refine lv_iload_n hx hb dX4_refusedOrder_11 rfl (lv_at hl 0 rfl) ?_
    refine lv_aload_n hx hb dX4_refusedOrder_12 rfl (lv_at hl 1 rfl) ?_
    refine g_get C hI c0_ kc23 11 rfl q2578 (fun _ h9 => h9) dX4_refusedOrder_13 ?_
    refine lv_if_eq (tgt := 30) hx hb dX4_refusedOrder_16 (by decide) (fun c_4267 => ?_) (fun c_4267 => ?_)
    · skip
      refine lv_iconst (v := 0) hx hb dX4_refusedOrder_30 (by decide) ?_
      refine g_iast C hI hS c1_ (by omega) (gix nl5 (by omega) (by omega)) dX4_refusedOrder_31 (fun G4268 H locs e4269 hI hS => ?_)
      rw [gup_e nl5 (by omega)] at e4269
      have c0_ := gE_k e4269 c0_ (g_no c0_ c1_)
      have c1_ : G4268 awy = some (aI 6 (gup y 5 0)) := gE_s e4269
      have hF := gE_F e4269 hF (Or.inr rfl)
      refine lv_iinc (v := 4) (lv' := [(2, .int 4), (0, .ref mm), (1, .int a1)]) hx hb dX4_refusedOrder_32 hl (k := 0) rfl (by first | rfl | decide) (by decide) rfl (fun ls hl => ?_)
      refine lv_goto (tgt := 2) hx hb dX4_refusedOrder_35 (by decide) ?_
      refine lv_iload_n hx hb dX4_refusedOrder_2 rfl (lv_at hl 0 rfl) ?_
      refine lv_iconst (v := 2) hx hb dX4_refusedOrder_3 (by decide) ?_
      refine lv_icmp_lt (tgt := 38) hx hb dX4_refusedOrder_4 (by decide) (fun c_4271 => ?_) (fun c_4271 => ?_)
      · exact absurd c_4271 (by decide)
      · skip
        refine lv_aload_n hx hb dX4_refusedOrder_7 rfl (lv_at hl 1 rfl) ?_
        refine g_get C hI c0_ kc23 10 rfl q2577 (fun _ h9 => h9) dX4_refusedOrder_8 ?_
        refine lv_iload_n hx hb dX4_refusedOrder_11 rfl (lv_at hl 0 rfl) ?_
        refine lv_aload_n hx hb dX4_refusedOrder_12 rfl (lv_at hl 1 rfl) ?_
        refine g_get C hI c0_ kc23 11 rfl q2578 (fun _ h9 => h9) dX4_refusedOrder_13 ?_
        refine lv_if_eq (tgt := 30) hx hb dX4_refusedOrder_16 (by decide) (fun c_4272 => ?_) (fun c_4272 => ?_)
        · skip
          refine lv_iconst (v := 0) hx hb dX4_refusedOrder_30 (by decide) ?_
          refine g_iast C hI hS c1_ (by omega) (gix nl4 (by omega) (by omega)) dX4_refusedOrder_31 (fun G4273 H locs e4274 hI hS => ?_)
          rw [gup_e nl4 (by omega)] at e4274
          have c0_ := gE_k e4274 c0_ (g_no c0_ c1_)
          have c1_ : G4273 awy = some (aI 6 (gup (gup y 5 0) 4 0)) := gE_s e4274
          have hF := gE_F e4274 hF (Or.inr rfl)
          refine lv_iinc (v := 3) (lv' := [(2, .int 3), (0, .ref mm), (1, .int a1)]) hx hb dX4_refusedOrder_32 hl (k := 0) rfl (by first | rfl | decide) (by decide) rfl (fun ls hl => ?_)
          refine lv_goto (tgt := 2) hx hb dX4_refusedOrder_35 (by decide) ?_
          refine lv_iload_n hx hb dX4_refusedOrder_2 rfl (lv_at hl 0 rfl) ?_
          refine lv_iconst (v := 2) hx hb dX4_refusedOrder_3 (by decide) ?_
          refine lv_icmp_lt (tgt := 38) hx hb dX4_refusedOrder_4 (by decide) (fun c_4276 => ?_) (fun c_4276 => ?_)
          · exact absurd c_4276 (by decide)
          · skip
            refine lv_aload_n hx hb dX4_refusedOrder_7 rfl (lv_at hl 1 rfl) ?_
            refine g_get C hI c0_ kc23 10 rfl q2577 (fun _ h9 => h9) dX4_refusedOrder_8 ?_
            refine lv_iload_n hx hb dX4_refusedOrder_11 rfl (lv_at hl 0 rfl) ?_
            refine lv_aload_n hx hb dX4_refusedOrder_12 rfl (lv_at hl 1 rfl) ?_
            refine g_get C hI c0_ kc23 11 rfl q2578 (fun _ h9 => h9) dX4_refusedOrder_13 ?_
            refine lv_if_eq (tgt := 30) hx hb dX4_refusedOrder_16 (by decide) (fun c_4277 => ?_) (fun c_4277 => ?_)
            · skip
              refine lv_iconst (v := 0) hx hb dX4_refusedOrder_30 (by decide) ?_
              refine g_iast C hI hS c1_ (by omega) (gix nl3 (by omega) (by omega)) dX4_refusedOrder_31 (fun G4278 H locs e4279 hI hS => ?_)
              rw [gup_e nl3 (by omega)] at e4279
              have c0_ := gE_k e4279 c0_ (g_no c0_ c1_)
              have c1_ : G4278 awy = some (aI 6 (gup (gup (gup y 5 0) 4 0) 3 0)) := gE_s e4279
              have hF := gE_F e4279 hF (Or.inr rfl)
              refine lv_iinc (v := 2) (lv' := [(2, .int 2), (0, .ref mm), (1, .int a1)]) hx hb dX4_refusedOrder_32 hl (k := 0) rfl (by first | rfl | decide) (by decide) rfl (fun ls hl => ?_)
              refine lv_goto (tgt := 2) hx hb dX4_refusedOrder_35 (by decide) ?_
              refine lv_iload_n hx hb dX4_refusedOrder_2 rfl (lv_at hl 0 rfl) ?_
              refine lv_iconst (v := 2) hx hb dX4_refusedOrder_3 (by decide) ?_
              refine lv_icmp_lt (tgt := 38) hx hb dX4_refusedOrder_4 (by decide) (fun c_4281 => ?_) (fun c_4281 => ?_)
              · exact absurd c_4281 (by decide)
              · skip
                refine lv_aload_n hx hb dX4_refusedOrder_7 rfl (lv_at hl 1 rfl) ?_
                refine g_get C hI c0_ kc23 10 rfl q2577 (fun _ h9 => h9) dX4_refusedOrder_8 ?_
                refine lv_iload_n hx hb dX4_refusedOrder_11 rfl (lv_at hl 0 rfl) ?_
                refine lv_aload_n hx hb dX4_refusedOrder_12 rfl (lv_at hl 1 rfl) ?_
                refine g_get C hI c0_ kc23 11 rfl q2578 (fun _ h9 => h9) dX4_refusedOrder_13 ?_
                refine lv_if_eq (tgt := 30) hx hb dX4_refusedOrder_16 (by decide) (fun c_4282 => ?_) (fun c_4282 => ?_)
                · skip
                  refine lv_iconst (v := 0) hx hb dX4_refusedOrder_30 (by decide) ?_
                  refine g_iast C hI hS c1_ (by omega) (gix nl2 (by omega) (by omega)) dX4_refusedOrder_31 (fun G4283 H locs e4284 hI hS => ?_)
                  rw [gup_e nl2 (by omega)] at e4284
                  have c0_ := gE_k e4284 c0_ (g_no c0_ c1_)
                  have c1_ : G4283 awy = some (aI 6 (gup (gup (gup (gup y 5 0) 4 0) 3 0) 2 0)) := gE_s e4284
                  have hF := gE_F e4284 hF (Or.inr rfl)
                  refine lv_iinc (v := 1) (lv' := [(2, .int 1), (0, .ref mm), (1, .int a1)]) hx hb dX4_refusedOrder_32 hl (k := 0) rfl (by first | rfl | decide) (by decide) rfl (fun ls hl => ?_)
                  refine lv_goto (tgt := 2) hx hb dX4_refusedOrder_35 (by decide) ?_
                  refine lv_iload_n hx hb dX4_refusedOrder_2 rfl (lv_at hl 0 rfl) ?_
                  refine lv_iconst (v := 2) hx hb dX4_refusedOrder_3 (by decide) ?_
                  refine lv_icmp_lt (tgt := 38) hx hb dX4_refusedOrder_4 (by decide) (fun c_4286 => ?_) (fun c_4286 => ?_)
                  · skip
                    refine lv_aload_n hx hb dX4_refusedOrder_38 rfl (lv_at hl 1 rfl) ?_
                    refine g_get C hI c0_ kc23 11 rfl q2578 (fun _ h9 => h9) dX4_refusedOrder_39 ?_
                    refine lv_if_ne (tgt := 53) hx hb dX4_refusedOrder_42 (by decide) (fun c_4287 => ?_) (fun c_4287 => ?_)
                    · exact absurd c_4282 c_4287
                    · skip
                      refine lv_aload_n hx hb dX4_refusedOrder_45 rfl (lv_at hl 1 rfl) ?_
                      refine g_get C hI c0_ kc23 10 rfl q2577 (fun _ h9 => h9) dX4_refusedOrder_46 ?_
                      refine lv_iconst (v := 2) hx hb dX4_refusedOrder_49 (by decide) ?_
                      refine lv_bipush (v := 12) hx hb dX4_refusedOrder_50 (by decide) ?_
                      refine g_iast C hI hS c1_ (by omega) (gix nl2 (by omega) (by omega)) dX4_refusedOrder_52 (fun G4288 H locs e4289 hI hS => ?_)
                      rw [gup_e nl2 (by omega)] at e4289
                      have c0_ := gE_k e4289 c0_ (g_no c0_ c1_)
                      have c1_ : G4288 awy = some (aI 6 (gup (gup (gup (gup (gup y 5 0) 4 0) 3 0) 2 0) 2 12)) := gE_s e4289
                      have hF := gE_F e4289 hF (Or.inr rfl)
                      refine lv_aload_n hx hb dX4_refusedOrder_53 rfl (lv_at hl 1 rfl) ?_
                      refine g_get C hI c0_ kc23 10 rfl q2577 (fun _ h9 => h9) dX4_refusedOrder_54 ?_
                      refine lv_iconst (v := 0) hx hb dX4_refusedOrder_57 (by decide) ?_
                      refine lv_bipush (v := 11) hx hb dX4_refusedOrder_58 (by decide) ?_
                      refine g_iast C hI hS c1_ (by omega) (gix nl0 (by omega) (by omega)) dX4_refusedOrder_60 (fun G4291 H locs e4292 hI hS => ?_)
                      rw [gup_e nl0 (by omega)] at e4292
                      have c0_ := gE_k e4292 c0_ (g_no c0_ c1_)
                      have c1_ : G4291 awy = some (aI 6 (gup (gup (gup (gup (gup (gup y 5 0) 4 0) 3 0) 2 0) 2 12) 0 11)) := gE_s e4292
                      have hF := gE_F e4292 hF (Or.inr rfl)
                      refine lv_aload_n hx hb dX4_refusedOrder_61 rfl (lv_at hl 1 rfl) ?_
                      refine g_get C hI c0_ kc23 10 rfl q2577 (fun _ h9 => h9) dX4_refusedOrder_62 ?_
                      refine lv_iconst (v := 1) hx hb dX4_refusedOrder_65 (by decide) ?_
                      refine lv_iload_n hx hb dX4_refusedOrder_66 rfl (lv_at hl 2 rfl) ?_
                      refine g_iast C hI hS c1_ (by omega) (gix nl1 (by omega) (by omega)) dX4_refusedOrder_67 (fun G4294 H locs e4295 hI hS => ?_)
                      rw [gup_e nl1 (by omega)] at e4295
                      have c0_ := gE_k e4295 c0_ (g_no c0_ c1_)
                      have c1_ : G4294 awy = some (aI 6 (gup (gup (gup (gup (gup (gup (gup y 5 0) 4 0) 3 0) 2 0) 2 12) 0 11) 1 a1)) := gE_s e4295
                      have hF := gE_F e4295 hF (Or.inr rfl)
                      exact g_vret C hI hS (by omega) ⟨rfl, (by omega), hF, (by rw [show sRO ir y a1 = gup (gup (gup (gup (gup (gup (gup y 5 0) 4 0) 3 0) 2 0) 2 12) 0 11) 1 a1 from by unfold sRO; simp [c_4266, c_4267, c_4271, c_4272, c_4276, c_4277, c_4281, c_4282, c_4286, c_4287]]; exact c1_)⟩ dX4_refusedOrder_68
                  · exact absurd (by decide) c_4286
                · exact absurd c_4277 c_4282
            · exact absurd c_4272 c_4277
        · exact absurd c_4267 c_4272
    · skip
      refine lv_aload_n hx hb dX4_refusedOrder_19 rfl (lv_at hl 1 rfl) ?_
      refine g_get C hI c0_ kc23 10 rfl q2577 (fun _ h9 => h9) dX4_refusedOrder_20 ?_
      refine lv_iload_n hx hb dX4_refusedOrder_23 rfl (lv_at hl 0 rfl) ?_
      refine lv_iconst (v := 2) hx hb dX4_refusedOrder_24 (by decide) ?_
      refine lv_isub hx hb dX4_refusedOrder_25 ?_
      rw [show ((5 : Int32) - 2 : Int32) = 3 from by decide]
      refine g_iald (v := .int (y 3)) C hI c1_ (gix nl3 (by omega) (by omega)) (congrArg Value.int (gixv (f := y) nl3 (by omega))) dX4_refusedOrder_26 ?_
      refine lv_goto (tgt := 31) hx hb dX4_refusedOrder_27 (by decide) ?_
      refine g_iast C hI hS c1_ (by omega) (gix nl5 (by omega) (by omega)) dX4_refusedOrder_31 (fun G4297 H locs e4298 hI hS => ?_)
      rw [gup_e nl5 (by omega)] at e4298
      have c0_ := gE_k e4298 c0_ (g_no c0_ c1_)
      have c1_ : G4297 awy = some (aI 6 (gup y 5 (y 3))) := gE_s e4298
      have hF := gE_F e4298 hF (Or.inr rfl)
      refine lv_iinc (v := 4) (lv' := [(2, .int 4), (0, .ref mm), (1, .int a1)]) hx hb dX4_refusedOrder_32 hl (k := 0) rfl (by first | rfl | decide) (by decide) rfl (fun ls hl => ?_)
      refine lv_goto (tgt := 2) hx hb dX4_refusedOrder_35 (by decide) ?_
      refine lv_iload_n hx hb dX4_refusedOrder_2 rfl (lv_at hl 0 rfl) ?_
      refine lv_iconst (v := 2) hx hb dX4_refusedOrder_3 (by decide) ?_
      refine lv_icmp_lt (tgt := 38) hx hb dX4_refusedOrder_4 (by decide) (fun c_4300 => ?_) (fun c_4300 => ?_)
      · exact absurd c_4300 (by decide)
      · skip
        refine lv_aload_n hx hb dX4_refusedOrder_7 rfl (lv_at hl 1 rfl) ?_
        refine g_get C hI c0_ kc23 10 rfl q2577 (fun _ h9 => h9) dX4_refusedOrder_8 ?_
        refine lv_iload_n hx hb dX4_refusedOrder_11 rfl (lv_at hl 0 rfl) ?_
        refine lv_aload_n hx hb dX4_refusedOrder_12 rfl (lv_at hl 1 rfl) ?_
        refine g_get C hI c0_ kc23 11 rfl q2578 (fun _ h9 => h9) dX4_refusedOrder_13 ?_
        refine lv_if_eq (tgt := 30) hx hb dX4_refusedOrder_16 (by decide) (fun c_4301 => ?_) (fun c_4301 => ?_)
        · exact absurd c_4301 c_4267
        · skip
          refine lv_aload_n hx hb dX4_refusedOrder_19 rfl (lv_at hl 1 rfl) ?_
          refine g_get C hI c0_ kc23 10 rfl q2577 (fun _ h9 => h9) dX4_refusedOrder_20 ?_
          refine lv_iload_n hx hb dX4_refusedOrder_23 rfl (lv_at hl 0 rfl) ?_
          refine lv_iconst (v := 2) hx hb dX4_refusedOrder_24 (by decide) ?_
          refine lv_isub hx hb dX4_refusedOrder_25 ?_
          rw [show ((4 : Int32) - 2 : Int32) = 2 from by decide]
          refine g_iald (v := .int ((gup y 5 (y 3)) 2)) C hI c1_ (gix nl2 (by omega) (by omega)) (congrArg Value.int (gixv (f := gup y 5 (y 3)) nl2 (by omega))) dX4_refusedOrder_26 ?_
          refine lv_goto (tgt := 31) hx hb dX4_refusedOrder_27 (by decide) ?_
          refine g_iast C hI hS c1_ (by omega) (gix nl4 (by omega) (by omega)) dX4_refusedOrder_31 (fun G4302 H locs e4303 hI hS => ?_)
          rw [gup_e nl4 (by omega)] at e4303
          have c0_ := gE_k e4303 c0_ (g_no c0_ c1_)
          have c1_ : G4302 awy = some (aI 6 (gup (gup y 5 (y 3)) 4 ((gup y 5 (y 3)) 2))) := gE_s e4303
          have hF := gE_F e4303 hF (Or.inr rfl)
          refine lv_iinc (v := 3) (lv' := [(2, .int 3), (0, .ref mm), (1, .int a1)]) hx hb dX4_refusedOrder_32 hl (k := 0) rfl (by first | rfl | decide) (by decide) rfl (fun ls hl => ?_)
          refine lv_goto (tgt := 2) hx hb dX4_refusedOrder_35 (by decide) ?_
          refine lv_iload_n hx hb dX4_refusedOrder_2 rfl (lv_at hl 0 rfl) ?_
          refine lv_iconst (v := 2) hx hb dX4_refusedOrder_3 (by decide) ?_
          refine lv_icmp_lt (tgt := 38) hx hb dX4_refusedOrder_4 (by decide) (fun c_4305 => ?_) (fun c_4305 => ?_)
          · exact absurd c_4305 (by decide)
          · skip
            refine lv_aload_n hx hb dX4_refusedOrder_7 rfl (lv_at hl 1 rfl) ?_
            refine g_get C hI c0_ kc23 10 rfl q2577 (fun _ h9 => h9) dX4_refusedOrder_8 ?_
            refine lv_iload_n hx hb dX4_refusedOrder_11 rfl (lv_at hl 0 rfl) ?_
            refine lv_aload_n hx hb dX4_refusedOrder_12 rfl (lv_at hl 1 rfl) ?_
            refine g_get C hI c0_ kc23 11 rfl q2578 (fun _ h9 => h9) dX4_refusedOrder_13 ?_
            refine lv_if_eq (tgt := 30) hx hb dX4_refusedOrder_16 (by decide) (fun c_4306 => ?_) (fun c_4306 => ?_)
            · exact absurd c_4306 c_4301
            · skip
              refine lv_aload_n hx hb dX4_refusedOrder_19 rfl (lv_at hl 1 rfl) ?_
              refine g_get C hI c0_ kc23 10 rfl q2577 (fun _ h9 => h9) dX4_refusedOrder_20 ?_
              refine lv_iload_n hx hb dX4_refusedOrder_23 rfl (lv_at hl 0 rfl) ?_
              refine lv_iconst (v := 2) hx hb dX4_refusedOrder_24 (by decide) ?_
              refine lv_isub hx hb dX4_refusedOrder_25 ?_
              rw [show ((3 : Int32) - 2 : Int32) = 1 from by decide]
              refine g_iald (v := .int ((gup (gup y 5 (y 3)) 4 ((gup y 5 (y 3)) 2)) 1)) C hI c1_ (gix nl1 (by omega) (by omega)) (congrArg Value.int (gixv (f := gup (gup y 5 (y 3)) 4 ((gup y 5 (y 3)) 2)) nl1 (by omega))) dX4_refusedOrder_26 ?_
              refine lv_goto (tgt := 31) hx hb dX4_refusedOrder_27 (by decide) ?_
              refine g_iast C hI hS c1_ (by omega) (gix nl3 (by omega) (by omega)) dX4_refusedOrder_31 (fun G4307 H locs e4308 hI hS => ?_)
              rw [gup_e nl3 (by omega)] at e4308
              have c0_ := gE_k e4308 c0_ (g_no c0_ c1_)
              have c1_ : G4307 awy = some (aI 6 (gup (gup (gup y 5 (y 3)) 4 ((gup y 5 (y 3)) 2)) 3 ((gup (gup y 5 (y 3)) 4 ((gup y 5 (y 3)) 2)) 1))) := gE_s e4308
              have hF := gE_F e4308 hF (Or.inr rfl)
              refine lv_iinc (v := 2) (lv' := [(2, .int 2), (0, .ref mm), (1, .int a1)]) hx hb dX4_refusedOrder_32 hl (k := 0) rfl (by first | rfl | decide) (by decide) rfl (fun ls hl => ?_)
              refine lv_goto (tgt := 2) hx hb dX4_refusedOrder_35 (by decide) ?_
              refine lv_iload_n hx hb dX4_refusedOrder_2 rfl (lv_at hl 0 rfl) ?_
              refine lv_iconst (v := 2) hx hb dX4_refusedOrder_3 (by decide) ?_
              refine lv_icmp_lt (tgt := 38) hx hb dX4_refusedOrder_4 (by decide) (fun c_4310 => ?_) (fun c_4310 => ?_)
              · exact absurd c_4310 (by decide)
              · skip
                refine lv_aload_n hx hb dX4_refusedOrder_7 rfl (lv_at hl 1 rfl) ?_
                refine g_get C hI c0_ kc23 10 rfl q2577 (fun _ h9 => h9) dX4_refusedOrder_8 ?_
                refine lv_iload_n hx hb dX4_refusedOrder_11 rfl (lv_at hl 0 rfl) ?_
                refine lv_aload_n hx hb dX4_refusedOrder_12 rfl (lv_at hl 1 rfl) ?_
                refine g_get C hI c0_ kc23 11 rfl q2578 (fun _ h9 => h9) dX4_refusedOrder_13 ?_
                refine lv_if_eq (tgt := 30) hx hb dX4_refusedOrder_16 (by decide) (fun c_4311 => ?_) (fun c_4311 => ?_)
                · exact absurd c_4311 c_4306
                · skip
                  refine lv_aload_n hx hb dX4_refusedOrder_19 rfl (lv_at hl 1 rfl) ?_
                  refine g_get C hI c0_ kc23 10 rfl q2577 (fun _ h9 => h9) dX4_refusedOrder_20 ?_
                  refine lv_iload_n hx hb dX4_refusedOrder_23 rfl (lv_at hl 0 rfl) ?_
                  refine lv_iconst (v := 2) hx hb dX4_refusedOrder_24 (by decide) ?_
                  refine lv_isub hx hb dX4_refusedOrder_25 ?_
                  rw [show ((2 : Int32) - 2 : Int32) = 0 from by decide]
                  refine g_iald (v := .int ((gup (gup (gup y 5 (y 3)) 4 ((gup y 5 (y 3)) 2)) 3 ((gup (gup y 5 (y 3)) 4 ((gup y 5 (y 3)) 2)) 1)) 0)) C hI c1_ (gix nl0 (by omega) (by omega)) (congrArg Value.int (gixv (f := gup (gup (gup y 5 (y 3)) 4 ((gup y 5 (y 3)) 2)) 3 ((gup (gup y 5 (y 3)) 4 ((gup y 5 (y 3)) 2)) 1)) nl0 (by omega))) dX4_refusedOrder_26 ?_
                  refine lv_goto (tgt := 31) hx hb dX4_refusedOrder_27 (by decide) ?_
                  refine g_iast C hI hS c1_ (by omega) (gix nl2 (by omega) (by omega)) dX4_refusedOrder_31 (fun G4312 H locs e4313 hI hS => ?_)
                  rw [gup_e nl2 (by omega)] at e4313
                  have c0_ := gE_k e4313 c0_ (g_no c0_ c1_)
                  have c1_ : G4312 awy = some (aI 6 (gup (gup (gup (gup y 5 (y 3)) 4 ((gup y 5 (y 3)) 2)) 3 ((gup (gup y 5 (y 3)) 4 ((gup y 5 (y 3)) 2)) 1)) 2 ((gup (gup (gup y 5 (y 3)) 4 ((gup y 5 (y 3)) 2)) 3 ((gup (gup y 5 (y 3)) 4 ((gup y 5 (y 3)) 2)) 1)) 0))) := gE_s e4313
                  have hF := gE_F e4313 hF (Or.inr rfl)
                  refine lv_iinc (v := 1) (lv' := [(2, .int 1), (0, .ref mm), (1, .int a1)]) hx hb dX4_refusedOrder_32 hl (k := 0) rfl (by first | rfl | decide) (by decide) rfl (fun ls hl => ?_)
                  refine lv_goto (tgt := 2) hx hb dX4_refusedOrder_35 (by decide) ?_
                  refine lv_iload_n hx hb dX4_refusedOrder_2 rfl (lv_at hl 0 rfl) ?_
                  refine lv_iconst (v := 2) hx hb dX4_refusedOrder_3 (by decide) ?_
                  refine lv_icmp_lt (tgt := 38) hx hb dX4_refusedOrder_4 (by decide) (fun c_4315 => ?_) (fun c_4315 => ?_)
                  · skip
                    refine lv_aload_n hx hb dX4_refusedOrder_38 rfl (lv_at hl 1 rfl) ?_
                    refine g_get C hI c0_ kc23 11 rfl q2578 (fun _ h9 => h9) dX4_refusedOrder_39 ?_
                    refine lv_if_ne (tgt := 53) hx hb dX4_refusedOrder_42 (by decide) (fun c_4316 => ?_) (fun c_4316 => ?_)
                    · skip
                      refine lv_aload_n hx hb dX4_refusedOrder_53 rfl (lv_at hl 1 rfl) ?_
                      refine g_get C hI c0_ kc23 10 rfl q2577 (fun _ h9 => h9) dX4_refusedOrder_54 ?_
                      refine lv_iconst (v := 0) hx hb dX4_refusedOrder_57 (by decide) ?_
                      refine lv_bipush (v := 11) hx hb dX4_refusedOrder_58 (by decide) ?_
                      refine g_iast C hI hS c1_ (by omega) (gix nl0 (by omega) (by omega)) dX4_refusedOrder_60 (fun G4317 H locs e4318 hI hS => ?_)
                      rw [gup_e nl0 (by omega)] at e4318
                      have c0_ := gE_k e4318 c0_ (g_no c0_ c1_)
                      have c1_ : G4317 awy = some (aI 6 (gup (gup (gup (gup (gup y 5 (y 3)) 4 ((gup y 5 (y 3)) 2)) 3 ((gup (gup y 5 (y 3)) 4 ((gup y 5 (y 3)) 2)) 1)) 2 ((gup (gup (gup y 5 (y 3)) 4 ((gup y 5 (y 3)) 2)) 3 ((gup (gup y 5 (y 3)) 4 ((gup y 5 (y 3)) 2)) 1)) 0)) 0 11)) := gE_s e4318
                      have hF := gE_F e4318 hF (Or.inr rfl)
                      refine lv_aload_n hx hb dX4_refusedOrder_61 rfl (lv_at hl 1 rfl) ?_
                      refine g_get C hI c0_ kc23 10 rfl q2577 (fun _ h9 => h9) dX4_refusedOrder_62 ?_
                      refine lv_iconst (v := 1) hx hb dX4_refusedOrder_65 (by decide) ?_
                      refine lv_iload_n hx hb dX4_refusedOrder_66 rfl (lv_at hl 2 rfl) ?_
                      refine g_iast C hI hS c1_ (by omega) (gix nl1 (by omega) (by omega)) dX4_refusedOrder_67 (fun G4320 H locs e4321 hI hS => ?_)
                      rw [gup_e nl1 (by omega)] at e4321
                      have c0_ := gE_k e4321 c0_ (g_no c0_ c1_)
                      have c1_ : G4320 awy = some (aI 6 (gup (gup (gup (gup (gup (gup y 5 (y 3)) 4 ((gup y 5 (y 3)) 2)) 3 ((gup (gup y 5 (y 3)) 4 ((gup y 5 (y 3)) 2)) 1)) 2 ((gup (gup (gup y 5 (y 3)) 4 ((gup y 5 (y 3)) 2)) 3 ((gup (gup y 5 (y 3)) 4 ((gup y 5 (y 3)) 2)) 1)) 0)) 0 11) 1 a1)) := gE_s e4321
                      have hF := gE_F e4321 hF (Or.inr rfl)
                      exact g_vret C hI hS (by omega) ⟨rfl, (by omega), hF, (by rw [show sRO ir y a1 = gup (gup (gup (gup (gup (gup y 5 (y 3)) 4 ((gup y 5 (y 3)) 2)) 3 ((gup (gup y 5 (y 3)) 4 ((gup y 5 (y 3)) 2)) 1)) 2 ((gup (gup (gup y 5 (y 3)) 4 ((gup y 5 (y 3)) 2)) 3 ((gup (gup y 5 (y 3)) 4 ((gup y 5 (y 3)) 2)) 1)) 0)) 0 11) 1 a1 from by unfold sRO; simp [c_4266, c_4267, c_4300, c_4301, c_4305, c_4306, c_4310, c_4311, c_4315, c_4316]]; exact c1_)⟩ dX4_refusedOrder_68
                    · exact absurd c_4316 c_4311
                  · exact absurd (by decide) c_4315
set_option maxHeartbeats 4000000 in
set_option maxRecDepth 100000 in
theorem c_X4_read (l : Launch) {D : gD} (hB : gBs D) (G : gH) (n : Nat) (mm : Nat) (ag : Nat) (ab : Nat) (ah : Nat) (ch : Int32) (asv : Nat) (hs : Int32) (aas : Nat) (ain : Nat) (ty : Int32) (er : Int32) (awy : Nat) (ir : Int32) (ali : Nat) (ln : Int32) (th : Int32) (pl : Int32) (wr : Int32) (ato : Nat) (f : Nat → Int32) (f0 : Nat → Int32) (h : Nat → Int32) (y : Nat → Int32) (tv : Nat → Int32) (tc : Nat → Nat) (tn : Nat) (cn : Nat) (nb : Nat) (ns : Nat) (c0_ : G mm = some (.inl (23, [.ref ag, .ref ab, .ref ah, .int ch, .ref asv, .int hs, .ref aas, .ref ain, .int ty, .int er, .ref awy, .int ir, .ref ali, .int ln, .int th, .int pl, .int wr, .ref ato]))) (c1_ : G ag = some (aI 112 f)) (c2_ : G ab = some (aI 112 f0)) (c3_ : G ah = some (aI 896 h)) (c4_ : G ain = some (aC 60 (fun k => nI (tc k)))) (c5_ : G awy = some (aI 6 y)) (c6_ : G ato = some (aI 240 tv)) (hz : gz D ≤ mm) (hzg : gz D ≤ ag) (hzb : gz D ≤ ab) (hzh : gz D ≤ ah) (hzw : gz D ≤ awy) (hzt : gz D ≤ ato) (hne : ag ≠ ab) (hok : rOk nb ns f) (zf0 : rZ f0) (hc : ch = nI cn) (hc8 : cn ≤ 8) (hty : ty = nI tn) (ht60 : tn ≤ 60) : gMet l D yX4_read (ws_ yX4_read cX4_read 4 (some FieldType.int)) 9 0 G n [.ref mm] (fun (v : Option Value) (G1 : gH) (n1 : Nat) => ∃ (th2 : Int32) (ir2 : Int32) (r : Int32) (c2 : Nat) (f2 : Nat → Int32) (f02 : Nat → Int32) (h2 : Nat → Int32) (y2 : Nat → Int32) (er2 : Int32) (pl2 : Int32) (wr2 : Int32) (tv2 : Nat → Int32), v = some (.int r) ∧ n ≤ n1 ∧ gF G G1 n (fun q : Nat => q = mm ∨ q = ag ∨ q = ab ∨ q = ah ∨ q = awy ∨ q = ato) ∧ G1 mm = some (.inl (23, [.ref ag, .ref ab, .ref ah, .int (nI c2), .ref asv, .int hs, .ref aas, .ref ain, .int 0, .int er2, .ref awy, .int ir2, .ref ali, .int ln, .int th2, .int pl2, .int wr2, .ref ato])) ∧ G1 ag = some (aI 112 f2) ∧ G1 ab = some (aI 112 f02) ∧ G1 ah = some (aI 896 h2) ∧ G1 ain = some (aC 60 (fun k => nI (tc k))) ∧ G1 awy = some (aI 6 y2) ∧ G1 ato = some (aI 240 tv2) ∧ rZ f02 ∧ mRead ir er y cn h f (sText tc tn tv) = (th2, ir2, y2, c2, h2, r, f2, er2)) gNox := by
  refine g_start (by decide) (Nat.le_of_ble_eq_true rfl) ?_
  intro p e s m below meth c ls C hnm hxt hI hl
  have hx := C.x
  have hb := C.b
  have hS : va_S (gA D) s.heap s.heap [] := va_S.rf
  have hz0 := hI.z
  have lc0_ := hI.lt c0_
  have lc1_ := hI.lt c1_
  have lc2_ := hI.lt c2_
  have lc3_ := hI.lt c3_
  have lc4_ := hI.lt c4_
  have lc5_ := hI.lt c5_
  have lc6_ := hI.lt c6_
  have hF : gF G G n (fun q : Nat => q = mm ∨ q = ag ∨ q = ab ∨ q = ah ∨ q = awy ∨ q = ato) := gF.rf _ _ _
  have hl : lv_has ls 4 [(0, .ref mm)] := hl
  refine lv_aload_n hx hb dX4_read_0 rfl (lv_at hl 0 rfl) ?_
  refine g_V (As := []) (rest := []) (lv := [(0, .ref mm)]) C hI hS (c_X4_readsText l hB G n mm ag ab ah ch asv hs aas ain ty er awy ir ali ln th pl wr ato tc tn tv c0_ c4_ c6_ (by omega) hty ht60 (by omega)) c0_ rfl rfl q2841 q2843 qs59 q94 q2844 (⟨by decide, by decide, by decide⟩ : gArg _ 0) rfl ⟨by decide, by decide⟩ (by omega) hl rfl (Nat.le_of_ble_eq_true rfl) dX4_read_1 (fun v4323 G4324 n4325 H locs hp4326 hI hS => ?_) gKx.no
  obtain ⟨n2_4327, pl2_4328, wr2_4329, tv2_4330, rfl, hn4331, hF4332, c4333, c4334, hq4335, hle4336, hn4337⟩ := hp4326
  refine W.widen (k := 0) (n := 200 * (0)) (by omega) (by omega) ?_
  have c1_ := hF4332.at c1_ (by omega) (fun h => h.elim (g_on c1_ c0_) (g_na c1_ c6_ (Or.inr (by decide))))
  have c2_ := hF4332.at c2_ (by omega) (fun h => h.elim (g_on c2_ c0_) (g_na c2_ c6_ (Or.inr (by decide))))
  have c3_ := hF4332.at c3_ (by omega) (fun h => h.elim (g_on c3_ c0_) (g_na c3_ c6_ (Or.inr (by decide))))
  have c4_ := hF4332.at c4_ (by omega) (fun h => h.elim (g_on c4_ c0_) (g_na c4_ c6_ (Or.inl (by decide))))
  have c5_ := hF4332.at c5_ (by omega) (fun h => h.elim (g_on c5_ c0_) (g_na c5_ c6_ (Or.inr (by decide))))
  have hF := hF.trans hF4332 (by omega) (fun q hq => (fun h => h.elim (fun h => h ▸ (Or.inl rfl)) (fun h => h ▸ (Or.inr (Or.inr (Or.inr (Or.inr (Or.inr (rfl)))))))))
  refine lv_istore_n (lv' := [(1, .int (nI n2_4327)), (0, .ref mm)]) hx hb dX4_read_4 rfl hl (by decide) rfl (fun ls hl => ?_)
  refine lv_aload_n hx hb dX4_read_5 rfl (lv_at hl 1 rfl) ?_
  refine g_get C hI c4333 kc23 16 rfl q2583 (fun _ h9 => h9) dX4_read_6 ?_
  refine lv_if_eq (tgt := 26) hx hb dX4_read_9 (by decide) (fun c_4338 => ?_) (fun c_4338 => ?_)
  · skip
    refine lv_aload_n hx hb dX4_read_26 rfl (lv_at hl 1 rfl) ?_
    refine g_V (As := []) (rest := []) (lv := [(1, .int (nI n2_4327)), (0, .ref mm)]) C hI hS (c_X4_looksBack l hB G4324 n4325 mm ag ab ah ch asv hs aas ain 0 er awy ir ali ln th (nI pl2_4328) wr2_4329 ato f f0 c4333 c1_ c2_ (by omega) hne hok.z zf0) c4333 rfl rfl q2652 q2654 qs36 q94 q2655 (⟨by decide, by decide, by decide⟩ : gArg _ 0) rfl ⟨by decide, by decide⟩ (by omega) hl rfl (Nat.le_of_ble_eq_true rfl) dX4_read_27 (fun v4339 G4340 n4341 H locs hp4342 hI hS => ?_) gKx.no
    obtain ⟨rfl, hn4343, hF4344, c4345⟩ := hp4342
    refine W.widen (k := 0) (n := 200 * (0)) (by omega) (by omega) ?_
    have c1_ := hF4344.at c1_ (by omega) hne
    have c3_ := hF4344.at c3_ (by omega) (g_na c3_ c2_ (Or.inr (by decide)))
    have c4_ := hF4344.at c4_ (by omega) (g_na c4_ c2_ (Or.inl (by decide)))
    have c5_ := hF4344.at c5_ (by omega) (g_na c5_ c2_ (Or.inr (by decide)))
    have c4333 := hF4344.at c4333 (by omega) (g_no c4333 c2_)
    have c4334 := hF4344.at c4334 (by omega) (g_na c4334 c2_ (Or.inr (by decide)))
    have hF := hF.trans hF4344 (by omega) (fun q hq => (fun h => h ▸ (Or.inr (Or.inr (Or.inl rfl)))))
    refine lv_iconst (v := 0) hx hb dX4_read_30 (by decide) ?_
    refine lv_istore_n (lv' := [(2, .int 0), (1, .int (nI n2_4327)), (0, .ref mm)]) hx hb dX4_read_31 rfl hl (by decide) rfl (fun ls hl => ?_)
    have key4346 : ∀ (r : Nat) (i : Nat) (xi : Int32) (gr : Nat → Int32) (tx : Int32), (i ≤ n2_4327) → (n2_4327 < i + r) → (xi = nI i) → (sGo tv2_4330 (n2_4327 - i) i gr = sGo tv2_4330 n2_4327 0 f) → (rOk nb ns gr) → ∀ (G4347 : gH) (n4348 : Nat) (H : Heap) (locs : List Loc) (ls : Array Slot), G4347 mm = some (.inl (23, [.ref ag, .ref ab, .ref ah, .int ch, .ref asv, .int hs, .ref aas, .ref ain, .int 0, .int er, .ref awy, .int ir, .ref ali, .int ln, .int tx, .int (nI pl2_4328), .int wr2_4329, .ref ato])) → G4347 ag = some (aI 112 gr) → G4347 ab = some (aI 112 f) → G4347 ah = some (aI 896 h) → G4347 ain = some (aC 60 (fun k => nI (tc k))) → G4347 awy = some (aI 6 y) → G4347 ato = some (aI 240 tv2_4330) → n4341 ≤ n4348 → gI D G4347 n4348 H → va_S (gA D) s.heap H locs → gF G G4347 n (fun q : Nat => q = mm ∨ q = ag ∨ q = ab ∨ q = ah ∨ q = awy ∨ q = ato) → lv_has ls 4 [(2, .int xi), (1, .int (nI n2_4327)), (0, .ref mm)] → W p l e (gR 9 0) s m ([.ref mm] : List Value).toArray below meth c H locs (0) (200 * (0)) (gM below D (fun (v : Option Value) (G1 : gH) (n1 : Nat) => ∃ (th2 : Int32) (ir2 : Int32) (r : Int32) (c2 : Nat) (f2 : Nat → Int32) (f02 : Nat → Int32) (h2 : Nat → Int32) (y2 : Nat → Int32) (er2 : Int32) (pl2 : Int32) (wr2 : Int32) (tv2 : Nat → Int32), v = some (.int r) ∧ n ≤ n1 ∧ gF G G1 n (fun q : Nat => q = mm ∨ q = ag ∨ q = ab ∨ q = ah ∨ q = awy ∨ q = ato) ∧ G1 mm = some (.inl (23, [.ref ag, .ref ab, .ref ah, .int (nI c2), .ref asv, .int hs, .ref aas, .ref ain, .int 0, .int er2, .ref awy, .int ir2, .ref ali, .int ln, .int th2, .int pl2, .int wr2, .ref ato])) ∧ G1 ag = some (aI 112 f2) ∧ G1 ab = some (aI 112 f02) ∧ G1 ah = some (aI 896 h2) ∧ G1 ain = some (aC 60 (fun k => nI (tc k))) ∧ G1 awy = some (aI 6 y2) ∧ G1 ato = some (aI 240 tv2) ∧ rZ f02 ∧ mRead ir er y cn h f (sText tc tn tv) = (th2, ir2, y2, c2, h2, r, f2, er2)) gNox ([.ref mm] : List Value).toArray s 0) (F0 m 32 ls []) := by
      intro r
      induction r with
      | zero =>
        intro i xi gr tx hi hr hxi hgo hgk
        exact absurd trivial (fun _ => (by omega))
      | succ r ih4356 =>
        intro i xi gr tx hi hr hxi hgo hgk
        intro G4347 n4348 H locs ls c4349 c4350 c4351 c4352 c4353 c4354 c4355 hn4357 hI hS hF hl
        refine lv_iload_n hx hb dX4_read_32 rfl (lv_at hl 0 rfl) ?_
        refine lv_iload_n hx hb dX4_read_33 rfl (lv_at hl 1 rfl) ?_
        refine lv_icmp_ge (tgt := 74) hx hb dX4_read_34 (by decide) (fun c_4358 => ?_) (fun c_4358 => ?_)
        · skip
          try have k_4359 : n2_4327 ≤ i := (nI_leE rfl hxi (by omega) (by omega)).mp c_4358
          have hie : i = n2_4327 := by omega
          have hgn : sGo tv2_4330 n2_4327 0 f = (n2_4327, sOk 0 gr) := by rw [← hgo, hie, Nat.sub_self]; rfl
          refine lv_aload_n hx hb dX4_read_74 rfl (lv_at hl 2 rfl) ?_
          refine lv_aload_n hx hb dX4_read_75 rfl (lv_at hl 2 rfl) ?_
          refine lv_iload_n hx hb dX4_read_76 rfl (lv_at hl 1 rfl) ?_
          refine g_V (As := [.int (nI n2_4327)]) (rest := [.ref mm]) (lv := [(2, .int xi), (1, .int (nI n2_4327)), (0, .ref mm)]) C hI hS (c_X4_done l hB G4347 n4348 mm ag ab ah ch asv hs aas ain 0 er awy ir ali ln tx (nI pl2_4328) wr2_4329 ato (nI n2_4327) c4349 (by omega)) c4349 rfl rfl q2644 q2646 qs35 q94 q2647 (⟨by decide, by decide, by decide⟩ : gArg _ 1) rfl ⟨by decide, by decide⟩ (by omega) hl rfl (Nat.le_of_ble_eq_true rfl) dX4_read_77 (fun v4360 G4361 n4362 H locs hp4363 hI hS => ?_) gKx.no
          obtain ⟨rfl, hn4364, hF4365, c4366⟩ := hp4363
          refine W.widen (k := 0) (n := 200 * (0)) (by omega) (by omega) ?_
          have c4350 := hF4365.at c4350 (by omega) (g_on c4350 c4349)
          have c4351 := hF4365.at c4351 (by omega) (g_on c4351 c4349)
          have c4352 := hF4365.at c4352 (by omega) (g_on c4352 c4349)
          have c4353 := hF4365.at c4353 (by omega) (g_on c4353 c4349)
          have c4354 := hF4365.at c4354 (by omega) (g_on c4354 c4349)
          have c4355 := hF4365.at c4355 (by omega) (g_on c4355 c4349)
          have hF := hF.trans hF4365 (by omega) (fun q hq => (fun h => h ▸ (Or.inl rfl)))
          refine g_V (As := [.int (nI n2_4327)]) (rest := []) (lv := [(2, .int xi), (1, .int (nI n2_4327)), (0, .ref mm)]) C hI hS (c_X4_kept l hB G4361 n4362 mm ag ab ah ch asv hs aas ain 0 er awy ir ali ln 0 (nI pl2_4328) wr2_4329 ato gr f h cn (nI n2_4327) c4366 c4350 c4351 c4352 (by omega) (by omega) (by omega) (by omega) hne hgk.z hok.z hc hc8) c4366 rfl rfl q2659 q2661 qs37 q94 q2662 (⟨by decide, by decide, by decide⟩ : gArg _ 1) rfl ⟨by decide, by decide⟩ (by omega) hl rfl (Nat.le_of_ble_eq_true rfl) dX4_read_80 (fun v4367 G4368 n4369 H locs hp4370 hI hS => ?_) gKx.no
          obtain ⟨r_4371, f2_4372, c2_4373, h2_4374, rfl, hn4375, hF4376, c4377, c4378, c4379, c4380, hk4381⟩ := hp4370
          refine W.widen (k := 0) (n := 200 * (0)) (by omega) (by omega) ?_
          have c4353 := hF4376.at c4353 (by omega) (fun h => h.elim (g_on c4353 c4366) (fun h => h.elim (g_na c4353 c4350 (Or.inl (by decide))) (g_na c4353 c4352 (Or.inl (by decide)))))
          have c4354 := hF4376.at c4354 (by omega) (fun h => h.elim (g_on c4354 c4366) (fun h => h.elim (g_na c4354 c4350 (Or.inr (by decide))) (g_na c4354 c4352 (Or.inr (by decide)))))
          have c4355 := hF4376.at c4355 (by omega) (fun h => h.elim (g_on c4355 c4366) (fun h => h.elim (g_na c4355 c4350 (Or.inr (by decide))) (g_na c4355 c4352 (Or.inr (by decide)))))
          have hF := hF.trans hF4376 (by omega) (fun q hq => (fun h => h.elim (fun h => h ▸ (Or.inl rfl)) (fun h => h.elim (fun h => h ▸ (Or.inr (Or.inl rfl))) (fun h => h ▸ (Or.inr (Or.inr (Or.inr (Or.inl rfl))))))))
          exact g_iret C hI hS (by omega) ⟨0, ir, r_4371, c2_4373, f2_4372, f, h2_4374, y, er, nI pl2_4328, wr2_4329, tv2_4330, rfl, (by omega), hF, c4377, c4378, c4379, c4380, c4353, c4354, c4355, (by first | exact hok.z | exact zf0), (by rw [hq4335, mRead_y (h := h) (f := f) c_4338 hgn rfl]; simp only [kK, if_true, Prod.mk.injEq] at hk4381; obtain ⟨rfl, rfl, rfl, rfl⟩ := hk4381; rfl)⟩ dX4_read_83
        · skip
          try have k_4382 : ¬ (n2_4327 ≤ i) := (not_congr (nI_leE rfl hxi (by omega) (by omega))).mp c_4358
          refine lv_aload_n hx hb dX4_read_37 rfl (lv_at hl 2 rfl) ?_
          refine lv_iconst (v := 4) hx hb dX4_read_38 (by decide) ?_
          refine lv_iload_n hx hb dX4_read_39 rfl (lv_at hl 0 rfl) ?_
          refine lv_imul hx hb dX4_read_40 ?_
          refine g_V (As := [.int (4 * xi)]) (rest := []) (lv := [(2, .int xi), (1, .int (nI n2_4327)), (0, .ref mm)]) C hI hS (c_X4_does l hB G4347 n4348 mm ag ab ah ch asv hs aas ain 0 er awy ir ali ln tx (nI pl2_4328) wr2_4329 ato gr y nb ns tv2_4330 (4 * i) (4 * xi) c4349 c4350 c4354 c4355 (by omega) (by omega) (by omega) hgk.b hgk.b3 hgk.s hgk.s10 hgk.a (gmul nl4 hxi) (by have := hn4337; omega)) c4349 rfl rfl q2900 q2902 qs69 q94 q2903 (⟨by decide, by decide, by decide⟩ : gArg _ 1) rfl ⟨by decide, by decide⟩ (by omega) hl rfl (Nat.le_of_ble_eq_true rfl) dX4_read_41 (fun v4383 G4384 n4385 H locs hp4386 hI hS => ?_) gKx.no
          obtain ⟨th2_4387, ir2_4388, r_4389, f2_4390, y2_4391, rfl, hn4392, hF4393, c4394, c4395, c4396, hq4397⟩ := hp4386
          refine W.widen (k := 0) (n := 200 * (0)) (by omega) (by omega) ?_
          have c4351 := hF4393.at c4351 (by omega) (fun h => h.elim (g_on c4351 c4349) (fun h => h.elim (Ne.symm hne) (g_na c4351 c4354 (Or.inr (by decide)))))
          have c4352 := hF4393.at c4352 (by omega) (fun h => h.elim (g_on c4352 c4349) (fun h => h.elim (g_na c4352 c4350 (Or.inr (by decide))) (g_na c4352 c4354 (Or.inr (by decide)))))
          have c4353 := hF4393.at c4353 (by omega) (fun h => h.elim (g_on c4353 c4349) (fun h => h.elim (g_na c4353 c4350 (Or.inl (by decide))) (g_na c4353 c4354 (Or.inl (by decide)))))
          have c4355 := hF4393.at c4355 (by omega) (fun h => h.elim (g_on c4355 c4349) (fun h => h.elim (g_na c4355 c4350 (Or.inr (by decide))) (g_na c4355 c4354 (Or.inr (by decide)))))
          have hF := hF.trans hF4393 (by omega) (fun q hq => (fun h => h.elim (fun h => h ▸ (Or.inl rfl)) (fun h => h.elim (fun h => h ▸ (Or.inr (Or.inl rfl))) (fun h => h ▸ (Or.inr (Or.inr (Or.inr (Or.inr (Or.inl rfl)))))))))
          refine lv_istore_n (lv' := [(3, .int r_4389), (2, .int xi), (1, .int (nI n2_4327)), (0, .ref mm)]) hx hb dX4_read_44 rfl hl (by decide) rfl (fun ls hl => ?_)
          refine lv_aload_n hx hb dX4_read_45 rfl (lv_at hl 3 rfl) ?_
          refine g_get C hI c4394 kc23 14 rfl q2581 (fun _ h9 => h9) dX4_read_46 ?_
          refine lv_if_eq (tgt := 68) hx hb dX4_read_49 (by decide) (fun c_4398 => ?_) (fun c_4398 => ?_)
          · skip
            refine lv_iinc (v := xi + 1) (lv' := [(2, .int (xi + 1)), (3, .int r_4389), (1, .int (nI n2_4327)), (0, .ref mm)]) hx hb dX4_read_68 hl (k := 1) rfl (by first | rfl | decide) (by decide) rfl (fun ls hl => ?_)
            refine lv_goto (tgt := 32) hx hb dX4_read_71 (by decide) ?_
            obtain ⟨hx1, hx2, hx3, hx4⟩ := mR_0 (by split <;> decide) hq4397 (by assumption)
            subst hx2 hx3 hx4
            exact ih4356 (i + 1) (xi + 1) (oF (sDo gr tv2_4330 (4 * i))) th2_4387 (by omega) (by omega) (gadd hxi nl1) (by rw [← hgo, show n2_4327 - i = (n2_4327 - (i + 1)) + 1 by omega]; unfold sGo; rw [if_pos hx1]; cases n2_4327 - (i + 1) <;> rfl) (sDo_ok hgk _ _) _ _ _ _ _ c4394 c4395 c4351 c4352 c4353 c4396 c4355 (by omega) hI hS hF (lv_sub hl [0, 2, 3] rfl)
          · skip
            obtain ⟨hx1, hx2, hx3, hx4⟩ := mR_n hq4397 c_4398
            have hgn : sGo tv2_4330 n2_4327 0 f = (i, sDo gr tv2_4330 (4 * i)) := by rw [← hgo, show n2_4327 - i = (n2_4327 - (i + 1)) + 1 by omega]; unfold sGo; rw [if_neg hx1]
            have hgo2 : ¬ ((i, sDo gr tv2_4330 (4 * i)) : Nat × sO).2.1 = 0 := hx1
            have hgo := hgo2
            rw [hx4] at c4395
            refine lv_aload_n hx hb dX4_read_52 rfl (lv_at hl 3 rfl) ?_
            refine lv_iload_n hx hb dX4_read_53 rfl (lv_at hl 1 rfl) ?_
            refine g_V (As := [.int xi]) (rest := []) (lv := [(3, .int r_4389), (2, .int xi), (1, .int (nI n2_4327)), (0, .ref mm)]) C hI hS (c_X4_refusedOrder l hB G4384 n4385 mm ag ab ah ch asv hs aas ain 0 er awy ir2_4388 ali ln th2_4387 (nI pl2_4328) wr2_4329 ato y2_4391 xi c4394 c4396 (by omega)) c4394 rfl rfl q2904 q2906 qs70 q94 q2907 (⟨by decide, by decide, by decide⟩ : gArg _ 1) rfl ⟨by decide, by decide⟩ (by omega) hl rfl (Nat.le_of_ble_eq_true rfl) dX4_read_54 (fun v4399 G4400 n4401 H locs hp4402 hI hS => ?_) gKx.no
            obtain ⟨rfl, hn4403, hF4404, c4405⟩ := hp4402
            refine W.widen (k := 0) (n := 200 * (0)) (by omega) (by omega) ?_
            have c4351 := hF4404.at c4351 (by omega) (g_na c4351 c4396 (Or.inr (by decide)))
            have c4352 := hF4404.at c4352 (by omega) (g_na c4352 c4396 (Or.inr (by decide)))
            have c4353 := hF4404.at c4353 (by omega) (g_na c4353 c4396 (Or.inl (by decide)))
            have c4355 := hF4404.at c4355 (by omega) (g_na c4355 c4396 (Or.inr (by decide)))
            have c4394 := hF4404.at c4394 (by omega) (g_no c4394 c4396)
            have c4395 := hF4404.at c4395 (by omega) (g_na c4395 c4396 (Or.inr (by decide)))
            have hF := hF.trans hF4404 (by omega) (fun q hq => (fun h => h ▸ (Or.inr (Or.inr (Or.inr (Or.inr (Or.inl rfl)))))))
            refine lv_aload_n hx hb dX4_read_57 rfl (lv_at hl 3 rfl) ?_
            refine lv_iconst (v := 2) hx hb dX4_read_58 (by decide) ?_
            refine g_put (fs2 := [.ref ag, .ref ab, .ref ah, .int ch, .ref asv, .int hs, .ref aas, .ref ain, .int 0, .int er, .ref awy, .int ir2_4388, .ref ali, .int ln, .int 2, .int (nI pl2_4328), .int wr2_4329, .ref ato]) C hI hS c4394 (by omega) kc23 14 (Nat.le_of_ble_eq_true rfl) q2581 (fun _ h9 => h9) rfl rfl rfl rfl dX4_read_59 (fun G4406 H locs e4407 hI hS => ?_)
            have c4351 := gE_k e4407 c4351 (g_on c4351 c4394)
            have c4352 := gE_k e4407 c4352 (g_on c4352 c4394)
            have c4353 := gE_k e4407 c4353 (g_on c4353 c4394)
            have c4355 := gE_k e4407 c4355 (g_on c4355 c4394)
            have c4395 := gE_k e4407 c4395 (g_on c4395 c4394)
            have c4405 := gE_k e4407 c4405 (g_on c4405 c4394)
            have c4394 : G4406 mm = some (.inl (23, [.ref ag, .ref ab, .ref ah, .int ch, .ref asv, .int hs, .ref aas, .ref ain, .int 0, .int er, .ref awy, .int ir2_4388, .ref ali, .int ln, .int 2, .int (nI pl2_4328), .int wr2_4329, .ref ato])) := gE_s e4407
            have hF := gE_F e4407 hF (Or.inr (Or.inl rfl))
            refine lv_aload_n hx hb dX4_read_62 rfl (lv_at hl 3 rfl) ?_
            refine lv_iconst (v := 0) hx hb dX4_read_63 (by decide) ?_
            refine g_V (As := [.int 0]) (rest := []) (lv := [(3, .int r_4389), (2, .int xi), (1, .int (nI n2_4327)), (0, .ref mm)]) C hI hS (c_X4_kept l hB G4406 n4401 mm ag ab ah ch asv hs aas ain 0 er awy ir2_4388 ali ln 2 (nI pl2_4328) wr2_4329 ato gr f h cn 0 c4394 c4395 c4351 c4352 (by omega) (by omega) (by omega) (by omega) hne hgk.z hok.z hc hc8) c4394 rfl rfl q2659 q2661 qs37 q94 q2662 (⟨by decide, by decide, by decide⟩ : gArg _ 1) rfl ⟨by decide, by decide⟩ (by omega) hl rfl (Nat.le_of_ble_eq_true rfl) dX4_read_64 (fun v4408 G4409 n4410 H locs hp4411 hI hS => ?_) gKx.no
            obtain ⟨r_4412, f2_4413, c2_4414, h2_4415, rfl, hn4416, hF4417, c4418, c4419, c4420, c4421, hk4422⟩ := hp4411
            refine W.widen (k := 0) (n := 200 * (0)) (by omega) (by omega) ?_
            have c4353 := hF4417.at c4353 (by omega) (fun h => h.elim (g_on c4353 c4394) (fun h => h.elim (g_na c4353 c4395 (Or.inl (by decide))) (g_na c4353 c4352 (Or.inl (by decide)))))
            have c4355 := hF4417.at c4355 (by omega) (fun h => h.elim (g_on c4355 c4394) (fun h => h.elim (g_na c4355 c4395 (Or.inr (by decide))) (g_na c4355 c4352 (Or.inr (by decide)))))
            have c4405 := hF4417.at c4405 (by omega) (fun h => h.elim (g_on c4405 c4394) (fun h => h.elim (g_na c4405 c4395 (Or.inr (by decide))) (g_na c4405 c4352 (Or.inr (by decide)))))
            have hF := hF.trans hF4417 (by omega) (fun q hq => (fun h => h.elim (fun h => h ▸ (Or.inl rfl)) (fun h => h.elim (fun h => h ▸ (Or.inr (Or.inl rfl))) (fun h => h ▸ (Or.inr (Or.inr (Or.inr (Or.inl rfl))))))))
            exact g_iret C hI hS (by omega) ⟨2, ir2_4388, r_4412, c2_4414, f2_4413, f, h2_4415, sRO ir2_4388 y2_4391 xi, er, nI pl2_4328, wr2_4329, tv2_4330, rfl, (by omega), hF, c4418, c4419, c4420, c4421, c4353, c4405, c4355, (by first | exact hok.z | exact zf0), (by rw [hq4335, mRead_n (h := h) (f := f) c_4338 hgn hgo]; simp only [kK, if_neg (by decide : ¬ (2 : Int32) = 0), Prod.mk.injEq] at hk4422; obtain ⟨rfl, rfl, rfl, rfl⟩ := hk4422; rw [hx2, hx3, hxi])⟩ dX4_read_67
    exact key4346 (n2_4327 + 1) 0 0 f th (by omega) (by omega) nl0 (by rw [Nat.sub_zero]) hok _ _ _ _ _ c4333 c1_ c4345 c3_ c4_ c5_ c4334 (Nat.le_refl _) hI hS hF (lv_sub hl [0, 1, 2] rfl)
  · skip
    refine lv_aload_n hx hb dX4_read_12 rfl (lv_at hl 1 rfl) ?_
    refine lv_aload_n hx hb dX4_read_13 rfl (lv_at hl 1 rfl) ?_
    refine g_get C hI c4333 kc23 15 rfl q2582 (fun _ h9 => h9) dX4_read_14 ?_
    refine g_put (fs2 := [.ref ag, .ref ab, .ref ah, .int ch, .ref asv, .int hs, .ref aas, .ref ain, .int 0, .int (nI pl2_4328), .ref awy, .int ir, .ref ali, .int ln, .int th, .int (nI pl2_4328), .int wr2_4329, .ref ato]) C hI hS c4333 (by omega) kc23 9 (Nat.le_of_ble_eq_true rfl) q2576 (fun _ h9 => h9) rfl rfl rfl rfl dX4_read_17 (fun G4423 H locs e4424 hI hS => ?_)
    have c1_ := gE_k e4424 c1_ (g_on c1_ c4333)
    have c2_ := gE_k e4424 c2_ (g_on c2_ c4333)
    have c3_ := gE_k e4424 c3_ (g_on c3_ c4333)
    have c4_ := gE_k e4424 c4_ (g_on c4_ c4333)
    have c5_ := gE_k e4424 c5_ (g_on c5_ c4333)
    have c4334 := gE_k e4424 c4334 (g_on c4334 c4333)
    have c4333 : G4423 mm = some (.inl (23, [.ref ag, .ref ab, .ref ah, .int ch, .ref asv, .int hs, .ref aas, .ref ain, .int 0, .int (nI pl2_4328), .ref awy, .int ir, .ref ali, .int ln, .int th, .int (nI pl2_4328), .int wr2_4329, .ref ato])) := gE_s e4424
    have hF := gE_F e4424 hF (Or.inr (Or.inl rfl))
    refine lv_aload_n hx hb dX4_read_20 rfl (lv_at hl 1 rfl) ?_
    refine lv_iconst (v := 1) hx hb dX4_read_21 (by decide) ?_
    refine g_V (As := [.int 1]) (rest := []) (lv := [(1, .int (nI n2_4327)), (0, .ref mm)]) C hI hS (c_X4_fails l hB G4423 n4325 mm ag ab ah ch asv hs aas ain 0 (nI pl2_4328) awy ir ali ln th (nI pl2_4328) wr2_4329 ato 1 c4333 (by omega)) c4333 rfl rfl q2637 q2639 qs34 q94 q2640 (⟨by decide, by decide, by decide⟩ : gArg _ 1) rfl ⟨by decide, by decide⟩ (by omega) hl rfl (Nat.le_of_ble_eq_true rfl) dX4_read_22 (fun v4425 G4426 n4427 H locs hp4428 hI hS => ?_) gKx.no
    obtain ⟨rfl, hn4429, hF4430, c4431⟩ := hp4428
    refine W.widen (k := 0) (n := 200 * (0)) (by omega) (by omega) ?_
    have c1_ := hF4430.at c1_ (by omega) (g_on c1_ c4333)
    have c2_ := hF4430.at c2_ (by omega) (g_on c2_ c4333)
    have c3_ := hF4430.at c3_ (by omega) (g_on c3_ c4333)
    have c4_ := hF4430.at c4_ (by omega) (g_on c4_ c4333)
    have c5_ := hF4430.at c5_ (by omega) (g_on c5_ c4333)
    have c4334 := hF4430.at c4334 (by omega) (g_on c4334 c4333)
    have hF := hF.trans hF4430 (by omega) (fun q hq => (fun h => h ▸ (Or.inl rfl)))
    exact g_iret C hI hS (by omega) ⟨1, 0, 0, cn, f, f0, h, y, nI pl2_4328, nI pl2_4328, wr2_4329, tv2_4330, rfl, (by omega), hF, (by rw [← hc]; exact c4431), c1_, c2_, c3_, c4_, c5_, c4334, (by first | exact hok.z | exact zf0), (by rw [hq4335]; exact mRead_w c_4338)⟩ dX4_read_25
