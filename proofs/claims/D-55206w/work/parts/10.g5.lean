/-! THE G-LAYER 5: small lemmas for printed walks; the tables' facts by name -/
set_option maxRecDepth 100000
theorem gE_s {G G1 : gH} {a : Nat} {o : gE} (e : G1 = gu G a o) : G1 a = some o := by rw [e]; exact gu_s _ _ _
theorem gE_k {G G1 : gH} {a q : Nat} {o z : gE} (e : G1 = gu G a o) (h : G q = some z) (hn : q ≠ a) : G1 q = some z := by rw [e]; exact gu_k h hn
theorem gE_F {G0 G G1 : gH} {k a : Nat} {o : gE} {ms : Nat → Prop} (e : G1 = gu G a o) (h : gF G0 G k ms) (ha : k ≤ a ∨ ms a) : gF G0 G1 k ms := by rw [e]; exact h.put ha
/-- an index: its place, and that it is in range -/
theorem gix {i : Int32} {k N : Nat} (h : i = nI k) (hk : k < N) (hN : N < 2 ^ 31) : vp_in i N := by rw [h]; exact vp_in_nI hk hN
theorem gixv {α : Type} {i : Int32} {k : Nat} {f : Nat → α} (h : i = nI k) (hN : k < 2 ^ 31) : f i.toNatClampNeg = f k := by rw [h, nI_clamp hN]
theorem gadd {x y : Int32} {a b : Nat} (h : x = nI a) (k : y = nI b) : x + y = nI (a + b) := by rw [h, k, nI_add]
theorem gmul {x y : Int32} {a b : Nat} (h : x = nI a) (k : y = nI b) : x * y = nI (a * b) := by rw [h, k, pk_mul]
theorem gsub {x y : Int32} {a b : Nat} (h : x = nI a) (k : y = nI b) (hb : b ≤ a) : x - y = nI (a - b) := by rw [h, k, pk_sub hb]
theorem gup_e {α : Type} {f : Nat → α} {i : Int32} {k : Nat} {v : α} (h : i = nI k) (hN : k < 2 ^ 31) : gup f i.toNatClampNeg v = gup f k v := by rw [h, nI_clamp hN]
theorem nl0 : (0 : Int32) = nI 0 := rfl
theorem nl1 : (1 : Int32) = nI 1 := rfl
theorem nl2 : (2 : Int32) = nI 2 := rfl
theorem nl3 : (3 : Int32) = nI 3 := rfl
theorem nl4 : (4 : Int32) = nI 4 := rfl
theorem nl5 : (5 : Int32) = nI 5 := rfl
theorem nl6 : (6 : Int32) = nI 6 := rfl
theorem nl7 : (7 : Int32) = nI 7 := rfl
theorem nl8 : (8 : Int32) = nI 8 := rfl
theorem nl9 : (9 : Int32) = nI 9 := rfl
theorem nl10 : (10 : Int32) = nI 10 := rfl
theorem nl11 : (11 : Int32) = nI 11 := rfl
theorem nl12 : (12 : Int32) = nI 12 := rfl
theorem nl13 : (13 : Int32) = nI 13 := rfl
theorem nl14 : (14 : Int32) = nI 14 := rfl
theorem nl15 : (15 : Int32) = nI 15 := rfl
theorem nl16 : (16 : Int32) = nI 16 := rfl
theorem nl17 : (17 : Int32) = nI 17 := rfl
theorem nl18 : (18 : Int32) = nI 18 := rfl
theorem nl19 : (19 : Int32) = nI 19 := rfl
theorem nl20 : (20 : Int32) = nI 20 := rfl
theorem nl21 : (21 : Int32) = nI 21 := rfl
theorem nl22 : (22 : Int32) = nI 22 := rfl
theorem nl23 : (23 : Int32) = nI 23 := rfl
theorem nl24 : (24 : Int32) = nI 24 := rfl
theorem nl25 : (25 : Int32) = nI 25 := rfl
theorem nl26 : (26 : Int32) = nI 26 := rfl
theorem nl27 : (27 : Int32) = nI 27 := rfl
theorem nl28 : (28 : Int32) = nI 28 := rfl
theorem nl29 : (29 : Int32) = nI 29 := rfl
theorem nl30 : (30 : Int32) = nI 30 := rfl
theorem nl31 : (31 : Int32) = nI 31 := rfl
theorem nl32 : (32 : Int32) = nI 32 := rfl
theorem nl33 : (33 : Int32) = nI 33 := rfl
theorem nl34 : (34 : Int32) = nI 34 := rfl
theorem nl35 : (35 : Int32) = nI 35 := rfl
theorem nl36 : (36 : Int32) = nI 36 := rfl
theorem nl37 : (37 : Int32) = nI 37 := rfl
theorem nl38 : (38 : Int32) = nI 38 := rfl
theorem nl39 : (39 : Int32) = nI 39 := rfl
theorem nl40 : (40 : Int32) = nI 40 := rfl
theorem nl41 : (41 : Int32) = nI 41 := rfl
theorem nl42 : (42 : Int32) = nI 42 := rfl
theorem nl43 : (43 : Int32) = nI 43 := rfl
theorem nl44 : (44 : Int32) = nI 44 := rfl
theorem nl45 : (45 : Int32) = nI 45 := rfl
theorem nl46 : (46 : Int32) = nI 46 := rfl
theorem nl47 : (47 : Int32) = nI 47 := rfl
theorem nl48 : (48 : Int32) = nI 48 := rfl
theorem nl49 : (49 : Int32) = nI 49 := rfl
theorem nl50 : (50 : Int32) = nI 50 := rfl
theorem nl51 : (51 : Int32) = nI 51 := rfl
theorem nl52 : (52 : Int32) = nI 52 := rfl
theorem nl53 : (53 : Int32) = nI 53 := rfl
theorem nl54 : (54 : Int32) = nI 54 := rfl
theorem nl55 : (55 : Int32) = nI 55 := rfl
theorem nl56 : (56 : Int32) = nI 56 := rfl
theorem nl57 : (57 : Int32) = nI 57 := rfl
theorem nl58 : (58 : Int32) = nI 58 := rfl
theorem nl59 : (59 : Int32) = nI 59 := rfl
theorem nl60 : (60 : Int32) = nI 60 := rfl
theorem nl61 : (61 : Int32) = nI 61 := rfl
theorem nl62 : (62 : Int32) = nI 62 := rfl
theorem nl63 : (63 : Int32) = nI 63 := rfl
theorem nl64 : (64 : Int32) = nI 64 := rfl
theorem nl65 : (65 : Int32) = nI 65 := rfl
theorem nl66 : (66 : Int32) = nI 66 := rfl
theorem nl67 : (67 : Int32) = nI 67 := rfl
theorem nl68 : (68 : Int32) = nI 68 := rfl
theorem nl69 : (69 : Int32) = nI 69 := rfl
theorem nl70 : (70 : Int32) = nI 70 := rfl
theorem nl71 : (71 : Int32) = nI 71 := rfl
theorem nl72 : (72 : Int32) = nI 72 := rfl
theorem nl73 : (73 : Int32) = nI 73 := rfl
theorem nl74 : (74 : Int32) = nI 74 := rfl
theorem nl75 : (75 : Int32) = nI 75 := rfl
theorem nl76 : (76 : Int32) = nI 76 := rfl
theorem nl77 : (77 : Int32) = nI 77 := rfl
theorem nl78 : (78 : Int32) = nI 78 := rfl
theorem nl79 : (79 : Int32) = nI 79 := rfl
theorem nl80 : (80 : Int32) = nI 80 := rfl
theorem nl81 : (81 : Int32) = nI 81 := rfl
theorem nl82 : (82 : Int32) = nI 82 := rfl
theorem nl83 : (83 : Int32) = nI 83 := rfl
theorem nl84 : (84 : Int32) = nI 84 := rfl
theorem nl85 : (85 : Int32) = nI 85 := rfl
theorem nl86 : (86 : Int32) = nI 86 := rfl
theorem nl87 : (87 : Int32) = nI 87 := rfl
theorem nl88 : (88 : Int32) = nI 88 := rfl
theorem nl89 : (89 : Int32) = nI 89 := rfl
theorem nl90 : (90 : Int32) = nI 90 := rfl
theorem nl91 : (91 : Int32) = nI 91 := rfl
theorem nl92 : (92 : Int32) = nI 92 := rfl
theorem nl93 : (93 : Int32) = nI 93 := rfl
theorem nl94 : (94 : Int32) = nI 94 := rfl
theorem nl95 : (95 : Int32) = nI 95 := rfl
theorem nl96 : (96 : Int32) = nI 96 := rfl
theorem nl97 : (97 : Int32) = nI 97 := rfl
theorem nl98 : (98 : Int32) = nI 98 := rfl
theorem nl99 : (99 : Int32) = nI 99 := rfl
theorem nl100 : (100 : Int32) = nI 100 := rfl
theorem nl101 : (101 : Int32) = nI 101 := rfl
theorem nl102 : (102 : Int32) = nI 102 := rfl
theorem nl103 : (103 : Int32) = nI 103 := rfl
theorem nl104 : (104 : Int32) = nI 104 := rfl
theorem nl105 : (105 : Int32) = nI 105 := rfl
theorem nl106 : (106 : Int32) = nI 106 := rfl
theorem nl107 : (107 : Int32) = nI 107 := rfl
theorem nl108 : (108 : Int32) = nI 108 := rfl
theorem nl109 : (109 : Int32) = nI 109 := rfl
theorem nl110 : (110 : Int32) = nI 110 := rfl
theorem nl111 : (111 : Int32) = nI 111 := rfl
theorem nl112 : (112 : Int32) = nI 112 := rfl
theorem nl113 : (113 : Int32) = nI 113 := rfl
theorem nl114 : (114 : Int32) = nI 114 := rfl
theorem nl115 : (115 : Int32) = nI 115 := rfl
theorem nl116 : (116 : Int32) = nI 116 := rfl
theorem nl117 : (117 : Int32) = nI 117 := rfl
theorem nl118 : (118 : Int32) = nI 118 := rfl
theorem nl119 : (119 : Int32) = nI 119 := rfl
theorem nl120 : (120 : Int32) = nI 120 := rfl
theorem nl121 : (121 : Int32) = nI 121 := rfl
theorem nl122 : (122 : Int32) = nI 122 := rfl
theorem nl123 : (123 : Int32) = nI 123 := rfl
theorem nl124 : (124 : Int32) = nI 124 := rfl
theorem nl125 : (125 : Int32) = nI 125 := rfl
theorem nl126 : (126 : Int32) = nI 126 := rfl
theorem nl127 : (127 : Int32) = nI 127 := rfl
theorem nl128 : (128 : Int32) = nI 128 := rfl
theorem nl129 : (129 : Int32) = nI 129 := rfl
theorem nl130 : (130 : Int32) = nI 130 := rfl
theorem nl150 : (150 : Int32) = nI 150 := rfl
theorem nl200 : (200 : Int32) = nI 200 := rfl
theorem nl250 : (250 : Int32) = nI 250 := rfl
theorem nl255 : (255 : Int32) = nI 255 := rfl
theorem nl256 : (256 : Int32) = nI 256 := rfl
theorem nl784 : (784 : Int32) = nI 784 := rfl
theorem nl896 : (896 : Int32) = nI 896 := rfl
theorem nl999 : (999 : Int32) = nI 999 := rfl
theorem nl1000 : (1000 : Int32) = nI 1000 := rfl
theorem kc0 : gCl 0 RX1 TX1 7 tyX1 := ⟨rfl, by decide, in_X1, tyX1_ok, nmX1⟩
theorem kc1 : gCl 1 RX2 TX2 11 tyX2 := ⟨rfl, by decide, in_X2, tyX2_ok, nmX2⟩
theorem kc2 : gCl 2 RX3 TX3 1 tyX3 := ⟨rfl, by decide, in_X3, tyX3_ok, nmX3⟩
theorem kc3 : gCl 3 RX5 TX5 7 tyX5 := ⟨rfl, by decide, in_X5, tyX5_ok, nmX5⟩
theorem kc5 : gCl 5 RX7 TX7 6 tyX7 := ⟨rfl, by decide, in_X7, tyX7_ok, nmX7⟩
theorem kc6 : gCl 6 RX8 TX8 4 tyX8 := ⟨rfl, by decide, in_X8, tyX8_ok, nmX8⟩
theorem kc7 : gCl 7 RX9 TX9 1 tyX9 := ⟨rfl, by decide, in_X9, tyX9_ok, nmX9⟩
theorem kc8 : gCl 8 RX10 TX10 8 tyX10 := ⟨rfl, by decide, in_X10, tyX10_ok, nmX10⟩
theorem kc9 : gCl 9 RX13 TX13 3 tyX13 := ⟨rfl, by decide, in_X13, tyX13_ok, nmX13⟩
theorem kc10 : gCl 10 RX14 TX14 2 tyX14 := ⟨rfl, by decide, in_X14, tyX14_ok, nmX14⟩
theorem kc11 : gCl 11 RX15 TX15 7 tyX15 := ⟨rfl, by decide, in_X15, tyX15_ok, nmX15⟩
theorem kc15 : gCl 15 RJ2 TJ2 3 tyJ2 := ⟨rfl, by decide, in_J2, tyJ2_ok, nmJ2⟩
theorem kc16 : gCl 16 RJ8 TJ8 4 tyJ8 := ⟨rfl, by decide, in_J8, tyJ8_ok, nmJ8⟩
theorem kc17 : gCl 17 RJ6 TJ6 3 tyJ6 := ⟨rfl, by decide, in_J6, tyJ6_ok, nmJ6⟩
theorem kc18 : gCl 18 RJ24 TJ24 4 tyJ24 := ⟨rfl, by decide, in_J24, tyJ24_ok, nmJ24⟩
theorem kc19 : gCl 19 RJ27 TJ27 5 tyJ27 := ⟨rfl, by decide, in_J27, tyJ27_ok, nmJ27⟩
theorem kc20 : gCl 20 RJ10 TJ10 4 tyJ10 := ⟨rfl, by decide, in_J10, tyJ10_ok, nmJ10⟩
theorem kc21 : gCl 21 RJ11 TJ11 4 tyJ11 := ⟨rfl, by decide, in_J11, tyJ11_ok, nmJ11⟩
theorem kc22 : gCl 22 RJ23 TJ23 1 tyJ23 := ⟨rfl, by decide, in_J23, tyJ23_ok, nmJ23⟩
theorem kc23 : gCl 23 RX4 TX4 18 tyX4 := ⟨rfl, by decide, in_X4, tyX4_ok, nmX4⟩
theorem kc4 : gC[4]? = some (RX6, gT0, 0) := rfl
theorem kc12 : gC[12]? = some (RX16, gT0, 0) := rfl
theorem kc13 : gC[13]? = some (RX17, gT0, 0) := rfl
theorem kc14 : gC[14]? = some (RX18, gT0, 0) := rfl
theorem sr_WhelkFleet_52 (D : gD) : ("WhelkFleet", 52, "", gk D 100) ∈ gSr D := List.mem_of_getElem? (i := 0) rfl
theorem sr_WhelkFleet_161 (D : gD) : ("WhelkFleet", 161, "stock", gk D 101) ∈ gSr D := List.mem_of_getElem? (i := 1) rfl
theorem sr_WhelkFleet_Deed_31 (D : gD) : ("WhelkFleet$Deed", 31, "out", gk D 102) ∈ gSr D := List.mem_of_getElem? (i := 2) rfl
theorem sr_WhelkFleet_Deed_37 (D : gD) : ("WhelkFleet$Deed", 37, "home", gk D 103) ∈ gSr D := List.mem_of_getElem? (i := 3) rfl
theorem sr_WhelkFleet_Deed_41 (D : gD) : ("WhelkFleet$Deed", 41, "shoot", gk D 104) ∈ gSr D := List.mem_of_getElem? (i := 4) rfl
theorem sr_WhelkFleet_Deed_43 (D : gD) : ("WhelkFleet$Deed", 43, "haul", gk D 105) ∈ gSr D := List.mem_of_getElem? (i := 5) rfl
theorem sr_WhelkFleet_Deed_39 (D : gD) : ("WhelkFleet$Deed", 39, "land", gk D 106) ∈ gSr D := List.mem_of_getElem? (i := 6) rfl
theorem sr_WhelkFleet_Deed_71 (D : gD) : ("WhelkFleet$Deed", 71, "swell", gk D 107) ∈ gSr D := List.mem_of_getElem? (i := 7) rfl
theorem sr_WhelkFleet_Deed_45 (D : gD) : ("WhelkFleet$Deed", 45, "riddle", gk D 108) ∈ gSr D := List.mem_of_getElem? (i := 8) rfl
theorem sr_WhelkFleet_Deed_47 (D : gD) : ("WhelkFleet$Deed", 47, "days", gk D 109) ∈ gSr D := List.mem_of_getElem? (i := 9) rfl
theorem sr_WhelkFleet_Deed_104 (D : gD) : ("WhelkFleet$Deed", 104, "boat", gk D 110) ∈ gSr D := List.mem_of_getElem? (i := 10) rfl
theorem sr_WhelkFleet_Deed_106 (D : gD) : ("WhelkFleet$Deed", 106, "string", gk D 111) ∈ gSr D := List.mem_of_getElem? (i := 11) rfl
theorem sr_WhelkFleet_Deed_108 (D : gD) : ("WhelkFleet$Deed", 108, "box", gk D 112) ∈ gSr D := List.mem_of_getElem? (i := 12) rfl
theorem sr_WhelkFleet_170 (D : gD) : ("WhelkFleet", 170, "box", gk D 112) ∈ gSr D := List.mem_of_getElem? (i := 13) rfl
theorem sr_WhelkFleet_183 (D : gD) : ("WhelkFleet", 183, "boat", gk D 110) ∈ gSr D := List.mem_of_getElem? (i := 14) rfl
theorem sr_WhelkFleet_184 (D : gD) : ("WhelkFleet", 184, "string", gk D 111) ∈ gSr D := List.mem_of_getElem? (i := 15) rfl
theorem sr_WhelkFleet_241 (D : gD) : ("WhelkFleet", 241, "out", gk D 102) ∈ gSr D := List.mem_of_getElem? (i := 16) rfl
theorem sr_WhelkFleet_243 (D : gD) : ("WhelkFleet", 243, "home", gk D 103) ∈ gSr D := List.mem_of_getElem? (i := 17) rfl
theorem sr_WhelkFleet_245 (D : gD) : ("WhelkFleet", 245, "shoot", gk D 104) ∈ gSr D := List.mem_of_getElem? (i := 18) rfl
theorem sr_WhelkFleet_247 (D : gD) : ("WhelkFleet", 247, "haul", gk D 105) ∈ gSr D := List.mem_of_getElem? (i := 19) rfl
theorem sr_WhelkFleet_249 (D : gD) : ("WhelkFleet", 249, "land", gk D 106) ∈ gSr D := List.mem_of_getElem? (i := 20) rfl
theorem sr_WhelkFleet_276 (D : gD) : ("WhelkFleet", 276, "swell", gk D 107) ∈ gSr D := List.mem_of_getElem? (i := 21) rfl
theorem sr_WhelkFleet_278 (D : gD) : ("WhelkFleet", 278, "riddle", gk D 108) ∈ gSr D := List.mem_of_getElem? (i := 22) rfl
theorem sr_WhelkFleet_280 (D : gD) : ("WhelkFleet", 280, "days", gk D 109) ∈ gSr D := List.mem_of_getElem? (i := 23) rfl
theorem sr_WhelkFleet_Reader_96 (D : gD) : ("WhelkFleet$Reader", 96, " out home shoot haul land swell riddle days ", gk D 113) ∈ gSr D := List.mem_of_getElem? (i := 24) rfl
theorem sr_WhelkFleet_Reader_57 (D : gD) : ("WhelkFleet$Reader", 57, " ", gk D 114) ∈ gSr D := List.mem_of_getElem? (i := 25) rfl
theorem sr_WhelkFleet_Reader_105 (D : gD) : ("WhelkFleet$Reader", 105, "out", gk D 102) ∈ gSr D := List.mem_of_getElem? (i := 26) rfl
theorem sr_WhelkFleet_Reader_107 (D : gD) : ("WhelkFleet$Reader", 107, "shoot", gk D 104) ∈ gSr D := List.mem_of_getElem? (i := 27) rfl
theorem sr_WhelkFleet_Reader_109 (D : gD) : ("WhelkFleet$Reader", 109, "haul", gk D 105) ∈ gSr D := List.mem_of_getElem? (i := 28) rfl
theorem sr_WhelkFleet_Reader_111 (D : gD) : ("WhelkFleet$Reader", 111, "days", gk D 109) ∈ gSr D := List.mem_of_getElem? (i := 29) rfl
theorem sr_WhelkFleet_Reader_113 (D : gD) : ("WhelkFleet$Reader", 113, " to ", gk D 115) ∈ gSr D := List.mem_of_getElem? (i := 30) rfl
theorem sr_WhelkFleet_Reader_120 (D : gD) : ("WhelkFleet$Reader", 120, " by ", gk D 116) ∈ gSr D := List.mem_of_getElem? (i := 31) rfl
theorem sr_WhelkFleet_Reader_122 (D : gD) : ("WhelkFleet$Reader", 122, " with ", gk D 117) ∈ gSr D := List.mem_of_getElem? (i := 32) rfl
theorem sr_WhelkFleet_Reader_78 (D : gD) : ("WhelkFleet$Reader", 78, " crab fish mixed ", gk D 118) ∈ gSr D := List.mem_of_getElem? (i := 33) rfl
theorem sr_WhelkFleet_Bait_1_13 (D : gD) : ("WhelkFleet$Bait$1", 13, "crab", gk D 119) ∈ gSr D := List.mem_of_getElem? (i := 34) rfl
theorem sr_WhelkFleet_Bait_2_13 (D : gD) : ("WhelkFleet$Bait$2", 13, "fish", gk D 120) ∈ gSr D := List.mem_of_getElem? (i := 35) rfl
theorem sr_WhelkFleet_Bait_3_13 (D : gD) : ("WhelkFleet$Bait$3", 13, "mixed", gk D 121) ∈ gSr D := List.mem_of_getElem? (i := 36) rfl
theorem sr_WhelkFleet_Reader_142 (D : gD) : ("WhelkFleet$Reader", 142, ";", gk D 122) ∈ gSr D := List.mem_of_getElem? (i := 37) rfl
theorem sr_WhelkFleet_345 (D : gD) : ("WhelkFleet", 345, "boat ", gk D 123) ∈ gSr D := List.mem_of_getElem? (i := 38) rfl
theorem sr_WhelkFleet_Boat_46 (D : gD) : ("WhelkFleet$Boat", 46, "at ", gk D 124) ∈ gSr D := List.mem_of_getElem? (i := 39) rfl
theorem sr_WhelkFleet_Boat_61 (D : gD) : ("WhelkFleet$Boat", 61, "home", gk D 103) ∈ gSr D := List.mem_of_getElem? (i := 40) rfl
theorem sr_WhelkFleetModel_157 (D : gD) : ("WhelkFleetModel", 157, "out ", gk D 125) ∈ gSr D := List.mem_of_getElem? (i := 41) rfl
theorem sr_WhelkFleetModel_159 (D : gD) : ("WhelkFleetModel", 159, "home ", gk D 126) ∈ gSr D := List.mem_of_getElem? (i := 42) rfl
theorem sr_WhelkFleetModel_161 (D : gD) : ("WhelkFleetModel", 161, "shoot ", gk D 127) ∈ gSr D := List.mem_of_getElem? (i := 43) rfl
theorem sr_WhelkFleetModel_163 (D : gD) : ("WhelkFleetModel", 163, "haul ", gk D 128) ∈ gSr D := List.mem_of_getElem? (i := 44) rfl
theorem sr_WhelkFleetModel_165 (D : gD) : ("WhelkFleetModel", 165, "land ", gk D 129) ∈ gSr D := List.mem_of_getElem? (i := 45) rfl
theorem sr_WhelkFleetModel_167 (D : gD) : ("WhelkFleetModel", 167, "swell ", gk D 130) ∈ gSr D := List.mem_of_getElem? (i := 46) rfl
theorem sr_WhelkFleetModel_169 (D : gD) : ("WhelkFleetModel", 169, "riddle ", gk D 131) ∈ gSr D := List.mem_of_getElem? (i := 47) rfl
theorem sr_WhelkFleetModel_171 (D : gD) : ("WhelkFleetModel", 171, "days ", gk D 132) ∈ gSr D := List.mem_of_getElem? (i := 48) rfl
theorem sr_WhelkFleetModel_220 (D : gD) : ("WhelkFleetModel", 220, " to ", gk D 115) ∈ gSr D := List.mem_of_getElem? (i := 49) rfl
theorem sr_WhelkFleetModel_222 (D : gD) : ("WhelkFleetModel", 222, " by ", gk D 116) ∈ gSr D := List.mem_of_getElem? (i := 50) rfl
theorem sr_WhelkFleetModel_224 (D : gD) : ("WhelkFleetModel", 224, " with ", gk D 117) ∈ gSr D := List.mem_of_getElem? (i := 51) rfl
theorem sr_WhelkFleetModel_208 (D : gD) : ("WhelkFleetModel", 208, "fish", gk D 120) ∈ gSr D := List.mem_of_getElem? (i := 52) rfl
theorem sr_WhelkFleetModel_210 (D : gD) : ("WhelkFleetModel", 210, "mixed", gk D 121) ∈ gSr D := List.mem_of_getElem? (i := 53) rfl
theorem sr_WhelkFleetModel_212 (D : gD) : ("WhelkFleetModel", 212, "crab", gk D 119) ∈ gSr D := List.mem_of_getElem? (i := 54) rfl
theorem sr_WhelkFleetModel_247 (D : gD) : ("WhelkFleetModel", 247, "boat ", gk D 123) ∈ gSr D := List.mem_of_getElem? (i := 55) rfl
theorem sr_WhelkFleetModel_255 (D : gD) : ("WhelkFleetModel", 255, " home", gk D 133) ∈ gSr D := List.mem_of_getElem? (i := 56) rfl
theorem sr_WhelkFleetModel_257 (D : gD) : ("WhelkFleetModel", 257, " at ", gk D 134) ∈ gSr D := List.mem_of_getElem? (i := 57) rfl
theorem st_DEFAULTCAPACITY_EMPTY_ELEMENTDATA (D : gD) : ("java/util/ArrayList", "DEFAULTCAPACITY_EMPTY_ELEMENTDATA", "[Ljava/lang/Object;", (.ref (gk D 0) : Value)) ∈ gSt D := List.mem_of_getElem? (i := 0) rfl
theorem st_DigitOnes (D : gD) : ("java/lang/Integer", "DigitOnes", "[B", (.ref (gk D 1) : Value)) ∈ gSt D := List.mem_of_getElem? (i := 1) rfl
theorem st_DigitTens (D : gD) : ("java/lang/Integer", "DigitTens", "[B", (.ref (gk D 2) : Value)) ∈ gSt D := List.mem_of_getElem? (i := 2) rfl
theorem st_cache (D : gD) : ("java/lang/Integer$IntegerCache", "cache", "[Ljava/lang/Integer;", (.ref (gk D 3) : Value)) ∈ gSt D := List.mem_of_getElem? (i := 3) rfl
theorem st_CRAB (D : gD) : ("WhelkFleet$Bait", "CRAB", "LWhelkFleet$Bait;", (.ref (gk D 4) : Value)) ∈ gSt D := List.mem_of_getElem? (i := 4) rfl
theorem st_FISH (D : gD) : ("WhelkFleet$Bait", "FISH", "LWhelkFleet$Bait;", (.ref (gk D 5) : Value)) ∈ gSt D := List.mem_of_getElem? (i := 5) rfl
theorem st_MIXED (D : gD) : ("WhelkFleet$Bait", "MIXED", "LWhelkFleet$Bait;", (.ref (gk D 6) : Value)) ∈ gSt D := List.mem_of_getElem? (i := 6) rfl
theorem st_COMPACT_STRINGS (D : gD) : ("java/lang/String", "COMPACT_STRINGS", "Z", (.int 1 : Value)) ∈ gSt D := List.mem_of_getElem? (i := 7) rfl
theorem st_HI_BYTE_SHIFT (D : gD) : ("java/lang/StringUTF16", "HI_BYTE_SHIFT", "I", (.int 0 : Value)) ∈ gSt D := List.mem_of_getElem? (i := 8) rfl
theorem st_LO_BYTE_SHIFT (D : gD) : ("java/lang/StringUTF16", "LO_BYTE_SHIFT", "I", (.int 8 : Value)) ∈ gSt D := List.mem_of_getElem? (i := 9) rfl
theorem st_assertionsDisabled (D : gD) : ("java/lang/StringUTF16", "$assertionsDisabled", "Z", (.int 1 : Value)) ∈ gSt D := List.mem_of_getElem? (i := 10) rfl
theorem st_high (D : gD) : ("java/lang/Integer$IntegerCache", "high", "I", (.int 127 : Value)) ∈ gSt D := List.mem_of_getElem? (i := 11) rfl
theorem st_UNASSIGNED_STACK (D : gD) : ("java/lang/Throwable", "UNASSIGNED_STACK", Bundle.steD, (gv D 0 : Value)) ∈ gSt D := List.mem_of_getElem? (i := 12) rfl
theorem st_SUPPRESSED_SENTINEL (D : gD) : ("java/lang/Throwable", "SUPPRESSED_SENTINEL", Bundle.listD, (gv D 1 : Value)) ∈ gSt D := List.mem_of_getElem? (i := 13) rfl
theorem st_SIOOBE_FORMATTER (D : gD) : ("jdk/internal/util/Preconditions", "SIOOBE_FORMATTER", "Ljava/util/function/BiFunction;", (gv D 2 : Value)) ∈ gSt D := List.mem_of_getElem? (i := 14) rfl
theorem fw0 : ("java/util/ArrayList", (⟨"java/util/List", "get", "(I)Ljava/lang/Object;"⟩ : MethodName), (⟨"java/util/ArrayList", "get", "(I)Ljava/lang/Object;"⟩ : MethodName)) ∈ gFw := List.mem_of_getElem? (i := 0) rfl
theorem fw1 : ("java/util/ArrayList", (⟨"java/util/List", "size", "()I"⟩ : MethodName), (⟨"java/util/ArrayList", "size", "()I"⟩ : MethodName)) ∈ gFw := List.mem_of_getElem? (i := 1) rfl
theorem fw2 : ("java/util/LinkedList", (⟨"java/util/List", "get", "(I)Ljava/lang/Object;"⟩ : MethodName), (⟨"java/util/LinkedList", "get", "(I)Ljava/lang/Object;"⟩ : MethodName)) ∈ gFw := List.mem_of_getElem? (i := 2) rfl
theorem fw3 : ("java/util/LinkedList", (⟨"java/util/List", "size", "()I"⟩ : MethodName), (⟨"java/util/LinkedList", "size", "()I"⟩ : MethodName)) ∈ gFw := List.mem_of_getElem? (i := 3) rfl
theorem fw4 : ("java/util/ArrayList", (⟨"java/util/List", "add", "(Ljava/lang/Object;)Z"⟩ : MethodName), (⟨"java/util/ArrayList", "add", "(Ljava/lang/Object;)Z"⟩ : MethodName)) ∈ gFw := List.mem_of_getElem? (i := 4) rfl
theorem fw5 : ("java/util/ArrayList", (⟨"java/util/List", "iterator", "()Ljava/util/Iterator;"⟩ : MethodName), (⟨"java/util/ArrayList", "iterator", "()Ljava/util/Iterator;"⟩ : MethodName)) ∈ gFw := List.mem_of_getElem? (i := 5) rfl
theorem fw6 : ("java/util/ArrayList$Itr", (⟨"java/util/Iterator", "hasNext", "()Z"⟩ : MethodName), (⟨"java/util/ArrayList$Itr", "hasNext", "()Z"⟩ : MethodName)) ∈ gFw := List.mem_of_getElem? (i := 6) rfl
theorem fw7 : ("java/util/ArrayList$Itr", (⟨"java/util/Iterator", "next", "()Ljava/lang/Object;"⟩ : MethodName), (⟨"java/util/ArrayList$Itr", "next", "()Ljava/lang/Object;"⟩ : MethodName)) ∈ gFw := List.mem_of_getElem? (i := 7) rfl
theorem fw8 : ("java/util/LinkedList$ListItr", (⟨"java/util/Iterator", "hasNext", "()Z"⟩ : MethodName), (⟨"java/util/LinkedList$ListItr", "hasNext", "()Z"⟩ : MethodName)) ∈ gFw := List.mem_of_getElem? (i := 8) rfl
theorem fw9 : ("java/util/LinkedList$ListItr", (⟨"java/util/Iterator", "next", "()Ljava/lang/Object;"⟩ : MethodName), (⟨"java/util/LinkedList$ListItr", "next", "()Ljava/lang/Object;"⟩ : MethodName)) ∈ gFw := List.mem_of_getElem? (i := 9) rfl
theorem fw10 : ("java/lang/StringBuilder", (⟨"java/lang/CharSequence", "length", "()I"⟩ : MethodName), (⟨"java/lang/StringBuilder", "length", "()I"⟩ : MethodName)) ∈ gFw := List.mem_of_getElem? (i := 10) rfl
theorem fw11 : ("java/lang/StringBuilder", (⟨"java/lang/CharSequence", "charAt", "(I)C"⟩ : MethodName), (⟨"java/lang/StringBuilder", "charAt", "(I)C"⟩ : MethodName)) ∈ gFw := List.mem_of_getElem? (i := 11) rfl
theorem fw12 : ("java/lang/String", (⟨"java/lang/CharSequence", "toString", "()Ljava/lang/String;"⟩ : MethodName), (⟨"java/lang/String", "toString", "()Ljava/lang/String;"⟩ : MethodName)) ∈ gFw := List.mem_of_getElem? (i := 12) rfl
theorem fw13 : ("WhelkFleet$Ashore", (⟨"WhelkFleet$Place", "number", "()I"⟩ : MethodName), (⟨"WhelkFleet$Place", "number", "()I"⟩ : MethodName)) ∈ gFw := List.mem_of_getElem? (i := 13) rfl
theorem fw14 : ("WhelkFleet$Ashore", (⟨"WhelkFleet$Place", "isAshore", "()Z"⟩ : MethodName), (⟨"WhelkFleet$Place", "isAshore", "()Z"⟩ : MethodName)) ∈ gFw := List.mem_of_getElem? (i := 14) rfl
theorem fw15 : ("WhelkFleet$Ashore", (⟨"WhelkFleet$Place", "isSameAs", "(LWhelkFleet$Place;)Z"⟩ : MethodName), (⟨"WhelkFleet$Place", "isSameAs", "(LWhelkFleet$Place;)Z"⟩ : MethodName)) ∈ gFw := List.mem_of_getElem? (i := 15) rfl
theorem fw16 : ("WhelkFleet$OnGround", (⟨"WhelkFleet$Place", "number", "()I"⟩ : MethodName), (⟨"WhelkFleet$Place", "number", "()I"⟩ : MethodName)) ∈ gFw := List.mem_of_getElem? (i := 16) rfl
theorem fw17 : ("WhelkFleet$OnGround", (⟨"WhelkFleet$Place", "isAshore", "()Z"⟩ : MethodName), (⟨"WhelkFleet$Place", "isAshore", "()Z"⟩ : MethodName)) ∈ gFw := List.mem_of_getElem? (i := 17) rfl
theorem fw18 : ("WhelkFleet$OnGround", (⟨"WhelkFleet$Place", "isSameAs", "(LWhelkFleet$Place;)Z"⟩ : MethodName), (⟨"WhelkFleet$Place", "isSameAs", "(LWhelkFleet$Place;)Z"⟩ : MethodName)) ∈ gFw := List.mem_of_getElem? (i := 18) rfl
theorem ld0 : ("WhelkFleet$Ashore", (⟨"WhelkFleet$Place", "number", "()I"⟩ : MethodName), (⟨"WhelkFleet$Place", "number", "()I"⟩ : MethodName)) ∈ gLd := List.mem_of_getElem? (i := 0) rfl
theorem ld1 : ("WhelkFleet$Ashore", (⟨"WhelkFleet$Place", "isAshore", "()Z"⟩ : MethodName), (⟨"WhelkFleet$Place", "isAshore", "()Z"⟩ : MethodName)) ∈ gLd := List.mem_of_getElem? (i := 1) rfl
theorem ld2 : ("WhelkFleet$Ashore", (⟨"WhelkFleet$Place", "isSameAs", "(LWhelkFleet$Place;)Z"⟩ : MethodName), (⟨"WhelkFleet$Place", "isSameAs", "(LWhelkFleet$Place;)Z"⟩ : MethodName)) ∈ gLd := List.mem_of_getElem? (i := 2) rfl
theorem ld3 : ("WhelkFleet$OnGround", (⟨"WhelkFleet$Place", "number", "()I"⟩ : MethodName), (⟨"WhelkFleet$Place", "number", "()I"⟩ : MethodName)) ∈ gLd := List.mem_of_getElem? (i := 3) rfl
theorem ld4 : ("WhelkFleet$OnGround", (⟨"WhelkFleet$Place", "isAshore", "()Z"⟩ : MethodName), (⟨"WhelkFleet$Place", "isAshore", "()Z"⟩ : MethodName)) ∈ gLd := List.mem_of_getElem? (i := 4) rfl
theorem ld5 : ("WhelkFleet$OnGround", (⟨"WhelkFleet$Place", "isSameAs", "(LWhelkFleet$Place;)Z"⟩ : MethodName), (⟨"WhelkFleet$Place", "isSameAs", "(LWhelkFleet$Place;)Z"⟩ : MethodName)) ∈ gLd := List.mem_of_getElem? (i := 5) rfl
theorem nc0 : ("WhelkFleet$Ashore", "WhelkFleet$OnGround") ∈ gNc := List.mem_of_getElem? (i := 0) rfl
theorem nc1 : ("WhelkFleet$OnGround", "WhelkFleet$Ashore") ∈ gNc := List.mem_of_getElem? (i := 1) rfl
theorem nc2 : ("WhelkFleet$Refusal", "WhelkFleet$TextError") ∈ gNc := List.mem_of_getElem? (i := 2) rfl
theorem nc3 : ("java/lang/IllegalArgumentException", "java/lang/IndexOutOfBoundsException") ∈ gNc := List.mem_of_getElem? (i := 3) rfl
theorem nc4 : ("java/lang/UnsupportedOperationException", "java/lang/IndexOutOfBoundsException") ∈ gNc := List.mem_of_getElem? (i := 4) rfl
theorem nc5 : ("java/lang/UnsupportedOperationException", "java/lang/IllegalArgumentException") ∈ gNc := List.mem_of_getElem? (i := 5) rfl
/-- the texts of the String constants (at gk D 100 ..): their letters, their hash, hashIsZero -/
def gTx : List (List Nat × Int32 × Int32) := [([], 0, 1), ([115, 116, 111, 99, 107], 109770518, 0), ([111, 117, 116], 110414, 0), ([104, 111, 109, 101], 3208415, 0), ([115, 104, 111, 111, 116], 109413407, 0), ([104, 97, 117, 108], 3195216, 0), ([108, 97, 110, 100], 3314155, 0), ([115, 119, 101, 108, 108], 109850561, 0), ([114, 105, 100, 100, 108, 101], (-931195728), 0), ([100, 97, 121, 115], 3076183, 0), ([98, 111, 97, 116], 3029312, 0), ([115, 116, 114, 105, 110, 103], (-891985903), 0), ([98, 111, 120], 97739, 0), ([32, 111, 117, 116, 32, 104, 111, 109, 101, 32, 115, 104, 111, 111, 116, 32, 104, 97, 117, 108, 32, 108, 97, 110, 100, 32, 115, 119, 101, 108, 108, 32, 114, 105, 100, 100, 108, 101, 32, 100, 97, 121, 115, 32], (-91192563), 0), ([32], 32, 0), ([32, 116, 111, 32], 1068261, 0), ([32, 98, 121, 32], 1051273, 0), ([32, 119, 105, 116, 104, 32], 1029274618, 0), ([32, 99, 114, 97, 98, 32, 102, 105, 115, 104, 32, 109, 105, 120, 101, 100, 32], (-570523875), 0), ([99, 114, 97, 98], 3061968, 0), ([102, 105, 115, 104], 3143256, 0), ([109, 105, 120, 101, 100], 103910395, 0), ([59], 59, 0), ([98, 111, 97, 116, 32], 93908704, 0), ([97, 116, 32], 96845, 0), ([111, 117, 116, 32], 3422866, 0), ([104, 111, 109, 101, 32], 99460897, 0), ([115, 104, 111, 111, 116, 32], (-903151647), 0), ([104, 97, 117, 108, 32], 99051728, 0), ([108, 97, 110, 100, 32], 102738837, 0), ([115, 119, 101, 108, 108, 32], (-889599873), 0), ([114, 105, 100, 100, 108, 101, 32], 1197703536, 0), ([100, 97, 121, 115, 32], 95361705, 0), ([32, 104, 111, 109, 101], 32761087, 0), ([32, 97, 116, 32], 1050157, 0)]
/-- what lies below the run's cells -/
def gBs (D : gD) : Prop :=
  ((gv D 0 = .null ∨ ∃ t, gv D 0 = .ref t) ∧ (gv D 1 = .null ∨ ∃ t, gv D 1 = .ref t) ∧ (gv D 2 = .null ∨ ∃ t, gv D 2 = .ref t)) ∧
  (gk D 0 < gz D ∧ gbase D (gk D 0) = some (aR 0 (fun _ => .null))) ∧
  (gk D 1 < gz D ∧ gbase D (gk D 1) = some (aB 100 (fun j => nI (48 + j % 10)))) ∧
  (gk D 2 < gz D ∧ gbase D (gk D 2) = some (aB 100 (fun j => nI (48 + j / 10)))) ∧
  (gk D 3 < gz D ∧ gbase D (gk D 3) = some (aR 256 (fun j => .ref (gk D (1000 + j))))) ∧
  (gk D 4 < gz D ∧ gbase D (gk D 4) = some (.inl (12, []))) ∧
  (gk D 5 < gz D ∧ gbase D (gk D 5) = some (.inl (13, []))) ∧
  (gk D 6 < gz D ∧ gbase D (gk D 6) = some (.inl (14, []))) ∧
  (∀ j, j < 256 → gk D (1000 + j) < gz D ∧ gbase D (gk D (1000 + j)) = some (.inl (22, [.int (nI j - 128)]))) ∧
  (∀ (j : Nat) (q : List Nat × Int32 × Int32), gTx[j]? = some q → gk D (100 + j) < gz D ∧ gk D (200 + j) < gz D ∧ gbase D (gk D (100 + j)) = some (.inl (21, [.ref (gk D (200 + j)), .int 0, .int q.2.1, .int q.2.2])) ∧ gbase D (gk D (200 + j)) = some (aB q.1.length (fun i => nI (q.1.getD i 0))))
theorem gBs.v0 {D : gD} (h : gBs D) : gv D 0 = .null ∨ ∃ t, gv D 0 = .ref t := h.1.1
theorem gBs.v1 {D : gD} (h : gBs D) : gv D 1 = .null ∨ ∃ t, gv D 1 = .ref t := h.1.2.1
theorem gBs.v2 {D : gD} (h : gBs D) : gv D 2 = .null ∨ ∃ t, gv D 2 = .ref t := h.1.2.2
theorem gI.bs {D : gD} {G : gH} {n : Nat} {H : Heap} (h : gI D G n H) {a : Nat} {o : gE} (e : a < gz D ∧ gbase D a = some o) : G a = some o := by rw [h.base e.1]; exact e.2
