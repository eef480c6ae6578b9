/-! WhelkFleetLaw -/
set_option maxRecDepth 100000
def RX0 : String := "WhelkFleetLaw"
abbrev cX0_whelks : ByteArray := method_3_code
def yX0_whelks : MethodName := ⟨RX0, "whelks", "(LWhelkFleet;II[J)I"⟩
def dkwX0_whelks_0 : List UInt8 := [45, 3, 42, 27, 28, 182, 0, 7, 133, 80, 167, 0, 11, 58, 4, 4, 172, 58, 4, 5, 172, 3, 172]
abbrev dktX0_whelks_0 : List UInt8 := dkwX0_whelks_0 ++ []
theorem dksX0_whelks_0 : cX0_whelks.data.toList.drop 0 = dktX0_whelks_0 := by decide +kernel
theorem dX0_whelks_0 : decode cX0_whelks 0 = .ok (.aload_n 3, 1) := dk_45 (dk_at dksX0_whelks_0 0 rfl rfl)
theorem dX0_whelks_1 : decode cX0_whelks 1 = .ok (.iconst 0, 1) := dk_3 (dk_at dksX0_whelks_0 1 rfl rfl)
theorem dX0_whelks_2 : decode cX0_whelks 2 = .ok (.aload_n 0, 1) := dk_42 (dk_at dksX0_whelks_0 2 rfl rfl)
theorem dX0_whelks_3 : decode cX0_whelks 3 = .ok (.iload_n 1, 1) := dk_27 (dk_at dksX0_whelks_0 3 rfl rfl)
theorem dX0_whelks_4 : decode cX0_whelks 4 = .ok (.iload_n 2, 1) := dk_28 (dk_at dksX0_whelks_0 4 rfl rfl)
theorem dX0_whelks_5 : decode cX0_whelks 5 = .ok (.invokevirtual 7, 3) := dk_182 0 7 (dk_at dksX0_whelks_0 5 rfl rfl)
theorem dX0_whelks_8 : decode cX0_whelks 8 = .ok (.i2l, 1) := dk_133 (dk_at dksX0_whelks_0 8 rfl rfl)
theorem dX0_whelks_9 : decode cX0_whelks 9 = .ok (.lastore, 1) := dk_80 (dk_at dksX0_whelks_0 9 rfl rfl)
theorem dX0_whelks_10 : decode cX0_whelks 10 = .ok (.goto 11, 3) := dk_167 0 11 (dk_at dksX0_whelks_0 10 rfl rfl)
theorem dX0_whelks_13 : decode cX0_whelks 13 = .ok (.astore 4, 2) := dk_58 4 (dk_at dksX0_whelks_0 13 rfl rfl)
theorem dX0_whelks_15 : decode cX0_whelks 15 = .ok (.iconst 1, 1) := dk_4 (dk_at dksX0_whelks_0 15 rfl rfl)
theorem dX0_whelks_16 : decode cX0_whelks 16 = .ok (.ireturn, 1) := dk_172 (dk_at dksX0_whelks_0 16 rfl rfl)
theorem dX0_whelks_17 : decode cX0_whelks 17 = .ok (.astore 4, 2) := dk_58 4 (dk_at dksX0_whelks_0 17 rfl rfl)
theorem dX0_whelks_19 : decode cX0_whelks 19 = .ok (.iconst 2, 1) := dk_5 (dk_at dksX0_whelks_0 19 rfl rfl)
theorem dX0_whelks_20 : decode cX0_whelks 20 = .ok (.ireturn, 1) := dk_172 (dk_at dksX0_whelks_0 20 rfl rfl)
theorem dX0_whelks_21 : decode cX0_whelks 21 = .ok (.iconst 0, 1) := dk_3 (dk_at dksX0_whelks_0 21 rfl rfl)
theorem dX0_whelks_22 : decode cX0_whelks 22 = .ok (.ireturn, 1) := dk_172 (dk_at dksX0_whelks_0 22 rfl rfl)
abbrev cX0_stock : ByteArray := method_4_code
def yX0_stock : MethodName := ⟨RX0, "stock", "(LWhelkFleet;III[J)I"⟩
def dkwX0_stock_1 : List UInt8 := [172]
abbrev dktX0_stock_1 : List UInt8 := dkwX0_stock_1 ++ []
def dkwX0_stock_0 : List UInt8 := [25, 4, 3, 42, 27, 28, 29, 182, 0, 17, 133, 80, 167, 0, 11, 58, 5, 4, 172, 58, 5, 5, 172, 3]
abbrev dktX0_stock_0 : List UInt8 := dkwX0_stock_0 ++ dktX0_stock_1
theorem dksX0_stock_0 : cX0_stock.data.toList.drop 0 = dktX0_stock_0 := by decide +kernel
theorem dksX0_stock_1 : cX0_stock.data.toList.drop 24 = dktX0_stock_1 := dk_seg dksX0_stock_0 24 rfl rfl
theorem dX0_stock_0 : decode cX0_stock 0 = .ok (.aload 4, 2) := dk_25 4 (dk_at dksX0_stock_0 0 rfl rfl)
theorem dX0_stock_2 : decode cX0_stock 2 = .ok (.iconst 0, 1) := dk_3 (dk_at dksX0_stock_0 2 rfl rfl)
theorem dX0_stock_3 : decode cX0_stock 3 = .ok (.aload_n 0, 1) := dk_42 (dk_at dksX0_stock_0 3 rfl rfl)
theorem dX0_stock_4 : decode cX0_stock 4 = .ok (.iload_n 1, 1) := dk_27 (dk_at dksX0_stock_0 4 rfl rfl)
theorem dX0_stock_5 : decode cX0_stock 5 = .ok (.iload_n 2, 1) := dk_28 (dk_at dksX0_stock_0 5 rfl rfl)
theorem dX0_stock_6 : decode cX0_stock 6 = .ok (.iload_n 3, 1) := dk_29 (dk_at dksX0_stock_0 6 rfl rfl)
theorem dX0_stock_7 : decode cX0_stock 7 = .ok (.invokevirtual 17, 3) := dk_182 0 17 (dk_at dksX0_stock_0 7 rfl rfl)
theorem dX0_stock_10 : decode cX0_stock 10 = .ok (.i2l, 1) := dk_133 (dk_at dksX0_stock_0 10 rfl rfl)
theorem dX0_stock_11 : decode cX0_stock 11 = .ok (.lastore, 1) := dk_80 (dk_at dksX0_stock_0 11 rfl rfl)
theorem dX0_stock_12 : decode cX0_stock 12 = .ok (.goto 11, 3) := dk_167 0 11 (dk_at dksX0_stock_0 12 rfl rfl)
theorem dX0_stock_15 : decode cX0_stock 15 = .ok (.astore 5, 2) := dk_58 5 (dk_at dksX0_stock_0 15 rfl rfl)
theorem dX0_stock_17 : decode cX0_stock 17 = .ok (.iconst 1, 1) := dk_4 (dk_at dksX0_stock_0 17 rfl rfl)
theorem dX0_stock_18 : decode cX0_stock 18 = .ok (.ireturn, 1) := dk_172 (dk_at dksX0_stock_0 18 rfl rfl)
theorem dX0_stock_19 : decode cX0_stock 19 = .ok (.astore 5, 2) := dk_58 5 (dk_at dksX0_stock_0 19 rfl rfl)
theorem dX0_stock_21 : decode cX0_stock 21 = .ok (.iconst 2, 1) := dk_5 (dk_at dksX0_stock_0 21 rfl rfl)
theorem dX0_stock_22 : decode cX0_stock 22 = .ok (.ireturn, 1) := dk_172 (dk_at dksX0_stock_0 22 rfl rfl)
theorem dX0_stock_23 : decode cX0_stock 23 = .ok (.iconst 0, 1) := dk_3 (dk_at dksX0_stock_0 23 rfl rfl)
theorem dX0_stock_24 : decode cX0_stock 24 = .ok (.ireturn, 1) := dk_172 (dk_at dksX0_stock_1 0 rfl rfl)
abbrev cX0_box : ByteArray := method_5_code
def yX0_box : MethodName := ⟨RX0, "box", "(LWhelkFleet;II[J)I"⟩
def dkwX0_box_0 : List UInt8 := [45, 3, 42, 27, 28, 182, 0, 21, 133, 80, 167, 0, 7, 58, 4, 4, 172, 3, 172]
abbrev dktX0_box_0 : List UInt8 := dkwX0_box_0 ++ []
theorem dksX0_box_0 : cX0_box.data.toList.drop 0 = dktX0_box_0 := by decide +kernel
theorem dX0_box_0 : decode cX0_box 0 = .ok (.aload_n 3, 1) := dk_45 (dk_at dksX0_box_0 0 rfl rfl)
theorem dX0_box_1 : decode cX0_box 1 = .ok (.iconst 0, 1) := dk_3 (dk_at dksX0_box_0 1 rfl rfl)
theorem dX0_box_2 : decode cX0_box 2 = .ok (.aload_n 0, 1) := dk_42 (dk_at dksX0_box_0 2 rfl rfl)
theorem dX0_box_3 : decode cX0_box 3 = .ok (.iload_n 1, 1) := dk_27 (dk_at dksX0_box_0 3 rfl rfl)
theorem dX0_box_4 : decode cX0_box 4 = .ok (.iload_n 2, 1) := dk_28 (dk_at dksX0_box_0 4 rfl rfl)
theorem dX0_box_5 : decode cX0_box 5 = .ok (.invokevirtual 21, 3) := dk_182 0 21 (dk_at dksX0_box_0 5 rfl rfl)
theorem dX0_box_8 : decode cX0_box 8 = .ok (.i2l, 1) := dk_133 (dk_at dksX0_box_0 8 rfl rfl)
theorem dX0_box_9 : decode cX0_box 9 = .ok (.lastore, 1) := dk_80 (dk_at dksX0_box_0 9 rfl rfl)
theorem dX0_box_10 : decode cX0_box 10 = .ok (.goto 7, 3) := dk_167 0 7 (dk_at dksX0_box_0 10 rfl rfl)
theorem dX0_box_13 : decode cX0_box 13 = .ok (.astore 4, 2) := dk_58 4 (dk_at dksX0_box_0 13 rfl rfl)
theorem dX0_box_15 : decode cX0_box 15 = .ok (.iconst 1, 1) := dk_4 (dk_at dksX0_box_0 15 rfl rfl)
theorem dX0_box_16 : decode cX0_box 16 = .ok (.ireturn, 1) := dk_172 (dk_at dksX0_box_0 16 rfl rfl)
theorem dX0_box_17 : decode cX0_box 17 = .ok (.iconst 0, 1) := dk_3 (dk_at dksX0_box_0 17 rfl rfl)
theorem dX0_box_18 : decode cX0_box 18 = .ok (.ireturn, 1) := dk_172 (dk_at dksX0_box_0 18 rfl rfl)
abbrev cX0_bait : ByteArray := method_6_code
def yX0_bait : MethodName := ⟨RX0, "bait", "(LWhelkFleet;I[J)I"⟩
def dkwX0_bait_0 : List UInt8 := [44, 3, 42, 27, 182, 0, 24, 133, 80, 167, 0, 6, 78, 4, 172, 3, 172]
abbrev dktX0_bait_0 : List UInt8 := dkwX0_bait_0 ++ []
theorem dksX0_bait_0 : cX0_bait.data.toList.drop 0 = dktX0_bait_0 := by decide +kernel
theorem dX0_bait_0 : decode cX0_bait 0 = .ok (.aload_n 2, 1) := dk_44 (dk_at dksX0_bait_0 0 rfl rfl)
theorem dX0_bait_1 : decode cX0_bait 1 = .ok (.iconst 0, 1) := dk_3 (dk_at dksX0_bait_0 1 rfl rfl)
theorem dX0_bait_2 : decode cX0_bait 2 = .ok (.aload_n 0, 1) := dk_42 (dk_at dksX0_bait_0 2 rfl rfl)
theorem dX0_bait_3 : decode cX0_bait 3 = .ok (.iload_n 1, 1) := dk_27 (dk_at dksX0_bait_0 3 rfl rfl)
theorem dX0_bait_4 : decode cX0_bait 4 = .ok (.invokevirtual 24, 3) := dk_182 0 24 (dk_at dksX0_bait_0 4 rfl rfl)
theorem dX0_bait_7 : decode cX0_bait 7 = .ok (.i2l, 1) := dk_133 (dk_at dksX0_bait_0 7 rfl rfl)
theorem dX0_bait_8 : decode cX0_bait 8 = .ok (.lastore, 1) := dk_80 (dk_at dksX0_bait_0 8 rfl rfl)
theorem dX0_bait_9 : decode cX0_bait 9 = .ok (.goto 6, 3) := dk_167 0 6 (dk_at dksX0_bait_0 9 rfl rfl)
theorem dX0_bait_12 : decode cX0_bait 12 = .ok (.astore_n 3, 1) := dk_78 (dk_at dksX0_bait_0 12 rfl rfl)
theorem dX0_bait_13 : decode cX0_bait 13 = .ok (.iconst 1, 1) := dk_4 (dk_at dksX0_bait_0 13 rfl rfl)
theorem dX0_bait_14 : decode cX0_bait 14 = .ok (.ireturn, 1) := dk_172 (dk_at dksX0_bait_0 14 rfl rfl)
theorem dX0_bait_15 : decode cX0_bait 15 = .ok (.iconst 0, 1) := dk_3 (dk_at dksX0_bait_0 15 rfl rfl)
theorem dX0_bait_16 : decode cX0_bait 16 = .ok (.ireturn, 1) := dk_172 (dk_at dksX0_bait_0 16 rfl rfl)
abbrev cX0_draws : ByteArray := method_7_code
def yX0_draws : MethodName := ⟨RX0, "draws", "(LWhelkFleet;II[J)I"⟩
def dkwX0_draws_0 : List UInt8 := [45, 3, 42, 27, 28, 182, 0, 28, 133, 80, 167, 0, 7, 58, 4, 4, 172, 3, 172]
abbrev dktX0_draws_0 : List UInt8 := dkwX0_draws_0 ++ []
theorem dksX0_draws_0 : cX0_draws.data.toList.drop 0 = dktX0_draws_0 := by decide +kernel
theorem dX0_draws_0 : decode cX0_draws 0 = .ok (.aload_n 3, 1) := dk_45 (dk_at dksX0_draws_0 0 rfl rfl)
theorem dX0_draws_1 : decode cX0_draws 1 = .ok (.iconst 0, 1) := dk_3 (dk_at dksX0_draws_0 1 rfl rfl)
theorem dX0_draws_2 : decode cX0_draws 2 = .ok (.aload_n 0, 1) := dk_42 (dk_at dksX0_draws_0 2 rfl rfl)
theorem dX0_draws_3 : decode cX0_draws 3 = .ok (.iload_n 1, 1) := dk_27 (dk_at dksX0_draws_0 3 rfl rfl)
theorem dX0_draws_4 : decode cX0_draws 4 = .ok (.iload_n 2, 1) := dk_28 (dk_at dksX0_draws_0 4 rfl rfl)
theorem dX0_draws_5 : decode cX0_draws 5 = .ok (.invokevirtual 28, 3) := dk_182 0 28 (dk_at dksX0_draws_0 5 rfl rfl)
theorem dX0_draws_8 : decode cX0_draws 8 = .ok (.i2l, 1) := dk_133 (dk_at dksX0_draws_0 8 rfl rfl)
theorem dX0_draws_9 : decode cX0_draws 9 = .ok (.lastore, 1) := dk_80 (dk_at dksX0_draws_0 9 rfl rfl)
theorem dX0_draws_10 : decode cX0_draws 10 = .ok (.goto 7, 3) := dk_167 0 7 (dk_at dksX0_draws_0 10 rfl rfl)
theorem dX0_draws_13 : decode cX0_draws 13 = .ok (.astore 4, 2) := dk_58 4 (dk_at dksX0_draws_0 13 rfl rfl)
theorem dX0_draws_15 : decode cX0_draws 15 = .ok (.iconst 1, 1) := dk_4 (dk_at dksX0_draws_0 15 rfl rfl)
theorem dX0_draws_16 : decode cX0_draws 16 = .ok (.ireturn, 1) := dk_172 (dk_at dksX0_draws_0 16 rfl rfl)
theorem dX0_draws_17 : decode cX0_draws 17 = .ok (.iconst 0, 1) := dk_3 (dk_at dksX0_draws_0 17 rfl rfl)
theorem dX0_draws_18 : decode cX0_draws 18 = .ok (.ireturn, 1) := dk_172 (dk_at dksX0_draws_0 18 rfl rfl)
abbrev cX0_bestBait : ByteArray := method_8_code
def yX0_bestBait : MethodName := ⟨RX0, "bestBait", "(LWhelkFleet;I[J)I"⟩
def dkwX0_bestBait_0 : List UInt8 := [44, 3, 42, 27, 182, 0, 31, 133, 80, 167, 0, 6, 78, 4, 172, 3, 172]
abbrev dktX0_bestBait_0 : List UInt8 := dkwX0_bestBait_0 ++ []
theorem dksX0_bestBait_0 : cX0_bestBait.data.toList.drop 0 = dktX0_bestBait_0 := by decide +kernel
theorem dX0_bestBait_0 : decode cX0_bestBait 0 = .ok (.aload_n 2, 1) := dk_44 (dk_at dksX0_bestBait_0 0 rfl rfl)
theorem dX0_bestBait_1 : decode cX0_bestBait 1 = .ok (.iconst 0, 1) := dk_3 (dk_at dksX0_bestBait_0 1 rfl rfl)
theorem dX0_bestBait_2 : decode cX0_bestBait 2 = .ok (.aload_n 0, 1) := dk_42 (dk_at dksX0_bestBait_0 2 rfl rfl)
theorem dX0_bestBait_3 : decode cX0_bestBait 3 = .ok (.iload_n 1, 1) := dk_27 (dk_at dksX0_bestBait_0 3 rfl rfl)
theorem dX0_bestBait_4 : decode cX0_bestBait 4 = .ok (.invokevirtual 31, 3) := dk_182 0 31 (dk_at dksX0_bestBait_0 4 rfl rfl)
theorem dX0_bestBait_7 : decode cX0_bestBait 7 = .ok (.i2l, 1) := dk_133 (dk_at dksX0_bestBait_0 7 rfl rfl)
theorem dX0_bestBait_8 : decode cX0_bestBait 8 = .ok (.lastore, 1) := dk_80 (dk_at dksX0_bestBait_0 8 rfl rfl)
theorem dX0_bestBait_9 : decode cX0_bestBait 9 = .ok (.goto 6, 3) := dk_167 0 6 (dk_at dksX0_bestBait_0 9 rfl rfl)
theorem dX0_bestBait_12 : decode cX0_bestBait 12 = .ok (.astore_n 3, 1) := dk_78 (dk_at dksX0_bestBait_0 12 rfl rfl)
theorem dX0_bestBait_13 : decode cX0_bestBait 13 = .ok (.iconst 1, 1) := dk_4 (dk_at dksX0_bestBait_0 13 rfl rfl)
theorem dX0_bestBait_14 : decode cX0_bestBait 14 = .ok (.ireturn, 1) := dk_172 (dk_at dksX0_bestBait_0 14 rfl rfl)
theorem dX0_bestBait_15 : decode cX0_bestBait 15 = .ok (.iconst 0, 1) := dk_3 (dk_at dksX0_bestBait_0 15 rfl rfl)
theorem dX0_bestBait_16 : decode cX0_bestBait 16 = .ok (.ireturn, 1) := dk_172 (dk_at dksX0_bestBait_0 16 rfl rfl)
abbrev cX0_boat : ByteArray := method_9_code
def yX0_boat : MethodName := ⟨RX0, "boat", "(LWhelkFleet;I[J)I"⟩
def dkwX0_boat_0 : List UInt8 := [44, 3, 42, 27, 182, 0, 34, 133, 80, 167, 0, 9, 78, 4, 172, 78, 5, 172, 3, 172]
abbrev dktX0_boat_0 : List UInt8 := dkwX0_boat_0 ++ []
theorem dksX0_boat_0 : cX0_boat.data.toList.drop 0 = dktX0_boat_0 := by decide +kernel
theorem dX0_boat_0 : decode cX0_boat 0 = .ok (.aload_n 2, 1) := dk_44 (dk_at dksX0_boat_0 0 rfl rfl)
theorem dX0_boat_1 : decode cX0_boat 1 = .ok (.iconst 0, 1) := dk_3 (dk_at dksX0_boat_0 1 rfl rfl)
theorem dX0_boat_2 : decode cX0_boat 2 = .ok (.aload_n 0, 1) := dk_42 (dk_at dksX0_boat_0 2 rfl rfl)
theorem dX0_boat_3 : decode cX0_boat 3 = .ok (.iload_n 1, 1) := dk_27 (dk_at dksX0_boat_0 3 rfl rfl)
theorem dX0_boat_4 : decode cX0_boat 4 = .ok (.invokevirtual 34, 3) := dk_182 0 34 (dk_at dksX0_boat_0 4 rfl rfl)
theorem dX0_boat_7 : decode cX0_boat 7 = .ok (.i2l, 1) := dk_133 (dk_at dksX0_boat_0 7 rfl rfl)
theorem dX0_boat_8 : decode cX0_boat 8 = .ok (.lastore, 1) := dk_80 (dk_at dksX0_boat_0 8 rfl rfl)
theorem dX0_boat_9 : decode cX0_boat 9 = .ok (.goto 9, 3) := dk_167 0 9 (dk_at dksX0_boat_0 9 rfl rfl)
theorem dX0_boat_12 : decode cX0_boat 12 = .ok (.astore_n 3, 1) := dk_78 (dk_at dksX0_boat_0 12 rfl rfl)
theorem dX0_boat_13 : decode cX0_boat 13 = .ok (.iconst 1, 1) := dk_4 (dk_at dksX0_boat_0 13 rfl rfl)
theorem dX0_boat_14 : decode cX0_boat 14 = .ok (.ireturn, 1) := dk_172 (dk_at dksX0_boat_0 14 rfl rfl)
theorem dX0_boat_15 : decode cX0_boat 15 = .ok (.astore_n 3, 1) := dk_78 (dk_at dksX0_boat_0 15 rfl rfl)
theorem dX0_boat_16 : decode cX0_boat 16 = .ok (.iconst 2, 1) := dk_5 (dk_at dksX0_boat_0 16 rfl rfl)
theorem dX0_boat_17 : decode cX0_boat 17 = .ok (.ireturn, 1) := dk_172 (dk_at dksX0_boat_0 17 rfl rfl)
theorem dX0_boat_18 : decode cX0_boat 18 = .ok (.iconst 0, 1) := dk_3 (dk_at dksX0_boat_0 18 rfl rfl)
theorem dX0_boat_19 : decode cX0_boat 19 = .ok (.ireturn, 1) := dk_172 (dk_at dksX0_boat_0 19 rfl rfl)
abbrev cX0_string : ByteArray := method_10_code
def yX0_string : MethodName := ⟨RX0, "string", "(LWhelkFleet;I[J)I"⟩
def dkwX0_string_0 : List UInt8 := [44, 3, 42, 27, 182, 0, 39, 133, 80, 167, 0, 9, 78, 4, 172, 78, 5, 172, 3, 172]
abbrev dktX0_string_0 : List UInt8 := dkwX0_string_0 ++ []
theorem dksX0_string_0 : cX0_string.data.toList.drop 0 = dktX0_string_0 := by decide +kernel
theorem dX0_string_0 : decode cX0_string 0 = .ok (.aload_n 2, 1) := dk_44 (dk_at dksX0_string_0 0 rfl rfl)
theorem dX0_string_1 : decode cX0_string 1 = .ok (.iconst 0, 1) := dk_3 (dk_at dksX0_string_0 1 rfl rfl)
theorem dX0_string_2 : decode cX0_string 2 = .ok (.aload_n 0, 1) := dk_42 (dk_at dksX0_string_0 2 rfl rfl)
theorem dX0_string_3 : decode cX0_string 3 = .ok (.iload_n 1, 1) := dk_27 (dk_at dksX0_string_0 3 rfl rfl)
theorem dX0_string_4 : decode cX0_string 4 = .ok (.invokevirtual 39, 3) := dk_182 0 39 (dk_at dksX0_string_0 4 rfl rfl)
theorem dX0_string_7 : decode cX0_string 7 = .ok (.i2l, 1) := dk_133 (dk_at dksX0_string_0 7 rfl rfl)
theorem dX0_string_8 : decode cX0_string 8 = .ok (.lastore, 1) := dk_80 (dk_at dksX0_string_0 8 rfl rfl)
theorem dX0_string_9 : decode cX0_string 9 = .ok (.goto 9, 3) := dk_167 0 9 (dk_at dksX0_string_0 9 rfl rfl)
theorem dX0_string_12 : decode cX0_string 12 = .ok (.astore_n 3, 1) := dk_78 (dk_at dksX0_string_0 12 rfl rfl)
theorem dX0_string_13 : decode cX0_string 13 = .ok (.iconst 1, 1) := dk_4 (dk_at dksX0_string_0 13 rfl rfl)
theorem dX0_string_14 : decode cX0_string 14 = .ok (.ireturn, 1) := dk_172 (dk_at dksX0_string_0 14 rfl rfl)
theorem dX0_string_15 : decode cX0_string 15 = .ok (.astore_n 3, 1) := dk_78 (dk_at dksX0_string_0 15 rfl rfl)
theorem dX0_string_16 : decode cX0_string 16 = .ok (.iconst 2, 1) := dk_5 (dk_at dksX0_string_0 16 rfl rfl)
theorem dX0_string_17 : decode cX0_string 17 = .ok (.ireturn, 1) := dk_172 (dk_at dksX0_string_0 17 rfl rfl)
theorem dX0_string_18 : decode cX0_string 18 = .ok (.iconst 0, 1) := dk_3 (dk_at dksX0_string_0 18 rfl rfl)
theorem dX0_string_19 : decode cX0_string 19 = .ok (.ireturn, 1) := dk_172 (dk_at dksX0_string_0 19 rfl rfl)
abbrev cX0_boatOf : ByteArray := method_11_code
def yX0_boatOf : MethodName := ⟨RX0, "boatOf", "(LWhelkFleet;II[J)I"⟩
def dkwX0_boatOf_0 : List UInt8 := [45, 3, 42, 27, 28, 182, 0, 42, 133, 80, 167, 0, 11, 58, 4, 4, 172, 58, 4, 5, 172, 3, 172]
abbrev dktX0_boatOf_0 : List UInt8 := dkwX0_boatOf_0 ++ []
theorem dksX0_boatOf_0 : cX0_boatOf.data.toList.drop 0 = dktX0_boatOf_0 := by decide +kernel
theorem dX0_boatOf_0 : decode cX0_boatOf 0 = .ok (.aload_n 3, 1) := dk_45 (dk_at dksX0_boatOf_0 0 rfl rfl)
theorem dX0_boatOf_1 : decode cX0_boatOf 1 = .ok (.iconst 0, 1) := dk_3 (dk_at dksX0_boatOf_0 1 rfl rfl)
theorem dX0_boatOf_2 : decode cX0_boatOf 2 = .ok (.aload_n 0, 1) := dk_42 (dk_at dksX0_boatOf_0 2 rfl rfl)
theorem dX0_boatOf_3 : decode cX0_boatOf 3 = .ok (.iload_n 1, 1) := dk_27 (dk_at dksX0_boatOf_0 3 rfl rfl)
theorem dX0_boatOf_4 : decode cX0_boatOf 4 = .ok (.iload_n 2, 1) := dk_28 (dk_at dksX0_boatOf_0 4 rfl rfl)
theorem dX0_boatOf_5 : decode cX0_boatOf 5 = .ok (.invokevirtual 42, 3) := dk_182 0 42 (dk_at dksX0_boatOf_0 5 rfl rfl)
theorem dX0_boatOf_8 : decode cX0_boatOf 8 = .ok (.i2l, 1) := dk_133 (dk_at dksX0_boatOf_0 8 rfl rfl)
theorem dX0_boatOf_9 : decode cX0_boatOf 9 = .ok (.lastore, 1) := dk_80 (dk_at dksX0_boatOf_0 9 rfl rfl)
theorem dX0_boatOf_10 : decode cX0_boatOf 10 = .ok (.goto 11, 3) := dk_167 0 11 (dk_at dksX0_boatOf_0 10 rfl rfl)
theorem dX0_boatOf_13 : decode cX0_boatOf 13 = .ok (.astore 4, 2) := dk_58 4 (dk_at dksX0_boatOf_0 13 rfl rfl)
theorem dX0_boatOf_15 : decode cX0_boatOf 15 = .ok (.iconst 1, 1) := dk_4 (dk_at dksX0_boatOf_0 15 rfl rfl)
theorem dX0_boatOf_16 : decode cX0_boatOf 16 = .ok (.ireturn, 1) := dk_172 (dk_at dksX0_boatOf_0 16 rfl rfl)
theorem dX0_boatOf_17 : decode cX0_boatOf 17 = .ok (.astore 4, 2) := dk_58 4 (dk_at dksX0_boatOf_0 17 rfl rfl)
theorem dX0_boatOf_19 : decode cX0_boatOf 19 = .ok (.iconst 2, 1) := dk_5 (dk_at dksX0_boatOf_0 19 rfl rfl)
theorem dX0_boatOf_20 : decode cX0_boatOf 20 = .ok (.ireturn, 1) := dk_172 (dk_at dksX0_boatOf_0 20 rfl rfl)
theorem dX0_boatOf_21 : decode cX0_boatOf 21 = .ok (.iconst 0, 1) := dk_3 (dk_at dksX0_boatOf_0 21 rfl rfl)
theorem dX0_boatOf_22 : decode cX0_boatOf 22 = .ok (.ireturn, 1) := dk_172 (dk_at dksX0_boatOf_0 22 rfl rfl)
abbrev cX0_stringOf : ByteArray := method_12_code
def yX0_stringOf : MethodName := ⟨RX0, "stringOf", "(LWhelkFleet;II[J)I"⟩
def dkwX0_stringOf_0 : List UInt8 := [45, 3, 42, 27, 28, 182, 0, 45, 133, 80, 167, 0, 11, 58, 4, 4, 172, 58, 4, 5, 172, 3, 172]
abbrev dktX0_stringOf_0 : List UInt8 := dkwX0_stringOf_0 ++ []
theorem dksX0_stringOf_0 : cX0_stringOf.data.toList.drop 0 = dktX0_stringOf_0 := by decide +kernel
theorem dX0_stringOf_0 : decode cX0_stringOf 0 = .ok (.aload_n 3, 1) := dk_45 (dk_at dksX0_stringOf_0 0 rfl rfl)
theorem dX0_stringOf_1 : decode cX0_stringOf 1 = .ok (.iconst 0, 1) := dk_3 (dk_at dksX0_stringOf_0 1 rfl rfl)
theorem dX0_stringOf_2 : decode cX0_stringOf 2 = .ok (.aload_n 0, 1) := dk_42 (dk_at dksX0_stringOf_0 2 rfl rfl)
theorem dX0_stringOf_3 : decode cX0_stringOf 3 = .ok (.iload_n 1, 1) := dk_27 (dk_at dksX0_stringOf_0 3 rfl rfl)
theorem dX0_stringOf_4 : decode cX0_stringOf 4 = .ok (.iload_n 2, 1) := dk_28 (dk_at dksX0_stringOf_0 4 rfl rfl)
theorem dX0_stringOf_5 : decode cX0_stringOf 5 = .ok (.invokevirtual 45, 3) := dk_182 0 45 (dk_at dksX0_stringOf_0 5 rfl rfl)
theorem dX0_stringOf_8 : decode cX0_stringOf 8 = .ok (.i2l, 1) := dk_133 (dk_at dksX0_stringOf_0 8 rfl rfl)
theorem dX0_stringOf_9 : decode cX0_stringOf 9 = .ok (.lastore, 1) := dk_80 (dk_at dksX0_stringOf_0 9 rfl rfl)
theorem dX0_stringOf_10 : decode cX0_stringOf 10 = .ok (.goto 11, 3) := dk_167 0 11 (dk_at dksX0_stringOf_0 10 rfl rfl)
theorem dX0_stringOf_13 : decode cX0_stringOf 13 = .ok (.astore 4, 2) := dk_58 4 (dk_at dksX0_stringOf_0 13 rfl rfl)
theorem dX0_stringOf_15 : decode cX0_stringOf 15 = .ok (.iconst 1, 1) := dk_4 (dk_at dksX0_stringOf_0 15 rfl rfl)
theorem dX0_stringOf_16 : decode cX0_stringOf 16 = .ok (.ireturn, 1) := dk_172 (dk_at dksX0_stringOf_0 16 rfl rfl)
theorem dX0_stringOf_17 : decode cX0_stringOf 17 = .ok (.astore 4, 2) := dk_58 4 (dk_at dksX0_stringOf_0 17 rfl rfl)
theorem dX0_stringOf_19 : decode cX0_stringOf 19 = .ok (.iconst 2, 1) := dk_5 (dk_at dksX0_stringOf_0 19 rfl rfl)
theorem dX0_stringOf_20 : decode cX0_stringOf 20 = .ok (.ireturn, 1) := dk_172 (dk_at dksX0_stringOf_0 20 rfl rfl)
theorem dX0_stringOf_21 : decode cX0_stringOf 21 = .ok (.iconst 0, 1) := dk_3 (dk_at dksX0_stringOf_0 21 rfl rfl)
theorem dX0_stringOf_22 : decode cX0_stringOf 22 = .ok (.ireturn, 1) := dk_172 (dk_at dksX0_stringOf_0 22 rfl rfl)
abbrev cX0_out : ByteArray := method_13_code
def yX0_out : MethodName := ⟨RX0, "out", "(LWhelkFleet;II[J)I"⟩
def dkwX0_out_0 : List UInt8 := [45, 3, 42, 27, 28, 182, 0, 48, 133, 80, 167, 0, 11, 58, 4, 4, 172, 58, 4, 5, 172, 3, 172]
abbrev dktX0_out_0 : List UInt8 := dkwX0_out_0 ++ []
theorem dksX0_out_0 : cX0_out.data.toList.drop 0 = dktX0_out_0 := by decide +kernel
theorem dX0_out_0 : decode cX0_out 0 = .ok (.aload_n 3, 1) := dk_45 (dk_at dksX0_out_0 0 rfl rfl)
theorem dX0_out_1 : decode cX0_out 1 = .ok (.iconst 0, 1) := dk_3 (dk_at dksX0_out_0 1 rfl rfl)
theorem dX0_out_2 : decode cX0_out 2 = .ok (.aload_n 0, 1) := dk_42 (dk_at dksX0_out_0 2 rfl rfl)
theorem dX0_out_3 : decode cX0_out 3 = .ok (.iload_n 1, 1) := dk_27 (dk_at dksX0_out_0 3 rfl rfl)
theorem dX0_out_4 : decode cX0_out 4 = .ok (.iload_n 2, 1) := dk_28 (dk_at dksX0_out_0 4 rfl rfl)
theorem dX0_out_5 : decode cX0_out 5 = .ok (.invokevirtual 48, 3) := dk_182 0 48 (dk_at dksX0_out_0 5 rfl rfl)
theorem dX0_out_8 : decode cX0_out 8 = .ok (.i2l, 1) := dk_133 (dk_at dksX0_out_0 8 rfl rfl)
theorem dX0_out_9 : decode cX0_out 9 = .ok (.lastore, 1) := dk_80 (dk_at dksX0_out_0 9 rfl rfl)
theorem dX0_out_10 : decode cX0_out 10 = .ok (.goto 11, 3) := dk_167 0 11 (dk_at dksX0_out_0 10 rfl rfl)
theorem dX0_out_13 : decode cX0_out 13 = .ok (.astore 4, 2) := dk_58 4 (dk_at dksX0_out_0 13 rfl rfl)
theorem dX0_out_15 : decode cX0_out 15 = .ok (.iconst 1, 1) := dk_4 (dk_at dksX0_out_0 15 rfl rfl)
theorem dX0_out_16 : decode cX0_out 16 = .ok (.ireturn, 1) := dk_172 (dk_at dksX0_out_0 16 rfl rfl)
theorem dX0_out_17 : decode cX0_out 17 = .ok (.astore 4, 2) := dk_58 4 (dk_at dksX0_out_0 17 rfl rfl)
theorem dX0_out_19 : decode cX0_out 19 = .ok (.iconst 2, 1) := dk_5 (dk_at dksX0_out_0 19 rfl rfl)
theorem dX0_out_20 : decode cX0_out 20 = .ok (.ireturn, 1) := dk_172 (dk_at dksX0_out_0 20 rfl rfl)
theorem dX0_out_21 : decode cX0_out 21 = .ok (.iconst 0, 1) := dk_3 (dk_at dksX0_out_0 21 rfl rfl)
theorem dX0_out_22 : decode cX0_out 22 = .ok (.ireturn, 1) := dk_172 (dk_at dksX0_out_0 22 rfl rfl)
abbrev cX0_home : ByteArray := method_14_code
def yX0_home : MethodName := ⟨RX0, "home", "(LWhelkFleet;I[J)I"⟩
def dkwX0_home_0 : List UInt8 := [44, 3, 42, 27, 182, 0, 51, 133, 80, 167, 0, 9, 78, 4, 172, 78, 5, 172, 3, 172]
abbrev dktX0_home_0 : List UInt8 := dkwX0_home_0 ++ []
theorem dksX0_home_0 : cX0_home.data.toList.drop 0 = dktX0_home_0 := by decide +kernel
theorem dX0_home_0 : decode cX0_home 0 = .ok (.aload_n 2, 1) := dk_44 (dk_at dksX0_home_0 0 rfl rfl)
theorem dX0_home_1 : decode cX0_home 1 = .ok (.iconst 0, 1) := dk_3 (dk_at dksX0_home_0 1 rfl rfl)
theorem dX0_home_2 : decode cX0_home 2 = .ok (.aload_n 0, 1) := dk_42 (dk_at dksX0_home_0 2 rfl rfl)
theorem dX0_home_3 : decode cX0_home 3 = .ok (.iload_n 1, 1) := dk_27 (dk_at dksX0_home_0 3 rfl rfl)
theorem dX0_home_4 : decode cX0_home 4 = .ok (.invokevirtual 51, 3) := dk_182 0 51 (dk_at dksX0_home_0 4 rfl rfl)
theorem dX0_home_7 : decode cX0_home 7 = .ok (.i2l, 1) := dk_133 (dk_at dksX0_home_0 7 rfl rfl)
theorem dX0_home_8 : decode cX0_home 8 = .ok (.lastore, 1) := dk_80 (dk_at dksX0_home_0 8 rfl rfl)
theorem dX0_home_9 : decode cX0_home 9 = .ok (.goto 9, 3) := dk_167 0 9 (dk_at dksX0_home_0 9 rfl rfl)
theorem dX0_home_12 : decode cX0_home 12 = .ok (.astore_n 3, 1) := dk_78 (dk_at dksX0_home_0 12 rfl rfl)
theorem dX0_home_13 : decode cX0_home 13 = .ok (.iconst 1, 1) := dk_4 (dk_at dksX0_home_0 13 rfl rfl)
theorem dX0_home_14 : decode cX0_home 14 = .ok (.ireturn, 1) := dk_172 (dk_at dksX0_home_0 14 rfl rfl)
theorem dX0_home_15 : decode cX0_home 15 = .ok (.astore_n 3, 1) := dk_78 (dk_at dksX0_home_0 15 rfl rfl)
theorem dX0_home_16 : decode cX0_home 16 = .ok (.iconst 2, 1) := dk_5 (dk_at dksX0_home_0 16 rfl rfl)
theorem dX0_home_17 : decode cX0_home 17 = .ok (.ireturn, 1) := dk_172 (dk_at dksX0_home_0 17 rfl rfl)
theorem dX0_home_18 : decode cX0_home 18 = .ok (.iconst 0, 1) := dk_3 (dk_at dksX0_home_0 18 rfl rfl)
theorem dX0_home_19 : decode cX0_home 19 = .ok (.ireturn, 1) := dk_172 (dk_at dksX0_home_0 19 rfl rfl)
abbrev cX0_shoot : ByteArray := method_15_code
def yX0_shoot : MethodName := ⟨RX0, "shoot", "(LWhelkFleet;III[J)I"⟩
def dkwX0_shoot_1 : List UInt8 := [58, 5, 6, 172, 3, 172]
abbrev dktX0_shoot_1 : List UInt8 := dkwX0_shoot_1 ++ []
def dkwX0_shoot_0 : List UInt8 := [25, 4, 3, 42, 27, 28, 29, 182, 0, 54, 133, 80, 167, 0, 15, 58, 5, 4, 172, 58, 5, 5, 172]
abbrev dktX0_shoot_0 : List UInt8 := dkwX0_shoot_0 ++ dktX0_shoot_1
theorem dksX0_shoot_0 : cX0_shoot.data.toList.drop 0 = dktX0_shoot_0 := by decide +kernel
theorem dksX0_shoot_1 : cX0_shoot.data.toList.drop 23 = dktX0_shoot_1 := dk_seg dksX0_shoot_0 23 rfl rfl
theorem dX0_shoot_0 : decode cX0_shoot 0 = .ok (.aload 4, 2) := dk_25 4 (dk_at dksX0_shoot_0 0 rfl rfl)
theorem dX0_shoot_2 : decode cX0_shoot 2 = .ok (.iconst 0, 1) := dk_3 (dk_at dksX0_shoot_0 2 rfl rfl)
theorem dX0_shoot_3 : decode cX0_shoot 3 = .ok (.aload_n 0, 1) := dk_42 (dk_at dksX0_shoot_0 3 rfl rfl)
theorem dX0_shoot_4 : decode cX0_shoot 4 = .ok (.iload_n 1, 1) := dk_27 (dk_at dksX0_shoot_0 4 rfl rfl)
theorem dX0_shoot_5 : decode cX0_shoot 5 = .ok (.iload_n 2, 1) := dk_28 (dk_at dksX0_shoot_0 5 rfl rfl)
theorem dX0_shoot_6 : decode cX0_shoot 6 = .ok (.iload_n 3, 1) := dk_29 (dk_at dksX0_shoot_0 6 rfl rfl)
theorem dX0_shoot_7 : decode cX0_shoot 7 = .ok (.invokevirtual 54, 3) := dk_182 0 54 (dk_at dksX0_shoot_0 7 rfl rfl)
theorem dX0_shoot_10 : decode cX0_shoot 10 = .ok (.i2l, 1) := dk_133 (dk_at dksX0_shoot_0 10 rfl rfl)
theorem dX0_shoot_11 : decode cX0_shoot 11 = .ok (.lastore, 1) := dk_80 (dk_at dksX0_shoot_0 11 rfl rfl)
theorem dX0_shoot_12 : decode cX0_shoot 12 = .ok (.goto 15, 3) := dk_167 0 15 (dk_at dksX0_shoot_0 12 rfl rfl)
theorem dX0_shoot_15 : decode cX0_shoot 15 = .ok (.astore 5, 2) := dk_58 5 (dk_at dksX0_shoot_0 15 rfl rfl)
theorem dX0_shoot_17 : decode cX0_shoot 17 = .ok (.iconst 1, 1) := dk_4 (dk_at dksX0_shoot_0 17 rfl rfl)
theorem dX0_shoot_18 : decode cX0_shoot 18 = .ok (.ireturn, 1) := dk_172 (dk_at dksX0_shoot_0 18 rfl rfl)
theorem dX0_shoot_19 : decode cX0_shoot 19 = .ok (.astore 5, 2) := dk_58 5 (dk_at dksX0_shoot_0 19 rfl rfl)
theorem dX0_shoot_21 : decode cX0_shoot 21 = .ok (.iconst 2, 1) := dk_5 (dk_at dksX0_shoot_0 21 rfl rfl)
theorem dX0_shoot_22 : decode cX0_shoot 22 = .ok (.ireturn, 1) := dk_172 (dk_at dksX0_shoot_0 22 rfl rfl)
theorem dX0_shoot_23 : decode cX0_shoot 23 = .ok (.astore 5, 2) := dk_58 5 (dk_at dksX0_shoot_1 0 rfl rfl)
theorem dX0_shoot_25 : decode cX0_shoot 25 = .ok (.iconst 3, 1) := dk_6 (dk_at dksX0_shoot_1 2 rfl rfl)
theorem dX0_shoot_26 : decode cX0_shoot 26 = .ok (.ireturn, 1) := dk_172 (dk_at dksX0_shoot_1 3 rfl rfl)
theorem dX0_shoot_27 : decode cX0_shoot 27 = .ok (.iconst 0, 1) := dk_3 (dk_at dksX0_shoot_1 4 rfl rfl)
theorem dX0_shoot_28 : decode cX0_shoot 28 = .ok (.ireturn, 1) := dk_172 (dk_at dksX0_shoot_1 5 rfl rfl)
abbrev cX0_haul : ByteArray := method_16_code
def yX0_haul : MethodName := ⟨RX0, "haul", "(LWhelkFleet;II[J)I"⟩
def dkwX0_haul_0 : List UInt8 := [45, 3, 42, 27, 28, 182, 0, 57, 133, 80, 167, 0, 11, 58, 4, 4, 172, 58, 4, 5, 172, 3, 172]
abbrev dktX0_haul_0 : List UInt8 := dkwX0_haul_0 ++ []
theorem dksX0_haul_0 : cX0_haul.data.toList.drop 0 = dktX0_haul_0 := by decide +kernel
theorem dX0_haul_0 : decode cX0_haul 0 = .ok (.aload_n 3, 1) := dk_45 (dk_at dksX0_haul_0 0 rfl rfl)
theorem dX0_haul_1 : decode cX0_haul 1 = .ok (.iconst 0, 1) := dk_3 (dk_at dksX0_haul_0 1 rfl rfl)
theorem dX0_haul_2 : decode cX0_haul 2 = .ok (.aload_n 0, 1) := dk_42 (dk_at dksX0_haul_0 2 rfl rfl)
theorem dX0_haul_3 : decode cX0_haul 3 = .ok (.iload_n 1, 1) := dk_27 (dk_at dksX0_haul_0 3 rfl rfl)
theorem dX0_haul_4 : decode cX0_haul 4 = .ok (.iload_n 2, 1) := dk_28 (dk_at dksX0_haul_0 4 rfl rfl)
theorem dX0_haul_5 : decode cX0_haul 5 = .ok (.invokevirtual 57, 3) := dk_182 0 57 (dk_at dksX0_haul_0 5 rfl rfl)
theorem dX0_haul_8 : decode cX0_haul 8 = .ok (.i2l, 1) := dk_133 (dk_at dksX0_haul_0 8 rfl rfl)
theorem dX0_haul_9 : decode cX0_haul 9 = .ok (.lastore, 1) := dk_80 (dk_at dksX0_haul_0 9 rfl rfl)
theorem dX0_haul_10 : decode cX0_haul 10 = .ok (.goto 11, 3) := dk_167 0 11 (dk_at dksX0_haul_0 10 rfl rfl)
theorem dX0_haul_13 : decode cX0_haul 13 = .ok (.astore 4, 2) := dk_58 4 (dk_at dksX0_haul_0 13 rfl rfl)
theorem dX0_haul_15 : decode cX0_haul 15 = .ok (.iconst 1, 1) := dk_4 (dk_at dksX0_haul_0 15 rfl rfl)
theorem dX0_haul_16 : decode cX0_haul 16 = .ok (.ireturn, 1) := dk_172 (dk_at dksX0_haul_0 16 rfl rfl)
theorem dX0_haul_17 : decode cX0_haul 17 = .ok (.astore 4, 2) := dk_58 4 (dk_at dksX0_haul_0 17 rfl rfl)
theorem dX0_haul_19 : decode cX0_haul 19 = .ok (.iconst 2, 1) := dk_5 (dk_at dksX0_haul_0 19 rfl rfl)
theorem dX0_haul_20 : decode cX0_haul 20 = .ok (.ireturn, 1) := dk_172 (dk_at dksX0_haul_0 20 rfl rfl)
theorem dX0_haul_21 : decode cX0_haul 21 = .ok (.iconst 0, 1) := dk_3 (dk_at dksX0_haul_0 21 rfl rfl)
theorem dX0_haul_22 : decode cX0_haul 22 = .ok (.ireturn, 1) := dk_172 (dk_at dksX0_haul_0 22 rfl rfl)
abbrev cX0_land : ByteArray := method_17_code
def yX0_land : MethodName := ⟨RX0, "land", "(LWhelkFleet;I[J)I"⟩
def dkwX0_land_0 : List UInt8 := [44, 3, 42, 27, 182, 0, 60, 133, 80, 167, 0, 9, 78, 4, 172, 78, 5, 172, 3, 172]
abbrev dktX0_land_0 : List UInt8 := dkwX0_land_0 ++ []
theorem dksX0_land_0 : cX0_land.data.toList.drop 0 = dktX0_land_0 := by decide +kernel
theorem dX0_land_0 : decode cX0_land 0 = .ok (.aload_n 2, 1) := dk_44 (dk_at dksX0_land_0 0 rfl rfl)
theorem dX0_land_1 : decode cX0_land 1 = .ok (.iconst 0, 1) := dk_3 (dk_at dksX0_land_0 1 rfl rfl)
theorem dX0_land_2 : decode cX0_land 2 = .ok (.aload_n 0, 1) := dk_42 (dk_at dksX0_land_0 2 rfl rfl)
theorem dX0_land_3 : decode cX0_land 3 = .ok (.iload_n 1, 1) := dk_27 (dk_at dksX0_land_0 3 rfl rfl)
theorem dX0_land_4 : decode cX0_land 4 = .ok (.invokevirtual 60, 3) := dk_182 0 60 (dk_at dksX0_land_0 4 rfl rfl)
theorem dX0_land_7 : decode cX0_land 7 = .ok (.i2l, 1) := dk_133 (dk_at dksX0_land_0 7 rfl rfl)
theorem dX0_land_8 : decode cX0_land 8 = .ok (.lastore, 1) := dk_80 (dk_at dksX0_land_0 8 rfl rfl)
theorem dX0_land_9 : decode cX0_land 9 = .ok (.goto 9, 3) := dk_167 0 9 (dk_at dksX0_land_0 9 rfl rfl)
theorem dX0_land_12 : decode cX0_land 12 = .ok (.astore_n 3, 1) := dk_78 (dk_at dksX0_land_0 12 rfl rfl)
theorem dX0_land_13 : decode cX0_land 13 = .ok (.iconst 1, 1) := dk_4 (dk_at dksX0_land_0 13 rfl rfl)
theorem dX0_land_14 : decode cX0_land 14 = .ok (.ireturn, 1) := dk_172 (dk_at dksX0_land_0 14 rfl rfl)
theorem dX0_land_15 : decode cX0_land 15 = .ok (.astore_n 3, 1) := dk_78 (dk_at dksX0_land_0 15 rfl rfl)
theorem dX0_land_16 : decode cX0_land 16 = .ok (.iconst 2, 1) := dk_5 (dk_at dksX0_land_0 16 rfl rfl)
theorem dX0_land_17 : decode cX0_land 17 = .ok (.ireturn, 1) := dk_172 (dk_at dksX0_land_0 17 rfl rfl)
theorem dX0_land_18 : decode cX0_land 18 = .ok (.iconst 0, 1) := dk_3 (dk_at dksX0_land_0 18 rfl rfl)
theorem dX0_land_19 : decode cX0_land 19 = .ok (.ireturn, 1) := dk_172 (dk_at dksX0_land_0 19 rfl rfl)
abbrev cX0_wouldBring : ByteArray := method_18_code
def yX0_wouldBring : MethodName := ⟨RX0, "wouldBring", "(LWhelkFleet;II[J)I"⟩
def dkwX0_wouldBring_0 : List UInt8 := [45, 3, 42, 27, 28, 182, 0, 63, 133, 80, 167, 0, 11, 58, 4, 4, 172, 58, 4, 5, 172, 3, 172]
abbrev dktX0_wouldBring_0 : List UInt8 := dkwX0_wouldBring_0 ++ []
theorem dksX0_wouldBring_0 : cX0_wouldBring.data.toList.drop 0 = dktX0_wouldBring_0 := by decide +kernel
theorem dX0_wouldBring_0 : decode cX0_wouldBring 0 = .ok (.aload_n 3, 1) := dk_45 (dk_at dksX0_wouldBring_0 0 rfl rfl)
theorem dX0_wouldBring_1 : decode cX0_wouldBring 1 = .ok (.iconst 0, 1) := dk_3 (dk_at dksX0_wouldBring_0 1 rfl rfl)
theorem dX0_wouldBring_2 : decode cX0_wouldBring 2 = .ok (.aload_n 0, 1) := dk_42 (dk_at dksX0_wouldBring_0 2 rfl rfl)
theorem dX0_wouldBring_3 : decode cX0_wouldBring 3 = .ok (.iload_n 1, 1) := dk_27 (dk_at dksX0_wouldBring_0 3 rfl rfl)
theorem dX0_wouldBring_4 : decode cX0_wouldBring 4 = .ok (.iload_n 2, 1) := dk_28 (dk_at dksX0_wouldBring_0 4 rfl rfl)
theorem dX0_wouldBring_5 : decode cX0_wouldBring 5 = .ok (.invokevirtual 63, 3) := dk_182 0 63 (dk_at dksX0_wouldBring_0 5 rfl rfl)
theorem dX0_wouldBring_8 : decode cX0_wouldBring 8 = .ok (.i2l, 1) := dk_133 (dk_at dksX0_wouldBring_0 8 rfl rfl)
theorem dX0_wouldBring_9 : decode cX0_wouldBring 9 = .ok (.lastore, 1) := dk_80 (dk_at dksX0_wouldBring_0 9 rfl rfl)
theorem dX0_wouldBring_10 : decode cX0_wouldBring 10 = .ok (.goto 11, 3) := dk_167 0 11 (dk_at dksX0_wouldBring_0 10 rfl rfl)
theorem dX0_wouldBring_13 : decode cX0_wouldBring 13 = .ok (.astore 4, 2) := dk_58 4 (dk_at dksX0_wouldBring_0 13 rfl rfl)
theorem dX0_wouldBring_15 : decode cX0_wouldBring 15 = .ok (.iconst 1, 1) := dk_4 (dk_at dksX0_wouldBring_0 15 rfl rfl)
theorem dX0_wouldBring_16 : decode cX0_wouldBring 16 = .ok (.ireturn, 1) := dk_172 (dk_at dksX0_wouldBring_0 16 rfl rfl)
theorem dX0_wouldBring_17 : decode cX0_wouldBring 17 = .ok (.astore 4, 2) := dk_58 4 (dk_at dksX0_wouldBring_0 17 rfl rfl)
theorem dX0_wouldBring_19 : decode cX0_wouldBring 19 = .ok (.iconst 2, 1) := dk_5 (dk_at dksX0_wouldBring_0 19 rfl rfl)
theorem dX0_wouldBring_20 : decode cX0_wouldBring 20 = .ok (.ireturn, 1) := dk_172 (dk_at dksX0_wouldBring_0 20 rfl rfl)
theorem dX0_wouldBring_21 : decode cX0_wouldBring 21 = .ok (.iconst 0, 1) := dk_3 (dk_at dksX0_wouldBring_0 21 rfl rfl)
theorem dX0_wouldBring_22 : decode cX0_wouldBring 22 = .ok (.ireturn, 1) := dk_172 (dk_at dksX0_wouldBring_0 22 rfl rfl)
abbrev cX0_bestDay : ByteArray := method_19_code
def yX0_bestDay : MethodName := ⟨RX0, "bestDay", "(LWhelkFleet;I[J)I"⟩
def dkwX0_bestDay_0 : List UInt8 := [44, 3, 42, 27, 182, 0, 66, 133, 80, 167, 0, 9, 78, 4, 172, 78, 5, 172, 3, 172]
abbrev dktX0_bestDay_0 : List UInt8 := dkwX0_bestDay_0 ++ []
theorem dksX0_bestDay_0 : cX0_bestDay.data.toList.drop 0 = dktX0_bestDay_0 := by decide +kernel
theorem dX0_bestDay_0 : decode cX0_bestDay 0 = .ok (.aload_n 2, 1) := dk_44 (dk_at dksX0_bestDay_0 0 rfl rfl)
theorem dX0_bestDay_1 : decode cX0_bestDay 1 = .ok (.iconst 0, 1) := dk_3 (dk_at dksX0_bestDay_0 1 rfl rfl)
theorem dX0_bestDay_2 : decode cX0_bestDay 2 = .ok (.aload_n 0, 1) := dk_42 (dk_at dksX0_bestDay_0 2 rfl rfl)
theorem dX0_bestDay_3 : decode cX0_bestDay 3 = .ok (.iload_n 1, 1) := dk_27 (dk_at dksX0_bestDay_0 3 rfl rfl)
theorem dX0_bestDay_4 : decode cX0_bestDay 4 = .ok (.invokevirtual 66, 3) := dk_182 0 66 (dk_at dksX0_bestDay_0 4 rfl rfl)
theorem dX0_bestDay_7 : decode cX0_bestDay 7 = .ok (.i2l, 1) := dk_133 (dk_at dksX0_bestDay_0 7 rfl rfl)
theorem dX0_bestDay_8 : decode cX0_bestDay 8 = .ok (.lastore, 1) := dk_80 (dk_at dksX0_bestDay_0 8 rfl rfl)
theorem dX0_bestDay_9 : decode cX0_bestDay 9 = .ok (.goto 9, 3) := dk_167 0 9 (dk_at dksX0_bestDay_0 9 rfl rfl)
theorem dX0_bestDay_12 : decode cX0_bestDay 12 = .ok (.astore_n 3, 1) := dk_78 (dk_at dksX0_bestDay_0 12 rfl rfl)
theorem dX0_bestDay_13 : decode cX0_bestDay 13 = .ok (.iconst 1, 1) := dk_4 (dk_at dksX0_bestDay_0 13 rfl rfl)
theorem dX0_bestDay_14 : decode cX0_bestDay 14 = .ok (.ireturn, 1) := dk_172 (dk_at dksX0_bestDay_0 14 rfl rfl)
theorem dX0_bestDay_15 : decode cX0_bestDay 15 = .ok (.astore_n 3, 1) := dk_78 (dk_at dksX0_bestDay_0 15 rfl rfl)
theorem dX0_bestDay_16 : decode cX0_bestDay 16 = .ok (.iconst 2, 1) := dk_5 (dk_at dksX0_bestDay_0 16 rfl rfl)
theorem dX0_bestDay_17 : decode cX0_bestDay 17 = .ok (.ireturn, 1) := dk_172 (dk_at dksX0_bestDay_0 17 rfl rfl)
theorem dX0_bestDay_18 : decode cX0_bestDay 18 = .ok (.iconst 0, 1) := dk_3 (dk_at dksX0_bestDay_0 18 rfl rfl)
theorem dX0_bestDay_19 : decode cX0_bestDay 19 = .ok (.ireturn, 1) := dk_172 (dk_at dksX0_bestDay_0 19 rfl rfl)
abbrev cX0_ranked : ByteArray := method_20_code
def yX0_ranked : MethodName := ⟨RX0, "ranked", "(LWhelkFleet;I[J)I"⟩
def dkwX0_ranked_0 : List UInt8 := [44, 3, 42, 27, 182, 0, 71, 133, 80, 167, 0, 6, 78, 4, 172, 3, 172]
abbrev dktX0_ranked_0 : List UInt8 := dkwX0_ranked_0 ++ []
theorem dksX0_ranked_0 : cX0_ranked.data.toList.drop 0 = dktX0_ranked_0 := by decide +kernel
theorem dX0_ranked_0 : decode cX0_ranked 0 = .ok (.aload_n 2, 1) := dk_44 (dk_at dksX0_ranked_0 0 rfl rfl)
theorem dX0_ranked_1 : decode cX0_ranked 1 = .ok (.iconst 0, 1) := dk_3 (dk_at dksX0_ranked_0 1 rfl rfl)
theorem dX0_ranked_2 : decode cX0_ranked 2 = .ok (.aload_n 0, 1) := dk_42 (dk_at dksX0_ranked_0 2 rfl rfl)
theorem dX0_ranked_3 : decode cX0_ranked 3 = .ok (.iload_n 1, 1) := dk_27 (dk_at dksX0_ranked_0 3 rfl rfl)
theorem dX0_ranked_4 : decode cX0_ranked 4 = .ok (.invokevirtual 71, 3) := dk_182 0 71 (dk_at dksX0_ranked_0 4 rfl rfl)
theorem dX0_ranked_7 : decode cX0_ranked 7 = .ok (.i2l, 1) := dk_133 (dk_at dksX0_ranked_0 7 rfl rfl)
theorem dX0_ranked_8 : decode cX0_ranked 8 = .ok (.lastore, 1) := dk_80 (dk_at dksX0_ranked_0 8 rfl rfl)
theorem dX0_ranked_9 : decode cX0_ranked 9 = .ok (.goto 6, 3) := dk_167 0 6 (dk_at dksX0_ranked_0 9 rfl rfl)
theorem dX0_ranked_12 : decode cX0_ranked 12 = .ok (.astore_n 3, 1) := dk_78 (dk_at dksX0_ranked_0 12 rfl rfl)
theorem dX0_ranked_13 : decode cX0_ranked 13 = .ok (.iconst 1, 1) := dk_4 (dk_at dksX0_ranked_0 13 rfl rfl)
theorem dX0_ranked_14 : decode cX0_ranked 14 = .ok (.ireturn, 1) := dk_172 (dk_at dksX0_ranked_0 14 rfl rfl)
theorem dX0_ranked_15 : decode cX0_ranked 15 = .ok (.iconst 0, 1) := dk_3 (dk_at dksX0_ranked_0 15 rfl rfl)
theorem dX0_ranked_16 : decode cX0_ranked 16 = .ok (.ireturn, 1) := dk_172 (dk_at dksX0_ranked_0 16 rfl rfl)
abbrev cX0_swell : ByteArray := method_21_code
def yX0_swell : MethodName := ⟨RX0, "swell", "(LWhelkFleet;I[J)I"⟩
def dkwX0_swell_0 : List UInt8 := [44, 3, 42, 27, 182, 0, 74, 133, 80, 167, 0, 6, 78, 4, 172, 3, 172]
abbrev dktX0_swell_0 : List UInt8 := dkwX0_swell_0 ++ []
theorem dksX0_swell_0 : cX0_swell.data.toList.drop 0 = dktX0_swell_0 := by decide +kernel
theorem dX0_swell_0 : decode cX0_swell 0 = .ok (.aload_n 2, 1) := dk_44 (dk_at dksX0_swell_0 0 rfl rfl)
theorem dX0_swell_1 : decode cX0_swell 1 = .ok (.iconst 0, 1) := dk_3 (dk_at dksX0_swell_0 1 rfl rfl)
theorem dX0_swell_2 : decode cX0_swell 2 = .ok (.aload_n 0, 1) := dk_42 (dk_at dksX0_swell_0 2 rfl rfl)
theorem dX0_swell_3 : decode cX0_swell 3 = .ok (.iload_n 1, 1) := dk_27 (dk_at dksX0_swell_0 3 rfl rfl)
theorem dX0_swell_4 : decode cX0_swell 4 = .ok (.invokevirtual 74, 3) := dk_182 0 74 (dk_at dksX0_swell_0 4 rfl rfl)
theorem dX0_swell_7 : decode cX0_swell 7 = .ok (.i2l, 1) := dk_133 (dk_at dksX0_swell_0 7 rfl rfl)
theorem dX0_swell_8 : decode cX0_swell 8 = .ok (.lastore, 1) := dk_80 (dk_at dksX0_swell_0 8 rfl rfl)
theorem dX0_swell_9 : decode cX0_swell 9 = .ok (.goto 6, 3) := dk_167 0 6 (dk_at dksX0_swell_0 9 rfl rfl)
theorem dX0_swell_12 : decode cX0_swell 12 = .ok (.astore_n 3, 1) := dk_78 (dk_at dksX0_swell_0 12 rfl rfl)
theorem dX0_swell_13 : decode cX0_swell 13 = .ok (.iconst 1, 1) := dk_4 (dk_at dksX0_swell_0 13 rfl rfl)
theorem dX0_swell_14 : decode cX0_swell 14 = .ok (.ireturn, 1) := dk_172 (dk_at dksX0_swell_0 14 rfl rfl)
theorem dX0_swell_15 : decode cX0_swell 15 = .ok (.iconst 0, 1) := dk_3 (dk_at dksX0_swell_0 15 rfl rfl)
theorem dX0_swell_16 : decode cX0_swell 16 = .ok (.ireturn, 1) := dk_172 (dk_at dksX0_swell_0 16 rfl rfl)
abbrev cX0_riddle : ByteArray := method_22_code
def yX0_riddle : MethodName := ⟨RX0, "riddle", "(LWhelkFleet;I[J)I"⟩
def dkwX0_riddle_0 : List UInt8 := [44, 3, 42, 27, 182, 0, 77, 133, 80, 167, 0, 6, 78, 4, 172, 3, 172]
abbrev dktX0_riddle_0 : List UInt8 := dkwX0_riddle_0 ++ []
theorem dksX0_riddle_0 : cX0_riddle.data.toList.drop 0 = dktX0_riddle_0 := by decide +kernel
theorem dX0_riddle_0 : decode cX0_riddle 0 = .ok (.aload_n 2, 1) := dk_44 (dk_at dksX0_riddle_0 0 rfl rfl)
theorem dX0_riddle_1 : decode cX0_riddle 1 = .ok (.iconst 0, 1) := dk_3 (dk_at dksX0_riddle_0 1 rfl rfl)
theorem dX0_riddle_2 : decode cX0_riddle 2 = .ok (.aload_n 0, 1) := dk_42 (dk_at dksX0_riddle_0 2 rfl rfl)
theorem dX0_riddle_3 : decode cX0_riddle 3 = .ok (.iload_n 1, 1) := dk_27 (dk_at dksX0_riddle_0 3 rfl rfl)
theorem dX0_riddle_4 : decode cX0_riddle 4 = .ok (.invokevirtual 77, 3) := dk_182 0 77 (dk_at dksX0_riddle_0 4 rfl rfl)
theorem dX0_riddle_7 : decode cX0_riddle 7 = .ok (.i2l, 1) := dk_133 (dk_at dksX0_riddle_0 7 rfl rfl)
theorem dX0_riddle_8 : decode cX0_riddle 8 = .ok (.lastore, 1) := dk_80 (dk_at dksX0_riddle_0 8 rfl rfl)
theorem dX0_riddle_9 : decode cX0_riddle 9 = .ok (.goto 6, 3) := dk_167 0 6 (dk_at dksX0_riddle_0 9 rfl rfl)
theorem dX0_riddle_12 : decode cX0_riddle 12 = .ok (.astore_n 3, 1) := dk_78 (dk_at dksX0_riddle_0 12 rfl rfl)
theorem dX0_riddle_13 : decode cX0_riddle 13 = .ok (.iconst 1, 1) := dk_4 (dk_at dksX0_riddle_0 13 rfl rfl)
theorem dX0_riddle_14 : decode cX0_riddle 14 = .ok (.ireturn, 1) := dk_172 (dk_at dksX0_riddle_0 14 rfl rfl)
theorem dX0_riddle_15 : decode cX0_riddle 15 = .ok (.iconst 0, 1) := dk_3 (dk_at dksX0_riddle_0 15 rfl rfl)
theorem dX0_riddle_16 : decode cX0_riddle 16 = .ok (.ireturn, 1) := dk_172 (dk_at dksX0_riddle_0 16 rfl rfl)
abbrev cX0_pass : ByteArray := method_23_code
def yX0_pass : MethodName := ⟨RX0, "pass", "(LWhelkFleet;I[J)I"⟩
def dkwX0_pass_0 : List UInt8 := [44, 3, 42, 27, 182, 0, 80, 133, 80, 167, 0, 6, 78, 4, 172, 3, 172]
abbrev dktX0_pass_0 : List UInt8 := dkwX0_pass_0 ++ []
theorem dksX0_pass_0 : cX0_pass.data.toList.drop 0 = dktX0_pass_0 := by decide +kernel
theorem dX0_pass_0 : decode cX0_pass 0 = .ok (.aload_n 2, 1) := dk_44 (dk_at dksX0_pass_0 0 rfl rfl)
theorem dX0_pass_1 : decode cX0_pass 1 = .ok (.iconst 0, 1) := dk_3 (dk_at dksX0_pass_0 1 rfl rfl)
theorem dX0_pass_2 : decode cX0_pass 2 = .ok (.aload_n 0, 1) := dk_42 (dk_at dksX0_pass_0 2 rfl rfl)
theorem dX0_pass_3 : decode cX0_pass 3 = .ok (.iload_n 1, 1) := dk_27 (dk_at dksX0_pass_0 3 rfl rfl)
theorem dX0_pass_4 : decode cX0_pass 4 = .ok (.invokevirtual 80, 3) := dk_182 0 80 (dk_at dksX0_pass_0 4 rfl rfl)
theorem dX0_pass_7 : decode cX0_pass 7 = .ok (.i2l, 1) := dk_133 (dk_at dksX0_pass_0 7 rfl rfl)
theorem dX0_pass_8 : decode cX0_pass 8 = .ok (.lastore, 1) := dk_80 (dk_at dksX0_pass_0 8 rfl rfl)
theorem dX0_pass_9 : decode cX0_pass 9 = .ok (.goto 6, 3) := dk_167 0 6 (dk_at dksX0_pass_0 9 rfl rfl)
theorem dX0_pass_12 : decode cX0_pass 12 = .ok (.astore_n 3, 1) := dk_78 (dk_at dksX0_pass_0 12 rfl rfl)
theorem dX0_pass_13 : decode cX0_pass 13 = .ok (.iconst 1, 1) := dk_4 (dk_at dksX0_pass_0 13 rfl rfl)
theorem dX0_pass_14 : decode cX0_pass 14 = .ok (.ireturn, 1) := dk_172 (dk_at dksX0_pass_0 14 rfl rfl)
theorem dX0_pass_15 : decode cX0_pass 15 = .ok (.iconst 0, 1) := dk_3 (dk_at dksX0_pass_0 15 rfl rfl)
theorem dX0_pass_16 : decode cX0_pass 16 = .ok (.ireturn, 1) := dk_172 (dk_at dksX0_pass_0 16 rfl rfl)
abbrev cX0_whelksIn : ByteArray := method_24_code
def yX0_whelksIn : MethodName := ⟨RX0, "whelksIn", "(LWhelkFleet;II[J)I"⟩
def dkwX0_whelksIn_0 : List UInt8 := [45, 3, 42, 27, 28, 182, 0, 83, 133, 80, 167, 0, 7, 58, 4, 4, 172, 3, 172]
abbrev dktX0_whelksIn_0 : List UInt8 := dkwX0_whelksIn_0 ++ []
theorem dksX0_whelksIn_0 : cX0_whelksIn.data.toList.drop 0 = dktX0_whelksIn_0 := by decide +kernel
theorem dX0_whelksIn_0 : decode cX0_whelksIn 0 = .ok (.aload_n 3, 1) := dk_45 (dk_at dksX0_whelksIn_0 0 rfl rfl)
theorem dX0_whelksIn_1 : decode cX0_whelksIn 1 = .ok (.iconst 0, 1) := dk_3 (dk_at dksX0_whelksIn_0 1 rfl rfl)
theorem dX0_whelksIn_2 : decode cX0_whelksIn 2 = .ok (.aload_n 0, 1) := dk_42 (dk_at dksX0_whelksIn_0 2 rfl rfl)
theorem dX0_whelksIn_3 : decode cX0_whelksIn 3 = .ok (.iload_n 1, 1) := dk_27 (dk_at dksX0_whelksIn_0 3 rfl rfl)
theorem dX0_whelksIn_4 : decode cX0_whelksIn 4 = .ok (.iload_n 2, 1) := dk_28 (dk_at dksX0_whelksIn_0 4 rfl rfl)
theorem dX0_whelksIn_5 : decode cX0_whelksIn 5 = .ok (.invokevirtual 83, 3) := dk_182 0 83 (dk_at dksX0_whelksIn_0 5 rfl rfl)
theorem dX0_whelksIn_8 : decode cX0_whelksIn 8 = .ok (.i2l, 1) := dk_133 (dk_at dksX0_whelksIn_0 8 rfl rfl)
theorem dX0_whelksIn_9 : decode cX0_whelksIn 9 = .ok (.lastore, 1) := dk_80 (dk_at dksX0_whelksIn_0 9 rfl rfl)
theorem dX0_whelksIn_10 : decode cX0_whelksIn 10 = .ok (.goto 7, 3) := dk_167 0 7 (dk_at dksX0_whelksIn_0 10 rfl rfl)
theorem dX0_whelksIn_13 : decode cX0_whelksIn 13 = .ok (.astore 4, 2) := dk_58 4 (dk_at dksX0_whelksIn_0 13 rfl rfl)
theorem dX0_whelksIn_15 : decode cX0_whelksIn 15 = .ok (.iconst 1, 1) := dk_4 (dk_at dksX0_whelksIn_0 15 rfl rfl)
theorem dX0_whelksIn_16 : decode cX0_whelksIn 16 = .ok (.ireturn, 1) := dk_172 (dk_at dksX0_whelksIn_0 16 rfl rfl)
theorem dX0_whelksIn_17 : decode cX0_whelksIn 17 = .ok (.iconst 0, 1) := dk_3 (dk_at dksX0_whelksIn_0 17 rfl rfl)
theorem dX0_whelksIn_18 : decode cX0_whelksIn 18 = .ok (.ireturn, 1) := dk_172 (dk_at dksX0_whelksIn_0 18 rfl rfl)
abbrev cX0_type : ByteArray := method_25_code
def yX0_type : MethodName := ⟨RX0, "type", "(LWhelkFleet;C[J)I"⟩
def dkwX0_type_0 : List UInt8 := [44, 3, 42, 27, 182, 0, 86, 133, 80, 167, 0, 6, 78, 4, 172, 3, 172]
abbrev dktX0_type_0 : List UInt8 := dkwX0_type_0 ++ []
theorem dksX0_type_0 : cX0_type.data.toList.drop 0 = dktX0_type_0 := by decide +kernel
theorem dX0_type_0 : decode cX0_type 0 = .ok (.aload_n 2, 1) := dk_44 (dk_at dksX0_type_0 0 rfl rfl)
theorem dX0_type_1 : decode cX0_type 1 = .ok (.iconst 0, 1) := dk_3 (dk_at dksX0_type_0 1 rfl rfl)
theorem dX0_type_2 : decode cX0_type 2 = .ok (.aload_n 0, 1) := dk_42 (dk_at dksX0_type_0 2 rfl rfl)
theorem dX0_type_3 : decode cX0_type 3 = .ok (.iload_n 1, 1) := dk_27 (dk_at dksX0_type_0 3 rfl rfl)
theorem dX0_type_4 : decode cX0_type 4 = .ok (.invokevirtual 86, 3) := dk_182 0 86 (dk_at dksX0_type_0 4 rfl rfl)
theorem dX0_type_7 : decode cX0_type 7 = .ok (.i2l, 1) := dk_133 (dk_at dksX0_type_0 7 rfl rfl)
theorem dX0_type_8 : decode cX0_type 8 = .ok (.lastore, 1) := dk_80 (dk_at dksX0_type_0 8 rfl rfl)
theorem dX0_type_9 : decode cX0_type 9 = .ok (.goto 6, 3) := dk_167 0 6 (dk_at dksX0_type_0 9 rfl rfl)
theorem dX0_type_12 : decode cX0_type 12 = .ok (.astore_n 3, 1) := dk_78 (dk_at dksX0_type_0 12 rfl rfl)
theorem dX0_type_13 : decode cX0_type 13 = .ok (.iconst 1, 1) := dk_4 (dk_at dksX0_type_0 13 rfl rfl)
theorem dX0_type_14 : decode cX0_type 14 = .ok (.ireturn, 1) := dk_172 (dk_at dksX0_type_0 14 rfl rfl)
theorem dX0_type_15 : decode cX0_type 15 = .ok (.iconst 0, 1) := dk_3 (dk_at dksX0_type_0 15 rfl rfl)
theorem dX0_type_16 : decode cX0_type 16 = .ok (.ireturn, 1) := dk_172 (dk_at dksX0_type_0 16 rfl rfl)
abbrev cX0_read : ByteArray := method_26_code
def yX0_read : MethodName := ⟨RX0, "read", "(LWhelkFleet;[J)I"⟩
def dkwX0_read_0 : List UInt8 := [43, 3, 42, 182, 0, 92, 133, 80, 167, 0, 9, 77, 4, 172, 77, 5, 172, 3, 172]
abbrev dktX0_read_0 : List UInt8 := dkwX0_read_0 ++ []
theorem dksX0_read_0 : cX0_read.data.toList.drop 0 = dktX0_read_0 := by decide +kernel
theorem dX0_read_0 : decode cX0_read 0 = .ok (.aload_n 1, 1) := dk_43 (dk_at dksX0_read_0 0 rfl rfl)
theorem dX0_read_1 : decode cX0_read 1 = .ok (.iconst 0, 1) := dk_3 (dk_at dksX0_read_0 1 rfl rfl)
theorem dX0_read_2 : decode cX0_read 2 = .ok (.aload_n 0, 1) := dk_42 (dk_at dksX0_read_0 2 rfl rfl)
theorem dX0_read_3 : decode cX0_read 3 = .ok (.invokevirtual 92, 3) := dk_182 0 92 (dk_at dksX0_read_0 3 rfl rfl)
theorem dX0_read_6 : decode cX0_read 6 = .ok (.i2l, 1) := dk_133 (dk_at dksX0_read_0 6 rfl rfl)
theorem dX0_read_7 : decode cX0_read 7 = .ok (.lastore, 1) := dk_80 (dk_at dksX0_read_0 7 rfl rfl)
theorem dX0_read_8 : decode cX0_read 8 = .ok (.goto 9, 3) := dk_167 0 9 (dk_at dksX0_read_0 8 rfl rfl)
theorem dX0_read_11 : decode cX0_read 11 = .ok (.astore_n 2, 1) := dk_77 (dk_at dksX0_read_0 11 rfl rfl)
theorem dX0_read_12 : decode cX0_read 12 = .ok (.iconst 1, 1) := dk_4 (dk_at dksX0_read_0 12 rfl rfl)
theorem dX0_read_13 : decode cX0_read 13 = .ok (.ireturn, 1) := dk_172 (dk_at dksX0_read_0 13 rfl rfl)
theorem dX0_read_14 : decode cX0_read 14 = .ok (.astore_n 2, 1) := dk_77 (dk_at dksX0_read_0 14 rfl rfl)
theorem dX0_read_15 : decode cX0_read 15 = .ok (.iconst 2, 1) := dk_5 (dk_at dksX0_read_0 15 rfl rfl)
theorem dX0_read_16 : decode cX0_read 16 = .ok (.ireturn, 1) := dk_172 (dk_at dksX0_read_0 16 rfl rfl)
theorem dX0_read_17 : decode cX0_read 17 = .ok (.iconst 0, 1) := dk_3 (dk_at dksX0_read_0 17 rfl rfl)
theorem dX0_read_18 : decode cX0_read 18 = .ok (.ireturn, 1) := dk_172 (dk_at dksX0_read_0 18 rfl rfl)
abbrev cX0_errorPosition : ByteArray := method_27_code
def yX0_errorPosition : MethodName := ⟨RX0, "errorPosition", "(LWhelkFleet;[J)I"⟩
def dkwX0_errorPosition_0 : List UInt8 := [43, 3, 42, 182, 0, 96, 133, 80, 167, 0, 6, 77, 4, 172, 3, 172]
abbrev dktX0_errorPosition_0 : List UInt8 := dkwX0_errorPosition_0 ++ []
theorem dksX0_errorPosition_0 : cX0_errorPosition.data.toList.drop 0 = dktX0_errorPosition_0 := by decide +kernel
theorem dX0_errorPosition_0 : decode cX0_errorPosition 0 = .ok (.aload_n 1, 1) := dk_43 (dk_at dksX0_errorPosition_0 0 rfl rfl)
theorem dX0_errorPosition_1 : decode cX0_errorPosition 1 = .ok (.iconst 0, 1) := dk_3 (dk_at dksX0_errorPosition_0 1 rfl rfl)
theorem dX0_errorPosition_2 : decode cX0_errorPosition 2 = .ok (.aload_n 0, 1) := dk_42 (dk_at dksX0_errorPosition_0 2 rfl rfl)
theorem dX0_errorPosition_3 : decode cX0_errorPosition 3 = .ok (.invokevirtual 96, 3) := dk_182 0 96 (dk_at dksX0_errorPosition_0 3 rfl rfl)
theorem dX0_errorPosition_6 : decode cX0_errorPosition 6 = .ok (.i2l, 1) := dk_133 (dk_at dksX0_errorPosition_0 6 rfl rfl)
theorem dX0_errorPosition_7 : decode cX0_errorPosition 7 = .ok (.lastore, 1) := dk_80 (dk_at dksX0_errorPosition_0 7 rfl rfl)
theorem dX0_errorPosition_8 : decode cX0_errorPosition 8 = .ok (.goto 6, 3) := dk_167 0 6 (dk_at dksX0_errorPosition_0 8 rfl rfl)
theorem dX0_errorPosition_11 : decode cX0_errorPosition 11 = .ok (.astore_n 2, 1) := dk_77 (dk_at dksX0_errorPosition_0 11 rfl rfl)
theorem dX0_errorPosition_12 : decode cX0_errorPosition 12 = .ok (.iconst 1, 1) := dk_4 (dk_at dksX0_errorPosition_0 12 rfl rfl)
theorem dX0_errorPosition_13 : decode cX0_errorPosition 13 = .ok (.ireturn, 1) := dk_172 (dk_at dksX0_errorPosition_0 13 rfl rfl)
theorem dX0_errorPosition_14 : decode cX0_errorPosition 14 = .ok (.iconst 0, 1) := dk_3 (dk_at dksX0_errorPosition_0 14 rfl rfl)
theorem dX0_errorPosition_15 : decode cX0_errorPosition 15 = .ok (.ireturn, 1) := dk_172 (dk_at dksX0_errorPosition_0 15 rfl rfl)
abbrev cX0_refusal : ByteArray := method_28_code
def yX0_refusal : MethodName := ⟨RX0, "refusal", "(LWhelkFleet;IZ[J)I"⟩
def dkwX0_refusal_0 : List UInt8 := [45, 3, 42, 27, 28, 182, 0, 99, 133, 80, 167, 0, 11, 58, 4, 4, 172, 58, 4, 5, 172, 3, 172]
abbrev dktX0_refusal_0 : List UInt8 := dkwX0_refusal_0 ++ []
theorem dksX0_refusal_0 : cX0_refusal.data.toList.drop 0 = dktX0_refusal_0 := by decide +kernel
theorem dX0_refusal_0 : decode cX0_refusal 0 = .ok (.aload_n 3, 1) := dk_45 (dk_at dksX0_refusal_0 0 rfl rfl)
theorem dX0_refusal_1 : decode cX0_refusal 1 = .ok (.iconst 0, 1) := dk_3 (dk_at dksX0_refusal_0 1 rfl rfl)
theorem dX0_refusal_2 : decode cX0_refusal 2 = .ok (.aload_n 0, 1) := dk_42 (dk_at dksX0_refusal_0 2 rfl rfl)
theorem dX0_refusal_3 : decode cX0_refusal 3 = .ok (.iload_n 1, 1) := dk_27 (dk_at dksX0_refusal_0 3 rfl rfl)
theorem dX0_refusal_4 : decode cX0_refusal 4 = .ok (.iload_n 2, 1) := dk_28 (dk_at dksX0_refusal_0 4 rfl rfl)
theorem dX0_refusal_5 : decode cX0_refusal 5 = .ok (.invokevirtual 99, 3) := dk_182 0 99 (dk_at dksX0_refusal_0 5 rfl rfl)
theorem dX0_refusal_8 : decode cX0_refusal 8 = .ok (.i2l, 1) := dk_133 (dk_at dksX0_refusal_0 8 rfl rfl)
theorem dX0_refusal_9 : decode cX0_refusal 9 = .ok (.lastore, 1) := dk_80 (dk_at dksX0_refusal_0 9 rfl rfl)
theorem dX0_refusal_10 : decode cX0_refusal 10 = .ok (.goto 11, 3) := dk_167 0 11 (dk_at dksX0_refusal_0 10 rfl rfl)
theorem dX0_refusal_13 : decode cX0_refusal 13 = .ok (.astore 4, 2) := dk_58 4 (dk_at dksX0_refusal_0 13 rfl rfl)
theorem dX0_refusal_15 : decode cX0_refusal 15 = .ok (.iconst 1, 1) := dk_4 (dk_at dksX0_refusal_0 15 rfl rfl)
theorem dX0_refusal_16 : decode cX0_refusal 16 = .ok (.ireturn, 1) := dk_172 (dk_at dksX0_refusal_0 16 rfl rfl)
theorem dX0_refusal_17 : decode cX0_refusal 17 = .ok (.astore 4, 2) := dk_58 4 (dk_at dksX0_refusal_0 17 rfl rfl)
theorem dX0_refusal_19 : decode cX0_refusal 19 = .ok (.iconst 2, 1) := dk_5 (dk_at dksX0_refusal_0 19 rfl rfl)
theorem dX0_refusal_20 : decode cX0_refusal 20 = .ok (.ireturn, 1) := dk_172 (dk_at dksX0_refusal_0 20 rfl rfl)
theorem dX0_refusal_21 : decode cX0_refusal 21 = .ok (.iconst 0, 1) := dk_3 (dk_at dksX0_refusal_0 21 rfl rfl)
theorem dX0_refusal_22 : decode cX0_refusal 22 = .ok (.ireturn, 1) := dk_172 (dk_at dksX0_refusal_0 22 rfl rfl)
abbrev cX0_describe : ByteArray := method_29_code
def yX0_describe : MethodName := ⟨RX0, "describe", "(LWhelkFleet;I[J)I"⟩
def dkwX0_describe_0 : List UInt8 := [44, 3, 42, 27, 182, 0, 103, 133, 80, 167, 0, 6, 78, 4, 172, 3, 172]
abbrev dktX0_describe_0 : List UInt8 := dkwX0_describe_0 ++ []
theorem dksX0_describe_0 : cX0_describe.data.toList.drop 0 = dktX0_describe_0 := by decide +kernel
theorem dX0_describe_0 : decode cX0_describe 0 = .ok (.aload_n 2, 1) := dk_44 (dk_at dksX0_describe_0 0 rfl rfl)
theorem dX0_describe_1 : decode cX0_describe 1 = .ok (.iconst 0, 1) := dk_3 (dk_at dksX0_describe_0 1 rfl rfl)
theorem dX0_describe_2 : decode cX0_describe 2 = .ok (.aload_n 0, 1) := dk_42 (dk_at dksX0_describe_0 2 rfl rfl)
theorem dX0_describe_3 : decode cX0_describe 3 = .ok (.iload_n 1, 1) := dk_27 (dk_at dksX0_describe_0 3 rfl rfl)
theorem dX0_describe_4 : decode cX0_describe 4 = .ok (.invokevirtual 103, 3) := dk_182 0 103 (dk_at dksX0_describe_0 4 rfl rfl)
theorem dX0_describe_7 : decode cX0_describe 7 = .ok (.i2l, 1) := dk_133 (dk_at dksX0_describe_0 7 rfl rfl)
theorem dX0_describe_8 : decode cX0_describe 8 = .ok (.lastore, 1) := dk_80 (dk_at dksX0_describe_0 8 rfl rfl)
theorem dX0_describe_9 : decode cX0_describe 9 = .ok (.goto 6, 3) := dk_167 0 6 (dk_at dksX0_describe_0 9 rfl rfl)
theorem dX0_describe_12 : decode cX0_describe 12 = .ok (.astore_n 3, 1) := dk_78 (dk_at dksX0_describe_0 12 rfl rfl)
theorem dX0_describe_13 : decode cX0_describe 13 = .ok (.iconst 1, 1) := dk_4 (dk_at dksX0_describe_0 13 rfl rfl)
theorem dX0_describe_14 : decode cX0_describe 14 = .ok (.ireturn, 1) := dk_172 (dk_at dksX0_describe_0 14 rfl rfl)
theorem dX0_describe_15 : decode cX0_describe 15 = .ok (.iconst 0, 1) := dk_3 (dk_at dksX0_describe_0 15 rfl rfl)
theorem dX0_describe_16 : decode cX0_describe 16 = .ok (.ireturn, 1) := dk_172 (dk_at dksX0_describe_0 16 rfl rfl)
abbrev cX0_written : ByteArray := method_30_code
def yX0_written : MethodName := ⟨RX0, "written", "(LWhelkFleet;I[J)I"⟩
def dkwX0_written_0 : List UInt8 := [44, 3, 42, 27, 182, 0, 106, 133, 80, 167, 0, 6, 78, 4, 172, 3, 172]
abbrev dktX0_written_0 : List UInt8 := dkwX0_written_0 ++ []
theorem dksX0_written_0 : cX0_written.data.toList.drop 0 = dktX0_written_0 := by decide +kernel
theorem dX0_written_0 : decode cX0_written 0 = .ok (.aload_n 2, 1) := dk_44 (dk_at dksX0_written_0 0 rfl rfl)
theorem dX0_written_1 : decode cX0_written 1 = .ok (.iconst 0, 1) := dk_3 (dk_at dksX0_written_0 1 rfl rfl)
theorem dX0_written_2 : decode cX0_written 2 = .ok (.aload_n 0, 1) := dk_42 (dk_at dksX0_written_0 2 rfl rfl)
theorem dX0_written_3 : decode cX0_written 3 = .ok (.iload_n 1, 1) := dk_27 (dk_at dksX0_written_0 3 rfl rfl)
theorem dX0_written_4 : decode cX0_written 4 = .ok (.invokevirtual 106, 3) := dk_182 0 106 (dk_at dksX0_written_0 4 rfl rfl)
theorem dX0_written_7 : decode cX0_written 7 = .ok (.i2l, 1) := dk_133 (dk_at dksX0_written_0 7 rfl rfl)
theorem dX0_written_8 : decode cX0_written 8 = .ok (.lastore, 1) := dk_80 (dk_at dksX0_written_0 8 rfl rfl)
theorem dX0_written_9 : decode cX0_written 9 = .ok (.goto 6, 3) := dk_167 0 6 (dk_at dksX0_written_0 9 rfl rfl)
theorem dX0_written_12 : decode cX0_written 12 = .ok (.astore_n 3, 1) := dk_78 (dk_at dksX0_written_0 12 rfl rfl)
theorem dX0_written_13 : decode cX0_written 13 = .ok (.iconst 1, 1) := dk_4 (dk_at dksX0_written_0 13 rfl rfl)
theorem dX0_written_14 : decode cX0_written 14 = .ok (.ireturn, 1) := dk_172 (dk_at dksX0_written_0 14 rfl rfl)
theorem dX0_written_15 : decode cX0_written 15 = .ok (.iconst 0, 1) := dk_3 (dk_at dksX0_written_0 15 rfl rfl)
theorem dX0_written_16 : decode cX0_written 16 = .ok (.ireturn, 1) := dk_172 (dk_at dksX0_written_0 16 rfl rfl)
abbrev cX0_account : ByteArray := method_31_code
def yX0_account : MethodName := ⟨RX0, "account", "(LWhelkFleet;I[J)I"⟩
def dkwX0_account_0 : List UInt8 := [44, 3, 42, 27, 182, 0, 110, 133, 80, 167, 0, 6, 78, 4, 172, 3, 172]
abbrev dktX0_account_0 : List UInt8 := dkwX0_account_0 ++ []
theorem dksX0_account_0 : cX0_account.data.toList.drop 0 = dktX0_account_0 := by decide +kernel
theorem dX0_account_0 : decode cX0_account 0 = .ok (.aload_n 2, 1) := dk_44 (dk_at dksX0_account_0 0 rfl rfl)
theorem dX0_account_1 : decode cX0_account 1 = .ok (.iconst 0, 1) := dk_3 (dk_at dksX0_account_0 1 rfl rfl)
theorem dX0_account_2 : decode cX0_account 2 = .ok (.aload_n 0, 1) := dk_42 (dk_at dksX0_account_0 2 rfl rfl)
theorem dX0_account_3 : decode cX0_account 3 = .ok (.iload_n 1, 1) := dk_27 (dk_at dksX0_account_0 3 rfl rfl)
theorem dX0_account_4 : decode cX0_account 4 = .ok (.invokevirtual 110, 3) := dk_182 0 110 (dk_at dksX0_account_0 4 rfl rfl)
theorem dX0_account_7 : decode cX0_account 7 = .ok (.i2l, 1) := dk_133 (dk_at dksX0_account_0 7 rfl rfl)
theorem dX0_account_8 : decode cX0_account 8 = .ok (.lastore, 1) := dk_80 (dk_at dksX0_account_0 8 rfl rfl)
theorem dX0_account_9 : decode cX0_account 9 = .ok (.goto 6, 3) := dk_167 0 6 (dk_at dksX0_account_0 9 rfl rfl)
theorem dX0_account_12 : decode cX0_account 12 = .ok (.astore_n 3, 1) := dk_78 (dk_at dksX0_account_0 12 rfl rfl)
theorem dX0_account_13 : decode cX0_account 13 = .ok (.iconst 1, 1) := dk_4 (dk_at dksX0_account_0 13 rfl rfl)
theorem dX0_account_14 : decode cX0_account 14 = .ok (.ireturn, 1) := dk_172 (dk_at dksX0_account_0 14 rfl rfl)
theorem dX0_account_15 : decode cX0_account 15 = .ok (.iconst 0, 1) := dk_3 (dk_at dksX0_account_0 15 rfl rfl)
theorem dX0_account_16 : decode cX0_account 16 = .ok (.ireturn, 1) := dk_172 (dk_at dksX0_account_0 16 rfl rfl)
abbrev cX0_meanPots : ByteArray := method_32_code
def yX0_meanPots : MethodName := ⟨RX0, "meanPots", "(LWhelkFleet;[D)I"⟩
def dkwX0_meanPots_0 : List UInt8 := [43, 3, 42, 182, 0, 113, 82, 167, 0, 6, 77, 4, 172, 3, 172]
abbrev dktX0_meanPots_0 : List UInt8 := dkwX0_meanPots_0 ++ []
theorem dksX0_meanPots_0 : cX0_meanPots.data.toList.drop 0 = dktX0_meanPots_0 := by decide +kernel
theorem dX0_meanPots_0 : decode cX0_meanPots 0 = .ok (.aload_n 1, 1) := dk_43 (dk_at dksX0_meanPots_0 0 rfl rfl)
theorem dX0_meanPots_1 : decode cX0_meanPots 1 = .ok (.iconst 0, 1) := dk_3 (dk_at dksX0_meanPots_0 1 rfl rfl)
theorem dX0_meanPots_2 : decode cX0_meanPots 2 = .ok (.aload_n 0, 1) := dk_42 (dk_at dksX0_meanPots_0 2 rfl rfl)
theorem dX0_meanPots_3 : decode cX0_meanPots 3 = .ok (.invokevirtual 113, 3) := dk_182 0 113 (dk_at dksX0_meanPots_0 3 rfl rfl)
theorem dX0_meanPots_6 : decode cX0_meanPots 6 = .ok (.dastore, 1) := dk_82 (dk_at dksX0_meanPots_0 6 rfl rfl)
theorem dX0_meanPots_7 : decode cX0_meanPots 7 = .ok (.goto 6, 3) := dk_167 0 6 (dk_at dksX0_meanPots_0 7 rfl rfl)
theorem dX0_meanPots_10 : decode cX0_meanPots 10 = .ok (.astore_n 2, 1) := dk_77 (dk_at dksX0_meanPots_0 10 rfl rfl)
theorem dX0_meanPots_11 : decode cX0_meanPots 11 = .ok (.iconst 1, 1) := dk_4 (dk_at dksX0_meanPots_0 11 rfl rfl)
theorem dX0_meanPots_12 : decode cX0_meanPots 12 = .ok (.ireturn, 1) := dk_172 (dk_at dksX0_meanPots_0 12 rfl rfl)
theorem dX0_meanPots_13 : decode cX0_meanPots 13 = .ok (.iconst 0, 1) := dk_3 (dk_at dksX0_meanPots_0 13 rfl rfl)
theorem dX0_meanPots_14 : decode cX0_meanPots 14 = .ok (.ireturn, 1) := dk_172 (dk_at dksX0_meanPots_0 14 rfl rfl)
abbrev cX0_backShare : ByteArray := method_33_code
def yX0_backShare : MethodName := ⟨RX0, "backShare", "(LWhelkFleet;[D)I"⟩
def dkwX0_backShare_0 : List UInt8 := [43, 3, 42, 182, 0, 119, 141, 82, 167, 0, 6, 77, 4, 172, 3, 172]
abbrev dktX0_backShare_0 : List UInt8 := dkwX0_backShare_0 ++ []
theorem dksX0_backShare_0 : cX0_backShare.data.toList.drop 0 = dktX0_backShare_0 := by decide +kernel
theorem dX0_backShare_0 : decode cX0_backShare 0 = .ok (.aload_n 1, 1) := dk_43 (dk_at dksX0_backShare_0 0 rfl rfl)
theorem dX0_backShare_1 : decode cX0_backShare 1 = .ok (.iconst 0, 1) := dk_3 (dk_at dksX0_backShare_0 1 rfl rfl)
theorem dX0_backShare_2 : decode cX0_backShare 2 = .ok (.aload_n 0, 1) := dk_42 (dk_at dksX0_backShare_0 2 rfl rfl)
theorem dX0_backShare_3 : decode cX0_backShare 3 = .ok (.invokevirtual 119, 3) := dk_182 0 119 (dk_at dksX0_backShare_0 3 rfl rfl)
theorem dX0_backShare_6 : decode cX0_backShare 6 = .ok (.f2d, 1) := dk_141 (dk_at dksX0_backShare_0 6 rfl rfl)
theorem dX0_backShare_7 : decode cX0_backShare 7 = .ok (.dastore, 1) := dk_82 (dk_at dksX0_backShare_0 7 rfl rfl)
theorem dX0_backShare_8 : decode cX0_backShare 8 = .ok (.goto 6, 3) := dk_167 0 6 (dk_at dksX0_backShare_0 8 rfl rfl)
theorem dX0_backShare_11 : decode cX0_backShare 11 = .ok (.astore_n 2, 1) := dk_77 (dk_at dksX0_backShare_0 11 rfl rfl)
theorem dX0_backShare_12 : decode cX0_backShare 12 = .ok (.iconst 1, 1) := dk_4 (dk_at dksX0_backShare_0 12 rfl rfl)
theorem dX0_backShare_13 : decode cX0_backShare 13 = .ok (.ireturn, 1) := dk_172 (dk_at dksX0_backShare_0 13 rfl rfl)
theorem dX0_backShare_14 : decode cX0_backShare 14 = .ok (.iconst 0, 1) := dk_3 (dk_at dksX0_backShare_0 14 rfl rfl)
theorem dX0_backShare_15 : decode cX0_backShare 15 = .ok (.ireturn, 1) := dk_172 (dk_at dksX0_backShare_0 15 rfl rfl)
abbrev cX0_undo : ByteArray := method_34_code
def yX0_undo : MethodName := ⟨RX0, "undo", "(LWhelkFleet;[J)I"⟩
def dkwX0_undo_0 : List UInt8 := [43, 3, 42, 182, 0, 123, 133, 80, 167, 0, 6, 77, 4, 172, 3, 172]
abbrev dktX0_undo_0 : List UInt8 := dkwX0_undo_0 ++ []
theorem dksX0_undo_0 : cX0_undo.data.toList.drop 0 = dktX0_undo_0 := by decide +kernel
theorem dX0_undo_0 : decode cX0_undo 0 = .ok (.aload_n 1, 1) := dk_43 (dk_at dksX0_undo_0 0 rfl rfl)
theorem dX0_undo_1 : decode cX0_undo 1 = .ok (.iconst 0, 1) := dk_3 (dk_at dksX0_undo_0 1 rfl rfl)
theorem dX0_undo_2 : decode cX0_undo 2 = .ok (.aload_n 0, 1) := dk_42 (dk_at dksX0_undo_0 2 rfl rfl)
theorem dX0_undo_3 : decode cX0_undo 3 = .ok (.invokevirtual 123, 3) := dk_182 0 123 (dk_at dksX0_undo_0 3 rfl rfl)
theorem dX0_undo_6 : decode cX0_undo 6 = .ok (.i2l, 1) := dk_133 (dk_at dksX0_undo_0 6 rfl rfl)
theorem dX0_undo_7 : decode cX0_undo 7 = .ok (.lastore, 1) := dk_80 (dk_at dksX0_undo_0 7 rfl rfl)
theorem dX0_undo_8 : decode cX0_undo 8 = .ok (.goto 6, 3) := dk_167 0 6 (dk_at dksX0_undo_0 8 rfl rfl)
theorem dX0_undo_11 : decode cX0_undo 11 = .ok (.astore_n 2, 1) := dk_77 (dk_at dksX0_undo_0 11 rfl rfl)
theorem dX0_undo_12 : decode cX0_undo 12 = .ok (.iconst 1, 1) := dk_4 (dk_at dksX0_undo_0 12 rfl rfl)
theorem dX0_undo_13 : decode cX0_undo 13 = .ok (.ireturn, 1) := dk_172 (dk_at dksX0_undo_0 13 rfl rfl)
theorem dX0_undo_14 : decode cX0_undo 14 = .ok (.iconst 0, 1) := dk_3 (dk_at dksX0_undo_0 14 rfl rfl)
theorem dX0_undo_15 : decode cX0_undo 15 = .ok (.ireturn, 1) := dk_172 (dk_at dksX0_undo_0 15 rfl rfl)
abbrev cX0_restore : ByteArray := method_35_code
def yX0_restore : MethodName := ⟨RX0, "restore", "(LWhelkFleet;[J)I"⟩
def dkwX0_restore_0 : List UInt8 := [43, 3, 42, 182, 0, 126, 133, 80, 167, 0, 6, 77, 4, 172, 3, 172]
abbrev dktX0_restore_0 : List UInt8 := dkwX0_restore_0 ++ []
theorem dksX0_restore_0 : cX0_restore.data.toList.drop 0 = dktX0_restore_0 := by decide +kernel
theorem dX0_restore_0 : decode cX0_restore 0 = .ok (.aload_n 1, 1) := dk_43 (dk_at dksX0_restore_0 0 rfl rfl)
theorem dX0_restore_1 : decode cX0_restore 1 = .ok (.iconst 0, 1) := dk_3 (dk_at dksX0_restore_0 1 rfl rfl)
theorem dX0_restore_2 : decode cX0_restore 2 = .ok (.aload_n 0, 1) := dk_42 (dk_at dksX0_restore_0 2 rfl rfl)
theorem dX0_restore_3 : decode cX0_restore 3 = .ok (.invokevirtual 126, 3) := dk_182 0 126 (dk_at dksX0_restore_0 3 rfl rfl)
theorem dX0_restore_6 : decode cX0_restore 6 = .ok (.i2l, 1) := dk_133 (dk_at dksX0_restore_0 6 rfl rfl)
theorem dX0_restore_7 : decode cX0_restore 7 = .ok (.lastore, 1) := dk_80 (dk_at dksX0_restore_0 7 rfl rfl)
theorem dX0_restore_8 : decode cX0_restore 8 = .ok (.goto 6, 3) := dk_167 0 6 (dk_at dksX0_restore_0 8 rfl rfl)
theorem dX0_restore_11 : decode cX0_restore 11 = .ok (.astore_n 2, 1) := dk_77 (dk_at dksX0_restore_0 11 rfl rfl)
theorem dX0_restore_12 : decode cX0_restore 12 = .ok (.iconst 1, 1) := dk_4 (dk_at dksX0_restore_0 12 rfl rfl)
theorem dX0_restore_13 : decode cX0_restore 13 = .ok (.ireturn, 1) := dk_172 (dk_at dksX0_restore_0 13 rfl rfl)
theorem dX0_restore_14 : decode cX0_restore 14 = .ok (.iconst 0, 1) := dk_3 (dk_at dksX0_restore_0 14 rfl rfl)
theorem dX0_restore_15 : decode cX0_restore 15 = .ok (.ireturn, 1) := dk_172 (dk_at dksX0_restore_0 15 rfl rfl)
theorem q76 : (Jvm.Cond.initialized "WhelkFleetLaw") ∈ lw_all := lw_g (lw_at lw_m1 0 rfl) rfl
theorem q129 : (Jvm.Cond.classLink "WhelkFleetLaw" (8 : Nat) "WhelkFleet") ∈ lw_all := lw_g (lw_at lw_m1 53 rfl) rfl
theorem q131 : (Jvm.Cond.methodLink "WhelkFleetLaw" (129 : Nat) ({ cls := "WhelkFleet", name := "<init>", desc := "()V" } : Jvm.MethodName)) ∈ lw_all := lw_g (lw_at lw_m1 55 rfl) rfl
theorem q420 : (Jvm.Cond.methodLink "WhelkFleetLaw" (231 : Nat) ({ cls := "WhelkFleet", name := "holdsAgain", desc := "()I" } : Jvm.MethodName)) ∈ lw_all := lw_g (lw_at lw_m2 104 rfl) rfl
theorem q436 : (Jvm.Cond.methodLink "WhelkFleetLaw" (245 : Nat) ({ cls := "WhelkFleet", name := "save", desc := "()I" } : Jvm.MethodName)) ∈ lw_all := lw_g (lw_at lw_m2 120 rfl) rfl
theorem q444 : (Jvm.Cond.methodLink "WhelkFleetLaw" (133 : Nat) ({ cls := "WhelkFleetLaw", name := "whelks", desc := "(LWhelkFleet;II[J)I" } : Jvm.MethodName)) ∈ lw_all := lw_g (lw_at lw_m2 128 rfl) rfl
theorem q445 : (Jvm.Cond.static ({ cls := "WhelkFleetLaw", name := "whelks", desc := "(LWhelkFleet;II[J)I" } : Jvm.MethodName)) ∈ lw_all := lw_g (lw_at lw_m2 129 rfl) rfl
theorem q446 : (Jvm.Cond.codeWith ({ cls := "WhelkFleetLaw", name := "whelks", desc := "(LWhelkFleet;II[J)I" } : Jvm.MethodName) method_3_code (5 : Nat) (Option.some Jvm.ClassFile.FieldType.int) [((0 : Nat), (10 : Nat), (13 : Nat), (13 : Nat)), ((0 : Nat), (10 : Nat), (17 : Nat), (15 : Nat))]) ∈ lw_all := lw_g (lw_at lw_m2 130 rfl) rfl
theorem q447 : (Jvm.Cond.classLink "WhelkFleetLaw" (13 : Nat) "java/lang/IndexOutOfBoundsException") ∈ lw_all := lw_g (lw_at lw_m2 131 rfl) rfl
theorem q529 : (Jvm.Cond.classLink "WhelkFleetLaw" (15 : Nat) "java/lang/IllegalArgumentException") ∈ lw_all := lw_g (lw_at lw_m2 213 rfl) rfl
theorem q530 : (Jvm.Cond.methodLink "WhelkFleetLaw" (7 : Nat) ({ cls := "WhelkFleet", name := "whelks", desc := "(II)I" } : Jvm.MethodName)) ∈ lw_all := lw_g (lw_at lw_m2 214 rfl) rfl
theorem q837 : (Jvm.Cond.methodLink "WhelkFleetLaw" (142 : Nat) ({ cls := "WhelkFleetLaw", name := "stock", desc := "(LWhelkFleet;III[J)I" } : Jvm.MethodName)) ∈ lw_all := lw_g (lw_at lw_m4 41 rfl) rfl
theorem q838 : (Jvm.Cond.static ({ cls := "WhelkFleetLaw", name := "stock", desc := "(LWhelkFleet;III[J)I" } : Jvm.MethodName)) ∈ lw_all := lw_g (lw_at lw_m4 42 rfl) rfl
theorem q839 : (Jvm.Cond.codeWith ({ cls := "WhelkFleetLaw", name := "stock", desc := "(LWhelkFleet;III[J)I" } : Jvm.MethodName) method_4_code (6 : Nat) (Option.some Jvm.ClassFile.FieldType.int) [((0 : Nat), (12 : Nat), (15 : Nat), (13 : Nat)), ((0 : Nat), (12 : Nat), (19 : Nat), (15 : Nat))]) ∈ lw_all := lw_g (lw_at lw_m4 43 rfl) rfl
theorem q840 : (Jvm.Cond.methodLink "WhelkFleetLaw" (17 : Nat) ({ cls := "WhelkFleet", name := "stock", desc := "(III)I" } : Jvm.MethodName)) ∈ lw_all := lw_g (lw_at lw_m4 44 rfl) rfl
theorem q1768 : (Jvm.Cond.methodLink "WhelkFleetLaw" (146 : Nat) ({ cls := "WhelkFleetLaw", name := "box", desc := "(LWhelkFleet;II[J)I" } : Jvm.MethodName)) ∈ lw_all := lw_g (lw_at lw_m8 12 rfl) rfl
theorem q1769 : (Jvm.Cond.static ({ cls := "WhelkFleetLaw", name := "box", desc := "(LWhelkFleet;II[J)I" } : Jvm.MethodName)) ∈ lw_all := lw_g (lw_at lw_m8 13 rfl) rfl
theorem q1770 : (Jvm.Cond.codeWith ({ cls := "WhelkFleetLaw", name := "box", desc := "(LWhelkFleet;II[J)I" } : Jvm.MethodName) method_5_code (5 : Nat) (Option.some Jvm.ClassFile.FieldType.int) [((0 : Nat), (10 : Nat), (13 : Nat), (15 : Nat))]) ∈ lw_all := lw_g (lw_at lw_m8 14 rfl) rfl
theorem q1771 : (Jvm.Cond.methodLink "WhelkFleetLaw" (21 : Nat) ({ cls := "WhelkFleet", name := "box", desc := "(II)I" } : Jvm.MethodName)) ∈ lw_all := lw_g (lw_at lw_m8 15 rfl) rfl
theorem q1779 : (Jvm.Cond.methodLink "WhelkFleetLaw" (149 : Nat) ({ cls := "WhelkFleetLaw", name := "bait", desc := "(LWhelkFleet;I[J)I" } : Jvm.MethodName)) ∈ lw_all := lw_g (lw_at lw_m8 23 rfl) rfl
theorem q1780 : (Jvm.Cond.static ({ cls := "WhelkFleetLaw", name := "bait", desc := "(LWhelkFleet;I[J)I" } : Jvm.MethodName)) ∈ lw_all := lw_g (lw_at lw_m8 24 rfl) rfl
theorem q1781 : (Jvm.Cond.codeWith ({ cls := "WhelkFleetLaw", name := "bait", desc := "(LWhelkFleet;I[J)I" } : Jvm.MethodName) method_6_code (4 : Nat) (Option.some Jvm.ClassFile.FieldType.int) [((0 : Nat), (9 : Nat), (12 : Nat), (15 : Nat))]) ∈ lw_all := lw_g (lw_at lw_m8 25 rfl) rfl
theorem q1782 : (Jvm.Cond.methodLink "WhelkFleetLaw" (24 : Nat) ({ cls := "WhelkFleet", name := "bait", desc := "(I)I" } : Jvm.MethodName)) ∈ lw_all := lw_g (lw_at lw_m8 26 rfl) rfl
theorem q1790 : (Jvm.Cond.methodLink "WhelkFleetLaw" (153 : Nat) ({ cls := "WhelkFleetLaw", name := "draws", desc := "(LWhelkFleet;II[J)I" } : Jvm.MethodName)) ∈ lw_all := lw_g (lw_at lw_m8 34 rfl) rfl
theorem q1791 : (Jvm.Cond.static ({ cls := "WhelkFleetLaw", name := "draws", desc := "(LWhelkFleet;II[J)I" } : Jvm.MethodName)) ∈ lw_all := lw_g (lw_at lw_m8 35 rfl) rfl
theorem q1792 : (Jvm.Cond.codeWith ({ cls := "WhelkFleetLaw", name := "draws", desc := "(LWhelkFleet;II[J)I" } : Jvm.MethodName) method_7_code (5 : Nat) (Option.some Jvm.ClassFile.FieldType.int) [((0 : Nat), (10 : Nat), (13 : Nat), (15 : Nat))]) ∈ lw_all := lw_g (lw_at lw_m8 36 rfl) rfl
theorem q1793 : (Jvm.Cond.methodLink "WhelkFleetLaw" (28 : Nat) ({ cls := "WhelkFleet", name := "draws", desc := "(II)I" } : Jvm.MethodName)) ∈ lw_all := lw_g (lw_at lw_m8 37 rfl) rfl
theorem q1799 : (Jvm.Cond.methodLink "WhelkFleetLaw" (156 : Nat) ({ cls := "WhelkFleetLaw", name := "bestBait", desc := "(LWhelkFleet;I[J)I" } : Jvm.MethodName)) ∈ lw_all := lw_g (lw_at lw_m8 43 rfl) rfl
theorem q1800 : (Jvm.Cond.static ({ cls := "WhelkFleetLaw", name := "bestBait", desc := "(LWhelkFleet;I[J)I" } : Jvm.MethodName)) ∈ lw_all := lw_g (lw_at lw_m8 44 rfl) rfl
theorem q1801 : (Jvm.Cond.codeWith ({ cls := "WhelkFleetLaw", name := "bestBait", desc := "(LWhelkFleet;I[J)I" } : Jvm.MethodName) method_8_code (4 : Nat) (Option.some Jvm.ClassFile.FieldType.int) [((0 : Nat), (9 : Nat), (12 : Nat), (15 : Nat))]) ∈ lw_all := lw_g (lw_at lw_m8 45 rfl) rfl
theorem q1802 : (Jvm.Cond.methodLink "WhelkFleetLaw" (31 : Nat) ({ cls := "WhelkFleet", name := "bestBait", desc := "(I)I" } : Jvm.MethodName)) ∈ lw_all := lw_g (lw_at lw_m8 46 rfl) rfl
theorem q1806 : (Jvm.Cond.methodLink "WhelkFleetLaw" (159 : Nat) ({ cls := "WhelkFleetLaw", name := "boat", desc := "(LWhelkFleet;I[J)I" } : Jvm.MethodName)) ∈ lw_all := lw_g (lw_at lw_m8 50 rfl) rfl
theorem q1807 : (Jvm.Cond.static ({ cls := "WhelkFleetLaw", name := "boat", desc := "(LWhelkFleet;I[J)I" } : Jvm.MethodName)) ∈ lw_all := lw_g (lw_at lw_m8 51 rfl) rfl
theorem q1808 : (Jvm.Cond.codeWith ({ cls := "WhelkFleetLaw", name := "boat", desc := "(LWhelkFleet;I[J)I" } : Jvm.MethodName) method_9_code (4 : Nat) (Option.some Jvm.ClassFile.FieldType.int) [((0 : Nat), (9 : Nat), (12 : Nat), (15 : Nat)), ((0 : Nat), (9 : Nat), (15 : Nat), (37 : Nat))]) ∈ lw_all := lw_g (lw_at lw_m8 52 rfl) rfl
theorem q1809 : (Jvm.Cond.classLink "WhelkFleetLaw" (37 : Nat) "java/lang/UnsupportedOperationException") ∈ lw_all := lw_g (lw_at lw_m8 53 rfl) rfl
theorem q1810 : (Jvm.Cond.methodLink "WhelkFleetLaw" (34 : Nat) ({ cls := "WhelkFleet", name := "boat", desc := "(I)I" } : Jvm.MethodName)) ∈ lw_all := lw_g (lw_at lw_m8 54 rfl) rfl
theorem q1815 : (Jvm.Cond.methodLink "WhelkFleetLaw" (162 : Nat) ({ cls := "WhelkFleetLaw", name := "string", desc := "(LWhelkFleet;I[J)I" } : Jvm.MethodName)) ∈ lw_all := lw_g (lw_at lw_m8 59 rfl) rfl
theorem q1816 : (Jvm.Cond.static ({ cls := "WhelkFleetLaw", name := "string", desc := "(LWhelkFleet;I[J)I" } : Jvm.MethodName)) ∈ lw_all := lw_g (lw_at lw_m8 60 rfl) rfl
theorem q1817 : (Jvm.Cond.codeWith ({ cls := "WhelkFleetLaw", name := "string", desc := "(LWhelkFleet;I[J)I" } : Jvm.MethodName) method_10_code (4 : Nat) (Option.some Jvm.ClassFile.FieldType.int) [((0 : Nat), (9 : Nat), (12 : Nat), (15 : Nat)), ((0 : Nat), (9 : Nat), (15 : Nat), (37 : Nat))]) ∈ lw_all := lw_g (lw_at lw_m8 61 rfl) rfl
theorem q1818 : (Jvm.Cond.methodLink "WhelkFleetLaw" (39 : Nat) ({ cls := "WhelkFleet", name := "string", desc := "(I)I" } : Jvm.MethodName)) ∈ lw_all := lw_g (lw_at lw_m8 62 rfl) rfl
theorem q1823 : (Jvm.Cond.methodLink "WhelkFleetLaw" (165 : Nat) ({ cls := "WhelkFleetLaw", name := "boatOf", desc := "(LWhelkFleet;II[J)I" } : Jvm.MethodName)) ∈ lw_all := lw_g (lw_at lw_m8 67 rfl) rfl
theorem q1824 : (Jvm.Cond.static ({ cls := "WhelkFleetLaw", name := "boatOf", desc := "(LWhelkFleet;II[J)I" } : Jvm.MethodName)) ∈ lw_all := lw_g (lw_at lw_m8 68 rfl) rfl
theorem q1825 : (Jvm.Cond.codeWith ({ cls := "WhelkFleetLaw", name := "boatOf", desc := "(LWhelkFleet;II[J)I" } : Jvm.MethodName) method_11_code (5 : Nat) (Option.some Jvm.ClassFile.FieldType.int) [((0 : Nat), (10 : Nat), (13 : Nat), (13 : Nat)), ((0 : Nat), (10 : Nat), (17 : Nat), (15 : Nat))]) ∈ lw_all := lw_g (lw_at lw_m8 69 rfl) rfl
theorem q1826 : (Jvm.Cond.methodLink "WhelkFleetLaw" (42 : Nat) ({ cls := "WhelkFleet", name := "boatOf", desc := "(II)I" } : Jvm.MethodName)) ∈ lw_all := lw_g (lw_at lw_m8 70 rfl) rfl
theorem q1859 : (Jvm.Cond.methodLink "WhelkFleetLaw" (168 : Nat) ({ cls := "WhelkFleetLaw", name := "stringOf", desc := "(LWhelkFleet;II[J)I" } : Jvm.MethodName)) ∈ lw_all := lw_g (lw_at lw_m8 103 rfl) rfl
theorem q1860 : (Jvm.Cond.static ({ cls := "WhelkFleetLaw", name := "stringOf", desc := "(LWhelkFleet;II[J)I" } : Jvm.MethodName)) ∈ lw_all := lw_g (lw_at lw_m8 104 rfl) rfl
theorem q1861 : (Jvm.Cond.codeWith ({ cls := "WhelkFleetLaw", name := "stringOf", desc := "(LWhelkFleet;II[J)I" } : Jvm.MethodName) method_12_code (5 : Nat) (Option.some Jvm.ClassFile.FieldType.int) [((0 : Nat), (10 : Nat), (13 : Nat), (13 : Nat)), ((0 : Nat), (10 : Nat), (17 : Nat), (15 : Nat))]) ∈ lw_all := lw_g (lw_at lw_m8 105 rfl) rfl
theorem q1862 : (Jvm.Cond.methodLink "WhelkFleetLaw" (45 : Nat) ({ cls := "WhelkFleet", name := "stringOf", desc := "(II)I" } : Jvm.MethodName)) ∈ lw_all := lw_g (lw_at lw_m8 106 rfl) rfl
theorem q1887 : (Jvm.Cond.methodLink "WhelkFleetLaw" (171 : Nat) ({ cls := "WhelkFleetLaw", name := "out", desc := "(LWhelkFleet;II[J)I" } : Jvm.MethodName)) ∈ lw_all := lw_g (lw_at lw_m8 131 rfl) rfl
theorem q1888 : (Jvm.Cond.static ({ cls := "WhelkFleetLaw", name := "out", desc := "(LWhelkFleet;II[J)I" } : Jvm.MethodName)) ∈ lw_all := lw_g (lw_at lw_m8 132 rfl) rfl
theorem q1889 : (Jvm.Cond.codeWith ({ cls := "WhelkFleetLaw", name := "out", desc := "(LWhelkFleet;II[J)I" } : Jvm.MethodName) method_13_code (5 : Nat) (Option.some Jvm.ClassFile.FieldType.int) [((0 : Nat), (10 : Nat), (13 : Nat), (13 : Nat)), ((0 : Nat), (10 : Nat), (17 : Nat), (37 : Nat))]) ∈ lw_all := lw_g (lw_at lw_m8 133 rfl) rfl
theorem q1890 : (Jvm.Cond.methodLink "WhelkFleetLaw" (48 : Nat) ({ cls := "WhelkFleet", name := "out", desc := "(II)I" } : Jvm.MethodName)) ∈ lw_all := lw_g (lw_at lw_m8 134 rfl) rfl
theorem q1895 : (Jvm.Cond.methodLink "WhelkFleetLaw" (174 : Nat) ({ cls := "WhelkFleetLaw", name := "home", desc := "(LWhelkFleet;I[J)I" } : Jvm.MethodName)) ∈ lw_all := lw_g (lw_at lw_m8 139 rfl) rfl
theorem q1896 : (Jvm.Cond.static ({ cls := "WhelkFleetLaw", name := "home", desc := "(LWhelkFleet;I[J)I" } : Jvm.MethodName)) ∈ lw_all := lw_g (lw_at lw_m8 140 rfl) rfl
theorem q1897 : (Jvm.Cond.codeWith ({ cls := "WhelkFleetLaw", name := "home", desc := "(LWhelkFleet;I[J)I" } : Jvm.MethodName) method_14_code (4 : Nat) (Option.some Jvm.ClassFile.FieldType.int) [((0 : Nat), (9 : Nat), (12 : Nat), (13 : Nat)), ((0 : Nat), (9 : Nat), (15 : Nat), (37 : Nat))]) ∈ lw_all := lw_g (lw_at lw_m8 141 rfl) rfl
theorem q1898 : (Jvm.Cond.methodLink "WhelkFleetLaw" (51 : Nat) ({ cls := "WhelkFleet", name := "home", desc := "(I)I" } : Jvm.MethodName)) ∈ lw_all := lw_g (lw_at lw_m8 142 rfl) rfl
theorem q1903 : (Jvm.Cond.methodLink "WhelkFleetLaw" (177 : Nat) ({ cls := "WhelkFleetLaw", name := "shoot", desc := "(LWhelkFleet;III[J)I" } : Jvm.MethodName)) ∈ lw_all := lw_g (lw_at lw_m8 147 rfl) rfl
theorem q1904 : (Jvm.Cond.static ({ cls := "WhelkFleetLaw", name := "shoot", desc := "(LWhelkFleet;III[J)I" } : Jvm.MethodName)) ∈ lw_all := lw_g (lw_at lw_m8 148 rfl) rfl
theorem q1905 : (Jvm.Cond.codeWith ({ cls := "WhelkFleetLaw", name := "shoot", desc := "(LWhelkFleet;III[J)I" } : Jvm.MethodName) method_15_code (6 : Nat) (Option.some Jvm.ClassFile.FieldType.int) [((0 : Nat), (12 : Nat), (15 : Nat), (13 : Nat)), ((0 : Nat), (12 : Nat), (19 : Nat), (15 : Nat)), ((0 : Nat), (12 : Nat), (23 : Nat), (37 : Nat))]) ∈ lw_all := lw_g (lw_at lw_m8 149 rfl) rfl
theorem q1906 : (Jvm.Cond.methodLink "WhelkFleetLaw" (54 : Nat) ({ cls := "WhelkFleet", name := "shoot", desc := "(III)I" } : Jvm.MethodName)) ∈ lw_all := lw_g (lw_at lw_m8 150 rfl) rfl
theorem q1911 : (Jvm.Cond.methodLink "WhelkFleetLaw" (180 : Nat) ({ cls := "WhelkFleetLaw", name := "haul", desc := "(LWhelkFleet;II[J)I" } : Jvm.MethodName)) ∈ lw_all := lw_g (lw_at lw_m8 155 rfl) rfl
theorem q1912 : (Jvm.Cond.static ({ cls := "WhelkFleetLaw", name := "haul", desc := "(LWhelkFleet;II[J)I" } : Jvm.MethodName)) ∈ lw_all := lw_g (lw_at lw_m8 156 rfl) rfl
theorem q1913 : (Jvm.Cond.codeWith ({ cls := "WhelkFleetLaw", name := "haul", desc := "(LWhelkFleet;II[J)I" } : Jvm.MethodName) method_16_code (5 : Nat) (Option.some Jvm.ClassFile.FieldType.int) [((0 : Nat), (10 : Nat), (13 : Nat), (13 : Nat)), ((0 : Nat), (10 : Nat), (17 : Nat), (37 : Nat))]) ∈ lw_all := lw_g (lw_at lw_m8 157 rfl) rfl
theorem q1914 : (Jvm.Cond.methodLink "WhelkFleetLaw" (57 : Nat) ({ cls := "WhelkFleet", name := "haul", desc := "(II)I" } : Jvm.MethodName)) ∈ lw_all := lw_g (lw_at lw_m8 158 rfl) rfl
theorem q1919 : (Jvm.Cond.methodLink "WhelkFleetLaw" (183 : Nat) ({ cls := "WhelkFleetLaw", name := "land", desc := "(LWhelkFleet;I[J)I" } : Jvm.MethodName)) ∈ lw_all := lw_g (lw_at lw_m8 163 rfl) rfl
theorem q1920 : (Jvm.Cond.static ({ cls := "WhelkFleetLaw", name := "land", desc := "(LWhelkFleet;I[J)I" } : Jvm.MethodName)) ∈ lw_all := lw_g (lw_at lw_m8 164 rfl) rfl
theorem q1921 : (Jvm.Cond.codeWith ({ cls := "WhelkFleetLaw", name := "land", desc := "(LWhelkFleet;I[J)I" } : Jvm.MethodName) method_17_code (4 : Nat) (Option.some Jvm.ClassFile.FieldType.int) [((0 : Nat), (9 : Nat), (12 : Nat), (13 : Nat)), ((0 : Nat), (9 : Nat), (15 : Nat), (37 : Nat))]) ∈ lw_all := lw_g (lw_at lw_m8 165 rfl) rfl
theorem q1922 : (Jvm.Cond.methodLink "WhelkFleetLaw" (60 : Nat) ({ cls := "WhelkFleet", name := "land", desc := "(I)I" } : Jvm.MethodName)) ∈ lw_all := lw_g (lw_at lw_m8 166 rfl) rfl
theorem q1927 : (Jvm.Cond.methodLink "WhelkFleetLaw" (186 : Nat) ({ cls := "WhelkFleetLaw", name := "wouldBring", desc := "(LWhelkFleet;II[J)I" } : Jvm.MethodName)) ∈ lw_all := lw_g (lw_at lw_m8 171 rfl) rfl
theorem q1928 : (Jvm.Cond.static ({ cls := "WhelkFleetLaw", name := "wouldBring", desc := "(LWhelkFleet;II[J)I" } : Jvm.MethodName)) ∈ lw_all := lw_g (lw_at lw_m8 172 rfl) rfl
theorem q1929 : (Jvm.Cond.codeWith ({ cls := "WhelkFleetLaw", name := "wouldBring", desc := "(LWhelkFleet;II[J)I" } : Jvm.MethodName) method_18_code (5 : Nat) (Option.some Jvm.ClassFile.FieldType.int) [((0 : Nat), (10 : Nat), (13 : Nat), (13 : Nat)), ((0 : Nat), (10 : Nat), (17 : Nat), (15 : Nat))]) ∈ lw_all := lw_g (lw_at lw_m8 173 rfl) rfl
theorem q1930 : (Jvm.Cond.methodLink "WhelkFleetLaw" (63 : Nat) ({ cls := "WhelkFleet", name := "wouldBring", desc := "(II)I" } : Jvm.MethodName)) ∈ lw_all := lw_g (lw_at lw_m8 174 rfl) rfl
theorem q1939 : (Jvm.Cond.methodLink "WhelkFleetLaw" (189 : Nat) ({ cls := "WhelkFleetLaw", name := "bestDay", desc := "(LWhelkFleet;I[J)I" } : Jvm.MethodName)) ∈ lw_all := lw_g (lw_at lw_m8 183 rfl) rfl
theorem q1940 : (Jvm.Cond.static ({ cls := "WhelkFleetLaw", name := "bestDay", desc := "(LWhelkFleet;I[J)I" } : Jvm.MethodName)) ∈ lw_all := lw_g (lw_at lw_m8 184 rfl) rfl
theorem q1941 : (Jvm.Cond.codeWith ({ cls := "WhelkFleetLaw", name := "bestDay", desc := "(LWhelkFleet;I[J)I" } : Jvm.MethodName) method_19_code (4 : Nat) (Option.some Jvm.ClassFile.FieldType.int) [((0 : Nat), (9 : Nat), (12 : Nat), (13 : Nat)), ((0 : Nat), (9 : Nat), (15 : Nat), (69 : Nat))]) ∈ lw_all := lw_g (lw_at lw_m8 185 rfl) rfl
theorem q1942 : (Jvm.Cond.classLink "WhelkFleetLaw" (69 : Nat) "java/util/NoSuchElementException") ∈ lw_all := lw_g (lw_at lw_m8 186 rfl) rfl
theorem q1943 : (Jvm.Cond.methodLink "WhelkFleetLaw" (66 : Nat) ({ cls := "WhelkFleet", name := "bestDay", desc := "(I)I" } : Jvm.MethodName)) ∈ lw_all := lw_g (lw_at lw_m8 187 rfl) rfl
theorem q1959 : (Jvm.Cond.methodLink "WhelkFleetLaw" (192 : Nat) ({ cls := "WhelkFleetLaw", name := "ranked", desc := "(LWhelkFleet;I[J)I" } : Jvm.MethodName)) ∈ lw_all := lw_g (lw_at lw_m8 203 rfl) rfl
theorem q1960 : (Jvm.Cond.static ({ cls := "WhelkFleetLaw", name := "ranked", desc := "(LWhelkFleet;I[J)I" } : Jvm.MethodName)) ∈ lw_all := lw_g (lw_at lw_m8 204 rfl) rfl
theorem q1961 : (Jvm.Cond.codeWith ({ cls := "WhelkFleetLaw", name := "ranked", desc := "(LWhelkFleet;I[J)I" } : Jvm.MethodName) method_20_code (4 : Nat) (Option.some Jvm.ClassFile.FieldType.int) [((0 : Nat), (9 : Nat), (12 : Nat), (69 : Nat))]) ∈ lw_all := lw_g (lw_at lw_m8 205 rfl) rfl
theorem q1962 : (Jvm.Cond.methodLink "WhelkFleetLaw" (71 : Nat) ({ cls := "WhelkFleet", name := "ranked", desc := "(I)I" } : Jvm.MethodName)) ∈ lw_all := lw_g (lw_at lw_m8 206 rfl) rfl
theorem q2013 : (Jvm.Cond.methodLink "WhelkFleetLaw" (195 : Nat) ({ cls := "WhelkFleetLaw", name := "swell", desc := "(LWhelkFleet;I[J)I" } : Jvm.MethodName)) ∈ lw_all := lw_g (lw_at lw_m9 17 rfl) rfl
theorem q2014 : (Jvm.Cond.static ({ cls := "WhelkFleetLaw", name := "swell", desc := "(LWhelkFleet;I[J)I" } : Jvm.MethodName)) ∈ lw_all := lw_g (lw_at lw_m9 18 rfl) rfl
theorem q2015 : (Jvm.Cond.codeWith ({ cls := "WhelkFleetLaw", name := "swell", desc := "(LWhelkFleet;I[J)I" } : Jvm.MethodName) method_21_code (4 : Nat) (Option.some Jvm.ClassFile.FieldType.int) [((0 : Nat), (9 : Nat), (12 : Nat), (15 : Nat))]) ∈ lw_all := lw_g (lw_at lw_m9 19 rfl) rfl
theorem q2016 : (Jvm.Cond.methodLink "WhelkFleetLaw" (74 : Nat) ({ cls := "WhelkFleet", name := "swell", desc := "(I)I" } : Jvm.MethodName)) ∈ lw_all := lw_g (lw_at lw_m9 20 rfl) rfl
theorem q2021 : (Jvm.Cond.methodLink "WhelkFleetLaw" (198 : Nat) ({ cls := "WhelkFleetLaw", name := "riddle", desc := "(LWhelkFleet;I[J)I" } : Jvm.MethodName)) ∈ lw_all := lw_g (lw_at lw_m9 25 rfl) rfl
theorem q2022 : (Jvm.Cond.static ({ cls := "WhelkFleetLaw", name := "riddle", desc := "(LWhelkFleet;I[J)I" } : Jvm.MethodName)) ∈ lw_all := lw_g (lw_at lw_m9 26 rfl) rfl
theorem q2023 : (Jvm.Cond.codeWith ({ cls := "WhelkFleetLaw", name := "riddle", desc := "(LWhelkFleet;I[J)I" } : Jvm.MethodName) method_22_code (4 : Nat) (Option.some Jvm.ClassFile.FieldType.int) [((0 : Nat), (9 : Nat), (12 : Nat), (15 : Nat))]) ∈ lw_all := lw_g (lw_at lw_m9 27 rfl) rfl
theorem q2024 : (Jvm.Cond.methodLink "WhelkFleetLaw" (77 : Nat) ({ cls := "WhelkFleet", name := "riddle", desc := "(I)I" } : Jvm.MethodName)) ∈ lw_all := lw_g (lw_at lw_m9 28 rfl) rfl
theorem q2029 : (Jvm.Cond.methodLink "WhelkFleetLaw" (201 : Nat) ({ cls := "WhelkFleetLaw", name := "pass", desc := "(LWhelkFleet;I[J)I" } : Jvm.MethodName)) ∈ lw_all := lw_g (lw_at lw_m9 33 rfl) rfl
theorem q2030 : (Jvm.Cond.static ({ cls := "WhelkFleetLaw", name := "pass", desc := "(LWhelkFleet;I[J)I" } : Jvm.MethodName)) ∈ lw_all := lw_g (lw_at lw_m9 34 rfl) rfl
theorem q2031 : (Jvm.Cond.codeWith ({ cls := "WhelkFleetLaw", name := "pass", desc := "(LWhelkFleet;I[J)I" } : Jvm.MethodName) method_23_code (4 : Nat) (Option.some Jvm.ClassFile.FieldType.int) [((0 : Nat), (9 : Nat), (12 : Nat), (15 : Nat))]) ∈ lw_all := lw_g (lw_at lw_m9 35 rfl) rfl
theorem q2032 : (Jvm.Cond.methodLink "WhelkFleetLaw" (80 : Nat) ({ cls := "WhelkFleet", name := "pass", desc := "(I)I" } : Jvm.MethodName)) ∈ lw_all := lw_g (lw_at lw_m9 36 rfl) rfl
theorem q2037 : (Jvm.Cond.methodLink "WhelkFleetLaw" (204 : Nat) ({ cls := "WhelkFleetLaw", name := "whelksIn", desc := "(LWhelkFleet;II[J)I" } : Jvm.MethodName)) ∈ lw_all := lw_g (lw_at lw_m9 41 rfl) rfl
theorem q2038 : (Jvm.Cond.static ({ cls := "WhelkFleetLaw", name := "whelksIn", desc := "(LWhelkFleet;II[J)I" } : Jvm.MethodName)) ∈ lw_all := lw_g (lw_at lw_m9 42 rfl) rfl
theorem q2039 : (Jvm.Cond.codeWith ({ cls := "WhelkFleetLaw", name := "whelksIn", desc := "(LWhelkFleet;II[J)I" } : Jvm.MethodName) method_24_code (5 : Nat) (Option.some Jvm.ClassFile.FieldType.int) [((0 : Nat), (10 : Nat), (13 : Nat), (15 : Nat))]) ∈ lw_all := lw_g (lw_at lw_m9 43 rfl) rfl
theorem q2040 : (Jvm.Cond.methodLink "WhelkFleetLaw" (83 : Nat) ({ cls := "WhelkFleet", name := "whelksIn", desc := "(II)I" } : Jvm.MethodName)) ∈ lw_all := lw_g (lw_at lw_m9 44 rfl) rfl
theorem q2054 : (Jvm.Cond.methodLink "WhelkFleetLaw" (207 : Nat) ({ cls := "WhelkFleetLaw", name := "type", desc := "(LWhelkFleet;C[J)I" } : Jvm.MethodName)) ∈ lw_all := lw_g (lw_at lw_m9 58 rfl) rfl
theorem q2055 : (Jvm.Cond.static ({ cls := "WhelkFleetLaw", name := "type", desc := "(LWhelkFleet;C[J)I" } : Jvm.MethodName)) ∈ lw_all := lw_g (lw_at lw_m9 59 rfl) rfl
theorem q2056 : (Jvm.Cond.codeWith ({ cls := "WhelkFleetLaw", name := "type", desc := "(LWhelkFleet;C[J)I" } : Jvm.MethodName) method_25_code (4 : Nat) (Option.some Jvm.ClassFile.FieldType.int) [((0 : Nat), (9 : Nat), (12 : Nat), (90 : Nat))]) ∈ lw_all := lw_g (lw_at lw_m9 60 rfl) rfl
theorem q2057 : (Jvm.Cond.classLink "WhelkFleetLaw" (90 : Nat) "java/lang/IllegalStateException") ∈ lw_all := lw_g (lw_at lw_m9 61 rfl) rfl
theorem q2058 : (Jvm.Cond.methodLink "WhelkFleetLaw" (86 : Nat) ({ cls := "WhelkFleet", name := "type", desc := "(C)I" } : Jvm.MethodName)) ∈ lw_all := lw_g (lw_at lw_m9 62 rfl) rfl
theorem q2091 : (Jvm.Cond.methodLink "WhelkFleetLaw" (211 : Nat) ({ cls := "WhelkFleetLaw", name := "read", desc := "(LWhelkFleet;[J)I" } : Jvm.MethodName)) ∈ lw_all := lw_g (lw_at lw_m9 95 rfl) rfl
theorem q2092 : (Jvm.Cond.static ({ cls := "WhelkFleetLaw", name := "read", desc := "(LWhelkFleet;[J)I" } : Jvm.MethodName)) ∈ lw_all := lw_g (lw_at lw_m9 96 rfl) rfl
theorem q2093 : (Jvm.Cond.codeWith ({ cls := "WhelkFleetLaw", name := "read", desc := "(LWhelkFleet;[J)I" } : Jvm.MethodName) method_26_code (3 : Nat) (Option.some Jvm.ClassFile.FieldType.int) [((0 : Nat), (8 : Nat), (11 : Nat), (15 : Nat)), ((0 : Nat), (8 : Nat), (14 : Nat), (37 : Nat))]) ∈ lw_all := lw_g (lw_at lw_m9 97 rfl) rfl
theorem q2094 : (Jvm.Cond.methodLink "WhelkFleetLaw" (92 : Nat) ({ cls := "WhelkFleet", name := "read", desc := "()I" } : Jvm.MethodName)) ∈ lw_all := lw_g (lw_at lw_m9 98 rfl) rfl
theorem q2383 : (Jvm.Cond.methodLink "WhelkFleetLaw" (215 : Nat) ({ cls := "WhelkFleetLaw", name := "errorPosition", desc := "(LWhelkFleet;[J)I" } : Jvm.MethodName)) ∈ lw_all := lw_g (lw_at lw_m10 147 rfl) rfl
theorem q2384 : (Jvm.Cond.static ({ cls := "WhelkFleetLaw", name := "errorPosition", desc := "(LWhelkFleet;[J)I" } : Jvm.MethodName)) ∈ lw_all := lw_g (lw_at lw_m10 148 rfl) rfl
theorem q2385 : (Jvm.Cond.codeWith ({ cls := "WhelkFleetLaw", name := "errorPosition", desc := "(LWhelkFleet;[J)I" } : Jvm.MethodName) method_27_code (3 : Nat) (Option.some Jvm.ClassFile.FieldType.int) [((0 : Nat), (8 : Nat), (11 : Nat), (69 : Nat))]) ∈ lw_all := lw_g (lw_at lw_m10 149 rfl) rfl
theorem q2386 : (Jvm.Cond.methodLink "WhelkFleetLaw" (96 : Nat) ({ cls := "WhelkFleet", name := "errorPosition", desc := "()I" } : Jvm.MethodName)) ∈ lw_all := lw_g (lw_at lw_m10 150 rfl) rfl
theorem q2390 : (Jvm.Cond.methodLink "WhelkFleetLaw" (218 : Nat) ({ cls := "WhelkFleetLaw", name := "refusal", desc := "(LWhelkFleet;IZ[J)I" } : Jvm.MethodName)) ∈ lw_all := lw_g (lw_at lw_m10 154 rfl) rfl
theorem q2391 : (Jvm.Cond.static ({ cls := "WhelkFleetLaw", name := "refusal", desc := "(LWhelkFleet;IZ[J)I" } : Jvm.MethodName)) ∈ lw_all := lw_g (lw_at lw_m10 155 rfl) rfl
theorem q2392 : (Jvm.Cond.codeWith ({ cls := "WhelkFleetLaw", name := "refusal", desc := "(LWhelkFleet;IZ[J)I" } : Jvm.MethodName) method_28_code (5 : Nat) (Option.some Jvm.ClassFile.FieldType.int) [((0 : Nat), (10 : Nat), (13 : Nat), (15 : Nat)), ((0 : Nat), (10 : Nat), (17 : Nat), (69 : Nat))]) ∈ lw_all := lw_g (lw_at lw_m10 156 rfl) rfl
theorem q2393 : (Jvm.Cond.methodLink "WhelkFleetLaw" (99 : Nat) ({ cls := "WhelkFleet", name := "refusal", desc := "(IZ)I" } : Jvm.MethodName)) ∈ lw_all := lw_g (lw_at lw_m10 157 rfl) rfl
theorem q2424 : (Jvm.Cond.methodLink "WhelkFleetLaw" (222 : Nat) ({ cls := "WhelkFleetLaw", name := "describe", desc := "(LWhelkFleet;I[J)I" } : Jvm.MethodName)) ∈ lw_all := lw_g (lw_at lw_m10 188 rfl) rfl
theorem q2425 : (Jvm.Cond.static ({ cls := "WhelkFleetLaw", name := "describe", desc := "(LWhelkFleet;I[J)I" } : Jvm.MethodName)) ∈ lw_all := lw_g (lw_at lw_m10 189 rfl) rfl
theorem q2426 : (Jvm.Cond.codeWith ({ cls := "WhelkFleetLaw", name := "describe", desc := "(LWhelkFleet;I[J)I" } : Jvm.MethodName) method_29_code (4 : Nat) (Option.some Jvm.ClassFile.FieldType.int) [((0 : Nat), (9 : Nat), (12 : Nat), (13 : Nat))]) ∈ lw_all := lw_g (lw_at lw_m10 190 rfl) rfl
theorem q2427 : (Jvm.Cond.methodLink "WhelkFleetLaw" (103 : Nat) ({ cls := "WhelkFleet", name := "describe", desc := "(I)I" } : Jvm.MethodName)) ∈ lw_all := lw_g (lw_at lw_m10 191 rfl) rfl
theorem q2457 : (Jvm.Cond.methodLink "WhelkFleetLaw" (225 : Nat) ({ cls := "WhelkFleetLaw", name := "written", desc := "(LWhelkFleet;I[J)I" } : Jvm.MethodName)) ∈ lw_all := lw_g (lw_at lw_m10 221 rfl) rfl
theorem q2458 : (Jvm.Cond.static ({ cls := "WhelkFleetLaw", name := "written", desc := "(LWhelkFleet;I[J)I" } : Jvm.MethodName)) ∈ lw_all := lw_g (lw_at lw_m10 222 rfl) rfl
theorem q2459 : (Jvm.Cond.codeWith ({ cls := "WhelkFleetLaw", name := "written", desc := "(LWhelkFleet;I[J)I" } : Jvm.MethodName) method_30_code (4 : Nat) (Option.some Jvm.ClassFile.FieldType.int) [((0 : Nat), (9 : Nat), (12 : Nat), (69 : Nat))]) ∈ lw_all := lw_g (lw_at lw_m10 223 rfl) rfl
theorem q2460 : (Jvm.Cond.methodLink "WhelkFleetLaw" (106 : Nat) ({ cls := "WhelkFleet", name := "written", desc := "(I)C" } : Jvm.MethodName)) ∈ lw_all := lw_g (lw_at lw_m10 224 rfl) rfl
theorem q2465 : (Jvm.Cond.methodLink "WhelkFleetLaw" (228 : Nat) ({ cls := "WhelkFleetLaw", name := "account", desc := "(LWhelkFleet;I[J)I" } : Jvm.MethodName)) ∈ lw_all := lw_g (lw_at lw_m10 229 rfl) rfl
theorem q2466 : (Jvm.Cond.static ({ cls := "WhelkFleetLaw", name := "account", desc := "(LWhelkFleet;I[J)I" } : Jvm.MethodName)) ∈ lw_all := lw_g (lw_at lw_m10 230 rfl) rfl
theorem q2467 : (Jvm.Cond.codeWith ({ cls := "WhelkFleetLaw", name := "account", desc := "(LWhelkFleet;I[J)I" } : Jvm.MethodName) method_31_code (4 : Nat) (Option.some Jvm.ClassFile.FieldType.int) [((0 : Nat), (9 : Nat), (12 : Nat), (15 : Nat))]) ∈ lw_all := lw_g (lw_at lw_m10 231 rfl) rfl
theorem q2468 : (Jvm.Cond.methodLink "WhelkFleetLaw" (110 : Nat) ({ cls := "WhelkFleet", name := "account", desc := "(I)I" } : Jvm.MethodName)) ∈ lw_all := lw_g (lw_at lw_m10 232 rfl) rfl
theorem q2494 : (Jvm.Cond.methodLink "WhelkFleetLaw" (235 : Nat) ({ cls := "WhelkFleetLaw", name := "meanPots", desc := "(LWhelkFleet;[D)I" } : Jvm.MethodName)) ∈ lw_all := lw_g (lw_at lw_m11 18 rfl) rfl
theorem q2495 : (Jvm.Cond.static ({ cls := "WhelkFleetLaw", name := "meanPots", desc := "(LWhelkFleet;[D)I" } : Jvm.MethodName)) ∈ lw_all := lw_g (lw_at lw_m11 19 rfl) rfl
theorem q2496 : (Jvm.Cond.codeWith ({ cls := "WhelkFleetLaw", name := "meanPots", desc := "(LWhelkFleet;[D)I" } : Jvm.MethodName) method_32_code (3 : Nat) (Option.some Jvm.ClassFile.FieldType.int) [((0 : Nat), (7 : Nat), (10 : Nat), (117 : Nat))]) ∈ lw_all := lw_g (lw_at lw_m11 20 rfl) rfl
theorem q2497 : (Jvm.Cond.classLink "WhelkFleetLaw" (117 : Nat) "java/lang/ArithmeticException") ∈ lw_all := lw_g (lw_at lw_m11 21 rfl) rfl
theorem q2511 : (Jvm.Cond.methodLink "WhelkFleetLaw" (113 : Nat) ({ cls := "WhelkFleet", name := "meanPots", desc := "()D" } : Jvm.MethodName)) ∈ lw_all := lw_g (lw_at lw_m11 35 rfl) rfl
theorem q2520 : (Jvm.Cond.methodLink "WhelkFleetLaw" (239 : Nat) ({ cls := "WhelkFleetLaw", name := "backShare", desc := "(LWhelkFleet;[D)I" } : Jvm.MethodName)) ∈ lw_all := lw_g (lw_at lw_m11 44 rfl) rfl
theorem q2521 : (Jvm.Cond.static ({ cls := "WhelkFleetLaw", name := "backShare", desc := "(LWhelkFleet;[D)I" } : Jvm.MethodName)) ∈ lw_all := lw_g (lw_at lw_m11 45 rfl) rfl
theorem q2522 : (Jvm.Cond.codeWith ({ cls := "WhelkFleetLaw", name := "backShare", desc := "(LWhelkFleet;[D)I" } : Jvm.MethodName) method_33_code (3 : Nat) (Option.some Jvm.ClassFile.FieldType.int) [((0 : Nat), (8 : Nat), (11 : Nat), (117 : Nat))]) ∈ lw_all := lw_g (lw_at lw_m11 46 rfl) rfl
theorem q2523 : (Jvm.Cond.methodLink "WhelkFleetLaw" (119 : Nat) ({ cls := "WhelkFleet", name := "backShare", desc := "()F" } : Jvm.MethodName)) ∈ lw_all := lw_g (lw_at lw_m11 47 rfl) rfl
theorem q2527 : (Jvm.Cond.methodLink "WhelkFleetLaw" (242 : Nat) ({ cls := "WhelkFleetLaw", name := "undo", desc := "(LWhelkFleet;[J)I" } : Jvm.MethodName)) ∈ lw_all := lw_g (lw_at lw_m11 51 rfl) rfl
theorem q2528 : (Jvm.Cond.static ({ cls := "WhelkFleetLaw", name := "undo", desc := "(LWhelkFleet;[J)I" } : Jvm.MethodName)) ∈ lw_all := lw_g (lw_at lw_m11 52 rfl) rfl
theorem q2529 : (Jvm.Cond.codeWith ({ cls := "WhelkFleetLaw", name := "undo", desc := "(LWhelkFleet;[J)I" } : Jvm.MethodName) method_34_code (3 : Nat) (Option.some Jvm.ClassFile.FieldType.int) [((0 : Nat), (8 : Nat), (11 : Nat), (90 : Nat))]) ∈ lw_all := lw_g (lw_at lw_m11 53 rfl) rfl
theorem q2530 : (Jvm.Cond.methodLink "WhelkFleetLaw" (123 : Nat) ({ cls := "WhelkFleet", name := "undo", desc := "()I" } : Jvm.MethodName)) ∈ lw_all := lw_g (lw_at lw_m11 54 rfl) rfl
theorem q2550 : (Jvm.Cond.methodLink "WhelkFleetLaw" (249 : Nat) ({ cls := "WhelkFleetLaw", name := "restore", desc := "(LWhelkFleet;[J)I" } : Jvm.MethodName)) ∈ lw_all := lw_g (lw_at lw_m11 74 rfl) rfl
theorem q2551 : (Jvm.Cond.static ({ cls := "WhelkFleetLaw", name := "restore", desc := "(LWhelkFleet;[J)I" } : Jvm.MethodName)) ∈ lw_all := lw_g (lw_at lw_m11 75 rfl) rfl
theorem q2552 : (Jvm.Cond.codeWith ({ cls := "WhelkFleetLaw", name := "restore", desc := "(LWhelkFleet;[J)I" } : Jvm.MethodName) method_35_code (3 : Nat) (Option.some Jvm.ClassFile.FieldType.int) [((0 : Nat), (8 : Nat), (11 : Nat), (90 : Nat))]) ∈ lw_all := lw_g (lw_at lw_m11 76 rfl) rfl
theorem q2553 : (Jvm.Cond.methodLink "WhelkFleetLaw" (126 : Nat) ({ cls := "WhelkFleet", name := "restore", desc := "()I" } : Jvm.MethodName)) ∈ lw_all := lw_g (lw_at lw_m11 77 rfl) rfl
theorem q2561 : (Jvm.Cond.classLink "WhelkFleetLaw" (130 : Nat) "WhelkFleetModel") ∈ lw_all := lw_g (lw_at lw_m11 85 rfl) rfl
theorem q2563 : (Jvm.Cond.methodLink "WhelkFleetLaw" (132 : Nat) ({ cls := "WhelkFleetModel", name := "<init>", desc := "()V" } : Jvm.MethodName)) ∈ lw_all := lw_g (lw_at lw_m11 87 rfl) rfl
theorem q2623 : (Jvm.Cond.methodLink "WhelkFleetLaw" (139 : Nat) ({ cls := "WhelkFleetModel", name := "thrown", desc := "()I" } : Jvm.MethodName)) ∈ lw_all := lw_g (lw_at lw_m11 147 rfl) rfl
theorem q2627 : (Jvm.Cond.methodLink "WhelkFleetLaw" (138 : Nat) ({ cls := "WhelkFleetModel", name := "whelks", desc := "(II)I" } : Jvm.MethodName)) ∈ lw_all := lw_g (lw_at lw_m11 151 rfl) rfl
theorem q2648 : (Jvm.Cond.methodLink "WhelkFleetLaw" (145 : Nat) ({ cls := "WhelkFleetModel", name := "stock", desc := "(III)I" } : Jvm.MethodName)) ∈ lw_all := lw_g (lw_at lw_m11 172 rfl) rfl
theorem q2663 : (Jvm.Cond.methodLink "WhelkFleetLaw" (148 : Nat) ({ cls := "WhelkFleetModel", name := "box", desc := "(II)I" } : Jvm.MethodName)) ∈ lw_all := lw_g (lw_at lw_m11 187 rfl) rfl
theorem q2667 : (Jvm.Cond.methodLink "WhelkFleetLaw" (152 : Nat) ({ cls := "WhelkFleetModel", name := "bait", desc := "(I)I" } : Jvm.MethodName)) ∈ lw_all := lw_g (lw_at lw_m11 191 rfl) rfl
theorem q2671 : (Jvm.Cond.methodLink "WhelkFleetLaw" (155 : Nat) ({ cls := "WhelkFleetModel", name := "draws", desc := "(II)I" } : Jvm.MethodName)) ∈ lw_all := lw_g (lw_at lw_m11 195 rfl) rfl
theorem q2678 : (Jvm.Cond.methodLink "WhelkFleetLaw" (158 : Nat) ({ cls := "WhelkFleetModel", name := "bestBait", desc := "(I)I" } : Jvm.MethodName)) ∈ lw_all := lw_g (lw_at lw_m11 202 rfl) rfl
theorem q2682 : (Jvm.Cond.methodLink "WhelkFleetLaw" (161 : Nat) ({ cls := "WhelkFleetModel", name := "boat", desc := "(I)I" } : Jvm.MethodName)) ∈ lw_all := lw_g (lw_at lw_m11 206 rfl) rfl
theorem q2694 : (Jvm.Cond.methodLink "WhelkFleetLaw" (164 : Nat) ({ cls := "WhelkFleetModel", name := "string", desc := "(I)I" } : Jvm.MethodName)) ∈ lw_all := lw_g (lw_at lw_m11 218 rfl) rfl
theorem q2698 : (Jvm.Cond.methodLink "WhelkFleetLaw" (167 : Nat) ({ cls := "WhelkFleetModel", name := "boatOf", desc := "(II)I" } : Jvm.MethodName)) ∈ lw_all := lw_g (lw_at lw_m11 222 rfl) rfl
theorem q2706 : (Jvm.Cond.methodLink "WhelkFleetLaw" (170 : Nat) ({ cls := "WhelkFleetModel", name := "stringOf", desc := "(II)I" } : Jvm.MethodName)) ∈ lw_all := lw_g (lw_at lw_m11 230 rfl) rfl
theorem q2718 : (Jvm.Cond.methodLink "WhelkFleetLaw" (173 : Nat) ({ cls := "WhelkFleetModel", name := "out", desc := "(II)I" } : Jvm.MethodName)) ∈ lw_all := lw_g (lw_at lw_m12 2 rfl) rfl
theorem q2726 : (Jvm.Cond.methodLink "WhelkFleetLaw" (176 : Nat) ({ cls := "WhelkFleetModel", name := "home", desc := "(I)I" } : Jvm.MethodName)) ∈ lw_all := lw_g (lw_at lw_m12 10 rfl) rfl
theorem q2734 : (Jvm.Cond.methodLink "WhelkFleetLaw" (179 : Nat) ({ cls := "WhelkFleetModel", name := "shoot", desc := "(III)I" } : Jvm.MethodName)) ∈ lw_all := lw_g (lw_at lw_m12 18 rfl) rfl
theorem q2742 : (Jvm.Cond.methodLink "WhelkFleetLaw" (182 : Nat) ({ cls := "WhelkFleetModel", name := "haul", desc := "(II)I" } : Jvm.MethodName)) ∈ lw_all := lw_g (lw_at lw_m12 26 rfl) rfl
theorem q2758 : (Jvm.Cond.methodLink "WhelkFleetLaw" (185 : Nat) ({ cls := "WhelkFleetModel", name := "land", desc := "(I)I" } : Jvm.MethodName)) ∈ lw_all := lw_g (lw_at lw_m12 42 rfl) rfl
theorem q2770 : (Jvm.Cond.methodLink "WhelkFleetLaw" (188 : Nat) ({ cls := "WhelkFleetModel", name := "wouldBring", desc := "(II)I" } : Jvm.MethodName)) ∈ lw_all := lw_g (lw_at lw_m12 54 rfl) rfl
theorem q2793 : (Jvm.Cond.methodLink "WhelkFleetLaw" (191 : Nat) ({ cls := "WhelkFleetModel", name := "bestDay", desc := "(I)I" } : Jvm.MethodName)) ∈ lw_all := lw_g (lw_at lw_m12 77 rfl) rfl
theorem q2797 : (Jvm.Cond.methodLink "WhelkFleetLaw" (194 : Nat) ({ cls := "WhelkFleetModel", name := "ranked", desc := "(I)I" } : Jvm.MethodName)) ∈ lw_all := lw_g (lw_at lw_m12 81 rfl) rfl
theorem q2801 : (Jvm.Cond.methodLink "WhelkFleetLaw" (197 : Nat) ({ cls := "WhelkFleetModel", name := "swell", desc := "(I)I" } : Jvm.MethodName)) ∈ lw_all := lw_g (lw_at lw_m12 85 rfl) rfl
theorem q2809 : (Jvm.Cond.methodLink "WhelkFleetLaw" (200 : Nat) ({ cls := "WhelkFleetModel", name := "riddle", desc := "(I)I" } : Jvm.MethodName)) ∈ lw_all := lw_g (lw_at lw_m12 93 rfl) rfl
theorem q2817 : (Jvm.Cond.methodLink "WhelkFleetLaw" (203 : Nat) ({ cls := "WhelkFleetModel", name := "pass", desc := "(I)I" } : Jvm.MethodName)) ∈ lw_all := lw_g (lw_at lw_m12 101 rfl) rfl
theorem q2825 : (Jvm.Cond.methodLink "WhelkFleetLaw" (206 : Nat) ({ cls := "WhelkFleetModel", name := "whelksIn", desc := "(II)I" } : Jvm.MethodName)) ∈ lw_all := lw_g (lw_at lw_m12 109 rfl) rfl
theorem q2833 : (Jvm.Cond.methodLink "WhelkFleetLaw" (210 : Nat) ({ cls := "WhelkFleetModel", name := "type", desc := "(C)I" } : Jvm.MethodName)) ∈ lw_all := lw_g (lw_at lw_m12 117 rfl) rfl
theorem q2837 : (Jvm.Cond.methodLink "WhelkFleetLaw" (214 : Nat) ({ cls := "WhelkFleetModel", name := "read", desc := "()I" } : Jvm.MethodName)) ∈ lw_all := lw_g (lw_at lw_m12 121 rfl) rfl
theorem q2908 : (Jvm.Cond.methodLink "WhelkFleetLaw" (217 : Nat) ({ cls := "WhelkFleetModel", name := "errorPosition", desc := "()I" } : Jvm.MethodName)) ∈ lw_all := lw_g (lw_at lw_m12 192 rfl) rfl
theorem q2912 : (Jvm.Cond.methodLink "WhelkFleetLaw" (221 : Nat) ({ cls := "WhelkFleetModel", name := "refusal", desc := "(IZ)I" } : Jvm.MethodName)) ∈ lw_all := lw_g (lw_at lw_m12 196 rfl) rfl
theorem q2916 : (Jvm.Cond.methodLink "WhelkFleetLaw" (224 : Nat) ({ cls := "WhelkFleetModel", name := "describe", desc := "(I)I" } : Jvm.MethodName)) ∈ lw_all := lw_g (lw_at lw_m12 200 rfl) rfl
theorem q2935 : (Jvm.Cond.methodLink "WhelkFleetLaw" (227 : Nat) ({ cls := "WhelkFleetModel", name := "written", desc := "(I)C" } : Jvm.MethodName)) ∈ lw_all := lw_g (lw_at lw_m12 219 rfl) rfl
theorem q2939 : (Jvm.Cond.methodLink "WhelkFleetLaw" (230 : Nat) ({ cls := "WhelkFleetModel", name := "account", desc := "(I)I" } : Jvm.MethodName)) ∈ lw_all := lw_g (lw_at lw_m12 223 rfl) rfl
theorem q2951 : (Jvm.Cond.methodLink "WhelkFleetLaw" (234 : Nat) ({ cls := "WhelkFleetModel", name := "holdsAgain", desc := "()I" } : Jvm.MethodName)) ∈ lw_all := lw_g (lw_at lw_m12 235 rfl) rfl
theorem q2955 : (Jvm.Cond.methodLink "WhelkFleetLaw" (238 : Nat) ({ cls := "WhelkFleetModel", name := "meanPots", desc := "()D" } : Jvm.MethodName)) ∈ lw_all := lw_g (lw_at lw_m12 239 rfl) rfl
theorem q2959 : (Jvm.Cond.methodLink "WhelkFleetLaw" (241 : Nat) ({ cls := "WhelkFleetModel", name := "backShare", desc := "()F" } : Jvm.MethodName)) ∈ lw_all := lw_g (lw_at lw_m13 3 rfl) rfl
theorem q2963 : (Jvm.Cond.methodLink "WhelkFleetLaw" (244 : Nat) ({ cls := "WhelkFleetModel", name := "undo", desc := "()I" } : Jvm.MethodName)) ∈ lw_all := lw_g (lw_at lw_m13 7 rfl) rfl
theorem q2967 : (Jvm.Cond.methodLink "WhelkFleetLaw" (248 : Nat) ({ cls := "WhelkFleetModel", name := "save", desc := "()I" } : Jvm.MethodName)) ∈ lw_all := lw_g (lw_at lw_m13 11 rfl) rfl
theorem q2971 : (Jvm.Cond.methodLink "WhelkFleetLaw" (251 : Nat) ({ cls := "WhelkFleetModel", name := "restore", desc := "()I" } : Jvm.MethodName)) ∈ lw_all := lw_g (lw_at lw_m13 15 rfl) rfl
/-! WhelkFleet -/
set_option maxRecDepth 100000
def RX1 : String := "WhelkFleet"
def TX1 : u_T := fun k => match k with
  | 0 => ("WhelkFleet", "fleet", "LWhelkFleet$Fleet;", false)
  | 1 => ("WhelkFleet", "saved", "LWhelkFleet$Fleet;", false)
  | 2 => ("WhelkFleet", "past", "Ljava/util/LinkedList;", true)
  | 3 => ("WhelkFleet", "buffer", "Ljava/lang/StringBuilder;", true)
  | 4 => ("WhelkFleet", "errorAt", "I", false)
  | 5 => ("WhelkFleet", "latest", "LWhelkFleet$Refusal;", false)
  | _ => ("WhelkFleet", "line", "Ljava/lang/String;", false)
def tyX1 : Nat → FieldType := fun k => match k with
  | 0 => .object "WhelkFleet$Fleet"
  | 1 => .object "WhelkFleet$Fleet"
  | 2 => .object "java/util/LinkedList"
  | 3 => .object "java/lang/StringBuilder"
  | 4 => .int
  | 5 => .object "WhelkFleet$Refusal"
  | _ => .object "java/lang/String"
abbrev wsX10 : List Cond := u_ws RX1 TX1 7
theorem nmX1 : ∀ a, a < 7 → ∀ b, b < 7 → a ≠ b → (TX1 a).2.1 ≠ (TX1 b).2.1 := by decide +kernel
theorem tyX1_ok : ∀ k, k < 7 → parseFieldDescriptor (TX1 k).2.2.1 = some (tyX1 k) := by decide +kernel
abbrev cX1_init : ByteArray := prog_1_method_5_code
def yX1_init : MethodName := ⟨RX1, "<init>", "()V"⟩
def dkwX1_init_1 : List UInt8 := [187, 0, 41, 89, 183, 0, 43, 181, 0, 44, 42, 2, 181, 0, 48, 42, 18, 52, 181, 0, 54, 177]
abbrev dktX1_init_1 : List UInt8 := dkwX1_init_1 ++ []
def dkwX1_init_0 : List UInt8 := [42, 183, 0, 19, 42, 184, 0, 24, 181, 0, 30, 42, 187, 0, 34, 89, 183, 0, 36, 181, 0, 37, 42]
abbrev dktX1_init_0 : List UInt8 := dkwX1_init_0 ++ dktX1_init_1
theorem dksX1_init_0 : cX1_init.data.toList.drop 0 = dktX1_init_0 := by decide +kernel
theorem dksX1_init_1 : cX1_init.data.toList.drop 23 = dktX1_init_1 := dk_seg dksX1_init_0 23 rfl rfl
theorem dX1_init_0 : decode cX1_init 0 = .ok (.aload_n 0, 1) := dk_42 (dk_at dksX1_init_0 0 rfl rfl)
theorem dX1_init_1 : decode cX1_init 1 = .ok (.invokespecial 19, 3) := dk_183 0 19 (dk_at dksX1_init_0 1 rfl rfl)
theorem dX1_init_4 : decode cX1_init 4 = .ok (.aload_n 0, 1) := dk_42 (dk_at dksX1_init_0 4 rfl rfl)
theorem dX1_init_5 : decode cX1_init 5 = .ok (.invokestatic 24, 3) := dk_184 0 24 (dk_at dksX1_init_0 5 rfl rfl)
theorem dX1_init_8 : decode cX1_init 8 = .ok (.putfield 30, 3) := dk_181 0 30 (dk_at dksX1_init_0 8 rfl rfl)
theorem dX1_init_11 : decode cX1_init 11 = .ok (.aload_n 0, 1) := dk_42 (dk_at dksX1_init_0 11 rfl rfl)
theorem dX1_init_12 : decode cX1_init 12 = .ok (.new 34, 3) := dk_187 0 34 (dk_at dksX1_init_0 12 rfl rfl)
theorem dX1_init_15 : decode cX1_init 15 = .ok (.dup, 1) := dk_89 (dk_at dksX1_init_0 15 rfl rfl)
theorem dX1_init_16 : decode cX1_init 16 = .ok (.invokespecial 36, 3) := dk_183 0 36 (dk_at dksX1_init_0 16 rfl rfl)
theorem dX1_init_19 : decode cX1_init 19 = .ok (.putfield 37, 3) := dk_181 0 37 (dk_at dksX1_init_0 19 rfl rfl)
theorem dX1_init_22 : decode cX1_init 22 = .ok (.aload_n 0, 1) := dk_42 (dk_at dksX1_init_0 22 rfl rfl)
theorem dX1_init_23 : decode cX1_init 23 = .ok (.new 41, 3) := dk_187 0 41 (dk_at dksX1_init_1 0 rfl rfl)
theorem dX1_init_26 : decode cX1_init 26 = .ok (.dup, 1) := dk_89 (dk_at dksX1_init_1 3 rfl rfl)
theorem dX1_init_27 : decode cX1_init 27 = .ok (.invokespecial 43, 3) := dk_183 0 43 (dk_at dksX1_init_1 4 rfl rfl)
theorem dX1_init_30 : decode cX1_init 30 = .ok (.putfield 44, 3) := dk_181 0 44 (dk_at dksX1_init_1 7 rfl rfl)
theorem dX1_init_33 : decode cX1_init 33 = .ok (.aload_n 0, 1) := dk_42 (dk_at dksX1_init_1 10 rfl rfl)
theorem dX1_init_34 : decode cX1_init 34 = .ok (.iconst (-1), 1) := dk_2 (dk_at dksX1_init_1 11 rfl rfl)
theorem dX1_init_35 : decode cX1_init 35 = .ok (.putfield 48, 3) := dk_181 0 48 (dk_at dksX1_init_1 12 rfl rfl)
theorem dX1_init_38 : decode cX1_init 38 = .ok (.aload_n 0, 1) := dk_42 (dk_at dksX1_init_1 15 rfl rfl)
theorem dX1_init_39 : decode cX1_init 39 = .ok (.ldc 52, 2) := dk_18 52 (dk_at dksX1_init_1 16 rfl rfl)
theorem dX1_init_41 : decode cX1_init 41 = .ok (.putfield 54, 3) := dk_181 0 54 (dk_at dksX1_init_1 18 rfl rfl)
theorem dX1_init_44 : decode cX1_init 44 = .ok (.return_, 1) := dk_177 (dk_at dksX1_init_1 21 rfl rfl)
abbrev cX1_holdsAgain : ByteArray := prog_1_method_49_code
def yX1_holdsAgain : MethodName := ⟨RX1, "holdsAgain", "()I"⟩
def dkwX1_holdsAgain_0 : List UInt8 := [42, 180, 0, 30, 182, 1, 124, 42, 180, 0, 30, 182, 1, 125, 100, 42, 180, 0, 30, 182, 1, 128, 100, 172]
abbrev dktX1_holdsAgain_0 : List UInt8 := dkwX1_holdsAgain_0 ++ []
theorem dksX1_holdsAgain_0 : cX1_holdsAgain.data.toList.drop 0 = dktX1_holdsAgain_0 := by decide +kernel
theorem dX1_holdsAgain_0 : decode cX1_holdsAgain 0 = .ok (.aload_n 0, 1) := dk_42 (dk_at dksX1_holdsAgain_0 0 rfl rfl)
theorem dX1_holdsAgain_1 : decode cX1_holdsAgain 1 = .ok (.getfield 30, 3) := dk_180 0 30 (dk_at dksX1_holdsAgain_0 1 rfl rfl)
theorem dX1_holdsAgain_4 : decode cX1_holdsAgain 4 = .ok (.invokevirtual 380, 3) := dk_182 1 124 (dk_at dksX1_holdsAgain_0 4 rfl rfl)
theorem dX1_holdsAgain_7 : decode cX1_holdsAgain 7 = .ok (.aload_n 0, 1) := dk_42 (dk_at dksX1_holdsAgain_0 7 rfl rfl)
theorem dX1_holdsAgain_8 : decode cX1_holdsAgain 8 = .ok (.getfield 30, 3) := dk_180 0 30 (dk_at dksX1_holdsAgain_0 8 rfl rfl)
theorem dX1_holdsAgain_11 : decode cX1_holdsAgain 11 = .ok (.invokevirtual 381, 3) := dk_182 1 125 (dk_at dksX1_holdsAgain_0 11 rfl rfl)
theorem dX1_holdsAgain_14 : decode cX1_holdsAgain 14 = .ok (.isub, 1) := dk_100 (dk_at dksX1_holdsAgain_0 14 rfl rfl)
theorem dX1_holdsAgain_15 : decode cX1_holdsAgain 15 = .ok (.aload_n 0, 1) := dk_42 (dk_at dksX1_holdsAgain_0 15 rfl rfl)
theorem dX1_holdsAgain_16 : decode cX1_holdsAgain 16 = .ok (.getfield 30, 3) := dk_180 0 30 (dk_at dksX1_holdsAgain_0 16 rfl rfl)
theorem dX1_holdsAgain_19 : decode cX1_holdsAgain 19 = .ok (.invokevirtual 384, 3) := dk_182 1 128 (dk_at dksX1_holdsAgain_0 19 rfl rfl)
theorem dX1_holdsAgain_22 : decode cX1_holdsAgain 22 = .ok (.isub, 1) := dk_100 (dk_at dksX1_holdsAgain_0 22 rfl rfl)
theorem dX1_holdsAgain_23 : decode cX1_holdsAgain 23 = .ok (.ireturn, 1) := dk_172 (dk_at dksX1_holdsAgain_0 23 rfl rfl)
abbrev cX1_save : ByteArray := prog_1_method_53_code
def yX1_save : MethodName := ⟨RX1, "save", "()I"⟩
def dkwX1_save_0 : List UInt8 := [42, 42, 180, 0, 30, 181, 1, 143, 42, 180, 0, 30, 182, 0, 229, 172]
abbrev dktX1_save_0 : List UInt8 := dkwX1_save_0 ++ []
theorem dksX1_save_0 : cX1_save.data.toList.drop 0 = dktX1_save_0 := by decide +kernel
theorem dX1_save_0 : decode cX1_save 0 = .ok (.aload_n 0, 1) := dk_42 (dk_at dksX1_save_0 0 rfl rfl)
theorem dX1_save_1 : decode cX1_save 1 = .ok (.aload_n 0, 1) := dk_42 (dk_at dksX1_save_0 1 rfl rfl)
theorem dX1_save_2 : decode cX1_save 2 = .ok (.getfield 30, 3) := dk_180 0 30 (dk_at dksX1_save_0 2 rfl rfl)
theorem dX1_save_5 : decode cX1_save 5 = .ok (.putfield 399, 3) := dk_181 1 143 (dk_at dksX1_save_0 5 rfl rfl)
theorem dX1_save_8 : decode cX1_save 8 = .ok (.aload_n 0, 1) := dk_42 (dk_at dksX1_save_0 8 rfl rfl)
theorem dX1_save_9 : decode cX1_save 9 = .ok (.getfield 30, 3) := dk_180 0 30 (dk_at dksX1_save_0 9 rfl rfl)
theorem dX1_save_12 : decode cX1_save 12 = .ok (.invokevirtual 229, 3) := dk_182 0 229 (dk_at dksX1_save_0 12 rfl rfl)
theorem dX1_save_15 : decode cX1_save 15 = .ok (.ireturn, 1) := dk_172 (dk_at dksX1_save_0 15 rfl rfl)
abbrev cX1_whelks : ByteArray := prog_1_method_18_code
def yX1_whelks : MethodName := ⟨RX1, "whelks", "(II)I"⟩
def dkwX1_whelks_0 : List UInt8 := [27, 184, 0, 140, 28, 184, 0, 144, 184, 0, 148, 42, 180, 0, 30, 27, 182, 0, 151, 28, 182, 0, 155, 172]
abbrev dktX1_whelks_0 : List UInt8 := dkwX1_whelks_0 ++ []
theorem dksX1_whelks_0 : cX1_whelks.data.toList.drop 0 = dktX1_whelks_0 := by decide +kernel
theorem dX1_whelks_0 : decode cX1_whelks 0 = .ok (.iload_n 1, 1) := dk_27 (dk_at dksX1_whelks_0 0 rfl rfl)
theorem dX1_whelks_1 : decode cX1_whelks 1 = .ok (.invokestatic 140, 3) := dk_184 0 140 (dk_at dksX1_whelks_0 1 rfl rfl)
theorem dX1_whelks_4 : decode cX1_whelks 4 = .ok (.iload_n 2, 1) := dk_28 (dk_at dksX1_whelks_0 4 rfl rfl)
theorem dX1_whelks_5 : decode cX1_whelks 5 = .ok (.invokestatic 144, 3) := dk_184 0 144 (dk_at dksX1_whelks_0 5 rfl rfl)
theorem dX1_whelks_8 : decode cX1_whelks 8 = .ok (.invokestatic 148, 3) := dk_184 0 148 (dk_at dksX1_whelks_0 8 rfl rfl)
theorem dX1_whelks_11 : decode cX1_whelks 11 = .ok (.aload_n 0, 1) := dk_42 (dk_at dksX1_whelks_0 11 rfl rfl)
theorem dX1_whelks_12 : decode cX1_whelks 12 = .ok (.getfield 30, 3) := dk_180 0 30 (dk_at dksX1_whelks_0 12 rfl rfl)
theorem dX1_whelks_15 : decode cX1_whelks 15 = .ok (.iload_n 1, 1) := dk_27 (dk_at dksX1_whelks_0 15 rfl rfl)
theorem dX1_whelks_16 : decode cX1_whelks 16 = .ok (.invokevirtual 151, 3) := dk_182 0 151 (dk_at dksX1_whelks_0 16 rfl rfl)
theorem dX1_whelks_19 : decode cX1_whelks 19 = .ok (.iload_n 2, 1) := dk_28 (dk_at dksX1_whelks_0 19 rfl rfl)
theorem dX1_whelks_20 : decode cX1_whelks 20 = .ok (.invokevirtual 155, 3) := dk_182 0 155 (dk_at dksX1_whelks_0 20 rfl rfl)
theorem dX1_whelks_23 : decode cX1_whelks 23 = .ok (.ireturn, 1) := dk_172 (dk_at dksX1_whelks_0 23 rfl rfl)
abbrev cX1_requireGround : ByteArray := prog_1_method_13_code
def yX1_requireGround : MethodName := ⟨RX1, "requireGround", "(I)V"⟩
def dkwX1_requireGround_0 : List UInt8 := [26, 3, 8, 184, 0, 114, 184, 0, 118, 177]
abbrev dktX1_requireGround_0 : List UInt8 := dkwX1_requireGround_0 ++ []
theorem dksX1_requireGround_0 : cX1_requireGround.data.toList.drop 0 = dktX1_requireGround_0 := by decide +kernel
theorem dX1_requireGround_0 : decode cX1_requireGround 0 = .ok (.iload_n 0, 1) := dk_26 (dk_at dksX1_requireGround_0 0 rfl rfl)
theorem dX1_requireGround_1 : decode cX1_requireGround 1 = .ok (.iconst 0, 1) := dk_3 (dk_at dksX1_requireGround_0 1 rfl rfl)
theorem dX1_requireGround_2 : decode cX1_requireGround 2 = .ok (.iconst 5, 1) := dk_8 (dk_at dksX1_requireGround_0 2 rfl rfl)
theorem dX1_requireGround_3 : decode cX1_requireGround 3 = .ok (.invokestatic 114, 3) := dk_184 0 114 (dk_at dksX1_requireGround_0 3 rfl rfl)
theorem dX1_requireGround_6 : decode cX1_requireGround 6 = .ok (.invokestatic 118, 3) := dk_184 0 118 (dk_at dksX1_requireGround_0 6 rfl rfl)
theorem dX1_requireGround_9 : decode cX1_requireGround 9 = .ok (.return_, 1) := dk_177 (dk_at dksX1_requireGround_0 9 rfl rfl)
abbrev cX1_isIn : ByteArray := prog_1_method_2_code
def yX1_isIn : MethodName := ⟨RX1, "isIn", "(III)Z"⟩
def dkwX1_isIn_0 : List UInt8 := [26, 27, 161, 0, 12, 26, 28, 163, 0, 7, 4, 167, 0, 4, 3, 172]
abbrev dktX1_isIn_0 : List UInt8 := dkwX1_isIn_0 ++ []
theorem dksX1_isIn_0 : cX1_isIn.data.toList.drop 0 = dktX1_isIn_0 := by decide +kernel
theorem dX1_isIn_0 : decode cX1_isIn 0 = .ok (.iload_n 0, 1) := dk_26 (dk_at dksX1_isIn_0 0 rfl rfl)
theorem dX1_isIn_1 : decode cX1_isIn 1 = .ok (.iload_n 1, 1) := dk_27 (dk_at dksX1_isIn_0 1 rfl rfl)
theorem dX1_isIn_2 : decode cX1_isIn 2 = .ok (.if_icmp .lt 12, 3) := dk_161 0 12 (dk_at dksX1_isIn_0 2 rfl rfl)
theorem dX1_isIn_5 : decode cX1_isIn 5 = .ok (.iload_n 0, 1) := dk_26 (dk_at dksX1_isIn_0 5 rfl rfl)
theorem dX1_isIn_6 : decode cX1_isIn 6 = .ok (.iload_n 2, 1) := dk_28 (dk_at dksX1_isIn_0 6 rfl rfl)
theorem dX1_isIn_7 : decode cX1_isIn 7 = .ok (.if_icmp .gt 7, 3) := dk_163 0 7 (dk_at dksX1_isIn_0 7 rfl rfl)
theorem dX1_isIn_10 : decode cX1_isIn 10 = .ok (.iconst 1, 1) := dk_4 (dk_at dksX1_isIn_0 10 rfl rfl)
theorem dX1_isIn_11 : decode cX1_isIn 11 = .ok (.goto 4, 3) := dk_167 0 4 (dk_at dksX1_isIn_0 11 rfl rfl)
theorem dX1_isIn_14 : decode cX1_isIn 14 = .ok (.iconst 0, 1) := dk_3 (dk_at dksX1_isIn_0 14 rfl rfl)
theorem dX1_isIn_15 : decode cX1_isIn 15 = .ok (.ireturn, 1) := dk_172 (dk_at dksX1_isIn_0 15 rfl rfl)
abbrev cX1_requireIndex : ByteArray := prog_1_method_7_code
def yX1_requireIndex : MethodName := ⟨RX1, "requireIndex", "(Z)V"⟩
def dkwX1_requireIndex_0 : List UInt8 := [26, 154, 0, 11, 187, 0, 61, 89, 183, 0, 63, 191, 177]
abbrev dktX1_requireIndex_0 : List UInt8 := dkwX1_requireIndex_0 ++ []
theorem dksX1_requireIndex_0 : cX1_requireIndex.data.toList.drop 0 = dktX1_requireIndex_0 := by decide +kernel
theorem dX1_requireIndex_0 : decode cX1_requireIndex 0 = .ok (.iload_n 0, 1) := dk_26 (dk_at dksX1_requireIndex_0 0 rfl rfl)
theorem dX1_requireIndex_1 : decode cX1_requireIndex 1 = .ok (.ifCond .ne 11, 3) := dk_154 0 11 (dk_at dksX1_requireIndex_0 1 rfl rfl)
theorem dX1_requireIndex_4 : decode cX1_requireIndex 4 = .ok (.new 61, 3) := dk_187 0 61 (dk_at dksX1_requireIndex_0 4 rfl rfl)
theorem dX1_requireIndex_7 : decode cX1_requireIndex 7 = .ok (.dup, 1) := dk_89 (dk_at dksX1_requireIndex_0 7 rfl rfl)
theorem dX1_requireIndex_8 : decode cX1_requireIndex 8 = .ok (.invokespecial 63, 3) := dk_183 0 63 (dk_at dksX1_requireIndex_0 8 rfl rfl)
theorem dX1_requireIndex_11 : decode cX1_requireIndex 11 = .ok (.athrow, 1) := dk_191 (dk_at dksX1_requireIndex_0 11 rfl rfl)
theorem dX1_requireIndex_12 : decode cX1_requireIndex 12 = .ok (.return_, 1) := dk_177 (dk_at dksX1_requireIndex_0 12 rfl rfl)
abbrev cX1_isSize : ByteArray := prog_1_method_16_code
def yX1_isSize : MethodName := ⟨RX1, "isSize", "(I)Z"⟩
def dkwX1_isSize_0 : List UInt8 := [26, 3, 5, 184, 0, 114, 172]
abbrev dktX1_isSize_0 : List UInt8 := dkwX1_isSize_0 ++ []
theorem dksX1_isSize_0 : cX1_isSize.data.toList.drop 0 = dktX1_isSize_0 := by decide +kernel
theorem dX1_isSize_0 : decode cX1_isSize 0 = .ok (.iload_n 0, 1) := dk_26 (dk_at dksX1_isSize_0 0 rfl rfl)
theorem dX1_isSize_1 : decode cX1_isSize 1 = .ok (.iconst 0, 1) := dk_3 (dk_at dksX1_isSize_0 1 rfl rfl)
theorem dX1_isSize_2 : decode cX1_isSize 2 = .ok (.iconst 2, 1) := dk_5 (dk_at dksX1_isSize_0 2 rfl rfl)
theorem dX1_isSize_3 : decode cX1_isSize 3 = .ok (.invokestatic 114, 3) := dk_184 0 114 (dk_at dksX1_isSize_0 3 rfl rfl)
theorem dX1_isSize_6 : decode cX1_isSize 6 = .ok (.ireturn, 1) := dk_172 (dk_at dksX1_isSize_0 6 rfl rfl)
abbrev cX1_require : ByteArray := prog_1_method_6_code
def yX1_require : MethodName := ⟨RX1, "require", "(Z)V"⟩
def dkwX1_require_0 : List UInt8 := [26, 154, 0, 11, 187, 0, 58, 89, 183, 0, 60, 191, 177]
abbrev dktX1_require_0 : List UInt8 := dkwX1_require_0 ++ []
theorem dksX1_require_0 : cX1_require.data.toList.drop 0 = dktX1_require_0 := by decide +kernel
theorem dX1_require_0 : decode cX1_require 0 = .ok (.iload_n 0, 1) := dk_26 (dk_at dksX1_require_0 0 rfl rfl)
theorem dX1_require_1 : decode cX1_require 1 = .ok (.ifCond .ne 11, 3) := dk_154 0 11 (dk_at dksX1_require_0 1 rfl rfl)
theorem dX1_require_4 : decode cX1_require 4 = .ok (.new 58, 3) := dk_187 0 58 (dk_at dksX1_require_0 4 rfl rfl)
theorem dX1_require_7 : decode cX1_require 7 = .ok (.dup, 1) := dk_89 (dk_at dksX1_require_0 7 rfl rfl)
theorem dX1_require_8 : decode cX1_require 8 = .ok (.invokespecial 60, 3) := dk_183 0 60 (dk_at dksX1_require_0 8 rfl rfl)
theorem dX1_require_11 : decode cX1_require 11 = .ok (.athrow, 1) := dk_191 (dk_at dksX1_require_0 11 rfl rfl)
theorem dX1_require_12 : decode cX1_require 12 = .ok (.return_, 1) := dk_177 (dk_at dksX1_require_0 12 rfl rfl)
abbrev cX1_stock : ByteArray := prog_1_method_19_code
def yX1_stock : MethodName := ⟨RX1, "stock", "(III)I"⟩
def dkwX1_stock_1 : List UInt8 := [167, 0, 4, 3, 184, 0, 148, 42, 18, 161, 27, 28, 29, 182, 0, 163, 172]
abbrev dktX1_stock_1 : List UInt8 := dkwX1_stock_1 ++ []
def dkwX1_stock_0 : List UInt8 := [27, 184, 0, 140, 28, 184, 0, 144, 153, 0, 18, 29, 3, 17, 3, 231, 184, 0, 114, 153, 0, 7, 4]
abbrev dktX1_stock_0 : List UInt8 := dkwX1_stock_0 ++ dktX1_stock_1
theorem dksX1_stock_0 : cX1_stock.data.toList.drop 0 = dktX1_stock_0 := by decide +kernel
theorem dksX1_stock_1 : cX1_stock.data.toList.drop 23 = dktX1_stock_1 := dk_seg dksX1_stock_0 23 rfl rfl
theorem dX1_stock_0 : decode cX1_stock 0 = .ok (.iload_n 1, 1) := dk_27 (dk_at dksX1_stock_0 0 rfl rfl)
theorem dX1_stock_1 : decode cX1_stock 1 = .ok (.invokestatic 140, 3) := dk_184 0 140 (dk_at dksX1_stock_0 1 rfl rfl)
theorem dX1_stock_4 : decode cX1_stock 4 = .ok (.iload_n 2, 1) := dk_28 (dk_at dksX1_stock_0 4 rfl rfl)
theorem dX1_stock_5 : decode cX1_stock 5 = .ok (.invokestatic 144, 3) := dk_184 0 144 (dk_at dksX1_stock_0 5 rfl rfl)
theorem dX1_stock_8 : decode cX1_stock 8 = .ok (.ifCond .eq 18, 3) := dk_153 0 18 (dk_at dksX1_stock_0 8 rfl rfl)
theorem dX1_stock_11 : decode cX1_stock 11 = .ok (.iload_n 3, 1) := dk_29 (dk_at dksX1_stock_0 11 rfl rfl)
theorem dX1_stock_12 : decode cX1_stock 12 = .ok (.iconst 0, 1) := dk_3 (dk_at dksX1_stock_0 12 rfl rfl)
theorem dX1_stock_13 : decode cX1_stock 13 = .ok (.sipush 999, 3) := dk_17 3 231 (dk_at dksX1_stock_0 13 rfl rfl)
theorem dX1_stock_16 : decode cX1_stock 16 = .ok (.invokestatic 114, 3) := dk_184 0 114 (dk_at dksX1_stock_0 16 rfl rfl)
theorem dX1_stock_19 : decode cX1_stock 19 = .ok (.ifCond .eq 7, 3) := dk_153 0 7 (dk_at dksX1_stock_0 19 rfl rfl)
theorem dX1_stock_22 : decode cX1_stock 22 = .ok (.iconst 1, 1) := dk_4 (dk_at dksX1_stock_0 22 rfl rfl)
theorem dX1_stock_23 : decode cX1_stock 23 = .ok (.goto 4, 3) := dk_167 0 4 (dk_at dksX1_stock_1 0 rfl rfl)
theorem dX1_stock_26 : decode cX1_stock 26 = .ok (.iconst 0, 1) := dk_3 (dk_at dksX1_stock_1 3 rfl rfl)
theorem dX1_stock_27 : decode cX1_stock 27 = .ok (.invokestatic 148, 3) := dk_184 0 148 (dk_at dksX1_stock_1 4 rfl rfl)
theorem dX1_stock_30 : decode cX1_stock 30 = .ok (.aload_n 0, 1) := dk_42 (dk_at dksX1_stock_1 7 rfl rfl)
theorem dX1_stock_31 : decode cX1_stock 31 = .ok (.ldc 161, 2) := dk_18 161 (dk_at dksX1_stock_1 8 rfl rfl)
theorem dX1_stock_33 : decode cX1_stock 33 = .ok (.iload_n 1, 1) := dk_27 (dk_at dksX1_stock_1 10 rfl rfl)
theorem dX1_stock_34 : decode cX1_stock 34 = .ok (.iload_n 2, 1) := dk_28 (dk_at dksX1_stock_1 11 rfl rfl)
theorem dX1_stock_35 : decode cX1_stock 35 = .ok (.iload_n 3, 1) := dk_29 (dk_at dksX1_stock_1 12 rfl rfl)
theorem dX1_stock_36 : decode cX1_stock 36 = .ok (.invokevirtual 163, 3) := dk_182 0 163 (dk_at dksX1_stock_1 13 rfl rfl)
theorem dX1_stock_39 : decode cX1_stock 39 = .ok (.ireturn, 1) := dk_172 (dk_at dksX1_stock_1 16 rfl rfl)
abbrev cX1_changed : ByteArray := prog_1_method_12_code
def yX1_changed : MethodName := ⟨RX1, "changed", "(Ljava/lang/String;III)I"⟩
def dkwX1_changed_1 : List UInt8 := [25, 5, 182, 0, 102, 182, 0, 106, 172, 58, 6, 42, 25, 6, 182, 0, 110, 191]
abbrev dktX1_changed_1 : List UInt8 := dkwX1_changed_1 ++ []
def dkwX1_changed_0 : List UInt8 := [42, 180, 0, 30, 182, 0, 94, 58, 5, 42, 25, 5, 187, 0, 97, 89, 43, 28, 29, 21, 4, 183, 0, 99]
abbrev dktX1_changed_0 : List UInt8 := dkwX1_changed_0 ++ dktX1_changed_1
theorem dksX1_changed_0 : cX1_changed.data.toList.drop 0 = dktX1_changed_0 := by decide +kernel
theorem dksX1_changed_1 : cX1_changed.data.toList.drop 24 = dktX1_changed_1 := dk_seg dksX1_changed_0 24 rfl rfl
theorem dX1_changed_0 : decode cX1_changed 0 = .ok (.aload_n 0, 1) := dk_42 (dk_at dksX1_changed_0 0 rfl rfl)
theorem dX1_changed_1 : decode cX1_changed 1 = .ok (.getfield 30, 3) := dk_180 0 30 (dk_at dksX1_changed_0 1 rfl rfl)
theorem dX1_changed_4 : decode cX1_changed 4 = .ok (.invokevirtual 94, 3) := dk_182 0 94 (dk_at dksX1_changed_0 4 rfl rfl)
theorem dX1_changed_7 : decode cX1_changed 7 = .ok (.astore 5, 2) := dk_58 5 (dk_at dksX1_changed_0 7 rfl rfl)
theorem dX1_changed_9 : decode cX1_changed 9 = .ok (.aload_n 0, 1) := dk_42 (dk_at dksX1_changed_0 9 rfl rfl)
theorem dX1_changed_10 : decode cX1_changed 10 = .ok (.aload 5, 2) := dk_25 5 (dk_at dksX1_changed_0 10 rfl rfl)
theorem dX1_changed_12 : decode cX1_changed 12 = .ok (.new 97, 3) := dk_187 0 97 (dk_at dksX1_changed_0 12 rfl rfl)
theorem dX1_changed_15 : decode cX1_changed 15 = .ok (.dup, 1) := dk_89 (dk_at dksX1_changed_0 15 rfl rfl)
theorem dX1_changed_16 : decode cX1_changed 16 = .ok (.aload_n 1, 1) := dk_43 (dk_at dksX1_changed_0 16 rfl rfl)
theorem dX1_changed_17 : decode cX1_changed 17 = .ok (.iload_n 2, 1) := dk_28 (dk_at dksX1_changed_0 17 rfl rfl)
theorem dX1_changed_18 : decode cX1_changed 18 = .ok (.iload_n 3, 1) := dk_29 (dk_at dksX1_changed_0 18 rfl rfl)
theorem dX1_changed_19 : decode cX1_changed 19 = .ok (.iload 4, 2) := dk_21 4 (dk_at dksX1_changed_0 19 rfl rfl)
theorem dX1_changed_21 : decode cX1_changed 21 = .ok (.invokespecial 99, 3) := dk_183 0 99 (dk_at dksX1_changed_0 21 rfl rfl)
theorem dX1_changed_24 : decode cX1_changed 24 = .ok (.aload 5, 2) := dk_25 5 (dk_at dksX1_changed_1 0 rfl rfl)
theorem dX1_changed_26 : decode cX1_changed 26 = .ok (.invokevirtual 102, 3) := dk_182 0 102 (dk_at dksX1_changed_1 2 rfl rfl)
theorem dX1_changed_29 : decode cX1_changed 29 = .ok (.invokevirtual 106, 3) := dk_182 0 106 (dk_at dksX1_changed_1 5 rfl rfl)
theorem dX1_changed_32 : decode cX1_changed 32 = .ok (.ireturn, 1) := dk_172 (dk_at dksX1_changed_1 8 rfl rfl)
theorem dX1_changed_33 : decode cX1_changed 33 = .ok (.astore 6, 2) := dk_58 6 (dk_at dksX1_changed_1 9 rfl rfl)
theorem dX1_changed_35 : decode cX1_changed 35 = .ok (.aload_n 0, 1) := dk_42 (dk_at dksX1_changed_1 11 rfl rfl)
theorem dX1_changed_36 : decode cX1_changed 36 = .ok (.aload 6, 2) := dk_25 6 (dk_at dksX1_changed_1 12 rfl rfl)
theorem dX1_changed_38 : decode cX1_changed 38 = .ok (.invokevirtual 110, 3) := dk_182 0 110 (dk_at dksX1_changed_1 14 rfl rfl)
theorem dX1_changed_41 : decode cX1_changed 41 = .ok (.athrow, 1) := dk_191 (dk_at dksX1_changed_1 17 rfl rfl)
abbrev cX1_meet : ByteArray := prog_1_method_1_code
def yX1_meet : MethodName := ⟨RX1, "meet", "(ZII)V"⟩
def dkwX1_meet_0 : List UInt8 := [26, 154, 0, 13, 187, 0, 1, 89, 27, 28, 183, 0, 3, 191, 177]
abbrev dktX1_meet_0 : List UInt8 := dkwX1_meet_0 ++ []
theorem dksX1_meet_0 : cX1_meet.data.toList.drop 0 = dktX1_meet_0 := by decide +kernel
theorem dX1_meet_0 : decode cX1_meet 0 = .ok (.iload_n 0, 1) := dk_26 (dk_at dksX1_meet_0 0 rfl rfl)
theorem dX1_meet_1 : decode cX1_meet 1 = .ok (.ifCond .ne 13, 3) := dk_154 0 13 (dk_at dksX1_meet_0 1 rfl rfl)
theorem dX1_meet_4 : decode cX1_meet 4 = .ok (.new 1, 3) := dk_187 0 1 (dk_at dksX1_meet_0 4 rfl rfl)
theorem dX1_meet_7 : decode cX1_meet 7 = .ok (.dup, 1) := dk_89 (dk_at dksX1_meet_0 7 rfl rfl)
theorem dX1_meet_8 : decode cX1_meet 8 = .ok (.iload_n 1, 1) := dk_27 (dk_at dksX1_meet_0 8 rfl rfl)
theorem dX1_meet_9 : decode cX1_meet 9 = .ok (.iload_n 2, 1) := dk_28 (dk_at dksX1_meet_0 9 rfl rfl)
theorem dX1_meet_10 : decode cX1_meet 10 = .ok (.invokespecial 3, 3) := dk_183 0 3 (dk_at dksX1_meet_0 10 rfl rfl)
theorem dX1_meet_13 : decode cX1_meet 13 = .ok (.athrow, 1) := dk_191 (dk_at dksX1_meet_0 13 rfl rfl)
theorem dX1_meet_14 : decode cX1_meet 14 = .ok (.return_, 1) := dk_177 (dk_at dksX1_meet_0 14 rfl rfl)
abbrev cX1_held : ByteArray := prog_1_method_3_code
def yX1_held : MethodName := ⟨RX1, "held", "(I)I"⟩
def dkwX1_held_0 : List UInt8 := [17, 3, 231, 26, 184, 0, 9, 172]
abbrev dktX1_held_0 : List UInt8 := dkwX1_held_0 ++ []
theorem dksX1_held_0 : cX1_held.data.toList.drop 0 = dktX1_held_0 := by decide +kernel
theorem dX1_held_0 : decode cX1_held 0 = .ok (.sipush 999, 3) := dk_17 3 231 (dk_at dksX1_held_0 0 rfl rfl)
theorem dX1_held_3 : decode cX1_held 3 = .ok (.iload_n 0, 1) := dk_26 (dk_at dksX1_held_0 3 rfl rfl)
theorem dX1_held_4 : decode cX1_held 4 = .ok (.invokestatic 9, 3) := dk_184 0 9 (dk_at dksX1_held_0 4 rfl rfl)
theorem dX1_held_7 : decode cX1_held 7 = .ok (.ireturn, 1) := dk_172 (dk_at dksX1_held_0 7 rfl rfl)
abbrev cX1_become : ByteArray := prog_1_method_10_code
def yX1_become : MethodName := ⟨RX1, "become", "(LWhelkFleet$Fleet;I)I"⟩
def dkwX1_become_1 : List UInt8 := [42, 180, 0, 30, 182, 0, 78, 42, 43, 181, 0, 30, 28, 172]
abbrev dktX1_become_1 : List UInt8 := dkwX1_become_1 ++ []
def dkwX1_become_0 : List UInt8 := [42, 180, 0, 37, 182, 0, 70, 16, 8, 160, 0, 11, 42, 180, 0, 37, 182, 0, 74, 87, 42, 180, 0, 37]
abbrev dktX1_become_0 : List UInt8 := dkwX1_become_0 ++ dktX1_become_1
theorem dksX1_become_0 : cX1_become.data.toList.drop 0 = dktX1_become_0 := by decide +kernel
theorem dksX1_become_1 : cX1_become.data.toList.drop 24 = dktX1_become_1 := dk_seg dksX1_become_0 24 rfl rfl
theorem dX1_become_0 : decode cX1_become 0 = .ok (.aload_n 0, 1) := dk_42 (dk_at dksX1_become_0 0 rfl rfl)
theorem dX1_become_1 : decode cX1_become 1 = .ok (.getfield 37, 3) := dk_180 0 37 (dk_at dksX1_become_0 1 rfl rfl)
theorem dX1_become_4 : decode cX1_become 4 = .ok (.invokevirtual 70, 3) := dk_182 0 70 (dk_at dksX1_become_0 4 rfl rfl)
theorem dX1_become_7 : decode cX1_become 7 = .ok (.bipush 8, 2) := dk_16 8 (dk_at dksX1_become_0 7 rfl rfl)
theorem dX1_become_9 : decode cX1_become 9 = .ok (.if_icmp .ne 11, 3) := dk_160 0 11 (dk_at dksX1_become_0 9 rfl rfl)
theorem dX1_become_12 : decode cX1_become 12 = .ok (.aload_n 0, 1) := dk_42 (dk_at dksX1_become_0 12 rfl rfl)
theorem dX1_become_13 : decode cX1_become 13 = .ok (.getfield 37, 3) := dk_180 0 37 (dk_at dksX1_become_0 13 rfl rfl)
theorem dX1_become_16 : decode cX1_become 16 = .ok (.invokevirtual 74, 3) := dk_182 0 74 (dk_at dksX1_become_0 16 rfl rfl)
theorem dX1_become_19 : decode cX1_become 19 = .ok (.pop, 1) := dk_87 (dk_at dksX1_become_0 19 rfl rfl)
theorem dX1_become_20 : decode cX1_become 20 = .ok (.aload_n 0, 1) := dk_42 (dk_at dksX1_become_0 20 rfl rfl)
theorem dX1_become_21 : decode cX1_become 21 = .ok (.getfield 37, 3) := dk_180 0 37 (dk_at dksX1_become_0 21 rfl rfl)
theorem dX1_become_24 : decode cX1_become 24 = .ok (.aload_n 0, 1) := dk_42 (dk_at dksX1_become_1 0 rfl rfl)
theorem dX1_become_25 : decode cX1_become 25 = .ok (.getfield 30, 3) := dk_180 0 30 (dk_at dksX1_become_1 1 rfl rfl)
theorem dX1_become_28 : decode cX1_become 28 = .ok (.invokevirtual 78, 3) := dk_182 0 78 (dk_at dksX1_become_1 4 rfl rfl)
theorem dX1_become_31 : decode cX1_become 31 = .ok (.aload_n 0, 1) := dk_42 (dk_at dksX1_become_1 7 rfl rfl)
theorem dX1_become_32 : decode cX1_become 32 = .ok (.aload_n 1, 1) := dk_43 (dk_at dksX1_become_1 8 rfl rfl)
theorem dX1_become_33 : decode cX1_become 33 = .ok (.putfield 30, 3) := dk_181 0 30 (dk_at dksX1_become_1 9 rfl rfl)
theorem dX1_become_36 : decode cX1_become 36 = .ok (.iload_n 2, 1) := dk_28 (dk_at dksX1_become_1 12 rfl rfl)
theorem dX1_become_37 : decode cX1_become 37 = .ok (.ireturn, 1) := dk_172 (dk_at dksX1_become_1 13 rfl rfl)
abbrev cX1_outside : ByteArray := prog_1_method_11_code
def yX1_outside : MethodName := ⟨RX1, "outside", "(Ljava/lang/Exception;)Ljava/lang/RuntimeException;"⟩
def dkwX1_outside_2 : List UInt8 := [89, 183, 0, 93, 176]
abbrev dktX1_outside_2 : List UInt8 := dkwX1_outside_2 ++ []
def dkwX1_outside_1 : List UInt8 := [183, 0, 60, 176, 43, 193, 0, 1, 153, 0, 13, 43, 192, 0, 1, 77, 42, 44, 181, 0, 87, 187, 0, 91]
abbrev dktX1_outside_1 : List UInt8 := dkwX1_outside_1 ++ dktX1_outside_2
def dkwX1_outside_0 : List UInt8 := [43, 193, 0, 82, 153, 0, 24, 43, 192, 0, 82, 77, 42, 44, 182, 0, 84, 181, 0, 48, 187, 0, 58, 89]
abbrev dktX1_outside_0 : List UInt8 := dkwX1_outside_0 ++ dktX1_outside_1
theorem dksX1_outside_0 : cX1_outside.data.toList.drop 0 = dktX1_outside_0 := by decide +kernel
theorem dksX1_outside_1 : cX1_outside.data.toList.drop 24 = dktX1_outside_1 := dk_seg dksX1_outside_0 24 rfl rfl
theorem dksX1_outside_2 : cX1_outside.data.toList.drop 48 = dktX1_outside_2 := dk_seg dksX1_outside_1 24 rfl rfl
theorem dX1_outside_0 : decode cX1_outside 0 = .ok (.aload_n 1, 1) := dk_43 (dk_at dksX1_outside_0 0 rfl rfl)
theorem dX1_outside_1 : decode cX1_outside 1 = .ok (.instanceof 82, 3) := dk_193 0 82 (dk_at dksX1_outside_0 1 rfl rfl)
theorem dX1_outside_4 : decode cX1_outside 4 = .ok (.ifCond .eq 24, 3) := dk_153 0 24 (dk_at dksX1_outside_0 4 rfl rfl)
theorem dX1_outside_7 : decode cX1_outside 7 = .ok (.aload_n 1, 1) := dk_43 (dk_at dksX1_outside_0 7 rfl rfl)
theorem dX1_outside_8 : decode cX1_outside 8 = .ok (.checkcast 82, 3) := dk_192 0 82 (dk_at dksX1_outside_0 8 rfl rfl)
theorem dX1_outside_11 : decode cX1_outside 11 = .ok (.astore_n 2, 1) := dk_77 (dk_at dksX1_outside_0 11 rfl rfl)
theorem dX1_outside_12 : decode cX1_outside 12 = .ok (.aload_n 0, 1) := dk_42 (dk_at dksX1_outside_0 12 rfl rfl)
theorem dX1_outside_13 : decode cX1_outside 13 = .ok (.aload_n 2, 1) := dk_44 (dk_at dksX1_outside_0 13 rfl rfl)
theorem dX1_outside_14 : decode cX1_outside 14 = .ok (.invokevirtual 84, 3) := dk_182 0 84 (dk_at dksX1_outside_0 14 rfl rfl)
theorem dX1_outside_17 : decode cX1_outside 17 = .ok (.putfield 48, 3) := dk_181 0 48 (dk_at dksX1_outside_0 17 rfl rfl)
theorem dX1_outside_20 : decode cX1_outside 20 = .ok (.new 58, 3) := dk_187 0 58 (dk_at dksX1_outside_0 20 rfl rfl)
theorem dX1_outside_23 : decode cX1_outside 23 = .ok (.dup, 1) := dk_89 (dk_at dksX1_outside_0 23 rfl rfl)
theorem dX1_outside_24 : decode cX1_outside 24 = .ok (.invokespecial 60, 3) := dk_183 0 60 (dk_at dksX1_outside_1 0 rfl rfl)
theorem dX1_outside_27 : decode cX1_outside 27 = .ok (.areturn, 1) := dk_176 (dk_at dksX1_outside_1 3 rfl rfl)
theorem dX1_outside_28 : decode cX1_outside 28 = .ok (.aload_n 1, 1) := dk_43 (dk_at dksX1_outside_1 4 rfl rfl)
theorem dX1_outside_29 : decode cX1_outside 29 = .ok (.instanceof 1, 3) := dk_193 0 1 (dk_at dksX1_outside_1 5 rfl rfl)
theorem dX1_outside_32 : decode cX1_outside 32 = .ok (.ifCond .eq 13, 3) := dk_153 0 13 (dk_at dksX1_outside_1 8 rfl rfl)
theorem dX1_outside_35 : decode cX1_outside 35 = .ok (.aload_n 1, 1) := dk_43 (dk_at dksX1_outside_1 11 rfl rfl)
theorem dX1_outside_36 : decode cX1_outside 36 = .ok (.checkcast 1, 3) := dk_192 0 1 (dk_at dksX1_outside_1 12 rfl rfl)
theorem dX1_outside_39 : decode cX1_outside 39 = .ok (.astore_n 2, 1) := dk_77 (dk_at dksX1_outside_1 15 rfl rfl)
theorem dX1_outside_40 : decode cX1_outside 40 = .ok (.aload_n 0, 1) := dk_42 (dk_at dksX1_outside_1 16 rfl rfl)
theorem dX1_outside_41 : decode cX1_outside 41 = .ok (.aload_n 2, 1) := dk_44 (dk_at dksX1_outside_1 17 rfl rfl)
theorem dX1_outside_42 : decode cX1_outside 42 = .ok (.putfield 87, 3) := dk_181 0 87 (dk_at dksX1_outside_1 18 rfl rfl)
theorem dX1_outside_45 : decode cX1_outside 45 = .ok (.new 91, 3) := dk_187 0 91 (dk_at dksX1_outside_1 21 rfl rfl)
theorem dX1_outside_48 : decode cX1_outside 48 = .ok (.dup, 1) := dk_89 (dk_at dksX1_outside_2 0 rfl rfl)
theorem dX1_outside_49 : decode cX1_outside 49 = .ok (.invokespecial 93, 3) := dk_183 0 93 (dk_at dksX1_outside_2 1 rfl rfl)
theorem dX1_outside_52 : decode cX1_outside 52 = .ok (.areturn, 1) := dk_176 (dk_at dksX1_outside_2 4 rfl rfl)
abbrev cX1_box : ByteArray := prog_1_method_20_code
def yX1_box : MethodName := ⟨RX1, "box", "(II)I"⟩
def dkwX1_box_1 : List UInt8 := [184, 0, 148, 42, 18, 170, 27, 28, 3, 182, 0, 163, 172]
abbrev dktX1_box_1 : List UInt8 := dkwX1_box_1 ++ []
def dkwX1_box_0 : List UInt8 := [27, 184, 0, 167, 153, 0, 17, 28, 4, 16, 50, 184, 0, 114, 153, 0, 7, 4, 167, 0, 4, 3]
abbrev dktX1_box_0 : List UInt8 := dkwX1_box_0 ++ dktX1_box_1
theorem dksX1_box_0 : cX1_box.data.toList.drop 0 = dktX1_box_0 := by decide +kernel
theorem dksX1_box_1 : cX1_box.data.toList.drop 22 = dktX1_box_1 := dk_seg dksX1_box_0 22 rfl rfl
theorem dX1_box_0 : decode cX1_box 0 = .ok (.iload_n 1, 1) := dk_27 (dk_at dksX1_box_0 0 rfl rfl)
theorem dX1_box_1 : decode cX1_box 1 = .ok (.invokestatic 167, 3) := dk_184 0 167 (dk_at dksX1_box_0 1 rfl rfl)
theorem dX1_box_4 : decode cX1_box 4 = .ok (.ifCond .eq 17, 3) := dk_153 0 17 (dk_at dksX1_box_0 4 rfl rfl)
theorem dX1_box_7 : decode cX1_box 7 = .ok (.iload_n 2, 1) := dk_28 (dk_at dksX1_box_0 7 rfl rfl)
theorem dX1_box_8 : decode cX1_box 8 = .ok (.iconst 1, 1) := dk_4 (dk_at dksX1_box_0 8 rfl rfl)
theorem dX1_box_9 : decode cX1_box 9 = .ok (.bipush 50, 2) := dk_16 50 (dk_at dksX1_box_0 9 rfl rfl)
theorem dX1_box_11 : decode cX1_box 11 = .ok (.invokestatic 114, 3) := dk_184 0 114 (dk_at dksX1_box_0 11 rfl rfl)
theorem dX1_box_14 : decode cX1_box 14 = .ok (.ifCond .eq 7, 3) := dk_153 0 7 (dk_at dksX1_box_0 14 rfl rfl)
theorem dX1_box_17 : decode cX1_box 17 = .ok (.iconst 1, 1) := dk_4 (dk_at dksX1_box_0 17 rfl rfl)
theorem dX1_box_18 : decode cX1_box 18 = .ok (.goto 4, 3) := dk_167 0 4 (dk_at dksX1_box_0 18 rfl rfl)
theorem dX1_box_21 : decode cX1_box 21 = .ok (.iconst 0, 1) := dk_3 (dk_at dksX1_box_0 21 rfl rfl)
theorem dX1_box_22 : decode cX1_box 22 = .ok (.invokestatic 148, 3) := dk_184 0 148 (dk_at dksX1_box_1 0 rfl rfl)
theorem dX1_box_25 : decode cX1_box 25 = .ok (.aload_n 0, 1) := dk_42 (dk_at dksX1_box_1 3 rfl rfl)
theorem dX1_box_26 : decode cX1_box 26 = .ok (.ldc 170, 2) := dk_18 170 (dk_at dksX1_box_1 4 rfl rfl)
theorem dX1_box_28 : decode cX1_box 28 = .ok (.iload_n 1, 1) := dk_27 (dk_at dksX1_box_1 6 rfl rfl)
theorem dX1_box_29 : decode cX1_box 29 = .ok (.iload_n 2, 1) := dk_28 (dk_at dksX1_box_1 7 rfl rfl)
theorem dX1_box_30 : decode cX1_box 30 = .ok (.iconst 0, 1) := dk_3 (dk_at dksX1_box_1 8 rfl rfl)
theorem dX1_box_31 : decode cX1_box 31 = .ok (.invokevirtual 163, 3) := dk_182 0 163 (dk_at dksX1_box_1 9 rfl rfl)
theorem dX1_box_34 : decode cX1_box 34 = .ok (.ireturn, 1) := dk_172 (dk_at dksX1_box_1 12 rfl rfl)
abbrev cX1_isBait : ByteArray := prog_1_method_17_code
def yX1_isBait : MethodName := ⟨RX1, "isBait", "(I)Z"⟩
def dkwX1_isBait_0 : List UInt8 := [26, 3, 5, 184, 0, 114, 172]
abbrev dktX1_isBait_0 : List UInt8 := dkwX1_isBait_0 ++ []
theorem dksX1_isBait_0 : cX1_isBait.data.toList.drop 0 = dktX1_isBait_0 := by decide +kernel
theorem dX1_isBait_0 : decode cX1_isBait 0 = .ok (.iload_n 0, 1) := dk_26 (dk_at dksX1_isBait_0 0 rfl rfl)
theorem dX1_isBait_1 : decode cX1_isBait 1 = .ok (.iconst 0, 1) := dk_3 (dk_at dksX1_isBait_0 1 rfl rfl)
theorem dX1_isBait_2 : decode cX1_isBait 2 = .ok (.iconst 2, 1) := dk_5 (dk_at dksX1_isBait_0 2 rfl rfl)
theorem dX1_isBait_3 : decode cX1_isBait 3 = .ok (.invokestatic 114, 3) := dk_184 0 114 (dk_at dksX1_isBait_0 3 rfl rfl)
theorem dX1_isBait_6 : decode cX1_isBait 6 = .ok (.ireturn, 1) := dk_172 (dk_at dksX1_isBait_0 6 rfl rfl)
abbrev cX1_bait : ByteArray := prog_1_method_21_code
def yX1_bait : MethodName := ⟨RX1, "bait", "(I)I"⟩
def dkwX1_bait_0 : List UInt8 := [27, 184, 0, 167, 184, 0, 148, 42, 180, 0, 30, 27, 182, 0, 172, 172]
abbrev dktX1_bait_0 : List UInt8 := dkwX1_bait_0 ++ []
theorem dksX1_bait_0 : cX1_bait.data.toList.drop 0 = dktX1_bait_0 := by decide +kernel
theorem dX1_bait_0 : decode cX1_bait 0 = .ok (.iload_n 1, 1) := dk_27 (dk_at dksX1_bait_0 0 rfl rfl)
theorem dX1_bait_1 : decode cX1_bait 1 = .ok (.invokestatic 167, 3) := dk_184 0 167 (dk_at dksX1_bait_0 1 rfl rfl)
theorem dX1_bait_4 : decode cX1_bait 4 = .ok (.invokestatic 148, 3) := dk_184 0 148 (dk_at dksX1_bait_0 4 rfl rfl)
theorem dX1_bait_7 : decode cX1_bait 7 = .ok (.aload_n 0, 1) := dk_42 (dk_at dksX1_bait_0 7 rfl rfl)
theorem dX1_bait_8 : decode cX1_bait 8 = .ok (.getfield 30, 3) := dk_180 0 30 (dk_at dksX1_bait_0 8 rfl rfl)
theorem dX1_bait_11 : decode cX1_bait 11 = .ok (.iload_n 1, 1) := dk_27 (dk_at dksX1_bait_0 11 rfl rfl)
theorem dX1_bait_12 : decode cX1_bait 12 = .ok (.invokevirtual 172, 3) := dk_182 0 172 (dk_at dksX1_bait_0 12 rfl rfl)
theorem dX1_bait_15 : decode cX1_bait 15 = .ok (.ireturn, 1) := dk_172 (dk_at dksX1_bait_0 15 rfl rfl)
abbrev cX1_draws : ByteArray := prog_1_method_22_code
def yX1_draws : MethodName := ⟨RX1, "draws", "(II)I"⟩
def dkwX1_draws_1 : List UInt8 := [184, 0, 148, 27, 184, 0, 174, 28, 182, 0, 180, 172]
abbrev dktX1_draws_1 : List UInt8 := dkwX1_draws_1 ++ []
def dkwX1_draws_0 : List UInt8 := [27, 184, 0, 167, 153, 0, 17, 28, 3, 16, 60, 184, 0, 114, 153, 0, 7, 4, 167, 0, 4, 3]
abbrev dktX1_draws_0 : List UInt8 := dkwX1_draws_0 ++ dktX1_draws_1
theorem dksX1_draws_0 : cX1_draws.data.toList.drop 0 = dktX1_draws_0 := by decide +kernel
theorem dksX1_draws_1 : cX1_draws.data.toList.drop 22 = dktX1_draws_1 := dk_seg dksX1_draws_0 22 rfl rfl
theorem dX1_draws_0 : decode cX1_draws 0 = .ok (.iload_n 1, 1) := dk_27 (dk_at dksX1_draws_0 0 rfl rfl)
theorem dX1_draws_1 : decode cX1_draws 1 = .ok (.invokestatic 167, 3) := dk_184 0 167 (dk_at dksX1_draws_0 1 rfl rfl)
theorem dX1_draws_4 : decode cX1_draws 4 = .ok (.ifCond .eq 17, 3) := dk_153 0 17 (dk_at dksX1_draws_0 4 rfl rfl)
theorem dX1_draws_7 : decode cX1_draws 7 = .ok (.iload_n 2, 1) := dk_28 (dk_at dksX1_draws_0 7 rfl rfl)
theorem dX1_draws_8 : decode cX1_draws 8 = .ok (.iconst 0, 1) := dk_3 (dk_at dksX1_draws_0 8 rfl rfl)
theorem dX1_draws_9 : decode cX1_draws 9 = .ok (.bipush 60, 2) := dk_16 60 (dk_at dksX1_draws_0 9 rfl rfl)
theorem dX1_draws_11 : decode cX1_draws 11 = .ok (.invokestatic 114, 3) := dk_184 0 114 (dk_at dksX1_draws_0 11 rfl rfl)
theorem dX1_draws_14 : decode cX1_draws 14 = .ok (.ifCond .eq 7, 3) := dk_153 0 7 (dk_at dksX1_draws_0 14 rfl rfl)
theorem dX1_draws_17 : decode cX1_draws 17 = .ok (.iconst 1, 1) := dk_4 (dk_at dksX1_draws_0 17 rfl rfl)
theorem dX1_draws_18 : decode cX1_draws 18 = .ok (.goto 4, 3) := dk_167 0 4 (dk_at dksX1_draws_0 18 rfl rfl)
theorem dX1_draws_21 : decode cX1_draws 21 = .ok (.iconst 0, 1) := dk_3 (dk_at dksX1_draws_0 21 rfl rfl)
theorem dX1_draws_22 : decode cX1_draws 22 = .ok (.invokestatic 148, 3) := dk_184 0 148 (dk_at dksX1_draws_1 0 rfl rfl)
theorem dX1_draws_25 : decode cX1_draws 25 = .ok (.iload_n 1, 1) := dk_27 (dk_at dksX1_draws_1 3 rfl rfl)
theorem dX1_draws_26 : decode cX1_draws 26 = .ok (.invokestatic 174, 3) := dk_184 0 174 (dk_at dksX1_draws_1 4 rfl rfl)
theorem dX1_draws_29 : decode cX1_draws 29 = .ok (.iload_n 2, 1) := dk_28 (dk_at dksX1_draws_1 7 rfl rfl)
theorem dX1_draws_30 : decode cX1_draws 30 = .ok (.invokevirtual 180, 3) := dk_182 0 180 (dk_at dksX1_draws_1 8 rfl rfl)
theorem dX1_draws_33 : decode cX1_draws 33 = .ok (.ireturn, 1) := dk_172 (dk_at dksX1_draws_1 11 rfl rfl)
abbrev cX1_bestBait : ByteArray := prog_1_method_23_code
def yX1_bestBait : MethodName := ⟨RX1, "bestBait", "(I)I"⟩
def dkwX1_bestBait_2 : List UInt8 := [167, 255, 223, 28, 172]
abbrev dktX1_bestBait_2 : List UInt8 := dkwX1_bestBait_2 ++ []
def dkwX1_bestBait_1 : List UInt8 := [182, 0, 180, 28, 184, 0, 174, 27, 182, 0, 180, 164, 0, 7, 29, 167, 0, 4, 28, 61, 132, 3, 1]
abbrev dktX1_bestBait_1 : List UInt8 := dkwX1_bestBait_1 ++ dktX1_bestBait_2
def dkwX1_bestBait_0 : List UInt8 := [27, 3, 16, 60, 184, 0, 114, 184, 0, 148, 3, 61, 4, 62, 29, 6, 162, 0, 34, 29, 184, 0, 174, 27]
abbrev dktX1_bestBait_0 : List UInt8 := dkwX1_bestBait_0 ++ dktX1_bestBait_1
theorem dksX1_bestBait_0 : cX1_bestBait.data.toList.drop 0 = dktX1_bestBait_0 := by decide +kernel
theorem dksX1_bestBait_1 : cX1_bestBait.data.toList.drop 24 = dktX1_bestBait_1 := dk_seg dksX1_bestBait_0 24 rfl rfl
theorem dksX1_bestBait_2 : cX1_bestBait.data.toList.drop 47 = dktX1_bestBait_2 := dk_seg dksX1_bestBait_1 23 rfl rfl
theorem dX1_bestBait_0 : decode cX1_bestBait 0 = .ok (.iload_n 1, 1) := dk_27 (dk_at dksX1_bestBait_0 0 rfl rfl)
theorem dX1_bestBait_1 : decode cX1_bestBait 1 = .ok (.iconst 0, 1) := dk_3 (dk_at dksX1_bestBait_0 1 rfl rfl)
theorem dX1_bestBait_2 : decode cX1_bestBait 2 = .ok (.bipush 60, 2) := dk_16 60 (dk_at dksX1_bestBait_0 2 rfl rfl)
theorem dX1_bestBait_4 : decode cX1_bestBait 4 = .ok (.invokestatic 114, 3) := dk_184 0 114 (dk_at dksX1_bestBait_0 4 rfl rfl)
theorem dX1_bestBait_7 : decode cX1_bestBait 7 = .ok (.invokestatic 148, 3) := dk_184 0 148 (dk_at dksX1_bestBait_0 7 rfl rfl)
theorem dX1_bestBait_10 : decode cX1_bestBait 10 = .ok (.iconst 0, 1) := dk_3 (dk_at dksX1_bestBait_0 10 rfl rfl)
theorem dX1_bestBait_11 : decode cX1_bestBait 11 = .ok (.istore_n 2, 1) := dk_61 (dk_at dksX1_bestBait_0 11 rfl rfl)
theorem dX1_bestBait_12 : decode cX1_bestBait 12 = .ok (.iconst 1, 1) := dk_4 (dk_at dksX1_bestBait_0 12 rfl rfl)
theorem dX1_bestBait_13 : decode cX1_bestBait 13 = .ok (.istore_n 3, 1) := dk_62 (dk_at dksX1_bestBait_0 13 rfl rfl)
theorem dX1_bestBait_14 : decode cX1_bestBait 14 = .ok (.iload_n 3, 1) := dk_29 (dk_at dksX1_bestBait_0 14 rfl rfl)
theorem dX1_bestBait_15 : decode cX1_bestBait 15 = .ok (.iconst 3, 1) := dk_6 (dk_at dksX1_bestBait_0 15 rfl rfl)
theorem dX1_bestBait_16 : decode cX1_bestBait 16 = .ok (.if_icmp .ge 34, 3) := dk_162 0 34 (dk_at dksX1_bestBait_0 16 rfl rfl)
theorem dX1_bestBait_19 : decode cX1_bestBait 19 = .ok (.iload_n 3, 1) := dk_29 (dk_at dksX1_bestBait_0 19 rfl rfl)
theorem dX1_bestBait_20 : decode cX1_bestBait 20 = .ok (.invokestatic 174, 3) := dk_184 0 174 (dk_at dksX1_bestBait_0 20 rfl rfl)
theorem dX1_bestBait_23 : decode cX1_bestBait 23 = .ok (.iload_n 1, 1) := dk_27 (dk_at dksX1_bestBait_0 23 rfl rfl)
theorem dX1_bestBait_24 : decode cX1_bestBait 24 = .ok (.invokevirtual 180, 3) := dk_182 0 180 (dk_at dksX1_bestBait_1 0 rfl rfl)
theorem dX1_bestBait_27 : decode cX1_bestBait 27 = .ok (.iload_n 2, 1) := dk_28 (dk_at dksX1_bestBait_1 3 rfl rfl)
theorem dX1_bestBait_28 : decode cX1_bestBait 28 = .ok (.invokestatic 174, 3) := dk_184 0 174 (dk_at dksX1_bestBait_1 4 rfl rfl)
theorem dX1_bestBait_31 : decode cX1_bestBait 31 = .ok (.iload_n 1, 1) := dk_27 (dk_at dksX1_bestBait_1 7 rfl rfl)
theorem dX1_bestBait_32 : decode cX1_bestBait 32 = .ok (.invokevirtual 180, 3) := dk_182 0 180 (dk_at dksX1_bestBait_1 8 rfl rfl)
theorem dX1_bestBait_35 : decode cX1_bestBait 35 = .ok (.if_icmp .le 7, 3) := dk_164 0 7 (dk_at dksX1_bestBait_1 11 rfl rfl)
theorem dX1_bestBait_38 : decode cX1_bestBait 38 = .ok (.iload_n 3, 1) := dk_29 (dk_at dksX1_bestBait_1 14 rfl rfl)
theorem dX1_bestBait_39 : decode cX1_bestBait 39 = .ok (.goto 4, 3) := dk_167 0 4 (dk_at dksX1_bestBait_1 15 rfl rfl)
theorem dX1_bestBait_42 : decode cX1_bestBait 42 = .ok (.iload_n 2, 1) := dk_28 (dk_at dksX1_bestBait_1 18 rfl rfl)
theorem dX1_bestBait_43 : decode cX1_bestBait 43 = .ok (.istore_n 2, 1) := dk_61 (dk_at dksX1_bestBait_1 19 rfl rfl)
theorem dX1_bestBait_44 : decode cX1_bestBait 44 = .ok (.iinc 3 1, 3) := dk_132 3 1 (dk_at dksX1_bestBait_1 20 rfl rfl)
theorem dX1_bestBait_47 : decode cX1_bestBait 47 = .ok (.goto (-33), 3) := dk_167 255 223 (dk_at dksX1_bestBait_2 0 rfl rfl)
theorem dX1_bestBait_50 : decode cX1_bestBait 50 = .ok (.iload_n 2, 1) := dk_28 (dk_at dksX1_bestBait_2 3 rfl rfl)
theorem dX1_bestBait_51 : decode cX1_bestBait 51 = .ok (.ireturn, 1) := dk_172 (dk_at dksX1_bestBait_2 4 rfl rfl)
abbrev cX1_boat : ByteArray := prog_1_method_24_code
def yX1_boat : MethodName := ⟨RX1, "boat", "(I)I"⟩
def dkwX1_boat_0 : List UInt8 := [27, 4, 16, 9, 184, 0, 114, 184, 0, 148, 42, 18, 183, 27, 3, 3, 182, 0, 163, 172]
abbrev dktX1_boat_0 : List UInt8 := dkwX1_boat_0 ++ []
theorem dksX1_boat_0 : cX1_boat.data.toList.drop 0 = dktX1_boat_0 := by decide +kernel
theorem dX1_boat_0 : decode cX1_boat 0 = .ok (.iload_n 1, 1) := dk_27 (dk_at dksX1_boat_0 0 rfl rfl)
theorem dX1_boat_1 : decode cX1_boat 1 = .ok (.iconst 1, 1) := dk_4 (dk_at dksX1_boat_0 1 rfl rfl)
theorem dX1_boat_2 : decode cX1_boat 2 = .ok (.bipush 9, 2) := dk_16 9 (dk_at dksX1_boat_0 2 rfl rfl)
theorem dX1_boat_4 : decode cX1_boat 4 = .ok (.invokestatic 114, 3) := dk_184 0 114 (dk_at dksX1_boat_0 4 rfl rfl)
theorem dX1_boat_7 : decode cX1_boat 7 = .ok (.invokestatic 148, 3) := dk_184 0 148 (dk_at dksX1_boat_0 7 rfl rfl)
theorem dX1_boat_10 : decode cX1_boat 10 = .ok (.aload_n 0, 1) := dk_42 (dk_at dksX1_boat_0 10 rfl rfl)
theorem dX1_boat_11 : decode cX1_boat 11 = .ok (.ldc 183, 2) := dk_18 183 (dk_at dksX1_boat_0 11 rfl rfl)
theorem dX1_boat_13 : decode cX1_boat 13 = .ok (.iload_n 1, 1) := dk_27 (dk_at dksX1_boat_0 13 rfl rfl)
theorem dX1_boat_14 : decode cX1_boat 14 = .ok (.iconst 0, 1) := dk_3 (dk_at dksX1_boat_0 14 rfl rfl)
theorem dX1_boat_15 : decode cX1_boat 15 = .ok (.iconst 0, 1) := dk_3 (dk_at dksX1_boat_0 15 rfl rfl)
theorem dX1_boat_16 : decode cX1_boat 16 = .ok (.invokevirtual 163, 3) := dk_182 0 163 (dk_at dksX1_boat_0 16 rfl rfl)
theorem dX1_boat_19 : decode cX1_boat 19 = .ok (.ireturn, 1) := dk_172 (dk_at dksX1_boat_0 19 rfl rfl)
abbrev cX1_string : ByteArray := prog_1_method_25_code
def yX1_string : MethodName := ⟨RX1, "string", "(I)I"⟩
def dkwX1_string_0 : List UInt8 := [27, 7, 16, 40, 184, 0, 114, 184, 0, 148, 42, 18, 184, 27, 3, 3, 182, 0, 163, 172]
abbrev dktX1_string_0 : List UInt8 := dkwX1_string_0 ++ []
theorem dksX1_string_0 : cX1_string.data.toList.drop 0 = dktX1_string_0 := by decide +kernel
theorem dX1_string_0 : decode cX1_string 0 = .ok (.iload_n 1, 1) := dk_27 (dk_at dksX1_string_0 0 rfl rfl)
theorem dX1_string_1 : decode cX1_string 1 = .ok (.iconst 4, 1) := dk_7 (dk_at dksX1_string_0 1 rfl rfl)
theorem dX1_string_2 : decode cX1_string 2 = .ok (.bipush 40, 2) := dk_16 40 (dk_at dksX1_string_0 2 rfl rfl)
theorem dX1_string_4 : decode cX1_string 4 = .ok (.invokestatic 114, 3) := dk_184 0 114 (dk_at dksX1_string_0 4 rfl rfl)
theorem dX1_string_7 : decode cX1_string 7 = .ok (.invokestatic 148, 3) := dk_184 0 148 (dk_at dksX1_string_0 7 rfl rfl)
theorem dX1_string_10 : decode cX1_string 10 = .ok (.aload_n 0, 1) := dk_42 (dk_at dksX1_string_0 10 rfl rfl)
theorem dX1_string_11 : decode cX1_string 11 = .ok (.ldc 184, 2) := dk_18 184 (dk_at dksX1_string_0 11 rfl rfl)
theorem dX1_string_13 : decode cX1_string 13 = .ok (.iload_n 1, 1) := dk_27 (dk_at dksX1_string_0 13 rfl rfl)
theorem dX1_string_14 : decode cX1_string 14 = .ok (.iconst 0, 1) := dk_3 (dk_at dksX1_string_0 14 rfl rfl)
theorem dX1_string_15 : decode cX1_string 15 = .ok (.iconst 0, 1) := dk_3 (dk_at dksX1_string_0 15 rfl rfl)
theorem dX1_string_16 : decode cX1_string 16 = .ok (.invokevirtual 163, 3) := dk_182 0 163 (dk_at dksX1_string_0 16 rfl rfl)
theorem dX1_string_19 : decode cX1_string 19 = .ok (.ireturn, 1) := dk_172 (dk_at dksX1_string_0 19 rfl rfl)
abbrev cX1_boatOf : ByteArray := prog_1_method_26_code
def yX1_boatOf : MethodName := ⟨RX1, "boatOf", "(II)I"⟩
def dkwX1_boatOf_3 : List UInt8 := [172, 45, 182, 0, 208, 172, 45, 182, 0, 211, 172, 45, 182, 0, 214, 172, 187, 0, 58, 89, 183, 0, 60, 191]
abbrev dktX1_boatOf_3 : List UInt8 := dkwX1_boatOf_3 ++ []
def dkwX1_boatOf_2 : List UInt8 := [45, 182, 0, 188, 172, 45, 182, 0, 193, 185, 0, 197, 1, 0, 172, 45, 182, 0, 202, 172, 45, 182, 0, 205]
abbrev dktX1_boatOf_2 : List UInt8 := dkwX1_boatOf_2 ++ dktX1_boatOf_3
def dkwX1_boatOf_1 : List UInt8 := [170, 0, 0, 0, 81, 0, 0, 0, 0, 0, 0, 0, 6, 0, 0, 0, 41, 0, 0, 0, 46, 0, 0, 0, 56, 0, 0, 0, 61, 0, 0, 0, 66, 0, 0, 0, 71, 0, 0, 0, 76]
abbrev dktX1_boatOf_1 : List UInt8 := dkwX1_boatOf_1 ++ dktX1_boatOf_2
def dkwX1_boatOf_0 : List UInt8 := [42, 27, 182, 0, 185, 78, 28]
abbrev dktX1_boatOf_0 : List UInt8 := dkwX1_boatOf_0 ++ dktX1_boatOf_1
theorem dksX1_boatOf_0 : cX1_boatOf.data.toList.drop 0 = dktX1_boatOf_0 := by decide +kernel
theorem dksX1_boatOf_1 : cX1_boatOf.data.toList.drop 7 = dktX1_boatOf_1 := dk_seg dksX1_boatOf_0 7 rfl rfl
theorem dksX1_boatOf_2 : cX1_boatOf.data.toList.drop 48 = dktX1_boatOf_2 := dk_seg dksX1_boatOf_1 41 rfl rfl
theorem dksX1_boatOf_3 : cX1_boatOf.data.toList.drop 72 = dktX1_boatOf_3 := dk_seg dksX1_boatOf_2 24 rfl rfl
theorem dX1_boatOf_0 : decode cX1_boatOf 0 = .ok (.aload_n 0, 1) := dk_42 (dk_at dksX1_boatOf_0 0 rfl rfl)
theorem dX1_boatOf_1 : decode cX1_boatOf 1 = .ok (.iload_n 1, 1) := dk_27 (dk_at dksX1_boatOf_0 1 rfl rfl)
theorem dX1_boatOf_2 : decode cX1_boatOf 2 = .ok (.invokevirtual 185, 3) := dk_182 0 185 (dk_at dksX1_boatOf_0 2 rfl rfl)
theorem dX1_boatOf_5 : decode cX1_boatOf 5 = .ok (.astore_n 3, 1) := dk_78 (dk_at dksX1_boatOf_0 5 rfl rfl)
theorem dX1_boatOf_6 : decode cX1_boatOf 6 = .ok (.iload_n 2, 1) := dk_28 (dk_at dksX1_boatOf_0 6 rfl rfl)
theorem dX1_boatOf_7 : decode cX1_boatOf 7 = .ok (.tableswitch 81 0 6 #[41, 46, 56, 61, 66, 71, 76], 41) := by decide +kernel
theorem dX1_boatOf_48 : decode cX1_boatOf 48 = .ok (.aload_n 3, 1) := dk_45 (dk_at dksX1_boatOf_2 0 rfl rfl)
theorem dX1_boatOf_49 : decode cX1_boatOf 49 = .ok (.invokevirtual 188, 3) := dk_182 0 188 (dk_at dksX1_boatOf_2 1 rfl rfl)
theorem dX1_boatOf_52 : decode cX1_boatOf 52 = .ok (.ireturn, 1) := dk_172 (dk_at dksX1_boatOf_2 4 rfl rfl)
theorem dX1_boatOf_53 : decode cX1_boatOf 53 = .ok (.aload_n 3, 1) := dk_45 (dk_at dksX1_boatOf_2 5 rfl rfl)
theorem dX1_boatOf_54 : decode cX1_boatOf 54 = .ok (.invokevirtual 193, 3) := dk_182 0 193 (dk_at dksX1_boatOf_2 6 rfl rfl)
theorem dX1_boatOf_57 : decode cX1_boatOf 57 = .ok (.invokeinterface 197 1, 5) := by decide +kernel
theorem dX1_boatOf_62 : decode cX1_boatOf 62 = .ok (.ireturn, 1) := dk_172 (dk_at dksX1_boatOf_2 14 rfl rfl)
theorem dX1_boatOf_63 : decode cX1_boatOf 63 = .ok (.aload_n 3, 1) := dk_45 (dk_at dksX1_boatOf_2 15 rfl rfl)
theorem dX1_boatOf_64 : decode cX1_boatOf 64 = .ok (.invokevirtual 202, 3) := dk_182 0 202 (dk_at dksX1_boatOf_2 16 rfl rfl)
theorem dX1_boatOf_67 : decode cX1_boatOf 67 = .ok (.ireturn, 1) := dk_172 (dk_at dksX1_boatOf_2 19 rfl rfl)
theorem dX1_boatOf_68 : decode cX1_boatOf 68 = .ok (.aload_n 3, 1) := dk_45 (dk_at dksX1_boatOf_2 20 rfl rfl)
theorem dX1_boatOf_69 : decode cX1_boatOf 69 = .ok (.invokevirtual 205, 3) := dk_182 0 205 (dk_at dksX1_boatOf_2 21 rfl rfl)
theorem dX1_boatOf_72 : decode cX1_boatOf 72 = .ok (.ireturn, 1) := dk_172 (dk_at dksX1_boatOf_3 0 rfl rfl)
theorem dX1_boatOf_73 : decode cX1_boatOf 73 = .ok (.aload_n 3, 1) := dk_45 (dk_at dksX1_boatOf_3 1 rfl rfl)
theorem dX1_boatOf_74 : decode cX1_boatOf 74 = .ok (.invokevirtual 208, 3) := dk_182 0 208 (dk_at dksX1_boatOf_3 2 rfl rfl)
theorem dX1_boatOf_77 : decode cX1_boatOf 77 = .ok (.ireturn, 1) := dk_172 (dk_at dksX1_boatOf_3 5 rfl rfl)
theorem dX1_boatOf_78 : decode cX1_boatOf 78 = .ok (.aload_n 3, 1) := dk_45 (dk_at dksX1_boatOf_3 6 rfl rfl)
theorem dX1_boatOf_79 : decode cX1_boatOf 79 = .ok (.invokevirtual 211, 3) := dk_182 0 211 (dk_at dksX1_boatOf_3 7 rfl rfl)
theorem dX1_boatOf_82 : decode cX1_boatOf 82 = .ok (.ireturn, 1) := dk_172 (dk_at dksX1_boatOf_3 10 rfl rfl)
theorem dX1_boatOf_83 : decode cX1_boatOf 83 = .ok (.aload_n 3, 1) := dk_45 (dk_at dksX1_boatOf_3 11 rfl rfl)
theorem dX1_boatOf_84 : decode cX1_boatOf 84 = .ok (.invokevirtual 214, 3) := dk_182 0 214 (dk_at dksX1_boatOf_3 12 rfl rfl)
theorem dX1_boatOf_87 : decode cX1_boatOf 87 = .ok (.ireturn, 1) := dk_172 (dk_at dksX1_boatOf_3 15 rfl rfl)
theorem dX1_boatOf_88 : decode cX1_boatOf 88 = .ok (.new 58, 3) := dk_187 0 58 (dk_at dksX1_boatOf_3 16 rfl rfl)
theorem dX1_boatOf_91 : decode cX1_boatOf 91 = .ok (.dup, 1) := dk_89 (dk_at dksX1_boatOf_3 19 rfl rfl)
theorem dX1_boatOf_92 : decode cX1_boatOf 92 = .ok (.invokespecial 60, 3) := dk_183 0 60 (dk_at dksX1_boatOf_3 20 rfl rfl)
theorem dX1_boatOf_95 : decode cX1_boatOf 95 = .ok (.athrow, 1) := dk_191 (dk_at dksX1_boatOf_3 23 rfl rfl)
abbrev cX1_boatAt : ByteArray := prog_1_method_14_code
def yX1_boatAt : MethodName := ⟨RX1, "boatAt", "(I)LWhelkFleet$Boat;"⟩
def dkwX1_boatAt_1 : List UInt8 := [180, 0, 30, 27, 182, 0, 129, 176]
abbrev dktX1_boatAt_1 : List UInt8 := dkwX1_boatAt_1 ++ []
def dkwX1_boatAt_0 : List UInt8 := [27, 3, 42, 180, 0, 30, 182, 0, 122, 185, 0, 126, 1, 0, 4, 100, 184, 0, 114, 184, 0, 118, 42]
abbrev dktX1_boatAt_0 : List UInt8 := dkwX1_boatAt_0 ++ dktX1_boatAt_1
theorem dksX1_boatAt_0 : cX1_boatAt.data.toList.drop 0 = dktX1_boatAt_0 := by decide +kernel
theorem dksX1_boatAt_1 : cX1_boatAt.data.toList.drop 23 = dktX1_boatAt_1 := dk_seg dksX1_boatAt_0 23 rfl rfl
theorem dX1_boatAt_0 : decode cX1_boatAt 0 = .ok (.iload_n 1, 1) := dk_27 (dk_at dksX1_boatAt_0 0 rfl rfl)
theorem dX1_boatAt_1 : decode cX1_boatAt 1 = .ok (.iconst 0, 1) := dk_3 (dk_at dksX1_boatAt_0 1 rfl rfl)
theorem dX1_boatAt_2 : decode cX1_boatAt 2 = .ok (.aload_n 0, 1) := dk_42 (dk_at dksX1_boatAt_0 2 rfl rfl)
theorem dX1_boatAt_3 : decode cX1_boatAt 3 = .ok (.getfield 30, 3) := dk_180 0 30 (dk_at dksX1_boatAt_0 3 rfl rfl)
theorem dX1_boatAt_6 : decode cX1_boatAt 6 = .ok (.invokevirtual 122, 3) := dk_182 0 122 (dk_at dksX1_boatAt_0 6 rfl rfl)
theorem dX1_boatAt_9 : decode cX1_boatAt 9 = .ok (.invokeinterface 126 1, 5) := by decide +kernel
theorem dX1_boatAt_14 : decode cX1_boatAt 14 = .ok (.iconst 1, 1) := dk_4 (dk_at dksX1_boatAt_0 14 rfl rfl)
theorem dX1_boatAt_15 : decode cX1_boatAt 15 = .ok (.isub, 1) := dk_100 (dk_at dksX1_boatAt_0 15 rfl rfl)
theorem dX1_boatAt_16 : decode cX1_boatAt 16 = .ok (.invokestatic 114, 3) := dk_184 0 114 (dk_at dksX1_boatAt_0 16 rfl rfl)
theorem dX1_boatAt_19 : decode cX1_boatAt 19 = .ok (.invokestatic 118, 3) := dk_184 0 118 (dk_at dksX1_boatAt_0 19 rfl rfl)
theorem dX1_boatAt_22 : decode cX1_boatAt 22 = .ok (.aload_n 0, 1) := dk_42 (dk_at dksX1_boatAt_0 22 rfl rfl)
theorem dX1_boatAt_23 : decode cX1_boatAt 23 = .ok (.getfield 30, 3) := dk_180 0 30 (dk_at dksX1_boatAt_1 0 rfl rfl)
theorem dX1_boatAt_26 : decode cX1_boatAt 26 = .ok (.iload_n 1, 1) := dk_27 (dk_at dksX1_boatAt_1 3 rfl rfl)
theorem dX1_boatAt_27 : decode cX1_boatAt 27 = .ok (.invokevirtual 129, 3) := dk_182 0 129 (dk_at dksX1_boatAt_1 4 rfl rfl)
theorem dX1_boatAt_30 : decode cX1_boatAt 30 = .ok (.areturn, 1) := dk_176 (dk_at dksX1_boatAt_1 7 rfl rfl)
abbrev cX1_stringOf : ByteArray := prog_1_method_27_code
def yX1_stringOf : MethodName := ⟨RX1, "stringOf", "(II)I"⟩
def dkwX1_stringOf_4 : List UInt8 := [183, 0, 60, 191]
abbrev dktX1_stringOf_4 : List UInt8 := dkwX1_stringOf_4 ++ []
def dkwX1_stringOf_3 : List UInt8 := [180, 0, 30, 182, 0, 229, 182, 0, 232, 172, 45, 182, 0, 235, 172, 45, 182, 0, 238, 172, 187, 0, 58, 89]
abbrev dktX1_stringOf_3 : List UInt8 := dkwX1_stringOf_3 ++ dktX1_stringOf_4
def dkwX1_stringOf_2 : List UInt8 := [45, 182, 0, 220, 172, 45, 182, 0, 225, 185, 0, 197, 1, 0, 172, 45, 182, 0, 226, 172, 45, 42]
abbrev dktX1_stringOf_2 : List UInt8 := dkwX1_stringOf_2 ++ dktX1_stringOf_3
def dkwX1_stringOf_1 : List UInt8 := [170, 0, 0, 0, 79, 0, 0, 0, 0, 0, 0, 0, 5, 0, 0, 0, 37, 0, 0, 0, 42, 0, 0, 0, 52, 0, 0, 0, 57, 0, 0, 0, 69, 0, 0, 0, 74]
abbrev dktX1_stringOf_1 : List UInt8 := dkwX1_stringOf_1 ++ dktX1_stringOf_2
def dkwX1_stringOf_0 : List UInt8 := [42, 27, 182, 0, 217, 78, 28]
abbrev dktX1_stringOf_0 : List UInt8 := dkwX1_stringOf_0 ++ dktX1_stringOf_1
theorem dksX1_stringOf_0 : cX1_stringOf.data.toList.drop 0 = dktX1_stringOf_0 := by decide +kernel
theorem dksX1_stringOf_1 : cX1_stringOf.data.toList.drop 7 = dktX1_stringOf_1 := dk_seg dksX1_stringOf_0 7 rfl rfl
theorem dksX1_stringOf_2 : cX1_stringOf.data.toList.drop 44 = dktX1_stringOf_2 := dk_seg dksX1_stringOf_1 37 rfl rfl
theorem dksX1_stringOf_3 : cX1_stringOf.data.toList.drop 66 = dktX1_stringOf_3 := dk_seg dksX1_stringOf_2 22 rfl rfl
theorem dksX1_stringOf_4 : cX1_stringOf.data.toList.drop 90 = dktX1_stringOf_4 := dk_seg dksX1_stringOf_3 24 rfl rfl
theorem dX1_stringOf_0 : decode cX1_stringOf 0 = .ok (.aload_n 0, 1) := dk_42 (dk_at dksX1_stringOf_0 0 rfl rfl)
theorem dX1_stringOf_1 : decode cX1_stringOf 1 = .ok (.iload_n 1, 1) := dk_27 (dk_at dksX1_stringOf_0 1 rfl rfl)
theorem dX1_stringOf_2 : decode cX1_stringOf 2 = .ok (.invokevirtual 217, 3) := dk_182 0 217 (dk_at dksX1_stringOf_0 2 rfl rfl)
theorem dX1_stringOf_5 : decode cX1_stringOf 5 = .ok (.astore_n 3, 1) := dk_78 (dk_at dksX1_stringOf_0 5 rfl rfl)
theorem dX1_stringOf_6 : decode cX1_stringOf 6 = .ok (.iload_n 2, 1) := dk_28 (dk_at dksX1_stringOf_0 6 rfl rfl)
theorem dX1_stringOf_7 : decode cX1_stringOf 7 = .ok (.tableswitch 79 0 5 #[37, 42, 52, 57, 69, 74], 37) := by decide +kernel
theorem dX1_stringOf_44 : decode cX1_stringOf 44 = .ok (.aload_n 3, 1) := dk_45 (dk_at dksX1_stringOf_2 0 rfl rfl)
theorem dX1_stringOf_45 : decode cX1_stringOf 45 = .ok (.invokevirtual 220, 3) := dk_182 0 220 (dk_at dksX1_stringOf_2 1 rfl rfl)
theorem dX1_stringOf_48 : decode cX1_stringOf 48 = .ok (.ireturn, 1) := dk_172 (dk_at dksX1_stringOf_2 4 rfl rfl)
theorem dX1_stringOf_49 : decode cX1_stringOf 49 = .ok (.aload_n 3, 1) := dk_45 (dk_at dksX1_stringOf_2 5 rfl rfl)
theorem dX1_stringOf_50 : decode cX1_stringOf 50 = .ok (.invokevirtual 225, 3) := dk_182 0 225 (dk_at dksX1_stringOf_2 6 rfl rfl)
theorem dX1_stringOf_53 : decode cX1_stringOf 53 = .ok (.invokeinterface 197 1, 5) := by decide +kernel
theorem dX1_stringOf_58 : decode cX1_stringOf 58 = .ok (.ireturn, 1) := dk_172 (dk_at dksX1_stringOf_2 14 rfl rfl)
theorem dX1_stringOf_59 : decode cX1_stringOf 59 = .ok (.aload_n 3, 1) := dk_45 (dk_at dksX1_stringOf_2 15 rfl rfl)
theorem dX1_stringOf_60 : decode cX1_stringOf 60 = .ok (.invokevirtual 226, 3) := dk_182 0 226 (dk_at dksX1_stringOf_2 16 rfl rfl)
theorem dX1_stringOf_63 : decode cX1_stringOf 63 = .ok (.ireturn, 1) := dk_172 (dk_at dksX1_stringOf_2 19 rfl rfl)
theorem dX1_stringOf_64 : decode cX1_stringOf 64 = .ok (.aload_n 3, 1) := dk_45 (dk_at dksX1_stringOf_2 20 rfl rfl)
theorem dX1_stringOf_65 : decode cX1_stringOf 65 = .ok (.aload_n 0, 1) := dk_42 (dk_at dksX1_stringOf_2 21 rfl rfl)
theorem dX1_stringOf_66 : decode cX1_stringOf 66 = .ok (.getfield 30, 3) := dk_180 0 30 (dk_at dksX1_stringOf_3 0 rfl rfl)
theorem dX1_stringOf_69 : decode cX1_stringOf 69 = .ok (.invokevirtual 229, 3) := dk_182 0 229 (dk_at dksX1_stringOf_3 3 rfl rfl)
theorem dX1_stringOf_72 : decode cX1_stringOf 72 = .ok (.invokevirtual 232, 3) := dk_182 0 232 (dk_at dksX1_stringOf_3 6 rfl rfl)
theorem dX1_stringOf_75 : decode cX1_stringOf 75 = .ok (.ireturn, 1) := dk_172 (dk_at dksX1_stringOf_3 9 rfl rfl)
theorem dX1_stringOf_76 : decode cX1_stringOf 76 = .ok (.aload_n 3, 1) := dk_45 (dk_at dksX1_stringOf_3 10 rfl rfl)
theorem dX1_stringOf_77 : decode cX1_stringOf 77 = .ok (.invokevirtual 235, 3) := dk_182 0 235 (dk_at dksX1_stringOf_3 11 rfl rfl)
theorem dX1_stringOf_80 : decode cX1_stringOf 80 = .ok (.ireturn, 1) := dk_172 (dk_at dksX1_stringOf_3 14 rfl rfl)
theorem dX1_stringOf_81 : decode cX1_stringOf 81 = .ok (.aload_n 3, 1) := dk_45 (dk_at dksX1_stringOf_3 15 rfl rfl)
theorem dX1_stringOf_82 : decode cX1_stringOf 82 = .ok (.invokevirtual 238, 3) := dk_182 0 238 (dk_at dksX1_stringOf_3 16 rfl rfl)
theorem dX1_stringOf_85 : decode cX1_stringOf 85 = .ok (.ireturn, 1) := dk_172 (dk_at dksX1_stringOf_3 19 rfl rfl)
theorem dX1_stringOf_86 : decode cX1_stringOf 86 = .ok (.new 58, 3) := dk_187 0 58 (dk_at dksX1_stringOf_3 20 rfl rfl)
theorem dX1_stringOf_89 : decode cX1_stringOf 89 = .ok (.dup, 1) := dk_89 (dk_at dksX1_stringOf_3 23 rfl rfl)
theorem dX1_stringOf_90 : decode cX1_stringOf 90 = .ok (.invokespecial 60, 3) := dk_183 0 60 (dk_at dksX1_stringOf_4 0 rfl rfl)
theorem dX1_stringOf_93 : decode cX1_stringOf 93 = .ok (.athrow, 1) := dk_191 (dk_at dksX1_stringOf_4 3 rfl rfl)
abbrev cX1_stringAt : ByteArray := prog_1_method_15_code
def yX1_stringAt : MethodName := ⟨RX1, "stringAt", "(I)LWhelkFleet$Line;"⟩
def dkwX1_stringAt_1 : List UInt8 := [180, 0, 30, 27, 182, 0, 136, 176]
abbrev dktX1_stringAt_1 : List UInt8 := dkwX1_stringAt_1 ++ []
def dkwX1_stringAt_0 : List UInt8 := [27, 3, 42, 180, 0, 30, 182, 0, 133, 185, 0, 126, 1, 0, 4, 100, 184, 0, 114, 184, 0, 118, 42]
abbrev dktX1_stringAt_0 : List UInt8 := dkwX1_stringAt_0 ++ dktX1_stringAt_1
theorem dksX1_stringAt_0 : cX1_stringAt.data.toList.drop 0 = dktX1_stringAt_0 := by decide +kernel
theorem dksX1_stringAt_1 : cX1_stringAt.data.toList.drop 23 = dktX1_stringAt_1 := dk_seg dksX1_stringAt_0 23 rfl rfl
theorem dX1_stringAt_0 : decode cX1_stringAt 0 = .ok (.iload_n 1, 1) := dk_27 (dk_at dksX1_stringAt_0 0 rfl rfl)
theorem dX1_stringAt_1 : decode cX1_stringAt 1 = .ok (.iconst 0, 1) := dk_3 (dk_at dksX1_stringAt_0 1 rfl rfl)
theorem dX1_stringAt_2 : decode cX1_stringAt 2 = .ok (.aload_n 0, 1) := dk_42 (dk_at dksX1_stringAt_0 2 rfl rfl)
theorem dX1_stringAt_3 : decode cX1_stringAt 3 = .ok (.getfield 30, 3) := dk_180 0 30 (dk_at dksX1_stringAt_0 3 rfl rfl)
theorem dX1_stringAt_6 : decode cX1_stringAt 6 = .ok (.invokevirtual 133, 3) := dk_182 0 133 (dk_at dksX1_stringAt_0 6 rfl rfl)
theorem dX1_stringAt_9 : decode cX1_stringAt 9 = .ok (.invokeinterface 126 1, 5) := by decide +kernel
theorem dX1_stringAt_14 : decode cX1_stringAt 14 = .ok (.iconst 1, 1) := dk_4 (dk_at dksX1_stringAt_0 14 rfl rfl)
theorem dX1_stringAt_15 : decode cX1_stringAt 15 = .ok (.isub, 1) := dk_100 (dk_at dksX1_stringAt_0 15 rfl rfl)
theorem dX1_stringAt_16 : decode cX1_stringAt 16 = .ok (.invokestatic 114, 3) := dk_184 0 114 (dk_at dksX1_stringAt_0 16 rfl rfl)
theorem dX1_stringAt_19 : decode cX1_stringAt 19 = .ok (.invokestatic 118, 3) := dk_184 0 118 (dk_at dksX1_stringAt_0 19 rfl rfl)
theorem dX1_stringAt_22 : decode cX1_stringAt 22 = .ok (.aload_n 0, 1) := dk_42 (dk_at dksX1_stringAt_0 22 rfl rfl)
theorem dX1_stringAt_23 : decode cX1_stringAt 23 = .ok (.getfield 30, 3) := dk_180 0 30 (dk_at dksX1_stringAt_1 0 rfl rfl)
theorem dX1_stringAt_26 : decode cX1_stringAt 26 = .ok (.iload_n 1, 1) := dk_27 (dk_at dksX1_stringAt_1 3 rfl rfl)
theorem dX1_stringAt_27 : decode cX1_stringAt 27 = .ok (.invokevirtual 136, 3) := dk_182 0 136 (dk_at dksX1_stringAt_1 4 rfl rfl)
theorem dX1_stringAt_30 : decode cX1_stringAt 30 = .ok (.areturn, 1) := dk_176 (dk_at dksX1_stringAt_1 7 rfl rfl)
abbrev cX1_out : ByteArray := prog_1_method_28_code
def yX1_out : MethodName := ⟨RX1, "out", "(II)I"⟩
def dkwX1_out_0 : List UInt8 := [42, 27, 182, 0, 185, 87, 28, 184, 0, 140, 42, 18, 241, 27, 28, 3, 182, 0, 163, 172]
abbrev dktX1_out_0 : List UInt8 := dkwX1_out_0 ++ []
theorem dksX1_out_0 : cX1_out.data.toList.drop 0 = dktX1_out_0 := by decide +kernel
theorem dX1_out_0 : decode cX1_out 0 = .ok (.aload_n 0, 1) := dk_42 (dk_at dksX1_out_0 0 rfl rfl)
theorem dX1_out_1 : decode cX1_out 1 = .ok (.iload_n 1, 1) := dk_27 (dk_at dksX1_out_0 1 rfl rfl)
theorem dX1_out_2 : decode cX1_out 2 = .ok (.invokevirtual 185, 3) := dk_182 0 185 (dk_at dksX1_out_0 2 rfl rfl)
theorem dX1_out_5 : decode cX1_out 5 = .ok (.pop, 1) := dk_87 (dk_at dksX1_out_0 5 rfl rfl)
theorem dX1_out_6 : decode cX1_out 6 = .ok (.iload_n 2, 1) := dk_28 (dk_at dksX1_out_0 6 rfl rfl)
theorem dX1_out_7 : decode cX1_out 7 = .ok (.invokestatic 140, 3) := dk_184 0 140 (dk_at dksX1_out_0 7 rfl rfl)
theorem dX1_out_10 : decode cX1_out 10 = .ok (.aload_n 0, 1) := dk_42 (dk_at dksX1_out_0 10 rfl rfl)
theorem dX1_out_11 : decode cX1_out 11 = .ok (.ldc 241, 2) := dk_18 241 (dk_at dksX1_out_0 11 rfl rfl)
theorem dX1_out_13 : decode cX1_out 13 = .ok (.iload_n 1, 1) := dk_27 (dk_at dksX1_out_0 13 rfl rfl)
theorem dX1_out_14 : decode cX1_out 14 = .ok (.iload_n 2, 1) := dk_28 (dk_at dksX1_out_0 14 rfl rfl)
theorem dX1_out_15 : decode cX1_out 15 = .ok (.iconst 0, 1) := dk_3 (dk_at dksX1_out_0 15 rfl rfl)
theorem dX1_out_16 : decode cX1_out 16 = .ok (.invokevirtual 163, 3) := dk_182 0 163 (dk_at dksX1_out_0 16 rfl rfl)
theorem dX1_out_19 : decode cX1_out 19 = .ok (.ireturn, 1) := dk_172 (dk_at dksX1_out_0 19 rfl rfl)
abbrev cX1_home : ByteArray := prog_1_method_29_code
def yX1_home : MethodName := ⟨RX1, "home", "(I)I"⟩
def dkwX1_home_0 : List UInt8 := [42, 27, 182, 0, 185, 87, 42, 18, 243, 27, 3, 3, 182, 0, 163, 172]
abbrev dktX1_home_0 : List UInt8 := dkwX1_home_0 ++ []
theorem dksX1_home_0 : cX1_home.data.toList.drop 0 = dktX1_home_0 := by decide +kernel
theorem dX1_home_0 : decode cX1_home 0 = .ok (.aload_n 0, 1) := dk_42 (dk_at dksX1_home_0 0 rfl rfl)
theorem dX1_home_1 : decode cX1_home 1 = .ok (.iload_n 1, 1) := dk_27 (dk_at dksX1_home_0 1 rfl rfl)
theorem dX1_home_2 : decode cX1_home 2 = .ok (.invokevirtual 185, 3) := dk_182 0 185 (dk_at dksX1_home_0 2 rfl rfl)
theorem dX1_home_5 : decode cX1_home 5 = .ok (.pop, 1) := dk_87 (dk_at dksX1_home_0 5 rfl rfl)
theorem dX1_home_6 : decode cX1_home 6 = .ok (.aload_n 0, 1) := dk_42 (dk_at dksX1_home_0 6 rfl rfl)
theorem dX1_home_7 : decode cX1_home 7 = .ok (.ldc 243, 2) := dk_18 243 (dk_at dksX1_home_0 7 rfl rfl)
theorem dX1_home_9 : decode cX1_home 9 = .ok (.iload_n 1, 1) := dk_27 (dk_at dksX1_home_0 9 rfl rfl)
theorem dX1_home_10 : decode cX1_home 10 = .ok (.iconst 0, 1) := dk_3 (dk_at dksX1_home_0 10 rfl rfl)
theorem dX1_home_11 : decode cX1_home 11 = .ok (.iconst 0, 1) := dk_3 (dk_at dksX1_home_0 11 rfl rfl)
theorem dX1_home_12 : decode cX1_home 12 = .ok (.invokevirtual 163, 3) := dk_182 0 163 (dk_at dksX1_home_0 12 rfl rfl)
theorem dX1_home_15 : decode cX1_home 15 = .ok (.ireturn, 1) := dk_172 (dk_at dksX1_home_0 15 rfl rfl)
abbrev cX1_shoot : ByteArray := prog_1_method_30_code
def yX1_shoot : MethodName := ⟨RX1, "shoot", "(III)I"⟩
def dkwX1_shoot_1 : List UInt8 := [29, 182, 0, 163, 172]
abbrev dktX1_shoot_1 : List UInt8 := dkwX1_shoot_1 ++ []
def dkwX1_shoot_0 : List UInt8 := [42, 27, 182, 0, 185, 87, 42, 28, 182, 0, 217, 87, 29, 184, 0, 167, 184, 0, 148, 42, 18, 245, 27, 28]
abbrev dktX1_shoot_0 : List UInt8 := dkwX1_shoot_0 ++ dktX1_shoot_1
theorem dksX1_shoot_0 : cX1_shoot.data.toList.drop 0 = dktX1_shoot_0 := by decide +kernel
theorem dksX1_shoot_1 : cX1_shoot.data.toList.drop 24 = dktX1_shoot_1 := dk_seg dksX1_shoot_0 24 rfl rfl
theorem dX1_shoot_0 : decode cX1_shoot 0 = .ok (.aload_n 0, 1) := dk_42 (dk_at dksX1_shoot_0 0 rfl rfl)
theorem dX1_shoot_1 : decode cX1_shoot 1 = .ok (.iload_n 1, 1) := dk_27 (dk_at dksX1_shoot_0 1 rfl rfl)
theorem dX1_shoot_2 : decode cX1_shoot 2 = .ok (.invokevirtual 185, 3) := dk_182 0 185 (dk_at dksX1_shoot_0 2 rfl rfl)
theorem dX1_shoot_5 : decode cX1_shoot 5 = .ok (.pop, 1) := dk_87 (dk_at dksX1_shoot_0 5 rfl rfl)
theorem dX1_shoot_6 : decode cX1_shoot 6 = .ok (.aload_n 0, 1) := dk_42 (dk_at dksX1_shoot_0 6 rfl rfl)
theorem dX1_shoot_7 : decode cX1_shoot 7 = .ok (.iload_n 2, 1) := dk_28 (dk_at dksX1_shoot_0 7 rfl rfl)
theorem dX1_shoot_8 : decode cX1_shoot 8 = .ok (.invokevirtual 217, 3) := dk_182 0 217 (dk_at dksX1_shoot_0 8 rfl rfl)
theorem dX1_shoot_11 : decode cX1_shoot 11 = .ok (.pop, 1) := dk_87 (dk_at dksX1_shoot_0 11 rfl rfl)
theorem dX1_shoot_12 : decode cX1_shoot 12 = .ok (.iload_n 3, 1) := dk_29 (dk_at dksX1_shoot_0 12 rfl rfl)
theorem dX1_shoot_13 : decode cX1_shoot 13 = .ok (.invokestatic 167, 3) := dk_184 0 167 (dk_at dksX1_shoot_0 13 rfl rfl)
theorem dX1_shoot_16 : decode cX1_shoot 16 = .ok (.invokestatic 148, 3) := dk_184 0 148 (dk_at dksX1_shoot_0 16 rfl rfl)
theorem dX1_shoot_19 : decode cX1_shoot 19 = .ok (.aload_n 0, 1) := dk_42 (dk_at dksX1_shoot_0 19 rfl rfl)
theorem dX1_shoot_20 : decode cX1_shoot 20 = .ok (.ldc 245, 2) := dk_18 245 (dk_at dksX1_shoot_0 20 rfl rfl)
theorem dX1_shoot_22 : decode cX1_shoot 22 = .ok (.iload_n 1, 1) := dk_27 (dk_at dksX1_shoot_0 22 rfl rfl)
theorem dX1_shoot_23 : decode cX1_shoot 23 = .ok (.iload_n 2, 1) := dk_28 (dk_at dksX1_shoot_0 23 rfl rfl)
theorem dX1_shoot_24 : decode cX1_shoot 24 = .ok (.iload_n 3, 1) := dk_29 (dk_at dksX1_shoot_1 0 rfl rfl)
theorem dX1_shoot_25 : decode cX1_shoot 25 = .ok (.invokevirtual 163, 3) := dk_182 0 163 (dk_at dksX1_shoot_1 1 rfl rfl)
theorem dX1_shoot_28 : decode cX1_shoot 28 = .ok (.ireturn, 1) := dk_172 (dk_at dksX1_shoot_1 4 rfl rfl)
abbrev cX1_haul : ByteArray := prog_1_method_31_code
def yX1_haul : MethodName := ⟨RX1, "haul", "(II)I"⟩
def dkwX1_haul_0 : List UInt8 := [42, 27, 182, 0, 185, 87, 42, 28, 182, 0, 217, 87, 42, 18, 247, 27, 28, 3, 182, 0, 163, 172]
abbrev dktX1_haul_0 : List UInt8 := dkwX1_haul_0 ++ []
theorem dksX1_haul_0 : cX1_haul.data.toList.drop 0 = dktX1_haul_0 := by decide +kernel
theorem dX1_haul_0 : decode cX1_haul 0 = .ok (.aload_n 0, 1) := dk_42 (dk_at dksX1_haul_0 0 rfl rfl)
theorem dX1_haul_1 : decode cX1_haul 1 = .ok (.iload_n 1, 1) := dk_27 (dk_at dksX1_haul_0 1 rfl rfl)
theorem dX1_haul_2 : decode cX1_haul 2 = .ok (.invokevirtual 185, 3) := dk_182 0 185 (dk_at dksX1_haul_0 2 rfl rfl)
theorem dX1_haul_5 : decode cX1_haul 5 = .ok (.pop, 1) := dk_87 (dk_at dksX1_haul_0 5 rfl rfl)
theorem dX1_haul_6 : decode cX1_haul 6 = .ok (.aload_n 0, 1) := dk_42 (dk_at dksX1_haul_0 6 rfl rfl)
theorem dX1_haul_7 : decode cX1_haul 7 = .ok (.iload_n 2, 1) := dk_28 (dk_at dksX1_haul_0 7 rfl rfl)
theorem dX1_haul_8 : decode cX1_haul 8 = .ok (.invokevirtual 217, 3) := dk_182 0 217 (dk_at dksX1_haul_0 8 rfl rfl)
theorem dX1_haul_11 : decode cX1_haul 11 = .ok (.pop, 1) := dk_87 (dk_at dksX1_haul_0 11 rfl rfl)
theorem dX1_haul_12 : decode cX1_haul 12 = .ok (.aload_n 0, 1) := dk_42 (dk_at dksX1_haul_0 12 rfl rfl)
theorem dX1_haul_13 : decode cX1_haul 13 = .ok (.ldc 247, 2) := dk_18 247 (dk_at dksX1_haul_0 13 rfl rfl)
theorem dX1_haul_15 : decode cX1_haul 15 = .ok (.iload_n 1, 1) := dk_27 (dk_at dksX1_haul_0 15 rfl rfl)
theorem dX1_haul_16 : decode cX1_haul 16 = .ok (.iload_n 2, 1) := dk_28 (dk_at dksX1_haul_0 16 rfl rfl)
theorem dX1_haul_17 : decode cX1_haul 17 = .ok (.iconst 0, 1) := dk_3 (dk_at dksX1_haul_0 17 rfl rfl)
theorem dX1_haul_18 : decode cX1_haul 18 = .ok (.invokevirtual 163, 3) := dk_182 0 163 (dk_at dksX1_haul_0 18 rfl rfl)
theorem dX1_haul_21 : decode cX1_haul 21 = .ok (.ireturn, 1) := dk_172 (dk_at dksX1_haul_0 21 rfl rfl)
abbrev cX1_land : ByteArray := prog_1_method_32_code
def yX1_land : MethodName := ⟨RX1, "land", "(I)I"⟩
def dkwX1_land_0 : List UInt8 := [42, 27, 182, 0, 185, 87, 42, 18, 249, 27, 3, 3, 182, 0, 163, 172]
abbrev dktX1_land_0 : List UInt8 := dkwX1_land_0 ++ []
theorem dksX1_land_0 : cX1_land.data.toList.drop 0 = dktX1_land_0 := by decide +kernel
theorem dX1_land_0 : decode cX1_land 0 = .ok (.aload_n 0, 1) := dk_42 (dk_at dksX1_land_0 0 rfl rfl)
theorem dX1_land_1 : decode cX1_land 1 = .ok (.iload_n 1, 1) := dk_27 (dk_at dksX1_land_0 1 rfl rfl)
theorem dX1_land_2 : decode cX1_land 2 = .ok (.invokevirtual 185, 3) := dk_182 0 185 (dk_at dksX1_land_0 2 rfl rfl)
theorem dX1_land_5 : decode cX1_land 5 = .ok (.pop, 1) := dk_87 (dk_at dksX1_land_0 5 rfl rfl)
theorem dX1_land_6 : decode cX1_land 6 = .ok (.aload_n 0, 1) := dk_42 (dk_at dksX1_land_0 6 rfl rfl)
theorem dX1_land_7 : decode cX1_land 7 = .ok (.ldc 249, 2) := dk_18 249 (dk_at dksX1_land_0 7 rfl rfl)
theorem dX1_land_9 : decode cX1_land 9 = .ok (.iload_n 1, 1) := dk_27 (dk_at dksX1_land_0 9 rfl rfl)
theorem dX1_land_10 : decode cX1_land 10 = .ok (.iconst 0, 1) := dk_3 (dk_at dksX1_land_0 10 rfl rfl)
theorem dX1_land_11 : decode cX1_land 11 = .ok (.iconst 0, 1) := dk_3 (dk_at dksX1_land_0 11 rfl rfl)
theorem dX1_land_12 : decode cX1_land 12 = .ok (.invokevirtual 163, 3) := dk_182 0 163 (dk_at dksX1_land_0 12 rfl rfl)
theorem dX1_land_15 : decode cX1_land 15 = .ok (.ireturn, 1) := dk_172 (dk_at dksX1_land_0 15 rfl rfl)
abbrev cX1_wouldBring : ByteArray := prog_1_method_33_code
def yX1_wouldBring : MethodName := ⟨RX1, "wouldBring", "(II)I"⟩
def dkwX1_wouldBring_1 : List UInt8 := [28, 182, 0, 251, 172]
abbrev dktX1_wouldBring_1 : List UInt8 := dkwX1_wouldBring_1 ++ []
def dkwX1_wouldBring_0 : List UInt8 := [42, 27, 182, 0, 217, 87, 28, 3, 16, 30, 184, 0, 114, 184, 0, 148, 42, 180, 0, 30, 182, 0, 94, 27]
abbrev dktX1_wouldBring_0 : List UInt8 := dkwX1_wouldBring_0 ++ dktX1_wouldBring_1
theorem dksX1_wouldBring_0 : cX1_wouldBring.data.toList.drop 0 = dktX1_wouldBring_0 := by decide +kernel
theorem dksX1_wouldBring_1 : cX1_wouldBring.data.toList.drop 24 = dktX1_wouldBring_1 := dk_seg dksX1_wouldBring_0 24 rfl rfl
theorem dX1_wouldBring_0 : decode cX1_wouldBring 0 = .ok (.aload_n 0, 1) := dk_42 (dk_at dksX1_wouldBring_0 0 rfl rfl)
theorem dX1_wouldBring_1 : decode cX1_wouldBring 1 = .ok (.iload_n 1, 1) := dk_27 (dk_at dksX1_wouldBring_0 1 rfl rfl)
theorem dX1_wouldBring_2 : decode cX1_wouldBring 2 = .ok (.invokevirtual 217, 3) := dk_182 0 217 (dk_at dksX1_wouldBring_0 2 rfl rfl)
theorem dX1_wouldBring_5 : decode cX1_wouldBring 5 = .ok (.pop, 1) := dk_87 (dk_at dksX1_wouldBring_0 5 rfl rfl)
theorem dX1_wouldBring_6 : decode cX1_wouldBring 6 = .ok (.iload_n 2, 1) := dk_28 (dk_at dksX1_wouldBring_0 6 rfl rfl)
theorem dX1_wouldBring_7 : decode cX1_wouldBring 7 = .ok (.iconst 0, 1) := dk_3 (dk_at dksX1_wouldBring_0 7 rfl rfl)
theorem dX1_wouldBring_8 : decode cX1_wouldBring 8 = .ok (.bipush 30, 2) := dk_16 30 (dk_at dksX1_wouldBring_0 8 rfl rfl)
theorem dX1_wouldBring_10 : decode cX1_wouldBring 10 = .ok (.invokestatic 114, 3) := dk_184 0 114 (dk_at dksX1_wouldBring_0 10 rfl rfl)
theorem dX1_wouldBring_13 : decode cX1_wouldBring 13 = .ok (.invokestatic 148, 3) := dk_184 0 148 (dk_at dksX1_wouldBring_0 13 rfl rfl)
theorem dX1_wouldBring_16 : decode cX1_wouldBring 16 = .ok (.aload_n 0, 1) := dk_42 (dk_at dksX1_wouldBring_0 16 rfl rfl)
theorem dX1_wouldBring_17 : decode cX1_wouldBring 17 = .ok (.getfield 30, 3) := dk_180 0 30 (dk_at dksX1_wouldBring_0 17 rfl rfl)
theorem dX1_wouldBring_20 : decode cX1_wouldBring 20 = .ok (.invokevirtual 94, 3) := dk_182 0 94 (dk_at dksX1_wouldBring_0 20 rfl rfl)
theorem dX1_wouldBring_23 : decode cX1_wouldBring 23 = .ok (.iload_n 1, 1) := dk_27 (dk_at dksX1_wouldBring_0 23 rfl rfl)
theorem dX1_wouldBring_24 : decode cX1_wouldBring 24 = .ok (.iload_n 2, 1) := dk_28 (dk_at dksX1_wouldBring_1 0 rfl rfl)
theorem dX1_wouldBring_25 : decode cX1_wouldBring 25 = .ok (.invokevirtual 251, 3) := dk_182 0 251 (dk_at dksX1_wouldBring_1 1 rfl rfl)
theorem dX1_wouldBring_28 : decode cX1_wouldBring 28 = .ok (.ireturn, 1) := dk_172 (dk_at dksX1_wouldBring_1 4 rfl rfl)
abbrev cX1_bestDay : ByteArray := prog_1_method_34_code
def yX1_bestDay : MethodName := ⟨RX1, "bestDay", "(I)I"⟩
def dkwX1_bestDay_1 : List UInt8 := [42, 180, 0, 30, 182, 0, 94, 27, 182, 1, 5, 172]
abbrev dktX1_bestDay_1 : List UInt8 := dkwX1_bestDay_1 ++ []
def dkwX1_bestDay_0 : List UInt8 := [42, 27, 182, 0, 217, 182, 0, 225, 185, 0, 254, 1, 0, 154, 0, 7, 4, 167, 0, 4, 3, 184, 1, 2]
abbrev dktX1_bestDay_0 : List UInt8 := dkwX1_bestDay_0 ++ dktX1_bestDay_1
theorem dksX1_bestDay_0 : cX1_bestDay.data.toList.drop 0 = dktX1_bestDay_0 := by decide +kernel
theorem dksX1_bestDay_1 : cX1_bestDay.data.toList.drop 24 = dktX1_bestDay_1 := dk_seg dksX1_bestDay_0 24 rfl rfl
theorem dX1_bestDay_0 : decode cX1_bestDay 0 = .ok (.aload_n 0, 1) := dk_42 (dk_at dksX1_bestDay_0 0 rfl rfl)
theorem dX1_bestDay_1 : decode cX1_bestDay 1 = .ok (.iload_n 1, 1) := dk_27 (dk_at dksX1_bestDay_0 1 rfl rfl)
theorem dX1_bestDay_2 : decode cX1_bestDay 2 = .ok (.invokevirtual 217, 3) := dk_182 0 217 (dk_at dksX1_bestDay_0 2 rfl rfl)
theorem dX1_bestDay_5 : decode cX1_bestDay 5 = .ok (.invokevirtual 225, 3) := dk_182 0 225 (dk_at dksX1_bestDay_0 5 rfl rfl)
theorem dX1_bestDay_8 : decode cX1_bestDay 8 = .ok (.invokeinterface 254 1, 5) := by decide +kernel
theorem dX1_bestDay_13 : decode cX1_bestDay 13 = .ok (.ifCond .ne 7, 3) := dk_154 0 7 (dk_at dksX1_bestDay_0 13 rfl rfl)
theorem dX1_bestDay_16 : decode cX1_bestDay 16 = .ok (.iconst 1, 1) := dk_4 (dk_at dksX1_bestDay_0 16 rfl rfl)
theorem dX1_bestDay_17 : decode cX1_bestDay 17 = .ok (.goto 4, 3) := dk_167 0 4 (dk_at dksX1_bestDay_0 17 rfl rfl)
theorem dX1_bestDay_20 : decode cX1_bestDay 20 = .ok (.iconst 0, 1) := dk_3 (dk_at dksX1_bestDay_0 20 rfl rfl)
theorem dX1_bestDay_21 : decode cX1_bestDay 21 = .ok (.invokestatic 258, 3) := dk_184 1 2 (dk_at dksX1_bestDay_0 21 rfl rfl)
theorem dX1_bestDay_24 : decode cX1_bestDay 24 = .ok (.aload_n 0, 1) := dk_42 (dk_at dksX1_bestDay_1 0 rfl rfl)
theorem dX1_bestDay_25 : decode cX1_bestDay 25 = .ok (.getfield 30, 3) := dk_180 0 30 (dk_at dksX1_bestDay_1 1 rfl rfl)
theorem dX1_bestDay_28 : decode cX1_bestDay 28 = .ok (.invokevirtual 94, 3) := dk_182 0 94 (dk_at dksX1_bestDay_1 4 rfl rfl)
theorem dX1_bestDay_31 : decode cX1_bestDay 31 = .ok (.iload_n 1, 1) := dk_27 (dk_at dksX1_bestDay_1 7 rfl rfl)
theorem dX1_bestDay_32 : decode cX1_bestDay 32 = .ok (.invokevirtual 261, 3) := dk_182 1 5 (dk_at dksX1_bestDay_1 8 rfl rfl)
theorem dX1_bestDay_35 : decode cX1_bestDay 35 = .ok (.ireturn, 1) := dk_172 (dk_at dksX1_bestDay_1 11 rfl rfl)
abbrev cX1_requireElement : ByteArray := prog_1_method_9_code
def yX1_requireElement : MethodName := ⟨RX1, "requireElement", "(Z)V"⟩
def dkwX1_requireElement_0 : List UInt8 := [26, 154, 0, 11, 187, 0, 67, 89, 183, 0, 69, 191, 177]
abbrev dktX1_requireElement_0 : List UInt8 := dkwX1_requireElement_0 ++ []
theorem dksX1_requireElement_0 : cX1_requireElement.data.toList.drop 0 = dktX1_requireElement_0 := by decide +kernel
theorem dX1_requireElement_0 : decode cX1_requireElement 0 = .ok (.iload_n 0, 1) := dk_26 (dk_at dksX1_requireElement_0 0 rfl rfl)
theorem dX1_requireElement_1 : decode cX1_requireElement 1 = .ok (.ifCond .ne 11, 3) := dk_154 0 11 (dk_at dksX1_requireElement_0 1 rfl rfl)
theorem dX1_requireElement_4 : decode cX1_requireElement 4 = .ok (.new 67, 3) := dk_187 0 67 (dk_at dksX1_requireElement_0 4 rfl rfl)
theorem dX1_requireElement_7 : decode cX1_requireElement 7 = .ok (.dup, 1) := dk_89 (dk_at dksX1_requireElement_0 7 rfl rfl)
theorem dX1_requireElement_8 : decode cX1_requireElement 8 = .ok (.invokespecial 69, 3) := dk_183 0 69 (dk_at dksX1_requireElement_0 8 rfl rfl)
theorem dX1_requireElement_11 : decode cX1_requireElement 11 = .ok (.athrow, 1) := dk_191 (dk_at dksX1_requireElement_0 11 rfl rfl)
theorem dX1_requireElement_12 : decode cX1_requireElement 12 = .ok (.return_, 1) := dk_177 (dk_at dksX1_requireElement_0 12 rfl rfl)
abbrev cX1_ranked : ByteArray := prog_1_method_35_code
def yX1_ranked : MethodName := ⟨RX1, "ranked", "(I)I"⟩
def dkwX1_ranked_1 : List UInt8 := [44, 27, 185, 1, 11, 2, 0, 192, 1, 15, 182, 1, 17, 172]
abbrev dktX1_ranked_1 : List UInt8 := dkwX1_ranked_1 ++ []
def dkwX1_ranked_0 : List UInt8 := [42, 180, 0, 30, 182, 1, 8, 77, 27, 3, 44, 185, 0, 126, 1, 0, 4, 100, 184, 0, 114, 184, 1, 2]
abbrev dktX1_ranked_0 : List UInt8 := dkwX1_ranked_0 ++ dktX1_ranked_1
theorem dksX1_ranked_0 : cX1_ranked.data.toList.drop 0 = dktX1_ranked_0 := by decide +kernel
theorem dksX1_ranked_1 : cX1_ranked.data.toList.drop 24 = dktX1_ranked_1 := dk_seg dksX1_ranked_0 24 rfl rfl
theorem dX1_ranked_0 : decode cX1_ranked 0 = .ok (.aload_n 0, 1) := dk_42 (dk_at dksX1_ranked_0 0 rfl rfl)
theorem dX1_ranked_1 : decode cX1_ranked 1 = .ok (.getfield 30, 3) := dk_180 0 30 (dk_at dksX1_ranked_0 1 rfl rfl)
theorem dX1_ranked_4 : decode cX1_ranked 4 = .ok (.invokevirtual 264, 3) := dk_182 1 8 (dk_at dksX1_ranked_0 4 rfl rfl)
theorem dX1_ranked_7 : decode cX1_ranked 7 = .ok (.astore_n 2, 1) := dk_77 (dk_at dksX1_ranked_0 7 rfl rfl)
theorem dX1_ranked_8 : decode cX1_ranked 8 = .ok (.iload_n 1, 1) := dk_27 (dk_at dksX1_ranked_0 8 rfl rfl)
theorem dX1_ranked_9 : decode cX1_ranked 9 = .ok (.iconst 0, 1) := dk_3 (dk_at dksX1_ranked_0 9 rfl rfl)
theorem dX1_ranked_10 : decode cX1_ranked 10 = .ok (.aload_n 2, 1) := dk_44 (dk_at dksX1_ranked_0 10 rfl rfl)
theorem dX1_ranked_11 : decode cX1_ranked 11 = .ok (.invokeinterface 126 1, 5) := by decide +kernel
theorem dX1_ranked_16 : decode cX1_ranked 16 = .ok (.iconst 1, 1) := dk_4 (dk_at dksX1_ranked_0 16 rfl rfl)
theorem dX1_ranked_17 : decode cX1_ranked 17 = .ok (.isub, 1) := dk_100 (dk_at dksX1_ranked_0 17 rfl rfl)
theorem dX1_ranked_18 : decode cX1_ranked 18 = .ok (.invokestatic 114, 3) := dk_184 0 114 (dk_at dksX1_ranked_0 18 rfl rfl)
theorem dX1_ranked_21 : decode cX1_ranked 21 = .ok (.invokestatic 258, 3) := dk_184 1 2 (dk_at dksX1_ranked_0 21 rfl rfl)
theorem dX1_ranked_24 : decode cX1_ranked 24 = .ok (.aload_n 2, 1) := dk_44 (dk_at dksX1_ranked_1 0 rfl rfl)
theorem dX1_ranked_25 : decode cX1_ranked 25 = .ok (.iload_n 1, 1) := dk_27 (dk_at dksX1_ranked_1 1 rfl rfl)
theorem dX1_ranked_26 : decode cX1_ranked 26 = .ok (.invokeinterface 267 2, 5) := by decide +kernel
theorem dX1_ranked_31 : decode cX1_ranked 31 = .ok (.checkcast 271, 3) := dk_192 1 15 (dk_at dksX1_ranked_1 7 rfl rfl)
theorem dX1_ranked_34 : decode cX1_ranked 34 = .ok (.invokevirtual 273, 3) := dk_182 1 17 (dk_at dksX1_ranked_1 10 rfl rfl)
theorem dX1_ranked_37 : decode cX1_ranked 37 = .ok (.ireturn, 1) := dk_172 (dk_at dksX1_ranked_1 13 rfl rfl)
abbrev cX1_swell : ByteArray := prog_1_method_36_code
def yX1_swell : MethodName := ⟨RX1, "swell", "(I)I"⟩
def dkwX1_swell_0 : List UInt8 := [27, 3, 16, 9, 184, 0, 114, 184, 0, 148, 42, 19, 1, 20, 27, 3, 3, 182, 0, 163, 172]
abbrev dktX1_swell_0 : List UInt8 := dkwX1_swell_0 ++ []
theorem dksX1_swell_0 : cX1_swell.data.toList.drop 0 = dktX1_swell_0 := by decide +kernel
theorem dX1_swell_0 : decode cX1_swell 0 = .ok (.iload_n 1, 1) := dk_27 (dk_at dksX1_swell_0 0 rfl rfl)
theorem dX1_swell_1 : decode cX1_swell 1 = .ok (.iconst 0, 1) := dk_3 (dk_at dksX1_swell_0 1 rfl rfl)
theorem dX1_swell_2 : decode cX1_swell 2 = .ok (.bipush 9, 2) := dk_16 9 (dk_at dksX1_swell_0 2 rfl rfl)
theorem dX1_swell_4 : decode cX1_swell 4 = .ok (.invokestatic 114, 3) := dk_184 0 114 (dk_at dksX1_swell_0 4 rfl rfl)
theorem dX1_swell_7 : decode cX1_swell 7 = .ok (.invokestatic 148, 3) := dk_184 0 148 (dk_at dksX1_swell_0 7 rfl rfl)
theorem dX1_swell_10 : decode cX1_swell 10 = .ok (.aload_n 0, 1) := dk_42 (dk_at dksX1_swell_0 10 rfl rfl)
theorem dX1_swell_11 : decode cX1_swell 11 = .ok (.ldc_w 276, 3) := dk_19 1 20 (dk_at dksX1_swell_0 11 rfl rfl)
theorem dX1_swell_14 : decode cX1_swell 14 = .ok (.iload_n 1, 1) := dk_27 (dk_at dksX1_swell_0 14 rfl rfl)
theorem dX1_swell_15 : decode cX1_swell 15 = .ok (.iconst 0, 1) := dk_3 (dk_at dksX1_swell_0 15 rfl rfl)
theorem dX1_swell_16 : decode cX1_swell 16 = .ok (.iconst 0, 1) := dk_3 (dk_at dksX1_swell_0 16 rfl rfl)
theorem dX1_swell_17 : decode cX1_swell 17 = .ok (.invokevirtual 163, 3) := dk_182 0 163 (dk_at dksX1_swell_0 17 rfl rfl)
theorem dX1_swell_20 : decode cX1_swell 20 = .ok (.ireturn, 1) := dk_172 (dk_at dksX1_swell_0 20 rfl rfl)
abbrev cX1_riddle : ByteArray := prog_1_method_37_code
def yX1_riddle : MethodName := ⟨RX1, "riddle", "(I)I"⟩
def dkwX1_riddle_0 : List UInt8 := [27, 4, 5, 184, 0, 114, 184, 0, 148, 42, 19, 1, 22, 27, 3, 3, 182, 0, 163, 172]
abbrev dktX1_riddle_0 : List UInt8 := dkwX1_riddle_0 ++ []
theorem dksX1_riddle_0 : cX1_riddle.data.toList.drop 0 = dktX1_riddle_0 := by decide +kernel
theorem dX1_riddle_0 : decode cX1_riddle 0 = .ok (.iload_n 1, 1) := dk_27 (dk_at dksX1_riddle_0 0 rfl rfl)
theorem dX1_riddle_1 : decode cX1_riddle 1 = .ok (.iconst 1, 1) := dk_4 (dk_at dksX1_riddle_0 1 rfl rfl)
theorem dX1_riddle_2 : decode cX1_riddle 2 = .ok (.iconst 2, 1) := dk_5 (dk_at dksX1_riddle_0 2 rfl rfl)
theorem dX1_riddle_3 : decode cX1_riddle 3 = .ok (.invokestatic 114, 3) := dk_184 0 114 (dk_at dksX1_riddle_0 3 rfl rfl)
theorem dX1_riddle_6 : decode cX1_riddle 6 = .ok (.invokestatic 148, 3) := dk_184 0 148 (dk_at dksX1_riddle_0 6 rfl rfl)
theorem dX1_riddle_9 : decode cX1_riddle 9 = .ok (.aload_n 0, 1) := dk_42 (dk_at dksX1_riddle_0 9 rfl rfl)
theorem dX1_riddle_10 : decode cX1_riddle 10 = .ok (.ldc_w 278, 3) := dk_19 1 22 (dk_at dksX1_riddle_0 10 rfl rfl)
theorem dX1_riddle_13 : decode cX1_riddle 13 = .ok (.iload_n 1, 1) := dk_27 (dk_at dksX1_riddle_0 13 rfl rfl)
theorem dX1_riddle_14 : decode cX1_riddle 14 = .ok (.iconst 0, 1) := dk_3 (dk_at dksX1_riddle_0 14 rfl rfl)
theorem dX1_riddle_15 : decode cX1_riddle 15 = .ok (.iconst 0, 1) := dk_3 (dk_at dksX1_riddle_0 15 rfl rfl)
theorem dX1_riddle_16 : decode cX1_riddle 16 = .ok (.invokevirtual 163, 3) := dk_182 0 163 (dk_at dksX1_riddle_0 16 rfl rfl)
theorem dX1_riddle_19 : decode cX1_riddle 19 = .ok (.ireturn, 1) := dk_172 (dk_at dksX1_riddle_0 19 rfl rfl)
abbrev cX1_pass : ByteArray := prog_1_method_38_code
def yX1_pass : MethodName := ⟨RX1, "pass", "(I)I"⟩
def dkwX1_pass_0 : List UInt8 := [27, 4, 16, 60, 184, 0, 114, 184, 0, 148, 42, 19, 1, 24, 27, 3, 3, 182, 0, 163, 172]
abbrev dktX1_pass_0 : List UInt8 := dkwX1_pass_0 ++ []
theorem dksX1_pass_0 : cX1_pass.data.toList.drop 0 = dktX1_pass_0 := by decide +kernel
theorem dX1_pass_0 : decode cX1_pass 0 = .ok (.iload_n 1, 1) := dk_27 (dk_at dksX1_pass_0 0 rfl rfl)
theorem dX1_pass_1 : decode cX1_pass 1 = .ok (.iconst 1, 1) := dk_4 (dk_at dksX1_pass_0 1 rfl rfl)
theorem dX1_pass_2 : decode cX1_pass 2 = .ok (.bipush 60, 2) := dk_16 60 (dk_at dksX1_pass_0 2 rfl rfl)
theorem dX1_pass_4 : decode cX1_pass 4 = .ok (.invokestatic 114, 3) := dk_184 0 114 (dk_at dksX1_pass_0 4 rfl rfl)
theorem dX1_pass_7 : decode cX1_pass 7 = .ok (.invokestatic 148, 3) := dk_184 0 148 (dk_at dksX1_pass_0 7 rfl rfl)
theorem dX1_pass_10 : decode cX1_pass 10 = .ok (.aload_n 0, 1) := dk_42 (dk_at dksX1_pass_0 10 rfl rfl)
theorem dX1_pass_11 : decode cX1_pass 11 = .ok (.ldc_w 280, 3) := dk_19 1 24 (dk_at dksX1_pass_0 11 rfl rfl)
theorem dX1_pass_14 : decode cX1_pass 14 = .ok (.iload_n 1, 1) := dk_27 (dk_at dksX1_pass_0 14 rfl rfl)
theorem dX1_pass_15 : decode cX1_pass 15 = .ok (.iconst 0, 1) := dk_3 (dk_at dksX1_pass_0 15 rfl rfl)
theorem dX1_pass_16 : decode cX1_pass 16 = .ok (.iconst 0, 1) := dk_3 (dk_at dksX1_pass_0 16 rfl rfl)
theorem dX1_pass_17 : decode cX1_pass 17 = .ok (.invokevirtual 163, 3) := dk_182 0 163 (dk_at dksX1_pass_0 17 rfl rfl)
theorem dX1_pass_20 : decode cX1_pass 20 = .ok (.ireturn, 1) := dk_172 (dk_at dksX1_pass_0 20 rfl rfl)
abbrev cX1_whelksIn : ByteArray := prog_1_method_39_code
def yX1_whelksIn : MethodName := ⟨RX1, "whelksIn", "(II)I"⟩
def dkwX1_whelksIn_1 : List UInt8 := [184, 0, 148, 42, 180, 0, 30, 182, 0, 94, 78, 45, 28, 182, 1, 26, 87, 45, 27, 182, 1, 29, 172]
abbrev dktX1_whelksIn_1 : List UInt8 := dkwX1_whelksIn_1 ++ []
def dkwX1_whelksIn_0 : List UInt8 := [27, 184, 0, 144, 153, 0, 17, 28, 3, 16, 60, 184, 0, 114, 153, 0, 7, 4, 167, 0, 4, 3]
abbrev dktX1_whelksIn_0 : List UInt8 := dkwX1_whelksIn_0 ++ dktX1_whelksIn_1
theorem dksX1_whelksIn_0 : cX1_whelksIn.data.toList.drop 0 = dktX1_whelksIn_0 := by decide +kernel
theorem dksX1_whelksIn_1 : cX1_whelksIn.data.toList.drop 22 = dktX1_whelksIn_1 := dk_seg dksX1_whelksIn_0 22 rfl rfl
theorem dX1_whelksIn_0 : decode cX1_whelksIn 0 = .ok (.iload_n 1, 1) := dk_27 (dk_at dksX1_whelksIn_0 0 rfl rfl)
theorem dX1_whelksIn_1 : decode cX1_whelksIn 1 = .ok (.invokestatic 144, 3) := dk_184 0 144 (dk_at dksX1_whelksIn_0 1 rfl rfl)
theorem dX1_whelksIn_4 : decode cX1_whelksIn 4 = .ok (.ifCond .eq 17, 3) := dk_153 0 17 (dk_at dksX1_whelksIn_0 4 rfl rfl)
theorem dX1_whelksIn_7 : decode cX1_whelksIn 7 = .ok (.iload_n 2, 1) := dk_28 (dk_at dksX1_whelksIn_0 7 rfl rfl)
theorem dX1_whelksIn_8 : decode cX1_whelksIn 8 = .ok (.iconst 0, 1) := dk_3 (dk_at dksX1_whelksIn_0 8 rfl rfl)
theorem dX1_whelksIn_9 : decode cX1_whelksIn 9 = .ok (.bipush 60, 2) := dk_16 60 (dk_at dksX1_whelksIn_0 9 rfl rfl)
theorem dX1_whelksIn_11 : decode cX1_whelksIn 11 = .ok (.invokestatic 114, 3) := dk_184 0 114 (dk_at dksX1_whelksIn_0 11 rfl rfl)
theorem dX1_whelksIn_14 : decode cX1_whelksIn 14 = .ok (.ifCond .eq 7, 3) := dk_153 0 7 (dk_at dksX1_whelksIn_0 14 rfl rfl)
theorem dX1_whelksIn_17 : decode cX1_whelksIn 17 = .ok (.iconst 1, 1) := dk_4 (dk_at dksX1_whelksIn_0 17 rfl rfl)
theorem dX1_whelksIn_18 : decode cX1_whelksIn 18 = .ok (.goto 4, 3) := dk_167 0 4 (dk_at dksX1_whelksIn_0 18 rfl rfl)
theorem dX1_whelksIn_21 : decode cX1_whelksIn 21 = .ok (.iconst 0, 1) := dk_3 (dk_at dksX1_whelksIn_0 21 rfl rfl)
theorem dX1_whelksIn_22 : decode cX1_whelksIn 22 = .ok (.invokestatic 148, 3) := dk_184 0 148 (dk_at dksX1_whelksIn_1 0 rfl rfl)
theorem dX1_whelksIn_25 : decode cX1_whelksIn 25 = .ok (.aload_n 0, 1) := dk_42 (dk_at dksX1_whelksIn_1 3 rfl rfl)
theorem dX1_whelksIn_26 : decode cX1_whelksIn 26 = .ok (.getfield 30, 3) := dk_180 0 30 (dk_at dksX1_whelksIn_1 4 rfl rfl)
theorem dX1_whelksIn_29 : decode cX1_whelksIn 29 = .ok (.invokevirtual 94, 3) := dk_182 0 94 (dk_at dksX1_whelksIn_1 7 rfl rfl)
theorem dX1_whelksIn_32 : decode cX1_whelksIn 32 = .ok (.astore_n 3, 1) := dk_78 (dk_at dksX1_whelksIn_1 10 rfl rfl)
theorem dX1_whelksIn_33 : decode cX1_whelksIn 33 = .ok (.aload_n 3, 1) := dk_45 (dk_at dksX1_whelksIn_1 11 rfl rfl)
theorem dX1_whelksIn_34 : decode cX1_whelksIn 34 = .ok (.iload_n 2, 1) := dk_28 (dk_at dksX1_whelksIn_1 12 rfl rfl)
theorem dX1_whelksIn_35 : decode cX1_whelksIn 35 = .ok (.invokevirtual 282, 3) := dk_182 1 26 (dk_at dksX1_whelksIn_1 13 rfl rfl)
theorem dX1_whelksIn_38 : decode cX1_whelksIn 38 = .ok (.pop, 1) := dk_87 (dk_at dksX1_whelksIn_1 16 rfl rfl)
theorem dX1_whelksIn_39 : decode cX1_whelksIn 39 = .ok (.aload_n 3, 1) := dk_45 (dk_at dksX1_whelksIn_1 17 rfl rfl)
theorem dX1_whelksIn_40 : decode cX1_whelksIn 40 = .ok (.iload_n 1, 1) := dk_27 (dk_at dksX1_whelksIn_1 18 rfl rfl)
theorem dX1_whelksIn_41 : decode cX1_whelksIn 41 = .ok (.invokevirtual 285, 3) := dk_182 1 29 (dk_at dksX1_whelksIn_1 19 rfl rfl)
theorem dX1_whelksIn_44 : decode cX1_whelksIn 44 = .ok (.ireturn, 1) := dk_172 (dk_at dksX1_whelksIn_1 22 rfl rfl)
abbrev cX1_type : ByteArray := prog_1_method_40_code
def yX1_type : MethodName := ⟨RX1, "type", "(C)I"⟩
def dkwX1_type_1 : List UInt8 := [27, 182, 1, 38, 87, 42, 180, 0, 44, 182, 1, 32, 172]
abbrev dktX1_type_1 : List UInt8 := dkwX1_type_1 ++ []
def dkwX1_type_0 : List UInt8 := [42, 180, 0, 44, 182, 1, 32, 16, 60, 162, 0, 7, 4, 167, 0, 4, 3, 184, 1, 35, 42, 180, 0, 44]
abbrev dktX1_type_0 : List UInt8 := dkwX1_type_0 ++ dktX1_type_1
theorem dksX1_type_0 : cX1_type.data.toList.drop 0 = dktX1_type_0 := by decide +kernel
theorem dksX1_type_1 : cX1_type.data.toList.drop 24 = dktX1_type_1 := dk_seg dksX1_type_0 24 rfl rfl
theorem dX1_type_0 : decode cX1_type 0 = .ok (.aload_n 0, 1) := dk_42 (dk_at dksX1_type_0 0 rfl rfl)
theorem dX1_type_1 : decode cX1_type 1 = .ok (.getfield 44, 3) := dk_180 0 44 (dk_at dksX1_type_0 1 rfl rfl)
theorem dX1_type_4 : decode cX1_type 4 = .ok (.invokevirtual 288, 3) := dk_182 1 32 (dk_at dksX1_type_0 4 rfl rfl)
theorem dX1_type_7 : decode cX1_type 7 = .ok (.bipush 60, 2) := dk_16 60 (dk_at dksX1_type_0 7 rfl rfl)
theorem dX1_type_9 : decode cX1_type 9 = .ok (.if_icmp .ge 7, 3) := dk_162 0 7 (dk_at dksX1_type_0 9 rfl rfl)
theorem dX1_type_12 : decode cX1_type 12 = .ok (.iconst 1, 1) := dk_4 (dk_at dksX1_type_0 12 rfl rfl)
theorem dX1_type_13 : decode cX1_type 13 = .ok (.goto 4, 3) := dk_167 0 4 (dk_at dksX1_type_0 13 rfl rfl)
theorem dX1_type_16 : decode cX1_type 16 = .ok (.iconst 0, 1) := dk_3 (dk_at dksX1_type_0 16 rfl rfl)
theorem dX1_type_17 : decode cX1_type 17 = .ok (.invokestatic 291, 3) := dk_184 1 35 (dk_at dksX1_type_0 17 rfl rfl)
theorem dX1_type_20 : decode cX1_type 20 = .ok (.aload_n 0, 1) := dk_42 (dk_at dksX1_type_0 20 rfl rfl)
theorem dX1_type_21 : decode cX1_type 21 = .ok (.getfield 44, 3) := dk_180 0 44 (dk_at dksX1_type_0 21 rfl rfl)
theorem dX1_type_24 : decode cX1_type 24 = .ok (.iload_n 1, 1) := dk_27 (dk_at dksX1_type_1 0 rfl rfl)
theorem dX1_type_25 : decode cX1_type 25 = .ok (.invokevirtual 294, 3) := dk_182 1 38 (dk_at dksX1_type_1 1 rfl rfl)
theorem dX1_type_28 : decode cX1_type 28 = .ok (.pop, 1) := dk_87 (dk_at dksX1_type_1 4 rfl rfl)
theorem dX1_type_29 : decode cX1_type 29 = .ok (.aload_n 0, 1) := dk_42 (dk_at dksX1_type_1 5 rfl rfl)
theorem dX1_type_30 : decode cX1_type 30 = .ok (.getfield 44, 3) := dk_180 0 44 (dk_at dksX1_type_1 6 rfl rfl)
theorem dX1_type_33 : decode cX1_type 33 = .ok (.invokevirtual 288, 3) := dk_182 1 32 (dk_at dksX1_type_1 9 rfl rfl)
theorem dX1_type_36 : decode cX1_type 36 = .ok (.ireturn, 1) := dk_172 (dk_at dksX1_type_1 12 rfl rfl)
abbrev cX1_requireState : ByteArray := prog_1_method_8_code
def yX1_requireState : MethodName := ⟨RX1, "requireState", "(Z)V"⟩
def dkwX1_requireState_0 : List UInt8 := [26, 154, 0, 11, 187, 0, 64, 89, 183, 0, 66, 191, 177]
abbrev dktX1_requireState_0 : List UInt8 := dkwX1_requireState_0 ++ []
theorem dksX1_requireState_0 : cX1_requireState.data.toList.drop 0 = dktX1_requireState_0 := by decide +kernel
theorem dX1_requireState_0 : decode cX1_requireState 0 = .ok (.iload_n 0, 1) := dk_26 (dk_at dksX1_requireState_0 0 rfl rfl)
theorem dX1_requireState_1 : decode cX1_requireState 1 = .ok (.ifCond .ne 11, 3) := dk_154 0 11 (dk_at dksX1_requireState_0 1 rfl rfl)
theorem dX1_requireState_4 : decode cX1_requireState 4 = .ok (.new 64, 3) := dk_187 0 64 (dk_at dksX1_requireState_0 4 rfl rfl)
theorem dX1_requireState_7 : decode cX1_requireState 7 = .ok (.dup, 1) := dk_89 (dk_at dksX1_requireState_0 7 rfl rfl)
theorem dX1_requireState_8 : decode cX1_requireState 8 = .ok (.invokespecial 66, 3) := dk_183 0 66 (dk_at dksX1_requireState_0 8 rfl rfl)
theorem dX1_requireState_11 : decode cX1_requireState 11 = .ok (.athrow, 1) := dk_191 (dk_at dksX1_requireState_0 11 rfl rfl)
theorem dX1_requireState_12 : decode cX1_requireState 12 = .ok (.return_, 1) := dk_177 (dk_at dksX1_requireState_0 12 rfl rfl)
abbrev cX1_read : ByteArray := prog_1_method_43_code
def yX1_read : MethodName := ⟨RX1, "read", "()I"⟩
def dkwX1_read_0 : List UInt8 := [42, 182, 1, 76, 172, 76, 42, 43, 182, 0, 110, 191]
abbrev dktX1_read_0 : List UInt8 := dkwX1_read_0 ++ []
theorem dksX1_read_0 : cX1_read.data.toList.drop 0 = dktX1_read_0 := by decide +kernel
theorem dX1_read_0 : decode cX1_read 0 = .ok (.aload_n 0, 1) := dk_42 (dk_at dksX1_read_0 0 rfl rfl)
theorem dX1_read_1 : decode cX1_read 1 = .ok (.invokevirtual 332, 3) := dk_182 1 76 (dk_at dksX1_read_0 1 rfl rfl)
theorem dX1_read_4 : decode cX1_read 4 = .ok (.ireturn, 1) := dk_172 (dk_at dksX1_read_0 4 rfl rfl)
theorem dX1_read_5 : decode cX1_read 5 = .ok (.astore_n 1, 1) := dk_76 (dk_at dksX1_read_0 5 rfl rfl)
theorem dX1_read_6 : decode cX1_read 6 = .ok (.aload_n 0, 1) := dk_42 (dk_at dksX1_read_0 6 rfl rfl)
theorem dX1_read_7 : decode cX1_read 7 = .ok (.aload_n 1, 1) := dk_43 (dk_at dksX1_read_0 7 rfl rfl)
theorem dX1_read_8 : decode cX1_read 8 = .ok (.invokevirtual 110, 3) := dk_182 0 110 (dk_at dksX1_read_0 8 rfl rfl)
theorem dX1_read_11 : decode cX1_read 11 = .ok (.athrow, 1) := dk_191 (dk_at dksX1_read_0 11 rfl rfl)
abbrev cX1_carriedOut : ByteArray := prog_1_method_42_code
def yX1_carriedOut : MethodName := ⟨RX1, "carriedOut", "()I"⟩
def dkwX1_carriedOut_2 : List UInt8 := [180, 0, 44, 3, 182, 1, 73, 25, 4, 191]
abbrev dktX1_carriedOut_2 : List UInt8 := dkwX1_carriedOut_2 ++ []
def dkwX1_carriedOut_1 : List UInt8 := [44, 44, 43, 184, 1, 69, 182, 0, 106, 62, 42, 180, 0, 44, 3, 182, 1, 73, 29, 172, 58, 4, 42]
abbrev dktX1_carriedOut_1 : List UInt8 := dkwX1_carriedOut_1 ++ dktX1_carriedOut_2
def dkwX1_carriedOut_0 : List UInt8 := [187, 1, 61, 89, 42, 180, 0, 44, 183, 1, 63, 182, 1, 66, 76, 42, 180, 0, 30, 182, 0, 94, 77, 42]
abbrev dktX1_carriedOut_0 : List UInt8 := dkwX1_carriedOut_0 ++ dktX1_carriedOut_1
theorem dksX1_carriedOut_0 : cX1_carriedOut.data.toList.drop 0 = dktX1_carriedOut_0 := by decide +kernel
theorem dksX1_carriedOut_1 : cX1_carriedOut.data.toList.drop 24 = dktX1_carriedOut_1 := dk_seg dksX1_carriedOut_0 24 rfl rfl
theorem dksX1_carriedOut_2 : cX1_carriedOut.data.toList.drop 47 = dktX1_carriedOut_2 := dk_seg dksX1_carriedOut_1 23 rfl rfl
theorem dX1_carriedOut_0 : decode cX1_carriedOut 0 = .ok (.new 317, 3) := dk_187 1 61 (dk_at dksX1_carriedOut_0 0 rfl rfl)
theorem dX1_carriedOut_3 : decode cX1_carriedOut 3 = .ok (.dup, 1) := dk_89 (dk_at dksX1_carriedOut_0 3 rfl rfl)
theorem dX1_carriedOut_4 : decode cX1_carriedOut 4 = .ok (.aload_n 0, 1) := dk_42 (dk_at dksX1_carriedOut_0 4 rfl rfl)
theorem dX1_carriedOut_5 : decode cX1_carriedOut 5 = .ok (.getfield 44, 3) := dk_180 0 44 (dk_at dksX1_carriedOut_0 5 rfl rfl)
theorem dX1_carriedOut_8 : decode cX1_carriedOut 8 = .ok (.invokespecial 319, 3) := dk_183 1 63 (dk_at dksX1_carriedOut_0 8 rfl rfl)
theorem dX1_carriedOut_11 : decode cX1_carriedOut 11 = .ok (.invokevirtual 322, 3) := dk_182 1 66 (dk_at dksX1_carriedOut_0 11 rfl rfl)
theorem dX1_carriedOut_14 : decode cX1_carriedOut 14 = .ok (.astore_n 1, 1) := dk_76 (dk_at dksX1_carriedOut_0 14 rfl rfl)
theorem dX1_carriedOut_15 : decode cX1_carriedOut 15 = .ok (.aload_n 0, 1) := dk_42 (dk_at dksX1_carriedOut_0 15 rfl rfl)
theorem dX1_carriedOut_16 : decode cX1_carriedOut 16 = .ok (.getfield 30, 3) := dk_180 0 30 (dk_at dksX1_carriedOut_0 16 rfl rfl)
theorem dX1_carriedOut_19 : decode cX1_carriedOut 19 = .ok (.invokevirtual 94, 3) := dk_182 0 94 (dk_at dksX1_carriedOut_0 19 rfl rfl)
theorem dX1_carriedOut_22 : decode cX1_carriedOut 22 = .ok (.astore_n 2, 1) := dk_77 (dk_at dksX1_carriedOut_0 22 rfl rfl)
theorem dX1_carriedOut_23 : decode cX1_carriedOut 23 = .ok (.aload_n 0, 1) := dk_42 (dk_at dksX1_carriedOut_0 23 rfl rfl)
theorem dX1_carriedOut_24 : decode cX1_carriedOut 24 = .ok (.aload_n 2, 1) := dk_44 (dk_at dksX1_carriedOut_1 0 rfl rfl)
theorem dX1_carriedOut_25 : decode cX1_carriedOut 25 = .ok (.aload_n 2, 1) := dk_44 (dk_at dksX1_carriedOut_1 1 rfl rfl)
theorem dX1_carriedOut_26 : decode cX1_carriedOut 26 = .ok (.aload_n 1, 1) := dk_43 (dk_at dksX1_carriedOut_1 2 rfl rfl)
theorem dX1_carriedOut_27 : decode cX1_carriedOut 27 = .ok (.invokestatic 325, 3) := dk_184 1 69 (dk_at dksX1_carriedOut_1 3 rfl rfl)
theorem dX1_carriedOut_30 : decode cX1_carriedOut 30 = .ok (.invokevirtual 106, 3) := dk_182 0 106 (dk_at dksX1_carriedOut_1 6 rfl rfl)
theorem dX1_carriedOut_33 : decode cX1_carriedOut 33 = .ok (.istore_n 3, 1) := dk_62 (dk_at dksX1_carriedOut_1 9 rfl rfl)
theorem dX1_carriedOut_34 : decode cX1_carriedOut 34 = .ok (.aload_n 0, 1) := dk_42 (dk_at dksX1_carriedOut_1 10 rfl rfl)
theorem dX1_carriedOut_35 : decode cX1_carriedOut 35 = .ok (.getfield 44, 3) := dk_180 0 44 (dk_at dksX1_carriedOut_1 11 rfl rfl)
theorem dX1_carriedOut_38 : decode cX1_carriedOut 38 = .ok (.iconst 0, 1) := dk_3 (dk_at dksX1_carriedOut_1 14 rfl rfl)
theorem dX1_carriedOut_39 : decode cX1_carriedOut 39 = .ok (.invokevirtual 329, 3) := dk_182 1 73 (dk_at dksX1_carriedOut_1 15 rfl rfl)
theorem dX1_carriedOut_42 : decode cX1_carriedOut 42 = .ok (.iload_n 3, 1) := dk_29 (dk_at dksX1_carriedOut_1 18 rfl rfl)
theorem dX1_carriedOut_43 : decode cX1_carriedOut 43 = .ok (.ireturn, 1) := dk_172 (dk_at dksX1_carriedOut_1 19 rfl rfl)
theorem dX1_carriedOut_44 : decode cX1_carriedOut 44 = .ok (.astore 4, 2) := dk_58 4 (dk_at dksX1_carriedOut_1 20 rfl rfl)
theorem dX1_carriedOut_46 : decode cX1_carriedOut 46 = .ok (.aload_n 0, 1) := dk_42 (dk_at dksX1_carriedOut_1 22 rfl rfl)
theorem dX1_carriedOut_47 : decode cX1_carriedOut 47 = .ok (.getfield 44, 3) := dk_180 0 44 (dk_at dksX1_carriedOut_2 0 rfl rfl)
theorem dX1_carriedOut_50 : decode cX1_carriedOut 50 = .ok (.iconst 0, 1) := dk_3 (dk_at dksX1_carriedOut_2 3 rfl rfl)
theorem dX1_carriedOut_51 : decode cX1_carriedOut 51 = .ok (.invokevirtual 329, 3) := dk_182 1 73 (dk_at dksX1_carriedOut_2 4 rfl rfl)
theorem dX1_carriedOut_54 : decode cX1_carriedOut 54 = .ok (.aload 4, 2) := dk_25 4 (dk_at dksX1_carriedOut_2 7 rfl rfl)
theorem dX1_carriedOut_56 : decode cX1_carriedOut 56 = .ok (.athrow, 1) := dk_191 (dk_at dksX1_carriedOut_2 9 rfl rfl)
abbrev cX1_carryOutAll : ByteArray := prog_1_method_41_code
def yX1_carryOutAll : MethodName := ⟨RX1, "carryOutAll", "(LWhelkFleet$Fleet;Ljava/util/List;)I"⟩
def dkwX1_carryOutAll_2 : List UInt8 := [187, 0, 1, 89, 16, 11, 28, 25, 5, 183, 1, 58, 191, 132, 2, 1, 167, 255, 202, 28, 172]
abbrev dktX1_carryOutAll_2 : List UInt8 := dkwX1_carryOutAll_2 ++ []
def dkwX1_carryOutAll_1 : List UInt8 := [192, 0, 97, 58, 4, 25, 4, 42, 182, 1, 54, 25, 4, 42, 182, 0, 102, 87, 167, 0, 18, 58, 5]
abbrev dktX1_carryOutAll_1 : List UInt8 := dkwX1_carryOutAll_1 ++ dktX1_carryOutAll_2
def dkwX1_carryOutAll_0 : List UInt8 := [3, 61, 43, 185, 1, 42, 1, 0, 78, 45, 185, 1, 46, 1, 0, 153, 0, 51, 45, 185, 1, 51, 1, 0]
abbrev dktX1_carryOutAll_0 : List UInt8 := dkwX1_carryOutAll_0 ++ dktX1_carryOutAll_1
theorem dksX1_carryOutAll_0 : cX1_carryOutAll.data.toList.drop 0 = dktX1_carryOutAll_0 := by decide +kernel
theorem dksX1_carryOutAll_1 : cX1_carryOutAll.data.toList.drop 24 = dktX1_carryOutAll_1 := dk_seg dksX1_carryOutAll_0 24 rfl rfl
theorem dksX1_carryOutAll_2 : cX1_carryOutAll.data.toList.drop 47 = dktX1_carryOutAll_2 := dk_seg dksX1_carryOutAll_1 23 rfl rfl
theorem dX1_carryOutAll_0 : decode cX1_carryOutAll 0 = .ok (.iconst 0, 1) := dk_3 (dk_at dksX1_carryOutAll_0 0 rfl rfl)
theorem dX1_carryOutAll_1 : decode cX1_carryOutAll 1 = .ok (.istore_n 2, 1) := dk_61 (dk_at dksX1_carryOutAll_0 1 rfl rfl)
theorem dX1_carryOutAll_2 : decode cX1_carryOutAll 2 = .ok (.aload_n 1, 1) := dk_43 (dk_at dksX1_carryOutAll_0 2 rfl rfl)
theorem dX1_carryOutAll_3 : decode cX1_carryOutAll 3 = .ok (.invokeinterface 298 1, 5) := by decide +kernel
theorem dX1_carryOutAll_8 : decode cX1_carryOutAll 8 = .ok (.astore_n 3, 1) := dk_78 (dk_at dksX1_carryOutAll_0 8 rfl rfl)
theorem dX1_carryOutAll_9 : decode cX1_carryOutAll 9 = .ok (.aload_n 3, 1) := dk_45 (dk_at dksX1_carryOutAll_0 9 rfl rfl)
theorem dX1_carryOutAll_10 : decode cX1_carryOutAll 10 = .ok (.invokeinterface 302 1, 5) := by decide +kernel
theorem dX1_carryOutAll_15 : decode cX1_carryOutAll 15 = .ok (.ifCond .eq 51, 3) := dk_153 0 51 (dk_at dksX1_carryOutAll_0 15 rfl rfl)
theorem dX1_carryOutAll_18 : decode cX1_carryOutAll 18 = .ok (.aload_n 3, 1) := dk_45 (dk_at dksX1_carryOutAll_0 18 rfl rfl)
theorem dX1_carryOutAll_19 : decode cX1_carryOutAll 19 = .ok (.invokeinterface 307 1, 5) := by decide +kernel
theorem dX1_carryOutAll_24 : decode cX1_carryOutAll 24 = .ok (.checkcast 97, 3) := dk_192 0 97 (dk_at dksX1_carryOutAll_1 0 rfl rfl)
theorem dX1_carryOutAll_27 : decode cX1_carryOutAll 27 = .ok (.astore 4, 2) := dk_58 4 (dk_at dksX1_carryOutAll_1 3 rfl rfl)
theorem dX1_carryOutAll_29 : decode cX1_carryOutAll 29 = .ok (.aload 4, 2) := dk_25 4 (dk_at dksX1_carryOutAll_1 5 rfl rfl)
theorem dX1_carryOutAll_31 : decode cX1_carryOutAll 31 = .ok (.aload_n 0, 1) := dk_42 (dk_at dksX1_carryOutAll_1 7 rfl rfl)
theorem dX1_carryOutAll_32 : decode cX1_carryOutAll 32 = .ok (.invokevirtual 310, 3) := dk_182 1 54 (dk_at dksX1_carryOutAll_1 8 rfl rfl)
theorem dX1_carryOutAll_35 : decode cX1_carryOutAll 35 = .ok (.aload 4, 2) := dk_25 4 (dk_at dksX1_carryOutAll_1 11 rfl rfl)
theorem dX1_carryOutAll_37 : decode cX1_carryOutAll 37 = .ok (.aload_n 0, 1) := dk_42 (dk_at dksX1_carryOutAll_1 13 rfl rfl)
theorem dX1_carryOutAll_38 : decode cX1_carryOutAll 38 = .ok (.invokevirtual 102, 3) := dk_182 0 102 (dk_at dksX1_carryOutAll_1 14 rfl rfl)
theorem dX1_carryOutAll_41 : decode cX1_carryOutAll 41 = .ok (.pop, 1) := dk_87 (dk_at dksX1_carryOutAll_1 17 rfl rfl)
theorem dX1_carryOutAll_42 : decode cX1_carryOutAll 42 = .ok (.goto 18, 3) := dk_167 0 18 (dk_at dksX1_carryOutAll_1 18 rfl rfl)
theorem dX1_carryOutAll_45 : decode cX1_carryOutAll 45 = .ok (.astore 5, 2) := dk_58 5 (dk_at dksX1_carryOutAll_1 21 rfl rfl)
theorem dX1_carryOutAll_47 : decode cX1_carryOutAll 47 = .ok (.new 1, 3) := dk_187 0 1 (dk_at dksX1_carryOutAll_2 0 rfl rfl)
theorem dX1_carryOutAll_50 : decode cX1_carryOutAll 50 = .ok (.dup, 1) := dk_89 (dk_at dksX1_carryOutAll_2 3 rfl rfl)
theorem dX1_carryOutAll_51 : decode cX1_carryOutAll 51 = .ok (.bipush 11, 2) := dk_16 11 (dk_at dksX1_carryOutAll_2 4 rfl rfl)
theorem dX1_carryOutAll_53 : decode cX1_carryOutAll 53 = .ok (.iload_n 2, 1) := dk_28 (dk_at dksX1_carryOutAll_2 6 rfl rfl)
theorem dX1_carryOutAll_54 : decode cX1_carryOutAll 54 = .ok (.aload 5, 2) := dk_25 5 (dk_at dksX1_carryOutAll_2 7 rfl rfl)
theorem dX1_carryOutAll_56 : decode cX1_carryOutAll 56 = .ok (.invokespecial 314, 3) := dk_183 1 58 (dk_at dksX1_carryOutAll_2 9 rfl rfl)
theorem dX1_carryOutAll_59 : decode cX1_carryOutAll 59 = .ok (.athrow, 1) := dk_191 (dk_at dksX1_carryOutAll_2 12 rfl rfl)
theorem dX1_carryOutAll_60 : decode cX1_carryOutAll 60 = .ok (.iinc 2 1, 3) := dk_132 2 1 (dk_at dksX1_carryOutAll_2 13 rfl rfl)
theorem dX1_carryOutAll_63 : decode cX1_carryOutAll 63 = .ok (.goto (-54), 3) := dk_167 255 202 (dk_at dksX1_carryOutAll_2 16 rfl rfl)
theorem dX1_carryOutAll_66 : decode cX1_carryOutAll 66 = .ok (.iload_n 2, 1) := dk_28 (dk_at dksX1_carryOutAll_2 19 rfl rfl)
theorem dX1_carryOutAll_67 : decode cX1_carryOutAll 67 = .ok (.ireturn, 1) := dk_172 (dk_at dksX1_carryOutAll_2 20 rfl rfl)
abbrev cX1_call : ByteArray := prog_1_method_4_code
def yX1_call : MethodName := ⟨RX1, "call", "(Z)V"⟩
def dkwX1_call_0 : List UInt8 := [26, 16, 12, 3, 184, 0, 15, 177]
abbrev dktX1_call_0 : List UInt8 := dkwX1_call_0 ++ []
theorem dksX1_call_0 : cX1_call.data.toList.drop 0 = dktX1_call_0 := by decide +kernel
theorem dX1_call_0 : decode cX1_call 0 = .ok (.iload_n 0, 1) := dk_26 (dk_at dksX1_call_0 0 rfl rfl)
theorem dX1_call_1 : decode cX1_call 1 = .ok (.bipush 12, 2) := dk_16 12 (dk_at dksX1_call_0 1 rfl rfl)
theorem dX1_call_3 : decode cX1_call 3 = .ok (.iconst 0, 1) := dk_3 (dk_at dksX1_call_0 3 rfl rfl)
theorem dX1_call_4 : decode cX1_call 4 = .ok (.invokestatic 15, 3) := dk_184 0 15 (dk_at dksX1_call_0 4 rfl rfl)
theorem dX1_call_7 : decode cX1_call 7 = .ok (.return_, 1) := dk_177 (dk_at dksX1_call_0 7 rfl rfl)
abbrev cX1_errorPosition : ByteArray := prog_1_method_44_code
def yX1_errorPosition : MethodName := ⟨RX1, "errorPosition", "()I"⟩
def dkwX1_errorPosition_0 : List UInt8 := [42, 180, 0, 48, 2, 159, 0, 7, 4, 167, 0, 4, 3, 184, 1, 2, 42, 180, 0, 48, 172]
abbrev dktX1_errorPosition_0 : List UInt8 := dkwX1_errorPosition_0 ++ []
theorem dksX1_errorPosition_0 : cX1_errorPosition.data.toList.drop 0 = dktX1_errorPosition_0 := by decide +kernel
theorem dX1_errorPosition_0 : decode cX1_errorPosition 0 = .ok (.aload_n 0, 1) := dk_42 (dk_at dksX1_errorPosition_0 0 rfl rfl)
theorem dX1_errorPosition_1 : decode cX1_errorPosition 1 = .ok (.getfield 48, 3) := dk_180 0 48 (dk_at dksX1_errorPosition_0 1 rfl rfl)
theorem dX1_errorPosition_4 : decode cX1_errorPosition 4 = .ok (.iconst (-1), 1) := dk_2 (dk_at dksX1_errorPosition_0 4 rfl rfl)
theorem dX1_errorPosition_5 : decode cX1_errorPosition 5 = .ok (.if_icmp .eq 7, 3) := dk_159 0 7 (dk_at dksX1_errorPosition_0 5 rfl rfl)
theorem dX1_errorPosition_8 : decode cX1_errorPosition 8 = .ok (.iconst 1, 1) := dk_4 (dk_at dksX1_errorPosition_0 8 rfl rfl)
theorem dX1_errorPosition_9 : decode cX1_errorPosition 9 = .ok (.goto 4, 3) := dk_167 0 4 (dk_at dksX1_errorPosition_0 9 rfl rfl)
theorem dX1_errorPosition_12 : decode cX1_errorPosition 12 = .ok (.iconst 0, 1) := dk_3 (dk_at dksX1_errorPosition_0 12 rfl rfl)
theorem dX1_errorPosition_13 : decode cX1_errorPosition 13 = .ok (.invokestatic 258, 3) := dk_184 1 2 (dk_at dksX1_errorPosition_0 13 rfl rfl)
theorem dX1_errorPosition_16 : decode cX1_errorPosition 16 = .ok (.aload_n 0, 1) := dk_42 (dk_at dksX1_errorPosition_0 16 rfl rfl)
theorem dX1_errorPosition_17 : decode cX1_errorPosition 17 = .ok (.getfield 48, 3) := dk_180 0 48 (dk_at dksX1_errorPosition_0 17 rfl rfl)
theorem dX1_errorPosition_20 : decode cX1_errorPosition 20 = .ok (.ireturn, 1) := dk_172 (dk_at dksX1_errorPosition_0 20 rfl rfl)
abbrev cX1_refusal : ByteArray := prog_1_method_45_code
def yX1_refusal : MethodName := ⟨RX1, "refusal", "(IZ)I"⟩
def dkwX1_refusal_2 : List UInt8 := [153, 0, 10, 45, 182, 1, 83, 167, 0, 7, 45, 182, 1, 86, 172]
abbrev dktX1_refusal_2 : List UInt8 := dkwX1_refusal_2 ++ []
def dkwX1_refusal_1 : List UInt8 := [42, 180, 0, 87, 27, 182, 1, 79, 78, 45, 198, 0, 7, 4, 167, 0, 4, 3, 184, 1, 2, 28]
abbrev dktX1_refusal_1 : List UInt8 := dkwX1_refusal_1 ++ dktX1_refusal_2
def dkwX1_refusal_0 : List UInt8 := [27, 3, 5, 184, 0, 114, 184, 0, 148, 42, 180, 0, 87, 198, 0, 7, 4, 167, 0, 4, 3, 184, 1, 2]
abbrev dktX1_refusal_0 : List UInt8 := dkwX1_refusal_0 ++ dktX1_refusal_1
theorem dksX1_refusal_0 : cX1_refusal.data.toList.drop 0 = dktX1_refusal_0 := by decide +kernel
theorem dksX1_refusal_1 : cX1_refusal.data.toList.drop 24 = dktX1_refusal_1 := dk_seg dksX1_refusal_0 24 rfl rfl
theorem dksX1_refusal_2 : cX1_refusal.data.toList.drop 46 = dktX1_refusal_2 := dk_seg dksX1_refusal_1 22 rfl rfl
theorem dX1_refusal_0 : decode cX1_refusal 0 = .ok (.iload_n 1, 1) := dk_27 (dk_at dksX1_refusal_0 0 rfl rfl)
theorem dX1_refusal_1 : decode cX1_refusal 1 = .ok (.iconst 0, 1) := dk_3 (dk_at dksX1_refusal_0 1 rfl rfl)
theorem dX1_refusal_2 : decode cX1_refusal 2 = .ok (.iconst 2, 1) := dk_5 (dk_at dksX1_refusal_0 2 rfl rfl)
theorem dX1_refusal_3 : decode cX1_refusal 3 = .ok (.invokestatic 114, 3) := dk_184 0 114 (dk_at dksX1_refusal_0 3 rfl rfl)
theorem dX1_refusal_6 : decode cX1_refusal 6 = .ok (.invokestatic 148, 3) := dk_184 0 148 (dk_at dksX1_refusal_0 6 rfl rfl)
theorem dX1_refusal_9 : decode cX1_refusal 9 = .ok (.aload_n 0, 1) := dk_42 (dk_at dksX1_refusal_0 9 rfl rfl)
theorem dX1_refusal_10 : decode cX1_refusal 10 = .ok (.getfield 87, 3) := dk_180 0 87 (dk_at dksX1_refusal_0 10 rfl rfl)
theorem dX1_refusal_13 : decode cX1_refusal 13 = .ok (.ifnull 7, 3) := dk_198 0 7 (dk_at dksX1_refusal_0 13 rfl rfl)
theorem dX1_refusal_16 : decode cX1_refusal 16 = .ok (.iconst 1, 1) := dk_4 (dk_at dksX1_refusal_0 16 rfl rfl)
theorem dX1_refusal_17 : decode cX1_refusal 17 = .ok (.goto 4, 3) := dk_167 0 4 (dk_at dksX1_refusal_0 17 rfl rfl)
theorem dX1_refusal_20 : decode cX1_refusal 20 = .ok (.iconst 0, 1) := dk_3 (dk_at dksX1_refusal_0 20 rfl rfl)
theorem dX1_refusal_21 : decode cX1_refusal 21 = .ok (.invokestatic 258, 3) := dk_184 1 2 (dk_at dksX1_refusal_0 21 rfl rfl)
theorem dX1_refusal_24 : decode cX1_refusal 24 = .ok (.aload_n 0, 1) := dk_42 (dk_at dksX1_refusal_1 0 rfl rfl)
theorem dX1_refusal_25 : decode cX1_refusal 25 = .ok (.getfield 87, 3) := dk_180 0 87 (dk_at dksX1_refusal_1 1 rfl rfl)
theorem dX1_refusal_28 : decode cX1_refusal 28 = .ok (.iload_n 1, 1) := dk_27 (dk_at dksX1_refusal_1 4 rfl rfl)
theorem dX1_refusal_29 : decode cX1_refusal 29 = .ok (.invokevirtual 335, 3) := dk_182 1 79 (dk_at dksX1_refusal_1 5 rfl rfl)
theorem dX1_refusal_32 : decode cX1_refusal 32 = .ok (.astore_n 3, 1) := dk_78 (dk_at dksX1_refusal_1 8 rfl rfl)
theorem dX1_refusal_33 : decode cX1_refusal 33 = .ok (.aload_n 3, 1) := dk_45 (dk_at dksX1_refusal_1 9 rfl rfl)
theorem dX1_refusal_34 : decode cX1_refusal 34 = .ok (.ifnull 7, 3) := dk_198 0 7 (dk_at dksX1_refusal_1 10 rfl rfl)
theorem dX1_refusal_37 : decode cX1_refusal 37 = .ok (.iconst 1, 1) := dk_4 (dk_at dksX1_refusal_1 13 rfl rfl)
theorem dX1_refusal_38 : decode cX1_refusal 38 = .ok (.goto 4, 3) := dk_167 0 4 (dk_at dksX1_refusal_1 14 rfl rfl)
theorem dX1_refusal_41 : decode cX1_refusal 41 = .ok (.iconst 0, 1) := dk_3 (dk_at dksX1_refusal_1 17 rfl rfl)
theorem dX1_refusal_42 : decode cX1_refusal 42 = .ok (.invokestatic 258, 3) := dk_184 1 2 (dk_at dksX1_refusal_1 18 rfl rfl)
theorem dX1_refusal_45 : decode cX1_refusal 45 = .ok (.iload_n 2, 1) := dk_28 (dk_at dksX1_refusal_1 21 rfl rfl)
theorem dX1_refusal_46 : decode cX1_refusal 46 = .ok (.ifCond .eq 10, 3) := dk_153 0 10 (dk_at dksX1_refusal_2 0 rfl rfl)
theorem dX1_refusal_49 : decode cX1_refusal 49 = .ok (.aload_n 3, 1) := dk_45 (dk_at dksX1_refusal_2 3 rfl rfl)
theorem dX1_refusal_50 : decode cX1_refusal 50 = .ok (.invokevirtual 339, 3) := dk_182 1 83 (dk_at dksX1_refusal_2 4 rfl rfl)
theorem dX1_refusal_53 : decode cX1_refusal 53 = .ok (.goto 7, 3) := dk_167 0 7 (dk_at dksX1_refusal_2 7 rfl rfl)
theorem dX1_refusal_56 : decode cX1_refusal 56 = .ok (.aload_n 3, 1) := dk_45 (dk_at dksX1_refusal_2 10 rfl rfl)
theorem dX1_refusal_57 : decode cX1_refusal 57 = .ok (.invokevirtual 342, 3) := dk_182 1 86 (dk_at dksX1_refusal_2 11 rfl rfl)
theorem dX1_refusal_60 : decode cX1_refusal 60 = .ok (.ireturn, 1) := dk_172 (dk_at dksX1_refusal_2 14 rfl rfl)
abbrev cX1_describe : ByteArray := prog_1_method_46_code
def yX1_describe : MethodName := ⟨RX1, "describe", "(I)I"⟩
def dkwX1_describe_1 : List UInt8 := [182, 0, 185, 44, 182, 1, 97, 42, 44, 182, 1, 101, 181, 0, 54, 42, 180, 0, 54, 182, 1, 105, 172]
abbrev dktX1_describe_1 : List UInt8 := dkwX1_describe_1 ++ []
def dkwX1_describe_0 : List UInt8 := [187, 0, 41, 89, 19, 1, 89, 183, 1, 91, 27, 182, 1, 94, 16, 32, 182, 1, 38, 77, 42, 27]
abbrev dktX1_describe_0 : List UInt8 := dkwX1_describe_0 ++ dktX1_describe_1
theorem dksX1_describe_0 : cX1_describe.data.toList.drop 0 = dktX1_describe_0 := by decide +kernel
theorem dksX1_describe_1 : cX1_describe.data.toList.drop 22 = dktX1_describe_1 := dk_seg dksX1_describe_0 22 rfl rfl
theorem dX1_describe_0 : decode cX1_describe 0 = .ok (.new 41, 3) := dk_187 0 41 (dk_at dksX1_describe_0 0 rfl rfl)
theorem dX1_describe_3 : decode cX1_describe 3 = .ok (.dup, 1) := dk_89 (dk_at dksX1_describe_0 3 rfl rfl)
theorem dX1_describe_4 : decode cX1_describe 4 = .ok (.ldc_w 345, 3) := dk_19 1 89 (dk_at dksX1_describe_0 4 rfl rfl)
theorem dX1_describe_7 : decode cX1_describe 7 = .ok (.invokespecial 347, 3) := dk_183 1 91 (dk_at dksX1_describe_0 7 rfl rfl)
theorem dX1_describe_10 : decode cX1_describe 10 = .ok (.iload_n 1, 1) := dk_27 (dk_at dksX1_describe_0 10 rfl rfl)
theorem dX1_describe_11 : decode cX1_describe 11 = .ok (.invokevirtual 350, 3) := dk_182 1 94 (dk_at dksX1_describe_0 11 rfl rfl)
theorem dX1_describe_14 : decode cX1_describe 14 = .ok (.bipush 32, 2) := dk_16 32 (dk_at dksX1_describe_0 14 rfl rfl)
theorem dX1_describe_16 : decode cX1_describe 16 = .ok (.invokevirtual 294, 3) := dk_182 1 38 (dk_at dksX1_describe_0 16 rfl rfl)
theorem dX1_describe_19 : decode cX1_describe 19 = .ok (.astore_n 2, 1) := dk_77 (dk_at dksX1_describe_0 19 rfl rfl)
theorem dX1_describe_20 : decode cX1_describe 20 = .ok (.aload_n 0, 1) := dk_42 (dk_at dksX1_describe_0 20 rfl rfl)
theorem dX1_describe_21 : decode cX1_describe 21 = .ok (.iload_n 1, 1) := dk_27 (dk_at dksX1_describe_0 21 rfl rfl)
theorem dX1_describe_22 : decode cX1_describe 22 = .ok (.invokevirtual 185, 3) := dk_182 0 185 (dk_at dksX1_describe_1 0 rfl rfl)
theorem dX1_describe_25 : decode cX1_describe 25 = .ok (.aload_n 2, 1) := dk_44 (dk_at dksX1_describe_1 3 rfl rfl)
theorem dX1_describe_26 : decode cX1_describe 26 = .ok (.invokevirtual 353, 3) := dk_182 1 97 (dk_at dksX1_describe_1 4 rfl rfl)
theorem dX1_describe_29 : decode cX1_describe 29 = .ok (.aload_n 0, 1) := dk_42 (dk_at dksX1_describe_1 7 rfl rfl)
theorem dX1_describe_30 : decode cX1_describe 30 = .ok (.aload_n 2, 1) := dk_44 (dk_at dksX1_describe_1 8 rfl rfl)
theorem dX1_describe_31 : decode cX1_describe 31 = .ok (.invokevirtual 357, 3) := dk_182 1 101 (dk_at dksX1_describe_1 9 rfl rfl)
theorem dX1_describe_34 : decode cX1_describe 34 = .ok (.putfield 54, 3) := dk_181 0 54 (dk_at dksX1_describe_1 12 rfl rfl)
theorem dX1_describe_37 : decode cX1_describe 37 = .ok (.aload_n 0, 1) := dk_42 (dk_at dksX1_describe_1 15 rfl rfl)
theorem dX1_describe_38 : decode cX1_describe 38 = .ok (.getfield 54, 3) := dk_180 0 54 (dk_at dksX1_describe_1 16 rfl rfl)
theorem dX1_describe_41 : decode cX1_describe 41 = .ok (.invokevirtual 361, 3) := dk_182 1 105 (dk_at dksX1_describe_1 19 rfl rfl)
theorem dX1_describe_44 : decode cX1_describe 44 = .ok (.ireturn, 1) := dk_172 (dk_at dksX1_describe_1 22 rfl rfl)
abbrev cX1_written : ByteArray := prog_1_method_47_code
def yX1_written : MethodName := ⟨RX1, "written", "(I)C"⟩
def dkwX1_written_1 : List UInt8 := [182, 1, 108, 172]
abbrev dktX1_written_1 : List UInt8 := dkwX1_written_1 ++ []
def dkwX1_written_0 : List UInt8 := [27, 3, 42, 180, 0, 54, 182, 1, 105, 4, 100, 184, 0, 114, 184, 1, 2, 42, 180, 0, 54, 27]
abbrev dktX1_written_0 : List UInt8 := dkwX1_written_0 ++ dktX1_written_1
theorem dksX1_written_0 : cX1_written.data.toList.drop 0 = dktX1_written_0 := by decide +kernel
theorem dksX1_written_1 : cX1_written.data.toList.drop 22 = dktX1_written_1 := dk_seg dksX1_written_0 22 rfl rfl
theorem dX1_written_0 : decode cX1_written 0 = .ok (.iload_n 1, 1) := dk_27 (dk_at dksX1_written_0 0 rfl rfl)
theorem dX1_written_1 : decode cX1_written 1 = .ok (.iconst 0, 1) := dk_3 (dk_at dksX1_written_0 1 rfl rfl)
theorem dX1_written_2 : decode cX1_written 2 = .ok (.aload_n 0, 1) := dk_42 (dk_at dksX1_written_0 2 rfl rfl)
theorem dX1_written_3 : decode cX1_written 3 = .ok (.getfield 54, 3) := dk_180 0 54 (dk_at dksX1_written_0 3 rfl rfl)
theorem dX1_written_6 : decode cX1_written 6 = .ok (.invokevirtual 361, 3) := dk_182 1 105 (dk_at dksX1_written_0 6 rfl rfl)
theorem dX1_written_9 : decode cX1_written 9 = .ok (.iconst 1, 1) := dk_4 (dk_at dksX1_written_0 9 rfl rfl)
theorem dX1_written_10 : decode cX1_written 10 = .ok (.isub, 1) := dk_100 (dk_at dksX1_written_0 10 rfl rfl)
theorem dX1_written_11 : decode cX1_written 11 = .ok (.invokestatic 114, 3) := dk_184 0 114 (dk_at dksX1_written_0 11 rfl rfl)
theorem dX1_written_14 : decode cX1_written 14 = .ok (.invokestatic 258, 3) := dk_184 1 2 (dk_at dksX1_written_0 14 rfl rfl)
theorem dX1_written_17 : decode cX1_written 17 = .ok (.aload_n 0, 1) := dk_42 (dk_at dksX1_written_0 17 rfl rfl)
theorem dX1_written_18 : decode cX1_written 18 = .ok (.getfield 54, 3) := dk_180 0 54 (dk_at dksX1_written_0 18 rfl rfl)
theorem dX1_written_21 : decode cX1_written 21 = .ok (.iload_n 1, 1) := dk_27 (dk_at dksX1_written_0 21 rfl rfl)
theorem dX1_written_22 : decode cX1_written 22 = .ok (.invokevirtual 364, 3) := dk_182 1 108 (dk_at dksX1_written_1 0 rfl rfl)
theorem dX1_written_25 : decode cX1_written 25 = .ok (.ireturn, 1) := dk_172 (dk_at dksX1_written_1 3 rfl rfl)
abbrev cX1_account : ByteArray := prog_1_method_48_code
def yX1_account : MethodName := ⟨RX1, "account", "(I)I"⟩
def dkwX1_account_8 : List UInt8 := [180, 0, 37, 182, 0, 70, 172, 187, 0, 58, 89, 183, 0, 60, 191]
abbrev dktX1_account_8 : List UInt8 := dkwX1_account_8 ++ []
def dkwX1_account_7 : List UInt8 := [182, 1, 131, 172, 42, 180, 0, 30, 2, 182, 1, 29, 172, 42, 180, 0, 44, 182, 1, 32, 172, 42]
abbrev dktX1_account_7 : List UInt8 := dkwX1_account_7 ++ dktX1_account_8
def dkwX1_account_6 : List UInt8 := [172, 42, 180, 0, 30, 182, 1, 128, 172, 42, 180, 0, 30, 5, 182, 1, 118, 172, 42, 180, 0, 30]
abbrev dktX1_account_6 : List UInt8 := dkwX1_account_6 ++ dktX1_account_7
def dkwX1_account_5 : List UInt8 := [42, 180, 0, 30, 182, 1, 124, 172, 42, 180, 0, 30, 182, 1, 125, 172, 42, 180, 0, 30, 4, 182, 1, 118]
abbrev dktX1_account_5 : List UInt8 := dkwX1_account_5 ++ dktX1_account_6
def dkwX1_account_4 : List UInt8 := [180, 0, 30, 182, 0, 133, 185, 0, 126, 1, 0, 172, 42, 180, 0, 30, 27, 16, 6, 100, 182, 1, 121, 172]
abbrev dktX1_account_4 : List UInt8 := dkwX1_account_4 ++ dktX1_account_5
def dkwX1_account_3 : List UInt8 := [42, 180, 0, 30, 182, 0, 122, 185, 0, 126, 1, 0, 172, 42, 180, 0, 30, 3, 182, 1, 118, 172, 42]
abbrev dktX1_account_3 : List UInt8 := dkwX1_account_3 ++ dktX1_account_4
def dkwX1_account_2 : List UInt8 := [42, 180, 0, 30, 182, 0, 229, 172, 42, 180, 0, 30, 182, 1, 112, 172, 42, 180, 0, 30, 182, 1, 115, 172]
abbrev dktX1_account_2 : List UInt8 := dkwX1_account_2 ++ dktX1_account_3
def dkwX1_account_1 : List UInt8 := [170, 0, 0, 0, 0, 0, 233, 0, 0, 0, 0, 0, 0, 0, 17, 0, 0, 0, 87, 0, 0, 0, 95, 0, 0, 0, 103, 0, 0, 0, 111, 0, 0, 0, 124, 0, 0, 0, 133, 0, 0, 0, 146, 0, 0, 0, 146, 0, 0, 0, 146, 0, 0, 0, 158, 0, 0, 0, 166, 0, 0, 0, 174, 0, 0, 0, 183, 0, 0, 0, 191, 0, 0, 0, 200, 0, 0, 0, 208, 0, 0, 0, 217, 0, 0, 0, 225]
abbrev dktX1_account_1 : List UInt8 := dkwX1_account_1 ++ dktX1_account_2
def dkwX1_account_0 : List UInt8 := [27]
abbrev dktX1_account_0 : List UInt8 := dkwX1_account_0 ++ dktX1_account_1
theorem dksX1_account_0 : cX1_account.data.toList.drop 0 = dktX1_account_0 := by decide +kernel
theorem dksX1_account_1 : cX1_account.data.toList.drop 1 = dktX1_account_1 := dk_seg dksX1_account_0 1 rfl rfl
theorem dksX1_account_2 : cX1_account.data.toList.drop 88 = dktX1_account_2 := dk_seg dksX1_account_1 87 rfl rfl
theorem dksX1_account_3 : cX1_account.data.toList.drop 112 = dktX1_account_3 := dk_seg dksX1_account_2 24 rfl rfl
theorem dksX1_account_4 : cX1_account.data.toList.drop 135 = dktX1_account_4 := dk_seg dksX1_account_3 23 rfl rfl
theorem dksX1_account_5 : cX1_account.data.toList.drop 159 = dktX1_account_5 := dk_seg dksX1_account_4 24 rfl rfl
theorem dksX1_account_6 : cX1_account.data.toList.drop 183 = dktX1_account_6 := dk_seg dksX1_account_5 24 rfl rfl
theorem dksX1_account_7 : cX1_account.data.toList.drop 205 = dktX1_account_7 := dk_seg dksX1_account_6 22 rfl rfl
theorem dksX1_account_8 : cX1_account.data.toList.drop 227 = dktX1_account_8 := dk_seg dksX1_account_7 22 rfl rfl
theorem dX1_account_0 : decode cX1_account 0 = .ok (.iload_n 1, 1) := dk_27 (dk_at dksX1_account_0 0 rfl rfl)
theorem dX1_account_1 : decode cX1_account 1 = .ok (.tableswitch 233 0 17 #[87, 95, 103, 111, 124, 133, 146, 146, 146, 158, 166, 174, 183, 191, 200, 208, 217, 225], 87) := by decide +kernel
theorem dX1_account_88 : decode cX1_account 88 = .ok (.aload_n 0, 1) := dk_42 (dk_at dksX1_account_2 0 rfl rfl)
theorem dX1_account_89 : decode cX1_account 89 = .ok (.getfield 30, 3) := dk_180 0 30 (dk_at dksX1_account_2 1 rfl rfl)
theorem dX1_account_92 : decode cX1_account 92 = .ok (.invokevirtual 229, 3) := dk_182 0 229 (dk_at dksX1_account_2 4 rfl rfl)
theorem dX1_account_95 : decode cX1_account 95 = .ok (.ireturn, 1) := dk_172 (dk_at dksX1_account_2 7 rfl rfl)
theorem dX1_account_96 : decode cX1_account 96 = .ok (.aload_n 0, 1) := dk_42 (dk_at dksX1_account_2 8 rfl rfl)
theorem dX1_account_97 : decode cX1_account 97 = .ok (.getfield 30, 3) := dk_180 0 30 (dk_at dksX1_account_2 9 rfl rfl)
theorem dX1_account_100 : decode cX1_account 100 = .ok (.invokevirtual 368, 3) := dk_182 1 112 (dk_at dksX1_account_2 12 rfl rfl)
theorem dX1_account_103 : decode cX1_account 103 = .ok (.ireturn, 1) := dk_172 (dk_at dksX1_account_2 15 rfl rfl)
theorem dX1_account_104 : decode cX1_account 104 = .ok (.aload_n 0, 1) := dk_42 (dk_at dksX1_account_2 16 rfl rfl)
theorem dX1_account_105 : decode cX1_account 105 = .ok (.getfield 30, 3) := dk_180 0 30 (dk_at dksX1_account_2 17 rfl rfl)
theorem dX1_account_108 : decode cX1_account 108 = .ok (.invokevirtual 371, 3) := dk_182 1 115 (dk_at dksX1_account_2 20 rfl rfl)
theorem dX1_account_111 : decode cX1_account 111 = .ok (.ireturn, 1) := dk_172 (dk_at dksX1_account_2 23 rfl rfl)
theorem dX1_account_112 : decode cX1_account 112 = .ok (.aload_n 0, 1) := dk_42 (dk_at dksX1_account_3 0 rfl rfl)
theorem dX1_account_113 : decode cX1_account 113 = .ok (.getfield 30, 3) := dk_180 0 30 (dk_at dksX1_account_3 1 rfl rfl)
theorem dX1_account_116 : decode cX1_account 116 = .ok (.invokevirtual 122, 3) := dk_182 0 122 (dk_at dksX1_account_3 4 rfl rfl)
theorem dX1_account_119 : decode cX1_account 119 = .ok (.invokeinterface 126 1, 5) := by decide +kernel
theorem dX1_account_124 : decode cX1_account 124 = .ok (.ireturn, 1) := dk_172 (dk_at dksX1_account_3 12 rfl rfl)
theorem dX1_account_125 : decode cX1_account 125 = .ok (.aload_n 0, 1) := dk_42 (dk_at dksX1_account_3 13 rfl rfl)
theorem dX1_account_126 : decode cX1_account 126 = .ok (.getfield 30, 3) := dk_180 0 30 (dk_at dksX1_account_3 14 rfl rfl)
theorem dX1_account_129 : decode cX1_account 129 = .ok (.iconst 0, 1) := dk_3 (dk_at dksX1_account_3 17 rfl rfl)
theorem dX1_account_130 : decode cX1_account 130 = .ok (.invokevirtual 374, 3) := dk_182 1 118 (dk_at dksX1_account_3 18 rfl rfl)
theorem dX1_account_133 : decode cX1_account 133 = .ok (.ireturn, 1) := dk_172 (dk_at dksX1_account_3 21 rfl rfl)
theorem dX1_account_134 : decode cX1_account 134 = .ok (.aload_n 0, 1) := dk_42 (dk_at dksX1_account_3 22 rfl rfl)
theorem dX1_account_135 : decode cX1_account 135 = .ok (.getfield 30, 3) := dk_180 0 30 (dk_at dksX1_account_4 0 rfl rfl)
theorem dX1_account_138 : decode cX1_account 138 = .ok (.invokevirtual 133, 3) := dk_182 0 133 (dk_at dksX1_account_4 3 rfl rfl)
theorem dX1_account_141 : decode cX1_account 141 = .ok (.invokeinterface 126 1, 5) := by decide +kernel
theorem dX1_account_146 : decode cX1_account 146 = .ok (.ireturn, 1) := dk_172 (dk_at dksX1_account_4 11 rfl rfl)
theorem dX1_account_147 : decode cX1_account 147 = .ok (.aload_n 0, 1) := dk_42 (dk_at dksX1_account_4 12 rfl rfl)
theorem dX1_account_148 : decode cX1_account 148 = .ok (.getfield 30, 3) := dk_180 0 30 (dk_at dksX1_account_4 13 rfl rfl)
theorem dX1_account_151 : decode cX1_account 151 = .ok (.iload_n 1, 1) := dk_27 (dk_at dksX1_account_4 16 rfl rfl)
theorem dX1_account_152 : decode cX1_account 152 = .ok (.bipush 6, 2) := dk_16 6 (dk_at dksX1_account_4 17 rfl rfl)
theorem dX1_account_154 : decode cX1_account 154 = .ok (.isub, 1) := dk_100 (dk_at dksX1_account_4 19 rfl rfl)
theorem dX1_account_155 : decode cX1_account 155 = .ok (.invokevirtual 377, 3) := dk_182 1 121 (dk_at dksX1_account_4 20 rfl rfl)
theorem dX1_account_158 : decode cX1_account 158 = .ok (.ireturn, 1) := dk_172 (dk_at dksX1_account_4 23 rfl rfl)
theorem dX1_account_159 : decode cX1_account 159 = .ok (.aload_n 0, 1) := dk_42 (dk_at dksX1_account_5 0 rfl rfl)
theorem dX1_account_160 : decode cX1_account 160 = .ok (.getfield 30, 3) := dk_180 0 30 (dk_at dksX1_account_5 1 rfl rfl)
theorem dX1_account_163 : decode cX1_account 163 = .ok (.invokevirtual 380, 3) := dk_182 1 124 (dk_at dksX1_account_5 4 rfl rfl)
theorem dX1_account_166 : decode cX1_account 166 = .ok (.ireturn, 1) := dk_172 (dk_at dksX1_account_5 7 rfl rfl)
theorem dX1_account_167 : decode cX1_account 167 = .ok (.aload_n 0, 1) := dk_42 (dk_at dksX1_account_5 8 rfl rfl)
theorem dX1_account_168 : decode cX1_account 168 = .ok (.getfield 30, 3) := dk_180 0 30 (dk_at dksX1_account_5 9 rfl rfl)
theorem dX1_account_171 : decode cX1_account 171 = .ok (.invokevirtual 381, 3) := dk_182 1 125 (dk_at dksX1_account_5 12 rfl rfl)
theorem dX1_account_174 : decode cX1_account 174 = .ok (.ireturn, 1) := dk_172 (dk_at dksX1_account_5 15 rfl rfl)
theorem dX1_account_175 : decode cX1_account 175 = .ok (.aload_n 0, 1) := dk_42 (dk_at dksX1_account_5 16 rfl rfl)
theorem dX1_account_176 : decode cX1_account 176 = .ok (.getfield 30, 3) := dk_180 0 30 (dk_at dksX1_account_5 17 rfl rfl)
theorem dX1_account_179 : decode cX1_account 179 = .ok (.iconst 1, 1) := dk_4 (dk_at dksX1_account_5 20 rfl rfl)
theorem dX1_account_180 : decode cX1_account 180 = .ok (.invokevirtual 374, 3) := dk_182 1 118 (dk_at dksX1_account_5 21 rfl rfl)
theorem dX1_account_183 : decode cX1_account 183 = .ok (.ireturn, 1) := dk_172 (dk_at dksX1_account_6 0 rfl rfl)
theorem dX1_account_184 : decode cX1_account 184 = .ok (.aload_n 0, 1) := dk_42 (dk_at dksX1_account_6 1 rfl rfl)
theorem dX1_account_185 : decode cX1_account 185 = .ok (.getfield 30, 3) := dk_180 0 30 (dk_at dksX1_account_6 2 rfl rfl)
theorem dX1_account_188 : decode cX1_account 188 = .ok (.invokevirtual 384, 3) := dk_182 1 128 (dk_at dksX1_account_6 5 rfl rfl)
theorem dX1_account_191 : decode cX1_account 191 = .ok (.ireturn, 1) := dk_172 (dk_at dksX1_account_6 8 rfl rfl)
theorem dX1_account_192 : decode cX1_account 192 = .ok (.aload_n 0, 1) := dk_42 (dk_at dksX1_account_6 9 rfl rfl)
theorem dX1_account_193 : decode cX1_account 193 = .ok (.getfield 30, 3) := dk_180 0 30 (dk_at dksX1_account_6 10 rfl rfl)
theorem dX1_account_196 : decode cX1_account 196 = .ok (.iconst 2, 1) := dk_5 (dk_at dksX1_account_6 13 rfl rfl)
theorem dX1_account_197 : decode cX1_account 197 = .ok (.invokevirtual 374, 3) := dk_182 1 118 (dk_at dksX1_account_6 14 rfl rfl)
theorem dX1_account_200 : decode cX1_account 200 = .ok (.ireturn, 1) := dk_172 (dk_at dksX1_account_6 17 rfl rfl)
theorem dX1_account_201 : decode cX1_account 201 = .ok (.aload_n 0, 1) := dk_42 (dk_at dksX1_account_6 18 rfl rfl)
theorem dX1_account_202 : decode cX1_account 202 = .ok (.getfield 30, 3) := dk_180 0 30 (dk_at dksX1_account_6 19 rfl rfl)
theorem dX1_account_205 : decode cX1_account 205 = .ok (.invokevirtual 387, 3) := dk_182 1 131 (dk_at dksX1_account_7 0 rfl rfl)
theorem dX1_account_208 : decode cX1_account 208 = .ok (.ireturn, 1) := dk_172 (dk_at dksX1_account_7 3 rfl rfl)
theorem dX1_account_209 : decode cX1_account 209 = .ok (.aload_n 0, 1) := dk_42 (dk_at dksX1_account_7 4 rfl rfl)
theorem dX1_account_210 : decode cX1_account 210 = .ok (.getfield 30, 3) := dk_180 0 30 (dk_at dksX1_account_7 5 rfl rfl)
theorem dX1_account_213 : decode cX1_account 213 = .ok (.iconst (-1), 1) := dk_2 (dk_at dksX1_account_7 8 rfl rfl)
theorem dX1_account_214 : decode cX1_account 214 = .ok (.invokevirtual 285, 3) := dk_182 1 29 (dk_at dksX1_account_7 9 rfl rfl)
theorem dX1_account_217 : decode cX1_account 217 = .ok (.ireturn, 1) := dk_172 (dk_at dksX1_account_7 12 rfl rfl)
theorem dX1_account_218 : decode cX1_account 218 = .ok (.aload_n 0, 1) := dk_42 (dk_at dksX1_account_7 13 rfl rfl)
theorem dX1_account_219 : decode cX1_account 219 = .ok (.getfield 44, 3) := dk_180 0 44 (dk_at dksX1_account_7 14 rfl rfl)
theorem dX1_account_222 : decode cX1_account 222 = .ok (.invokevirtual 288, 3) := dk_182 1 32 (dk_at dksX1_account_7 17 rfl rfl)
theorem dX1_account_225 : decode cX1_account 225 = .ok (.ireturn, 1) := dk_172 (dk_at dksX1_account_7 20 rfl rfl)
theorem dX1_account_226 : decode cX1_account 226 = .ok (.aload_n 0, 1) := dk_42 (dk_at dksX1_account_7 21 rfl rfl)
theorem dX1_account_227 : decode cX1_account 227 = .ok (.getfield 37, 3) := dk_180 0 37 (dk_at dksX1_account_8 0 rfl rfl)
theorem dX1_account_230 : decode cX1_account 230 = .ok (.invokevirtual 70, 3) := dk_182 0 70 (dk_at dksX1_account_8 3 rfl rfl)
theorem dX1_account_233 : decode cX1_account 233 = .ok (.ireturn, 1) := dk_172 (dk_at dksX1_account_8 6 rfl rfl)
theorem dX1_account_234 : decode cX1_account 234 = .ok (.new 58, 3) := dk_187 0 58 (dk_at dksX1_account_8 7 rfl rfl)
theorem dX1_account_237 : decode cX1_account 237 = .ok (.dup, 1) := dk_89 (dk_at dksX1_account_8 10 rfl rfl)
theorem dX1_account_238 : decode cX1_account 238 = .ok (.invokespecial 60, 3) := dk_183 0 60 (dk_at dksX1_account_8 11 rfl rfl)
theorem dX1_account_241 : decode cX1_account 241 = .ok (.athrow, 1) := dk_191 (dk_at dksX1_account_8 14 rfl rfl)
abbrev cX1_meanPots : ByteArray := prog_1_method_50_code
def yX1_meanPots : MethodName := ⟨RX1, "meanPots", "()D"⟩
def dkwX1_meanPots_1 : List UInt8 := [191, 42, 180, 0, 30, 4, 182, 1, 121, 135, 27, 135, 111, 175]
abbrev dktX1_meanPots_1 : List UInt8 := dkwX1_meanPots_1 ++ []
def dkwX1_meanPots_0 : List UInt8 := [42, 180, 0, 30, 182, 0, 133, 185, 0, 126, 1, 0, 60, 27, 154, 0, 11, 187, 1, 134, 89, 183, 1, 136]
abbrev dktX1_meanPots_0 : List UInt8 := dkwX1_meanPots_0 ++ dktX1_meanPots_1
theorem dksX1_meanPots_0 : cX1_meanPots.data.toList.drop 0 = dktX1_meanPots_0 := by decide +kernel
theorem dksX1_meanPots_1 : cX1_meanPots.data.toList.drop 24 = dktX1_meanPots_1 := dk_seg dksX1_meanPots_0 24 rfl rfl
theorem dX1_meanPots_0 : decode cX1_meanPots 0 = .ok (.aload_n 0, 1) := dk_42 (dk_at dksX1_meanPots_0 0 rfl rfl)
theorem dX1_meanPots_1 : decode cX1_meanPots 1 = .ok (.getfield 30, 3) := dk_180 0 30 (dk_at dksX1_meanPots_0 1 rfl rfl)
theorem dX1_meanPots_4 : decode cX1_meanPots 4 = .ok (.invokevirtual 133, 3) := dk_182 0 133 (dk_at dksX1_meanPots_0 4 rfl rfl)
theorem dX1_meanPots_7 : decode cX1_meanPots 7 = .ok (.invokeinterface 126 1, 5) := by decide +kernel
theorem dX1_meanPots_12 : decode cX1_meanPots 12 = .ok (.istore_n 1, 1) := dk_60 (dk_at dksX1_meanPots_0 12 rfl rfl)
theorem dX1_meanPots_13 : decode cX1_meanPots 13 = .ok (.iload_n 1, 1) := dk_27 (dk_at dksX1_meanPots_0 13 rfl rfl)
theorem dX1_meanPots_14 : decode cX1_meanPots 14 = .ok (.ifCond .ne 11, 3) := dk_154 0 11 (dk_at dksX1_meanPots_0 14 rfl rfl)
theorem dX1_meanPots_17 : decode cX1_meanPots 17 = .ok (.new 390, 3) := dk_187 1 134 (dk_at dksX1_meanPots_0 17 rfl rfl)
theorem dX1_meanPots_20 : decode cX1_meanPots 20 = .ok (.dup, 1) := dk_89 (dk_at dksX1_meanPots_0 20 rfl rfl)
theorem dX1_meanPots_21 : decode cX1_meanPots 21 = .ok (.invokespecial 392, 3) := dk_183 1 136 (dk_at dksX1_meanPots_0 21 rfl rfl)
theorem dX1_meanPots_24 : decode cX1_meanPots 24 = .ok (.athrow, 1) := dk_191 (dk_at dksX1_meanPots_1 0 rfl rfl)
theorem dX1_meanPots_25 : decode cX1_meanPots 25 = .ok (.aload_n 0, 1) := dk_42 (dk_at dksX1_meanPots_1 1 rfl rfl)
theorem dX1_meanPots_26 : decode cX1_meanPots 26 = .ok (.getfield 30, 3) := dk_180 0 30 (dk_at dksX1_meanPots_1 2 rfl rfl)
theorem dX1_meanPots_29 : decode cX1_meanPots 29 = .ok (.iconst 1, 1) := dk_4 (dk_at dksX1_meanPots_1 5 rfl rfl)
theorem dX1_meanPots_30 : decode cX1_meanPots 30 = .ok (.invokevirtual 377, 3) := dk_182 1 121 (dk_at dksX1_meanPots_1 6 rfl rfl)
theorem dX1_meanPots_33 : decode cX1_meanPots 33 = .ok (.i2d, 1) := dk_135 (dk_at dksX1_meanPots_1 9 rfl rfl)
theorem dX1_meanPots_34 : decode cX1_meanPots 34 = .ok (.iload_n 1, 1) := dk_27 (dk_at dksX1_meanPots_1 10 rfl rfl)
theorem dX1_meanPots_35 : decode cX1_meanPots 35 = .ok (.i2d, 1) := dk_135 (dk_at dksX1_meanPots_1 11 rfl rfl)
theorem dX1_meanPots_36 : decode cX1_meanPots 36 = .ok (.ddiv, 1) := dk_111 (dk_at dksX1_meanPots_1 12 rfl rfl)
theorem dX1_meanPots_37 : decode cX1_meanPots 37 = .ok (.dreturn, 1) := dk_175 (dk_at dksX1_meanPots_1 13 rfl rfl)
abbrev cX1_backShare : ByteArray := prog_1_method_51_code
def yX1_backShare : MethodName := ⟨RX1, "backShare", "()F"⟩
def dkwX1_backShare_1 : List UInt8 := [182, 1, 125, 134, 42, 180, 0, 30, 182, 1, 124, 134, 110, 174]
abbrev dktX1_backShare_1 : List UInt8 := dkwX1_backShare_1 ++ []
def dkwX1_backShare_0 : List UInt8 := [42, 180, 0, 30, 182, 1, 124, 154, 0, 11, 187, 1, 134, 89, 183, 1, 136, 191, 42, 180, 0, 30]
abbrev dktX1_backShare_0 : List UInt8 := dkwX1_backShare_0 ++ dktX1_backShare_1
theorem dksX1_backShare_0 : cX1_backShare.data.toList.drop 0 = dktX1_backShare_0 := by decide +kernel
theorem dksX1_backShare_1 : cX1_backShare.data.toList.drop 22 = dktX1_backShare_1 := dk_seg dksX1_backShare_0 22 rfl rfl
theorem dX1_backShare_0 : decode cX1_backShare 0 = .ok (.aload_n 0, 1) := dk_42 (dk_at dksX1_backShare_0 0 rfl rfl)
theorem dX1_backShare_1 : decode cX1_backShare 1 = .ok (.getfield 30, 3) := dk_180 0 30 (dk_at dksX1_backShare_0 1 rfl rfl)
theorem dX1_backShare_4 : decode cX1_backShare 4 = .ok (.invokevirtual 380, 3) := dk_182 1 124 (dk_at dksX1_backShare_0 4 rfl rfl)
theorem dX1_backShare_7 : decode cX1_backShare 7 = .ok (.ifCond .ne 11, 3) := dk_154 0 11 (dk_at dksX1_backShare_0 7 rfl rfl)
theorem dX1_backShare_10 : decode cX1_backShare 10 = .ok (.new 390, 3) := dk_187 1 134 (dk_at dksX1_backShare_0 10 rfl rfl)
theorem dX1_backShare_13 : decode cX1_backShare 13 = .ok (.dup, 1) := dk_89 (dk_at dksX1_backShare_0 13 rfl rfl)
theorem dX1_backShare_14 : decode cX1_backShare 14 = .ok (.invokespecial 392, 3) := dk_183 1 136 (dk_at dksX1_backShare_0 14 rfl rfl)
theorem dX1_backShare_17 : decode cX1_backShare 17 = .ok (.athrow, 1) := dk_191 (dk_at dksX1_backShare_0 17 rfl rfl)
theorem dX1_backShare_18 : decode cX1_backShare 18 = .ok (.aload_n 0, 1) := dk_42 (dk_at dksX1_backShare_0 18 rfl rfl)
theorem dX1_backShare_19 : decode cX1_backShare 19 = .ok (.getfield 30, 3) := dk_180 0 30 (dk_at dksX1_backShare_0 19 rfl rfl)
theorem dX1_backShare_22 : decode cX1_backShare 22 = .ok (.invokevirtual 381, 3) := dk_182 1 125 (dk_at dksX1_backShare_1 0 rfl rfl)
theorem dX1_backShare_25 : decode cX1_backShare 25 = .ok (.i2f, 1) := dk_134 (dk_at dksX1_backShare_1 3 rfl rfl)
theorem dX1_backShare_26 : decode cX1_backShare 26 = .ok (.aload_n 0, 1) := dk_42 (dk_at dksX1_backShare_1 4 rfl rfl)
theorem dX1_backShare_27 : decode cX1_backShare 27 = .ok (.getfield 30, 3) := dk_180 0 30 (dk_at dksX1_backShare_1 5 rfl rfl)
theorem dX1_backShare_30 : decode cX1_backShare 30 = .ok (.invokevirtual 380, 3) := dk_182 1 124 (dk_at dksX1_backShare_1 8 rfl rfl)
theorem dX1_backShare_33 : decode cX1_backShare 33 = .ok (.i2f, 1) := dk_134 (dk_at dksX1_backShare_1 11 rfl rfl)
theorem dX1_backShare_34 : decode cX1_backShare 34 = .ok (.fdiv, 1) := dk_110 (dk_at dksX1_backShare_1 12 rfl rfl)
theorem dX1_backShare_35 : decode cX1_backShare 35 = .ok (.freturn, 1) := dk_174 (dk_at dksX1_backShare_1 13 rfl rfl)
abbrev cX1_undo : ByteArray := prog_1_method_52_code
def yX1_undo : MethodName := ⟨RX1, "undo", "()I"⟩
def dkwX1_undo_1 : List UInt8 := [182, 1, 140, 192, 0, 25, 181, 0, 30, 42, 180, 0, 37, 182, 0, 70, 172]
abbrev dktX1_undo_1 : List UInt8 := dkwX1_undo_1 ++ []
def dkwX1_undo_0 : List UInt8 := [42, 180, 0, 37, 182, 1, 137, 154, 0, 7, 4, 167, 0, 4, 3, 184, 1, 35, 42, 42, 180, 0, 37]
abbrev dktX1_undo_0 : List UInt8 := dkwX1_undo_0 ++ dktX1_undo_1
theorem dksX1_undo_0 : cX1_undo.data.toList.drop 0 = dktX1_undo_0 := by decide +kernel
theorem dksX1_undo_1 : cX1_undo.data.toList.drop 23 = dktX1_undo_1 := dk_seg dksX1_undo_0 23 rfl rfl
theorem dX1_undo_0 : decode cX1_undo 0 = .ok (.aload_n 0, 1) := dk_42 (dk_at dksX1_undo_0 0 rfl rfl)
theorem dX1_undo_1 : decode cX1_undo 1 = .ok (.getfield 37, 3) := dk_180 0 37 (dk_at dksX1_undo_0 1 rfl rfl)
theorem dX1_undo_4 : decode cX1_undo 4 = .ok (.invokevirtual 393, 3) := dk_182 1 137 (dk_at dksX1_undo_0 4 rfl rfl)
theorem dX1_undo_7 : decode cX1_undo 7 = .ok (.ifCond .ne 7, 3) := dk_154 0 7 (dk_at dksX1_undo_0 7 rfl rfl)
theorem dX1_undo_10 : decode cX1_undo 10 = .ok (.iconst 1, 1) := dk_4 (dk_at dksX1_undo_0 10 rfl rfl)
theorem dX1_undo_11 : decode cX1_undo 11 = .ok (.goto 4, 3) := dk_167 0 4 (dk_at dksX1_undo_0 11 rfl rfl)
theorem dX1_undo_14 : decode cX1_undo 14 = .ok (.iconst 0, 1) := dk_3 (dk_at dksX1_undo_0 14 rfl rfl)
theorem dX1_undo_15 : decode cX1_undo 15 = .ok (.invokestatic 291, 3) := dk_184 1 35 (dk_at dksX1_undo_0 15 rfl rfl)
theorem dX1_undo_18 : decode cX1_undo 18 = .ok (.aload_n 0, 1) := dk_42 (dk_at dksX1_undo_0 18 rfl rfl)
theorem dX1_undo_19 : decode cX1_undo 19 = .ok (.aload_n 0, 1) := dk_42 (dk_at dksX1_undo_0 19 rfl rfl)
theorem dX1_undo_20 : decode cX1_undo 20 = .ok (.getfield 37, 3) := dk_180 0 37 (dk_at dksX1_undo_0 20 rfl rfl)
theorem dX1_undo_23 : decode cX1_undo 23 = .ok (.invokevirtual 396, 3) := dk_182 1 140 (dk_at dksX1_undo_1 0 rfl rfl)
theorem dX1_undo_26 : decode cX1_undo 26 = .ok (.checkcast 25, 3) := dk_192 0 25 (dk_at dksX1_undo_1 3 rfl rfl)
theorem dX1_undo_29 : decode cX1_undo 29 = .ok (.putfield 30, 3) := dk_181 0 30 (dk_at dksX1_undo_1 6 rfl rfl)
theorem dX1_undo_32 : decode cX1_undo 32 = .ok (.aload_n 0, 1) := dk_42 (dk_at dksX1_undo_1 9 rfl rfl)
theorem dX1_undo_33 : decode cX1_undo 33 = .ok (.getfield 37, 3) := dk_180 0 37 (dk_at dksX1_undo_1 10 rfl rfl)
theorem dX1_undo_36 : decode cX1_undo 36 = .ok (.invokevirtual 70, 3) := dk_182 0 70 (dk_at dksX1_undo_1 13 rfl rfl)
theorem dX1_undo_39 : decode cX1_undo 39 = .ok (.ireturn, 1) := dk_172 (dk_at dksX1_undo_1 16 rfl rfl)
abbrev cX1_restore : ByteArray := prog_1_method_54_code
def yX1_restore : MethodName := ⟨RX1, "restore", "()I"⟩
def dkwX1_restore_1 : List UInt8 := [180, 0, 37, 182, 1, 146, 42, 180, 0, 30, 182, 0, 229, 172]
abbrev dktX1_restore_1 : List UInt8 := dkwX1_restore_1 ++ []
def dkwX1_restore_0 : List UInt8 := [42, 180, 1, 143, 198, 0, 7, 4, 167, 0, 4, 3, 184, 1, 35, 42, 42, 180, 1, 143, 181, 0, 30, 42]
abbrev dktX1_restore_0 : List UInt8 := dkwX1_restore_0 ++ dktX1_restore_1
theorem dksX1_restore_0 : cX1_restore.data.toList.drop 0 = dktX1_restore_0 := by decide +kernel
theorem dksX1_restore_1 : cX1_restore.data.toList.drop 24 = dktX1_restore_1 := dk_seg dksX1_restore_0 24 rfl rfl
theorem dX1_restore_0 : decode cX1_restore 0 = .ok (.aload_n 0, 1) := dk_42 (dk_at dksX1_restore_0 0 rfl rfl)
theorem dX1_restore_1 : decode cX1_restore 1 = .ok (.getfield 399, 3) := dk_180 1 143 (dk_at dksX1_restore_0 1 rfl rfl)
theorem dX1_restore_4 : decode cX1_restore 4 = .ok (.ifnull 7, 3) := dk_198 0 7 (dk_at dksX1_restore_0 4 rfl rfl)
theorem dX1_restore_7 : decode cX1_restore 7 = .ok (.iconst 1, 1) := dk_4 (dk_at dksX1_restore_0 7 rfl rfl)
theorem dX1_restore_8 : decode cX1_restore 8 = .ok (.goto 4, 3) := dk_167 0 4 (dk_at dksX1_restore_0 8 rfl rfl)
theorem dX1_restore_11 : decode cX1_restore 11 = .ok (.iconst 0, 1) := dk_3 (dk_at dksX1_restore_0 11 rfl rfl)
theorem dX1_restore_12 : decode cX1_restore 12 = .ok (.invokestatic 291, 3) := dk_184 1 35 (dk_at dksX1_restore_0 12 rfl rfl)
theorem dX1_restore_15 : decode cX1_restore 15 = .ok (.aload_n 0, 1) := dk_42 (dk_at dksX1_restore_0 15 rfl rfl)
theorem dX1_restore_16 : decode cX1_restore 16 = .ok (.aload_n 0, 1) := dk_42 (dk_at dksX1_restore_0 16 rfl rfl)
theorem dX1_restore_17 : decode cX1_restore 17 = .ok (.getfield 399, 3) := dk_180 1 143 (dk_at dksX1_restore_0 17 rfl rfl)
theorem dX1_restore_20 : decode cX1_restore 20 = .ok (.putfield 30, 3) := dk_181 0 30 (dk_at dksX1_restore_0 20 rfl rfl)
theorem dX1_restore_23 : decode cX1_restore 23 = .ok (.aload_n 0, 1) := dk_42 (dk_at dksX1_restore_0 23 rfl rfl)
theorem dX1_restore_24 : decode cX1_restore 24 = .ok (.getfield 37, 3) := dk_180 0 37 (dk_at dksX1_restore_1 0 rfl rfl)
theorem dX1_restore_27 : decode cX1_restore 27 = .ok (.invokevirtual 402, 3) := dk_182 1 146 (dk_at dksX1_restore_1 3 rfl rfl)
theorem dX1_restore_30 : decode cX1_restore 30 = .ok (.aload_n 0, 1) := dk_42 (dk_at dksX1_restore_1 6 rfl rfl)
theorem dX1_restore_31 : decode cX1_restore 31 = .ok (.getfield 30, 3) := dk_180 0 30 (dk_at dksX1_restore_1 7 rfl rfl)
theorem dX1_restore_34 : decode cX1_restore 34 = .ok (.invokevirtual 229, 3) := dk_182 0 229 (dk_at dksX1_restore_1 10 rfl rfl)
theorem dX1_restore_37 : decode cX1_restore 37 = .ok (.ireturn, 1) := dk_172 (dk_at dksX1_restore_1 13 rfl rfl)
theorem q77 : (Jvm.Cond.initialized "WhelkFleet") ∈ lw_all := lw_g (lw_at lw_m1 1 rfl) rfl
theorem q130 : (Jvm.Cond.instantiable "WhelkFleet" (7 : Nat)) ∈ lw_all := lw_g (lw_at lw_m1 54 rfl) rfl
theorem q132 : (Jvm.Cond.instanceMethod ({ cls := "WhelkFleet", name := "<init>", desc := "()V" } : Jvm.MethodName)) ∈ lw_all := lw_g (lw_at lw_m1 56 rfl) rfl
theorem q133 : (Jvm.Cond.code ({ cls := "WhelkFleet", name := "<init>", desc := "()V" } : Jvm.MethodName) prog_1_method_5_code (1 : Nat) (Option.none : Option Jvm.ClassFile.FieldType)) ∈ lw_all := lw_g (lw_at lw_m1 57 rfl) rfl
theorem q134 : (Jvm.Cond.methodLink "WhelkFleet" (19 : Nat) ({ cls := "java/lang/Object", name := "<init>", desc := "()V" } : Jvm.MethodName)) ∈ lw_all := lw_g (lw_at lw_m1 58 rfl) rfl
theorem q137 : (Jvm.Cond.methodLink "WhelkFleet" (24 : Nat) ({ cls := "WhelkFleet$Fleet", name := "fresh", desc := "()LWhelkFleet$Fleet;" } : Jvm.MethodName)) ∈ lw_all := lw_g (lw_at lw_m1 61 rfl) rfl
theorem q262 : (Jvm.Cond.selects "WhelkFleet" ({ cls := "java/lang/Object", name := "getClass", desc := "()Ljava/lang/Class;" } : Jvm.MethodName) ({ cls := "java/lang/Object", name := "getClass", desc := "()Ljava/lang/Class;" } : Jvm.MethodName)) ∈ lw_all := lw_g (lw_at lw_m1 186 rfl) rfl
theorem q343 : (Jvm.Cond.classLink "WhelkFleet" (34 : Nat) "java/util/LinkedList") ∈ lw_all := lw_g (lw_at lw_m2 27 rfl) rfl
theorem q345 : (Jvm.Cond.methodLink "WhelkFleet" (36 : Nat) ({ cls := "java/util/LinkedList", name := "<init>", desc := "()V" } : Jvm.MethodName)) ∈ lw_all := lw_g (lw_at lw_m2 29 rfl) rfl
theorem q364 : (Jvm.Cond.classLink "WhelkFleet" (41 : Nat) "java/lang/StringBuilder") ∈ lw_all := lw_g (lw_at lw_m2 48 rfl) rfl
theorem q366 : (Jvm.Cond.methodLink "WhelkFleet" (43 : Nat) ({ cls := "java/lang/StringBuilder", name := "<init>", desc := "()V" } : Jvm.MethodName)) ∈ lw_all := lw_g (lw_at lw_m2 50 rfl) rfl
theorem q397 : (Jvm.Cond.stringRef "WhelkFleet" (52 : Nat) "") ∈ lw_tbl := lw_at lw_m2 81 rfl
theorem q398 : (Jvm.Cond.fieldLink "WhelkFleet" (30 : Nat) "WhelkFleet" "fleet" "LWhelkFleet$Fleet;") ∈ lw_all := lw_g (lw_at lw_m2 82 rfl) rfl
theorem q399 : (Jvm.Cond.fieldLink "WhelkFleet" (399 : Nat) "WhelkFleet" "saved" "LWhelkFleet$Fleet;") ∈ lw_all := lw_g (lw_at lw_m2 83 rfl) rfl
theorem q400 : (Jvm.Cond.fieldLink "WhelkFleet" (37 : Nat) "WhelkFleet" "past" "Ljava/util/LinkedList;") ∈ lw_all := lw_g (lw_at lw_m2 84 rfl) rfl
theorem q401 : (Jvm.Cond.fieldLink "WhelkFleet" (44 : Nat) "WhelkFleet" "buffer" "Ljava/lang/StringBuilder;") ∈ lw_all := lw_g (lw_at lw_m2 85 rfl) rfl
theorem q402 : (Jvm.Cond.fieldLink "WhelkFleet" (48 : Nat) "WhelkFleet" "errorAt" "I") ∈ lw_all := lw_g (lw_at lw_m2 86 rfl) rfl
theorem q403 : (Jvm.Cond.fieldLink "WhelkFleet" (87 : Nat) "WhelkFleet" "latest" "LWhelkFleet$Refusal;") ∈ lw_all := lw_g (lw_at lw_m2 87 rfl) rfl
theorem q404 : (Jvm.Cond.fieldLink "WhelkFleet" (54 : Nat) "WhelkFleet" "line" "Ljava/lang/String;") ∈ lw_all := lw_g (lw_at lw_m2 88 rfl) rfl
theorem q405 : (Jvm.Cond.lays "WhelkFleet" "WhelkFleet" "fleet" "LWhelkFleet$Fleet;") ∈ lw_all := lw_g (lw_at lw_m2 89 rfl) rfl
theorem q406 : (Jvm.Cond.soleField "WhelkFleet" "fleet") ∈ lw_all := lw_g (lw_at lw_m2 90 rfl) rfl
theorem q407 : (Jvm.Cond.lays "WhelkFleet" "WhelkFleet" "saved" "LWhelkFleet$Fleet;") ∈ lw_all := lw_g (lw_at lw_m2 91 rfl) rfl
theorem q408 : (Jvm.Cond.soleField "WhelkFleet" "saved") ∈ lw_all := lw_g (lw_at lw_m2 92 rfl) rfl
theorem q409 : (Jvm.Cond.laysFinal "WhelkFleet" "WhelkFleet" "past" "Ljava/util/LinkedList;") ∈ lw_all := lw_g (lw_at lw_m2 93 rfl) rfl
theorem q410 : (Jvm.Cond.soleField "WhelkFleet" "past") ∈ lw_all := lw_g (lw_at lw_m2 94 rfl) rfl
theorem q411 : (Jvm.Cond.laysFinal "WhelkFleet" "WhelkFleet" "buffer" "Ljava/lang/StringBuilder;") ∈ lw_all := lw_g (lw_at lw_m2 95 rfl) rfl
theorem q412 : (Jvm.Cond.soleField "WhelkFleet" "buffer") ∈ lw_all := lw_g (lw_at lw_m2 96 rfl) rfl
theorem q413 : (Jvm.Cond.lays "WhelkFleet" "WhelkFleet" "errorAt" "I") ∈ lw_all := lw_g (lw_at lw_m2 97 rfl) rfl
theorem q414 : (Jvm.Cond.soleField "WhelkFleet" "errorAt") ∈ lw_all := lw_g (lw_at lw_m2 98 rfl) rfl
theorem q415 : (Jvm.Cond.lays "WhelkFleet" "WhelkFleet" "latest" "LWhelkFleet$Refusal;") ∈ lw_all := lw_g (lw_at lw_m2 99 rfl) rfl
theorem q416 : (Jvm.Cond.soleField "WhelkFleet" "latest") ∈ lw_all := lw_g (lw_at lw_m2 100 rfl) rfl
theorem q417 : (Jvm.Cond.lays "WhelkFleet" "WhelkFleet" "line" "Ljava/lang/String;") ∈ lw_all := lw_g (lw_at lw_m2 101 rfl) rfl
theorem q418 : (Jvm.Cond.soleField "WhelkFleet" "line") ∈ lw_all := lw_g (lw_at lw_m2 102 rfl) rfl
theorem q419 : (Jvm.Cond.superclass "WhelkFleet" "java/lang/Object") ∈ lw_all := lw_g (lw_at lw_m2 103 rfl) rfl
theorem q421 : (Jvm.Cond.instanceMethod ({ cls := "WhelkFleet", name := "holdsAgain", desc := "()I" } : Jvm.MethodName)) ∈ lw_all := lw_g (lw_at lw_m2 105 rfl) rfl
theorem q422 : (Jvm.Cond.selects "WhelkFleet" ({ cls := "WhelkFleet", name := "holdsAgain", desc := "()I" } : Jvm.MethodName) ({ cls := "WhelkFleet", name := "holdsAgain", desc := "()I" } : Jvm.MethodName)) ∈ lw_all := lw_g (lw_at lw_m2 106 rfl) rfl
theorem q423 : (Jvm.Cond.code ({ cls := "WhelkFleet", name := "holdsAgain", desc := "()I" } : Jvm.MethodName) prog_1_method_49_code (1 : Nat) (Option.some Jvm.ClassFile.FieldType.int)) ∈ lw_all := lw_g (lw_at lw_m2 107 rfl) rfl
theorem q424 : (Jvm.Cond.methodLink "WhelkFleet" (380 : Nat) ({ cls := "WhelkFleet$Fleet", name := "drawn", desc := "()I" } : Jvm.MethodName)) ∈ lw_all := lw_g (lw_at lw_m2 108 rfl) rfl
theorem q428 : (Jvm.Cond.methodLink "WhelkFleet" (381 : Nat) ({ cls := "WhelkFleet$Fleet", name := "back", desc := "()I" } : Jvm.MethodName)) ∈ lw_all := lw_g (lw_at lw_m2 112 rfl) rfl
theorem q432 : (Jvm.Cond.methodLink "WhelkFleet" (384 : Nat) ({ cls := "WhelkFleet$Fleet", name := "landed", desc := "()I" } : Jvm.MethodName)) ∈ lw_all := lw_g (lw_at lw_m2 116 rfl) rfl
theorem q437 : (Jvm.Cond.instanceMethod ({ cls := "WhelkFleet", name := "save", desc := "()I" } : Jvm.MethodName)) ∈ lw_all := lw_g (lw_at lw_m2 121 rfl) rfl
theorem q438 : (Jvm.Cond.selects "WhelkFleet" ({ cls := "WhelkFleet", name := "save", desc := "()I" } : Jvm.MethodName) ({ cls := "WhelkFleet", name := "save", desc := "()I" } : Jvm.MethodName)) ∈ lw_all := lw_g (lw_at lw_m2 122 rfl) rfl
theorem q439 : (Jvm.Cond.code ({ cls := "WhelkFleet", name := "save", desc := "()I" } : Jvm.MethodName) prog_1_method_53_code (1 : Nat) (Option.some Jvm.ClassFile.FieldType.int)) ∈ lw_all := lw_g (lw_at lw_m2 123 rfl) rfl
theorem q440 : (Jvm.Cond.methodLink "WhelkFleet" (229 : Nat) ({ cls := "WhelkFleet$Fleet", name := "day", desc := "()I" } : Jvm.MethodName)) ∈ lw_all := lw_g (lw_at lw_m2 124 rfl) rfl
theorem q531 : (Jvm.Cond.instanceMethod ({ cls := "WhelkFleet", name := "whelks", desc := "(II)I" } : Jvm.MethodName)) ∈ lw_all := lw_g (lw_at lw_m2 215 rfl) rfl
theorem q532 : (Jvm.Cond.selects "WhelkFleet" ({ cls := "WhelkFleet", name := "whelks", desc := "(II)I" } : Jvm.MethodName) ({ cls := "WhelkFleet", name := "whelks", desc := "(II)I" } : Jvm.MethodName)) ∈ lw_all := lw_g (lw_at lw_m2 216 rfl) rfl
theorem q533 : (Jvm.Cond.code ({ cls := "WhelkFleet", name := "whelks", desc := "(II)I" } : Jvm.MethodName) prog_1_method_18_code (3 : Nat) (Option.some Jvm.ClassFile.FieldType.int)) ∈ lw_all := lw_g (lw_at lw_m2 217 rfl) rfl
theorem q534 : (Jvm.Cond.methodLink "WhelkFleet" (140 : Nat) ({ cls := "WhelkFleet", name := "requireGround", desc := "(I)V" } : Jvm.MethodName)) ∈ lw_all := lw_g (lw_at lw_m2 218 rfl) rfl
theorem q535 : (Jvm.Cond.static ({ cls := "WhelkFleet", name := "requireGround", desc := "(I)V" } : Jvm.MethodName)) ∈ lw_all := lw_g (lw_at lw_m2 219 rfl) rfl
theorem q536 : (Jvm.Cond.code ({ cls := "WhelkFleet", name := "requireGround", desc := "(I)V" } : Jvm.MethodName) prog_1_method_13_code (1 : Nat) (Option.none : Option Jvm.ClassFile.FieldType)) ∈ lw_all := lw_g (lw_at lw_m2 220 rfl) rfl
theorem q537 : (Jvm.Cond.methodLink "WhelkFleet" (114 : Nat) ({ cls := "WhelkFleet", name := "isIn", desc := "(III)Z" } : Jvm.MethodName)) ∈ lw_all := lw_g (lw_at lw_m2 221 rfl) rfl
theorem q538 : (Jvm.Cond.static ({ cls := "WhelkFleet", name := "isIn", desc := "(III)Z" } : Jvm.MethodName)) ∈ lw_all := lw_g (lw_at lw_m2 222 rfl) rfl
theorem q539 : (Jvm.Cond.code ({ cls := "WhelkFleet", name := "isIn", desc := "(III)Z" } : Jvm.MethodName) prog_1_method_2_code (3 : Nat) (Option.some Jvm.ClassFile.FieldType.boolean)) ∈ lw_all := lw_g (lw_at lw_m2 223 rfl) rfl
theorem q540 : (Jvm.Cond.methodLink "WhelkFleet" (118 : Nat) ({ cls := "WhelkFleet", name := "requireIndex", desc := "(Z)V" } : Jvm.MethodName)) ∈ lw_all := lw_g (lw_at lw_m2 224 rfl) rfl
theorem q541 : (Jvm.Cond.static ({ cls := "WhelkFleet", name := "requireIndex", desc := "(Z)V" } : Jvm.MethodName)) ∈ lw_all := lw_g (lw_at lw_m2 225 rfl) rfl
theorem q542 : (Jvm.Cond.code ({ cls := "WhelkFleet", name := "requireIndex", desc := "(Z)V" } : Jvm.MethodName) prog_1_method_7_code (1 : Nat) (Option.none : Option Jvm.ClassFile.FieldType)) ∈ lw_all := lw_g (lw_at lw_m2 226 rfl) rfl
theorem q543 : (Jvm.Cond.classLink "WhelkFleet" (61 : Nat) "java/lang/IndexOutOfBoundsException") ∈ lw_all := lw_g (lw_at lw_m2 227 rfl) rfl
theorem q552 : (Jvm.Cond.methodLink "WhelkFleet" (63 : Nat) ({ cls := "java/lang/IndexOutOfBoundsException", name := "<init>", desc := "()V" } : Jvm.MethodName)) ∈ lw_all := lw_g (lw_at lw_m2 236 rfl) rfl
theorem q564 : (Jvm.Cond.methodLink "WhelkFleet" (144 : Nat) ({ cls := "WhelkFleet", name := "isSize", desc := "(I)Z" } : Jvm.MethodName)) ∈ lw_all := lw_g (lw_at lw_m3 8 rfl) rfl
theorem q565 : (Jvm.Cond.static ({ cls := "WhelkFleet", name := "isSize", desc := "(I)Z" } : Jvm.MethodName)) ∈ lw_all := lw_g (lw_at lw_m3 9 rfl) rfl
theorem q566 : (Jvm.Cond.code ({ cls := "WhelkFleet", name := "isSize", desc := "(I)Z" } : Jvm.MethodName) prog_1_method_16_code (1 : Nat) (Option.some Jvm.ClassFile.FieldType.boolean)) ∈ lw_all := lw_g (lw_at lw_m3 10 rfl) rfl
theorem q567 : (Jvm.Cond.methodLink "WhelkFleet" (148 : Nat) ({ cls := "WhelkFleet", name := "require", desc := "(Z)V" } : Jvm.MethodName)) ∈ lw_all := lw_g (lw_at lw_m3 11 rfl) rfl
theorem q568 : (Jvm.Cond.static ({ cls := "WhelkFleet", name := "require", desc := "(Z)V" } : Jvm.MethodName)) ∈ lw_all := lw_g (lw_at lw_m3 12 rfl) rfl
theorem q569 : (Jvm.Cond.code ({ cls := "WhelkFleet", name := "require", desc := "(Z)V" } : Jvm.MethodName) prog_1_method_6_code (1 : Nat) (Option.none : Option Jvm.ClassFile.FieldType)) ∈ lw_all := lw_g (lw_at lw_m3 13 rfl) rfl
theorem q570 : (Jvm.Cond.classLink "WhelkFleet" (58 : Nat) "java/lang/IllegalArgumentException") ∈ lw_all := lw_g (lw_at lw_m3 14 rfl) rfl
theorem q579 : (Jvm.Cond.methodLink "WhelkFleet" (60 : Nat) ({ cls := "java/lang/IllegalArgumentException", name := "<init>", desc := "()V" } : Jvm.MethodName)) ∈ lw_all := lw_g (lw_at lw_m3 23 rfl) rfl
theorem q585 : (Jvm.Cond.methodLink "WhelkFleet" (151 : Nat) ({ cls := "WhelkFleet$Fleet", name := "ground", desc := "(I)LWhelkFleet$Ground;" } : Jvm.MethodName)) ∈ lw_all := lw_g (lw_at lw_m3 29 rfl) rfl
theorem q833 : (Jvm.Cond.methodLink "WhelkFleet" (155 : Nat) ({ cls := "WhelkFleet$Ground", name := "whelks", desc := "(I)I" } : Jvm.MethodName)) ∈ lw_all := lw_g (lw_at lw_m4 37 rfl) rfl
theorem q841 : (Jvm.Cond.instanceMethod ({ cls := "WhelkFleet", name := "stock", desc := "(III)I" } : Jvm.MethodName)) ∈ lw_all := lw_g (lw_at lw_m4 45 rfl) rfl
theorem q842 : (Jvm.Cond.selects "WhelkFleet" ({ cls := "WhelkFleet", name := "stock", desc := "(III)I" } : Jvm.MethodName) ({ cls := "WhelkFleet", name := "stock", desc := "(III)I" } : Jvm.MethodName)) ∈ lw_all := lw_g (lw_at lw_m4 46 rfl) rfl
theorem q843 : (Jvm.Cond.code ({ cls := "WhelkFleet", name := "stock", desc := "(III)I" } : Jvm.MethodName) prog_1_method_19_code (4 : Nat) (Option.some Jvm.ClassFile.FieldType.int)) ∈ lw_all := lw_g (lw_at lw_m4 47 rfl) rfl
theorem q844 : (Jvm.Cond.stringRef "WhelkFleet" (161 : Nat) "stock") ∈ lw_tbl := lw_at lw_m4 48 rfl
theorem q845 : (Jvm.Cond.methodLink "WhelkFleet" (163 : Nat) ({ cls := "WhelkFleet", name := "changed", desc := "(Ljava/lang/String;III)I" } : Jvm.MethodName)) ∈ lw_all := lw_g (lw_at lw_m4 49 rfl) rfl
theorem q846 : (Jvm.Cond.privateMethod ({ cls := "WhelkFleet", name := "changed", desc := "(Ljava/lang/String;III)I" } : Jvm.MethodName)) ∈ lw_tbl := lw_at lw_m4 50 rfl
theorem q847 : (Jvm.Cond.instanceMethod ({ cls := "WhelkFleet", name := "changed", desc := "(Ljava/lang/String;III)I" } : Jvm.MethodName)) ∈ lw_all := lw_g (lw_at lw_m4 51 rfl) rfl
theorem q848 : (Jvm.Cond.codeWith ({ cls := "WhelkFleet", name := "changed", desc := "(Ljava/lang/String;III)I" } : Jvm.MethodName) prog_1_method_12_code (7 : Nat) (Option.some Jvm.ClassFile.FieldType.int) [((9 : Nat), (32 : Nat), (33 : Nat), (1 : Nat))]) ∈ lw_all := lw_g (lw_at lw_m4 52 rfl) rfl
theorem q849 : (Jvm.Cond.classLink "WhelkFleet" (1 : Nat) "WhelkFleet$Refusal") ∈ lw_all := lw_g (lw_at lw_m4 53 rfl) rfl
theorem q850 : (Jvm.Cond.methodLink "WhelkFleet" (94 : Nat) ({ cls := "WhelkFleet$Fleet", name := "copy", desc := "()LWhelkFleet$Fleet;" } : Jvm.MethodName)) ∈ lw_all := lw_g (lw_at lw_m4 54 rfl) rfl
theorem q1201 : (Jvm.Cond.classLink "WhelkFleet" (97 : Nat) "WhelkFleet$Deed") ∈ lw_all := lw_g (lw_at lw_m5 165 rfl) rfl
theorem q1203 : (Jvm.Cond.methodLink "WhelkFleet" (99 : Nat) ({ cls := "WhelkFleet$Deed", name := "<init>", desc := "(Ljava/lang/String;III)V" } : Jvm.MethodName)) ∈ lw_all := lw_g (lw_at lw_m5 167 rfl) rfl
theorem q1220 : (Jvm.Cond.methodLink "WhelkFleet" (102 : Nat) ({ cls := "WhelkFleet$Deed", name := "does", desc := "(LWhelkFleet$Fleet;)I" } : Jvm.MethodName)) ∈ lw_all := lw_g (lw_at lw_m5 184 rfl) rfl
theorem q1356 : (Jvm.Cond.static ({ cls := "WhelkFleet", name := "meet", desc := "(ZII)V" } : Jvm.MethodName)) ∈ lw_all := lw_g (lw_at lw_m6 80 rfl) rfl
theorem q1357 : (Jvm.Cond.code ({ cls := "WhelkFleet", name := "meet", desc := "(ZII)V" } : Jvm.MethodName) prog_1_method_1_code (3 : Nat) (Option.none : Option Jvm.ClassFile.FieldType)) ∈ lw_all := lw_g (lw_at lw_m6 81 rfl) rfl
theorem q1358 : (Jvm.Cond.methodLink "WhelkFleet" (3 : Nat) ({ cls := "WhelkFleet$Refusal", name := "<init>", desc := "(II)V" } : Jvm.MethodName)) ∈ lw_all := lw_g (lw_at lw_m6 82 rfl) rfl
theorem q1475 : (Jvm.Cond.selects "WhelkFleet" ({ cls := "java/lang/Object", name := "toString", desc := "()Ljava/lang/String;" } : Jvm.MethodName) ({ cls := "java/lang/Object", name := "toString", desc := "()Ljava/lang/String;" } : Jvm.MethodName)) ∈ lw_all := lw_g (lw_at lw_m6 199 rfl) rfl
theorem q1685 : (Jvm.Cond.static ({ cls := "WhelkFleet", name := "held", desc := "(I)I" } : Jvm.MethodName)) ∈ lw_all := lw_g (lw_at lw_m7 169 rfl) rfl
theorem q1686 : (Jvm.Cond.code ({ cls := "WhelkFleet", name := "held", desc := "(I)I" } : Jvm.MethodName) prog_1_method_3_code (1 : Nat) (Option.some Jvm.ClassFile.FieldType.int)) ∈ lw_all := lw_g (lw_at lw_m7 170 rfl) rfl
theorem q1687 : (Jvm.Cond.methodLink "WhelkFleet" (9 : Nat) ({ cls := "java/lang/Math", name := "min", desc := "(II)I" } : Jvm.MethodName)) ∈ lw_all := lw_g (lw_at lw_m7 171 rfl) rfl
theorem q1725 : (Jvm.Cond.methodLink "WhelkFleet" (106 : Nat) ({ cls := "WhelkFleet", name := "become", desc := "(LWhelkFleet$Fleet;I)I" } : Jvm.MethodName)) ∈ lw_all := lw_g (lw_at lw_m7 209 rfl) rfl
theorem q1726 : (Jvm.Cond.privateMethod ({ cls := "WhelkFleet", name := "become", desc := "(LWhelkFleet$Fleet;I)I" } : Jvm.MethodName)) ∈ lw_tbl := lw_at lw_m7 210 rfl
theorem q1727 : (Jvm.Cond.instanceMethod ({ cls := "WhelkFleet", name := "become", desc := "(LWhelkFleet$Fleet;I)I" } : Jvm.MethodName)) ∈ lw_all := lw_g (lw_at lw_m7 211 rfl) rfl
theorem q1728 : (Jvm.Cond.code ({ cls := "WhelkFleet", name := "become", desc := "(LWhelkFleet$Fleet;I)I" } : Jvm.MethodName) prog_1_method_10_code (3 : Nat) (Option.some Jvm.ClassFile.FieldType.int)) ∈ lw_all := lw_g (lw_at lw_m7 212 rfl) rfl
theorem q1729 : (Jvm.Cond.methodLink "WhelkFleet" (70 : Nat) ({ cls := "java/util/LinkedList", name := "size", desc := "()I" } : Jvm.MethodName)) ∈ lw_all := lw_g (lw_at lw_m7 213 rfl) rfl
theorem q1730 : (Jvm.Cond.methodLink "WhelkFleet" (74 : Nat) ({ cls := "java/util/LinkedList", name := "removeFirst", desc := "()Ljava/lang/Object;" } : Jvm.MethodName)) ∈ lw_all := lw_g (lw_at lw_m7 214 rfl) rfl
theorem q1740 : (Jvm.Cond.methodLink "WhelkFleet" (78 : Nat) ({ cls := "java/util/LinkedList", name := "addLast", desc := "(Ljava/lang/Object;)V" } : Jvm.MethodName)) ∈ lw_all := lw_g (lw_at lw_m7 224 rfl) rfl
theorem q1744 : (Jvm.Cond.methodLink "WhelkFleet" (110 : Nat) ({ cls := "WhelkFleet", name := "outside", desc := "(Ljava/lang/Exception;)Ljava/lang/RuntimeException;" } : Jvm.MethodName)) ∈ lw_all := lw_g (lw_at lw_m7 228 rfl) rfl
theorem q1745 : (Jvm.Cond.privateMethod ({ cls := "WhelkFleet", name := "outside", desc := "(Ljava/lang/Exception;)Ljava/lang/RuntimeException;" } : Jvm.MethodName)) ∈ lw_tbl := lw_at lw_m7 229 rfl
theorem q1746 : (Jvm.Cond.instanceMethod ({ cls := "WhelkFleet", name := "outside", desc := "(Ljava/lang/Exception;)Ljava/lang/RuntimeException;" } : Jvm.MethodName)) ∈ lw_all := lw_g (lw_at lw_m7 230 rfl) rfl
theorem q1747 : (Jvm.Cond.code ({ cls := "WhelkFleet", name := "outside", desc := "(Ljava/lang/Exception;)Ljava/lang/RuntimeException;" } : Jvm.MethodName) prog_1_method_11_code (3 : Nat) (Option.some (Jvm.ClassFile.FieldType.object "java/lang/RuntimeException"))) ∈ lw_all := lw_g (lw_at lw_m7 231 rfl) rfl
theorem q1748 : (Jvm.Cond.classLink "WhelkFleet" (82 : Nat) "WhelkFleet$TextError") ∈ lw_all := lw_g (lw_at lw_m7 232 rfl) rfl
theorem q1749 : (Jvm.Cond.methodLink "WhelkFleet" (84 : Nat) ({ cls := "WhelkFleet$TextError", name := "position", desc := "()I" } : Jvm.MethodName)) ∈ lw_all := lw_g (lw_at lw_m7 233 rfl) rfl
theorem q1753 : (Jvm.Cond.classLink "WhelkFleet" (91 : Nat) "java/lang/UnsupportedOperationException") ∈ lw_all := lw_g (lw_at lw_m7 237 rfl) rfl
theorem q1762 : (Jvm.Cond.methodLink "WhelkFleet" (93 : Nat) ({ cls := "java/lang/UnsupportedOperationException", name := "<init>", desc := "()V" } : Jvm.MethodName)) ∈ lw_all := lw_g (lw_at lw_m8 6 rfl) rfl
theorem q1772 : (Jvm.Cond.instanceMethod ({ cls := "WhelkFleet", name := "box", desc := "(II)I" } : Jvm.MethodName)) ∈ lw_all := lw_g (lw_at lw_m8 16 rfl) rfl
theorem q1773 : (Jvm.Cond.selects "WhelkFleet" ({ cls := "WhelkFleet", name := "box", desc := "(II)I" } : Jvm.MethodName) ({ cls := "WhelkFleet", name := "box", desc := "(II)I" } : Jvm.MethodName)) ∈ lw_all := lw_g (lw_at lw_m8 17 rfl) rfl
theorem q1774 : (Jvm.Cond.code ({ cls := "WhelkFleet", name := "box", desc := "(II)I" } : Jvm.MethodName) prog_1_method_20_code (3 : Nat) (Option.some Jvm.ClassFile.FieldType.int)) ∈ lw_all := lw_g (lw_at lw_m8 18 rfl) rfl
theorem q1775 : (Jvm.Cond.methodLink "WhelkFleet" (167 : Nat) ({ cls := "WhelkFleet", name := "isBait", desc := "(I)Z" } : Jvm.MethodName)) ∈ lw_all := lw_g (lw_at lw_m8 19 rfl) rfl
theorem q1776 : (Jvm.Cond.static ({ cls := "WhelkFleet", name := "isBait", desc := "(I)Z" } : Jvm.MethodName)) ∈ lw_all := lw_g (lw_at lw_m8 20 rfl) rfl
theorem q1777 : (Jvm.Cond.code ({ cls := "WhelkFleet", name := "isBait", desc := "(I)Z" } : Jvm.MethodName) prog_1_method_17_code (1 : Nat) (Option.some Jvm.ClassFile.FieldType.boolean)) ∈ lw_all := lw_g (lw_at lw_m8 21 rfl) rfl
theorem q1778 : (Jvm.Cond.stringRef "WhelkFleet" (170 : Nat) "box") ∈ lw_tbl := lw_at lw_m8 22 rfl
theorem q1783 : (Jvm.Cond.instanceMethod ({ cls := "WhelkFleet", name := "bait", desc := "(I)I" } : Jvm.MethodName)) ∈ lw_all := lw_g (lw_at lw_m8 27 rfl) rfl
theorem q1784 : (Jvm.Cond.selects "WhelkFleet" ({ cls := "WhelkFleet", name := "bait", desc := "(I)I" } : Jvm.MethodName) ({ cls := "WhelkFleet", name := "bait", desc := "(I)I" } : Jvm.MethodName)) ∈ lw_all := lw_g (lw_at lw_m8 28 rfl) rfl
theorem q1785 : (Jvm.Cond.code ({ cls := "WhelkFleet", name := "bait", desc := "(I)I" } : Jvm.MethodName) prog_1_method_21_code (2 : Nat) (Option.some Jvm.ClassFile.FieldType.int)) ∈ lw_all := lw_g (lw_at lw_m8 29 rfl) rfl
theorem q1786 : (Jvm.Cond.methodLink "WhelkFleet" (172 : Nat) ({ cls := "WhelkFleet$Fleet", name := "box", desc := "(I)I" } : Jvm.MethodName)) ∈ lw_all := lw_g (lw_at lw_m8 30 rfl) rfl
theorem q1794 : (Jvm.Cond.instanceMethod ({ cls := "WhelkFleet", name := "draws", desc := "(II)I" } : Jvm.MethodName)) ∈ lw_all := lw_g (lw_at lw_m8 38 rfl) rfl
theorem q1795 : (Jvm.Cond.selects "WhelkFleet" ({ cls := "WhelkFleet", name := "draws", desc := "(II)I" } : Jvm.MethodName) ({ cls := "WhelkFleet", name := "draws", desc := "(II)I" } : Jvm.MethodName)) ∈ lw_all := lw_g (lw_at lw_m8 39 rfl) rfl
theorem q1796 : (Jvm.Cond.code ({ cls := "WhelkFleet", name := "draws", desc := "(II)I" } : Jvm.MethodName) prog_1_method_22_code (3 : Nat) (Option.some Jvm.ClassFile.FieldType.int)) ∈ lw_all := lw_g (lw_at lw_m8 40 rfl) rfl
theorem q1797 : (Jvm.Cond.methodLink "WhelkFleet" (174 : Nat) ({ cls := "WhelkFleet$Bait", name := "of", desc := "(I)LWhelkFleet$Bait;" } : Jvm.MethodName)) ∈ lw_all := lw_g (lw_at lw_m8 41 rfl) rfl
theorem q1798 : (Jvm.Cond.methodLink "WhelkFleet" (180 : Nat) ({ cls := "WhelkFleet$Bait", name := "draws", desc := "(I)I" } : Jvm.MethodName)) ∈ lw_all := lw_g (lw_at lw_m8 42 rfl) rfl
theorem q1803 : (Jvm.Cond.instanceMethod ({ cls := "WhelkFleet", name := "bestBait", desc := "(I)I" } : Jvm.MethodName)) ∈ lw_all := lw_g (lw_at lw_m8 47 rfl) rfl
theorem q1804 : (Jvm.Cond.selects "WhelkFleet" ({ cls := "WhelkFleet", name := "bestBait", desc := "(I)I" } : Jvm.MethodName) ({ cls := "WhelkFleet", name := "bestBait", desc := "(I)I" } : Jvm.MethodName)) ∈ lw_all := lw_g (lw_at lw_m8 48 rfl) rfl
theorem q1805 : (Jvm.Cond.code ({ cls := "WhelkFleet", name := "bestBait", desc := "(I)I" } : Jvm.MethodName) prog_1_method_23_code (4 : Nat) (Option.some Jvm.ClassFile.FieldType.int)) ∈ lw_all := lw_g (lw_at lw_m8 49 rfl) rfl
theorem q1811 : (Jvm.Cond.instanceMethod ({ cls := "WhelkFleet", name := "boat", desc := "(I)I" } : Jvm.MethodName)) ∈ lw_all := lw_g (lw_at lw_m8 55 rfl) rfl
theorem q1812 : (Jvm.Cond.selects "WhelkFleet" ({ cls := "WhelkFleet", name := "boat", desc := "(I)I" } : Jvm.MethodName) ({ cls := "WhelkFleet", name := "boat", desc := "(I)I" } : Jvm.MethodName)) ∈ lw_all := lw_g (lw_at lw_m8 56 rfl) rfl
theorem q1813 : (Jvm.Cond.code ({ cls := "WhelkFleet", name := "boat", desc := "(I)I" } : Jvm.MethodName) prog_1_method_24_code (2 : Nat) (Option.some Jvm.ClassFile.FieldType.int)) ∈ lw_all := lw_g (lw_at lw_m8 57 rfl) rfl
theorem q1814 : (Jvm.Cond.stringRef "WhelkFleet" (183 : Nat) "boat") ∈ lw_tbl := lw_at lw_m8 58 rfl
theorem q1819 : (Jvm.Cond.instanceMethod ({ cls := "WhelkFleet", name := "string", desc := "(I)I" } : Jvm.MethodName)) ∈ lw_all := lw_g (lw_at lw_m8 63 rfl) rfl
theorem q1820 : (Jvm.Cond.selects "WhelkFleet" ({ cls := "WhelkFleet", name := "string", desc := "(I)I" } : Jvm.MethodName) ({ cls := "WhelkFleet", name := "string", desc := "(I)I" } : Jvm.MethodName)) ∈ lw_all := lw_g (lw_at lw_m8 64 rfl) rfl
theorem q1821 : (Jvm.Cond.code ({ cls := "WhelkFleet", name := "string", desc := "(I)I" } : Jvm.MethodName) prog_1_method_25_code (2 : Nat) (Option.some Jvm.ClassFile.FieldType.int)) ∈ lw_all := lw_g (lw_at lw_m8 65 rfl) rfl
theorem q1822 : (Jvm.Cond.stringRef "WhelkFleet" (184 : Nat) "string") ∈ lw_tbl := lw_at lw_m8 66 rfl
theorem q1827 : (Jvm.Cond.instanceMethod ({ cls := "WhelkFleet", name := "boatOf", desc := "(II)I" } : Jvm.MethodName)) ∈ lw_all := lw_g (lw_at lw_m8 71 rfl) rfl
theorem q1828 : (Jvm.Cond.selects "WhelkFleet" ({ cls := "WhelkFleet", name := "boatOf", desc := "(II)I" } : Jvm.MethodName) ({ cls := "WhelkFleet", name := "boatOf", desc := "(II)I" } : Jvm.MethodName)) ∈ lw_all := lw_g (lw_at lw_m8 72 rfl) rfl
theorem q1829 : (Jvm.Cond.code ({ cls := "WhelkFleet", name := "boatOf", desc := "(II)I" } : Jvm.MethodName) prog_1_method_26_code (4 : Nat) (Option.some Jvm.ClassFile.FieldType.int)) ∈ lw_all := lw_g (lw_at lw_m8 73 rfl) rfl
theorem q1830 : (Jvm.Cond.methodLink "WhelkFleet" (185 : Nat) ({ cls := "WhelkFleet", name := "boatAt", desc := "(I)LWhelkFleet$Boat;" } : Jvm.MethodName)) ∈ lw_all := lw_g (lw_at lw_m8 74 rfl) rfl
theorem q1831 : (Jvm.Cond.privateMethod ({ cls := "WhelkFleet", name := "boatAt", desc := "(I)LWhelkFleet$Boat;" } : Jvm.MethodName)) ∈ lw_tbl := lw_at lw_m8 75 rfl
theorem q1832 : (Jvm.Cond.instanceMethod ({ cls := "WhelkFleet", name := "boatAt", desc := "(I)LWhelkFleet$Boat;" } : Jvm.MethodName)) ∈ lw_all := lw_g (lw_at lw_m8 76 rfl) rfl
theorem q1833 : (Jvm.Cond.code ({ cls := "WhelkFleet", name := "boatAt", desc := "(I)LWhelkFleet$Boat;" } : Jvm.MethodName) prog_1_method_14_code (2 : Nat) (Option.some (Jvm.ClassFile.FieldType.object "WhelkFleet$Boat"))) ∈ lw_all := lw_g (lw_at lw_m8 77 rfl) rfl
theorem q1834 : (Jvm.Cond.methodLink "WhelkFleet" (122 : Nat) ({ cls := "WhelkFleet$Fleet", name := "boats", desc := "()Ljava/util/List;" } : Jvm.MethodName)) ∈ lw_all := lw_g (lw_at lw_m8 78 rfl) rfl
theorem q1838 : (Jvm.Cond.interfaceEntry "WhelkFleet" (126 : Nat)) ∈ lw_tbl := lw_at lw_m8 82 rfl
theorem q1839 : (Jvm.Cond.methodLink "WhelkFleet" (126 : Nat) ({ cls := "java/util/List", name := "size", desc := "()I" } : Jvm.MethodName)) ∈ lw_all := lw_g (lw_at lw_m8 83 rfl) rfl
theorem q1840 : (Jvm.Cond.methodLink "WhelkFleet" (129 : Nat) ({ cls := "WhelkFleet$Fleet", name := "boat", desc := "(I)LWhelkFleet$Boat;" } : Jvm.MethodName)) ∈ lw_all := lw_g (lw_at lw_m8 84 rfl) rfl
theorem q1841 : (Jvm.Cond.methodLink "WhelkFleet" (188 : Nat) ({ cls := "WhelkFleet$Boat", name := "bound", desc := "()I" } : Jvm.MethodName)) ∈ lw_all := lw_g (lw_at lw_m8 85 rfl) rfl
theorem q1842 : (Jvm.Cond.methodLink "WhelkFleet" (193 : Nat) ({ cls := "WhelkFleet$Boat", name := "place", desc := "()LWhelkFleet$Place;" } : Jvm.MethodName)) ∈ lw_all := lw_g (lw_at lw_m8 86 rfl) rfl
theorem q1843 : (Jvm.Cond.interfaceEntry "WhelkFleet" (197 : Nat)) ∈ lw_tbl := lw_at lw_m8 87 rfl
theorem q1844 : (Jvm.Cond.methodLink "WhelkFleet" (197 : Nat) ({ cls := "WhelkFleet$Place", name := "number", desc := "()I" } : Jvm.MethodName)) ∈ lw_all := lw_g (lw_at lw_m8 88 rfl) rfl
theorem q1845 : (Jvm.Cond.methodLink "WhelkFleet" (202 : Nat) ({ cls := "WhelkFleet$Boat", name := "hours", desc := "()I" } : Jvm.MethodName)) ∈ lw_all := lw_g (lw_at lw_m8 89 rfl) rfl
theorem q1849 : (Jvm.Cond.methodLink "WhelkFleet" (205 : Nat) ({ cls := "WhelkFleet$Boat", name := "middle", desc := "()I" } : Jvm.MethodName)) ∈ lw_all := lw_g (lw_at lw_m8 93 rfl) rfl
theorem q1850 : (Jvm.Cond.methodLink "WhelkFleet" (208 : Nat) ({ cls := "WhelkFleet$Boat", name := "large", desc := "()I" } : Jvm.MethodName)) ∈ lw_all := lw_g (lw_at lw_m8 94 rfl) rfl
theorem q1851 : (Jvm.Cond.methodLink "WhelkFleet" (211 : Nat) ({ cls := "WhelkFleet$Boat", name := "sacks", desc := "()I" } : Jvm.MethodName)) ∈ lw_all := lw_g (lw_at lw_m8 95 rfl) rfl
theorem q1855 : (Jvm.Cond.methodLink "WhelkFleet" (214 : Nat) ({ cls := "WhelkFleet$Boat", name := "hauled", desc := "()I" } : Jvm.MethodName)) ∈ lw_all := lw_g (lw_at lw_m8 99 rfl) rfl
theorem q1863 : (Jvm.Cond.instanceMethod ({ cls := "WhelkFleet", name := "stringOf", desc := "(II)I" } : Jvm.MethodName)) ∈ lw_all := lw_g (lw_at lw_m8 107 rfl) rfl
theorem q1864 : (Jvm.Cond.selects "WhelkFleet" ({ cls := "WhelkFleet", name := "stringOf", desc := "(II)I" } : Jvm.MethodName) ({ cls := "WhelkFleet", name := "stringOf", desc := "(II)I" } : Jvm.MethodName)) ∈ lw_all := lw_g (lw_at lw_m8 108 rfl) rfl
theorem q1865 : (Jvm.Cond.code ({ cls := "WhelkFleet", name := "stringOf", desc := "(II)I" } : Jvm.MethodName) prog_1_method_27_code (4 : Nat) (Option.some Jvm.ClassFile.FieldType.int)) ∈ lw_all := lw_g (lw_at lw_m8 109 rfl) rfl
theorem q1866 : (Jvm.Cond.methodLink "WhelkFleet" (217 : Nat) ({ cls := "WhelkFleet", name := "stringAt", desc := "(I)LWhelkFleet$Line;" } : Jvm.MethodName)) ∈ lw_all := lw_g (lw_at lw_m8 110 rfl) rfl
theorem q1867 : (Jvm.Cond.privateMethod ({ cls := "WhelkFleet", name := "stringAt", desc := "(I)LWhelkFleet$Line;" } : Jvm.MethodName)) ∈ lw_tbl := lw_at lw_m8 111 rfl
theorem q1868 : (Jvm.Cond.instanceMethod ({ cls := "WhelkFleet", name := "stringAt", desc := "(I)LWhelkFleet$Line;" } : Jvm.MethodName)) ∈ lw_all := lw_g (lw_at lw_m8 112 rfl) rfl
theorem q1869 : (Jvm.Cond.code ({ cls := "WhelkFleet", name := "stringAt", desc := "(I)LWhelkFleet$Line;" } : Jvm.MethodName) prog_1_method_15_code (2 : Nat) (Option.some (Jvm.ClassFile.FieldType.object "WhelkFleet$Line"))) ∈ lw_all := lw_g (lw_at lw_m8 113 rfl) rfl
theorem q1870 : (Jvm.Cond.methodLink "WhelkFleet" (133 : Nat) ({ cls := "WhelkFleet$Fleet", name := "strings", desc := "()Ljava/util/List;" } : Jvm.MethodName)) ∈ lw_all := lw_g (lw_at lw_m8 114 rfl) rfl
theorem q1874 : (Jvm.Cond.methodLink "WhelkFleet" (136 : Nat) ({ cls := "WhelkFleet$Fleet", name := "string", desc := "(I)LWhelkFleet$Line;" } : Jvm.MethodName)) ∈ lw_all := lw_g (lw_at lw_m8 118 rfl) rfl
theorem q1875 : (Jvm.Cond.methodLink "WhelkFleet" (220 : Nat) ({ cls := "WhelkFleet$Line", name := "pots", desc := "()I" } : Jvm.MethodName)) ∈ lw_all := lw_g (lw_at lw_m8 119 rfl) rfl
theorem q1876 : (Jvm.Cond.methodLink "WhelkFleet" (225 : Nat) ({ cls := "WhelkFleet$Line", name := "place", desc := "()LWhelkFleet$Place;" } : Jvm.MethodName)) ∈ lw_all := lw_g (lw_at lw_m8 120 rfl) rfl
theorem q1877 : (Jvm.Cond.methodLink "WhelkFleet" (226 : Nat) ({ cls := "WhelkFleet$Line", name := "bait", desc := "()I" } : Jvm.MethodName)) ∈ lw_all := lw_g (lw_at lw_m8 121 rfl) rfl
theorem q1878 : (Jvm.Cond.methodLink "WhelkFleet" (232 : Nat) ({ cls := "WhelkFleet$Line", name := "lay", desc := "(I)I" } : Jvm.MethodName)) ∈ lw_all := lw_g (lw_at lw_m8 122 rfl) rfl
theorem q1879 : (Jvm.Cond.methodLink "WhelkFleet" (235 : Nat) ({ cls := "WhelkFleet$Line", name := "lost", desc := "()I" } : Jvm.MethodName)) ∈ lw_all := lw_g (lw_at lw_m8 123 rfl) rfl
theorem q1883 : (Jvm.Cond.methodLink "WhelkFleet" (238 : Nat) ({ cls := "WhelkFleet$Line", name := "drawn", desc := "()I" } : Jvm.MethodName)) ∈ lw_all := lw_g (lw_at lw_m8 127 rfl) rfl
theorem q1891 : (Jvm.Cond.instanceMethod ({ cls := "WhelkFleet", name := "out", desc := "(II)I" } : Jvm.MethodName)) ∈ lw_all := lw_g (lw_at lw_m8 135 rfl) rfl
theorem q1892 : (Jvm.Cond.selects "WhelkFleet" ({ cls := "WhelkFleet", name := "out", desc := "(II)I" } : Jvm.MethodName) ({ cls := "WhelkFleet", name := "out", desc := "(II)I" } : Jvm.MethodName)) ∈ lw_all := lw_g (lw_at lw_m8 136 rfl) rfl
theorem q1893 : (Jvm.Cond.code ({ cls := "WhelkFleet", name := "out", desc := "(II)I" } : Jvm.MethodName) prog_1_method_28_code (3 : Nat) (Option.some Jvm.ClassFile.FieldType.int)) ∈ lw_all := lw_g (lw_at lw_m8 137 rfl) rfl
theorem q1894 : (Jvm.Cond.stringRef "WhelkFleet" (241 : Nat) "out") ∈ lw_tbl := lw_at lw_m8 138 rfl
theorem q1899 : (Jvm.Cond.instanceMethod ({ cls := "WhelkFleet", name := "home", desc := "(I)I" } : Jvm.MethodName)) ∈ lw_all := lw_g (lw_at lw_m8 143 rfl) rfl
theorem q1900 : (Jvm.Cond.selects "WhelkFleet" ({ cls := "WhelkFleet", name := "home", desc := "(I)I" } : Jvm.MethodName) ({ cls := "WhelkFleet", name := "home", desc := "(I)I" } : Jvm.MethodName)) ∈ lw_all := lw_g (lw_at lw_m8 144 rfl) rfl
theorem q1901 : (Jvm.Cond.code ({ cls := "WhelkFleet", name := "home", desc := "(I)I" } : Jvm.MethodName) prog_1_method_29_code (2 : Nat) (Option.some Jvm.ClassFile.FieldType.int)) ∈ lw_all := lw_g (lw_at lw_m8 145 rfl) rfl
theorem q1902 : (Jvm.Cond.stringRef "WhelkFleet" (243 : Nat) "home") ∈ lw_tbl := lw_at lw_m8 146 rfl
theorem q1907 : (Jvm.Cond.instanceMethod ({ cls := "WhelkFleet", name := "shoot", desc := "(III)I" } : Jvm.MethodName)) ∈ lw_all := lw_g (lw_at lw_m8 151 rfl) rfl
theorem q1908 : (Jvm.Cond.selects "WhelkFleet" ({ cls := "WhelkFleet", name := "shoot", desc := "(III)I" } : Jvm.MethodName) ({ cls := "WhelkFleet", name := "shoot", desc := "(III)I" } : Jvm.MethodName)) ∈ lw_all := lw_g (lw_at lw_m8 152 rfl) rfl
theorem q1909 : (Jvm.Cond.code ({ cls := "WhelkFleet", name := "shoot", desc := "(III)I" } : Jvm.MethodName) prog_1_method_30_code (4 : Nat) (Option.some Jvm.ClassFile.FieldType.int)) ∈ lw_all := lw_g (lw_at lw_m8 153 rfl) rfl
theorem q1910 : (Jvm.Cond.stringRef "WhelkFleet" (245 : Nat) "shoot") ∈ lw_tbl := lw_at lw_m8 154 rfl
theorem q1915 : (Jvm.Cond.instanceMethod ({ cls := "WhelkFleet", name := "haul", desc := "(II)I" } : Jvm.MethodName)) ∈ lw_all := lw_g (lw_at lw_m8 159 rfl) rfl
theorem q1916 : (Jvm.Cond.selects "WhelkFleet" ({ cls := "WhelkFleet", name := "haul", desc := "(II)I" } : Jvm.MethodName) ({ cls := "WhelkFleet", name := "haul", desc := "(II)I" } : Jvm.MethodName)) ∈ lw_all := lw_g (lw_at lw_m8 160 rfl) rfl
theorem q1917 : (Jvm.Cond.code ({ cls := "WhelkFleet", name := "haul", desc := "(II)I" } : Jvm.MethodName) prog_1_method_31_code (3 : Nat) (Option.some Jvm.ClassFile.FieldType.int)) ∈ lw_all := lw_g (lw_at lw_m8 161 rfl) rfl
theorem q1918 : (Jvm.Cond.stringRef "WhelkFleet" (247 : Nat) "haul") ∈ lw_tbl := lw_at lw_m8 162 rfl
theorem q1923 : (Jvm.Cond.instanceMethod ({ cls := "WhelkFleet", name := "land", desc := "(I)I" } : Jvm.MethodName)) ∈ lw_all := lw_g (lw_at lw_m8 167 rfl) rfl
theorem q1924 : (Jvm.Cond.selects "WhelkFleet" ({ cls := "WhelkFleet", name := "land", desc := "(I)I" } : Jvm.MethodName) ({ cls := "WhelkFleet", name := "land", desc := "(I)I" } : Jvm.MethodName)) ∈ lw_all := lw_g (lw_at lw_m8 168 rfl) rfl
theorem q1925 : (Jvm.Cond.code ({ cls := "WhelkFleet", name := "land", desc := "(I)I" } : Jvm.MethodName) prog_1_method_32_code (2 : Nat) (Option.some Jvm.ClassFile.FieldType.int)) ∈ lw_all := lw_g (lw_at lw_m8 169 rfl) rfl
theorem q1926 : (Jvm.Cond.stringRef "WhelkFleet" (249 : Nat) "land") ∈ lw_tbl := lw_at lw_m8 170 rfl
theorem q1931 : (Jvm.Cond.instanceMethod ({ cls := "WhelkFleet", name := "wouldBring", desc := "(II)I" } : Jvm.MethodName)) ∈ lw_all := lw_g (lw_at lw_m8 175 rfl) rfl
theorem q1932 : (Jvm.Cond.selects "WhelkFleet" ({ cls := "WhelkFleet", name := "wouldBring", desc := "(II)I" } : Jvm.MethodName) ({ cls := "WhelkFleet", name := "wouldBring", desc := "(II)I" } : Jvm.MethodName)) ∈ lw_all := lw_g (lw_at lw_m8 176 rfl) rfl
theorem q1933 : (Jvm.Cond.code ({ cls := "WhelkFleet", name := "wouldBring", desc := "(II)I" } : Jvm.MethodName) prog_1_method_33_code (3 : Nat) (Option.some Jvm.ClassFile.FieldType.int)) ∈ lw_all := lw_g (lw_at lw_m8 177 rfl) rfl
theorem q1934 : (Jvm.Cond.methodLink "WhelkFleet" (251 : Nat) ({ cls := "WhelkFleet$Fleet", name := "bringsIn", desc := "(II)I" } : Jvm.MethodName)) ∈ lw_all := lw_g (lw_at lw_m8 178 rfl) rfl
theorem q1944 : (Jvm.Cond.instanceMethod ({ cls := "WhelkFleet", name := "bestDay", desc := "(I)I" } : Jvm.MethodName)) ∈ lw_all := lw_g (lw_at lw_m8 188 rfl) rfl
theorem q1945 : (Jvm.Cond.selects "WhelkFleet" ({ cls := "WhelkFleet", name := "bestDay", desc := "(I)I" } : Jvm.MethodName) ({ cls := "WhelkFleet", name := "bestDay", desc := "(I)I" } : Jvm.MethodName)) ∈ lw_all := lw_g (lw_at lw_m8 189 rfl) rfl
theorem q1946 : (Jvm.Cond.code ({ cls := "WhelkFleet", name := "bestDay", desc := "(I)I" } : Jvm.MethodName) prog_1_method_34_code (2 : Nat) (Option.some Jvm.ClassFile.FieldType.int)) ∈ lw_all := lw_g (lw_at lw_m8 190 rfl) rfl
theorem q1947 : (Jvm.Cond.interfaceEntry "WhelkFleet" (254 : Nat)) ∈ lw_tbl := lw_at lw_m8 191 rfl
theorem q1948 : (Jvm.Cond.methodLink "WhelkFleet" (254 : Nat) ({ cls := "WhelkFleet$Place", name := "isAshore", desc := "()Z" } : Jvm.MethodName)) ∈ lw_all := lw_g (lw_at lw_m8 192 rfl) rfl
theorem q1949 : (Jvm.Cond.methodLink "WhelkFleet" (258 : Nat) ({ cls := "WhelkFleet", name := "requireElement", desc := "(Z)V" } : Jvm.MethodName)) ∈ lw_all := lw_g (lw_at lw_m8 193 rfl) rfl
theorem q1950 : (Jvm.Cond.static ({ cls := "WhelkFleet", name := "requireElement", desc := "(Z)V" } : Jvm.MethodName)) ∈ lw_all := lw_g (lw_at lw_m8 194 rfl) rfl
theorem q1951 : (Jvm.Cond.code ({ cls := "WhelkFleet", name := "requireElement", desc := "(Z)V" } : Jvm.MethodName) prog_1_method_9_code (1 : Nat) (Option.none : Option Jvm.ClassFile.FieldType)) ∈ lw_all := lw_g (lw_at lw_m8 195 rfl) rfl
theorem q1952 : (Jvm.Cond.classLink "WhelkFleet" (67 : Nat) "java/util/NoSuchElementException") ∈ lw_all := lw_g (lw_at lw_m8 196 rfl) rfl
theorem q1953 : (Jvm.Cond.methodLink "WhelkFleet" (69 : Nat) ({ cls := "java/util/NoSuchElementException", name := "<init>", desc := "()V" } : Jvm.MethodName)) ∈ lw_all := lw_g (lw_at lw_m8 197 rfl) rfl
theorem q1954 : (Jvm.Cond.methodLink "WhelkFleet" (261 : Nat) ({ cls := "WhelkFleet$Fleet", name := "bestDay", desc := "(I)I" } : Jvm.MethodName)) ∈ lw_all := lw_g (lw_at lw_m8 198 rfl) rfl
theorem q1963 : (Jvm.Cond.instanceMethod ({ cls := "WhelkFleet", name := "ranked", desc := "(I)I" } : Jvm.MethodName)) ∈ lw_all := lw_g (lw_at lw_m8 207 rfl) rfl
theorem q1964 : (Jvm.Cond.selects "WhelkFleet" ({ cls := "WhelkFleet", name := "ranked", desc := "(I)I" } : Jvm.MethodName) ({ cls := "WhelkFleet", name := "ranked", desc := "(I)I" } : Jvm.MethodName)) ∈ lw_all := lw_g (lw_at lw_m8 208 rfl) rfl
theorem q1965 : (Jvm.Cond.code ({ cls := "WhelkFleet", name := "ranked", desc := "(I)I" } : Jvm.MethodName) prog_1_method_35_code (3 : Nat) (Option.some Jvm.ClassFile.FieldType.int)) ∈ lw_all := lw_g (lw_at lw_m8 209 rfl) rfl
theorem q1966 : (Jvm.Cond.methodLink "WhelkFleet" (264 : Nat) ({ cls := "WhelkFleet$Fleet", name := "ranked", desc := "()Ljava/util/List;" } : Jvm.MethodName)) ∈ lw_all := lw_g (lw_at lw_m8 210 rfl) rfl
theorem q2009 : (Jvm.Cond.interfaceEntry "WhelkFleet" (267 : Nat)) ∈ lw_tbl := lw_at lw_m9 13 rfl
theorem q2010 : (Jvm.Cond.methodLink "WhelkFleet" (267 : Nat) ({ cls := "java/util/List", name := "get", desc := "(I)Ljava/lang/Object;" } : Jvm.MethodName)) ∈ lw_all := lw_g (lw_at lw_m9 14 rfl) rfl
theorem q2011 : (Jvm.Cond.classLink "WhelkFleet" (271 : Nat) "java/lang/Integer") ∈ lw_all := lw_g (lw_at lw_m9 15 rfl) rfl
theorem q2012 : (Jvm.Cond.methodLink "WhelkFleet" (273 : Nat) ({ cls := "java/lang/Integer", name := "intValue", desc := "()I" } : Jvm.MethodName)) ∈ lw_all := lw_g (lw_at lw_m9 16 rfl) rfl
theorem q2017 : (Jvm.Cond.instanceMethod ({ cls := "WhelkFleet", name := "swell", desc := "(I)I" } : Jvm.MethodName)) ∈ lw_all := lw_g (lw_at lw_m9 21 rfl) rfl
theorem q2018 : (Jvm.Cond.selects "WhelkFleet" ({ cls := "WhelkFleet", name := "swell", desc := "(I)I" } : Jvm.MethodName) ({ cls := "WhelkFleet", name := "swell", desc := "(I)I" } : Jvm.MethodName)) ∈ lw_all := lw_g (lw_at lw_m9 22 rfl) rfl
theorem q2019 : (Jvm.Cond.code ({ cls := "WhelkFleet", name := "swell", desc := "(I)I" } : Jvm.MethodName) prog_1_method_36_code (2 : Nat) (Option.some Jvm.ClassFile.FieldType.int)) ∈ lw_all := lw_g (lw_at lw_m9 23 rfl) rfl
theorem q2020 : (Jvm.Cond.stringRef "WhelkFleet" (276 : Nat) "swell") ∈ lw_tbl := lw_at lw_m9 24 rfl
theorem q2025 : (Jvm.Cond.instanceMethod ({ cls := "WhelkFleet", name := "riddle", desc := "(I)I" } : Jvm.MethodName)) ∈ lw_all := lw_g (lw_at lw_m9 29 rfl) rfl
theorem q2026 : (Jvm.Cond.selects "WhelkFleet" ({ cls := "WhelkFleet", name := "riddle", desc := "(I)I" } : Jvm.MethodName) ({ cls := "WhelkFleet", name := "riddle", desc := "(I)I" } : Jvm.MethodName)) ∈ lw_all := lw_g (lw_at lw_m9 30 rfl) rfl
theorem q2027 : (Jvm.Cond.code ({ cls := "WhelkFleet", name := "riddle", desc := "(I)I" } : Jvm.MethodName) prog_1_method_37_code (2 : Nat) (Option.some Jvm.ClassFile.FieldType.int)) ∈ lw_all := lw_g (lw_at lw_m9 31 rfl) rfl
theorem q2028 : (Jvm.Cond.stringRef "WhelkFleet" (278 : Nat) "riddle") ∈ lw_tbl := lw_at lw_m9 32 rfl
theorem q2033 : (Jvm.Cond.instanceMethod ({ cls := "WhelkFleet", name := "pass", desc := "(I)I" } : Jvm.MethodName)) ∈ lw_all := lw_g (lw_at lw_m9 37 rfl) rfl
theorem q2034 : (Jvm.Cond.selects "WhelkFleet" ({ cls := "WhelkFleet", name := "pass", desc := "(I)I" } : Jvm.MethodName) ({ cls := "WhelkFleet", name := "pass", desc := "(I)I" } : Jvm.MethodName)) ∈ lw_all := lw_g (lw_at lw_m9 38 rfl) rfl
theorem q2035 : (Jvm.Cond.code ({ cls := "WhelkFleet", name := "pass", desc := "(I)I" } : Jvm.MethodName) prog_1_method_38_code (2 : Nat) (Option.some Jvm.ClassFile.FieldType.int)) ∈ lw_all := lw_g (lw_at lw_m9 39 rfl) rfl
theorem q2036 : (Jvm.Cond.stringRef "WhelkFleet" (280 : Nat) "days") ∈ lw_tbl := lw_at lw_m9 40 rfl
theorem q2041 : (Jvm.Cond.instanceMethod ({ cls := "WhelkFleet", name := "whelksIn", desc := "(II)I" } : Jvm.MethodName)) ∈ lw_all := lw_g (lw_at lw_m9 45 rfl) rfl
theorem q2042 : (Jvm.Cond.selects "WhelkFleet" ({ cls := "WhelkFleet", name := "whelksIn", desc := "(II)I" } : Jvm.MethodName) ({ cls := "WhelkFleet", name := "whelksIn", desc := "(II)I" } : Jvm.MethodName)) ∈ lw_all := lw_g (lw_at lw_m9 46 rfl) rfl
theorem q2043 : (Jvm.Cond.code ({ cls := "WhelkFleet", name := "whelksIn", desc := "(II)I" } : Jvm.MethodName) prog_1_method_39_code (4 : Nat) (Option.some Jvm.ClassFile.FieldType.int)) ∈ lw_all := lw_g (lw_at lw_m9 47 rfl) rfl
theorem q2044 : (Jvm.Cond.methodLink "WhelkFleet" (282 : Nat) ({ cls := "WhelkFleet$Fleet", name := "pass", desc := "(I)I" } : Jvm.MethodName)) ∈ lw_all := lw_g (lw_at lw_m9 48 rfl) rfl
theorem q2045 : (Jvm.Cond.methodLink "WhelkFleet" (285 : Nat) ({ cls := "WhelkFleet$Fleet", name := "whelksOf", desc := "(I)I" } : Jvm.MethodName)) ∈ lw_all := lw_g (lw_at lw_m9 49 rfl) rfl
theorem q2059 : (Jvm.Cond.instanceMethod ({ cls := "WhelkFleet", name := "type", desc := "(C)I" } : Jvm.MethodName)) ∈ lw_all := lw_g (lw_at lw_m9 63 rfl) rfl
theorem q2060 : (Jvm.Cond.selects "WhelkFleet" ({ cls := "WhelkFleet", name := "type", desc := "(C)I" } : Jvm.MethodName) ({ cls := "WhelkFleet", name := "type", desc := "(C)I" } : Jvm.MethodName)) ∈ lw_all := lw_g (lw_at lw_m9 64 rfl) rfl
theorem q2061 : (Jvm.Cond.code ({ cls := "WhelkFleet", name := "type", desc := "(C)I" } : Jvm.MethodName) prog_1_method_40_code (2 : Nat) (Option.some Jvm.ClassFile.FieldType.int)) ∈ lw_all := lw_g (lw_at lw_m9 65 rfl) rfl
theorem q2062 : (Jvm.Cond.methodLink "WhelkFleet" (288 : Nat) ({ cls := "java/lang/StringBuilder", name := "length", desc := "()I" } : Jvm.MethodName)) ∈ lw_all := lw_g (lw_at lw_m9 66 rfl) rfl
theorem q2063 : (Jvm.Cond.methodLink "WhelkFleet" (291 : Nat) ({ cls := "WhelkFleet", name := "requireState", desc := "(Z)V" } : Jvm.MethodName)) ∈ lw_all := lw_g (lw_at lw_m9 67 rfl) rfl
theorem q2064 : (Jvm.Cond.static ({ cls := "WhelkFleet", name := "requireState", desc := "(Z)V" } : Jvm.MethodName)) ∈ lw_all := lw_g (lw_at lw_m9 68 rfl) rfl
theorem q2065 : (Jvm.Cond.code ({ cls := "WhelkFleet", name := "requireState", desc := "(Z)V" } : Jvm.MethodName) prog_1_method_8_code (1 : Nat) (Option.none : Option Jvm.ClassFile.FieldType)) ∈ lw_all := lw_g (lw_at lw_m9 69 rfl) rfl
theorem q2066 : (Jvm.Cond.classLink "WhelkFleet" (64 : Nat) "java/lang/IllegalStateException") ∈ lw_all := lw_g (lw_at lw_m9 70 rfl) rfl
theorem q2067 : (Jvm.Cond.methodLink "WhelkFleet" (66 : Nat) ({ cls := "java/lang/IllegalStateException", name := "<init>", desc := "()V" } : Jvm.MethodName)) ∈ lw_all := lw_g (lw_at lw_m9 71 rfl) rfl
theorem q2071 : (Jvm.Cond.methodLink "WhelkFleet" (294 : Nat) ({ cls := "java/lang/StringBuilder", name := "append", desc := "(C)Ljava/lang/StringBuilder;" } : Jvm.MethodName)) ∈ lw_all := lw_g (lw_at lw_m9 75 rfl) rfl
theorem q2095 : (Jvm.Cond.instanceMethod ({ cls := "WhelkFleet", name := "read", desc := "()I" } : Jvm.MethodName)) ∈ lw_all := lw_g (lw_at lw_m9 99 rfl) rfl
theorem q2096 : (Jvm.Cond.selects "WhelkFleet" ({ cls := "WhelkFleet", name := "read", desc := "()I" } : Jvm.MethodName) ({ cls := "WhelkFleet", name := "read", desc := "()I" } : Jvm.MethodName)) ∈ lw_all := lw_g (lw_at lw_m9 100 rfl) rfl
theorem q2097 : (Jvm.Cond.codeWith ({ cls := "WhelkFleet", name := "read", desc := "()I" } : Jvm.MethodName) prog_1_method_43_code (2 : Nat) (Option.some Jvm.ClassFile.FieldType.int) [((0 : Nat), (4 : Nat), (5 : Nat), (82 : Nat)), ((0 : Nat), (4 : Nat), (5 : Nat), (1 : Nat))]) ∈ lw_all := lw_g (lw_at lw_m9 101 rfl) rfl
theorem q2098 : (Jvm.Cond.methodLink "WhelkFleet" (332 : Nat) ({ cls := "WhelkFleet", name := "carriedOut", desc := "()I" } : Jvm.MethodName)) ∈ lw_all := lw_g (lw_at lw_m9 102 rfl) rfl
theorem q2099 : (Jvm.Cond.privateMethod ({ cls := "WhelkFleet", name := "carriedOut", desc := "()I" } : Jvm.MethodName)) ∈ lw_tbl := lw_at lw_m9 103 rfl
theorem q2100 : (Jvm.Cond.instanceMethod ({ cls := "WhelkFleet", name := "carriedOut", desc := "()I" } : Jvm.MethodName)) ∈ lw_all := lw_g (lw_at lw_m9 104 rfl) rfl
theorem q2101 : (Jvm.Cond.codeWith ({ cls := "WhelkFleet", name := "carriedOut", desc := "()I" } : Jvm.MethodName) prog_1_method_42_code (5 : Nat) (Option.some Jvm.ClassFile.FieldType.int) [((0 : Nat), (34 : Nat), (44 : Nat), (0 : Nat)), ((44 : Nat), (46 : Nat), (44 : Nat), (0 : Nat))]) ∈ lw_all := lw_g (lw_at lw_m9 105 rfl) rfl
theorem q2102 : (Jvm.Cond.classLink "WhelkFleet" (317 : Nat) "WhelkFleet$Reader") ∈ lw_all := lw_g (lw_at lw_m9 106 rfl) rfl
theorem q2104 : (Jvm.Cond.methodLink "WhelkFleet" (319 : Nat) ({ cls := "WhelkFleet$Reader", name := "<init>", desc := "(Ljava/lang/CharSequence;)V" } : Jvm.MethodName)) ∈ lw_all := lw_g (lw_at lw_m9 108 rfl) rfl
theorem q2115 : (Jvm.Cond.methodLink "WhelkFleet" (322 : Nat) ({ cls := "WhelkFleet$Reader", name := "orders", desc := "()Ljava/util/List;" } : Jvm.MethodName)) ∈ lw_all := lw_g (lw_at lw_m9 119 rfl) rfl
theorem q2305 : (Jvm.Cond.methodLink "WhelkFleet" (325 : Nat) ({ cls := "WhelkFleet", name := "carryOutAll", desc := "(LWhelkFleet$Fleet;Ljava/util/List;)I" } : Jvm.MethodName)) ∈ lw_all := lw_g (lw_at lw_m10 69 rfl) rfl
theorem q2306 : (Jvm.Cond.static ({ cls := "WhelkFleet", name := "carryOutAll", desc := "(LWhelkFleet$Fleet;Ljava/util/List;)I" } : Jvm.MethodName)) ∈ lw_all := lw_g (lw_at lw_m10 70 rfl) rfl
theorem q2307 : (Jvm.Cond.codeWith ({ cls := "WhelkFleet", name := "carryOutAll", desc := "(LWhelkFleet$Fleet;Ljava/util/List;)I" } : Jvm.MethodName) prog_1_method_41_code (6 : Nat) (Option.some Jvm.ClassFile.FieldType.int) [((29 : Nat), (42 : Nat), (45 : Nat), (1 : Nat))]) ∈ lw_all := lw_g (lw_at lw_m10 71 rfl) rfl
theorem q2308 : (Jvm.Cond.interfaceEntry "WhelkFleet" (298 : Nat)) ∈ lw_tbl := lw_at lw_m10 72 rfl
theorem q2309 : (Jvm.Cond.methodLink "WhelkFleet" (298 : Nat) ({ cls := "java/util/List", name := "iterator", desc := "()Ljava/util/Iterator;" } : Jvm.MethodName)) ∈ lw_all := lw_g (lw_at lw_m10 73 rfl) rfl
theorem q2310 : (Jvm.Cond.interfaceEntry "WhelkFleet" (302 : Nat)) ∈ lw_tbl := lw_at lw_m10 74 rfl
theorem q2311 : (Jvm.Cond.methodLink "WhelkFleet" (302 : Nat) ({ cls := "java/util/Iterator", name := "hasNext", desc := "()Z" } : Jvm.MethodName)) ∈ lw_all := lw_g (lw_at lw_m10 75 rfl) rfl
theorem q2312 : (Jvm.Cond.interfaceEntry "WhelkFleet" (307 : Nat)) ∈ lw_tbl := lw_at lw_m10 76 rfl
theorem q2313 : (Jvm.Cond.methodLink "WhelkFleet" (307 : Nat) ({ cls := "java/util/Iterator", name := "next", desc := "()Ljava/lang/Object;" } : Jvm.MethodName)) ∈ lw_all := lw_g (lw_at lw_m10 77 rfl) rfl
theorem q2314 : (Jvm.Cond.methodLink "WhelkFleet" (310 : Nat) ({ cls := "WhelkFleet$Deed", name := "check", desc := "(LWhelkFleet$Fleet;)V" } : Jvm.MethodName)) ∈ lw_all := lw_g (lw_at lw_m10 78 rfl) rfl
theorem q2322 : (Jvm.Cond.static ({ cls := "WhelkFleet", name := "call", desc := "(Z)V" } : Jvm.MethodName)) ∈ lw_all := lw_g (lw_at lw_m10 86 rfl) rfl
theorem q2323 : (Jvm.Cond.code ({ cls := "WhelkFleet", name := "call", desc := "(Z)V" } : Jvm.MethodName) prog_1_method_4_code (1 : Nat) (Option.none : Option Jvm.ClassFile.FieldType)) ∈ lw_all := lw_g (lw_at lw_m10 87 rfl) rfl
theorem q2324 : (Jvm.Cond.methodLink "WhelkFleet" (15 : Nat) ({ cls := "WhelkFleet", name := "meet", desc := "(ZII)V" } : Jvm.MethodName)) ∈ lw_all := lw_g (lw_at lw_m10 88 rfl) rfl
theorem q2327 : (Jvm.Cond.methodLink "WhelkFleet" (314 : Nat) ({ cls := "WhelkFleet$Refusal", name := "<init>", desc := "(IILWhelkFleet$Refusal;)V" } : Jvm.MethodName)) ∈ lw_all := lw_g (lw_at lw_m10 91 rfl) rfl
theorem q2331 : (Jvm.Cond.methodLink "WhelkFleet" (329 : Nat) ({ cls := "java/lang/StringBuilder", name := "setLength", desc := "(I)V" } : Jvm.MethodName)) ∈ lw_all := lw_g (lw_at lw_m10 95 rfl) rfl
theorem q2387 : (Jvm.Cond.instanceMethod ({ cls := "WhelkFleet", name := "errorPosition", desc := "()I" } : Jvm.MethodName)) ∈ lw_all := lw_g (lw_at lw_m10 151 rfl) rfl
theorem q2388 : (Jvm.Cond.selects "WhelkFleet" ({ cls := "WhelkFleet", name := "errorPosition", desc := "()I" } : Jvm.MethodName) ({ cls := "WhelkFleet", name := "errorPosition", desc := "()I" } : Jvm.MethodName)) ∈ lw_all := lw_g (lw_at lw_m10 152 rfl) rfl
theorem q2389 : (Jvm.Cond.code ({ cls := "WhelkFleet", name := "errorPosition", desc := "()I" } : Jvm.MethodName) prog_1_method_44_code (1 : Nat) (Option.some Jvm.ClassFile.FieldType.int)) ∈ lw_all := lw_g (lw_at lw_m10 153 rfl) rfl
theorem q2394 : (Jvm.Cond.instanceMethod ({ cls := "WhelkFleet", name := "refusal", desc := "(IZ)I" } : Jvm.MethodName)) ∈ lw_all := lw_g (lw_at lw_m10 158 rfl) rfl
theorem q2395 : (Jvm.Cond.selects "WhelkFleet" ({ cls := "WhelkFleet", name := "refusal", desc := "(IZ)I" } : Jvm.MethodName) ({ cls := "WhelkFleet", name := "refusal", desc := "(IZ)I" } : Jvm.MethodName)) ∈ lw_all := lw_g (lw_at lw_m10 159 rfl) rfl
theorem q2396 : (Jvm.Cond.code ({ cls := "WhelkFleet", name := "refusal", desc := "(IZ)I" } : Jvm.MethodName) prog_1_method_45_code (4 : Nat) (Option.some Jvm.ClassFile.FieldType.int)) ∈ lw_all := lw_g (lw_at lw_m10 160 rfl) rfl
theorem q2397 : (Jvm.Cond.methodLink "WhelkFleet" (335 : Nat) ({ cls := "WhelkFleet$Refusal", name := "at", desc := "(I)LWhelkFleet$Refusal;" } : Jvm.MethodName)) ∈ lw_all := lw_g (lw_at lw_m10 161 rfl) rfl
theorem q2416 : (Jvm.Cond.methodLink "WhelkFleet" (339 : Nat) ({ cls := "WhelkFleet$Refusal", name := "detail", desc := "()I" } : Jvm.MethodName)) ∈ lw_all := lw_g (lw_at lw_m10 180 rfl) rfl
theorem q2420 : (Jvm.Cond.methodLink "WhelkFleet" (342 : Nat) ({ cls := "WhelkFleet$Refusal", name := "reason", desc := "()I" } : Jvm.MethodName)) ∈ lw_all := lw_g (lw_at lw_m10 184 rfl) rfl
theorem q2428 : (Jvm.Cond.instanceMethod ({ cls := "WhelkFleet", name := "describe", desc := "(I)I" } : Jvm.MethodName)) ∈ lw_all := lw_g (lw_at lw_m10 192 rfl) rfl
theorem q2429 : (Jvm.Cond.selects "WhelkFleet" ({ cls := "WhelkFleet", name := "describe", desc := "(I)I" } : Jvm.MethodName) ({ cls := "WhelkFleet", name := "describe", desc := "(I)I" } : Jvm.MethodName)) ∈ lw_all := lw_g (lw_at lw_m10 193 rfl) rfl
theorem q2430 : (Jvm.Cond.code ({ cls := "WhelkFleet", name := "describe", desc := "(I)I" } : Jvm.MethodName) prog_1_method_46_code (3 : Nat) (Option.some Jvm.ClassFile.FieldType.int)) ∈ lw_all := lw_g (lw_at lw_m10 194 rfl) rfl
theorem q2431 : (Jvm.Cond.stringRef "WhelkFleet" (345 : Nat) "boat ") ∈ lw_tbl := lw_at lw_m10 195 rfl
theorem q2432 : (Jvm.Cond.methodLink "WhelkFleet" (347 : Nat) ({ cls := "java/lang/StringBuilder", name := "<init>", desc := "(Ljava/lang/String;)V" } : Jvm.MethodName)) ∈ lw_all := lw_g (lw_at lw_m10 196 rfl) rfl
theorem q2442 : (Jvm.Cond.methodLink "WhelkFleet" (350 : Nat) ({ cls := "java/lang/StringBuilder", name := "append", desc := "(I)Ljava/lang/StringBuilder;" } : Jvm.MethodName)) ∈ lw_all := lw_g (lw_at lw_m10 206 rfl) rfl
theorem q2443 : (Jvm.Cond.methodLink "WhelkFleet" (353 : Nat) ({ cls := "WhelkFleet$Boat", name := "write", desc := "(Ljava/lang/StringBuilder;)V" } : Jvm.MethodName)) ∈ lw_all := lw_g (lw_at lw_m10 207 rfl) rfl
theorem q2455 : (Jvm.Cond.methodLink "WhelkFleet" (357 : Nat) ({ cls := "java/lang/StringBuilder", name := "toString", desc := "()Ljava/lang/String;" } : Jvm.MethodName)) ∈ lw_all := lw_g (lw_at lw_m10 219 rfl) rfl
theorem q2456 : (Jvm.Cond.methodLink "WhelkFleet" (361 : Nat) ({ cls := "java/lang/String", name := "length", desc := "()I" } : Jvm.MethodName)) ∈ lw_all := lw_g (lw_at lw_m10 220 rfl) rfl
theorem q2461 : (Jvm.Cond.instanceMethod ({ cls := "WhelkFleet", name := "written", desc := "(I)C" } : Jvm.MethodName)) ∈ lw_all := lw_g (lw_at lw_m10 225 rfl) rfl
theorem q2462 : (Jvm.Cond.selects "WhelkFleet" ({ cls := "WhelkFleet", name := "written", desc := "(I)C" } : Jvm.MethodName) ({ cls := "WhelkFleet", name := "written", desc := "(I)C" } : Jvm.MethodName)) ∈ lw_all := lw_g (lw_at lw_m10 226 rfl) rfl
theorem q2463 : (Jvm.Cond.code ({ cls := "WhelkFleet", name := "written", desc := "(I)C" } : Jvm.MethodName) prog_1_method_47_code (2 : Nat) (Option.some Jvm.ClassFile.FieldType.char)) ∈ lw_all := lw_g (lw_at lw_m10 227 rfl) rfl
theorem q2464 : (Jvm.Cond.methodLink "WhelkFleet" (364 : Nat) ({ cls := "java/lang/String", name := "charAt", desc := "(I)C" } : Jvm.MethodName)) ∈ lw_all := lw_g (lw_at lw_m10 228 rfl) rfl
theorem q2469 : (Jvm.Cond.instanceMethod ({ cls := "WhelkFleet", name := "account", desc := "(I)I" } : Jvm.MethodName)) ∈ lw_all := lw_g (lw_at lw_m10 233 rfl) rfl
theorem q2470 : (Jvm.Cond.selects "WhelkFleet" ({ cls := "WhelkFleet", name := "account", desc := "(I)I" } : Jvm.MethodName) ({ cls := "WhelkFleet", name := "account", desc := "(I)I" } : Jvm.MethodName)) ∈ lw_all := lw_g (lw_at lw_m10 234 rfl) rfl
theorem q2471 : (Jvm.Cond.code ({ cls := "WhelkFleet", name := "account", desc := "(I)I" } : Jvm.MethodName) prog_1_method_48_code (2 : Nat) (Option.some Jvm.ClassFile.FieldType.int)) ∈ lw_all := lw_g (lw_at lw_m10 235 rfl) rfl
theorem q2472 : (Jvm.Cond.methodLink "WhelkFleet" (368 : Nat) ({ cls := "WhelkFleet$Fleet", name := "swellNow", desc := "()I" } : Jvm.MethodName)) ∈ lw_all := lw_g (lw_at lw_m10 236 rfl) rfl
theorem q2476 : (Jvm.Cond.methodLink "WhelkFleet" (371 : Nat) ({ cls := "WhelkFleet$Fleet", name := "riddleNow", desc := "()I" } : Jvm.MethodName)) ∈ lw_all := lw_g (lw_at lw_m11 0 rfl) rfl
theorem q2480 : (Jvm.Cond.methodLink "WhelkFleet" (374 : Nat) ({ cls := "WhelkFleet$Fleet", name := "ofBoats", desc := "(I)I" } : Jvm.MethodName)) ∈ lw_all := lw_g (lw_at lw_m11 4 rfl) rfl
theorem q2485 : (Jvm.Cond.methodLink "WhelkFleet" (377 : Nat) ({ cls := "WhelkFleet$Fleet", name := "ofStrings", desc := "(I)I" } : Jvm.MethodName)) ∈ lw_all := lw_g (lw_at lw_m11 9 rfl) rfl
theorem q2490 : (Jvm.Cond.methodLink "WhelkFleet" (387 : Nat) ({ cls := "WhelkFleet$Fleet", name := "coins", desc := "()I" } : Jvm.MethodName)) ∈ lw_all := lw_g (lw_at lw_m11 14 rfl) rfl
theorem q2512 : (Jvm.Cond.instanceMethod ({ cls := "WhelkFleet", name := "meanPots", desc := "()D" } : Jvm.MethodName)) ∈ lw_all := lw_g (lw_at lw_m11 36 rfl) rfl
theorem q2513 : (Jvm.Cond.selects "WhelkFleet" ({ cls := "WhelkFleet", name := "meanPots", desc := "()D" } : Jvm.MethodName) ({ cls := "WhelkFleet", name := "meanPots", desc := "()D" } : Jvm.MethodName)) ∈ lw_all := lw_g (lw_at lw_m11 37 rfl) rfl
theorem q2514 : (Jvm.Cond.code ({ cls := "WhelkFleet", name := "meanPots", desc := "()D" } : Jvm.MethodName) prog_1_method_50_code (2 : Nat) (Option.some Jvm.ClassFile.FieldType.double)) ∈ lw_all := lw_g (lw_at lw_m11 38 rfl) rfl
theorem q2515 : (Jvm.Cond.classLink "WhelkFleet" (390 : Nat) "java/lang/ArithmeticException") ∈ lw_all := lw_g (lw_at lw_m11 39 rfl) rfl
theorem q2516 : (Jvm.Cond.methodLink "WhelkFleet" (392 : Nat) ({ cls := "java/lang/ArithmeticException", name := "<init>", desc := "()V" } : Jvm.MethodName)) ∈ lw_all := lw_g (lw_at lw_m11 40 rfl) rfl
theorem q2524 : (Jvm.Cond.instanceMethod ({ cls := "WhelkFleet", name := "backShare", desc := "()F" } : Jvm.MethodName)) ∈ lw_all := lw_g (lw_at lw_m11 48 rfl) rfl
theorem q2525 : (Jvm.Cond.selects "WhelkFleet" ({ cls := "WhelkFleet", name := "backShare", desc := "()F" } : Jvm.MethodName) ({ cls := "WhelkFleet", name := "backShare", desc := "()F" } : Jvm.MethodName)) ∈ lw_all := lw_g (lw_at lw_m11 49 rfl) rfl
theorem q2526 : (Jvm.Cond.code ({ cls := "WhelkFleet", name := "backShare", desc := "()F" } : Jvm.MethodName) prog_1_method_51_code (1 : Nat) (Option.some Jvm.ClassFile.FieldType.float)) ∈ lw_all := lw_g (lw_at lw_m11 50 rfl) rfl
theorem q2531 : (Jvm.Cond.instanceMethod ({ cls := "WhelkFleet", name := "undo", desc := "()I" } : Jvm.MethodName)) ∈ lw_all := lw_g (lw_at lw_m11 55 rfl) rfl
theorem q2532 : (Jvm.Cond.selects "WhelkFleet" ({ cls := "WhelkFleet", name := "undo", desc := "()I" } : Jvm.MethodName) ({ cls := "WhelkFleet", name := "undo", desc := "()I" } : Jvm.MethodName)) ∈ lw_all := lw_g (lw_at lw_m11 56 rfl) rfl
theorem q2533 : (Jvm.Cond.code ({ cls := "WhelkFleet", name := "undo", desc := "()I" } : Jvm.MethodName) prog_1_method_52_code (1 : Nat) (Option.some Jvm.ClassFile.FieldType.int)) ∈ lw_all := lw_g (lw_at lw_m11 57 rfl) rfl
theorem q2534 : (Jvm.Cond.methodLink "WhelkFleet" (393 : Nat) ({ cls := "java/util/LinkedList", name := "isEmpty", desc := "()Z" } : Jvm.MethodName)) ∈ lw_all := lw_g (lw_at lw_m11 58 rfl) rfl
theorem q2541 : (Jvm.Cond.methodLink "WhelkFleet" (396 : Nat) ({ cls := "java/util/LinkedList", name := "removeLast", desc := "()Ljava/lang/Object;" } : Jvm.MethodName)) ∈ lw_all := lw_g (lw_at lw_m11 65 rfl) rfl
theorem q2549 : (Jvm.Cond.classLink "WhelkFleet" (25 : Nat) "WhelkFleet$Fleet") ∈ lw_all := lw_g (lw_at lw_m11 73 rfl) rfl
theorem q2554 : (Jvm.Cond.instanceMethod ({ cls := "WhelkFleet", name := "restore", desc := "()I" } : Jvm.MethodName)) ∈ lw_all := lw_g (lw_at lw_m11 78 rfl) rfl
theorem q2555 : (Jvm.Cond.selects "WhelkFleet" ({ cls := "WhelkFleet", name := "restore", desc := "()I" } : Jvm.MethodName) ({ cls := "WhelkFleet", name := "restore", desc := "()I" } : Jvm.MethodName)) ∈ lw_all := lw_g (lw_at lw_m11 79 rfl) rfl
theorem q2556 : (Jvm.Cond.code ({ cls := "WhelkFleet", name := "restore", desc := "()I" } : Jvm.MethodName) prog_1_method_54_code (1 : Nat) (Option.some Jvm.ClassFile.FieldType.int)) ∈ lw_all := lw_g (lw_at lw_m11 80 rfl) rfl
theorem q2557 : (Jvm.Cond.methodLink "WhelkFleet" (402 : Nat) ({ cls := "java/util/LinkedList", name := "clear", desc := "()V" } : Jvm.MethodName)) ∈ lw_all := lw_g (lw_at lw_m11 81 rfl) rfl
theorem q3000 : (Jvm.Cond.castable "WhelkFleet" "java/lang/Object") ∈ lw_tbl := lw_at lw_m13 44 rfl
theorem in_X1 : ∀ w ∈ wsX10, w ∈ lw_all := lw_in wsX10 [405, 407, 409, 411, 413, 415, 417] (by decide +kernel) (by decide +kernel)
/-! WhelkFleet$Fleet -/
set_option maxRecDepth 100000
def RX2 : String := "WhelkFleet$Fleet"
def TX2 : u_T := fun k => match k with
  | 0 => ("WhelkFleet$Fleet", "grounds", "Ljava/util/List;", true)
  | 1 => ("WhelkFleet$Fleet", "boats", "Ljava/util/List;", true)
  | 2 => ("WhelkFleet$Fleet", "strings", "Ljava/util/List;", true)
  | 3 => ("WhelkFleet$Fleet", "boxes", "[I", true)
  | 4 => ("WhelkFleet$Fleet", "day", "I", false)
  | 5 => ("WhelkFleet$Fleet", "swell", "I", false)
  | 6 => ("WhelkFleet$Fleet", "riddle", "I", false)
  | 7 => ("WhelkFleet$Fleet", "drawn", "I", false)
  | 8 => ("WhelkFleet$Fleet", "back", "I", false)
  | 9 => ("WhelkFleet$Fleet", "landed", "I", false)
  | _ => ("WhelkFleet$Fleet", "coins", "I", false)
def tyX2 : Nat → FieldType := fun k => match k with
  | 0 => .object "java/util/List"
  | 1 => .object "java/util/List"
  | 2 => .object "java/util/List"
  | 3 => .array .int
  | 4 => .int
  | 5 => .int
  | 6 => .int
  | 7 => .int
  | 8 => .int
  | 9 => .int
  | _ => .int
abbrev wsX20 : List Cond := u_ws RX2 TX2 11
theorem nmX2 : ∀ a, a < 11 → ∀ b, b < 11 → a ≠ b → (TX2 a).2.1 ≠ (TX2 b).2.1 := by decide +kernel
theorem tyX2_ok : ∀ k, k < 11 → parseFieldDescriptor (TX2 k).2.2.1 = some (tyX2 k) := by decide +kernel
abbrev cX2_fresh : ByteArray := prog_10_method_2_code
def yX2_fresh : MethodName := ⟨RX2, "fresh", "()LWhelkFleet$Fleet;"⟩
def dkwX2_fresh_2 : List UInt8 := [180, 0, 24, 27, 16, 20, 79, 132, 1, 1, 167, 255, 240, 42, 176]
abbrev dktX2_fresh_2 : List UInt8 := dkwX2_fresh_2 ++ []
def dkwX2_fresh_1 : List UInt8 := [183, 0, 38, 185, 0, 39, 2, 0, 87, 132, 1, 1, 167, 255, 230, 3, 60, 27, 6, 162, 0, 17, 42]
abbrev dktX2_fresh_1 : List UInt8 := dkwX2_fresh_1 ++ dktX2_fresh_2
def dkwX2_fresh_0 : List UInt8 := [187, 0, 13, 89, 183, 0, 35, 75, 3, 60, 27, 16, 6, 162, 0, 26, 42, 180, 0, 12, 187, 0, 36, 89]
abbrev dktX2_fresh_0 : List UInt8 := dkwX2_fresh_0 ++ dktX2_fresh_1
theorem dksX2_fresh_0 : cX2_fresh.data.toList.drop 0 = dktX2_fresh_0 := by decide +kernel
theorem dksX2_fresh_1 : cX2_fresh.data.toList.drop 24 = dktX2_fresh_1 := dk_seg dksX2_fresh_0 24 rfl rfl
theorem dksX2_fresh_2 : cX2_fresh.data.toList.drop 47 = dktX2_fresh_2 := dk_seg dksX2_fresh_1 23 rfl rfl
theorem dX2_fresh_0 : decode cX2_fresh 0 = .ok (.new 13, 3) := dk_187 0 13 (dk_at dksX2_fresh_0 0 rfl rfl)
theorem dX2_fresh_3 : decode cX2_fresh 3 = .ok (.dup, 1) := dk_89 (dk_at dksX2_fresh_0 3 rfl rfl)
theorem dX2_fresh_4 : decode cX2_fresh 4 = .ok (.invokespecial 35, 3) := dk_183 0 35 (dk_at dksX2_fresh_0 4 rfl rfl)
theorem dX2_fresh_7 : decode cX2_fresh 7 = .ok (.astore_n 0, 1) := dk_75 (dk_at dksX2_fresh_0 7 rfl rfl)
theorem dX2_fresh_8 : decode cX2_fresh 8 = .ok (.iconst 0, 1) := dk_3 (dk_at dksX2_fresh_0 8 rfl rfl)
theorem dX2_fresh_9 : decode cX2_fresh 9 = .ok (.istore_n 1, 1) := dk_60 (dk_at dksX2_fresh_0 9 rfl rfl)
theorem dX2_fresh_10 : decode cX2_fresh 10 = .ok (.iload_n 1, 1) := dk_27 (dk_at dksX2_fresh_0 10 rfl rfl)
theorem dX2_fresh_11 : decode cX2_fresh 11 = .ok (.bipush 6, 2) := dk_16 6 (dk_at dksX2_fresh_0 11 rfl rfl)
theorem dX2_fresh_13 : decode cX2_fresh 13 = .ok (.if_icmp .ge 26, 3) := dk_162 0 26 (dk_at dksX2_fresh_0 13 rfl rfl)
theorem dX2_fresh_16 : decode cX2_fresh 16 = .ok (.aload_n 0, 1) := dk_42 (dk_at dksX2_fresh_0 16 rfl rfl)
theorem dX2_fresh_17 : decode cX2_fresh 17 = .ok (.getfield 12, 3) := dk_180 0 12 (dk_at dksX2_fresh_0 17 rfl rfl)
theorem dX2_fresh_20 : decode cX2_fresh 20 = .ok (.new 36, 3) := dk_187 0 36 (dk_at dksX2_fresh_0 20 rfl rfl)
theorem dX2_fresh_23 : decode cX2_fresh 23 = .ok (.dup, 1) := dk_89 (dk_at dksX2_fresh_0 23 rfl rfl)
theorem dX2_fresh_24 : decode cX2_fresh 24 = .ok (.invokespecial 38, 3) := dk_183 0 38 (dk_at dksX2_fresh_1 0 rfl rfl)
theorem dX2_fresh_27 : decode cX2_fresh 27 = .ok (.invokeinterface 39 2, 5) := by decide +kernel
theorem dX2_fresh_32 : decode cX2_fresh 32 = .ok (.pop, 1) := dk_87 (dk_at dksX2_fresh_1 8 rfl rfl)
theorem dX2_fresh_33 : decode cX2_fresh 33 = .ok (.iinc 1 1, 3) := dk_132 1 1 (dk_at dksX2_fresh_1 9 rfl rfl)
theorem dX2_fresh_36 : decode cX2_fresh 36 = .ok (.goto (-26), 3) := dk_167 255 230 (dk_at dksX2_fresh_1 12 rfl rfl)
theorem dX2_fresh_39 : decode cX2_fresh 39 = .ok (.iconst 0, 1) := dk_3 (dk_at dksX2_fresh_1 15 rfl rfl)
theorem dX2_fresh_40 : decode cX2_fresh 40 = .ok (.istore_n 1, 1) := dk_60 (dk_at dksX2_fresh_1 16 rfl rfl)
theorem dX2_fresh_41 : decode cX2_fresh 41 = .ok (.iload_n 1, 1) := dk_27 (dk_at dksX2_fresh_1 17 rfl rfl)
theorem dX2_fresh_42 : decode cX2_fresh 42 = .ok (.iconst 3, 1) := dk_6 (dk_at dksX2_fresh_1 18 rfl rfl)
theorem dX2_fresh_43 : decode cX2_fresh 43 = .ok (.if_icmp .ge 17, 3) := dk_162 0 17 (dk_at dksX2_fresh_1 19 rfl rfl)
theorem dX2_fresh_46 : decode cX2_fresh 46 = .ok (.aload_n 0, 1) := dk_42 (dk_at dksX2_fresh_1 22 rfl rfl)
theorem dX2_fresh_47 : decode cX2_fresh 47 = .ok (.getfield 24, 3) := dk_180 0 24 (dk_at dksX2_fresh_2 0 rfl rfl)
theorem dX2_fresh_50 : decode cX2_fresh 50 = .ok (.iload_n 1, 1) := dk_27 (dk_at dksX2_fresh_2 3 rfl rfl)
theorem dX2_fresh_51 : decode cX2_fresh 51 = .ok (.bipush 20, 2) := dk_16 20 (dk_at dksX2_fresh_2 4 rfl rfl)
theorem dX2_fresh_53 : decode cX2_fresh 53 = .ok (.iastore, 1) := dk_79 (dk_at dksX2_fresh_2 6 rfl rfl)
theorem dX2_fresh_54 : decode cX2_fresh 54 = .ok (.iinc 1 1, 3) := dk_132 1 1 (dk_at dksX2_fresh_2 7 rfl rfl)
theorem dX2_fresh_57 : decode cX2_fresh 57 = .ok (.goto (-16), 3) := dk_167 255 240 (dk_at dksX2_fresh_2 10 rfl rfl)
theorem dX2_fresh_60 : decode cX2_fresh 60 = .ok (.aload_n 0, 1) := dk_42 (dk_at dksX2_fresh_2 13 rfl rfl)
theorem dX2_fresh_61 : decode cX2_fresh 61 = .ok (.areturn, 1) := dk_176 (dk_at dksX2_fresh_2 14 rfl rfl)
abbrev cX2_init : ByteArray := prog_10_method_1_code
def yX2_init : MethodName := ⟨RX2, "<init>", "()V"⟩
def dkwX2_init_2 : List UInt8 := [181, 0, 28, 42, 4, 181, 0, 32, 177]
abbrev dktX2_init_2 : List UInt8 := dkwX2_init_2 ++ []
def dkwX2_init_1 : List UInt8 := [181, 0, 18, 42, 187, 0, 9, 89, 183, 0, 11, 181, 0, 21, 42, 6, 188, 10, 181, 0, 24, 42, 5]
abbrev dktX2_init_1 : List UInt8 := dkwX2_init_1 ++ dktX2_init_2
def dkwX2_init_0 : List UInt8 := [42, 183, 0, 3, 42, 187, 0, 9, 89, 183, 0, 11, 181, 0, 12, 42, 187, 0, 9, 89, 183, 0, 11]
abbrev dktX2_init_0 : List UInt8 := dkwX2_init_0 ++ dktX2_init_1
theorem dksX2_init_0 : cX2_init.data.toList.drop 0 = dktX2_init_0 := by decide +kernel
theorem dksX2_init_1 : cX2_init.data.toList.drop 23 = dktX2_init_1 := dk_seg dksX2_init_0 23 rfl rfl
theorem dksX2_init_2 : cX2_init.data.toList.drop 46 = dktX2_init_2 := dk_seg dksX2_init_1 23 rfl rfl
theorem dX2_init_0 : decode cX2_init 0 = .ok (.aload_n 0, 1) := dk_42 (dk_at dksX2_init_0 0 rfl rfl)
theorem dX2_init_1 : decode cX2_init 1 = .ok (.invokespecial 3, 3) := dk_183 0 3 (dk_at dksX2_init_0 1 rfl rfl)
theorem dX2_init_4 : decode cX2_init 4 = .ok (.aload_n 0, 1) := dk_42 (dk_at dksX2_init_0 4 rfl rfl)
theorem dX2_init_5 : decode cX2_init 5 = .ok (.new 9, 3) := dk_187 0 9 (dk_at dksX2_init_0 5 rfl rfl)
theorem dX2_init_8 : decode cX2_init 8 = .ok (.dup, 1) := dk_89 (dk_at dksX2_init_0 8 rfl rfl)
theorem dX2_init_9 : decode cX2_init 9 = .ok (.invokespecial 11, 3) := dk_183 0 11 (dk_at dksX2_init_0 9 rfl rfl)
theorem dX2_init_12 : decode cX2_init 12 = .ok (.putfield 12, 3) := dk_181 0 12 (dk_at dksX2_init_0 12 rfl rfl)
theorem dX2_init_15 : decode cX2_init 15 = .ok (.aload_n 0, 1) := dk_42 (dk_at dksX2_init_0 15 rfl rfl)
theorem dX2_init_16 : decode cX2_init 16 = .ok (.new 9, 3) := dk_187 0 9 (dk_at dksX2_init_0 16 rfl rfl)
theorem dX2_init_19 : decode cX2_init 19 = .ok (.dup, 1) := dk_89 (dk_at dksX2_init_0 19 rfl rfl)
theorem dX2_init_20 : decode cX2_init 20 = .ok (.invokespecial 11, 3) := dk_183 0 11 (dk_at dksX2_init_0 20 rfl rfl)
theorem dX2_init_23 : decode cX2_init 23 = .ok (.putfield 18, 3) := dk_181 0 18 (dk_at dksX2_init_1 0 rfl rfl)
theorem dX2_init_26 : decode cX2_init 26 = .ok (.aload_n 0, 1) := dk_42 (dk_at dksX2_init_1 3 rfl rfl)
theorem dX2_init_27 : decode cX2_init 27 = .ok (.new 9, 3) := dk_187 0 9 (dk_at dksX2_init_1 4 rfl rfl)
theorem dX2_init_30 : decode cX2_init 30 = .ok (.dup, 1) := dk_89 (dk_at dksX2_init_1 7 rfl rfl)
theorem dX2_init_31 : decode cX2_init 31 = .ok (.invokespecial 11, 3) := dk_183 0 11 (dk_at dksX2_init_1 8 rfl rfl)
theorem dX2_init_34 : decode cX2_init 34 = .ok (.putfield 21, 3) := dk_181 0 21 (dk_at dksX2_init_1 11 rfl rfl)
theorem dX2_init_37 : decode cX2_init 37 = .ok (.aload_n 0, 1) := dk_42 (dk_at dksX2_init_1 14 rfl rfl)
theorem dX2_init_38 : decode cX2_init 38 = .ok (.iconst 3, 1) := dk_6 (dk_at dksX2_init_1 15 rfl rfl)
theorem dX2_init_39 : decode cX2_init 39 = .ok (.newarray .int, 2) := dk_188_10 (dk_at dksX2_init_1 16 rfl rfl)
theorem dX2_init_41 : decode cX2_init 41 = .ok (.putfield 24, 3) := dk_181 0 24 (dk_at dksX2_init_1 18 rfl rfl)
theorem dX2_init_44 : decode cX2_init 44 = .ok (.aload_n 0, 1) := dk_42 (dk_at dksX2_init_1 21 rfl rfl)
theorem dX2_init_45 : decode cX2_init 45 = .ok (.iconst 2, 1) := dk_5 (dk_at dksX2_init_1 22 rfl rfl)
theorem dX2_init_46 : decode cX2_init 46 = .ok (.putfield 28, 3) := dk_181 0 28 (dk_at dksX2_init_2 0 rfl rfl)
theorem dX2_init_49 : decode cX2_init 49 = .ok (.aload_n 0, 1) := dk_42 (dk_at dksX2_init_2 3 rfl rfl)
theorem dX2_init_50 : decode cX2_init 50 = .ok (.iconst 1, 1) := dk_4 (dk_at dksX2_init_2 4 rfl rfl)
theorem dX2_init_51 : decode cX2_init 51 = .ok (.putfield 32, 3) := dk_181 0 32 (dk_at dksX2_init_2 5 rfl rfl)
theorem dX2_init_54 : decode cX2_init 54 = .ok (.return_, 1) := dk_177 (dk_at dksX2_init_2 8 rfl rfl)
abbrev cX2_drawn : ByteArray := prog_10_method_13_code
def yX2_drawn : MethodName := ⟨RX2, "drawn", "()I"⟩
theorem dX2_drawn_0 : decode cX2_drawn 0 = .ok (.aload_n 0, 1) := by decide +kernel
theorem dX2_drawn_1 : decode cX2_drawn 1 = .ok (.getfield 82, 3) := by decide +kernel
theorem dX2_drawn_4 : decode cX2_drawn 4 = .ok (.ireturn, 1) := by decide +kernel
abbrev cX2_back : ByteArray := prog_10_method_14_code
def yX2_back : MethodName := ⟨RX2, "back", "()I"⟩
theorem dX2_back_0 : decode cX2_back 0 = .ok (.aload_n 0, 1) := by decide +kernel
theorem dX2_back_1 : decode cX2_back 1 = .ok (.getfield 85, 3) := by decide +kernel
theorem dX2_back_4 : decode cX2_back 4 = .ok (.ireturn, 1) := by decide +kernel
abbrev cX2_landed : ByteArray := prog_10_method_15_code
def yX2_landed : MethodName := ⟨RX2, "landed", "()I"⟩
theorem dX2_landed_0 : decode cX2_landed 0 = .ok (.aload_n 0, 1) := by decide +kernel
theorem dX2_landed_1 : decode cX2_landed 1 = .ok (.getfield 88, 3) := by decide +kernel
theorem dX2_landed_4 : decode cX2_landed 4 = .ok (.ireturn, 1) := by decide +kernel
abbrev cX2_day : ByteArray := prog_10_method_10_code
def yX2_day : MethodName := ⟨RX2, "day", "()I"⟩
theorem dX2_day_0 : decode cX2_day 0 = .ok (.aload_n 0, 1) := by decide +kernel
theorem dX2_day_1 : decode cX2_day 1 = .ok (.getfield 79, 3) := by decide +kernel
theorem dX2_day_4 : decode cX2_day 4 = .ok (.ireturn, 1) := by decide +kernel
abbrev cX2_ground : ByteArray := prog_10_method_4_code
def yX2_ground : MethodName := ⟨RX2, "ground", "(I)LWhelkFleet$Ground;"⟩
def dkwX2_ground_0 : List UInt8 := [42, 180, 0, 12, 27, 185, 0, 94, 2, 0, 192, 0, 36, 176]
abbrev dktX2_ground_0 : List UInt8 := dkwX2_ground_0 ++ []
theorem dksX2_ground_0 : cX2_ground.data.toList.drop 0 = dktX2_ground_0 := by decide +kernel
theorem dX2_ground_0 : decode cX2_ground 0 = .ok (.aload_n 0, 1) := dk_42 (dk_at dksX2_ground_0 0 rfl rfl)
theorem dX2_ground_1 : decode cX2_ground 1 = .ok (.getfield 12, 3) := dk_180 0 12 (dk_at dksX2_ground_0 1 rfl rfl)
theorem dX2_ground_4 : decode cX2_ground 4 = .ok (.iload_n 1, 1) := dk_27 (dk_at dksX2_ground_0 4 rfl rfl)
theorem dX2_ground_5 : decode cX2_ground 5 = .ok (.invokeinterface 94 2, 5) := by decide +kernel
theorem dX2_ground_10 : decode cX2_ground 10 = .ok (.checkcast 36, 3) := dk_192 0 36 (dk_at dksX2_ground_0 10 rfl rfl)
theorem dX2_ground_13 : decode cX2_ground 13 = .ok (.areturn, 1) := dk_176 (dk_at dksX2_ground_0 13 rfl rfl)
abbrev cX2_copy : ByteArray := prog_10_method_3_code
def yX2_copy : MethodName := ⟨RX2, "copy", "()LWhelkFleet$Fleet;"⟩
def dkwX2_copy_9 : List UInt8 := [181, 0, 88, 43, 42, 180, 0, 91, 181, 0, 91, 43, 176]
abbrev dktX2_copy_9 : List UInt8 := dkwX2_copy_9 ++ []
def dkwX2_copy_8 : List UInt8 := [181, 0, 32, 43, 42, 180, 0, 82, 181, 0, 82, 43, 42, 180, 0, 85, 181, 0, 85, 43, 42, 180, 0, 88]
abbrev dktX2_copy_8 : List UInt8 := dkwX2_copy_8 ++ dktX2_copy_9
def dkwX2_copy_7 : List UInt8 := [184, 0, 73, 43, 42, 180, 0, 79, 181, 0, 79, 43, 42, 180, 0, 28, 181, 0, 28, 43, 42, 180, 0, 32]
abbrev dktX2_copy_7 : List UInt8 := dkwX2_copy_7 ++ dktX2_copy_8
def dkwX2_copy_6 : List UInt8 := [182, 0, 70, 185, 0, 39, 2, 0, 87, 167, 255, 223, 42, 180, 0, 24, 3, 43, 180, 0, 24, 3, 6]
abbrev dktX2_copy_6 : List UInt8 := dkwX2_copy_6 ++ dktX2_copy_7
def dkwX2_copy_5 : List UInt8 := [185, 0, 49, 1, 0, 153, 0, 30, 44, 185, 0, 55, 1, 0, 192, 0, 68, 78, 43, 180, 0, 21, 45]
abbrev dktX2_copy_5 : List UInt8 := dkwX2_copy_5 ++ dktX2_copy_6
def dkwX2_copy_4 : List UInt8 := [182, 0, 65, 185, 0, 39, 2, 0, 87, 167, 255, 223, 42, 180, 0, 21, 185, 0, 45, 1, 0, 77, 44]
abbrev dktX2_copy_4 : List UInt8 := dkwX2_copy_4 ++ dktX2_copy_5
def dkwX2_copy_3 : List UInt8 := [185, 0, 49, 1, 0, 153, 0, 30, 44, 185, 0, 55, 1, 0, 192, 0, 63, 78, 43, 180, 0, 18, 45]
abbrev dktX2_copy_3 : List UInt8 := dkwX2_copy_3 ++ dktX2_copy_4
def dkwX2_copy_2 : List UInt8 := [185, 0, 39, 2, 0, 87, 167, 255, 223, 42, 180, 0, 18, 185, 0, 45, 1, 0, 77, 44]
abbrev dktX2_copy_2 : List UInt8 := dkwX2_copy_2 ++ dktX2_copy_3
def dkwX2_copy_1 : List UInt8 := [153, 0, 30, 44, 185, 0, 55, 1, 0, 192, 0, 36, 78, 43, 180, 0, 12, 45, 182, 0, 59]
abbrev dktX2_copy_1 : List UInt8 := dkwX2_copy_1 ++ dktX2_copy_2
def dkwX2_copy_0 : List UInt8 := [187, 0, 13, 89, 183, 0, 35, 76, 42, 180, 0, 12, 185, 0, 45, 1, 0, 77, 44, 185, 0, 49, 1, 0]
abbrev dktX2_copy_0 : List UInt8 := dkwX2_copy_0 ++ dktX2_copy_1
theorem dksX2_copy_0 : cX2_copy.data.toList.drop 0 = dktX2_copy_0 := by decide +kernel
theorem dksX2_copy_1 : cX2_copy.data.toList.drop 24 = dktX2_copy_1 := dk_seg dksX2_copy_0 24 rfl rfl
theorem dksX2_copy_2 : cX2_copy.data.toList.drop 45 = dktX2_copy_2 := dk_seg dksX2_copy_1 21 rfl rfl
theorem dksX2_copy_3 : cX2_copy.data.toList.drop 65 = dktX2_copy_3 := dk_seg dksX2_copy_2 20 rfl rfl
theorem dksX2_copy_4 : cX2_copy.data.toList.drop 88 = dktX2_copy_4 := dk_seg dksX2_copy_3 23 rfl rfl
theorem dksX2_copy_5 : cX2_copy.data.toList.drop 111 = dktX2_copy_5 := dk_seg dksX2_copy_4 23 rfl rfl
theorem dksX2_copy_6 : cX2_copy.data.toList.drop 134 = dktX2_copy_6 := dk_seg dksX2_copy_5 23 rfl rfl
theorem dksX2_copy_7 : cX2_copy.data.toList.drop 157 = dktX2_copy_7 := dk_seg dksX2_copy_6 23 rfl rfl
theorem dksX2_copy_8 : cX2_copy.data.toList.drop 181 = dktX2_copy_8 := dk_seg dksX2_copy_7 24 rfl rfl
theorem dksX2_copy_9 : cX2_copy.data.toList.drop 205 = dktX2_copy_9 := dk_seg dksX2_copy_8 24 rfl rfl
theorem dX2_copy_0 : decode cX2_copy 0 = .ok (.new 13, 3) := dk_187 0 13 (dk_at dksX2_copy_0 0 rfl rfl)
theorem dX2_copy_3 : decode cX2_copy 3 = .ok (.dup, 1) := dk_89 (dk_at dksX2_copy_0 3 rfl rfl)
theorem dX2_copy_4 : decode cX2_copy 4 = .ok (.invokespecial 35, 3) := dk_183 0 35 (dk_at dksX2_copy_0 4 rfl rfl)
theorem dX2_copy_7 : decode cX2_copy 7 = .ok (.astore_n 1, 1) := dk_76 (dk_at dksX2_copy_0 7 rfl rfl)
theorem dX2_copy_8 : decode cX2_copy 8 = .ok (.aload_n 0, 1) := dk_42 (dk_at dksX2_copy_0 8 rfl rfl)
theorem dX2_copy_9 : decode cX2_copy 9 = .ok (.getfield 12, 3) := dk_180 0 12 (dk_at dksX2_copy_0 9 rfl rfl)
theorem dX2_copy_12 : decode cX2_copy 12 = .ok (.invokeinterface 45 1, 5) := by decide +kernel
theorem dX2_copy_17 : decode cX2_copy 17 = .ok (.astore_n 2, 1) := dk_77 (dk_at dksX2_copy_0 17 rfl rfl)
theorem dX2_copy_18 : decode cX2_copy 18 = .ok (.aload_n 2, 1) := dk_44 (dk_at dksX2_copy_0 18 rfl rfl)
theorem dX2_copy_19 : decode cX2_copy 19 = .ok (.invokeinterface 49 1, 5) := by decide +kernel
theorem dX2_copy_24 : decode cX2_copy 24 = .ok (.ifCond .eq 30, 3) := dk_153 0 30 (dk_at dksX2_copy_1 0 rfl rfl)
theorem dX2_copy_27 : decode cX2_copy 27 = .ok (.aload_n 2, 1) := dk_44 (dk_at dksX2_copy_1 3 rfl rfl)
theorem dX2_copy_28 : decode cX2_copy 28 = .ok (.invokeinterface 55 1, 5) := by decide +kernel
theorem dX2_copy_33 : decode cX2_copy 33 = .ok (.checkcast 36, 3) := dk_192 0 36 (dk_at dksX2_copy_1 9 rfl rfl)
theorem dX2_copy_36 : decode cX2_copy 36 = .ok (.astore_n 3, 1) := dk_78 (dk_at dksX2_copy_1 12 rfl rfl)
theorem dX2_copy_37 : decode cX2_copy 37 = .ok (.aload_n 1, 1) := dk_43 (dk_at dksX2_copy_1 13 rfl rfl)
theorem dX2_copy_38 : decode cX2_copy 38 = .ok (.getfield 12, 3) := dk_180 0 12 (dk_at dksX2_copy_1 14 rfl rfl)
theorem dX2_copy_41 : decode cX2_copy 41 = .ok (.aload_n 3, 1) := dk_45 (dk_at dksX2_copy_1 17 rfl rfl)
theorem dX2_copy_42 : decode cX2_copy 42 = .ok (.invokevirtual 59, 3) := dk_182 0 59 (dk_at dksX2_copy_1 18 rfl rfl)
theorem dX2_copy_45 : decode cX2_copy 45 = .ok (.invokeinterface 39 2, 5) := by decide +kernel
theorem dX2_copy_50 : decode cX2_copy 50 = .ok (.pop, 1) := dk_87 (dk_at dksX2_copy_2 5 rfl rfl)
theorem dX2_copy_51 : decode cX2_copy 51 = .ok (.goto (-33), 3) := dk_167 255 223 (dk_at dksX2_copy_2 6 rfl rfl)
theorem dX2_copy_54 : decode cX2_copy 54 = .ok (.aload_n 0, 1) := dk_42 (dk_at dksX2_copy_2 9 rfl rfl)
theorem dX2_copy_55 : decode cX2_copy 55 = .ok (.getfield 18, 3) := dk_180 0 18 (dk_at dksX2_copy_2 10 rfl rfl)
theorem dX2_copy_58 : decode cX2_copy 58 = .ok (.invokeinterface 45 1, 5) := by decide +kernel
theorem dX2_copy_63 : decode cX2_copy 63 = .ok (.astore_n 2, 1) := dk_77 (dk_at dksX2_copy_2 18 rfl rfl)
theorem dX2_copy_64 : decode cX2_copy 64 = .ok (.aload_n 2, 1) := dk_44 (dk_at dksX2_copy_2 19 rfl rfl)
theorem dX2_copy_65 : decode cX2_copy 65 = .ok (.invokeinterface 49 1, 5) := by decide +kernel
theorem dX2_copy_70 : decode cX2_copy 70 = .ok (.ifCond .eq 30, 3) := dk_153 0 30 (dk_at dksX2_copy_3 5 rfl rfl)
theorem dX2_copy_73 : decode cX2_copy 73 = .ok (.aload_n 2, 1) := dk_44 (dk_at dksX2_copy_3 8 rfl rfl)
theorem dX2_copy_74 : decode cX2_copy 74 = .ok (.invokeinterface 55 1, 5) := by decide +kernel
theorem dX2_copy_79 : decode cX2_copy 79 = .ok (.checkcast 63, 3) := dk_192 0 63 (dk_at dksX2_copy_3 14 rfl rfl)
theorem dX2_copy_82 : decode cX2_copy 82 = .ok (.astore_n 3, 1) := dk_78 (dk_at dksX2_copy_3 17 rfl rfl)
theorem dX2_copy_83 : decode cX2_copy 83 = .ok (.aload_n 1, 1) := dk_43 (dk_at dksX2_copy_3 18 rfl rfl)
theorem dX2_copy_84 : decode cX2_copy 84 = .ok (.getfield 18, 3) := dk_180 0 18 (dk_at dksX2_copy_3 19 rfl rfl)
theorem dX2_copy_87 : decode cX2_copy 87 = .ok (.aload_n 3, 1) := dk_45 (dk_at dksX2_copy_3 22 rfl rfl)
theorem dX2_copy_88 : decode cX2_copy 88 = .ok (.invokevirtual 65, 3) := dk_182 0 65 (dk_at dksX2_copy_4 0 rfl rfl)
theorem dX2_copy_91 : decode cX2_copy 91 = .ok (.invokeinterface 39 2, 5) := by decide +kernel
theorem dX2_copy_96 : decode cX2_copy 96 = .ok (.pop, 1) := dk_87 (dk_at dksX2_copy_4 8 rfl rfl)
theorem dX2_copy_97 : decode cX2_copy 97 = .ok (.goto (-33), 3) := dk_167 255 223 (dk_at dksX2_copy_4 9 rfl rfl)
theorem dX2_copy_100 : decode cX2_copy 100 = .ok (.aload_n 0, 1) := dk_42 (dk_at dksX2_copy_4 12 rfl rfl)
theorem dX2_copy_101 : decode cX2_copy 101 = .ok (.getfield 21, 3) := dk_180 0 21 (dk_at dksX2_copy_4 13 rfl rfl)
theorem dX2_copy_104 : decode cX2_copy 104 = .ok (.invokeinterface 45 1, 5) := by decide +kernel
theorem dX2_copy_109 : decode cX2_copy 109 = .ok (.astore_n 2, 1) := dk_77 (dk_at dksX2_copy_4 21 rfl rfl)
theorem dX2_copy_110 : decode cX2_copy 110 = .ok (.aload_n 2, 1) := dk_44 (dk_at dksX2_copy_4 22 rfl rfl)
theorem dX2_copy_111 : decode cX2_copy 111 = .ok (.invokeinterface 49 1, 5) := by decide +kernel
theorem dX2_copy_116 : decode cX2_copy 116 = .ok (.ifCond .eq 30, 3) := dk_153 0 30 (dk_at dksX2_copy_5 5 rfl rfl)
theorem dX2_copy_119 : decode cX2_copy 119 = .ok (.aload_n 2, 1) := dk_44 (dk_at dksX2_copy_5 8 rfl rfl)
theorem dX2_copy_120 : decode cX2_copy 120 = .ok (.invokeinterface 55 1, 5) := by decide +kernel
theorem dX2_copy_125 : decode cX2_copy 125 = .ok (.checkcast 68, 3) := dk_192 0 68 (dk_at dksX2_copy_5 14 rfl rfl)
theorem dX2_copy_128 : decode cX2_copy 128 = .ok (.astore_n 3, 1) := dk_78 (dk_at dksX2_copy_5 17 rfl rfl)
theorem dX2_copy_129 : decode cX2_copy 129 = .ok (.aload_n 1, 1) := dk_43 (dk_at dksX2_copy_5 18 rfl rfl)
theorem dX2_copy_130 : decode cX2_copy 130 = .ok (.getfield 21, 3) := dk_180 0 21 (dk_at dksX2_copy_5 19 rfl rfl)
theorem dX2_copy_133 : decode cX2_copy 133 = .ok (.aload_n 3, 1) := dk_45 (dk_at dksX2_copy_5 22 rfl rfl)
theorem dX2_copy_134 : decode cX2_copy 134 = .ok (.invokevirtual 70, 3) := dk_182 0 70 (dk_at dksX2_copy_6 0 rfl rfl)
theorem dX2_copy_137 : decode cX2_copy 137 = .ok (.invokeinterface 39 2, 5) := by decide +kernel
theorem dX2_copy_142 : decode cX2_copy 142 = .ok (.pop, 1) := dk_87 (dk_at dksX2_copy_6 8 rfl rfl)
theorem dX2_copy_143 : decode cX2_copy 143 = .ok (.goto (-33), 3) := dk_167 255 223 (dk_at dksX2_copy_6 9 rfl rfl)
theorem dX2_copy_146 : decode cX2_copy 146 = .ok (.aload_n 0, 1) := dk_42 (dk_at dksX2_copy_6 12 rfl rfl)
theorem dX2_copy_147 : decode cX2_copy 147 = .ok (.getfield 24, 3) := dk_180 0 24 (dk_at dksX2_copy_6 13 rfl rfl)
theorem dX2_copy_150 : decode cX2_copy 150 = .ok (.iconst 0, 1) := dk_3 (dk_at dksX2_copy_6 16 rfl rfl)
theorem dX2_copy_151 : decode cX2_copy 151 = .ok (.aload_n 1, 1) := dk_43 (dk_at dksX2_copy_6 17 rfl rfl)
theorem dX2_copy_152 : decode cX2_copy 152 = .ok (.getfield 24, 3) := dk_180 0 24 (dk_at dksX2_copy_6 18 rfl rfl)
theorem dX2_copy_155 : decode cX2_copy 155 = .ok (.iconst 0, 1) := dk_3 (dk_at dksX2_copy_6 21 rfl rfl)
theorem dX2_copy_156 : decode cX2_copy 156 = .ok (.iconst 3, 1) := dk_6 (dk_at dksX2_copy_6 22 rfl rfl)
theorem dX2_copy_157 : decode cX2_copy 157 = .ok (.invokestatic 73, 3) := dk_184 0 73 (dk_at dksX2_copy_7 0 rfl rfl)
theorem dX2_copy_160 : decode cX2_copy 160 = .ok (.aload_n 1, 1) := dk_43 (dk_at dksX2_copy_7 3 rfl rfl)
theorem dX2_copy_161 : decode cX2_copy 161 = .ok (.aload_n 0, 1) := dk_42 (dk_at dksX2_copy_7 4 rfl rfl)
theorem dX2_copy_162 : decode cX2_copy 162 = .ok (.getfield 79, 3) := dk_180 0 79 (dk_at dksX2_copy_7 5 rfl rfl)
theorem dX2_copy_165 : decode cX2_copy 165 = .ok (.putfield 79, 3) := dk_181 0 79 (dk_at dksX2_copy_7 8 rfl rfl)
theorem dX2_copy_168 : decode cX2_copy 168 = .ok (.aload_n 1, 1) := dk_43 (dk_at dksX2_copy_7 11 rfl rfl)
theorem dX2_copy_169 : decode cX2_copy 169 = .ok (.aload_n 0, 1) := dk_42 (dk_at dksX2_copy_7 12 rfl rfl)
theorem dX2_copy_170 : decode cX2_copy 170 = .ok (.getfield 28, 3) := dk_180 0 28 (dk_at dksX2_copy_7 13 rfl rfl)
theorem dX2_copy_173 : decode cX2_copy 173 = .ok (.putfield 28, 3) := dk_181 0 28 (dk_at dksX2_copy_7 16 rfl rfl)
theorem dX2_copy_176 : decode cX2_copy 176 = .ok (.aload_n 1, 1) := dk_43 (dk_at dksX2_copy_7 19 rfl rfl)
theorem dX2_copy_177 : decode cX2_copy 177 = .ok (.aload_n 0, 1) := dk_42 (dk_at dksX2_copy_7 20 rfl rfl)
theorem dX2_copy_178 : decode cX2_copy 178 = .ok (.getfield 32, 3) := dk_180 0 32 (dk_at dksX2_copy_7 21 rfl rfl)
theorem dX2_copy_181 : decode cX2_copy 181 = .ok (.putfield 32, 3) := dk_181 0 32 (dk_at dksX2_copy_8 0 rfl rfl)
theorem dX2_copy_184 : decode cX2_copy 184 = .ok (.aload_n 1, 1) := dk_43 (dk_at dksX2_copy_8 3 rfl rfl)
theorem dX2_copy_185 : decode cX2_copy 185 = .ok (.aload_n 0, 1) := dk_42 (dk_at dksX2_copy_8 4 rfl rfl)
theorem dX2_copy_186 : decode cX2_copy 186 = .ok (.getfield 82, 3) := dk_180 0 82 (dk_at dksX2_copy_8 5 rfl rfl)
theorem dX2_copy_189 : decode cX2_copy 189 = .ok (.putfield 82, 3) := dk_181 0 82 (dk_at dksX2_copy_8 8 rfl rfl)
theorem dX2_copy_192 : decode cX2_copy 192 = .ok (.aload_n 1, 1) := dk_43 (dk_at dksX2_copy_8 11 rfl rfl)
theorem dX2_copy_193 : decode cX2_copy 193 = .ok (.aload_n 0, 1) := dk_42 (dk_at dksX2_copy_8 12 rfl rfl)
theorem dX2_copy_194 : decode cX2_copy 194 = .ok (.getfield 85, 3) := dk_180 0 85 (dk_at dksX2_copy_8 13 rfl rfl)
theorem dX2_copy_197 : decode cX2_copy 197 = .ok (.putfield 85, 3) := dk_181 0 85 (dk_at dksX2_copy_8 16 rfl rfl)
theorem dX2_copy_200 : decode cX2_copy 200 = .ok (.aload_n 1, 1) := dk_43 (dk_at dksX2_copy_8 19 rfl rfl)
theorem dX2_copy_201 : decode cX2_copy 201 = .ok (.aload_n 0, 1) := dk_42 (dk_at dksX2_copy_8 20 rfl rfl)
theorem dX2_copy_202 : decode cX2_copy 202 = .ok (.getfield 88, 3) := dk_180 0 88 (dk_at dksX2_copy_8 21 rfl rfl)
theorem dX2_copy_205 : decode cX2_copy 205 = .ok (.putfield 88, 3) := dk_181 0 88 (dk_at dksX2_copy_9 0 rfl rfl)
theorem dX2_copy_208 : decode cX2_copy 208 = .ok (.aload_n 1, 1) := dk_43 (dk_at dksX2_copy_9 3 rfl rfl)
theorem dX2_copy_209 : decode cX2_copy 209 = .ok (.aload_n 0, 1) := dk_42 (dk_at dksX2_copy_9 4 rfl rfl)
theorem dX2_copy_210 : decode cX2_copy 210 = .ok (.getfield 91, 3) := dk_180 0 91 (dk_at dksX2_copy_9 5 rfl rfl)
theorem dX2_copy_213 : decode cX2_copy 213 = .ok (.putfield 91, 3) := dk_181 0 91 (dk_at dksX2_copy_9 8 rfl rfl)
theorem dX2_copy_216 : decode cX2_copy 216 = .ok (.aload_n 1, 1) := dk_43 (dk_at dksX2_copy_9 11 rfl rfl)
theorem dX2_copy_217 : decode cX2_copy 217 = .ok (.areturn, 1) := dk_176 (dk_at dksX2_copy_9 12 rfl rfl)
abbrev cX2_goesOut : ByteArray := prog_10_method_22_code
def yX2_goesOut : MethodName := ⟨RX2, "goesOut", "(II)I"⟩
def dkwX2_goesOut_2 : List UInt8 := [182, 0, 142, 182, 0, 145, 45, 25, 4, 182, 0, 148, 45, 25, 4, 182, 0, 142, 182, 0, 152, 172]
abbrev dktX2_goesOut_2 : List UInt8 := dkwX2_goesOut_2 ++ []
def dkwX2_goesOut_1 : List UInt8 := [45, 182, 0, 139, 163, 0, 7, 4, 167, 0, 4, 3, 6, 42, 180, 0, 28, 184, 0, 108, 45, 25, 4]
abbrev dktX2_goesOut_1 : List UInt8 := dkwX2_goesOut_1 ++ dktX2_goesOut_2
def dkwX2_goesOut_0 : List UInt8 := [42, 27, 182, 0, 130, 78, 187, 0, 120, 89, 28, 183, 0, 134, 58, 4, 45, 184, 0, 135, 42, 180, 0, 28]
abbrev dktX2_goesOut_0 : List UInt8 := dkwX2_goesOut_0 ++ dktX2_goesOut_1
theorem dksX2_goesOut_0 : cX2_goesOut.data.toList.drop 0 = dktX2_goesOut_0 := by decide +kernel
theorem dksX2_goesOut_1 : cX2_goesOut.data.toList.drop 24 = dktX2_goesOut_1 := dk_seg dksX2_goesOut_0 24 rfl rfl
theorem dksX2_goesOut_2 : cX2_goesOut.data.toList.drop 47 = dktX2_goesOut_2 := dk_seg dksX2_goesOut_1 23 rfl rfl
theorem dX2_goesOut_0 : decode cX2_goesOut 0 = .ok (.aload_n 0, 1) := dk_42 (dk_at dksX2_goesOut_0 0 rfl rfl)
theorem dX2_goesOut_1 : decode cX2_goesOut 1 = .ok (.iload_n 1, 1) := dk_27 (dk_at dksX2_goesOut_0 1 rfl rfl)
theorem dX2_goesOut_2 : decode cX2_goesOut 2 = .ok (.invokevirtual 130, 3) := dk_182 0 130 (dk_at dksX2_goesOut_0 2 rfl rfl)
theorem dX2_goesOut_5 : decode cX2_goesOut 5 = .ok (.astore_n 3, 1) := dk_78 (dk_at dksX2_goesOut_0 5 rfl rfl)
theorem dX2_goesOut_6 : decode cX2_goesOut 6 = .ok (.new 120, 3) := dk_187 0 120 (dk_at dksX2_goesOut_0 6 rfl rfl)
theorem dX2_goesOut_9 : decode cX2_goesOut 9 = .ok (.dup, 1) := dk_89 (dk_at dksX2_goesOut_0 9 rfl rfl)
theorem dX2_goesOut_10 : decode cX2_goesOut 10 = .ok (.iload_n 2, 1) := dk_28 (dk_at dksX2_goesOut_0 10 rfl rfl)
theorem dX2_goesOut_11 : decode cX2_goesOut 11 = .ok (.invokespecial 134, 3) := dk_183 0 134 (dk_at dksX2_goesOut_0 11 rfl rfl)
theorem dX2_goesOut_14 : decode cX2_goesOut 14 = .ok (.astore 4, 2) := dk_58 4 (dk_at dksX2_goesOut_0 14 rfl rfl)
theorem dX2_goesOut_16 : decode cX2_goesOut 16 = .ok (.aload_n 3, 1) := dk_45 (dk_at dksX2_goesOut_0 16 rfl rfl)
theorem dX2_goesOut_17 : decode cX2_goesOut 17 = .ok (.invokestatic 135, 3) := dk_184 0 135 (dk_at dksX2_goesOut_0 17 rfl rfl)
theorem dX2_goesOut_20 : decode cX2_goesOut 20 = .ok (.aload_n 0, 1) := dk_42 (dk_at dksX2_goesOut_0 20 rfl rfl)
theorem dX2_goesOut_21 : decode cX2_goesOut 21 = .ok (.getfield 28, 3) := dk_180 0 28 (dk_at dksX2_goesOut_0 21 rfl rfl)
theorem dX2_goesOut_24 : decode cX2_goesOut 24 = .ok (.aload_n 3, 1) := dk_45 (dk_at dksX2_goesOut_1 0 rfl rfl)
theorem dX2_goesOut_25 : decode cX2_goesOut 25 = .ok (.invokevirtual 139, 3) := dk_182 0 139 (dk_at dksX2_goesOut_1 1 rfl rfl)
theorem dX2_goesOut_28 : decode cX2_goesOut 28 = .ok (.if_icmp .gt 7, 3) := dk_163 0 7 (dk_at dksX2_goesOut_1 4 rfl rfl)
theorem dX2_goesOut_31 : decode cX2_goesOut 31 = .ok (.iconst 1, 1) := dk_4 (dk_at dksX2_goesOut_1 7 rfl rfl)
theorem dX2_goesOut_32 : decode cX2_goesOut 32 = .ok (.goto 4, 3) := dk_167 0 4 (dk_at dksX2_goesOut_1 8 rfl rfl)
theorem dX2_goesOut_35 : decode cX2_goesOut 35 = .ok (.iconst 0, 1) := dk_3 (dk_at dksX2_goesOut_1 11 rfl rfl)
theorem dX2_goesOut_36 : decode cX2_goesOut 36 = .ok (.iconst 3, 1) := dk_6 (dk_at dksX2_goesOut_1 12 rfl rfl)
theorem dX2_goesOut_37 : decode cX2_goesOut 37 = .ok (.aload_n 0, 1) := dk_42 (dk_at dksX2_goesOut_1 13 rfl rfl)
theorem dX2_goesOut_38 : decode cX2_goesOut 38 = .ok (.getfield 28, 3) := dk_180 0 28 (dk_at dksX2_goesOut_1 14 rfl rfl)
theorem dX2_goesOut_41 : decode cX2_goesOut 41 = .ok (.invokestatic 108, 3) := dk_184 0 108 (dk_at dksX2_goesOut_1 17 rfl rfl)
theorem dX2_goesOut_44 : decode cX2_goesOut 44 = .ok (.aload_n 3, 1) := dk_45 (dk_at dksX2_goesOut_1 20 rfl rfl)
theorem dX2_goesOut_45 : decode cX2_goesOut 45 = .ok (.aload 4, 2) := dk_25 4 (dk_at dksX2_goesOut_1 21 rfl rfl)
theorem dX2_goesOut_47 : decode cX2_goesOut 47 = .ok (.invokevirtual 142, 3) := dk_182 0 142 (dk_at dksX2_goesOut_2 0 rfl rfl)
theorem dX2_goesOut_50 : decode cX2_goesOut 50 = .ok (.invokevirtual 145, 3) := dk_182 0 145 (dk_at dksX2_goesOut_2 3 rfl rfl)
theorem dX2_goesOut_53 : decode cX2_goesOut 53 = .ok (.aload_n 3, 1) := dk_45 (dk_at dksX2_goesOut_2 6 rfl rfl)
theorem dX2_goesOut_54 : decode cX2_goesOut 54 = .ok (.aload 4, 2) := dk_25 4 (dk_at dksX2_goesOut_2 7 rfl rfl)
theorem dX2_goesOut_56 : decode cX2_goesOut 56 = .ok (.invokevirtual 148, 3) := dk_182 0 148 (dk_at dksX2_goesOut_2 9 rfl rfl)
theorem dX2_goesOut_59 : decode cX2_goesOut 59 = .ok (.aload_n 3, 1) := dk_45 (dk_at dksX2_goesOut_2 12 rfl rfl)
theorem dX2_goesOut_60 : decode cX2_goesOut 60 = .ok (.aload 4, 2) := dk_25 4 (dk_at dksX2_goesOut_2 13 rfl rfl)
theorem dX2_goesOut_62 : decode cX2_goesOut 62 = .ok (.invokevirtual 142, 3) := dk_182 0 142 (dk_at dksX2_goesOut_2 15 rfl rfl)
theorem dX2_goesOut_65 : decode cX2_goesOut 65 = .ok (.invokevirtual 152, 3) := dk_182 0 152 (dk_at dksX2_goesOut_2 18 rfl rfl)
theorem dX2_goesOut_68 : decode cX2_goesOut 68 = .ok (.ireturn, 1) := dk_172 (dk_at dksX2_goesOut_2 21 rfl rfl)
abbrev cX2_boat : ByteArray := prog_10_method_6_code
def yX2_boat : MethodName := ⟨RX2, "boat", "(I)LWhelkFleet$Boat;"⟩
def dkwX2_boat_0 : List UInt8 := [42, 180, 0, 18, 27, 185, 0, 94, 2, 0, 192, 0, 63, 176]
abbrev dktX2_boat_0 : List UInt8 := dkwX2_boat_0 ++ []
theorem dksX2_boat_0 : cX2_boat.data.toList.drop 0 = dktX2_boat_0 := by decide +kernel
theorem dX2_boat_0 : decode cX2_boat 0 = .ok (.aload_n 0, 1) := dk_42 (dk_at dksX2_boat_0 0 rfl rfl)
theorem dX2_boat_1 : decode cX2_boat 1 = .ok (.getfield 18, 3) := dk_180 0 18 (dk_at dksX2_boat_0 1 rfl rfl)
theorem dX2_boat_4 : decode cX2_boat 4 = .ok (.iload_n 1, 1) := dk_27 (dk_at dksX2_boat_0 4 rfl rfl)
theorem dX2_boat_5 : decode cX2_boat 5 = .ok (.invokeinterface 94 2, 5) := by decide +kernel
theorem dX2_boat_10 : decode cX2_boat 10 = .ok (.checkcast 63, 3) := dk_192 0 63 (dk_at dksX2_boat_0 10 rfl rfl)
theorem dX2_boat_13 : decode cX2_boat 13 = .ok (.areturn, 1) := dk_176 (dk_at dksX2_boat_0 13 rfl rfl)
abbrev cX2_checkHome : ByteArray := prog_10_method_20_code
def yX2_checkHome : MethodName := ⟨RX2, "checkHome", "(LWhelkFleet$Boat;)V"⟩
def dkwX2_checkHome_1 : List UInt8 := [182, 0, 124, 183, 0, 127, 191, 177]
abbrev dktX2_checkHome_1 : List UInt8 := dkwX2_checkHome_1 ++ []
def dkwX2_checkHome_0 : List UInt8 := [42, 182, 0, 116, 77, 44, 193, 0, 120, 153, 0, 21, 44, 192, 0, 120, 76, 187, 0, 122, 89, 5, 43]
abbrev dktX2_checkHome_0 : List UInt8 := dkwX2_checkHome_0 ++ dktX2_checkHome_1
theorem dksX2_checkHome_0 : cX2_checkHome.data.toList.drop 0 = dktX2_checkHome_0 := by decide +kernel
theorem dksX2_checkHome_1 : cX2_checkHome.data.toList.drop 23 = dktX2_checkHome_1 := dk_seg dksX2_checkHome_0 23 rfl rfl
theorem dX2_checkHome_0 : decode cX2_checkHome 0 = .ok (.aload_n 0, 1) := dk_42 (dk_at dksX2_checkHome_0 0 rfl rfl)
theorem dX2_checkHome_1 : decode cX2_checkHome 1 = .ok (.invokevirtual 116, 3) := dk_182 0 116 (dk_at dksX2_checkHome_0 1 rfl rfl)
theorem dX2_checkHome_4 : decode cX2_checkHome 4 = .ok (.astore_n 2, 1) := dk_77 (dk_at dksX2_checkHome_0 4 rfl rfl)
theorem dX2_checkHome_5 : decode cX2_checkHome 5 = .ok (.aload_n 2, 1) := dk_44 (dk_at dksX2_checkHome_0 5 rfl rfl)
theorem dX2_checkHome_6 : decode cX2_checkHome 6 = .ok (.instanceof 120, 3) := dk_193 0 120 (dk_at dksX2_checkHome_0 6 rfl rfl)
theorem dX2_checkHome_9 : decode cX2_checkHome 9 = .ok (.ifCond .eq 21, 3) := dk_153 0 21 (dk_at dksX2_checkHome_0 9 rfl rfl)
theorem dX2_checkHome_12 : decode cX2_checkHome 12 = .ok (.aload_n 2, 1) := dk_44 (dk_at dksX2_checkHome_0 12 rfl rfl)
theorem dX2_checkHome_13 : decode cX2_checkHome 13 = .ok (.checkcast 120, 3) := dk_192 0 120 (dk_at dksX2_checkHome_0 13 rfl rfl)
theorem dX2_checkHome_16 : decode cX2_checkHome 16 = .ok (.astore_n 1, 1) := dk_76 (dk_at dksX2_checkHome_0 16 rfl rfl)
theorem dX2_checkHome_17 : decode cX2_checkHome 17 = .ok (.new 122, 3) := dk_187 0 122 (dk_at dksX2_checkHome_0 17 rfl rfl)
theorem dX2_checkHome_20 : decode cX2_checkHome 20 = .ok (.dup, 1) := dk_89 (dk_at dksX2_checkHome_0 20 rfl rfl)
theorem dX2_checkHome_21 : decode cX2_checkHome 21 = .ok (.iconst 2, 1) := dk_5 (dk_at dksX2_checkHome_0 21 rfl rfl)
theorem dX2_checkHome_22 : decode cX2_checkHome 22 = .ok (.aload_n 1, 1) := dk_43 (dk_at dksX2_checkHome_0 22 rfl rfl)
theorem dX2_checkHome_23 : decode cX2_checkHome 23 = .ok (.invokevirtual 124, 3) := dk_182 0 124 (dk_at dksX2_checkHome_1 0 rfl rfl)
theorem dX2_checkHome_26 : decode cX2_checkHome 26 = .ok (.invokespecial 127, 3) := dk_183 0 127 (dk_at dksX2_checkHome_1 3 rfl rfl)
theorem dX2_checkHome_29 : decode cX2_checkHome 29 = .ok (.athrow, 1) := dk_191 (dk_at dksX2_checkHome_1 6 rfl rfl)
theorem dX2_checkHome_30 : decode cX2_checkHome 30 = .ok (.return_, 1) := dk_177 (dk_at dksX2_checkHome_1 7 rfl rfl)
abbrev cX2_goesHome : ByteArray := prog_10_method_23_code
def yX2_goesHome : MethodName := ⟨RX2, "goesHome", "(I)I"⟩
def dkwX2_goesHome_2 : List UInt8 := [182, 0, 145, 44, 187, 0, 159, 89, 183, 0, 161, 182, 0, 148, 44, 29, 182, 0, 152, 172]
abbrev dktX2_goesHome_2 : List UInt8 := dkwX2_goesHome_2 ++ []
def dkwX2_goesHome_1 : List UInt8 := [153, 0, 18, 25, 5, 192, 0, 120, 58, 4, 25, 4, 182, 0, 142, 167, 0, 4, 3, 62, 44, 29]
abbrev dktX2_goesHome_1 : List UInt8 := dkwX2_goesHome_1 ++ dktX2_goesHome_2
def dkwX2_goesHome_0 : List UInt8 := [42, 27, 182, 0, 130, 77, 42, 27, 182, 0, 156, 44, 182, 0, 116, 58, 5, 25, 5, 193, 0, 120]
abbrev dktX2_goesHome_0 : List UInt8 := dkwX2_goesHome_0 ++ dktX2_goesHome_1
theorem dksX2_goesHome_0 : cX2_goesHome.data.toList.drop 0 = dktX2_goesHome_0 := by decide +kernel
theorem dksX2_goesHome_1 : cX2_goesHome.data.toList.drop 22 = dktX2_goesHome_1 := dk_seg dksX2_goesHome_0 22 rfl rfl
theorem dksX2_goesHome_2 : cX2_goesHome.data.toList.drop 44 = dktX2_goesHome_2 := dk_seg dksX2_goesHome_1 22 rfl rfl
theorem dX2_goesHome_0 : decode cX2_goesHome 0 = .ok (.aload_n 0, 1) := dk_42 (dk_at dksX2_goesHome_0 0 rfl rfl)
theorem dX2_goesHome_1 : decode cX2_goesHome 1 = .ok (.iload_n 1, 1) := dk_27 (dk_at dksX2_goesHome_0 1 rfl rfl)
theorem dX2_goesHome_2 : decode cX2_goesHome 2 = .ok (.invokevirtual 130, 3) := dk_182 0 130 (dk_at dksX2_goesHome_0 2 rfl rfl)
theorem dX2_goesHome_5 : decode cX2_goesHome 5 = .ok (.astore_n 2, 1) := dk_77 (dk_at dksX2_goesHome_0 5 rfl rfl)
theorem dX2_goesHome_6 : decode cX2_goesHome 6 = .ok (.aload_n 0, 1) := dk_42 (dk_at dksX2_goesHome_0 6 rfl rfl)
theorem dX2_goesHome_7 : decode cX2_goesHome 7 = .ok (.iload_n 1, 1) := dk_27 (dk_at dksX2_goesHome_0 7 rfl rfl)
theorem dX2_goesHome_8 : decode cX2_goesHome 8 = .ok (.invokevirtual 156, 3) := dk_182 0 156 (dk_at dksX2_goesHome_0 8 rfl rfl)
theorem dX2_goesHome_11 : decode cX2_goesHome 11 = .ok (.aload_n 2, 1) := dk_44 (dk_at dksX2_goesHome_0 11 rfl rfl)
theorem dX2_goesHome_12 : decode cX2_goesHome 12 = .ok (.invokevirtual 116, 3) := dk_182 0 116 (dk_at dksX2_goesHome_0 12 rfl rfl)
theorem dX2_goesHome_15 : decode cX2_goesHome 15 = .ok (.astore 5, 2) := dk_58 5 (dk_at dksX2_goesHome_0 15 rfl rfl)
theorem dX2_goesHome_17 : decode cX2_goesHome 17 = .ok (.aload 5, 2) := dk_25 5 (dk_at dksX2_goesHome_0 17 rfl rfl)
theorem dX2_goesHome_19 : decode cX2_goesHome 19 = .ok (.instanceof 120, 3) := dk_193 0 120 (dk_at dksX2_goesHome_0 19 rfl rfl)
theorem dX2_goesHome_22 : decode cX2_goesHome 22 = .ok (.ifCond .eq 18, 3) := dk_153 0 18 (dk_at dksX2_goesHome_1 0 rfl rfl)
theorem dX2_goesHome_25 : decode cX2_goesHome 25 = .ok (.aload 5, 2) := dk_25 5 (dk_at dksX2_goesHome_1 3 rfl rfl)
theorem dX2_goesHome_27 : decode cX2_goesHome 27 = .ok (.checkcast 120, 3) := dk_192 0 120 (dk_at dksX2_goesHome_1 5 rfl rfl)
theorem dX2_goesHome_30 : decode cX2_goesHome 30 = .ok (.astore 4, 2) := dk_58 4 (dk_at dksX2_goesHome_1 8 rfl rfl)
theorem dX2_goesHome_32 : decode cX2_goesHome 32 = .ok (.aload 4, 2) := dk_25 4 (dk_at dksX2_goesHome_1 10 rfl rfl)
theorem dX2_goesHome_34 : decode cX2_goesHome 34 = .ok (.invokevirtual 142, 3) := dk_182 0 142 (dk_at dksX2_goesHome_1 12 rfl rfl)
theorem dX2_goesHome_37 : decode cX2_goesHome 37 = .ok (.goto 4, 3) := dk_167 0 4 (dk_at dksX2_goesHome_1 15 rfl rfl)
theorem dX2_goesHome_40 : decode cX2_goesHome 40 = .ok (.iconst 0, 1) := dk_3 (dk_at dksX2_goesHome_1 18 rfl rfl)
theorem dX2_goesHome_41 : decode cX2_goesHome 41 = .ok (.istore_n 3, 1) := dk_62 (dk_at dksX2_goesHome_1 19 rfl rfl)
theorem dX2_goesHome_42 : decode cX2_goesHome 42 = .ok (.aload_n 2, 1) := dk_44 (dk_at dksX2_goesHome_1 20 rfl rfl)
theorem dX2_goesHome_43 : decode cX2_goesHome 43 = .ok (.iload_n 3, 1) := dk_29 (dk_at dksX2_goesHome_1 21 rfl rfl)
theorem dX2_goesHome_44 : decode cX2_goesHome 44 = .ok (.invokevirtual 145, 3) := dk_182 0 145 (dk_at dksX2_goesHome_2 0 rfl rfl)
theorem dX2_goesHome_47 : decode cX2_goesHome 47 = .ok (.aload_n 2, 1) := dk_44 (dk_at dksX2_goesHome_2 3 rfl rfl)
theorem dX2_goesHome_48 : decode cX2_goesHome 48 = .ok (.new 159, 3) := dk_187 0 159 (dk_at dksX2_goesHome_2 4 rfl rfl)
theorem dX2_goesHome_51 : decode cX2_goesHome 51 = .ok (.dup, 1) := dk_89 (dk_at dksX2_goesHome_2 7 rfl rfl)
theorem dX2_goesHome_52 : decode cX2_goesHome 52 = .ok (.invokespecial 161, 3) := dk_183 0 161 (dk_at dksX2_goesHome_2 8 rfl rfl)
theorem dX2_goesHome_55 : decode cX2_goesHome 55 = .ok (.invokevirtual 148, 3) := dk_182 0 148 (dk_at dksX2_goesHome_2 11 rfl rfl)
theorem dX2_goesHome_58 : decode cX2_goesHome 58 = .ok (.aload_n 2, 1) := dk_44 (dk_at dksX2_goesHome_2 14 rfl rfl)
theorem dX2_goesHome_59 : decode cX2_goesHome 59 = .ok (.iload_n 3, 1) := dk_29 (dk_at dksX2_goesHome_2 15 rfl rfl)
theorem dX2_goesHome_60 : decode cX2_goesHome 60 = .ok (.invokevirtual 152, 3) := dk_182 0 152 (dk_at dksX2_goesHome_2 16 rfl rfl)
theorem dX2_goesHome_63 : decode cX2_goesHome 63 = .ok (.ireturn, 1) := dk_172 (dk_at dksX2_goesHome_2 19 rfl rfl)
abbrev cX2_checkOut : ByteArray := prog_10_method_21_code
def yX2_checkOut : MethodName := ⟨RX2, "checkOut", "(I)V"⟩
def dkwX2_checkOut_0 : List UInt8 := [42, 27, 182, 0, 130, 182, 0, 116, 193, 0, 120, 8, 27, 184, 0, 108, 177]
abbrev dktX2_checkOut_0 : List UInt8 := dkwX2_checkOut_0 ++ []
theorem dksX2_checkOut_0 : cX2_checkOut.data.toList.drop 0 = dktX2_checkOut_0 := by decide +kernel
theorem dX2_checkOut_0 : decode cX2_checkOut 0 = .ok (.aload_n 0, 1) := dk_42 (dk_at dksX2_checkOut_0 0 rfl rfl)
theorem dX2_checkOut_1 : decode cX2_checkOut 1 = .ok (.iload_n 1, 1) := dk_27 (dk_at dksX2_checkOut_0 1 rfl rfl)
theorem dX2_checkOut_2 : decode cX2_checkOut 2 = .ok (.invokevirtual 130, 3) := dk_182 0 130 (dk_at dksX2_checkOut_0 2 rfl rfl)
theorem dX2_checkOut_5 : decode cX2_checkOut 5 = .ok (.invokevirtual 116, 3) := dk_182 0 116 (dk_at dksX2_checkOut_0 5 rfl rfl)
theorem dX2_checkOut_8 : decode cX2_checkOut 8 = .ok (.instanceof 120, 3) := dk_193 0 120 (dk_at dksX2_checkOut_0 8 rfl rfl)
theorem dX2_checkOut_11 : decode cX2_checkOut 11 = .ok (.iconst 5, 1) := dk_8 (dk_at dksX2_checkOut_0 11 rfl rfl)
theorem dX2_checkOut_12 : decode cX2_checkOut 12 = .ok (.iload_n 1, 1) := dk_27 (dk_at dksX2_checkOut_0 12 rfl rfl)
theorem dX2_checkOut_13 : decode cX2_checkOut 13 = .ok (.invokestatic 108, 3) := dk_184 0 108 (dk_at dksX2_checkOut_0 13 rfl rfl)
theorem dX2_checkOut_16 : decode cX2_checkOut 16 = .ok (.return_, 1) := dk_177 (dk_at dksX2_checkOut_0 16 rfl rfl)
abbrev cX2_shoots : ByteArray := prog_10_method_24_code
def yX2_shoots : MethodName := ⟨RX2, "shoots", "(III)I"⟩
def dkwX2_shoots_5 : List UInt8 := [42, 180, 0, 79, 182, 0, 170, 25, 4, 4, 182, 0, 152, 172]
abbrev dktX2_shoots_5 : List UInt8 := dkwX2_shoots_5 ++ []
def dkwX2_shoots_4 : List UInt8 := [46, 100, 184, 0, 108, 42, 180, 0, 24, 29, 92, 46, 21, 6, 100, 79, 25, 5, 25, 4, 182, 0, 116, 29]
abbrev dktX2_shoots_4 : List UInt8 := dkwX2_shoots_4 ++ dktX2_shoots_5
def dkwX2_shoots_3 : List UInt8 := [180, 0, 24, 29, 46, 21, 6, 161, 0, 7, 4, 167, 0, 4, 3, 16, 7, 21, 6, 42, 180, 0, 24, 29]
abbrev dktX2_shoots_3 : List UInt8 := dkwX2_shoots_3 ++ dktX2_shoots_4
def dkwX2_shoots_2 : List UInt8 := [25, 6, 182, 0, 124, 183, 0, 127, 191, 25, 4, 4, 182, 0, 145, 25, 5, 182, 0, 167, 54, 6, 42]
abbrev dktX2_shoots_2 : List UInt8 := dkwX2_shoots_2 ++ dktX2_shoots_3
def dkwX2_shoots_1 : List UInt8 := [58, 7, 25, 7, 193, 0, 120, 153, 0, 25, 25, 7, 192, 0, 120, 58, 6, 187, 0, 122, 89, 16, 6]
abbrev dktX2_shoots_1 : List UInt8 := dkwX2_shoots_1 ++ dktX2_shoots_2
def dkwX2_shoots_0 : List UInt8 := [42, 27, 182, 0, 130, 58, 4, 42, 28, 182, 0, 162, 58, 5, 42, 27, 182, 0, 156, 25, 5, 182, 0, 166]
abbrev dktX2_shoots_0 : List UInt8 := dkwX2_shoots_0 ++ dktX2_shoots_1
theorem dksX2_shoots_0 : cX2_shoots.data.toList.drop 0 = dktX2_shoots_0 := by decide +kernel
theorem dksX2_shoots_1 : cX2_shoots.data.toList.drop 24 = dktX2_shoots_1 := dk_seg dksX2_shoots_0 24 rfl rfl
theorem dksX2_shoots_2 : cX2_shoots.data.toList.drop 47 = dktX2_shoots_2 := dk_seg dksX2_shoots_1 23 rfl rfl
theorem dksX2_shoots_3 : cX2_shoots.data.toList.drop 70 = dktX2_shoots_3 := dk_seg dksX2_shoots_2 23 rfl rfl
theorem dksX2_shoots_4 : cX2_shoots.data.toList.drop 94 = dktX2_shoots_4 := dk_seg dksX2_shoots_3 24 rfl rfl
theorem dksX2_shoots_5 : cX2_shoots.data.toList.drop 118 = dktX2_shoots_5 := dk_seg dksX2_shoots_4 24 rfl rfl
theorem dX2_shoots_0 : decode cX2_shoots 0 = .ok (.aload_n 0, 1) := dk_42 (dk_at dksX2_shoots_0 0 rfl rfl)
theorem dX2_shoots_1 : decode cX2_shoots 1 = .ok (.iload_n 1, 1) := dk_27 (dk_at dksX2_shoots_0 1 rfl rfl)
theorem dX2_shoots_2 : decode cX2_shoots 2 = .ok (.invokevirtual 130, 3) := dk_182 0 130 (dk_at dksX2_shoots_0 2 rfl rfl)
theorem dX2_shoots_5 : decode cX2_shoots 5 = .ok (.astore 4, 2) := dk_58 4 (dk_at dksX2_shoots_0 5 rfl rfl)
theorem dX2_shoots_7 : decode cX2_shoots 7 = .ok (.aload_n 0, 1) := dk_42 (dk_at dksX2_shoots_0 7 rfl rfl)
theorem dX2_shoots_8 : decode cX2_shoots 8 = .ok (.iload_n 2, 1) := dk_28 (dk_at dksX2_shoots_0 8 rfl rfl)
theorem dX2_shoots_9 : decode cX2_shoots 9 = .ok (.invokevirtual 162, 3) := dk_182 0 162 (dk_at dksX2_shoots_0 9 rfl rfl)
theorem dX2_shoots_12 : decode cX2_shoots 12 = .ok (.astore 5, 2) := dk_58 5 (dk_at dksX2_shoots_0 12 rfl rfl)
theorem dX2_shoots_14 : decode cX2_shoots 14 = .ok (.aload_n 0, 1) := dk_42 (dk_at dksX2_shoots_0 14 rfl rfl)
theorem dX2_shoots_15 : decode cX2_shoots 15 = .ok (.iload_n 1, 1) := dk_27 (dk_at dksX2_shoots_0 15 rfl rfl)
theorem dX2_shoots_16 : decode cX2_shoots 16 = .ok (.invokevirtual 156, 3) := dk_182 0 156 (dk_at dksX2_shoots_0 16 rfl rfl)
theorem dX2_shoots_19 : decode cX2_shoots 19 = .ok (.aload 5, 2) := dk_25 5 (dk_at dksX2_shoots_0 19 rfl rfl)
theorem dX2_shoots_21 : decode cX2_shoots 21 = .ok (.invokevirtual 166, 3) := dk_182 0 166 (dk_at dksX2_shoots_0 21 rfl rfl)
theorem dX2_shoots_24 : decode cX2_shoots 24 = .ok (.astore 7, 2) := dk_58 7 (dk_at dksX2_shoots_1 0 rfl rfl)
theorem dX2_shoots_26 : decode cX2_shoots 26 = .ok (.aload 7, 2) := dk_25 7 (dk_at dksX2_shoots_1 2 rfl rfl)
theorem dX2_shoots_28 : decode cX2_shoots 28 = .ok (.instanceof 120, 3) := dk_193 0 120 (dk_at dksX2_shoots_1 4 rfl rfl)
theorem dX2_shoots_31 : decode cX2_shoots 31 = .ok (.ifCond .eq 25, 3) := dk_153 0 25 (dk_at dksX2_shoots_1 7 rfl rfl)
theorem dX2_shoots_34 : decode cX2_shoots 34 = .ok (.aload 7, 2) := dk_25 7 (dk_at dksX2_shoots_1 10 rfl rfl)
theorem dX2_shoots_36 : decode cX2_shoots 36 = .ok (.checkcast 120, 3) := dk_192 0 120 (dk_at dksX2_shoots_1 12 rfl rfl)
theorem dX2_shoots_39 : decode cX2_shoots 39 = .ok (.astore 6, 2) := dk_58 6 (dk_at dksX2_shoots_1 15 rfl rfl)
theorem dX2_shoots_41 : decode cX2_shoots 41 = .ok (.new 122, 3) := dk_187 0 122 (dk_at dksX2_shoots_1 17 rfl rfl)
theorem dX2_shoots_44 : decode cX2_shoots 44 = .ok (.dup, 1) := dk_89 (dk_at dksX2_shoots_1 20 rfl rfl)
theorem dX2_shoots_45 : decode cX2_shoots 45 = .ok (.bipush 6, 2) := dk_16 6 (dk_at dksX2_shoots_1 21 rfl rfl)
theorem dX2_shoots_47 : decode cX2_shoots 47 = .ok (.aload 6, 2) := dk_25 6 (dk_at dksX2_shoots_2 0 rfl rfl)
theorem dX2_shoots_49 : decode cX2_shoots 49 = .ok (.invokevirtual 124, 3) := dk_182 0 124 (dk_at dksX2_shoots_2 2 rfl rfl)
theorem dX2_shoots_52 : decode cX2_shoots 52 = .ok (.invokespecial 127, 3) := dk_183 0 127 (dk_at dksX2_shoots_2 5 rfl rfl)
theorem dX2_shoots_55 : decode cX2_shoots 55 = .ok (.athrow, 1) := dk_191 (dk_at dksX2_shoots_2 8 rfl rfl)
theorem dX2_shoots_56 : decode cX2_shoots 56 = .ok (.aload 4, 2) := dk_25 4 (dk_at dksX2_shoots_2 9 rfl rfl)
theorem dX2_shoots_58 : decode cX2_shoots 58 = .ok (.iconst 1, 1) := dk_4 (dk_at dksX2_shoots_2 11 rfl rfl)
theorem dX2_shoots_59 : decode cX2_shoots 59 = .ok (.invokevirtual 145, 3) := dk_182 0 145 (dk_at dksX2_shoots_2 12 rfl rfl)
theorem dX2_shoots_62 : decode cX2_shoots 62 = .ok (.aload 5, 2) := dk_25 5 (dk_at dksX2_shoots_2 15 rfl rfl)
theorem dX2_shoots_64 : decode cX2_shoots 64 = .ok (.invokevirtual 167, 3) := dk_182 0 167 (dk_at dksX2_shoots_2 17 rfl rfl)
theorem dX2_shoots_67 : decode cX2_shoots 67 = .ok (.istore 6, 2) := dk_54 6 (dk_at dksX2_shoots_2 20 rfl rfl)
theorem dX2_shoots_69 : decode cX2_shoots 69 = .ok (.aload_n 0, 1) := dk_42 (dk_at dksX2_shoots_2 22 rfl rfl)
theorem dX2_shoots_70 : decode cX2_shoots 70 = .ok (.getfield 24, 3) := dk_180 0 24 (dk_at dksX2_shoots_3 0 rfl rfl)
theorem dX2_shoots_73 : decode cX2_shoots 73 = .ok (.iload_n 3, 1) := dk_29 (dk_at dksX2_shoots_3 3 rfl rfl)
theorem dX2_shoots_74 : decode cX2_shoots 74 = .ok (.iaload, 1) := dk_46 (dk_at dksX2_shoots_3 4 rfl rfl)
theorem dX2_shoots_75 : decode cX2_shoots 75 = .ok (.iload 6, 2) := dk_21 6 (dk_at dksX2_shoots_3 5 rfl rfl)
theorem dX2_shoots_77 : decode cX2_shoots 77 = .ok (.if_icmp .lt 7, 3) := dk_161 0 7 (dk_at dksX2_shoots_3 7 rfl rfl)
theorem dX2_shoots_80 : decode cX2_shoots 80 = .ok (.iconst 1, 1) := dk_4 (dk_at dksX2_shoots_3 10 rfl rfl)
theorem dX2_shoots_81 : decode cX2_shoots 81 = .ok (.goto 4, 3) := dk_167 0 4 (dk_at dksX2_shoots_3 11 rfl rfl)
theorem dX2_shoots_84 : decode cX2_shoots 84 = .ok (.iconst 0, 1) := dk_3 (dk_at dksX2_shoots_3 14 rfl rfl)
theorem dX2_shoots_85 : decode cX2_shoots 85 = .ok (.bipush 7, 2) := dk_16 7 (dk_at dksX2_shoots_3 15 rfl rfl)
theorem dX2_shoots_87 : decode cX2_shoots 87 = .ok (.iload 6, 2) := dk_21 6 (dk_at dksX2_shoots_3 17 rfl rfl)
theorem dX2_shoots_89 : decode cX2_shoots 89 = .ok (.aload_n 0, 1) := dk_42 (dk_at dksX2_shoots_3 19 rfl rfl)
theorem dX2_shoots_90 : decode cX2_shoots 90 = .ok (.getfield 24, 3) := dk_180 0 24 (dk_at dksX2_shoots_3 20 rfl rfl)
theorem dX2_shoots_93 : decode cX2_shoots 93 = .ok (.iload_n 3, 1) := dk_29 (dk_at dksX2_shoots_3 23 rfl rfl)
theorem dX2_shoots_94 : decode cX2_shoots 94 = .ok (.iaload, 1) := dk_46 (dk_at dksX2_shoots_4 0 rfl rfl)
theorem dX2_shoots_95 : decode cX2_shoots 95 = .ok (.isub, 1) := dk_100 (dk_at dksX2_shoots_4 1 rfl rfl)
theorem dX2_shoots_96 : decode cX2_shoots 96 = .ok (.invokestatic 108, 3) := dk_184 0 108 (dk_at dksX2_shoots_4 2 rfl rfl)
theorem dX2_shoots_99 : decode cX2_shoots 99 = .ok (.aload_n 0, 1) := dk_42 (dk_at dksX2_shoots_4 5 rfl rfl)
theorem dX2_shoots_100 : decode cX2_shoots 100 = .ok (.getfield 24, 3) := dk_180 0 24 (dk_at dksX2_shoots_4 6 rfl rfl)
theorem dX2_shoots_103 : decode cX2_shoots 103 = .ok (.iload_n 3, 1) := dk_29 (dk_at dksX2_shoots_4 9 rfl rfl)
theorem dX2_shoots_104 : decode cX2_shoots 104 = .ok (.dup2, 1) := dk_92 (dk_at dksX2_shoots_4 10 rfl rfl)
theorem dX2_shoots_105 : decode cX2_shoots 105 = .ok (.iaload, 1) := dk_46 (dk_at dksX2_shoots_4 11 rfl rfl)
theorem dX2_shoots_106 : decode cX2_shoots 106 = .ok (.iload 6, 2) := dk_21 6 (dk_at dksX2_shoots_4 12 rfl rfl)
theorem dX2_shoots_108 : decode cX2_shoots 108 = .ok (.isub, 1) := dk_100 (dk_at dksX2_shoots_4 14 rfl rfl)
theorem dX2_shoots_109 : decode cX2_shoots 109 = .ok (.iastore, 1) := dk_79 (dk_at dksX2_shoots_4 15 rfl rfl)
theorem dX2_shoots_110 : decode cX2_shoots 110 = .ok (.aload 5, 2) := dk_25 5 (dk_at dksX2_shoots_4 16 rfl rfl)
theorem dX2_shoots_112 : decode cX2_shoots 112 = .ok (.aload 4, 2) := dk_25 4 (dk_at dksX2_shoots_4 18 rfl rfl)
theorem dX2_shoots_114 : decode cX2_shoots 114 = .ok (.invokevirtual 116, 3) := dk_182 0 116 (dk_at dksX2_shoots_4 20 rfl rfl)
theorem dX2_shoots_117 : decode cX2_shoots 117 = .ok (.iload_n 3, 1) := dk_29 (dk_at dksX2_shoots_4 23 rfl rfl)
theorem dX2_shoots_118 : decode cX2_shoots 118 = .ok (.aload_n 0, 1) := dk_42 (dk_at dksX2_shoots_5 0 rfl rfl)
theorem dX2_shoots_119 : decode cX2_shoots 119 = .ok (.getfield 79, 3) := dk_180 0 79 (dk_at dksX2_shoots_5 1 rfl rfl)
theorem dX2_shoots_122 : decode cX2_shoots 122 = .ok (.invokevirtual 170, 3) := dk_182 0 170 (dk_at dksX2_shoots_5 4 rfl rfl)
theorem dX2_shoots_125 : decode cX2_shoots 125 = .ok (.aload 4, 2) := dk_25 4 (dk_at dksX2_shoots_5 7 rfl rfl)
theorem dX2_shoots_127 : decode cX2_shoots 127 = .ok (.iconst 1, 1) := dk_4 (dk_at dksX2_shoots_5 9 rfl rfl)
theorem dX2_shoots_128 : decode cX2_shoots 128 = .ok (.invokevirtual 152, 3) := dk_182 0 152 (dk_at dksX2_shoots_5 10 rfl rfl)
theorem dX2_shoots_131 : decode cX2_shoots 131 = .ok (.ireturn, 1) := dk_172 (dk_at dksX2_shoots_5 13 rfl rfl)
abbrev cX2_string : ByteArray := prog_10_method_8_code
def yX2_string : MethodName := ⟨RX2, "string", "(I)LWhelkFleet$Line;"⟩
def dkwX2_string_0 : List UInt8 := [42, 180, 0, 21, 27, 185, 0, 94, 2, 0, 192, 0, 68, 176]
abbrev dktX2_string_0 : List UInt8 := dkwX2_string_0 ++ []
theorem dksX2_string_0 : cX2_string.data.toList.drop 0 = dktX2_string_0 := by decide +kernel
theorem dX2_string_0 : decode cX2_string 0 = .ok (.aload_n 0, 1) := dk_42 (dk_at dksX2_string_0 0 rfl rfl)
theorem dX2_string_1 : decode cX2_string 1 = .ok (.getfield 21, 3) := dk_180 0 21 (dk_at dksX2_string_0 1 rfl rfl)
theorem dX2_string_4 : decode cX2_string 4 = .ok (.iload_n 1, 1) := dk_27 (dk_at dksX2_string_0 4 rfl rfl)
theorem dX2_string_5 : decode cX2_string 5 = .ok (.invokeinterface 94 2, 5) := by decide +kernel
theorem dX2_string_10 : decode cX2_string 10 = .ok (.checkcast 68, 3) := dk_192 0 68 (dk_at dksX2_string_0 10 rfl rfl)
theorem dX2_string_13 : decode cX2_string 13 = .ok (.areturn, 1) := dk_176 (dk_at dksX2_string_0 13 rfl rfl)
abbrev cX2_hauls : ByteArray := prog_10_method_27_code
def yX2_hauls : MethodName := ⟨RX2, "hauls", "(II)I"⟩
def dkwX2_hauls_7 : List UInt8 := [182, 0, 242, 21, 6, 100, 96, 181, 0, 85, 21, 6, 172]
abbrev dktX2_hauls_7 : List UInt8 := dkwX2_hauls_7 ++ []
def dkwX2_hauls_6 : List UInt8 := [182, 0, 245, 42, 89, 180, 0, 82, 25, 5, 182, 0, 242, 96, 181, 0, 82, 42, 89, 180, 0, 85, 25, 5]
abbrev dktX2_hauls_6 : List UInt8 := dkwX2_hauls_6 ++ dktX2_hauls_7
def dkwX2_hauls_5 : List UInt8 := [42, 180, 0, 32, 182, 0, 230, 25, 5, 182, 0, 233, 182, 0, 239, 25, 4, 25, 5, 182, 0, 242]
abbrev dktX2_hauls_5 : List UInt8 := dkwX2_hauls_5 ++ dktX2_hauls_6
def dkwX2_hauls_4 : List UInt8 := [182, 0, 230, 25, 5, 182, 0, 233, 182, 0, 236, 45, 25, 4, 182, 0, 219, 182, 0, 152, 87, 45, 25, 5]
abbrev dktX2_hauls_4 : List UInt8 := dkwX2_hauls_4 ++ dktX2_hauls_5
def dkwX2_hauls_3 : List UInt8 := [54, 6, 42, 25, 4, 182, 0, 166, 185, 0, 180, 1, 0, 182, 0, 205, 25, 5, 42, 180, 0, 32]
abbrev dktX2_hauls_3 : List UInt8 := dkwX2_hauls_3 ++ dktX2_hauls_4
def dkwX2_hauls_2 : List UInt8 := [182, 0, 219, 182, 0, 145, 42, 25, 4, 182, 0, 222, 58, 5, 25, 5, 42, 180, 0, 32, 182, 0, 225]
abbrev dktX2_hauls_2 : List UInt8 := dkwX2_hauls_2 ++ dktX2_hauls_3
def dkwX2_hauls_1 : List UInt8 := [154, 0, 7, 4, 167, 0, 4, 3, 16, 8, 28, 184, 0, 108, 42, 27, 25, 4, 182, 0, 215, 45, 25, 4]
abbrev dktX2_hauls_1 : List UInt8 := dkwX2_hauls_1 ++ dktX2_hauls_2
def dkwX2_hauls_0 : List UInt8 := [42, 27, 182, 0, 130, 78, 42, 28, 182, 0, 162, 58, 4, 25, 4, 182, 0, 166, 185, 0, 212, 1, 0]
abbrev dktX2_hauls_0 : List UInt8 := dkwX2_hauls_0 ++ dktX2_hauls_1
theorem dksX2_hauls_0 : cX2_hauls.data.toList.drop 0 = dktX2_hauls_0 := by decide +kernel
theorem dksX2_hauls_1 : cX2_hauls.data.toList.drop 23 = dktX2_hauls_1 := dk_seg dksX2_hauls_0 23 rfl rfl
theorem dksX2_hauls_2 : cX2_hauls.data.toList.drop 47 = dktX2_hauls_2 := dk_seg dksX2_hauls_1 24 rfl rfl
theorem dksX2_hauls_3 : cX2_hauls.data.toList.drop 70 = dktX2_hauls_3 := dk_seg dksX2_hauls_2 23 rfl rfl
theorem dksX2_hauls_4 : cX2_hauls.data.toList.drop 92 = dktX2_hauls_4 := dk_seg dksX2_hauls_3 22 rfl rfl
theorem dksX2_hauls_5 : cX2_hauls.data.toList.drop 116 = dktX2_hauls_5 := dk_seg dksX2_hauls_4 24 rfl rfl
theorem dksX2_hauls_6 : cX2_hauls.data.toList.drop 138 = dktX2_hauls_6 := dk_seg dksX2_hauls_5 22 rfl rfl
theorem dksX2_hauls_7 : cX2_hauls.data.toList.drop 162 = dktX2_hauls_7 := dk_seg dksX2_hauls_6 24 rfl rfl
theorem dX2_hauls_0 : decode cX2_hauls 0 = .ok (.aload_n 0, 1) := dk_42 (dk_at dksX2_hauls_0 0 rfl rfl)
theorem dX2_hauls_1 : decode cX2_hauls 1 = .ok (.iload_n 1, 1) := dk_27 (dk_at dksX2_hauls_0 1 rfl rfl)
theorem dX2_hauls_2 : decode cX2_hauls 2 = .ok (.invokevirtual 130, 3) := dk_182 0 130 (dk_at dksX2_hauls_0 2 rfl rfl)
theorem dX2_hauls_5 : decode cX2_hauls 5 = .ok (.astore_n 3, 1) := dk_78 (dk_at dksX2_hauls_0 5 rfl rfl)
theorem dX2_hauls_6 : decode cX2_hauls 6 = .ok (.aload_n 0, 1) := dk_42 (dk_at dksX2_hauls_0 6 rfl rfl)
theorem dX2_hauls_7 : decode cX2_hauls 7 = .ok (.iload_n 2, 1) := dk_28 (dk_at dksX2_hauls_0 7 rfl rfl)
theorem dX2_hauls_8 : decode cX2_hauls 8 = .ok (.invokevirtual 162, 3) := dk_182 0 162 (dk_at dksX2_hauls_0 8 rfl rfl)
theorem dX2_hauls_11 : decode cX2_hauls 11 = .ok (.astore 4, 2) := dk_58 4 (dk_at dksX2_hauls_0 11 rfl rfl)
theorem dX2_hauls_13 : decode cX2_hauls 13 = .ok (.aload 4, 2) := dk_25 4 (dk_at dksX2_hauls_0 13 rfl rfl)
theorem dX2_hauls_15 : decode cX2_hauls 15 = .ok (.invokevirtual 166, 3) := dk_182 0 166 (dk_at dksX2_hauls_0 15 rfl rfl)
theorem dX2_hauls_18 : decode cX2_hauls 18 = .ok (.invokeinterface 212 1, 5) := by decide +kernel
theorem dX2_hauls_23 : decode cX2_hauls 23 = .ok (.ifCond .ne 7, 3) := dk_154 0 7 (dk_at dksX2_hauls_1 0 rfl rfl)
theorem dX2_hauls_26 : decode cX2_hauls 26 = .ok (.iconst 1, 1) := dk_4 (dk_at dksX2_hauls_1 3 rfl rfl)
theorem dX2_hauls_27 : decode cX2_hauls 27 = .ok (.goto 4, 3) := dk_167 0 4 (dk_at dksX2_hauls_1 4 rfl rfl)
theorem dX2_hauls_30 : decode cX2_hauls 30 = .ok (.iconst 0, 1) := dk_3 (dk_at dksX2_hauls_1 7 rfl rfl)
theorem dX2_hauls_31 : decode cX2_hauls 31 = .ok (.bipush 8, 2) := dk_16 8 (dk_at dksX2_hauls_1 8 rfl rfl)
theorem dX2_hauls_33 : decode cX2_hauls 33 = .ok (.iload_n 2, 1) := dk_28 (dk_at dksX2_hauls_1 10 rfl rfl)
theorem dX2_hauls_34 : decode cX2_hauls 34 = .ok (.invokestatic 108, 3) := dk_184 0 108 (dk_at dksX2_hauls_1 11 rfl rfl)
theorem dX2_hauls_37 : decode cX2_hauls 37 = .ok (.aload_n 0, 1) := dk_42 (dk_at dksX2_hauls_1 14 rfl rfl)
theorem dX2_hauls_38 : decode cX2_hauls 38 = .ok (.iload_n 1, 1) := dk_27 (dk_at dksX2_hauls_1 15 rfl rfl)
theorem dX2_hauls_39 : decode cX2_hauls 39 = .ok (.aload 4, 2) := dk_25 4 (dk_at dksX2_hauls_1 16 rfl rfl)
theorem dX2_hauls_41 : decode cX2_hauls 41 = .ok (.invokevirtual 215, 3) := dk_182 0 215 (dk_at dksX2_hauls_1 18 rfl rfl)
theorem dX2_hauls_44 : decode cX2_hauls 44 = .ok (.aload_n 3, 1) := dk_45 (dk_at dksX2_hauls_1 21 rfl rfl)
theorem dX2_hauls_45 : decode cX2_hauls 45 = .ok (.aload 4, 2) := dk_25 4 (dk_at dksX2_hauls_1 22 rfl rfl)
theorem dX2_hauls_47 : decode cX2_hauls 47 = .ok (.invokevirtual 219, 3) := dk_182 0 219 (dk_at dksX2_hauls_2 0 rfl rfl)
theorem dX2_hauls_50 : decode cX2_hauls 50 = .ok (.invokevirtual 145, 3) := dk_182 0 145 (dk_at dksX2_hauls_2 3 rfl rfl)
theorem dX2_hauls_53 : decode cX2_hauls 53 = .ok (.aload_n 0, 1) := dk_42 (dk_at dksX2_hauls_2 6 rfl rfl)
theorem dX2_hauls_54 : decode cX2_hauls 54 = .ok (.aload 4, 2) := dk_25 4 (dk_at dksX2_hauls_2 7 rfl rfl)
theorem dX2_hauls_56 : decode cX2_hauls 56 = .ok (.invokevirtual 222, 3) := dk_182 0 222 (dk_at dksX2_hauls_2 9 rfl rfl)
theorem dX2_hauls_59 : decode cX2_hauls 59 = .ok (.astore 5, 2) := dk_58 5 (dk_at dksX2_hauls_2 12 rfl rfl)
theorem dX2_hauls_61 : decode cX2_hauls 61 = .ok (.aload 5, 2) := dk_25 5 (dk_at dksX2_hauls_2 14 rfl rfl)
theorem dX2_hauls_63 : decode cX2_hauls 63 = .ok (.aload_n 0, 1) := dk_42 (dk_at dksX2_hauls_2 16 rfl rfl)
theorem dX2_hauls_64 : decode cX2_hauls 64 = .ok (.getfield 32, 3) := dk_180 0 32 (dk_at dksX2_hauls_2 17 rfl rfl)
theorem dX2_hauls_67 : decode cX2_hauls 67 = .ok (.invokevirtual 225, 3) := dk_182 0 225 (dk_at dksX2_hauls_2 20 rfl rfl)
theorem dX2_hauls_70 : decode cX2_hauls 70 = .ok (.istore 6, 2) := dk_54 6 (dk_at dksX2_hauls_3 0 rfl rfl)
theorem dX2_hauls_72 : decode cX2_hauls 72 = .ok (.aload_n 0, 1) := dk_42 (dk_at dksX2_hauls_3 2 rfl rfl)
theorem dX2_hauls_73 : decode cX2_hauls 73 = .ok (.aload 4, 2) := dk_25 4 (dk_at dksX2_hauls_3 3 rfl rfl)
theorem dX2_hauls_75 : decode cX2_hauls 75 = .ok (.invokevirtual 166, 3) := dk_182 0 166 (dk_at dksX2_hauls_3 5 rfl rfl)
theorem dX2_hauls_78 : decode cX2_hauls 78 = .ok (.invokeinterface 180 1, 5) := by decide +kernel
theorem dX2_hauls_83 : decode cX2_hauls 83 = .ok (.invokevirtual 205, 3) := dk_182 0 205 (dk_at dksX2_hauls_3 13 rfl rfl)
theorem dX2_hauls_86 : decode cX2_hauls 86 = .ok (.aload 5, 2) := dk_25 5 (dk_at dksX2_hauls_3 16 rfl rfl)
theorem dX2_hauls_88 : decode cX2_hauls 88 = .ok (.aload_n 0, 1) := dk_42 (dk_at dksX2_hauls_3 18 rfl rfl)
theorem dX2_hauls_89 : decode cX2_hauls 89 = .ok (.getfield 32, 3) := dk_180 0 32 (dk_at dksX2_hauls_3 19 rfl rfl)
theorem dX2_hauls_92 : decode cX2_hauls 92 = .ok (.invokevirtual 230, 3) := dk_182 0 230 (dk_at dksX2_hauls_4 0 rfl rfl)
theorem dX2_hauls_95 : decode cX2_hauls 95 = .ok (.aload 5, 2) := dk_25 5 (dk_at dksX2_hauls_4 3 rfl rfl)
theorem dX2_hauls_97 : decode cX2_hauls 97 = .ok (.invokevirtual 233, 3) := dk_182 0 233 (dk_at dksX2_hauls_4 5 rfl rfl)
theorem dX2_hauls_100 : decode cX2_hauls 100 = .ok (.invokevirtual 236, 3) := dk_182 0 236 (dk_at dksX2_hauls_4 8 rfl rfl)
theorem dX2_hauls_103 : decode cX2_hauls 103 = .ok (.aload_n 3, 1) := dk_45 (dk_at dksX2_hauls_4 11 rfl rfl)
theorem dX2_hauls_104 : decode cX2_hauls 104 = .ok (.aload 4, 2) := dk_25 4 (dk_at dksX2_hauls_4 12 rfl rfl)
theorem dX2_hauls_106 : decode cX2_hauls 106 = .ok (.invokevirtual 219, 3) := dk_182 0 219 (dk_at dksX2_hauls_4 14 rfl rfl)
theorem dX2_hauls_109 : decode cX2_hauls 109 = .ok (.invokevirtual 152, 3) := dk_182 0 152 (dk_at dksX2_hauls_4 17 rfl rfl)
theorem dX2_hauls_112 : decode cX2_hauls 112 = .ok (.pop, 1) := dk_87 (dk_at dksX2_hauls_4 20 rfl rfl)
theorem dX2_hauls_113 : decode cX2_hauls 113 = .ok (.aload_n 3, 1) := dk_45 (dk_at dksX2_hauls_4 21 rfl rfl)
theorem dX2_hauls_114 : decode cX2_hauls 114 = .ok (.aload 5, 2) := dk_25 5 (dk_at dksX2_hauls_4 22 rfl rfl)
theorem dX2_hauls_116 : decode cX2_hauls 116 = .ok (.aload_n 0, 1) := dk_42 (dk_at dksX2_hauls_5 0 rfl rfl)
theorem dX2_hauls_117 : decode cX2_hauls 117 = .ok (.getfield 32, 3) := dk_180 0 32 (dk_at dksX2_hauls_5 1 rfl rfl)
theorem dX2_hauls_120 : decode cX2_hauls 120 = .ok (.invokevirtual 230, 3) := dk_182 0 230 (dk_at dksX2_hauls_5 4 rfl rfl)
theorem dX2_hauls_123 : decode cX2_hauls 123 = .ok (.aload 5, 2) := dk_25 5 (dk_at dksX2_hauls_5 7 rfl rfl)
theorem dX2_hauls_125 : decode cX2_hauls 125 = .ok (.invokevirtual 233, 3) := dk_182 0 233 (dk_at dksX2_hauls_5 9 rfl rfl)
theorem dX2_hauls_128 : decode cX2_hauls 128 = .ok (.invokevirtual 239, 3) := dk_182 0 239 (dk_at dksX2_hauls_5 12 rfl rfl)
theorem dX2_hauls_131 : decode cX2_hauls 131 = .ok (.aload 4, 2) := dk_25 4 (dk_at dksX2_hauls_5 15 rfl rfl)
theorem dX2_hauls_133 : decode cX2_hauls 133 = .ok (.aload 5, 2) := dk_25 5 (dk_at dksX2_hauls_5 17 rfl rfl)
theorem dX2_hauls_135 : decode cX2_hauls 135 = .ok (.invokevirtual 242, 3) := dk_182 0 242 (dk_at dksX2_hauls_5 19 rfl rfl)
theorem dX2_hauls_138 : decode cX2_hauls 138 = .ok (.invokevirtual 245, 3) := dk_182 0 245 (dk_at dksX2_hauls_6 0 rfl rfl)
theorem dX2_hauls_141 : decode cX2_hauls 141 = .ok (.aload_n 0, 1) := dk_42 (dk_at dksX2_hauls_6 3 rfl rfl)
theorem dX2_hauls_142 : decode cX2_hauls 142 = .ok (.dup, 1) := dk_89 (dk_at dksX2_hauls_6 4 rfl rfl)
theorem dX2_hauls_143 : decode cX2_hauls 143 = .ok (.getfield 82, 3) := dk_180 0 82 (dk_at dksX2_hauls_6 5 rfl rfl)
theorem dX2_hauls_146 : decode cX2_hauls 146 = .ok (.aload 5, 2) := dk_25 5 (dk_at dksX2_hauls_6 8 rfl rfl)
theorem dX2_hauls_148 : decode cX2_hauls 148 = .ok (.invokevirtual 242, 3) := dk_182 0 242 (dk_at dksX2_hauls_6 10 rfl rfl)
theorem dX2_hauls_151 : decode cX2_hauls 151 = .ok (.iadd, 1) := dk_96 (dk_at dksX2_hauls_6 13 rfl rfl)
theorem dX2_hauls_152 : decode cX2_hauls 152 = .ok (.putfield 82, 3) := dk_181 0 82 (dk_at dksX2_hauls_6 14 rfl rfl)
theorem dX2_hauls_155 : decode cX2_hauls 155 = .ok (.aload_n 0, 1) := dk_42 (dk_at dksX2_hauls_6 17 rfl rfl)
theorem dX2_hauls_156 : decode cX2_hauls 156 = .ok (.dup, 1) := dk_89 (dk_at dksX2_hauls_6 18 rfl rfl)
theorem dX2_hauls_157 : decode cX2_hauls 157 = .ok (.getfield 85, 3) := dk_180 0 85 (dk_at dksX2_hauls_6 19 rfl rfl)
theorem dX2_hauls_160 : decode cX2_hauls 160 = .ok (.aload 5, 2) := dk_25 5 (dk_at dksX2_hauls_6 22 rfl rfl)
theorem dX2_hauls_162 : decode cX2_hauls 162 = .ok (.invokevirtual 242, 3) := dk_182 0 242 (dk_at dksX2_hauls_7 0 rfl rfl)
theorem dX2_hauls_165 : decode cX2_hauls 165 = .ok (.iload 6, 2) := dk_21 6 (dk_at dksX2_hauls_7 3 rfl rfl)
theorem dX2_hauls_167 : decode cX2_hauls 167 = .ok (.isub, 1) := dk_100 (dk_at dksX2_hauls_7 5 rfl rfl)
theorem dX2_hauls_168 : decode cX2_hauls 168 = .ok (.iadd, 1) := dk_96 (dk_at dksX2_hauls_7 6 rfl rfl)
theorem dX2_hauls_169 : decode cX2_hauls 169 = .ok (.putfield 85, 3) := dk_181 0 85 (dk_at dksX2_hauls_7 7 rfl rfl)
theorem dX2_hauls_172 : decode cX2_hauls 172 = .ok (.iload 6, 2) := dk_21 6 (dk_at dksX2_hauls_7 10 rfl rfl)
theorem dX2_hauls_174 : decode cX2_hauls 174 = .ok (.ireturn, 1) := dk_172 (dk_at dksX2_hauls_7 12 rfl rfl)
abbrev cX2_checkSameGround : ByteArray := prog_10_method_25_code
def yX2_checkSameGround : MethodName := ⟨RX2, "checkSameGround", "(ILWhelkFleet$Line;)V"⟩
def dkwX2_checkSameGround_2 : List UInt8 := [182, 0, 156, 45, 184, 0, 135, 167, 0, 13, 58, 5, 25, 4, 25, 5, 182, 0, 183, 87, 25, 4, 191]
abbrev dktX2_checkSameGround_2 : List UInt8 := dkwX2_checkSameGround_2 ++ []
def dkwX2_checkSameGround_1 : List UInt8 := [187, 0, 122, 89, 16, 9, 44, 182, 0, 166, 185, 0, 180, 1, 0, 183, 0, 127, 58, 4, 42, 27]
abbrev dktX2_checkSameGround_1 : List UInt8 := dkwX2_checkSameGround_1 ++ dktX2_checkSameGround_2
def dkwX2_checkSameGround_0 : List UInt8 := [42, 27, 182, 0, 130, 78, 45, 182, 0, 116, 44, 182, 0, 166, 185, 0, 174, 2, 0, 153, 0, 4, 177]
abbrev dktX2_checkSameGround_0 : List UInt8 := dkwX2_checkSameGround_0 ++ dktX2_checkSameGround_1
theorem dksX2_checkSameGround_0 : cX2_checkSameGround.data.toList.drop 0 = dktX2_checkSameGround_0 := by decide +kernel
theorem dksX2_checkSameGround_1 : cX2_checkSameGround.data.toList.drop 23 = dktX2_checkSameGround_1 := dk_seg dksX2_checkSameGround_0 23 rfl rfl
theorem dksX2_checkSameGround_2 : cX2_checkSameGround.data.toList.drop 45 = dktX2_checkSameGround_2 := dk_seg dksX2_checkSameGround_1 22 rfl rfl
theorem dX2_checkSameGround_0 : decode cX2_checkSameGround 0 = .ok (.aload_n 0, 1) := dk_42 (dk_at dksX2_checkSameGround_0 0 rfl rfl)
theorem dX2_checkSameGround_1 : decode cX2_checkSameGround 1 = .ok (.iload_n 1, 1) := dk_27 (dk_at dksX2_checkSameGround_0 1 rfl rfl)
theorem dX2_checkSameGround_2 : decode cX2_checkSameGround 2 = .ok (.invokevirtual 130, 3) := dk_182 0 130 (dk_at dksX2_checkSameGround_0 2 rfl rfl)
theorem dX2_checkSameGround_5 : decode cX2_checkSameGround 5 = .ok (.astore_n 3, 1) := dk_78 (dk_at dksX2_checkSameGround_0 5 rfl rfl)
theorem dX2_checkSameGround_6 : decode cX2_checkSameGround 6 = .ok (.aload_n 3, 1) := dk_45 (dk_at dksX2_checkSameGround_0 6 rfl rfl)
theorem dX2_checkSameGround_7 : decode cX2_checkSameGround 7 = .ok (.invokevirtual 116, 3) := dk_182 0 116 (dk_at dksX2_checkSameGround_0 7 rfl rfl)
theorem dX2_checkSameGround_10 : decode cX2_checkSameGround 10 = .ok (.aload_n 2, 1) := dk_44 (dk_at dksX2_checkSameGround_0 10 rfl rfl)
theorem dX2_checkSameGround_11 : decode cX2_checkSameGround 11 = .ok (.invokevirtual 166, 3) := dk_182 0 166 (dk_at dksX2_checkSameGround_0 11 rfl rfl)
theorem dX2_checkSameGround_14 : decode cX2_checkSameGround 14 = .ok (.invokeinterface 174 2, 5) := by decide +kernel
theorem dX2_checkSameGround_19 : decode cX2_checkSameGround 19 = .ok (.ifCond .eq 4, 3) := dk_153 0 4 (dk_at dksX2_checkSameGround_0 19 rfl rfl)
theorem dX2_checkSameGround_22 : decode cX2_checkSameGround 22 = .ok (.return_, 1) := dk_177 (dk_at dksX2_checkSameGround_0 22 rfl rfl)
theorem dX2_checkSameGround_23 : decode cX2_checkSameGround 23 = .ok (.new 122, 3) := dk_187 0 122 (dk_at dksX2_checkSameGround_1 0 rfl rfl)
theorem dX2_checkSameGround_26 : decode cX2_checkSameGround 26 = .ok (.dup, 1) := dk_89 (dk_at dksX2_checkSameGround_1 3 rfl rfl)
theorem dX2_checkSameGround_27 : decode cX2_checkSameGround 27 = .ok (.bipush 9, 2) := dk_16 9 (dk_at dksX2_checkSameGround_1 4 rfl rfl)
theorem dX2_checkSameGround_29 : decode cX2_checkSameGround 29 = .ok (.aload_n 2, 1) := dk_44 (dk_at dksX2_checkSameGround_1 6 rfl rfl)
theorem dX2_checkSameGround_30 : decode cX2_checkSameGround 30 = .ok (.invokevirtual 166, 3) := dk_182 0 166 (dk_at dksX2_checkSameGround_1 7 rfl rfl)
theorem dX2_checkSameGround_33 : decode cX2_checkSameGround 33 = .ok (.invokeinterface 180 1, 5) := by decide +kernel
theorem dX2_checkSameGround_38 : decode cX2_checkSameGround 38 = .ok (.invokespecial 127, 3) := dk_183 0 127 (dk_at dksX2_checkSameGround_1 15 rfl rfl)
theorem dX2_checkSameGround_41 : decode cX2_checkSameGround 41 = .ok (.astore 4, 2) := dk_58 4 (dk_at dksX2_checkSameGround_1 18 rfl rfl)
theorem dX2_checkSameGround_43 : decode cX2_checkSameGround 43 = .ok (.aload_n 0, 1) := dk_42 (dk_at dksX2_checkSameGround_1 20 rfl rfl)
theorem dX2_checkSameGround_44 : decode cX2_checkSameGround 44 = .ok (.iload_n 1, 1) := dk_27 (dk_at dksX2_checkSameGround_1 21 rfl rfl)
theorem dX2_checkSameGround_45 : decode cX2_checkSameGround 45 = .ok (.invokevirtual 156, 3) := dk_182 0 156 (dk_at dksX2_checkSameGround_2 0 rfl rfl)
theorem dX2_checkSameGround_48 : decode cX2_checkSameGround 48 = .ok (.aload_n 3, 1) := dk_45 (dk_at dksX2_checkSameGround_2 3 rfl rfl)
theorem dX2_checkSameGround_49 : decode cX2_checkSameGround 49 = .ok (.invokestatic 135, 3) := dk_184 0 135 (dk_at dksX2_checkSameGround_2 4 rfl rfl)
theorem dX2_checkSameGround_52 : decode cX2_checkSameGround 52 = .ok (.goto 13, 3) := dk_167 0 13 (dk_at dksX2_checkSameGround_2 7 rfl rfl)
theorem dX2_checkSameGround_55 : decode cX2_checkSameGround 55 = .ok (.astore 5, 2) := dk_58 5 (dk_at dksX2_checkSameGround_2 10 rfl rfl)
theorem dX2_checkSameGround_57 : decode cX2_checkSameGround 57 = .ok (.aload 4, 2) := dk_25 4 (dk_at dksX2_checkSameGround_2 12 rfl rfl)
theorem dX2_checkSameGround_59 : decode cX2_checkSameGround 59 = .ok (.aload 5, 2) := dk_25 5 (dk_at dksX2_checkSameGround_2 14 rfl rfl)
theorem dX2_checkSameGround_61 : decode cX2_checkSameGround 61 = .ok (.invokevirtual 183, 3) := dk_182 0 183 (dk_at dksX2_checkSameGround_2 16 rfl rfl)
theorem dX2_checkSameGround_64 : decode cX2_checkSameGround 64 = .ok (.pop, 1) := dk_87 (dk_at dksX2_checkSameGround_2 19 rfl rfl)
theorem dX2_checkSameGround_65 : decode cX2_checkSameGround 65 = .ok (.aload 4, 2) := dk_25 4 (dk_at dksX2_checkSameGround_2 20 rfl rfl)
theorem dX2_checkSameGround_67 : decode cX2_checkSameGround 67 = .ok (.athrow, 1) := dk_191 (dk_at dksX2_checkSameGround_2 22 rfl rfl)
abbrev cX2_draughtOf : ByteArray := prog_10_method_26_code
def yX2_draughtOf : MethodName := ⟨RX2, "draughtOf", "(LWhelkFleet$Line;)LWhelkFleet$Draught;"⟩
def dkwX2_draughtOf_1 : List UInt8 := [42, 43, 182, 0, 166, 185, 0, 180, 1, 0, 182, 0, 205, 28, 182, 0, 208, 176]
abbrev dktX2_draughtOf_1 : List UInt8 := dkwX2_draughtOf_1 ++ []
def dkwX2_draughtOf_0 : List UInt8 := [43, 182, 0, 187, 43, 182, 0, 190, 184, 0, 193, 43, 42, 180, 0, 79, 182, 0, 199, 182, 0, 202, 104, 61]
abbrev dktX2_draughtOf_0 : List UInt8 := dkwX2_draughtOf_0 ++ dktX2_draughtOf_1
theorem dksX2_draughtOf_0 : cX2_draughtOf.data.toList.drop 0 = dktX2_draughtOf_0 := by decide +kernel
theorem dksX2_draughtOf_1 : cX2_draughtOf.data.toList.drop 24 = dktX2_draughtOf_1 := dk_seg dksX2_draughtOf_0 24 rfl rfl
theorem dX2_draughtOf_0 : decode cX2_draughtOf 0 = .ok (.aload_n 1, 1) := dk_43 (dk_at dksX2_draughtOf_0 0 rfl rfl)
theorem dX2_draughtOf_1 : decode cX2_draughtOf 1 = .ok (.invokevirtual 187, 3) := dk_182 0 187 (dk_at dksX2_draughtOf_0 1 rfl rfl)
theorem dX2_draughtOf_4 : decode cX2_draughtOf 4 = .ok (.aload_n 1, 1) := dk_43 (dk_at dksX2_draughtOf_0 4 rfl rfl)
theorem dX2_draughtOf_5 : decode cX2_draughtOf 5 = .ok (.invokevirtual 190, 3) := dk_182 0 190 (dk_at dksX2_draughtOf_0 5 rfl rfl)
theorem dX2_draughtOf_8 : decode cX2_draughtOf 8 = .ok (.invokestatic 193, 3) := dk_184 0 193 (dk_at dksX2_draughtOf_0 8 rfl rfl)
theorem dX2_draughtOf_11 : decode cX2_draughtOf 11 = .ok (.aload_n 1, 1) := dk_43 (dk_at dksX2_draughtOf_0 11 rfl rfl)
theorem dX2_draughtOf_12 : decode cX2_draughtOf 12 = .ok (.aload_n 0, 1) := dk_42 (dk_at dksX2_draughtOf_0 12 rfl rfl)
theorem dX2_draughtOf_13 : decode cX2_draughtOf 13 = .ok (.getfield 79, 3) := dk_180 0 79 (dk_at dksX2_draughtOf_0 13 rfl rfl)
theorem dX2_draughtOf_16 : decode cX2_draughtOf 16 = .ok (.invokevirtual 199, 3) := dk_182 0 199 (dk_at dksX2_draughtOf_0 16 rfl rfl)
theorem dX2_draughtOf_19 : decode cX2_draughtOf 19 = .ok (.invokevirtual 202, 3) := dk_182 0 202 (dk_at dksX2_draughtOf_0 19 rfl rfl)
theorem dX2_draughtOf_22 : decode cX2_draughtOf 22 = .ok (.imul, 1) := dk_104 (dk_at dksX2_draughtOf_0 22 rfl rfl)
theorem dX2_draughtOf_23 : decode cX2_draughtOf 23 = .ok (.istore_n 2, 1) := dk_61 (dk_at dksX2_draughtOf_0 23 rfl rfl)
theorem dX2_draughtOf_24 : decode cX2_draughtOf 24 = .ok (.aload_n 0, 1) := dk_42 (dk_at dksX2_draughtOf_1 0 rfl rfl)
theorem dX2_draughtOf_25 : decode cX2_draughtOf 25 = .ok (.aload_n 1, 1) := dk_43 (dk_at dksX2_draughtOf_1 1 rfl rfl)
theorem dX2_draughtOf_26 : decode cX2_draughtOf 26 = .ok (.invokevirtual 166, 3) := dk_182 0 166 (dk_at dksX2_draughtOf_1 2 rfl rfl)
theorem dX2_draughtOf_29 : decode cX2_draughtOf 29 = .ok (.invokeinterface 180 1, 5) := by decide +kernel
theorem dX2_draughtOf_34 : decode cX2_draughtOf 34 = .ok (.invokevirtual 205, 3) := dk_182 0 205 (dk_at dksX2_draughtOf_1 10 rfl rfl)
theorem dX2_draughtOf_37 : decode cX2_draughtOf 37 = .ok (.iload_n 2, 1) := dk_28 (dk_at dksX2_draughtOf_1 13 rfl rfl)
theorem dX2_draughtOf_38 : decode cX2_draughtOf 38 = .ok (.invokevirtual 208, 3) := dk_182 0 208 (dk_at dksX2_draughtOf_1 14 rfl rfl)
theorem dX2_draughtOf_41 : decode cX2_draughtOf 41 = .ok (.areturn, 1) := dk_176 (dk_at dksX2_draughtOf_1 17 rfl rfl)
abbrev cX2_lands : ByteArray := prog_10_method_28_code
def yX2_lands : MethodName := ⟨RX2, "lands", "(I)I"⟩
def dkwX2_lands_3 : List UInt8 := [96, 181, 0, 91, 21, 4, 172]
abbrev dktX2_lands_3 : List UInt8 := dkwX2_lands_3 ++ []
def dkwX2_lands_2 : List UInt8 := [54, 4, 42, 89, 180, 0, 88, 29, 44, 182, 0, 248, 100, 96, 181, 0, 88, 42, 89, 180, 0, 91, 21, 4]
abbrev dktX2_lands_2 : List UInt8 := dkwX2_lands_2 ++ dktX2_lands_3
def dkwX2_lands_1 : List UInt8 := [44, 182, 0, 254, 16, 25, 161, 0, 7, 4, 167, 0, 4, 3, 16, 10, 29, 184, 0, 108, 44, 182, 0, 255]
abbrev dktX2_lands_1 : List UInt8 := dkwX2_lands_1 ++ dktX2_lands_2
def dkwX2_lands_0 : List UInt8 := [42, 27, 182, 0, 130, 77, 44, 184, 0, 135, 44, 182, 0, 248, 62, 44, 182, 0, 251, 16, 25, 162, 0, 12]
abbrev dktX2_lands_0 : List UInt8 := dkwX2_lands_0 ++ dktX2_lands_1
theorem dksX2_lands_0 : cX2_lands.data.toList.drop 0 = dktX2_lands_0 := by decide +kernel
theorem dksX2_lands_1 : cX2_lands.data.toList.drop 24 = dktX2_lands_1 := dk_seg dksX2_lands_0 24 rfl rfl
theorem dksX2_lands_2 : cX2_lands.data.toList.drop 48 = dktX2_lands_2 := dk_seg dksX2_lands_1 24 rfl rfl
theorem dksX2_lands_3 : cX2_lands.data.toList.drop 72 = dktX2_lands_3 := dk_seg dksX2_lands_2 24 rfl rfl
theorem dX2_lands_0 : decode cX2_lands 0 = .ok (.aload_n 0, 1) := dk_42 (dk_at dksX2_lands_0 0 rfl rfl)
theorem dX2_lands_1 : decode cX2_lands 1 = .ok (.iload_n 1, 1) := dk_27 (dk_at dksX2_lands_0 1 rfl rfl)
theorem dX2_lands_2 : decode cX2_lands 2 = .ok (.invokevirtual 130, 3) := dk_182 0 130 (dk_at dksX2_lands_0 2 rfl rfl)
theorem dX2_lands_5 : decode cX2_lands 5 = .ok (.astore_n 2, 1) := dk_77 (dk_at dksX2_lands_0 5 rfl rfl)
theorem dX2_lands_6 : decode cX2_lands 6 = .ok (.aload_n 2, 1) := dk_44 (dk_at dksX2_lands_0 6 rfl rfl)
theorem dX2_lands_7 : decode cX2_lands 7 = .ok (.invokestatic 135, 3) := dk_184 0 135 (dk_at dksX2_lands_0 7 rfl rfl)
theorem dX2_lands_10 : decode cX2_lands 10 = .ok (.aload_n 2, 1) := dk_44 (dk_at dksX2_lands_0 10 rfl rfl)
theorem dX2_lands_11 : decode cX2_lands 11 = .ok (.invokevirtual 248, 3) := dk_182 0 248 (dk_at dksX2_lands_0 11 rfl rfl)
theorem dX2_lands_14 : decode cX2_lands 14 = .ok (.istore_n 3, 1) := dk_62 (dk_at dksX2_lands_0 14 rfl rfl)
theorem dX2_lands_15 : decode cX2_lands 15 = .ok (.aload_n 2, 1) := dk_44 (dk_at dksX2_lands_0 15 rfl rfl)
theorem dX2_lands_16 : decode cX2_lands 16 = .ok (.invokevirtual 251, 3) := dk_182 0 251 (dk_at dksX2_lands_0 16 rfl rfl)
theorem dX2_lands_19 : decode cX2_lands 19 = .ok (.bipush 25, 2) := dk_16 25 (dk_at dksX2_lands_0 19 rfl rfl)
theorem dX2_lands_21 : decode cX2_lands 21 = .ok (.if_icmp .ge 12, 3) := dk_162 0 12 (dk_at dksX2_lands_0 21 rfl rfl)
theorem dX2_lands_24 : decode cX2_lands 24 = .ok (.aload_n 2, 1) := dk_44 (dk_at dksX2_lands_1 0 rfl rfl)
theorem dX2_lands_25 : decode cX2_lands 25 = .ok (.invokevirtual 254, 3) := dk_182 0 254 (dk_at dksX2_lands_1 1 rfl rfl)
theorem dX2_lands_28 : decode cX2_lands 28 = .ok (.bipush 25, 2) := dk_16 25 (dk_at dksX2_lands_1 4 rfl rfl)
theorem dX2_lands_30 : decode cX2_lands 30 = .ok (.if_icmp .lt 7, 3) := dk_161 0 7 (dk_at dksX2_lands_1 6 rfl rfl)
theorem dX2_lands_33 : decode cX2_lands 33 = .ok (.iconst 1, 1) := dk_4 (dk_at dksX2_lands_1 9 rfl rfl)
theorem dX2_lands_34 : decode cX2_lands 34 = .ok (.goto 4, 3) := dk_167 0 4 (dk_at dksX2_lands_1 10 rfl rfl)
theorem dX2_lands_37 : decode cX2_lands 37 = .ok (.iconst 0, 1) := dk_3 (dk_at dksX2_lands_1 13 rfl rfl)
theorem dX2_lands_38 : decode cX2_lands 38 = .ok (.bipush 10, 2) := dk_16 10 (dk_at dksX2_lands_1 14 rfl rfl)
theorem dX2_lands_40 : decode cX2_lands 40 = .ok (.iload_n 3, 1) := dk_29 (dk_at dksX2_lands_1 16 rfl rfl)
theorem dX2_lands_41 : decode cX2_lands 41 = .ok (.invokestatic 108, 3) := dk_184 0 108 (dk_at dksX2_lands_1 17 rfl rfl)
theorem dX2_lands_44 : decode cX2_lands 44 = .ok (.aload_n 2, 1) := dk_44 (dk_at dksX2_lands_1 20 rfl rfl)
theorem dX2_lands_45 : decode cX2_lands 45 = .ok (.invokevirtual 255, 3) := dk_182 0 255 (dk_at dksX2_lands_1 21 rfl rfl)
theorem dX2_lands_48 : decode cX2_lands 48 = .ok (.istore 4, 2) := dk_54 4 (dk_at dksX2_lands_2 0 rfl rfl)
theorem dX2_lands_50 : decode cX2_lands 50 = .ok (.aload_n 0, 1) := dk_42 (dk_at dksX2_lands_2 2 rfl rfl)
theorem dX2_lands_51 : decode cX2_lands 51 = .ok (.dup, 1) := dk_89 (dk_at dksX2_lands_2 3 rfl rfl)
theorem dX2_lands_52 : decode cX2_lands 52 = .ok (.getfield 88, 3) := dk_180 0 88 (dk_at dksX2_lands_2 4 rfl rfl)
theorem dX2_lands_55 : decode cX2_lands 55 = .ok (.iload_n 3, 1) := dk_29 (dk_at dksX2_lands_2 7 rfl rfl)
theorem dX2_lands_56 : decode cX2_lands 56 = .ok (.aload_n 2, 1) := dk_44 (dk_at dksX2_lands_2 8 rfl rfl)
theorem dX2_lands_57 : decode cX2_lands 57 = .ok (.invokevirtual 248, 3) := dk_182 0 248 (dk_at dksX2_lands_2 9 rfl rfl)
theorem dX2_lands_60 : decode cX2_lands 60 = .ok (.isub, 1) := dk_100 (dk_at dksX2_lands_2 12 rfl rfl)
theorem dX2_lands_61 : decode cX2_lands 61 = .ok (.iadd, 1) := dk_96 (dk_at dksX2_lands_2 13 rfl rfl)
theorem dX2_lands_62 : decode cX2_lands 62 = .ok (.putfield 88, 3) := dk_181 0 88 (dk_at dksX2_lands_2 14 rfl rfl)
theorem dX2_lands_65 : decode cX2_lands 65 = .ok (.aload_n 0, 1) := dk_42 (dk_at dksX2_lands_2 17 rfl rfl)
theorem dX2_lands_66 : decode cX2_lands 66 = .ok (.dup, 1) := dk_89 (dk_at dksX2_lands_2 18 rfl rfl)
theorem dX2_lands_67 : decode cX2_lands 67 = .ok (.getfield 91, 3) := dk_180 0 91 (dk_at dksX2_lands_2 19 rfl rfl)
theorem dX2_lands_70 : decode cX2_lands 70 = .ok (.iload 4, 2) := dk_21 4 (dk_at dksX2_lands_2 22 rfl rfl)
theorem dX2_lands_72 : decode cX2_lands 72 = .ok (.iadd, 1) := dk_96 (dk_at dksX2_lands_3 0 rfl rfl)
theorem dX2_lands_73 : decode cX2_lands 73 = .ok (.putfield 91, 3) := dk_181 0 91 (dk_at dksX2_lands_3 1 rfl rfl)
theorem dX2_lands_76 : decode cX2_lands 76 = .ok (.iload 4, 2) := dk_21 4 (dk_at dksX2_lands_3 4 rfl rfl)
theorem dX2_lands_78 : decode cX2_lands 78 = .ok (.ireturn, 1) := dk_172 (dk_at dksX2_lands_3 6 rfl rfl)
abbrev cX2_swells : ByteArray := prog_10_method_32_code
def yX2_swells : MethodName := ⟨RX2, "swells", "(I)I"⟩
def dkwX2_swells_0 : List UInt8 := [42, 180, 0, 28, 61, 42, 27, 181, 0, 28, 28, 172]
abbrev dktX2_swells_0 : List UInt8 := dkwX2_swells_0 ++ []
theorem dksX2_swells_0 : cX2_swells.data.toList.drop 0 = dktX2_swells_0 := by decide +kernel
theorem dX2_swells_0 : decode cX2_swells 0 = .ok (.aload_n 0, 1) := dk_42 (dk_at dksX2_swells_0 0 rfl rfl)
theorem dX2_swells_1 : decode cX2_swells 1 = .ok (.getfield 28, 3) := dk_180 0 28 (dk_at dksX2_swells_0 1 rfl rfl)
theorem dX2_swells_4 : decode cX2_swells 4 = .ok (.istore_n 2, 1) := dk_61 (dk_at dksX2_swells_0 4 rfl rfl)
theorem dX2_swells_5 : decode cX2_swells 5 = .ok (.aload_n 0, 1) := dk_42 (dk_at dksX2_swells_0 5 rfl rfl)
theorem dX2_swells_6 : decode cX2_swells 6 = .ok (.iload_n 1, 1) := dk_27 (dk_at dksX2_swells_0 6 rfl rfl)
theorem dX2_swells_7 : decode cX2_swells 7 = .ok (.putfield 28, 3) := dk_181 0 28 (dk_at dksX2_swells_0 7 rfl rfl)
theorem dX2_swells_10 : decode cX2_swells 10 = .ok (.iload_n 2, 1) := dk_28 (dk_at dksX2_swells_0 10 rfl rfl)
theorem dX2_swells_11 : decode cX2_swells 11 = .ok (.ireturn, 1) := dk_172 (dk_at dksX2_swells_0 11 rfl rfl)
abbrev cX2_riddles : ByteArray := prog_10_method_33_code
def yX2_riddles : MethodName := ⟨RX2, "riddles", "(I)I"⟩
def dkwX2_riddles_0 : List UInt8 := [42, 180, 0, 32, 61, 42, 27, 181, 0, 32, 28, 172]
abbrev dktX2_riddles_0 : List UInt8 := dkwX2_riddles_0 ++ []
theorem dksX2_riddles_0 : cX2_riddles.data.toList.drop 0 = dktX2_riddles_0 := by decide +kernel
theorem dX2_riddles_0 : decode cX2_riddles 0 = .ok (.aload_n 0, 1) := dk_42 (dk_at dksX2_riddles_0 0 rfl rfl)
theorem dX2_riddles_1 : decode cX2_riddles 1 = .ok (.getfield 32, 3) := dk_180 0 32 (dk_at dksX2_riddles_0 1 rfl rfl)
theorem dX2_riddles_4 : decode cX2_riddles 4 = .ok (.istore_n 2, 1) := dk_61 (dk_at dksX2_riddles_0 4 rfl rfl)
theorem dX2_riddles_5 : decode cX2_riddles 5 = .ok (.aload_n 0, 1) := dk_42 (dk_at dksX2_riddles_0 5 rfl rfl)
theorem dX2_riddles_6 : decode cX2_riddles 6 = .ok (.iload_n 1, 1) := dk_27 (dk_at dksX2_riddles_0 6 rfl rfl)
theorem dX2_riddles_7 : decode cX2_riddles 7 = .ok (.putfield 32, 3) := dk_181 0 32 (dk_at dksX2_riddles_0 7 rfl rfl)
theorem dX2_riddles_10 : decode cX2_riddles 10 = .ok (.iload_n 2, 1) := dk_28 (dk_at dksX2_riddles_0 10 rfl rfl)
theorem dX2_riddles_11 : decode cX2_riddles 11 = .ok (.ireturn, 1) := dk_172 (dk_at dksX2_riddles_0 11 rfl rfl)
abbrev cX2_pass : ByteArray := prog_10_method_35_code
def yX2_pass : MethodName := ⟨RX2, "pass", "(I)I"⟩
def dkwX2_pass_0 : List UInt8 := [3, 61, 3, 62, 29, 27, 162, 0, 16, 28, 42, 182, 1, 8, 96, 61, 132, 3, 1, 167, 255, 241, 28, 172]
abbrev dktX2_pass_0 : List UInt8 := dkwX2_pass_0 ++ []
theorem dksX2_pass_0 : cX2_pass.data.toList.drop 0 = dktX2_pass_0 := by decide +kernel
theorem dX2_pass_0 : decode cX2_pass 0 = .ok (.iconst 0, 1) := dk_3 (dk_at dksX2_pass_0 0 rfl rfl)
theorem dX2_pass_1 : decode cX2_pass 1 = .ok (.istore_n 2, 1) := dk_61 (dk_at dksX2_pass_0 1 rfl rfl)
theorem dX2_pass_2 : decode cX2_pass 2 = .ok (.iconst 0, 1) := dk_3 (dk_at dksX2_pass_0 2 rfl rfl)
theorem dX2_pass_3 : decode cX2_pass 3 = .ok (.istore_n 3, 1) := dk_62 (dk_at dksX2_pass_0 3 rfl rfl)
theorem dX2_pass_4 : decode cX2_pass 4 = .ok (.iload_n 3, 1) := dk_29 (dk_at dksX2_pass_0 4 rfl rfl)
theorem dX2_pass_5 : decode cX2_pass 5 = .ok (.iload_n 1, 1) := dk_27 (dk_at dksX2_pass_0 5 rfl rfl)
theorem dX2_pass_6 : decode cX2_pass 6 = .ok (.if_icmp .ge 16, 3) := dk_162 0 16 (dk_at dksX2_pass_0 6 rfl rfl)
theorem dX2_pass_9 : decode cX2_pass 9 = .ok (.iload_n 2, 1) := dk_28 (dk_at dksX2_pass_0 9 rfl rfl)
theorem dX2_pass_10 : decode cX2_pass 10 = .ok (.aload_n 0, 1) := dk_42 (dk_at dksX2_pass_0 10 rfl rfl)
theorem dX2_pass_11 : decode cX2_pass 11 = .ok (.invokevirtual 264, 3) := dk_182 1 8 (dk_at dksX2_pass_0 11 rfl rfl)
theorem dX2_pass_14 : decode cX2_pass 14 = .ok (.iadd, 1) := dk_96 (dk_at dksX2_pass_0 14 rfl rfl)
theorem dX2_pass_15 : decode cX2_pass 15 = .ok (.istore_n 2, 1) := dk_61 (dk_at dksX2_pass_0 15 rfl rfl)
theorem dX2_pass_16 : decode cX2_pass 16 = .ok (.iinc 3 1, 3) := dk_132 3 1 (dk_at dksX2_pass_0 16 rfl rfl)
theorem dX2_pass_19 : decode cX2_pass 19 = .ok (.goto (-15), 3) := dk_167 255 241 (dk_at dksX2_pass_0 19 rfl rfl)
theorem dX2_pass_22 : decode cX2_pass 22 = .ok (.iload_n 2, 1) := dk_28 (dk_at dksX2_pass_0 22 rfl rfl)
theorem dX2_pass_23 : decode cX2_pass 23 = .ok (.ireturn, 1) := dk_172 (dk_at dksX2_pass_0 23 rfl rfl)
abbrev cX2_dayGoesBy : ByteArray := prog_10_method_34_code
def yX2_dayGoesBy : MethodName := ⟨RX2, "dayGoesBy", "()I"⟩
def dkwX2_dayGoesBy_6 : List UInt8 := [181, 0, 79, 27, 172]
abbrev dktX2_dayGoesBy_6 : List UInt8 := dkwX2_dayGoesBy_6 ++ []
def dkwX2_dayGoesBy_5 : List UInt8 := [185, 0, 55, 1, 0, 192, 0, 36, 78, 45, 182, 1, 33, 167, 255, 233, 42, 89, 180, 0, 79, 4, 96]
abbrev dktX2_dayGoesBy_5 : List UInt8 := dkwX2_dayGoesBy_5 ++ dktX2_dayGoesBy_6
def dkwX2_dayGoesBy_4 : List UInt8 := [42, 180, 0, 12, 185, 0, 45, 1, 0, 77, 44, 185, 0, 49, 1, 0, 153, 0, 20, 44]
abbrev dktX2_dayGoesBy_4 : List UInt8 := dkwX2_dayGoesBy_4 ++ dktX2_dayGoesBy_5
def dkwX2_dayGoesBy_3 : List UInt8 := [78, 27, 42, 180, 0, 28, 16, 7, 161, 0, 10, 45, 182, 1, 30, 167, 0, 4, 3, 96, 60, 167, 255, 217]
abbrev dktX2_dayGoesBy_3 : List UInt8 := dkwX2_dayGoesBy_3 ++ dktX2_dayGoesBy_4
def dkwX2_dayGoesBy_2 : List UInt8 := [185, 0, 45, 1, 0, 77, 44, 185, 0, 49, 1, 0, 153, 0, 36, 44, 185, 0, 55, 1, 0, 192, 0, 68]
abbrev dktX2_dayGoesBy_2 : List UInt8 := dkwX2_dayGoesBy_2 ++ dktX2_dayGoesBy_3
def dkwX2_dayGoesBy_1 : List UInt8 := [185, 0, 55, 1, 0, 192, 0, 63, 77, 44, 182, 1, 27, 167, 255, 233, 3, 60, 42, 180, 0, 21]
abbrev dktX2_dayGoesBy_1 : List UInt8 := dkwX2_dayGoesBy_1 ++ dktX2_dayGoesBy_2
def dkwX2_dayGoesBy_0 : List UInt8 := [42, 180, 0, 18, 185, 0, 45, 1, 0, 76, 43, 185, 0, 49, 1, 0, 153, 0, 20, 43]
abbrev dktX2_dayGoesBy_0 : List UInt8 := dkwX2_dayGoesBy_0 ++ dktX2_dayGoesBy_1
theorem dksX2_dayGoesBy_0 : cX2_dayGoesBy.data.toList.drop 0 = dktX2_dayGoesBy_0 := by decide +kernel
theorem dksX2_dayGoesBy_1 : cX2_dayGoesBy.data.toList.drop 20 = dktX2_dayGoesBy_1 := dk_seg dksX2_dayGoesBy_0 20 rfl rfl
theorem dksX2_dayGoesBy_2 : cX2_dayGoesBy.data.toList.drop 42 = dktX2_dayGoesBy_2 := dk_seg dksX2_dayGoesBy_1 22 rfl rfl
theorem dksX2_dayGoesBy_3 : cX2_dayGoesBy.data.toList.drop 66 = dktX2_dayGoesBy_3 := dk_seg dksX2_dayGoesBy_2 24 rfl rfl
theorem dksX2_dayGoesBy_4 : cX2_dayGoesBy.data.toList.drop 90 = dktX2_dayGoesBy_4 := dk_seg dksX2_dayGoesBy_3 24 rfl rfl
theorem dksX2_dayGoesBy_5 : cX2_dayGoesBy.data.toList.drop 110 = dktX2_dayGoesBy_5 := dk_seg dksX2_dayGoesBy_4 20 rfl rfl
theorem dksX2_dayGoesBy_6 : cX2_dayGoesBy.data.toList.drop 133 = dktX2_dayGoesBy_6 := dk_seg dksX2_dayGoesBy_5 23 rfl rfl
theorem dX2_dayGoesBy_0 : decode cX2_dayGoesBy 0 = .ok (.aload_n 0, 1) := dk_42 (dk_at dksX2_dayGoesBy_0 0 rfl rfl)
theorem dX2_dayGoesBy_1 : decode cX2_dayGoesBy 1 = .ok (.getfield 18, 3) := dk_180 0 18 (dk_at dksX2_dayGoesBy_0 1 rfl rfl)
theorem dX2_dayGoesBy_4 : decode cX2_dayGoesBy 4 = .ok (.invokeinterface 45 1, 5) := by decide +kernel
theorem dX2_dayGoesBy_9 : decode cX2_dayGoesBy 9 = .ok (.astore_n 1, 1) := dk_76 (dk_at dksX2_dayGoesBy_0 9 rfl rfl)
theorem dX2_dayGoesBy_10 : decode cX2_dayGoesBy 10 = .ok (.aload_n 1, 1) := dk_43 (dk_at dksX2_dayGoesBy_0 10 rfl rfl)
theorem dX2_dayGoesBy_11 : decode cX2_dayGoesBy 11 = .ok (.invokeinterface 49 1, 5) := by decide +kernel
theorem dX2_dayGoesBy_16 : decode cX2_dayGoesBy 16 = .ok (.ifCond .eq 20, 3) := dk_153 0 20 (dk_at dksX2_dayGoesBy_0 16 rfl rfl)
theorem dX2_dayGoesBy_19 : decode cX2_dayGoesBy 19 = .ok (.aload_n 1, 1) := dk_43 (dk_at dksX2_dayGoesBy_0 19 rfl rfl)
theorem dX2_dayGoesBy_20 : decode cX2_dayGoesBy 20 = .ok (.invokeinterface 55 1, 5) := by decide +kernel
theorem dX2_dayGoesBy_25 : decode cX2_dayGoesBy 25 = .ok (.checkcast 63, 3) := dk_192 0 63 (dk_at dksX2_dayGoesBy_1 5 rfl rfl)
theorem dX2_dayGoesBy_28 : decode cX2_dayGoesBy 28 = .ok (.astore_n 2, 1) := dk_77 (dk_at dksX2_dayGoesBy_1 8 rfl rfl)
theorem dX2_dayGoesBy_29 : decode cX2_dayGoesBy 29 = .ok (.aload_n 2, 1) := dk_44 (dk_at dksX2_dayGoesBy_1 9 rfl rfl)
theorem dX2_dayGoesBy_30 : decode cX2_dayGoesBy 30 = .ok (.invokevirtual 283, 3) := dk_182 1 27 (dk_at dksX2_dayGoesBy_1 10 rfl rfl)
theorem dX2_dayGoesBy_33 : decode cX2_dayGoesBy 33 = .ok (.goto (-23), 3) := dk_167 255 233 (dk_at dksX2_dayGoesBy_1 13 rfl rfl)
theorem dX2_dayGoesBy_36 : decode cX2_dayGoesBy 36 = .ok (.iconst 0, 1) := dk_3 (dk_at dksX2_dayGoesBy_1 16 rfl rfl)
theorem dX2_dayGoesBy_37 : decode cX2_dayGoesBy 37 = .ok (.istore_n 1, 1) := dk_60 (dk_at dksX2_dayGoesBy_1 17 rfl rfl)
theorem dX2_dayGoesBy_38 : decode cX2_dayGoesBy 38 = .ok (.aload_n 0, 1) := dk_42 (dk_at dksX2_dayGoesBy_1 18 rfl rfl)
theorem dX2_dayGoesBy_39 : decode cX2_dayGoesBy 39 = .ok (.getfield 21, 3) := dk_180 0 21 (dk_at dksX2_dayGoesBy_1 19 rfl rfl)
theorem dX2_dayGoesBy_42 : decode cX2_dayGoesBy 42 = .ok (.invokeinterface 45 1, 5) := by decide +kernel
theorem dX2_dayGoesBy_47 : decode cX2_dayGoesBy 47 = .ok (.astore_n 2, 1) := dk_77 (dk_at dksX2_dayGoesBy_2 5 rfl rfl)
theorem dX2_dayGoesBy_48 : decode cX2_dayGoesBy 48 = .ok (.aload_n 2, 1) := dk_44 (dk_at dksX2_dayGoesBy_2 6 rfl rfl)
theorem dX2_dayGoesBy_49 : decode cX2_dayGoesBy 49 = .ok (.invokeinterface 49 1, 5) := by decide +kernel
theorem dX2_dayGoesBy_54 : decode cX2_dayGoesBy 54 = .ok (.ifCond .eq 36, 3) := dk_153 0 36 (dk_at dksX2_dayGoesBy_2 12 rfl rfl)
theorem dX2_dayGoesBy_57 : decode cX2_dayGoesBy 57 = .ok (.aload_n 2, 1) := dk_44 (dk_at dksX2_dayGoesBy_2 15 rfl rfl)
theorem dX2_dayGoesBy_58 : decode cX2_dayGoesBy 58 = .ok (.invokeinterface 55 1, 5) := by decide +kernel
theorem dX2_dayGoesBy_63 : decode cX2_dayGoesBy 63 = .ok (.checkcast 68, 3) := dk_192 0 68 (dk_at dksX2_dayGoesBy_2 21 rfl rfl)
theorem dX2_dayGoesBy_66 : decode cX2_dayGoesBy 66 = .ok (.astore_n 3, 1) := dk_78 (dk_at dksX2_dayGoesBy_3 0 rfl rfl)
theorem dX2_dayGoesBy_67 : decode cX2_dayGoesBy 67 = .ok (.iload_n 1, 1) := dk_27 (dk_at dksX2_dayGoesBy_3 1 rfl rfl)
theorem dX2_dayGoesBy_68 : decode cX2_dayGoesBy 68 = .ok (.aload_n 0, 1) := dk_42 (dk_at dksX2_dayGoesBy_3 2 rfl rfl)
theorem dX2_dayGoesBy_69 : decode cX2_dayGoesBy 69 = .ok (.getfield 28, 3) := dk_180 0 28 (dk_at dksX2_dayGoesBy_3 3 rfl rfl)
theorem dX2_dayGoesBy_72 : decode cX2_dayGoesBy 72 = .ok (.bipush 7, 2) := dk_16 7 (dk_at dksX2_dayGoesBy_3 6 rfl rfl)
theorem dX2_dayGoesBy_74 : decode cX2_dayGoesBy 74 = .ok (.if_icmp .lt 10, 3) := dk_161 0 10 (dk_at dksX2_dayGoesBy_3 8 rfl rfl)
theorem dX2_dayGoesBy_77 : decode cX2_dayGoesBy 77 = .ok (.aload_n 3, 1) := dk_45 (dk_at dksX2_dayGoesBy_3 11 rfl rfl)
theorem dX2_dayGoesBy_78 : decode cX2_dayGoesBy 78 = .ok (.invokevirtual 286, 3) := dk_182 1 30 (dk_at dksX2_dayGoesBy_3 12 rfl rfl)
theorem dX2_dayGoesBy_81 : decode cX2_dayGoesBy 81 = .ok (.goto 4, 3) := dk_167 0 4 (dk_at dksX2_dayGoesBy_3 15 rfl rfl)
theorem dX2_dayGoesBy_84 : decode cX2_dayGoesBy 84 = .ok (.iconst 0, 1) := dk_3 (dk_at dksX2_dayGoesBy_3 18 rfl rfl)
theorem dX2_dayGoesBy_85 : decode cX2_dayGoesBy 85 = .ok (.iadd, 1) := dk_96 (dk_at dksX2_dayGoesBy_3 19 rfl rfl)
theorem dX2_dayGoesBy_86 : decode cX2_dayGoesBy 86 = .ok (.istore_n 1, 1) := dk_60 (dk_at dksX2_dayGoesBy_3 20 rfl rfl)
theorem dX2_dayGoesBy_87 : decode cX2_dayGoesBy 87 = .ok (.goto (-39), 3) := dk_167 255 217 (dk_at dksX2_dayGoesBy_3 21 rfl rfl)
theorem dX2_dayGoesBy_90 : decode cX2_dayGoesBy 90 = .ok (.aload_n 0, 1) := dk_42 (dk_at dksX2_dayGoesBy_4 0 rfl rfl)
theorem dX2_dayGoesBy_91 : decode cX2_dayGoesBy 91 = .ok (.getfield 12, 3) := dk_180 0 12 (dk_at dksX2_dayGoesBy_4 1 rfl rfl)
theorem dX2_dayGoesBy_94 : decode cX2_dayGoesBy 94 = .ok (.invokeinterface 45 1, 5) := by decide +kernel
theorem dX2_dayGoesBy_99 : decode cX2_dayGoesBy 99 = .ok (.astore_n 2, 1) := dk_77 (dk_at dksX2_dayGoesBy_4 9 rfl rfl)
theorem dX2_dayGoesBy_100 : decode cX2_dayGoesBy 100 = .ok (.aload_n 2, 1) := dk_44 (dk_at dksX2_dayGoesBy_4 10 rfl rfl)
theorem dX2_dayGoesBy_101 : decode cX2_dayGoesBy 101 = .ok (.invokeinterface 49 1, 5) := by decide +kernel
theorem dX2_dayGoesBy_106 : decode cX2_dayGoesBy 106 = .ok (.ifCond .eq 20, 3) := dk_153 0 20 (dk_at dksX2_dayGoesBy_4 16 rfl rfl)
theorem dX2_dayGoesBy_109 : decode cX2_dayGoesBy 109 = .ok (.aload_n 2, 1) := dk_44 (dk_at dksX2_dayGoesBy_4 19 rfl rfl)
theorem dX2_dayGoesBy_110 : decode cX2_dayGoesBy 110 = .ok (.invokeinterface 55 1, 5) := by decide +kernel
theorem dX2_dayGoesBy_115 : decode cX2_dayGoesBy 115 = .ok (.checkcast 36, 3) := dk_192 0 36 (dk_at dksX2_dayGoesBy_5 5 rfl rfl)
theorem dX2_dayGoesBy_118 : decode cX2_dayGoesBy 118 = .ok (.astore_n 3, 1) := dk_78 (dk_at dksX2_dayGoesBy_5 8 rfl rfl)
theorem dX2_dayGoesBy_119 : decode cX2_dayGoesBy 119 = .ok (.aload_n 3, 1) := dk_45 (dk_at dksX2_dayGoesBy_5 9 rfl rfl)
theorem dX2_dayGoesBy_120 : decode cX2_dayGoesBy 120 = .ok (.invokevirtual 289, 3) := dk_182 1 33 (dk_at dksX2_dayGoesBy_5 10 rfl rfl)
theorem dX2_dayGoesBy_123 : decode cX2_dayGoesBy 123 = .ok (.goto (-23), 3) := dk_167 255 233 (dk_at dksX2_dayGoesBy_5 13 rfl rfl)
theorem dX2_dayGoesBy_126 : decode cX2_dayGoesBy 126 = .ok (.aload_n 0, 1) := dk_42 (dk_at dksX2_dayGoesBy_5 16 rfl rfl)
theorem dX2_dayGoesBy_127 : decode cX2_dayGoesBy 127 = .ok (.dup, 1) := dk_89 (dk_at dksX2_dayGoesBy_5 17 rfl rfl)
theorem dX2_dayGoesBy_128 : decode cX2_dayGoesBy 128 = .ok (.getfield 79, 3) := dk_180 0 79 (dk_at dksX2_dayGoesBy_5 18 rfl rfl)
theorem dX2_dayGoesBy_131 : decode cX2_dayGoesBy 131 = .ok (.iconst 1, 1) := dk_4 (dk_at dksX2_dayGoesBy_5 21 rfl rfl)
theorem dX2_dayGoesBy_132 : decode cX2_dayGoesBy 132 = .ok (.iadd, 1) := dk_96 (dk_at dksX2_dayGoesBy_5 22 rfl rfl)
theorem dX2_dayGoesBy_133 : decode cX2_dayGoesBy 133 = .ok (.putfield 79, 3) := dk_181 0 79 (dk_at dksX2_dayGoesBy_6 0 rfl rfl)
theorem dX2_dayGoesBy_136 : decode cX2_dayGoesBy 136 = .ok (.iload_n 1, 1) := dk_27 (dk_at dksX2_dayGoesBy_6 3 rfl rfl)
theorem dX2_dayGoesBy_137 : decode cX2_dayGoesBy 137 = .ok (.ireturn, 1) := dk_172 (dk_at dksX2_dayGoesBy_6 4 rfl rfl)
abbrev cX2_buys : ByteArray := prog_10_method_18_code
def yX2_buys : MethodName := ⟨RX2, "buys", "(I)I"⟩
def dkwX2_buys_2 : List UInt8 := [185, 0, 104, 1, 0, 4, 100, 172]
abbrev dktX2_buys_2 : List UInt8 := dkwX2_buys_2 ++ []
def dkwX2_buys_1 : List UInt8 := [180, 0, 18, 187, 0, 63, 89, 27, 183, 0, 112, 185, 0, 39, 2, 0, 87, 42, 180, 0, 18]
abbrev dktX2_buys_1 : List UInt8 := dkwX2_buys_1 ++ dktX2_buys_2
def dkwX2_buys_0 : List UInt8 := [42, 180, 0, 18, 185, 0, 104, 1, 0, 6, 162, 0, 7, 4, 167, 0, 4, 3, 4, 6, 184, 0, 108, 42]
abbrev dktX2_buys_0 : List UInt8 := dkwX2_buys_0 ++ dktX2_buys_1
theorem dksX2_buys_0 : cX2_buys.data.toList.drop 0 = dktX2_buys_0 := by decide +kernel
theorem dksX2_buys_1 : cX2_buys.data.toList.drop 24 = dktX2_buys_1 := dk_seg dksX2_buys_0 24 rfl rfl
theorem dksX2_buys_2 : cX2_buys.data.toList.drop 45 = dktX2_buys_2 := dk_seg dksX2_buys_1 21 rfl rfl
theorem dX2_buys_0 : decode cX2_buys 0 = .ok (.aload_n 0, 1) := dk_42 (dk_at dksX2_buys_0 0 rfl rfl)
theorem dX2_buys_1 : decode cX2_buys 1 = .ok (.getfield 18, 3) := dk_180 0 18 (dk_at dksX2_buys_0 1 rfl rfl)
theorem dX2_buys_4 : decode cX2_buys 4 = .ok (.invokeinterface 104 1, 5) := by decide +kernel
theorem dX2_buys_9 : decode cX2_buys 9 = .ok (.iconst 3, 1) := dk_6 (dk_at dksX2_buys_0 9 rfl rfl)
theorem dX2_buys_10 : decode cX2_buys 10 = .ok (.if_icmp .ge 7, 3) := dk_162 0 7 (dk_at dksX2_buys_0 10 rfl rfl)
theorem dX2_buys_13 : decode cX2_buys 13 = .ok (.iconst 1, 1) := dk_4 (dk_at dksX2_buys_0 13 rfl rfl)
theorem dX2_buys_14 : decode cX2_buys 14 = .ok (.goto 4, 3) := dk_167 0 4 (dk_at dksX2_buys_0 14 rfl rfl)
theorem dX2_buys_17 : decode cX2_buys 17 = .ok (.iconst 0, 1) := dk_3 (dk_at dksX2_buys_0 17 rfl rfl)
theorem dX2_buys_18 : decode cX2_buys 18 = .ok (.iconst 1, 1) := dk_4 (dk_at dksX2_buys_0 18 rfl rfl)
theorem dX2_buys_19 : decode cX2_buys 19 = .ok (.iconst 3, 1) := dk_6 (dk_at dksX2_buys_0 19 rfl rfl)
theorem dX2_buys_20 : decode cX2_buys 20 = .ok (.invokestatic 108, 3) := dk_184 0 108 (dk_at dksX2_buys_0 20 rfl rfl)
theorem dX2_buys_23 : decode cX2_buys 23 = .ok (.aload_n 0, 1) := dk_42 (dk_at dksX2_buys_0 23 rfl rfl)
theorem dX2_buys_24 : decode cX2_buys 24 = .ok (.getfield 18, 3) := dk_180 0 18 (dk_at dksX2_buys_1 0 rfl rfl)
theorem dX2_buys_27 : decode cX2_buys 27 = .ok (.new 63, 3) := dk_187 0 63 (dk_at dksX2_buys_1 3 rfl rfl)
theorem dX2_buys_30 : decode cX2_buys 30 = .ok (.dup, 1) := dk_89 (dk_at dksX2_buys_1 6 rfl rfl)
theorem dX2_buys_31 : decode cX2_buys 31 = .ok (.iload_n 1, 1) := dk_27 (dk_at dksX2_buys_1 7 rfl rfl)
theorem dX2_buys_32 : decode cX2_buys 32 = .ok (.invokespecial 112, 3) := dk_183 0 112 (dk_at dksX2_buys_1 8 rfl rfl)
theorem dX2_buys_35 : decode cX2_buys 35 = .ok (.invokeinterface 39 2, 5) := by decide +kernel
theorem dX2_buys_40 : decode cX2_buys 40 = .ok (.pop, 1) := dk_87 (dk_at dksX2_buys_1 16 rfl rfl)
theorem dX2_buys_41 : decode cX2_buys 41 = .ok (.aload_n 0, 1) := dk_42 (dk_at dksX2_buys_1 17 rfl rfl)
theorem dX2_buys_42 : decode cX2_buys 42 = .ok (.getfield 18, 3) := dk_180 0 18 (dk_at dksX2_buys_1 18 rfl rfl)
theorem dX2_buys_45 : decode cX2_buys 45 = .ok (.invokeinterface 104 1, 5) := by decide +kernel
theorem dX2_buys_50 : decode cX2_buys 50 = .ok (.iconst 1, 1) := dk_4 (dk_at dksX2_buys_2 5 rfl rfl)
theorem dX2_buys_51 : decode cX2_buys 51 = .ok (.isub, 1) := dk_100 (dk_at dksX2_buys_2 6 rfl rfl)
theorem dX2_buys_52 : decode cX2_buys 52 = .ok (.ireturn, 1) := dk_172 (dk_at dksX2_buys_2 7 rfl rfl)
abbrev cX2_makes : ByteArray := prog_10_method_19_code
def yX2_makes : MethodName := ⟨RX2, "makes", "(I)I"⟩
def dkwX2_makes_2 : List UInt8 := [180, 0, 21, 185, 0, 104, 1, 0, 4, 100, 172]
abbrev dktX2_makes_2 : List UInt8 := dkwX2_makes_2 ++ []
def dkwX2_makes_1 : List UInt8 := [184, 0, 108, 42, 180, 0, 21, 187, 0, 68, 89, 27, 183, 0, 115, 185, 0, 39, 2, 0, 87, 42]
abbrev dktX2_makes_1 : List UInt8 := dkwX2_makes_1 ++ dktX2_makes_2
def dkwX2_makes_0 : List UInt8 := [42, 180, 0, 21, 185, 0, 104, 1, 0, 16, 10, 162, 0, 7, 4, 167, 0, 4, 3, 4, 16, 10]
abbrev dktX2_makes_0 : List UInt8 := dkwX2_makes_0 ++ dktX2_makes_1
theorem dksX2_makes_0 : cX2_makes.data.toList.drop 0 = dktX2_makes_0 := by decide +kernel
theorem dksX2_makes_1 : cX2_makes.data.toList.drop 22 = dktX2_makes_1 := dk_seg dksX2_makes_0 22 rfl rfl
theorem dksX2_makes_2 : cX2_makes.data.toList.drop 44 = dktX2_makes_2 := dk_seg dksX2_makes_1 22 rfl rfl
theorem dX2_makes_0 : decode cX2_makes 0 = .ok (.aload_n 0, 1) := dk_42 (dk_at dksX2_makes_0 0 rfl rfl)
theorem dX2_makes_1 : decode cX2_makes 1 = .ok (.getfield 21, 3) := dk_180 0 21 (dk_at dksX2_makes_0 1 rfl rfl)
theorem dX2_makes_4 : decode cX2_makes 4 = .ok (.invokeinterface 104 1, 5) := by decide +kernel
theorem dX2_makes_9 : decode cX2_makes 9 = .ok (.bipush 10, 2) := dk_16 10 (dk_at dksX2_makes_0 9 rfl rfl)
theorem dX2_makes_11 : decode cX2_makes 11 = .ok (.if_icmp .ge 7, 3) := dk_162 0 7 (dk_at dksX2_makes_0 11 rfl rfl)
theorem dX2_makes_14 : decode cX2_makes 14 = .ok (.iconst 1, 1) := dk_4 (dk_at dksX2_makes_0 14 rfl rfl)
theorem dX2_makes_15 : decode cX2_makes 15 = .ok (.goto 4, 3) := dk_167 0 4 (dk_at dksX2_makes_0 15 rfl rfl)
theorem dX2_makes_18 : decode cX2_makes 18 = .ok (.iconst 0, 1) := dk_3 (dk_at dksX2_makes_0 18 rfl rfl)
theorem dX2_makes_19 : decode cX2_makes 19 = .ok (.iconst 1, 1) := dk_4 (dk_at dksX2_makes_0 19 rfl rfl)
theorem dX2_makes_20 : decode cX2_makes 20 = .ok (.bipush 10, 2) := dk_16 10 (dk_at dksX2_makes_0 20 rfl rfl)
theorem dX2_makes_22 : decode cX2_makes 22 = .ok (.invokestatic 108, 3) := dk_184 0 108 (dk_at dksX2_makes_1 0 rfl rfl)
theorem dX2_makes_25 : decode cX2_makes 25 = .ok (.aload_n 0, 1) := dk_42 (dk_at dksX2_makes_1 3 rfl rfl)
theorem dX2_makes_26 : decode cX2_makes 26 = .ok (.getfield 21, 3) := dk_180 0 21 (dk_at dksX2_makes_1 4 rfl rfl)
theorem dX2_makes_29 : decode cX2_makes 29 = .ok (.new 68, 3) := dk_187 0 68 (dk_at dksX2_makes_1 7 rfl rfl)
theorem dX2_makes_32 : decode cX2_makes 32 = .ok (.dup, 1) := dk_89 (dk_at dksX2_makes_1 10 rfl rfl)
theorem dX2_makes_33 : decode cX2_makes 33 = .ok (.iload_n 1, 1) := dk_27 (dk_at dksX2_makes_1 11 rfl rfl)
theorem dX2_makes_34 : decode cX2_makes 34 = .ok (.invokespecial 115, 3) := dk_183 0 115 (dk_at dksX2_makes_1 12 rfl rfl)
theorem dX2_makes_37 : decode cX2_makes 37 = .ok (.invokeinterface 39 2, 5) := by decide +kernel
theorem dX2_makes_42 : decode cX2_makes 42 = .ok (.pop, 1) := dk_87 (dk_at dksX2_makes_1 20 rfl rfl)
theorem dX2_makes_43 : decode cX2_makes 43 = .ok (.aload_n 0, 1) := dk_42 (dk_at dksX2_makes_1 21 rfl rfl)
theorem dX2_makes_44 : decode cX2_makes 44 = .ok (.getfield 21, 3) := dk_180 0 21 (dk_at dksX2_makes_2 0 rfl rfl)
theorem dX2_makes_47 : decode cX2_makes 47 = .ok (.invokeinterface 104 1, 5) := by decide +kernel
theorem dX2_makes_52 : decode cX2_makes 52 = .ok (.iconst 1, 1) := dk_4 (dk_at dksX2_makes_2 8 rfl rfl)
theorem dX2_makes_53 : decode cX2_makes 53 = .ok (.isub, 1) := dk_100 (dk_at dksX2_makes_2 9 rfl rfl)
theorem dX2_makes_54 : decode cX2_makes 54 = .ok (.ireturn, 1) := dk_172 (dk_at dksX2_makes_2 10 rfl rfl)
abbrev cX2_fills : ByteArray := prog_10_method_17_code
def yX2_fills : MethodName := ⟨RX2, "fills", "(II)I"⟩
def dkwX2_fills_1 : List UInt8 := [46, 172]
abbrev dktX2_fills_1 : List UInt8 := dkwX2_fills_1 ++ []
def dkwX2_fills_0 : List UInt8 := [42, 180, 0, 24, 27, 16, 99, 42, 180, 0, 24, 27, 46, 28, 96, 184, 0, 98, 79, 42, 180, 0, 24, 27]
abbrev dktX2_fills_0 : List UInt8 := dkwX2_fills_0 ++ dktX2_fills_1
theorem dksX2_fills_0 : cX2_fills.data.toList.drop 0 = dktX2_fills_0 := by decide +kernel
theorem dksX2_fills_1 : cX2_fills.data.toList.drop 24 = dktX2_fills_1 := dk_seg dksX2_fills_0 24 rfl rfl
theorem dX2_fills_0 : decode cX2_fills 0 = .ok (.aload_n 0, 1) := dk_42 (dk_at dksX2_fills_0 0 rfl rfl)
theorem dX2_fills_1 : decode cX2_fills 1 = .ok (.getfield 24, 3) := dk_180 0 24 (dk_at dksX2_fills_0 1 rfl rfl)
theorem dX2_fills_4 : decode cX2_fills 4 = .ok (.iload_n 1, 1) := dk_27 (dk_at dksX2_fills_0 4 rfl rfl)
theorem dX2_fills_5 : decode cX2_fills 5 = .ok (.bipush 99, 2) := dk_16 99 (dk_at dksX2_fills_0 5 rfl rfl)
theorem dX2_fills_7 : decode cX2_fills 7 = .ok (.aload_n 0, 1) := dk_42 (dk_at dksX2_fills_0 7 rfl rfl)
theorem dX2_fills_8 : decode cX2_fills 8 = .ok (.getfield 24, 3) := dk_180 0 24 (dk_at dksX2_fills_0 8 rfl rfl)
theorem dX2_fills_11 : decode cX2_fills 11 = .ok (.iload_n 1, 1) := dk_27 (dk_at dksX2_fills_0 11 rfl rfl)
theorem dX2_fills_12 : decode cX2_fills 12 = .ok (.iaload, 1) := dk_46 (dk_at dksX2_fills_0 12 rfl rfl)
theorem dX2_fills_13 : decode cX2_fills 13 = .ok (.iload_n 2, 1) := dk_28 (dk_at dksX2_fills_0 13 rfl rfl)
theorem dX2_fills_14 : decode cX2_fills 14 = .ok (.iadd, 1) := dk_96 (dk_at dksX2_fills_0 14 rfl rfl)
theorem dX2_fills_15 : decode cX2_fills 15 = .ok (.invokestatic 98, 3) := dk_184 0 98 (dk_at dksX2_fills_0 15 rfl rfl)
theorem dX2_fills_18 : decode cX2_fills 18 = .ok (.iastore, 1) := dk_79 (dk_at dksX2_fills_0 18 rfl rfl)
theorem dX2_fills_19 : decode cX2_fills 19 = .ok (.aload_n 0, 1) := dk_42 (dk_at dksX2_fills_0 19 rfl rfl)
theorem dX2_fills_20 : decode cX2_fills 20 = .ok (.getfield 24, 3) := dk_180 0 24 (dk_at dksX2_fills_0 20 rfl rfl)
theorem dX2_fills_23 : decode cX2_fills 23 = .ok (.iload_n 1, 1) := dk_27 (dk_at dksX2_fills_0 23 rfl rfl)
theorem dX2_fills_24 : decode cX2_fills 24 = .ok (.iaload, 1) := dk_46 (dk_at dksX2_fills_1 0 rfl rfl)
theorem dX2_fills_25 : decode cX2_fills 25 = .ok (.ireturn, 1) := dk_172 (dk_at dksX2_fills_1 1 rfl rfl)
abbrev cX2_box : ByteArray := prog_10_method_9_code
def yX2_box : MethodName := ⟨RX2, "box", "(I)I"⟩
def dkwX2_box_0 : List UInt8 := [42, 180, 0, 24, 27, 46, 172]
abbrev dktX2_box_0 : List UInt8 := dkwX2_box_0 ++ []
theorem dksX2_box_0 : cX2_box.data.toList.drop 0 = dktX2_box_0 := by decide +kernel
theorem dX2_box_0 : decode cX2_box 0 = .ok (.aload_n 0, 1) := dk_42 (dk_at dksX2_box_0 0 rfl rfl)
theorem dX2_box_1 : decode cX2_box 1 = .ok (.getfield 24, 3) := dk_180 0 24 (dk_at dksX2_box_0 1 rfl rfl)
theorem dX2_box_4 : decode cX2_box 4 = .ok (.iload_n 1, 1) := dk_27 (dk_at dksX2_box_0 4 rfl rfl)
theorem dX2_box_5 : decode cX2_box 5 = .ok (.iaload, 1) := dk_46 (dk_at dksX2_box_0 5 rfl rfl)
theorem dX2_box_6 : decode cX2_box 6 = .ok (.ireturn, 1) := dk_172 (dk_at dksX2_box_0 6 rfl rfl)
abbrev cX2_boats : ByteArray := prog_10_method_5_code
def yX2_boats : MethodName := ⟨RX2, "boats", "()Ljava/util/List;"⟩
theorem dX2_boats_0 : decode cX2_boats 0 = .ok (.aload_n 0, 1) := by decide +kernel
theorem dX2_boats_1 : decode cX2_boats 1 = .ok (.getfield 18, 3) := by decide +kernel
theorem dX2_boats_4 : decode cX2_boats 4 = .ok (.areturn, 1) := by decide +kernel
abbrev cX2_strings : ByteArray := prog_10_method_7_code
def yX2_strings : MethodName := ⟨RX2, "strings", "()Ljava/util/List;"⟩
theorem dX2_strings_0 : decode cX2_strings 0 = .ok (.aload_n 0, 1) := by decide +kernel
theorem dX2_strings_1 : decode cX2_strings 1 = .ok (.getfield 21, 3) := by decide +kernel
theorem dX2_strings_4 : decode cX2_strings 4 = .ok (.areturn, 1) := by decide +kernel
abbrev cX2_bringsIn : ByteArray := prog_10_method_29_code
def yX2_bringsIn : MethodName := ⟨RX2, "bringsIn", "(II)I"⟩
def dkwX2_bringsIn_1 : List UInt8 := [3, 167, 0, 15, 42, 45, 182, 0, 222, 42, 180, 0, 32, 182, 0, 225, 172]
abbrev dktX2_bringsIn_1 : List UInt8 := dkwX2_bringsIn_1 ++ []
def dkwX2_bringsIn_0 : List UInt8 := [42, 28, 182, 1, 2, 87, 42, 27, 182, 0, 162, 78, 45, 182, 0, 166, 185, 0, 212, 1, 0, 153, 0, 7]
abbrev dktX2_bringsIn_0 : List UInt8 := dkwX2_bringsIn_0 ++ dktX2_bringsIn_1
theorem dksX2_bringsIn_0 : cX2_bringsIn.data.toList.drop 0 = dktX2_bringsIn_0 := by decide +kernel
theorem dksX2_bringsIn_1 : cX2_bringsIn.data.toList.drop 24 = dktX2_bringsIn_1 := dk_seg dksX2_bringsIn_0 24 rfl rfl
theorem dX2_bringsIn_0 : decode cX2_bringsIn 0 = .ok (.aload_n 0, 1) := dk_42 (dk_at dksX2_bringsIn_0 0 rfl rfl)
theorem dX2_bringsIn_1 : decode cX2_bringsIn 1 = .ok (.iload_n 2, 1) := dk_28 (dk_at dksX2_bringsIn_0 1 rfl rfl)
theorem dX2_bringsIn_2 : decode cX2_bringsIn 2 = .ok (.invokevirtual 258, 3) := dk_182 1 2 (dk_at dksX2_bringsIn_0 2 rfl rfl)
theorem dX2_bringsIn_5 : decode cX2_bringsIn 5 = .ok (.pop, 1) := dk_87 (dk_at dksX2_bringsIn_0 5 rfl rfl)
theorem dX2_bringsIn_6 : decode cX2_bringsIn 6 = .ok (.aload_n 0, 1) := dk_42 (dk_at dksX2_bringsIn_0 6 rfl rfl)
theorem dX2_bringsIn_7 : decode cX2_bringsIn 7 = .ok (.iload_n 1, 1) := dk_27 (dk_at dksX2_bringsIn_0 7 rfl rfl)
theorem dX2_bringsIn_8 : decode cX2_bringsIn 8 = .ok (.invokevirtual 162, 3) := dk_182 0 162 (dk_at dksX2_bringsIn_0 8 rfl rfl)
theorem dX2_bringsIn_11 : decode cX2_bringsIn 11 = .ok (.astore_n 3, 1) := dk_78 (dk_at dksX2_bringsIn_0 11 rfl rfl)
theorem dX2_bringsIn_12 : decode cX2_bringsIn 12 = .ok (.aload_n 3, 1) := dk_45 (dk_at dksX2_bringsIn_0 12 rfl rfl)
theorem dX2_bringsIn_13 : decode cX2_bringsIn 13 = .ok (.invokevirtual 166, 3) := dk_182 0 166 (dk_at dksX2_bringsIn_0 13 rfl rfl)
theorem dX2_bringsIn_16 : decode cX2_bringsIn 16 = .ok (.invokeinterface 212 1, 5) := by decide +kernel
theorem dX2_bringsIn_21 : decode cX2_bringsIn 21 = .ok (.ifCond .eq 7, 3) := dk_153 0 7 (dk_at dksX2_bringsIn_0 21 rfl rfl)
theorem dX2_bringsIn_24 : decode cX2_bringsIn 24 = .ok (.iconst 0, 1) := dk_3 (dk_at dksX2_bringsIn_1 0 rfl rfl)
theorem dX2_bringsIn_25 : decode cX2_bringsIn 25 = .ok (.goto 15, 3) := dk_167 0 15 (dk_at dksX2_bringsIn_1 1 rfl rfl)
theorem dX2_bringsIn_28 : decode cX2_bringsIn 28 = .ok (.aload_n 0, 1) := dk_42 (dk_at dksX2_bringsIn_1 4 rfl rfl)
theorem dX2_bringsIn_29 : decode cX2_bringsIn 29 = .ok (.aload_n 3, 1) := dk_45 (dk_at dksX2_bringsIn_1 5 rfl rfl)
theorem dX2_bringsIn_30 : decode cX2_bringsIn 30 = .ok (.invokevirtual 222, 3) := dk_182 0 222 (dk_at dksX2_bringsIn_1 6 rfl rfl)
theorem dX2_bringsIn_33 : decode cX2_bringsIn 33 = .ok (.aload_n 0, 1) := dk_42 (dk_at dksX2_bringsIn_1 9 rfl rfl)
theorem dX2_bringsIn_34 : decode cX2_bringsIn 34 = .ok (.getfield 32, 3) := dk_180 0 32 (dk_at dksX2_bringsIn_1 10 rfl rfl)
theorem dX2_bringsIn_37 : decode cX2_bringsIn 37 = .ok (.invokevirtual 225, 3) := dk_182 0 225 (dk_at dksX2_bringsIn_1 13 rfl rfl)
theorem dX2_bringsIn_40 : decode cX2_bringsIn 40 = .ok (.ireturn, 1) := dk_172 (dk_at dksX2_bringsIn_1 16 rfl rfl)
abbrev cX2_bestDay : ByteArray := prog_10_method_30_code
def yX2_bestDay : MethodName := ⟨RX2, "bestDay", "(I)I"⟩
def dkwX2_bestDay_2 : List UInt8 := [184, 1, 5, 62, 42, 182, 1, 8, 87, 132, 4, 1, 167, 255, 203, 28, 172]
abbrev dktX2_bestDay_2 : List UInt8 := dkwX2_bestDay_2 ++ []
def dkwX2_bestDay_1 : List UInt8 := [180, 0, 32, 182, 0, 225, 54, 5, 21, 5, 29, 164, 0, 8, 21, 4, 167, 0, 4, 28, 61, 29, 21, 5]
abbrev dktX2_bestDay_1 : List UInt8 := dkwX2_bestDay_1 ++ dktX2_bestDay_2
def dkwX2_bestDay_0 : List UInt8 := [3, 61, 2, 62, 3, 54, 4, 21, 4, 16, 30, 163, 0, 52, 42, 42, 27, 182, 0, 162, 182, 0, 222, 42]
abbrev dktX2_bestDay_0 : List UInt8 := dkwX2_bestDay_0 ++ dktX2_bestDay_1
theorem dksX2_bestDay_0 : cX2_bestDay.data.toList.drop 0 = dktX2_bestDay_0 := by decide +kernel
theorem dksX2_bestDay_1 : cX2_bestDay.data.toList.drop 24 = dktX2_bestDay_1 := dk_seg dksX2_bestDay_0 24 rfl rfl
theorem dksX2_bestDay_2 : cX2_bestDay.data.toList.drop 48 = dktX2_bestDay_2 := dk_seg dksX2_bestDay_1 24 rfl rfl
theorem dX2_bestDay_0 : decode cX2_bestDay 0 = .ok (.iconst 0, 1) := dk_3 (dk_at dksX2_bestDay_0 0 rfl rfl)
theorem dX2_bestDay_1 : decode cX2_bestDay 1 = .ok (.istore_n 2, 1) := dk_61 (dk_at dksX2_bestDay_0 1 rfl rfl)
theorem dX2_bestDay_2 : decode cX2_bestDay 2 = .ok (.iconst (-1), 1) := dk_2 (dk_at dksX2_bestDay_0 2 rfl rfl)
theorem dX2_bestDay_3 : decode cX2_bestDay 3 = .ok (.istore_n 3, 1) := dk_62 (dk_at dksX2_bestDay_0 3 rfl rfl)
theorem dX2_bestDay_4 : decode cX2_bestDay 4 = .ok (.iconst 0, 1) := dk_3 (dk_at dksX2_bestDay_0 4 rfl rfl)
theorem dX2_bestDay_5 : decode cX2_bestDay 5 = .ok (.istore 4, 2) := dk_54 4 (dk_at dksX2_bestDay_0 5 rfl rfl)
theorem dX2_bestDay_7 : decode cX2_bestDay 7 = .ok (.iload 4, 2) := dk_21 4 (dk_at dksX2_bestDay_0 7 rfl rfl)
theorem dX2_bestDay_9 : decode cX2_bestDay 9 = .ok (.bipush 30, 2) := dk_16 30 (dk_at dksX2_bestDay_0 9 rfl rfl)
theorem dX2_bestDay_11 : decode cX2_bestDay 11 = .ok (.if_icmp .gt 52, 3) := dk_163 0 52 (dk_at dksX2_bestDay_0 11 rfl rfl)
theorem dX2_bestDay_14 : decode cX2_bestDay 14 = .ok (.aload_n 0, 1) := dk_42 (dk_at dksX2_bestDay_0 14 rfl rfl)
theorem dX2_bestDay_15 : decode cX2_bestDay 15 = .ok (.aload_n 0, 1) := dk_42 (dk_at dksX2_bestDay_0 15 rfl rfl)
theorem dX2_bestDay_16 : decode cX2_bestDay 16 = .ok (.iload_n 1, 1) := dk_27 (dk_at dksX2_bestDay_0 16 rfl rfl)
theorem dX2_bestDay_17 : decode cX2_bestDay 17 = .ok (.invokevirtual 162, 3) := dk_182 0 162 (dk_at dksX2_bestDay_0 17 rfl rfl)
theorem dX2_bestDay_20 : decode cX2_bestDay 20 = .ok (.invokevirtual 222, 3) := dk_182 0 222 (dk_at dksX2_bestDay_0 20 rfl rfl)
theorem dX2_bestDay_23 : decode cX2_bestDay 23 = .ok (.aload_n 0, 1) := dk_42 (dk_at dksX2_bestDay_0 23 rfl rfl)
theorem dX2_bestDay_24 : decode cX2_bestDay 24 = .ok (.getfield 32, 3) := dk_180 0 32 (dk_at dksX2_bestDay_1 0 rfl rfl)
theorem dX2_bestDay_27 : decode cX2_bestDay 27 = .ok (.invokevirtual 225, 3) := dk_182 0 225 (dk_at dksX2_bestDay_1 3 rfl rfl)
theorem dX2_bestDay_30 : decode cX2_bestDay 30 = .ok (.istore 5, 2) := dk_54 5 (dk_at dksX2_bestDay_1 6 rfl rfl)
theorem dX2_bestDay_32 : decode cX2_bestDay 32 = .ok (.iload 5, 2) := dk_21 5 (dk_at dksX2_bestDay_1 8 rfl rfl)
theorem dX2_bestDay_34 : decode cX2_bestDay 34 = .ok (.iload_n 3, 1) := dk_29 (dk_at dksX2_bestDay_1 10 rfl rfl)
theorem dX2_bestDay_35 : decode cX2_bestDay 35 = .ok (.if_icmp .le 8, 3) := dk_164 0 8 (dk_at dksX2_bestDay_1 11 rfl rfl)
theorem dX2_bestDay_38 : decode cX2_bestDay 38 = .ok (.iload 4, 2) := dk_21 4 (dk_at dksX2_bestDay_1 14 rfl rfl)
theorem dX2_bestDay_40 : decode cX2_bestDay 40 = .ok (.goto 4, 3) := dk_167 0 4 (dk_at dksX2_bestDay_1 16 rfl rfl)
theorem dX2_bestDay_43 : decode cX2_bestDay 43 = .ok (.iload_n 2, 1) := dk_28 (dk_at dksX2_bestDay_1 19 rfl rfl)
theorem dX2_bestDay_44 : decode cX2_bestDay 44 = .ok (.istore_n 2, 1) := dk_61 (dk_at dksX2_bestDay_1 20 rfl rfl)
theorem dX2_bestDay_45 : decode cX2_bestDay 45 = .ok (.iload_n 3, 1) := dk_29 (dk_at dksX2_bestDay_1 21 rfl rfl)
theorem dX2_bestDay_46 : decode cX2_bestDay 46 = .ok (.iload 5, 2) := dk_21 5 (dk_at dksX2_bestDay_1 22 rfl rfl)
theorem dX2_bestDay_48 : decode cX2_bestDay 48 = .ok (.invokestatic 261, 3) := dk_184 1 5 (dk_at dksX2_bestDay_2 0 rfl rfl)
theorem dX2_bestDay_51 : decode cX2_bestDay 51 = .ok (.istore_n 3, 1) := dk_62 (dk_at dksX2_bestDay_2 3 rfl rfl)
theorem dX2_bestDay_52 : decode cX2_bestDay 52 = .ok (.aload_n 0, 1) := dk_42 (dk_at dksX2_bestDay_2 4 rfl rfl)
theorem dX2_bestDay_53 : decode cX2_bestDay 53 = .ok (.invokevirtual 264, 3) := dk_182 1 8 (dk_at dksX2_bestDay_2 5 rfl rfl)
theorem dX2_bestDay_56 : decode cX2_bestDay 56 = .ok (.pop, 1) := dk_87 (dk_at dksX2_bestDay_2 8 rfl rfl)
theorem dX2_bestDay_57 : decode cX2_bestDay 57 = .ok (.iinc 4 1, 3) := dk_132 4 1 (dk_at dksX2_bestDay_2 9 rfl rfl)
theorem dX2_bestDay_60 : decode cX2_bestDay 60 = .ok (.goto (-53), 3) := dk_167 255 203 (dk_at dksX2_bestDay_2 12 rfl rfl)
theorem dX2_bestDay_63 : decode cX2_bestDay 63 = .ok (.iload_n 2, 1) := dk_28 (dk_at dksX2_bestDay_2 15 rfl rfl)
theorem dX2_bestDay_64 : decode cX2_bestDay 64 = .ok (.ireturn, 1) := dk_172 (dk_at dksX2_bestDay_2 16 rfl rfl)
abbrev cX2_ranked : ByteArray := prog_10_method_31_code
def yX2_ranked : MethodName := ⟨RX2, "ranked", "()Ljava/util/List;"⟩
def dkwX2_ranked_4 : List UInt8 := [182, 1, 24, 132, 2, 1, 167, 255, 167, 43, 176]
abbrev dktX2_ranked_4 : List UInt8 := dkwX2_ranked_4 ++ []
def dkwX2_ranked_3 : List UInt8 := [182, 0, 248, 161, 0, 7, 4, 167, 0, 4, 3, 96, 62, 167, 255, 203, 43, 29, 28, 184, 1, 20]
abbrev dktX2_ranked_3 : List UInt8 := dkwX2_ranked_3 ++ dktX2_ranked_4
def dkwX2_ranked_2 : List UInt8 := [192, 1, 15, 182, 1, 17, 54, 5, 29, 42, 21, 5, 182, 0, 130, 182, 0, 248, 42, 28, 182, 0, 130]
abbrev dktX2_ranked_2 : List UInt8 := dkwX2_ranked_2 ++ dktX2_ranked_3
def dkwX2_ranked_1 : List UInt8 := [62, 43, 182, 1, 14, 58, 4, 25, 4, 185, 0, 49, 1, 0, 153, 0, 49, 25, 4, 185, 0, 55, 1, 0]
abbrev dktX2_ranked_1 : List UInt8 := dkwX2_ranked_1 ++ dktX2_ranked_2
def dkwX2_ranked_0 : List UInt8 := [187, 1, 11, 89, 183, 1, 13, 76, 3, 61, 28, 42, 180, 0, 18, 185, 0, 104, 1, 0, 162, 0, 82, 3]
abbrev dktX2_ranked_0 : List UInt8 := dkwX2_ranked_0 ++ dktX2_ranked_1
theorem dksX2_ranked_0 : cX2_ranked.data.toList.drop 0 = dktX2_ranked_0 := by decide +kernel
theorem dksX2_ranked_1 : cX2_ranked.data.toList.drop 24 = dktX2_ranked_1 := dk_seg dksX2_ranked_0 24 rfl rfl
theorem dksX2_ranked_2 : cX2_ranked.data.toList.drop 48 = dktX2_ranked_2 := dk_seg dksX2_ranked_1 24 rfl rfl
theorem dksX2_ranked_3 : cX2_ranked.data.toList.drop 71 = dktX2_ranked_3 := dk_seg dksX2_ranked_2 23 rfl rfl
theorem dksX2_ranked_4 : cX2_ranked.data.toList.drop 93 = dktX2_ranked_4 := dk_seg dksX2_ranked_3 22 rfl rfl
theorem dX2_ranked_0 : decode cX2_ranked 0 = .ok (.new 267, 3) := dk_187 1 11 (dk_at dksX2_ranked_0 0 rfl rfl)
theorem dX2_ranked_3 : decode cX2_ranked 3 = .ok (.dup, 1) := dk_89 (dk_at dksX2_ranked_0 3 rfl rfl)
theorem dX2_ranked_4 : decode cX2_ranked 4 = .ok (.invokespecial 269, 3) := dk_183 1 13 (dk_at dksX2_ranked_0 4 rfl rfl)
theorem dX2_ranked_7 : decode cX2_ranked 7 = .ok (.astore_n 1, 1) := dk_76 (dk_at dksX2_ranked_0 7 rfl rfl)
theorem dX2_ranked_8 : decode cX2_ranked 8 = .ok (.iconst 0, 1) := dk_3 (dk_at dksX2_ranked_0 8 rfl rfl)
theorem dX2_ranked_9 : decode cX2_ranked 9 = .ok (.istore_n 2, 1) := dk_61 (dk_at dksX2_ranked_0 9 rfl rfl)
theorem dX2_ranked_10 : decode cX2_ranked 10 = .ok (.iload_n 2, 1) := dk_28 (dk_at dksX2_ranked_0 10 rfl rfl)
theorem dX2_ranked_11 : decode cX2_ranked 11 = .ok (.aload_n 0, 1) := dk_42 (dk_at dksX2_ranked_0 11 rfl rfl)
theorem dX2_ranked_12 : decode cX2_ranked 12 = .ok (.getfield 18, 3) := dk_180 0 18 (dk_at dksX2_ranked_0 12 rfl rfl)
theorem dX2_ranked_15 : decode cX2_ranked 15 = .ok (.invokeinterface 104 1, 5) := by decide +kernel
theorem dX2_ranked_20 : decode cX2_ranked 20 = .ok (.if_icmp .ge 82, 3) := dk_162 0 82 (dk_at dksX2_ranked_0 20 rfl rfl)
theorem dX2_ranked_23 : decode cX2_ranked 23 = .ok (.iconst 0, 1) := dk_3 (dk_at dksX2_ranked_0 23 rfl rfl)
theorem dX2_ranked_24 : decode cX2_ranked 24 = .ok (.istore_n 3, 1) := dk_62 (dk_at dksX2_ranked_1 0 rfl rfl)
theorem dX2_ranked_25 : decode cX2_ranked 25 = .ok (.aload_n 1, 1) := dk_43 (dk_at dksX2_ranked_1 1 rfl rfl)
theorem dX2_ranked_26 : decode cX2_ranked 26 = .ok (.invokevirtual 270, 3) := dk_182 1 14 (dk_at dksX2_ranked_1 2 rfl rfl)
theorem dX2_ranked_29 : decode cX2_ranked 29 = .ok (.astore 4, 2) := dk_58 4 (dk_at dksX2_ranked_1 5 rfl rfl)
theorem dX2_ranked_31 : decode cX2_ranked 31 = .ok (.aload 4, 2) := dk_25 4 (dk_at dksX2_ranked_1 7 rfl rfl)
theorem dX2_ranked_33 : decode cX2_ranked 33 = .ok (.invokeinterface 49 1, 5) := by decide +kernel
theorem dX2_ranked_38 : decode cX2_ranked 38 = .ok (.ifCond .eq 49, 3) := dk_153 0 49 (dk_at dksX2_ranked_1 14 rfl rfl)
theorem dX2_ranked_41 : decode cX2_ranked 41 = .ok (.aload 4, 2) := dk_25 4 (dk_at dksX2_ranked_1 17 rfl rfl)
theorem dX2_ranked_43 : decode cX2_ranked 43 = .ok (.invokeinterface 55 1, 5) := by decide +kernel
theorem dX2_ranked_48 : decode cX2_ranked 48 = .ok (.checkcast 271, 3) := dk_192 1 15 (dk_at dksX2_ranked_2 0 rfl rfl)
theorem dX2_ranked_51 : decode cX2_ranked 51 = .ok (.invokevirtual 273, 3) := dk_182 1 17 (dk_at dksX2_ranked_2 3 rfl rfl)
theorem dX2_ranked_54 : decode cX2_ranked 54 = .ok (.istore 5, 2) := dk_54 5 (dk_at dksX2_ranked_2 6 rfl rfl)
theorem dX2_ranked_56 : decode cX2_ranked 56 = .ok (.iload_n 3, 1) := dk_29 (dk_at dksX2_ranked_2 8 rfl rfl)
theorem dX2_ranked_57 : decode cX2_ranked 57 = .ok (.aload_n 0, 1) := dk_42 (dk_at dksX2_ranked_2 9 rfl rfl)
theorem dX2_ranked_58 : decode cX2_ranked 58 = .ok (.iload 5, 2) := dk_21 5 (dk_at dksX2_ranked_2 10 rfl rfl)
theorem dX2_ranked_60 : decode cX2_ranked 60 = .ok (.invokevirtual 130, 3) := dk_182 0 130 (dk_at dksX2_ranked_2 12 rfl rfl)
theorem dX2_ranked_63 : decode cX2_ranked 63 = .ok (.invokevirtual 248, 3) := dk_182 0 248 (dk_at dksX2_ranked_2 15 rfl rfl)
theorem dX2_ranked_66 : decode cX2_ranked 66 = .ok (.aload_n 0, 1) := dk_42 (dk_at dksX2_ranked_2 18 rfl rfl)
theorem dX2_ranked_67 : decode cX2_ranked 67 = .ok (.iload_n 2, 1) := dk_28 (dk_at dksX2_ranked_2 19 rfl rfl)
theorem dX2_ranked_68 : decode cX2_ranked 68 = .ok (.invokevirtual 130, 3) := dk_182 0 130 (dk_at dksX2_ranked_2 20 rfl rfl)
theorem dX2_ranked_71 : decode cX2_ranked 71 = .ok (.invokevirtual 248, 3) := dk_182 0 248 (dk_at dksX2_ranked_3 0 rfl rfl)
theorem dX2_ranked_74 : decode cX2_ranked 74 = .ok (.if_icmp .lt 7, 3) := dk_161 0 7 (dk_at dksX2_ranked_3 3 rfl rfl)
theorem dX2_ranked_77 : decode cX2_ranked 77 = .ok (.iconst 1, 1) := dk_4 (dk_at dksX2_ranked_3 6 rfl rfl)
theorem dX2_ranked_78 : decode cX2_ranked 78 = .ok (.goto 4, 3) := dk_167 0 4 (dk_at dksX2_ranked_3 7 rfl rfl)
theorem dX2_ranked_81 : decode cX2_ranked 81 = .ok (.iconst 0, 1) := dk_3 (dk_at dksX2_ranked_3 10 rfl rfl)
theorem dX2_ranked_82 : decode cX2_ranked 82 = .ok (.iadd, 1) := dk_96 (dk_at dksX2_ranked_3 11 rfl rfl)
theorem dX2_ranked_83 : decode cX2_ranked 83 = .ok (.istore_n 3, 1) := dk_62 (dk_at dksX2_ranked_3 12 rfl rfl)
theorem dX2_ranked_84 : decode cX2_ranked 84 = .ok (.goto (-53), 3) := dk_167 255 203 (dk_at dksX2_ranked_3 13 rfl rfl)
theorem dX2_ranked_87 : decode cX2_ranked 87 = .ok (.aload_n 1, 1) := dk_43 (dk_at dksX2_ranked_3 16 rfl rfl)
theorem dX2_ranked_88 : decode cX2_ranked 88 = .ok (.iload_n 3, 1) := dk_29 (dk_at dksX2_ranked_3 17 rfl rfl)
theorem dX2_ranked_89 : decode cX2_ranked 89 = .ok (.iload_n 2, 1) := dk_28 (dk_at dksX2_ranked_3 18 rfl rfl)
theorem dX2_ranked_90 : decode cX2_ranked 90 = .ok (.invokestatic 276, 3) := dk_184 1 20 (dk_at dksX2_ranked_3 19 rfl rfl)
theorem dX2_ranked_93 : decode cX2_ranked 93 = .ok (.invokevirtual 280, 3) := dk_182 1 24 (dk_at dksX2_ranked_4 0 rfl rfl)
theorem dX2_ranked_96 : decode cX2_ranked 96 = .ok (.iinc 2 1, 3) := dk_132 2 1 (dk_at dksX2_ranked_4 3 rfl rfl)
theorem dX2_ranked_99 : decode cX2_ranked 99 = .ok (.goto (-89), 3) := dk_167 255 167 (dk_at dksX2_ranked_4 6 rfl rfl)
theorem dX2_ranked_102 : decode cX2_ranked 102 = .ok (.aload_n 1, 1) := dk_43 (dk_at dksX2_ranked_4 9 rfl rfl)
theorem dX2_ranked_103 : decode cX2_ranked 103 = .ok (.areturn, 1) := dk_176 (dk_at dksX2_ranked_4 10 rfl rfl)
abbrev cX2_whelksOf : ByteArray := prog_10_method_36_code
def yX2_whelksOf : MethodName := ⟨RX2, "whelksOf", "(I)I"⟩
def dkwX2_whelksOf_2 : List UInt8 := [25, 4, 27, 182, 1, 37, 96, 61, 167, 255, 214, 28, 172]
abbrev dktX2_whelksOf_2 : List UInt8 := dkwX2_whelksOf_2 ++ []
def dkwX2_whelksOf_1 : List UInt8 := [185, 0, 55, 1, 0, 192, 0, 36, 58, 4, 28, 27, 2, 160, 0, 11, 25, 4, 182, 1, 36, 167, 0, 9]
abbrev dktX2_whelksOf_1 : List UInt8 := dkwX2_whelksOf_1 ++ dktX2_whelksOf_2
def dkwX2_whelksOf_0 : List UInt8 := [3, 61, 42, 180, 0, 12, 185, 0, 45, 1, 0, 78, 45, 185, 0, 49, 1, 0, 153, 0, 39, 45]
abbrev dktX2_whelksOf_0 : List UInt8 := dkwX2_whelksOf_0 ++ dktX2_whelksOf_1
theorem dksX2_whelksOf_0 : cX2_whelksOf.data.toList.drop 0 = dktX2_whelksOf_0 := by decide +kernel
theorem dksX2_whelksOf_1 : cX2_whelksOf.data.toList.drop 22 = dktX2_whelksOf_1 := dk_seg dksX2_whelksOf_0 22 rfl rfl
theorem dksX2_whelksOf_2 : cX2_whelksOf.data.toList.drop 46 = dktX2_whelksOf_2 := dk_seg dksX2_whelksOf_1 24 rfl rfl
theorem dX2_whelksOf_0 : decode cX2_whelksOf 0 = .ok (.iconst 0, 1) := dk_3 (dk_at dksX2_whelksOf_0 0 rfl rfl)
theorem dX2_whelksOf_1 : decode cX2_whelksOf 1 = .ok (.istore_n 2, 1) := dk_61 (dk_at dksX2_whelksOf_0 1 rfl rfl)
theorem dX2_whelksOf_2 : decode cX2_whelksOf 2 = .ok (.aload_n 0, 1) := dk_42 (dk_at dksX2_whelksOf_0 2 rfl rfl)
theorem dX2_whelksOf_3 : decode cX2_whelksOf 3 = .ok (.getfield 12, 3) := dk_180 0 12 (dk_at dksX2_whelksOf_0 3 rfl rfl)
theorem dX2_whelksOf_6 : decode cX2_whelksOf 6 = .ok (.invokeinterface 45 1, 5) := by decide +kernel
theorem dX2_whelksOf_11 : decode cX2_whelksOf 11 = .ok (.astore_n 3, 1) := dk_78 (dk_at dksX2_whelksOf_0 11 rfl rfl)
theorem dX2_whelksOf_12 : decode cX2_whelksOf 12 = .ok (.aload_n 3, 1) := dk_45 (dk_at dksX2_whelksOf_0 12 rfl rfl)
theorem dX2_whelksOf_13 : decode cX2_whelksOf 13 = .ok (.invokeinterface 49 1, 5) := by decide +kernel
theorem dX2_whelksOf_18 : decode cX2_whelksOf 18 = .ok (.ifCond .eq 39, 3) := dk_153 0 39 (dk_at dksX2_whelksOf_0 18 rfl rfl)
theorem dX2_whelksOf_21 : decode cX2_whelksOf 21 = .ok (.aload_n 3, 1) := dk_45 (dk_at dksX2_whelksOf_0 21 rfl rfl)
theorem dX2_whelksOf_22 : decode cX2_whelksOf 22 = .ok (.invokeinterface 55 1, 5) := by decide +kernel
theorem dX2_whelksOf_27 : decode cX2_whelksOf 27 = .ok (.checkcast 36, 3) := dk_192 0 36 (dk_at dksX2_whelksOf_1 5 rfl rfl)
theorem dX2_whelksOf_30 : decode cX2_whelksOf 30 = .ok (.astore 4, 2) := dk_58 4 (dk_at dksX2_whelksOf_1 8 rfl rfl)
theorem dX2_whelksOf_32 : decode cX2_whelksOf 32 = .ok (.iload_n 2, 1) := dk_28 (dk_at dksX2_whelksOf_1 10 rfl rfl)
theorem dX2_whelksOf_33 : decode cX2_whelksOf 33 = .ok (.iload_n 1, 1) := dk_27 (dk_at dksX2_whelksOf_1 11 rfl rfl)
theorem dX2_whelksOf_34 : decode cX2_whelksOf 34 = .ok (.iconst (-1), 1) := dk_2 (dk_at dksX2_whelksOf_1 12 rfl rfl)
theorem dX2_whelksOf_35 : decode cX2_whelksOf 35 = .ok (.if_icmp .ne 11, 3) := dk_160 0 11 (dk_at dksX2_whelksOf_1 13 rfl rfl)
theorem dX2_whelksOf_38 : decode cX2_whelksOf 38 = .ok (.aload 4, 2) := dk_25 4 (dk_at dksX2_whelksOf_1 16 rfl rfl)
theorem dX2_whelksOf_40 : decode cX2_whelksOf 40 = .ok (.invokevirtual 292, 3) := dk_182 1 36 (dk_at dksX2_whelksOf_1 18 rfl rfl)
theorem dX2_whelksOf_43 : decode cX2_whelksOf 43 = .ok (.goto 9, 3) := dk_167 0 9 (dk_at dksX2_whelksOf_1 21 rfl rfl)
theorem dX2_whelksOf_46 : decode cX2_whelksOf 46 = .ok (.aload 4, 2) := dk_25 4 (dk_at dksX2_whelksOf_2 0 rfl rfl)
theorem dX2_whelksOf_48 : decode cX2_whelksOf 48 = .ok (.iload_n 1, 1) := dk_27 (dk_at dksX2_whelksOf_2 2 rfl rfl)
theorem dX2_whelksOf_49 : decode cX2_whelksOf 49 = .ok (.invokevirtual 293, 3) := dk_182 1 37 (dk_at dksX2_whelksOf_2 3 rfl rfl)
theorem dX2_whelksOf_52 : decode cX2_whelksOf 52 = .ok (.iadd, 1) := dk_96 (dk_at dksX2_whelksOf_2 6 rfl rfl)
theorem dX2_whelksOf_53 : decode cX2_whelksOf 53 = .ok (.istore_n 2, 1) := dk_61 (dk_at dksX2_whelksOf_2 7 rfl rfl)
theorem dX2_whelksOf_54 : decode cX2_whelksOf 54 = .ok (.goto (-42), 3) := dk_167 255 214 (dk_at dksX2_whelksOf_2 8 rfl rfl)
theorem dX2_whelksOf_57 : decode cX2_whelksOf 57 = .ok (.iload_n 2, 1) := dk_28 (dk_at dksX2_whelksOf_2 11 rfl rfl)
theorem dX2_whelksOf_58 : decode cX2_whelksOf 58 = .ok (.ireturn, 1) := dk_172 (dk_at dksX2_whelksOf_2 12 rfl rfl)
abbrev cX2_swellNow : ByteArray := prog_10_method_11_code
def yX2_swellNow : MethodName := ⟨RX2, "swellNow", "()I"⟩
theorem dX2_swellNow_0 : decode cX2_swellNow 0 = .ok (.aload_n 0, 1) := by decide +kernel
theorem dX2_swellNow_1 : decode cX2_swellNow 1 = .ok (.getfield 28, 3) := by decide +kernel
theorem dX2_swellNow_4 : decode cX2_swellNow 4 = .ok (.ireturn, 1) := by decide +kernel
abbrev cX2_riddleNow : ByteArray := prog_10_method_12_code
def yX2_riddleNow : MethodName := ⟨RX2, "riddleNow", "()I"⟩
theorem dX2_riddleNow_0 : decode cX2_riddleNow 0 = .ok (.aload_n 0, 1) := by decide +kernel
theorem dX2_riddleNow_1 : decode cX2_riddleNow 1 = .ok (.getfield 32, 3) := by decide +kernel
theorem dX2_riddleNow_4 : decode cX2_riddleNow 4 = .ok (.ireturn, 1) := by decide +kernel
abbrev cX2_ofBoats : ByteArray := prog_10_method_37_code
def yX2_ofBoats : MethodName := ⟨RX2, "ofBoats", "(I)I"⟩
def dkwX2_ofBoats_3 : List UInt8 := [182, 0, 248, 167, 0, 8, 25, 4, 182, 1, 40, 96, 61, 167, 255, 190, 28, 172]
abbrev dktX2_ofBoats_3 : List UInt8 := dkwX2_ofBoats_3 ++ []
def dkwX2_ofBoats_2 : List UInt8 := [185, 0, 212, 1, 0, 153, 0, 7, 3, 167, 0, 25, 4, 167, 0, 21, 27, 4, 160, 0, 11, 25, 4]
abbrev dktX2_ofBoats_2 : List UInt8 := dkwX2_ofBoats_2 ++ dktX2_ofBoats_3
def dkwX2_ofBoats_1 : List UInt8 := [185, 0, 55, 1, 0, 192, 0, 63, 58, 4, 28, 27, 154, 0, 24, 25, 4, 182, 0, 116]
abbrev dktX2_ofBoats_1 : List UInt8 := dkwX2_ofBoats_1 ++ dktX2_ofBoats_2
def dkwX2_ofBoats_0 : List UInt8 := [3, 61, 42, 180, 0, 18, 185, 0, 45, 1, 0, 78, 45, 185, 0, 49, 1, 0, 153, 0, 63, 45]
abbrev dktX2_ofBoats_0 : List UInt8 := dkwX2_ofBoats_0 ++ dktX2_ofBoats_1
theorem dksX2_ofBoats_0 : cX2_ofBoats.data.toList.drop 0 = dktX2_ofBoats_0 := by decide +kernel
theorem dksX2_ofBoats_1 : cX2_ofBoats.data.toList.drop 22 = dktX2_ofBoats_1 := dk_seg dksX2_ofBoats_0 22 rfl rfl
theorem dksX2_ofBoats_2 : cX2_ofBoats.data.toList.drop 42 = dktX2_ofBoats_2 := dk_seg dksX2_ofBoats_1 20 rfl rfl
theorem dksX2_ofBoats_3 : cX2_ofBoats.data.toList.drop 65 = dktX2_ofBoats_3 := dk_seg dksX2_ofBoats_2 23 rfl rfl
theorem dX2_ofBoats_0 : decode cX2_ofBoats 0 = .ok (.iconst 0, 1) := dk_3 (dk_at dksX2_ofBoats_0 0 rfl rfl)
theorem dX2_ofBoats_1 : decode cX2_ofBoats 1 = .ok (.istore_n 2, 1) := dk_61 (dk_at dksX2_ofBoats_0 1 rfl rfl)
theorem dX2_ofBoats_2 : decode cX2_ofBoats 2 = .ok (.aload_n 0, 1) := dk_42 (dk_at dksX2_ofBoats_0 2 rfl rfl)
theorem dX2_ofBoats_3 : decode cX2_ofBoats 3 = .ok (.getfield 18, 3) := dk_180 0 18 (dk_at dksX2_ofBoats_0 3 rfl rfl)
theorem dX2_ofBoats_6 : decode cX2_ofBoats 6 = .ok (.invokeinterface 45 1, 5) := by decide +kernel
theorem dX2_ofBoats_11 : decode cX2_ofBoats 11 = .ok (.astore_n 3, 1) := dk_78 (dk_at dksX2_ofBoats_0 11 rfl rfl)
theorem dX2_ofBoats_12 : decode cX2_ofBoats 12 = .ok (.aload_n 3, 1) := dk_45 (dk_at dksX2_ofBoats_0 12 rfl rfl)
theorem dX2_ofBoats_13 : decode cX2_ofBoats 13 = .ok (.invokeinterface 49 1, 5) := by decide +kernel
theorem dX2_ofBoats_18 : decode cX2_ofBoats 18 = .ok (.ifCond .eq 63, 3) := dk_153 0 63 (dk_at dksX2_ofBoats_0 18 rfl rfl)
theorem dX2_ofBoats_21 : decode cX2_ofBoats 21 = .ok (.aload_n 3, 1) := dk_45 (dk_at dksX2_ofBoats_0 21 rfl rfl)
theorem dX2_ofBoats_22 : decode cX2_ofBoats 22 = .ok (.invokeinterface 55 1, 5) := by decide +kernel
theorem dX2_ofBoats_27 : decode cX2_ofBoats 27 = .ok (.checkcast 63, 3) := dk_192 0 63 (dk_at dksX2_ofBoats_1 5 rfl rfl)
theorem dX2_ofBoats_30 : decode cX2_ofBoats 30 = .ok (.astore 4, 2) := dk_58 4 (dk_at dksX2_ofBoats_1 8 rfl rfl)
theorem dX2_ofBoats_32 : decode cX2_ofBoats 32 = .ok (.iload_n 2, 1) := dk_28 (dk_at dksX2_ofBoats_1 10 rfl rfl)
theorem dX2_ofBoats_33 : decode cX2_ofBoats 33 = .ok (.iload_n 1, 1) := dk_27 (dk_at dksX2_ofBoats_1 11 rfl rfl)
theorem dX2_ofBoats_34 : decode cX2_ofBoats 34 = .ok (.ifCond .ne 24, 3) := dk_154 0 24 (dk_at dksX2_ofBoats_1 12 rfl rfl)
theorem dX2_ofBoats_37 : decode cX2_ofBoats 37 = .ok (.aload 4, 2) := dk_25 4 (dk_at dksX2_ofBoats_1 15 rfl rfl)
theorem dX2_ofBoats_39 : decode cX2_ofBoats 39 = .ok (.invokevirtual 116, 3) := dk_182 0 116 (dk_at dksX2_ofBoats_1 17 rfl rfl)
theorem dX2_ofBoats_42 : decode cX2_ofBoats 42 = .ok (.invokeinterface 212 1, 5) := by decide +kernel
theorem dX2_ofBoats_47 : decode cX2_ofBoats 47 = .ok (.ifCond .eq 7, 3) := dk_153 0 7 (dk_at dksX2_ofBoats_2 5 rfl rfl)
theorem dX2_ofBoats_50 : decode cX2_ofBoats 50 = .ok (.iconst 0, 1) := dk_3 (dk_at dksX2_ofBoats_2 8 rfl rfl)
theorem dX2_ofBoats_51 : decode cX2_ofBoats 51 = .ok (.goto 25, 3) := dk_167 0 25 (dk_at dksX2_ofBoats_2 9 rfl rfl)
theorem dX2_ofBoats_54 : decode cX2_ofBoats 54 = .ok (.iconst 1, 1) := dk_4 (dk_at dksX2_ofBoats_2 12 rfl rfl)
theorem dX2_ofBoats_55 : decode cX2_ofBoats 55 = .ok (.goto 21, 3) := dk_167 0 21 (dk_at dksX2_ofBoats_2 13 rfl rfl)
theorem dX2_ofBoats_58 : decode cX2_ofBoats 58 = .ok (.iload_n 1, 1) := dk_27 (dk_at dksX2_ofBoats_2 16 rfl rfl)
theorem dX2_ofBoats_59 : decode cX2_ofBoats 59 = .ok (.iconst 1, 1) := dk_4 (dk_at dksX2_ofBoats_2 17 rfl rfl)
theorem dX2_ofBoats_60 : decode cX2_ofBoats 60 = .ok (.if_icmp .ne 11, 3) := dk_160 0 11 (dk_at dksX2_ofBoats_2 18 rfl rfl)
theorem dX2_ofBoats_63 : decode cX2_ofBoats 63 = .ok (.aload 4, 2) := dk_25 4 (dk_at dksX2_ofBoats_2 21 rfl rfl)
theorem dX2_ofBoats_65 : decode cX2_ofBoats 65 = .ok (.invokevirtual 248, 3) := dk_182 0 248 (dk_at dksX2_ofBoats_3 0 rfl rfl)
theorem dX2_ofBoats_68 : decode cX2_ofBoats 68 = .ok (.goto 8, 3) := dk_167 0 8 (dk_at dksX2_ofBoats_3 3 rfl rfl)
theorem dX2_ofBoats_71 : decode cX2_ofBoats 71 = .ok (.aload 4, 2) := dk_25 4 (dk_at dksX2_ofBoats_3 6 rfl rfl)
theorem dX2_ofBoats_73 : decode cX2_ofBoats 73 = .ok (.invokevirtual 296, 3) := dk_182 1 40 (dk_at dksX2_ofBoats_3 8 rfl rfl)
theorem dX2_ofBoats_76 : decode cX2_ofBoats 76 = .ok (.iadd, 1) := dk_96 (dk_at dksX2_ofBoats_3 11 rfl rfl)
theorem dX2_ofBoats_77 : decode cX2_ofBoats 77 = .ok (.istore_n 2, 1) := dk_61 (dk_at dksX2_ofBoats_3 12 rfl rfl)
theorem dX2_ofBoats_78 : decode cX2_ofBoats 78 = .ok (.goto (-66), 3) := dk_167 255 190 (dk_at dksX2_ofBoats_3 13 rfl rfl)
theorem dX2_ofBoats_81 : decode cX2_ofBoats 81 = .ok (.iload_n 2, 1) := dk_28 (dk_at dksX2_ofBoats_3 16 rfl rfl)
theorem dX2_ofBoats_82 : decode cX2_ofBoats 82 = .ok (.ireturn, 1) := dk_172 (dk_at dksX2_ofBoats_3 17 rfl rfl)
abbrev cX2_ofStrings : ByteArray := prog_10_method_38_code
def yX2_ofStrings : MethodName := ⟨RX2, "ofStrings", "(I)I"⟩
def dkwX2_ofStrings_3 : List UInt8 := [182, 0, 187, 167, 0, 8, 25, 4, 182, 1, 43, 96, 61, 167, 255, 190, 28, 172]
abbrev dktX2_ofStrings_3 : List UInt8 := dkwX2_ofStrings_3 ++ []
def dkwX2_ofStrings_2 : List UInt8 := [185, 0, 212, 1, 0, 153, 0, 7, 3, 167, 0, 25, 4, 167, 0, 21, 27, 4, 160, 0, 11, 25, 4]
abbrev dktX2_ofStrings_2 : List UInt8 := dkwX2_ofStrings_2 ++ dktX2_ofStrings_3
def dkwX2_ofStrings_1 : List UInt8 := [185, 0, 55, 1, 0, 192, 0, 68, 58, 4, 28, 27, 154, 0, 24, 25, 4, 182, 0, 166]
abbrev dktX2_ofStrings_1 : List UInt8 := dkwX2_ofStrings_1 ++ dktX2_ofStrings_2
def dkwX2_ofStrings_0 : List UInt8 := [3, 61, 42, 180, 0, 21, 185, 0, 45, 1, 0, 78, 45, 185, 0, 49, 1, 0, 153, 0, 63, 45]
abbrev dktX2_ofStrings_0 : List UInt8 := dkwX2_ofStrings_0 ++ dktX2_ofStrings_1
theorem dksX2_ofStrings_0 : cX2_ofStrings.data.toList.drop 0 = dktX2_ofStrings_0 := by decide +kernel
theorem dksX2_ofStrings_1 : cX2_ofStrings.data.toList.drop 22 = dktX2_ofStrings_1 := dk_seg dksX2_ofStrings_0 22 rfl rfl
theorem dksX2_ofStrings_2 : cX2_ofStrings.data.toList.drop 42 = dktX2_ofStrings_2 := dk_seg dksX2_ofStrings_1 20 rfl rfl
theorem dksX2_ofStrings_3 : cX2_ofStrings.data.toList.drop 65 = dktX2_ofStrings_3 := dk_seg dksX2_ofStrings_2 23 rfl rfl
theorem dX2_ofStrings_0 : decode cX2_ofStrings 0 = .ok (.iconst 0, 1) := dk_3 (dk_at dksX2_ofStrings_0 0 rfl rfl)
theorem dX2_ofStrings_1 : decode cX2_ofStrings 1 = .ok (.istore_n 2, 1) := dk_61 (dk_at dksX2_ofStrings_0 1 rfl rfl)
theorem dX2_ofStrings_2 : decode cX2_ofStrings 2 = .ok (.aload_n 0, 1) := dk_42 (dk_at dksX2_ofStrings_0 2 rfl rfl)
theorem dX2_ofStrings_3 : decode cX2_ofStrings 3 = .ok (.getfield 21, 3) := dk_180 0 21 (dk_at dksX2_ofStrings_0 3 rfl rfl)
theorem dX2_ofStrings_6 : decode cX2_ofStrings 6 = .ok (.invokeinterface 45 1, 5) := by decide +kernel
theorem dX2_ofStrings_11 : decode cX2_ofStrings 11 = .ok (.astore_n 3, 1) := dk_78 (dk_at dksX2_ofStrings_0 11 rfl rfl)
theorem dX2_ofStrings_12 : decode cX2_ofStrings 12 = .ok (.aload_n 3, 1) := dk_45 (dk_at dksX2_ofStrings_0 12 rfl rfl)
theorem dX2_ofStrings_13 : decode cX2_ofStrings 13 = .ok (.invokeinterface 49 1, 5) := by decide +kernel
theorem dX2_ofStrings_18 : decode cX2_ofStrings 18 = .ok (.ifCond .eq 63, 3) := dk_153 0 63 (dk_at dksX2_ofStrings_0 18 rfl rfl)
theorem dX2_ofStrings_21 : decode cX2_ofStrings 21 = .ok (.aload_n 3, 1) := dk_45 (dk_at dksX2_ofStrings_0 21 rfl rfl)
theorem dX2_ofStrings_22 : decode cX2_ofStrings 22 = .ok (.invokeinterface 55 1, 5) := by decide +kernel
theorem dX2_ofStrings_27 : decode cX2_ofStrings 27 = .ok (.checkcast 68, 3) := dk_192 0 68 (dk_at dksX2_ofStrings_1 5 rfl rfl)
theorem dX2_ofStrings_30 : decode cX2_ofStrings 30 = .ok (.astore 4, 2) := dk_58 4 (dk_at dksX2_ofStrings_1 8 rfl rfl)
theorem dX2_ofStrings_32 : decode cX2_ofStrings 32 = .ok (.iload_n 2, 1) := dk_28 (dk_at dksX2_ofStrings_1 10 rfl rfl)
theorem dX2_ofStrings_33 : decode cX2_ofStrings 33 = .ok (.iload_n 1, 1) := dk_27 (dk_at dksX2_ofStrings_1 11 rfl rfl)
theorem dX2_ofStrings_34 : decode cX2_ofStrings 34 = .ok (.ifCond .ne 24, 3) := dk_154 0 24 (dk_at dksX2_ofStrings_1 12 rfl rfl)
theorem dX2_ofStrings_37 : decode cX2_ofStrings 37 = .ok (.aload 4, 2) := dk_25 4 (dk_at dksX2_ofStrings_1 15 rfl rfl)
theorem dX2_ofStrings_39 : decode cX2_ofStrings 39 = .ok (.invokevirtual 166, 3) := dk_182 0 166 (dk_at dksX2_ofStrings_1 17 rfl rfl)
theorem dX2_ofStrings_42 : decode cX2_ofStrings 42 = .ok (.invokeinterface 212 1, 5) := by decide +kernel
theorem dX2_ofStrings_47 : decode cX2_ofStrings 47 = .ok (.ifCond .eq 7, 3) := dk_153 0 7 (dk_at dksX2_ofStrings_2 5 rfl rfl)
theorem dX2_ofStrings_50 : decode cX2_ofStrings 50 = .ok (.iconst 0, 1) := dk_3 (dk_at dksX2_ofStrings_2 8 rfl rfl)
theorem dX2_ofStrings_51 : decode cX2_ofStrings 51 = .ok (.goto 25, 3) := dk_167 0 25 (dk_at dksX2_ofStrings_2 9 rfl rfl)
theorem dX2_ofStrings_54 : decode cX2_ofStrings 54 = .ok (.iconst 1, 1) := dk_4 (dk_at dksX2_ofStrings_2 12 rfl rfl)
theorem dX2_ofStrings_55 : decode cX2_ofStrings 55 = .ok (.goto 21, 3) := dk_167 0 21 (dk_at dksX2_ofStrings_2 13 rfl rfl)
theorem dX2_ofStrings_58 : decode cX2_ofStrings 58 = .ok (.iload_n 1, 1) := dk_27 (dk_at dksX2_ofStrings_2 16 rfl rfl)
theorem dX2_ofStrings_59 : decode cX2_ofStrings 59 = .ok (.iconst 1, 1) := dk_4 (dk_at dksX2_ofStrings_2 17 rfl rfl)
theorem dX2_ofStrings_60 : decode cX2_ofStrings 60 = .ok (.if_icmp .ne 11, 3) := dk_160 0 11 (dk_at dksX2_ofStrings_2 18 rfl rfl)
theorem dX2_ofStrings_63 : decode cX2_ofStrings 63 = .ok (.aload 4, 2) := dk_25 4 (dk_at dksX2_ofStrings_2 21 rfl rfl)
theorem dX2_ofStrings_65 : decode cX2_ofStrings 65 = .ok (.invokevirtual 187, 3) := dk_182 0 187 (dk_at dksX2_ofStrings_3 0 rfl rfl)
theorem dX2_ofStrings_68 : decode cX2_ofStrings 68 = .ok (.goto 8, 3) := dk_167 0 8 (dk_at dksX2_ofStrings_3 3 rfl rfl)
theorem dX2_ofStrings_71 : decode cX2_ofStrings 71 = .ok (.aload 4, 2) := dk_25 4 (dk_at dksX2_ofStrings_3 6 rfl rfl)
theorem dX2_ofStrings_73 : decode cX2_ofStrings 73 = .ok (.invokevirtual 299, 3) := dk_182 1 43 (dk_at dksX2_ofStrings_3 8 rfl rfl)
theorem dX2_ofStrings_76 : decode cX2_ofStrings 76 = .ok (.iadd, 1) := dk_96 (dk_at dksX2_ofStrings_3 11 rfl rfl)
theorem dX2_ofStrings_77 : decode cX2_ofStrings 77 = .ok (.istore_n 2, 1) := dk_61 (dk_at dksX2_ofStrings_3 12 rfl rfl)
theorem dX2_ofStrings_78 : decode cX2_ofStrings 78 = .ok (.goto (-66), 3) := dk_167 255 190 (dk_at dksX2_ofStrings_3 13 rfl rfl)
theorem dX2_ofStrings_81 : decode cX2_ofStrings 81 = .ok (.iload_n 2, 1) := dk_28 (dk_at dksX2_ofStrings_3 16 rfl rfl)
theorem dX2_ofStrings_82 : decode cX2_ofStrings 82 = .ok (.ireturn, 1) := dk_172 (dk_at dksX2_ofStrings_3 17 rfl rfl)
abbrev cX2_coins : ByteArray := prog_10_method_16_code
def yX2_coins : MethodName := ⟨RX2, "coins", "()I"⟩
theorem dX2_coins_0 : decode cX2_coins 0 = .ok (.aload_n 0, 1) := by decide +kernel
theorem dX2_coins_1 : decode cX2_coins 1 = .ok (.getfield 91, 3) := by decide +kernel
theorem dX2_coins_4 : decode cX2_coins 4 = .ok (.ireturn, 1) := by decide +kernel
theorem q78 : (Jvm.Cond.initialized "WhelkFleet$Fleet") ∈ lw_all := lw_g (lw_at lw_m1 2 rfl) rfl
theorem q138 : (Jvm.Cond.static ({ cls := "WhelkFleet$Fleet", name := "fresh", desc := "()LWhelkFleet$Fleet;" } : Jvm.MethodName)) ∈ lw_all := lw_g (lw_at lw_m1 62 rfl) rfl
theorem q139 : (Jvm.Cond.code ({ cls := "WhelkFleet$Fleet", name := "fresh", desc := "()LWhelkFleet$Fleet;" } : Jvm.MethodName) prog_10_method_2_code (2 : Nat) (Option.some (Jvm.ClassFile.FieldType.object "WhelkFleet$Fleet"))) ∈ lw_all := lw_g (lw_at lw_m1 63 rfl) rfl
theorem q140 : (Jvm.Cond.classLink "WhelkFleet$Fleet" (13 : Nat) "WhelkFleet$Fleet") ∈ lw_all := lw_g (lw_at lw_m1 64 rfl) rfl
theorem q141 : (Jvm.Cond.instantiable "WhelkFleet$Fleet" (11 : Nat)) ∈ lw_all := lw_g (lw_at lw_m1 65 rfl) rfl
theorem q142 : (Jvm.Cond.methodLink "WhelkFleet$Fleet" (35 : Nat) ({ cls := "WhelkFleet$Fleet", name := "<init>", desc := "()V" } : Jvm.MethodName)) ∈ lw_all := lw_g (lw_at lw_m1 66 rfl) rfl
theorem q143 : (Jvm.Cond.instanceMethod ({ cls := "WhelkFleet$Fleet", name := "<init>", desc := "()V" } : Jvm.MethodName)) ∈ lw_all := lw_g (lw_at lw_m1 67 rfl) rfl
theorem q144 : (Jvm.Cond.code ({ cls := "WhelkFleet$Fleet", name := "<init>", desc := "()V" } : Jvm.MethodName) prog_10_method_1_code (1 : Nat) (Option.none : Option Jvm.ClassFile.FieldType)) ∈ lw_all := lw_g (lw_at lw_m1 68 rfl) rfl
theorem q145 : (Jvm.Cond.methodLink "WhelkFleet$Fleet" (3 : Nat) ({ cls := "java/lang/Object", name := "<init>", desc := "()V" } : Jvm.MethodName)) ∈ lw_all := lw_g (lw_at lw_m1 69 rfl) rfl
theorem q146 : (Jvm.Cond.classLink "WhelkFleet$Fleet" (9 : Nat) "java/util/ArrayList") ∈ lw_all := lw_g (lw_at lw_m1 70 rfl) rfl
theorem q148 : (Jvm.Cond.methodLink "WhelkFleet$Fleet" (11 : Nat) ({ cls := "java/util/ArrayList", name := "<init>", desc := "()V" } : Jvm.MethodName)) ∈ lw_all := lw_g (lw_at lw_m1 72 rfl) rfl
theorem q179 : (Jvm.Cond.fieldLink "WhelkFleet$Fleet" (12 : Nat) "WhelkFleet$Fleet" "grounds" "Ljava/util/List;") ∈ lw_all := lw_g (lw_at lw_m1 103 rfl) rfl
theorem q180 : (Jvm.Cond.fieldLink "WhelkFleet$Fleet" (18 : Nat) "WhelkFleet$Fleet" "boats" "Ljava/util/List;") ∈ lw_all := lw_g (lw_at lw_m1 104 rfl) rfl
theorem q181 : (Jvm.Cond.fieldLink "WhelkFleet$Fleet" (21 : Nat) "WhelkFleet$Fleet" "strings" "Ljava/util/List;") ∈ lw_all := lw_g (lw_at lw_m1 105 rfl) rfl
theorem q182 : (Jvm.Cond.fieldLink "WhelkFleet$Fleet" (24 : Nat) "WhelkFleet$Fleet" "boxes" "[I") ∈ lw_all := lw_g (lw_at lw_m1 106 rfl) rfl
theorem q183 : (Jvm.Cond.fieldLink "WhelkFleet$Fleet" (79 : Nat) "WhelkFleet$Fleet" "day" "I") ∈ lw_all := lw_g (lw_at lw_m1 107 rfl) rfl
theorem q184 : (Jvm.Cond.fieldLink "WhelkFleet$Fleet" (28 : Nat) "WhelkFleet$Fleet" "swell" "I") ∈ lw_all := lw_g (lw_at lw_m1 108 rfl) rfl
theorem q185 : (Jvm.Cond.fieldLink "WhelkFleet$Fleet" (32 : Nat) "WhelkFleet$Fleet" "riddle" "I") ∈ lw_all := lw_g (lw_at lw_m1 109 rfl) rfl
theorem q186 : (Jvm.Cond.fieldLink "WhelkFleet$Fleet" (82 : Nat) "WhelkFleet$Fleet" "drawn" "I") ∈ lw_all := lw_g (lw_at lw_m1 110 rfl) rfl
theorem q187 : (Jvm.Cond.fieldLink "WhelkFleet$Fleet" (85 : Nat) "WhelkFleet$Fleet" "back" "I") ∈ lw_all := lw_g (lw_at lw_m1 111 rfl) rfl
theorem q188 : (Jvm.Cond.fieldLink "WhelkFleet$Fleet" (88 : Nat) "WhelkFleet$Fleet" "landed" "I") ∈ lw_all := lw_g (lw_at lw_m1 112 rfl) rfl
theorem q189 : (Jvm.Cond.fieldLink "WhelkFleet$Fleet" (91 : Nat) "WhelkFleet$Fleet" "coins" "I") ∈ lw_all := lw_g (lw_at lw_m1 113 rfl) rfl
theorem q190 : (Jvm.Cond.laysFinal "WhelkFleet$Fleet" "WhelkFleet$Fleet" "grounds" "Ljava/util/List;") ∈ lw_all := lw_g (lw_at lw_m1 114 rfl) rfl
theorem q191 : (Jvm.Cond.soleField "WhelkFleet$Fleet" "grounds") ∈ lw_all := lw_g (lw_at lw_m1 115 rfl) rfl
theorem q192 : (Jvm.Cond.laysFinal "WhelkFleet$Fleet" "WhelkFleet$Fleet" "boats" "Ljava/util/List;") ∈ lw_all := lw_g (lw_at lw_m1 116 rfl) rfl
theorem q193 : (Jvm.Cond.soleField "WhelkFleet$Fleet" "boats") ∈ lw_all := lw_g (lw_at lw_m1 117 rfl) rfl
theorem q194 : (Jvm.Cond.laysFinal "WhelkFleet$Fleet" "WhelkFleet$Fleet" "strings" "Ljava/util/List;") ∈ lw_all := lw_g (lw_at lw_m1 118 rfl) rfl
theorem q195 : (Jvm.Cond.soleField "WhelkFleet$Fleet" "strings") ∈ lw_all := lw_g (lw_at lw_m1 119 rfl) rfl
theorem q196 : (Jvm.Cond.laysFinal "WhelkFleet$Fleet" "WhelkFleet$Fleet" "boxes" "[I") ∈ lw_all := lw_g (lw_at lw_m1 120 rfl) rfl
theorem q197 : (Jvm.Cond.soleField "WhelkFleet$Fleet" "boxes") ∈ lw_all := lw_g (lw_at lw_m1 121 rfl) rfl
theorem q198 : (Jvm.Cond.lays "WhelkFleet$Fleet" "WhelkFleet$Fleet" "day" "I") ∈ lw_all := lw_g (lw_at lw_m1 122 rfl) rfl
theorem q199 : (Jvm.Cond.soleField "WhelkFleet$Fleet" "day") ∈ lw_all := lw_g (lw_at lw_m1 123 rfl) rfl
theorem q200 : (Jvm.Cond.lays "WhelkFleet$Fleet" "WhelkFleet$Fleet" "swell" "I") ∈ lw_all := lw_g (lw_at lw_m1 124 rfl) rfl
theorem q201 : (Jvm.Cond.soleField "WhelkFleet$Fleet" "swell") ∈ lw_all := lw_g (lw_at lw_m1 125 rfl) rfl
theorem q202 : (Jvm.Cond.lays "WhelkFleet$Fleet" "WhelkFleet$Fleet" "riddle" "I") ∈ lw_all := lw_g (lw_at lw_m1 126 rfl) rfl
theorem q203 : (Jvm.Cond.soleField "WhelkFleet$Fleet" "riddle") ∈ lw_all := lw_g (lw_at lw_m1 127 rfl) rfl
theorem q204 : (Jvm.Cond.lays "WhelkFleet$Fleet" "WhelkFleet$Fleet" "drawn" "I") ∈ lw_all := lw_g (lw_at lw_m1 128 rfl) rfl
theorem q205 : (Jvm.Cond.soleField "WhelkFleet$Fleet" "drawn") ∈ lw_all := lw_g (lw_at lw_m1 129 rfl) rfl
theorem q206 : (Jvm.Cond.lays "WhelkFleet$Fleet" "WhelkFleet$Fleet" "back" "I") ∈ lw_all := lw_g (lw_at lw_m1 130 rfl) rfl
theorem q207 : (Jvm.Cond.soleField "WhelkFleet$Fleet" "back") ∈ lw_all := lw_g (lw_at lw_m1 131 rfl) rfl
theorem q208 : (Jvm.Cond.lays "WhelkFleet$Fleet" "WhelkFleet$Fleet" "landed" "I") ∈ lw_all := lw_g (lw_at lw_m1 132 rfl) rfl
theorem q209 : (Jvm.Cond.soleField "WhelkFleet$Fleet" "landed") ∈ lw_all := lw_g (lw_at lw_m1 133 rfl) rfl
theorem q210 : (Jvm.Cond.lays "WhelkFleet$Fleet" "WhelkFleet$Fleet" "coins" "I") ∈ lw_all := lw_g (lw_at lw_m1 134 rfl) rfl
theorem q211 : (Jvm.Cond.soleField "WhelkFleet$Fleet" "coins") ∈ lw_all := lw_g (lw_at lw_m1 135 rfl) rfl
theorem q212 : (Jvm.Cond.superclass "WhelkFleet$Fleet" "java/lang/Object") ∈ lw_all := lw_g (lw_at lw_m1 136 rfl) rfl
theorem q214 : (Jvm.Cond.classLink "WhelkFleet$Fleet" (36 : Nat) "WhelkFleet$Ground") ∈ lw_all := lw_g (lw_at lw_m1 138 rfl) rfl
theorem q216 : (Jvm.Cond.methodLink "WhelkFleet$Fleet" (38 : Nat) ({ cls := "WhelkFleet$Ground", name := "<init>", desc := "()V" } : Jvm.MethodName)) ∈ lw_all := lw_g (lw_at lw_m1 140 rfl) rfl
theorem q224 : (Jvm.Cond.interfaceEntry "WhelkFleet$Fleet" (39 : Nat)) ∈ lw_tbl := lw_at lw_m1 148 rfl
theorem q225 : (Jvm.Cond.methodLink "WhelkFleet$Fleet" (39 : Nat) ({ cls := "java/util/List", name := "add", desc := "(Ljava/lang/Object;)Z" } : Jvm.MethodName)) ∈ lw_all := lw_g (lw_at lw_m1 149 rfl) rfl
theorem q270 : (Jvm.Cond.selects "WhelkFleet$Fleet" ({ cls := "java/lang/Object", name := "getClass", desc := "()Ljava/lang/Class;" } : Jvm.MethodName) ({ cls := "java/lang/Object", name := "getClass", desc := "()Ljava/lang/Class;" } : Jvm.MethodName)) ∈ lw_all := lw_g (lw_at lw_m1 194 rfl) rfl
theorem q425 : (Jvm.Cond.instanceMethod ({ cls := "WhelkFleet$Fleet", name := "drawn", desc := "()I" } : Jvm.MethodName)) ∈ lw_all := lw_g (lw_at lw_m2 109 rfl) rfl
theorem q426 : (Jvm.Cond.selects "WhelkFleet$Fleet" ({ cls := "WhelkFleet$Fleet", name := "drawn", desc := "()I" } : Jvm.MethodName) ({ cls := "WhelkFleet$Fleet", name := "drawn", desc := "()I" } : Jvm.MethodName)) ∈ lw_all := lw_g (lw_at lw_m2 110 rfl) rfl
theorem q427 : (Jvm.Cond.code ({ cls := "WhelkFleet$Fleet", name := "drawn", desc := "()I" } : Jvm.MethodName) prog_10_method_13_code (1 : Nat) (Option.some Jvm.ClassFile.FieldType.int)) ∈ lw_all := lw_g (lw_at lw_m2 111 rfl) rfl
theorem q429 : (Jvm.Cond.instanceMethod ({ cls := "WhelkFleet$Fleet", name := "back", desc := "()I" } : Jvm.MethodName)) ∈ lw_all := lw_g (lw_at lw_m2 113 rfl) rfl
theorem q430 : (Jvm.Cond.selects "WhelkFleet$Fleet" ({ cls := "WhelkFleet$Fleet", name := "back", desc := "()I" } : Jvm.MethodName) ({ cls := "WhelkFleet$Fleet", name := "back", desc := "()I" } : Jvm.MethodName)) ∈ lw_all := lw_g (lw_at lw_m2 114 rfl) rfl
theorem q431 : (Jvm.Cond.code ({ cls := "WhelkFleet$Fleet", name := "back", desc := "()I" } : Jvm.MethodName) prog_10_method_14_code (1 : Nat) (Option.some Jvm.ClassFile.FieldType.int)) ∈ lw_all := lw_g (lw_at lw_m2 115 rfl) rfl
theorem q433 : (Jvm.Cond.instanceMethod ({ cls := "WhelkFleet$Fleet", name := "landed", desc := "()I" } : Jvm.MethodName)) ∈ lw_all := lw_g (lw_at lw_m2 117 rfl) rfl
theorem q434 : (Jvm.Cond.selects "WhelkFleet$Fleet" ({ cls := "WhelkFleet$Fleet", name := "landed", desc := "()I" } : Jvm.MethodName) ({ cls := "WhelkFleet$Fleet", name := "landed", desc := "()I" } : Jvm.MethodName)) ∈ lw_all := lw_g (lw_at lw_m2 118 rfl) rfl
theorem q435 : (Jvm.Cond.code ({ cls := "WhelkFleet$Fleet", name := "landed", desc := "()I" } : Jvm.MethodName) prog_10_method_15_code (1 : Nat) (Option.some Jvm.ClassFile.FieldType.int)) ∈ lw_all := lw_g (lw_at lw_m2 119 rfl) rfl
theorem q441 : (Jvm.Cond.instanceMethod ({ cls := "WhelkFleet$Fleet", name := "day", desc := "()I" } : Jvm.MethodName)) ∈ lw_all := lw_g (lw_at lw_m2 125 rfl) rfl
theorem q442 : (Jvm.Cond.selects "WhelkFleet$Fleet" ({ cls := "WhelkFleet$Fleet", name := "day", desc := "()I" } : Jvm.MethodName) ({ cls := "WhelkFleet$Fleet", name := "day", desc := "()I" } : Jvm.MethodName)) ∈ lw_all := lw_g (lw_at lw_m2 126 rfl) rfl
theorem q443 : (Jvm.Cond.code ({ cls := "WhelkFleet$Fleet", name := "day", desc := "()I" } : Jvm.MethodName) prog_10_method_10_code (1 : Nat) (Option.some Jvm.ClassFile.FieldType.int)) ∈ lw_all := lw_g (lw_at lw_m2 127 rfl) rfl
theorem q586 : (Jvm.Cond.instanceMethod ({ cls := "WhelkFleet$Fleet", name := "ground", desc := "(I)LWhelkFleet$Ground;" } : Jvm.MethodName)) ∈ lw_all := lw_g (lw_at lw_m3 30 rfl) rfl
theorem q587 : (Jvm.Cond.selects "WhelkFleet$Fleet" ({ cls := "WhelkFleet$Fleet", name := "ground", desc := "(I)LWhelkFleet$Ground;" } : Jvm.MethodName) ({ cls := "WhelkFleet$Fleet", name := "ground", desc := "(I)LWhelkFleet$Ground;" } : Jvm.MethodName)) ∈ lw_all := lw_g (lw_at lw_m3 31 rfl) rfl
theorem q588 : (Jvm.Cond.code ({ cls := "WhelkFleet$Fleet", name := "ground", desc := "(I)LWhelkFleet$Ground;" } : Jvm.MethodName) prog_10_method_4_code (2 : Nat) (Option.some (Jvm.ClassFile.FieldType.object "WhelkFleet$Ground"))) ∈ lw_all := lw_g (lw_at lw_m3 32 rfl) rfl
theorem q589 : (Jvm.Cond.interfaceEntry "WhelkFleet$Fleet" (94 : Nat)) ∈ lw_tbl := lw_at lw_m3 33 rfl
theorem q590 : (Jvm.Cond.methodLink "WhelkFleet$Fleet" (94 : Nat) ({ cls := "java/util/List", name := "get", desc := "(I)Ljava/lang/Object;" } : Jvm.MethodName)) ∈ lw_all := lw_g (lw_at lw_m3 34 rfl) rfl
theorem q851 : (Jvm.Cond.instanceMethod ({ cls := "WhelkFleet$Fleet", name := "copy", desc := "()LWhelkFleet$Fleet;" } : Jvm.MethodName)) ∈ lw_all := lw_g (lw_at lw_m4 55 rfl) rfl
theorem q852 : (Jvm.Cond.selects "WhelkFleet$Fleet" ({ cls := "WhelkFleet$Fleet", name := "copy", desc := "()LWhelkFleet$Fleet;" } : Jvm.MethodName) ({ cls := "WhelkFleet$Fleet", name := "copy", desc := "()LWhelkFleet$Fleet;" } : Jvm.MethodName)) ∈ lw_all := lw_g (lw_at lw_m4 56 rfl) rfl
theorem q853 : (Jvm.Cond.code ({ cls := "WhelkFleet$Fleet", name := "copy", desc := "()LWhelkFleet$Fleet;" } : Jvm.MethodName) prog_10_method_3_code (4 : Nat) (Option.some (Jvm.ClassFile.FieldType.object "WhelkFleet$Fleet"))) ∈ lw_all := lw_g (lw_at lw_m4 57 rfl) rfl
theorem q854 : (Jvm.Cond.interfaceEntry "WhelkFleet$Fleet" (45 : Nat)) ∈ lw_tbl := lw_at lw_m4 58 rfl
theorem q855 : (Jvm.Cond.methodLink "WhelkFleet$Fleet" (45 : Nat) ({ cls := "java/util/List", name := "iterator", desc := "()Ljava/util/Iterator;" } : Jvm.MethodName)) ∈ lw_all := lw_g (lw_at lw_m4 59 rfl) rfl
theorem q967 : (Jvm.Cond.interfaceEntry "WhelkFleet$Fleet" (49 : Nat)) ∈ lw_tbl := lw_at lw_m4 171 rfl
theorem q968 : (Jvm.Cond.methodLink "WhelkFleet$Fleet" (49 : Nat) ({ cls := "java/util/Iterator", name := "hasNext", desc := "()Z" } : Jvm.MethodName)) ∈ lw_all := lw_g (lw_at lw_m4 172 rfl) rfl
theorem q1001 : (Jvm.Cond.interfaceEntry "WhelkFleet$Fleet" (55 : Nat)) ∈ lw_tbl := lw_at lw_m4 205 rfl
theorem q1002 : (Jvm.Cond.methodLink "WhelkFleet$Fleet" (55 : Nat) ({ cls := "java/util/Iterator", name := "next", desc := "()Ljava/lang/Object;" } : Jvm.MethodName)) ∈ lw_all := lw_g (lw_at lw_m4 206 rfl) rfl
theorem q1121 : (Jvm.Cond.methodLink "WhelkFleet$Fleet" (59 : Nat) ({ cls := "WhelkFleet$Ground", name := "copy", desc := "()LWhelkFleet$Ground;" } : Jvm.MethodName)) ∈ lw_all := lw_g (lw_at lw_m5 85 rfl) rfl
theorem q1128 : (Jvm.Cond.classLink "WhelkFleet$Fleet" (63 : Nat) "WhelkFleet$Boat") ∈ lw_all := lw_g (lw_at lw_m5 92 rfl) rfl
theorem q1129 : (Jvm.Cond.methodLink "WhelkFleet$Fleet" (65 : Nat) ({ cls := "WhelkFleet$Boat", name := "copy", desc := "()LWhelkFleet$Boat;" } : Jvm.MethodName)) ∈ lw_all := lw_g (lw_at lw_m5 93 rfl) rfl
theorem q1168 : (Jvm.Cond.classLink "WhelkFleet$Fleet" (68 : Nat) "WhelkFleet$Line") ∈ lw_all := lw_g (lw_at lw_m5 132 rfl) rfl
theorem q1169 : (Jvm.Cond.methodLink "WhelkFleet$Fleet" (70 : Nat) ({ cls := "WhelkFleet$Line", name := "copy", desc := "()LWhelkFleet$Line;" } : Jvm.MethodName)) ∈ lw_all := lw_g (lw_at lw_m5 133 rfl) rfl
theorem q1200 : (Jvm.Cond.methodLink "WhelkFleet$Fleet" (73 : Nat) ({ cls := "java/lang/System", name := "arraycopy", desc := "(Ljava/lang/Object;ILjava/lang/Object;II)V" } : Jvm.MethodName)) ∈ lw_all := lw_g (lw_at lw_m5 164 rfl) rfl
theorem q1302 : (Jvm.Cond.instanceMethod ({ cls := "WhelkFleet$Fleet", name := "goesOut", desc := "(II)I" } : Jvm.MethodName)) ∈ lw_all := lw_g (lw_at lw_m6 26 rfl) rfl
theorem q1303 : (Jvm.Cond.selects "WhelkFleet$Fleet" ({ cls := "WhelkFleet$Fleet", name := "goesOut", desc := "(II)I" } : Jvm.MethodName) ({ cls := "WhelkFleet$Fleet", name := "goesOut", desc := "(II)I" } : Jvm.MethodName)) ∈ lw_all := lw_g (lw_at lw_m6 27 rfl) rfl
theorem q1304 : (Jvm.Cond.code ({ cls := "WhelkFleet$Fleet", name := "goesOut", desc := "(II)I" } : Jvm.MethodName) prog_10_method_22_code (5 : Nat) (Option.some Jvm.ClassFile.FieldType.int)) ∈ lw_all := lw_g (lw_at lw_m6 28 rfl) rfl
theorem q1305 : (Jvm.Cond.methodLink "WhelkFleet$Fleet" (130 : Nat) ({ cls := "WhelkFleet$Fleet", name := "boat", desc := "(I)LWhelkFleet$Boat;" } : Jvm.MethodName)) ∈ lw_all := lw_g (lw_at lw_m6 29 rfl) rfl
theorem q1306 : (Jvm.Cond.instanceMethod ({ cls := "WhelkFleet$Fleet", name := "boat", desc := "(I)LWhelkFleet$Boat;" } : Jvm.MethodName)) ∈ lw_all := lw_g (lw_at lw_m6 30 rfl) rfl
theorem q1307 : (Jvm.Cond.selects "WhelkFleet$Fleet" ({ cls := "WhelkFleet$Fleet", name := "boat", desc := "(I)LWhelkFleet$Boat;" } : Jvm.MethodName) ({ cls := "WhelkFleet$Fleet", name := "boat", desc := "(I)LWhelkFleet$Boat;" } : Jvm.MethodName)) ∈ lw_all := lw_g (lw_at lw_m6 31 rfl) rfl
theorem q1308 : (Jvm.Cond.code ({ cls := "WhelkFleet$Fleet", name := "boat", desc := "(I)LWhelkFleet$Boat;" } : Jvm.MethodName) prog_10_method_6_code (2 : Nat) (Option.some (Jvm.ClassFile.FieldType.object "WhelkFleet$Boat"))) ∈ lw_all := lw_g (lw_at lw_m6 32 rfl) rfl
theorem q1309 : (Jvm.Cond.classLink "WhelkFleet$Fleet" (120 : Nat) "WhelkFleet$OnGround") ∈ lw_all := lw_g (lw_at lw_m6 33 rfl) rfl
theorem q1311 : (Jvm.Cond.methodLink "WhelkFleet$Fleet" (134 : Nat) ({ cls := "WhelkFleet$OnGround", name := "<init>", desc := "(I)V" } : Jvm.MethodName)) ∈ lw_all := lw_g (lw_at lw_m6 35 rfl) rfl
theorem q1319 : (Jvm.Cond.methodLink "WhelkFleet$Fleet" (135 : Nat) ({ cls := "WhelkFleet$Fleet", name := "checkHome", desc := "(LWhelkFleet$Boat;)V" } : Jvm.MethodName)) ∈ lw_all := lw_g (lw_at lw_m6 43 rfl) rfl
theorem q1320 : (Jvm.Cond.static ({ cls := "WhelkFleet$Fleet", name := "checkHome", desc := "(LWhelkFleet$Boat;)V" } : Jvm.MethodName)) ∈ lw_all := lw_g (lw_at lw_m6 44 rfl) rfl
theorem q1321 : (Jvm.Cond.code ({ cls := "WhelkFleet$Fleet", name := "checkHome", desc := "(LWhelkFleet$Boat;)V" } : Jvm.MethodName) prog_10_method_20_code (3 : Nat) (Option.none : Option Jvm.ClassFile.FieldType)) ∈ lw_all := lw_g (lw_at lw_m6 45 rfl) rfl
theorem q1322 : (Jvm.Cond.methodLink "WhelkFleet$Fleet" (116 : Nat) ({ cls := "WhelkFleet$Boat", name := "place", desc := "()LWhelkFleet$Place;" } : Jvm.MethodName)) ∈ lw_all := lw_g (lw_at lw_m6 46 rfl) rfl
theorem q1326 : (Jvm.Cond.classLink "WhelkFleet$Fleet" (122 : Nat) "WhelkFleet$Refusal") ∈ lw_all := lw_g (lw_at lw_m6 50 rfl) rfl
theorem q1335 : (Jvm.Cond.methodLink "WhelkFleet$Fleet" (124 : Nat) ({ cls := "WhelkFleet$OnGround", name := "ground", desc := "()I" } : Jvm.MethodName)) ∈ lw_all := lw_g (lw_at lw_m6 59 rfl) rfl
theorem q1339 : (Jvm.Cond.methodLink "WhelkFleet$Fleet" (127 : Nat) ({ cls := "WhelkFleet$Refusal", name := "<init>", desc := "(II)V" } : Jvm.MethodName)) ∈ lw_all := lw_g (lw_at lw_m6 63 rfl) rfl
theorem q1351 : (Jvm.Cond.methodLink "WhelkFleet$Fleet" (139 : Nat) ({ cls := "WhelkFleet$Boat", name := "bound", desc := "()I" } : Jvm.MethodName)) ∈ lw_all := lw_g (lw_at lw_m6 75 rfl) rfl
theorem q1355 : (Jvm.Cond.methodLinkNest "WhelkFleet$Fleet" (108 : Nat) ({ cls := "WhelkFleet", name := "meet", desc := "(ZII)V" } : Jvm.MethodName) "WhelkFleet") ∈ lw_tbl := lw_at lw_m6 79 rfl
theorem q1359 : (Jvm.Cond.methodLink "WhelkFleet$Fleet" (142 : Nat) ({ cls := "WhelkFleet$OnGround", name := "hours", desc := "()I" } : Jvm.MethodName)) ∈ lw_all := lw_g (lw_at lw_m6 83 rfl) rfl
theorem q1363 : (Jvm.Cond.methodLink "WhelkFleet$Fleet" (145 : Nat) ({ cls := "WhelkFleet$Boat", name := "checkHours", desc := "(I)V" } : Jvm.MethodName)) ∈ lw_all := lw_g (lw_at lw_m6 87 rfl) rfl
theorem q1368 : (Jvm.Cond.methodLink "WhelkFleet$Fleet" (148 : Nat) ({ cls := "WhelkFleet$Boat", name := "goesTo", desc := "(LWhelkFleet$Place;)V" } : Jvm.MethodName)) ∈ lw_all := lw_g (lw_at lw_m6 92 rfl) rfl
theorem q1372 : (Jvm.Cond.methodLink "WhelkFleet$Fleet" (152 : Nat) ({ cls := "WhelkFleet$Boat", name := "works", desc := "(I)I" } : Jvm.MethodName)) ∈ lw_all := lw_g (lw_at lw_m6 96 rfl) rfl
theorem q1377 : (Jvm.Cond.instanceMethod ({ cls := "WhelkFleet$Fleet", name := "goesHome", desc := "(I)I" } : Jvm.MethodName)) ∈ lw_all := lw_g (lw_at lw_m6 101 rfl) rfl
theorem q1378 : (Jvm.Cond.selects "WhelkFleet$Fleet" ({ cls := "WhelkFleet$Fleet", name := "goesHome", desc := "(I)I" } : Jvm.MethodName) ({ cls := "WhelkFleet$Fleet", name := "goesHome", desc := "(I)I" } : Jvm.MethodName)) ∈ lw_all := lw_g (lw_at lw_m6 102 rfl) rfl
theorem q1379 : (Jvm.Cond.code ({ cls := "WhelkFleet$Fleet", name := "goesHome", desc := "(I)I" } : Jvm.MethodName) prog_10_method_23_code (6 : Nat) (Option.some Jvm.ClassFile.FieldType.int)) ∈ lw_all := lw_g (lw_at lw_m6 103 rfl) rfl
theorem q1380 : (Jvm.Cond.methodLink "WhelkFleet$Fleet" (156 : Nat) ({ cls := "WhelkFleet$Fleet", name := "checkOut", desc := "(I)V" } : Jvm.MethodName)) ∈ lw_all := lw_g (lw_at lw_m6 104 rfl) rfl
theorem q1381 : (Jvm.Cond.privateMethod ({ cls := "WhelkFleet$Fleet", name := "checkOut", desc := "(I)V" } : Jvm.MethodName)) ∈ lw_tbl := lw_at lw_m6 105 rfl
theorem q1382 : (Jvm.Cond.instanceMethod ({ cls := "WhelkFleet$Fleet", name := "checkOut", desc := "(I)V" } : Jvm.MethodName)) ∈ lw_all := lw_g (lw_at lw_m6 106 rfl) rfl
theorem q1383 : (Jvm.Cond.code ({ cls := "WhelkFleet$Fleet", name := "checkOut", desc := "(I)V" } : Jvm.MethodName) prog_10_method_21_code (2 : Nat) (Option.none : Option Jvm.ClassFile.FieldType)) ∈ lw_all := lw_g (lw_at lw_m6 107 rfl) rfl
theorem q1384 : (Jvm.Cond.classLink "WhelkFleet$Fleet" (159 : Nat) "WhelkFleet$Ashore") ∈ lw_all := lw_g (lw_at lw_m6 108 rfl) rfl
theorem q1385 : (Jvm.Cond.methodLinkNest "WhelkFleet$Fleet" (161 : Nat) ({ cls := "WhelkFleet$Ashore", name := "<init>", desc := "()V" } : Jvm.MethodName) "WhelkFleet") ∈ lw_tbl := lw_at lw_m6 109 rfl
theorem q1387 : (Jvm.Cond.instanceMethod ({ cls := "WhelkFleet$Fleet", name := "shoots", desc := "(III)I" } : Jvm.MethodName)) ∈ lw_all := lw_g (lw_at lw_m6 111 rfl) rfl
theorem q1388 : (Jvm.Cond.selects "WhelkFleet$Fleet" ({ cls := "WhelkFleet$Fleet", name := "shoots", desc := "(III)I" } : Jvm.MethodName) ({ cls := "WhelkFleet$Fleet", name := "shoots", desc := "(III)I" } : Jvm.MethodName)) ∈ lw_all := lw_g (lw_at lw_m6 112 rfl) rfl
theorem q1389 : (Jvm.Cond.code ({ cls := "WhelkFleet$Fleet", name := "shoots", desc := "(III)I" } : Jvm.MethodName) prog_10_method_24_code (8 : Nat) (Option.some Jvm.ClassFile.FieldType.int)) ∈ lw_all := lw_g (lw_at lw_m6 113 rfl) rfl
theorem q1390 : (Jvm.Cond.methodLink "WhelkFleet$Fleet" (162 : Nat) ({ cls := "WhelkFleet$Fleet", name := "string", desc := "(I)LWhelkFleet$Line;" } : Jvm.MethodName)) ∈ lw_all := lw_g (lw_at lw_m6 114 rfl) rfl
theorem q1391 : (Jvm.Cond.instanceMethod ({ cls := "WhelkFleet$Fleet", name := "string", desc := "(I)LWhelkFleet$Line;" } : Jvm.MethodName)) ∈ lw_all := lw_g (lw_at lw_m6 115 rfl) rfl
theorem q1392 : (Jvm.Cond.selects "WhelkFleet$Fleet" ({ cls := "WhelkFleet$Fleet", name := "string", desc := "(I)LWhelkFleet$Line;" } : Jvm.MethodName) ({ cls := "WhelkFleet$Fleet", name := "string", desc := "(I)LWhelkFleet$Line;" } : Jvm.MethodName)) ∈ lw_all := lw_g (lw_at lw_m6 116 rfl) rfl
theorem q1393 : (Jvm.Cond.code ({ cls := "WhelkFleet$Fleet", name := "string", desc := "(I)LWhelkFleet$Line;" } : Jvm.MethodName) prog_10_method_8_code (2 : Nat) (Option.some (Jvm.ClassFile.FieldType.object "WhelkFleet$Line"))) ∈ lw_all := lw_g (lw_at lw_m6 117 rfl) rfl
theorem q1394 : (Jvm.Cond.methodLink "WhelkFleet$Fleet" (166 : Nat) ({ cls := "WhelkFleet$Line", name := "place", desc := "()LWhelkFleet$Place;" } : Jvm.MethodName)) ∈ lw_all := lw_g (lw_at lw_m6 118 rfl) rfl
theorem q1398 : (Jvm.Cond.methodLink "WhelkFleet$Fleet" (167 : Nat) ({ cls := "WhelkFleet$Line", name := "unitsOfBait", desc := "()I" } : Jvm.MethodName)) ∈ lw_all := lw_g (lw_at lw_m6 122 rfl) rfl
theorem q1402 : (Jvm.Cond.methodLink "WhelkFleet$Fleet" (170 : Nat) ({ cls := "WhelkFleet$Line", name := "isShot", desc := "(LWhelkFleet$Place;II)V" } : Jvm.MethodName)) ∈ lw_all := lw_g (lw_at lw_m6 126 rfl) rfl
theorem q1407 : (Jvm.Cond.instanceMethod ({ cls := "WhelkFleet$Fleet", name := "hauls", desc := "(II)I" } : Jvm.MethodName)) ∈ lw_all := lw_g (lw_at lw_m6 131 rfl) rfl
theorem q1408 : (Jvm.Cond.selects "WhelkFleet$Fleet" ({ cls := "WhelkFleet$Fleet", name := "hauls", desc := "(II)I" } : Jvm.MethodName) ({ cls := "WhelkFleet$Fleet", name := "hauls", desc := "(II)I" } : Jvm.MethodName)) ∈ lw_all := lw_g (lw_at lw_m6 132 rfl) rfl
theorem q1409 : (Jvm.Cond.code ({ cls := "WhelkFleet$Fleet", name := "hauls", desc := "(II)I" } : Jvm.MethodName) prog_10_method_27_code (7 : Nat) (Option.some Jvm.ClassFile.FieldType.int)) ∈ lw_all := lw_g (lw_at lw_m6 133 rfl) rfl
theorem q1410 : (Jvm.Cond.interfaceEntry "WhelkFleet$Fleet" (212 : Nat)) ∈ lw_tbl := lw_at lw_m6 134 rfl
theorem q1411 : (Jvm.Cond.methodLink "WhelkFleet$Fleet" (212 : Nat) ({ cls := "WhelkFleet$Place", name := "isAshore", desc := "()Z" } : Jvm.MethodName)) ∈ lw_all := lw_g (lw_at lw_m6 135 rfl) rfl
theorem q1422 : (Jvm.Cond.methodLink "WhelkFleet$Fleet" (215 : Nat) ({ cls := "WhelkFleet$Fleet", name := "checkSameGround", desc := "(ILWhelkFleet$Line;)V" } : Jvm.MethodName)) ∈ lw_all := lw_g (lw_at lw_m6 146 rfl) rfl
theorem q1423 : (Jvm.Cond.privateMethod ({ cls := "WhelkFleet$Fleet", name := "checkSameGround", desc := "(ILWhelkFleet$Line;)V" } : Jvm.MethodName)) ∈ lw_tbl := lw_at lw_m6 147 rfl
theorem q1424 : (Jvm.Cond.instanceMethod ({ cls := "WhelkFleet$Fleet", name := "checkSameGround", desc := "(ILWhelkFleet$Line;)V" } : Jvm.MethodName)) ∈ lw_all := lw_g (lw_at lw_m6 148 rfl) rfl
theorem q1425 : (Jvm.Cond.codeWith ({ cls := "WhelkFleet$Fleet", name := "checkSameGround", desc := "(ILWhelkFleet$Line;)V" } : Jvm.MethodName) prog_10_method_25_code (6 : Nat) (Option.none : Option Jvm.ClassFile.FieldType) [((43 : Nat), (52 : Nat), (55 : Nat), (122 : Nat))]) ∈ lw_all := lw_g (lw_at lw_m6 149 rfl) rfl
theorem q1426 : (Jvm.Cond.interfaceEntry "WhelkFleet$Fleet" (174 : Nat)) ∈ lw_tbl := lw_at lw_m6 150 rfl
theorem q1427 : (Jvm.Cond.methodLink "WhelkFleet$Fleet" (174 : Nat) ({ cls := "WhelkFleet$Place", name := "isSameAs", desc := "(LWhelkFleet$Place;)Z" } : Jvm.MethodName)) ∈ lw_all := lw_g (lw_at lw_m6 151 rfl) rfl
theorem q1449 : (Jvm.Cond.interfaceEntry "WhelkFleet$Fleet" (180 : Nat)) ∈ lw_tbl := lw_at lw_m6 173 rfl
theorem q1450 : (Jvm.Cond.methodLink "WhelkFleet$Fleet" (180 : Nat) ({ cls := "WhelkFleet$Place", name := "number", desc := "()I" } : Jvm.MethodName)) ∈ lw_all := lw_g (lw_at lw_m6 174 rfl) rfl
theorem q1451 : (Jvm.Cond.methodLink "WhelkFleet$Fleet" (183 : Nat) ({ cls := "WhelkFleet$Refusal", name := "initCause", desc := "(Ljava/lang/Throwable;)Ljava/lang/Throwable;" } : Jvm.MethodName)) ∈ lw_all := lw_g (lw_at lw_m6 175 rfl) rfl
theorem q1485 : (Jvm.Cond.selects "WhelkFleet$Fleet" ({ cls := "java/lang/Object", name := "toString", desc := "()Ljava/lang/String;" } : Jvm.MethodName) ({ cls := "java/lang/Object", name := "toString", desc := "()Ljava/lang/String;" } : Jvm.MethodName)) ∈ lw_all := lw_g (lw_at lw_m6 209 rfl) rfl
theorem q1539 : (Jvm.Cond.methodLink "WhelkFleet$Fleet" (219 : Nat) ({ cls := "WhelkFleet$Line", name := "hoursToHaul", desc := "()I" } : Jvm.MethodName)) ∈ lw_all := lw_g (lw_at lw_m7 23 rfl) rfl
theorem q1543 : (Jvm.Cond.methodLink "WhelkFleet$Fleet" (222 : Nat) ({ cls := "WhelkFleet$Fleet", name := "draughtOf", desc := "(LWhelkFleet$Line;)LWhelkFleet$Draught;" } : Jvm.MethodName)) ∈ lw_all := lw_g (lw_at lw_m7 27 rfl) rfl
theorem q1544 : (Jvm.Cond.privateMethod ({ cls := "WhelkFleet$Fleet", name := "draughtOf", desc := "(LWhelkFleet$Line;)LWhelkFleet$Draught;" } : Jvm.MethodName)) ∈ lw_tbl := lw_at lw_m7 28 rfl
theorem q1545 : (Jvm.Cond.instanceMethod ({ cls := "WhelkFleet$Fleet", name := "draughtOf", desc := "(LWhelkFleet$Line;)LWhelkFleet$Draught;" } : Jvm.MethodName)) ∈ lw_all := lw_g (lw_at lw_m7 29 rfl) rfl
theorem q1546 : (Jvm.Cond.code ({ cls := "WhelkFleet$Fleet", name := "draughtOf", desc := "(LWhelkFleet$Line;)LWhelkFleet$Draught;" } : Jvm.MethodName) prog_10_method_26_code (3 : Nat) (Option.some (Jvm.ClassFile.FieldType.object "WhelkFleet$Draught"))) ∈ lw_all := lw_g (lw_at lw_m7 30 rfl) rfl
theorem q1547 : (Jvm.Cond.methodLink "WhelkFleet$Fleet" (187 : Nat) ({ cls := "WhelkFleet$Line", name := "pots", desc := "()I" } : Jvm.MethodName)) ∈ lw_all := lw_g (lw_at lw_m7 31 rfl) rfl
theorem q1551 : (Jvm.Cond.methodLink "WhelkFleet$Fleet" (190 : Nat) ({ cls := "WhelkFleet$Line", name := "bait", desc := "()I" } : Jvm.MethodName)) ∈ lw_all := lw_g (lw_at lw_m7 35 rfl) rfl
theorem q1555 : (Jvm.Cond.methodLink "WhelkFleet$Fleet" (193 : Nat) ({ cls := "WhelkFleet$Bait", name := "of", desc := "(I)LWhelkFleet$Bait;" } : Jvm.MethodName)) ∈ lw_all := lw_g (lw_at lw_m7 39 rfl) rfl
theorem q1564 : (Jvm.Cond.methodLink "WhelkFleet$Fleet" (199 : Nat) ({ cls := "WhelkFleet$Line", name := "lay", desc := "(I)I" } : Jvm.MethodName)) ∈ lw_all := lw_g (lw_at lw_m7 48 rfl) rfl
theorem q1570 : (Jvm.Cond.methodLink "WhelkFleet$Fleet" (202 : Nat) ({ cls := "WhelkFleet$Bait", name := "draws", desc := "(I)I" } : Jvm.MethodName)) ∈ lw_all := lw_g (lw_at lw_m7 54 rfl) rfl
theorem q1585 : (Jvm.Cond.methodLink "WhelkFleet$Fleet" (205 : Nat) ({ cls := "WhelkFleet$Fleet", name := "ground", desc := "(I)LWhelkFleet$Ground;" } : Jvm.MethodName)) ∈ lw_all := lw_g (lw_at lw_m7 69 rfl) rfl
theorem q1586 : (Jvm.Cond.methodLink "WhelkFleet$Fleet" (208 : Nat) ({ cls := "WhelkFleet$Ground", name := "draughtOf", desc := "(I)LWhelkFleet$Draught;" } : Jvm.MethodName)) ∈ lw_all := lw_g (lw_at lw_m7 70 rfl) rfl
theorem q1607 : (Jvm.Cond.methodLink "WhelkFleet$Fleet" (225 : Nat) ({ cls := "WhelkFleet$Draught", name := "kept", desc := "(I)I" } : Jvm.MethodName)) ∈ lw_all := lw_g (lw_at lw_m7 91 rfl) rfl
theorem q1615 : (Jvm.Cond.methodLink "WhelkFleet$Fleet" (230 : Nat) ({ cls := "WhelkFleet$Draught", name := "middleKept", desc := "(I)I" } : Jvm.MethodName)) ∈ lw_all := lw_g (lw_at lw_m7 99 rfl) rfl
theorem q1616 : (Jvm.Cond.methodLink "WhelkFleet$Fleet" (233 : Nat) ({ cls := "WhelkFleet$Draught", name := "large", desc := "()I" } : Jvm.MethodName)) ∈ lw_all := lw_g (lw_at lw_m7 100 rfl) rfl
theorem q1620 : (Jvm.Cond.methodLink "WhelkFleet$Fleet" (236 : Nat) ({ cls := "WhelkFleet$Ground", name := "loses", desc := "(II)V" } : Jvm.MethodName)) ∈ lw_all := lw_g (lw_at lw_m7 104 rfl) rfl
theorem q1624 : (Jvm.Cond.methodLink "WhelkFleet$Fleet" (239 : Nat) ({ cls := "WhelkFleet$Boat", name := "holds", desc := "(II)V" } : Jvm.MethodName)) ∈ lw_all := lw_g (lw_at lw_m7 108 rfl) rfl
theorem q1628 : (Jvm.Cond.methodLink "WhelkFleet$Fleet" (242 : Nat) ({ cls := "WhelkFleet$Draught", name := "all", desc := "()I" } : Jvm.MethodName)) ∈ lw_all := lw_g (lw_at lw_m7 112 rfl) rfl
theorem q1632 : (Jvm.Cond.methodLink "WhelkFleet$Fleet" (245 : Nat) ({ cls := "WhelkFleet$Line", name := "isHauled", desc := "(I)V" } : Jvm.MethodName)) ∈ lw_all := lw_g (lw_at lw_m7 116 rfl) rfl
theorem q1637 : (Jvm.Cond.instanceMethod ({ cls := "WhelkFleet$Fleet", name := "lands", desc := "(I)I" } : Jvm.MethodName)) ∈ lw_all := lw_g (lw_at lw_m7 121 rfl) rfl
theorem q1638 : (Jvm.Cond.selects "WhelkFleet$Fleet" ({ cls := "WhelkFleet$Fleet", name := "lands", desc := "(I)I" } : Jvm.MethodName) ({ cls := "WhelkFleet$Fleet", name := "lands", desc := "(I)I" } : Jvm.MethodName)) ∈ lw_all := lw_g (lw_at lw_m7 122 rfl) rfl
theorem q1639 : (Jvm.Cond.code ({ cls := "WhelkFleet$Fleet", name := "lands", desc := "(I)I" } : Jvm.MethodName) prog_10_method_28_code (5 : Nat) (Option.some Jvm.ClassFile.FieldType.int)) ∈ lw_all := lw_g (lw_at lw_m7 123 rfl) rfl
theorem q1640 : (Jvm.Cond.methodLink "WhelkFleet$Fleet" (248 : Nat) ({ cls := "WhelkFleet$Boat", name := "shells", desc := "()I" } : Jvm.MethodName)) ∈ lw_all := lw_g (lw_at lw_m7 124 rfl) rfl
theorem q1644 : (Jvm.Cond.methodLink "WhelkFleet$Fleet" (251 : Nat) ({ cls := "WhelkFleet$Boat", name := "middle", desc := "()I" } : Jvm.MethodName)) ∈ lw_all := lw_g (lw_at lw_m7 128 rfl) rfl
theorem q1648 : (Jvm.Cond.methodLink "WhelkFleet$Fleet" (254 : Nat) ({ cls := "WhelkFleet$Boat", name := "large", desc := "()I" } : Jvm.MethodName)) ∈ lw_all := lw_g (lw_at lw_m7 132 rfl) rfl
theorem q1652 : (Jvm.Cond.methodLink "WhelkFleet$Fleet" (255 : Nat) ({ cls := "WhelkFleet$Boat", name := "lands", desc := "()I" } : Jvm.MethodName)) ∈ lw_all := lw_g (lw_at lw_m7 136 rfl) rfl
theorem q1657 : (Jvm.Cond.instanceMethod ({ cls := "WhelkFleet$Fleet", name := "swells", desc := "(I)I" } : Jvm.MethodName)) ∈ lw_all := lw_g (lw_at lw_m7 141 rfl) rfl
theorem q1658 : (Jvm.Cond.selects "WhelkFleet$Fleet" ({ cls := "WhelkFleet$Fleet", name := "swells", desc := "(I)I" } : Jvm.MethodName) ({ cls := "WhelkFleet$Fleet", name := "swells", desc := "(I)I" } : Jvm.MethodName)) ∈ lw_all := lw_g (lw_at lw_m7 142 rfl) rfl
theorem q1659 : (Jvm.Cond.code ({ cls := "WhelkFleet$Fleet", name := "swells", desc := "(I)I" } : Jvm.MethodName) prog_10_method_32_code (3 : Nat) (Option.some Jvm.ClassFile.FieldType.int)) ∈ lw_all := lw_g (lw_at lw_m7 143 rfl) rfl
theorem q1661 : (Jvm.Cond.instanceMethod ({ cls := "WhelkFleet$Fleet", name := "riddles", desc := "(I)I" } : Jvm.MethodName)) ∈ lw_all := lw_g (lw_at lw_m7 145 rfl) rfl
theorem q1662 : (Jvm.Cond.selects "WhelkFleet$Fleet" ({ cls := "WhelkFleet$Fleet", name := "riddles", desc := "(I)I" } : Jvm.MethodName) ({ cls := "WhelkFleet$Fleet", name := "riddles", desc := "(I)I" } : Jvm.MethodName)) ∈ lw_all := lw_g (lw_at lw_m7 146 rfl) rfl
theorem q1663 : (Jvm.Cond.code ({ cls := "WhelkFleet$Fleet", name := "riddles", desc := "(I)I" } : Jvm.MethodName) prog_10_method_33_code (3 : Nat) (Option.some Jvm.ClassFile.FieldType.int)) ∈ lw_all := lw_g (lw_at lw_m7 147 rfl) rfl
theorem q1665 : (Jvm.Cond.instanceMethod ({ cls := "WhelkFleet$Fleet", name := "pass", desc := "(I)I" } : Jvm.MethodName)) ∈ lw_all := lw_g (lw_at lw_m7 149 rfl) rfl
theorem q1666 : (Jvm.Cond.selects "WhelkFleet$Fleet" ({ cls := "WhelkFleet$Fleet", name := "pass", desc := "(I)I" } : Jvm.MethodName) ({ cls := "WhelkFleet$Fleet", name := "pass", desc := "(I)I" } : Jvm.MethodName)) ∈ lw_all := lw_g (lw_at lw_m7 150 rfl) rfl
theorem q1667 : (Jvm.Cond.code ({ cls := "WhelkFleet$Fleet", name := "pass", desc := "(I)I" } : Jvm.MethodName) prog_10_method_35_code (4 : Nat) (Option.some Jvm.ClassFile.FieldType.int)) ∈ lw_all := lw_g (lw_at lw_m7 151 rfl) rfl
theorem q1668 : (Jvm.Cond.methodLink "WhelkFleet$Fleet" (264 : Nat) ({ cls := "WhelkFleet$Fleet", name := "dayGoesBy", desc := "()I" } : Jvm.MethodName)) ∈ lw_all := lw_g (lw_at lw_m7 152 rfl) rfl
theorem q1669 : (Jvm.Cond.privateMethod ({ cls := "WhelkFleet$Fleet", name := "dayGoesBy", desc := "()I" } : Jvm.MethodName)) ∈ lw_tbl := lw_at lw_m7 153 rfl
theorem q1670 : (Jvm.Cond.instanceMethod ({ cls := "WhelkFleet$Fleet", name := "dayGoesBy", desc := "()I" } : Jvm.MethodName)) ∈ lw_all := lw_g (lw_at lw_m7 154 rfl) rfl
theorem q1671 : (Jvm.Cond.code ({ cls := "WhelkFleet$Fleet", name := "dayGoesBy", desc := "()I" } : Jvm.MethodName) prog_10_method_34_code (4 : Nat) (Option.some Jvm.ClassFile.FieldType.int)) ∈ lw_all := lw_g (lw_at lw_m7 155 rfl) rfl
theorem q1672 : (Jvm.Cond.methodLink "WhelkFleet$Fleet" (283 : Nat) ({ cls := "WhelkFleet$Boat", name := "dayBegins", desc := "()V" } : Jvm.MethodName)) ∈ lw_all := lw_g (lw_at lw_m7 156 rfl) rfl
theorem q1676 : (Jvm.Cond.methodLink "WhelkFleet$Fleet" (286 : Nat) ({ cls := "WhelkFleet$Line", name := "losesPots", desc := "()I" } : Jvm.MethodName)) ∈ lw_all := lw_g (lw_at lw_m7 160 rfl) rfl
theorem q1680 : (Jvm.Cond.methodLink "WhelkFleet$Fleet" (289 : Nat) ({ cls := "WhelkFleet$Ground", name := "grows", desc := "()V" } : Jvm.MethodName)) ∈ lw_all := lw_g (lw_at lw_m7 164 rfl) rfl
theorem q1696 : (Jvm.Cond.instanceMethod ({ cls := "WhelkFleet$Fleet", name := "buys", desc := "(I)I" } : Jvm.MethodName)) ∈ lw_all := lw_g (lw_at lw_m7 180 rfl) rfl
theorem q1697 : (Jvm.Cond.selects "WhelkFleet$Fleet" ({ cls := "WhelkFleet$Fleet", name := "buys", desc := "(I)I" } : Jvm.MethodName) ({ cls := "WhelkFleet$Fleet", name := "buys", desc := "(I)I" } : Jvm.MethodName)) ∈ lw_all := lw_g (lw_at lw_m7 181 rfl) rfl
theorem q1698 : (Jvm.Cond.code ({ cls := "WhelkFleet$Fleet", name := "buys", desc := "(I)I" } : Jvm.MethodName) prog_10_method_18_code (2 : Nat) (Option.some Jvm.ClassFile.FieldType.int)) ∈ lw_all := lw_g (lw_at lw_m7 182 rfl) rfl
theorem q1699 : (Jvm.Cond.interfaceEntry "WhelkFleet$Fleet" (104 : Nat)) ∈ lw_tbl := lw_at lw_m7 183 rfl
theorem q1700 : (Jvm.Cond.methodLink "WhelkFleet$Fleet" (104 : Nat) ({ cls := "java/util/List", name := "size", desc := "()I" } : Jvm.MethodName)) ∈ lw_all := lw_g (lw_at lw_m7 184 rfl) rfl
theorem q1709 : (Jvm.Cond.methodLink "WhelkFleet$Fleet" (112 : Nat) ({ cls := "WhelkFleet$Boat", name := "<init>", desc := "(I)V" } : Jvm.MethodName)) ∈ lw_all := lw_g (lw_at lw_m7 193 rfl) rfl
theorem q1711 : (Jvm.Cond.instanceMethod ({ cls := "WhelkFleet$Fleet", name := "makes", desc := "(I)I" } : Jvm.MethodName)) ∈ lw_all := lw_g (lw_at lw_m7 195 rfl) rfl
theorem q1712 : (Jvm.Cond.selects "WhelkFleet$Fleet" ({ cls := "WhelkFleet$Fleet", name := "makes", desc := "(I)I" } : Jvm.MethodName) ({ cls := "WhelkFleet$Fleet", name := "makes", desc := "(I)I" } : Jvm.MethodName)) ∈ lw_all := lw_g (lw_at lw_m7 196 rfl) rfl
theorem q1713 : (Jvm.Cond.code ({ cls := "WhelkFleet$Fleet", name := "makes", desc := "(I)I" } : Jvm.MethodName) prog_10_method_19_code (2 : Nat) (Option.some Jvm.ClassFile.FieldType.int)) ∈ lw_all := lw_g (lw_at lw_m7 197 rfl) rfl
theorem q1714 : (Jvm.Cond.methodLink "WhelkFleet$Fleet" (115 : Nat) ({ cls := "WhelkFleet$Line", name := "<init>", desc := "(I)V" } : Jvm.MethodName)) ∈ lw_all := lw_g (lw_at lw_m7 198 rfl) rfl
theorem q1716 : (Jvm.Cond.instanceMethod ({ cls := "WhelkFleet$Fleet", name := "fills", desc := "(II)I" } : Jvm.MethodName)) ∈ lw_all := lw_g (lw_at lw_m7 200 rfl) rfl
theorem q1717 : (Jvm.Cond.selects "WhelkFleet$Fleet" ({ cls := "WhelkFleet$Fleet", name := "fills", desc := "(II)I" } : Jvm.MethodName) ({ cls := "WhelkFleet$Fleet", name := "fills", desc := "(II)I" } : Jvm.MethodName)) ∈ lw_all := lw_g (lw_at lw_m7 201 rfl) rfl
theorem q1718 : (Jvm.Cond.code ({ cls := "WhelkFleet$Fleet", name := "fills", desc := "(II)I" } : Jvm.MethodName) prog_10_method_17_code (3 : Nat) (Option.some Jvm.ClassFile.FieldType.int)) ∈ lw_all := lw_g (lw_at lw_m7 202 rfl) rfl
theorem q1719 : (Jvm.Cond.methodLink "WhelkFleet$Fleet" (98 : Nat) ({ cls := "java/lang/Math", name := "min", desc := "(II)I" } : Jvm.MethodName)) ∈ lw_all := lw_g (lw_at lw_m7 203 rfl) rfl
theorem q1787 : (Jvm.Cond.instanceMethod ({ cls := "WhelkFleet$Fleet", name := "box", desc := "(I)I" } : Jvm.MethodName)) ∈ lw_all := lw_g (lw_at lw_m8 31 rfl) rfl
theorem q1788 : (Jvm.Cond.selects "WhelkFleet$Fleet" ({ cls := "WhelkFleet$Fleet", name := "box", desc := "(I)I" } : Jvm.MethodName) ({ cls := "WhelkFleet$Fleet", name := "box", desc := "(I)I" } : Jvm.MethodName)) ∈ lw_all := lw_g (lw_at lw_m8 32 rfl) rfl
theorem q1789 : (Jvm.Cond.code ({ cls := "WhelkFleet$Fleet", name := "box", desc := "(I)I" } : Jvm.MethodName) prog_10_method_9_code (2 : Nat) (Option.some Jvm.ClassFile.FieldType.int)) ∈ lw_all := lw_g (lw_at lw_m8 33 rfl) rfl
theorem q1835 : (Jvm.Cond.instanceMethod ({ cls := "WhelkFleet$Fleet", name := "boats", desc := "()Ljava/util/List;" } : Jvm.MethodName)) ∈ lw_all := lw_g (lw_at lw_m8 79 rfl) rfl
theorem q1836 : (Jvm.Cond.selects "WhelkFleet$Fleet" ({ cls := "WhelkFleet$Fleet", name := "boats", desc := "()Ljava/util/List;" } : Jvm.MethodName) ({ cls := "WhelkFleet$Fleet", name := "boats", desc := "()Ljava/util/List;" } : Jvm.MethodName)) ∈ lw_all := lw_g (lw_at lw_m8 80 rfl) rfl
theorem q1837 : (Jvm.Cond.code ({ cls := "WhelkFleet$Fleet", name := "boats", desc := "()Ljava/util/List;" } : Jvm.MethodName) prog_10_method_5_code (1 : Nat) (Option.some (Jvm.ClassFile.FieldType.object "java/util/List"))) ∈ lw_all := lw_g (lw_at lw_m8 81 rfl) rfl
theorem q1871 : (Jvm.Cond.instanceMethod ({ cls := "WhelkFleet$Fleet", name := "strings", desc := "()Ljava/util/List;" } : Jvm.MethodName)) ∈ lw_all := lw_g (lw_at lw_m8 115 rfl) rfl
theorem q1872 : (Jvm.Cond.selects "WhelkFleet$Fleet" ({ cls := "WhelkFleet$Fleet", name := "strings", desc := "()Ljava/util/List;" } : Jvm.MethodName) ({ cls := "WhelkFleet$Fleet", name := "strings", desc := "()Ljava/util/List;" } : Jvm.MethodName)) ∈ lw_all := lw_g (lw_at lw_m8 116 rfl) rfl
theorem q1873 : (Jvm.Cond.code ({ cls := "WhelkFleet$Fleet", name := "strings", desc := "()Ljava/util/List;" } : Jvm.MethodName) prog_10_method_7_code (1 : Nat) (Option.some (Jvm.ClassFile.FieldType.object "java/util/List"))) ∈ lw_all := lw_g (lw_at lw_m8 117 rfl) rfl
theorem q1935 : (Jvm.Cond.instanceMethod ({ cls := "WhelkFleet$Fleet", name := "bringsIn", desc := "(II)I" } : Jvm.MethodName)) ∈ lw_all := lw_g (lw_at lw_m8 179 rfl) rfl
theorem q1936 : (Jvm.Cond.selects "WhelkFleet$Fleet" ({ cls := "WhelkFleet$Fleet", name := "bringsIn", desc := "(II)I" } : Jvm.MethodName) ({ cls := "WhelkFleet$Fleet", name := "bringsIn", desc := "(II)I" } : Jvm.MethodName)) ∈ lw_all := lw_g (lw_at lw_m8 180 rfl) rfl
theorem q1937 : (Jvm.Cond.code ({ cls := "WhelkFleet$Fleet", name := "bringsIn", desc := "(II)I" } : Jvm.MethodName) prog_10_method_29_code (4 : Nat) (Option.some Jvm.ClassFile.FieldType.int)) ∈ lw_all := lw_g (lw_at lw_m8 181 rfl) rfl
theorem q1938 : (Jvm.Cond.methodLink "WhelkFleet$Fleet" (258 : Nat) ({ cls := "WhelkFleet$Fleet", name := "pass", desc := "(I)I" } : Jvm.MethodName)) ∈ lw_all := lw_g (lw_at lw_m8 182 rfl) rfl
theorem q1955 : (Jvm.Cond.instanceMethod ({ cls := "WhelkFleet$Fleet", name := "bestDay", desc := "(I)I" } : Jvm.MethodName)) ∈ lw_all := lw_g (lw_at lw_m8 199 rfl) rfl
theorem q1956 : (Jvm.Cond.selects "WhelkFleet$Fleet" ({ cls := "WhelkFleet$Fleet", name := "bestDay", desc := "(I)I" } : Jvm.MethodName) ({ cls := "WhelkFleet$Fleet", name := "bestDay", desc := "(I)I" } : Jvm.MethodName)) ∈ lw_all := lw_g (lw_at lw_m8 200 rfl) rfl
theorem q1957 : (Jvm.Cond.code ({ cls := "WhelkFleet$Fleet", name := "bestDay", desc := "(I)I" } : Jvm.MethodName) prog_10_method_30_code (6 : Nat) (Option.some Jvm.ClassFile.FieldType.int)) ∈ lw_all := lw_g (lw_at lw_m8 201 rfl) rfl
theorem q1958 : (Jvm.Cond.methodLink "WhelkFleet$Fleet" (261 : Nat) ({ cls := "java/lang/Math", name := "max", desc := "(II)I" } : Jvm.MethodName)) ∈ lw_all := lw_g (lw_at lw_m8 202 rfl) rfl
theorem q1967 : (Jvm.Cond.instanceMethod ({ cls := "WhelkFleet$Fleet", name := "ranked", desc := "()Ljava/util/List;" } : Jvm.MethodName)) ∈ lw_all := lw_g (lw_at lw_m8 211 rfl) rfl
theorem q1968 : (Jvm.Cond.selects "WhelkFleet$Fleet" ({ cls := "WhelkFleet$Fleet", name := "ranked", desc := "()Ljava/util/List;" } : Jvm.MethodName) ({ cls := "WhelkFleet$Fleet", name := "ranked", desc := "()Ljava/util/List;" } : Jvm.MethodName)) ∈ lw_all := lw_g (lw_at lw_m8 212 rfl) rfl
theorem q1969 : (Jvm.Cond.code ({ cls := "WhelkFleet$Fleet", name := "ranked", desc := "()Ljava/util/List;" } : Jvm.MethodName) prog_10_method_31_code (6 : Nat) (Option.some (Jvm.ClassFile.FieldType.object "java/util/List"))) ∈ lw_all := lw_g (lw_at lw_m8 213 rfl) rfl
theorem q1970 : (Jvm.Cond.classLink "WhelkFleet$Fleet" (267 : Nat) "java/util/LinkedList") ∈ lw_all := lw_g (lw_at lw_m8 214 rfl) rfl
theorem q1971 : (Jvm.Cond.methodLink "WhelkFleet$Fleet" (269 : Nat) ({ cls := "java/util/LinkedList", name := "<init>", desc := "()V" } : Jvm.MethodName)) ∈ lw_all := lw_g (lw_at lw_m8 215 rfl) rfl
theorem q1972 : (Jvm.Cond.methodLink "WhelkFleet$Fleet" (270 : Nat) ({ cls := "java/util/LinkedList", name := "iterator", desc := "()Ljava/util/Iterator;" } : Jvm.MethodName)) ∈ lw_all := lw_g (lw_at lw_m8 216 rfl) rfl
theorem q1976 : (Jvm.Cond.classLink "WhelkFleet$Fleet" (271 : Nat) "java/lang/Integer") ∈ lw_all := lw_g (lw_at lw_m8 220 rfl) rfl
theorem q1977 : (Jvm.Cond.methodLink "WhelkFleet$Fleet" (273 : Nat) ({ cls := "java/lang/Integer", name := "intValue", desc := "()I" } : Jvm.MethodName)) ∈ lw_all := lw_g (lw_at lw_m8 221 rfl) rfl
theorem q1981 : (Jvm.Cond.methodLink "WhelkFleet$Fleet" (276 : Nat) ({ cls := "java/lang/Integer", name := "valueOf", desc := "(I)Ljava/lang/Integer;" } : Jvm.MethodName)) ∈ lw_all := lw_g (lw_at lw_m8 225 rfl) rfl
theorem q2001 : (Jvm.Cond.methodLink "WhelkFleet$Fleet" (280 : Nat) ({ cls := "java/util/LinkedList", name := "add", desc := "(ILjava/lang/Object;)V" } : Jvm.MethodName)) ∈ lw_all := lw_g (lw_at lw_m9 5 rfl) rfl
theorem q2046 : (Jvm.Cond.instanceMethod ({ cls := "WhelkFleet$Fleet", name := "whelksOf", desc := "(I)I" } : Jvm.MethodName)) ∈ lw_all := lw_g (lw_at lw_m9 50 rfl) rfl
theorem q2047 : (Jvm.Cond.selects "WhelkFleet$Fleet" ({ cls := "WhelkFleet$Fleet", name := "whelksOf", desc := "(I)I" } : Jvm.MethodName) ({ cls := "WhelkFleet$Fleet", name := "whelksOf", desc := "(I)I" } : Jvm.MethodName)) ∈ lw_all := lw_g (lw_at lw_m9 51 rfl) rfl
theorem q2048 : (Jvm.Cond.code ({ cls := "WhelkFleet$Fleet", name := "whelksOf", desc := "(I)I" } : Jvm.MethodName) prog_10_method_36_code (5 : Nat) (Option.some Jvm.ClassFile.FieldType.int)) ∈ lw_all := lw_g (lw_at lw_m9 52 rfl) rfl
theorem q2049 : (Jvm.Cond.methodLink "WhelkFleet$Fleet" (292 : Nat) ({ cls := "WhelkFleet$Ground", name := "all", desc := "()I" } : Jvm.MethodName)) ∈ lw_all := lw_g (lw_at lw_m9 53 rfl) rfl
theorem q2053 : (Jvm.Cond.methodLink "WhelkFleet$Fleet" (293 : Nat) ({ cls := "WhelkFleet$Ground", name := "whelks", desc := "(I)I" } : Jvm.MethodName)) ∈ lw_all := lw_g (lw_at lw_m9 57 rfl) rfl
theorem q2473 : (Jvm.Cond.instanceMethod ({ cls := "WhelkFleet$Fleet", name := "swellNow", desc := "()I" } : Jvm.MethodName)) ∈ lw_all := lw_g (lw_at lw_m10 237 rfl) rfl
theorem q2474 : (Jvm.Cond.selects "WhelkFleet$Fleet" ({ cls := "WhelkFleet$Fleet", name := "swellNow", desc := "()I" } : Jvm.MethodName) ({ cls := "WhelkFleet$Fleet", name := "swellNow", desc := "()I" } : Jvm.MethodName)) ∈ lw_all := lw_g (lw_at lw_m10 238 rfl) rfl
theorem q2475 : (Jvm.Cond.code ({ cls := "WhelkFleet$Fleet", name := "swellNow", desc := "()I" } : Jvm.MethodName) prog_10_method_11_code (1 : Nat) (Option.some Jvm.ClassFile.FieldType.int)) ∈ lw_all := lw_g (lw_at lw_m10 239 rfl) rfl
theorem q2477 : (Jvm.Cond.instanceMethod ({ cls := "WhelkFleet$Fleet", name := "riddleNow", desc := "()I" } : Jvm.MethodName)) ∈ lw_all := lw_g (lw_at lw_m11 1 rfl) rfl
theorem q2478 : (Jvm.Cond.selects "WhelkFleet$Fleet" ({ cls := "WhelkFleet$Fleet", name := "riddleNow", desc := "()I" } : Jvm.MethodName) ({ cls := "WhelkFleet$Fleet", name := "riddleNow", desc := "()I" } : Jvm.MethodName)) ∈ lw_all := lw_g (lw_at lw_m11 2 rfl) rfl
theorem q2479 : (Jvm.Cond.code ({ cls := "WhelkFleet$Fleet", name := "riddleNow", desc := "()I" } : Jvm.MethodName) prog_10_method_12_code (1 : Nat) (Option.some Jvm.ClassFile.FieldType.int)) ∈ lw_all := lw_g (lw_at lw_m11 3 rfl) rfl
theorem q2481 : (Jvm.Cond.instanceMethod ({ cls := "WhelkFleet$Fleet", name := "ofBoats", desc := "(I)I" } : Jvm.MethodName)) ∈ lw_all := lw_g (lw_at lw_m11 5 rfl) rfl
theorem q2482 : (Jvm.Cond.selects "WhelkFleet$Fleet" ({ cls := "WhelkFleet$Fleet", name := "ofBoats", desc := "(I)I" } : Jvm.MethodName) ({ cls := "WhelkFleet$Fleet", name := "ofBoats", desc := "(I)I" } : Jvm.MethodName)) ∈ lw_all := lw_g (lw_at lw_m11 6 rfl) rfl
theorem q2483 : (Jvm.Cond.code ({ cls := "WhelkFleet$Fleet", name := "ofBoats", desc := "(I)I" } : Jvm.MethodName) prog_10_method_37_code (5 : Nat) (Option.some Jvm.ClassFile.FieldType.int)) ∈ lw_all := lw_g (lw_at lw_m11 7 rfl) rfl
theorem q2484 : (Jvm.Cond.methodLink "WhelkFleet$Fleet" (296 : Nat) ({ cls := "WhelkFleet$Boat", name := "sacks", desc := "()I" } : Jvm.MethodName)) ∈ lw_all := lw_g (lw_at lw_m11 8 rfl) rfl
theorem q2486 : (Jvm.Cond.instanceMethod ({ cls := "WhelkFleet$Fleet", name := "ofStrings", desc := "(I)I" } : Jvm.MethodName)) ∈ lw_all := lw_g (lw_at lw_m11 10 rfl) rfl
theorem q2487 : (Jvm.Cond.selects "WhelkFleet$Fleet" ({ cls := "WhelkFleet$Fleet", name := "ofStrings", desc := "(I)I" } : Jvm.MethodName) ({ cls := "WhelkFleet$Fleet", name := "ofStrings", desc := "(I)I" } : Jvm.MethodName)) ∈ lw_all := lw_g (lw_at lw_m11 11 rfl) rfl
theorem q2488 : (Jvm.Cond.code ({ cls := "WhelkFleet$Fleet", name := "ofStrings", desc := "(I)I" } : Jvm.MethodName) prog_10_method_38_code (5 : Nat) (Option.some Jvm.ClassFile.FieldType.int)) ∈ lw_all := lw_g (lw_at lw_m11 12 rfl) rfl
theorem q2489 : (Jvm.Cond.methodLink "WhelkFleet$Fleet" (299 : Nat) ({ cls := "WhelkFleet$Line", name := "lost", desc := "()I" } : Jvm.MethodName)) ∈ lw_all := lw_g (lw_at lw_m11 13 rfl) rfl
theorem q2491 : (Jvm.Cond.instanceMethod ({ cls := "WhelkFleet$Fleet", name := "coins", desc := "()I" } : Jvm.MethodName)) ∈ lw_all := lw_g (lw_at lw_m11 15 rfl) rfl
theorem q2492 : (Jvm.Cond.selects "WhelkFleet$Fleet" ({ cls := "WhelkFleet$Fleet", name := "coins", desc := "()I" } : Jvm.MethodName) ({ cls := "WhelkFleet$Fleet", name := "coins", desc := "()I" } : Jvm.MethodName)) ∈ lw_all := lw_g (lw_at lw_m11 16 rfl) rfl
theorem q2493 : (Jvm.Cond.code ({ cls := "WhelkFleet$Fleet", name := "coins", desc := "()I" } : Jvm.MethodName) prog_10_method_16_code (1 : Nat) (Option.some Jvm.ClassFile.FieldType.int)) ∈ lw_all := lw_g (lw_at lw_m11 17 rfl) rfl
theorem q3001 : (Jvm.Cond.castable "WhelkFleet$Fleet" "java/lang/Object") ∈ lw_tbl := lw_at lw_m13 45 rfl
theorem in_X2 : ∀ w ∈ wsX20, w ∈ lw_all := lw_in wsX20 [190, 192, 194, 196, 198, 200, 202, 204, 206, 208, 210] (by decide +kernel) (by decide +kernel)
/-! WhelkFleet$Ground -/
set_option maxRecDepth 100000
def RX3 : String := "WhelkFleet$Ground"
def TX3 : u_T := fun k => match k with
  | _ => ("WhelkFleet$Ground", "whelks", "[I", true)
def tyX3 : Nat → FieldType := fun k => match k with
  | _ => .array .int
abbrev wsX30 : List Cond := u_ws RX3 TX3 1
theorem nmX3 : ∀ a, a < 1 → ∀ b, b < 1 → a ≠ b → (TX3 a).2.1 ≠ (TX3 b).2.1 := by decide +kernel
theorem tyX3_ok : ∀ k, k < 1 → parseFieldDescriptor (TX3 k).2.2.1 = some (tyX3 k) := by decide +kernel
abbrev cX3_init : ByteArray := prog_11_method_1_code
def yX3_init : MethodName := ⟨RX3, "<init>", "()V"⟩
def dkwX3_init_1 : List UInt8 := [4, 17, 0, 150, 79, 42, 180, 0, 9, 5, 16, 60, 79, 177]
abbrev dktX3_init_1 : List UInt8 := dkwX3_init_1 ++ []
def dkwX3_init_0 : List UInt8 := [42, 183, 0, 3, 42, 6, 188, 10, 181, 0, 9, 42, 180, 0, 9, 3, 17, 0, 200, 79, 42, 180, 0, 9]
abbrev dktX3_init_0 : List UInt8 := dkwX3_init_0 ++ dktX3_init_1
theorem dksX3_init_0 : cX3_init.data.toList.drop 0 = dktX3_init_0 := by decide +kernel
theorem dksX3_init_1 : cX3_init.data.toList.drop 24 = dktX3_init_1 := dk_seg dksX3_init_0 24 rfl rfl
theorem dX3_init_0 : decode cX3_init 0 = .ok (.aload_n 0, 1) := dk_42 (dk_at dksX3_init_0 0 rfl rfl)
theorem dX3_init_1 : decode cX3_init 1 = .ok (.invokespecial 3, 3) := dk_183 0 3 (dk_at dksX3_init_0 1 rfl rfl)
theorem dX3_init_4 : decode cX3_init 4 = .ok (.aload_n 0, 1) := dk_42 (dk_at dksX3_init_0 4 rfl rfl)
theorem dX3_init_5 : decode cX3_init 5 = .ok (.iconst 3, 1) := dk_6 (dk_at dksX3_init_0 5 rfl rfl)
theorem dX3_init_6 : decode cX3_init 6 = .ok (.newarray .int, 2) := dk_188_10 (dk_at dksX3_init_0 6 rfl rfl)
theorem dX3_init_8 : decode cX3_init 8 = .ok (.putfield 9, 3) := dk_181 0 9 (dk_at dksX3_init_0 8 rfl rfl)
theorem dX3_init_11 : decode cX3_init 11 = .ok (.aload_n 0, 1) := dk_42 (dk_at dksX3_init_0 11 rfl rfl)
theorem dX3_init_12 : decode cX3_init 12 = .ok (.getfield 9, 3) := dk_180 0 9 (dk_at dksX3_init_0 12 rfl rfl)
theorem dX3_init_15 : decode cX3_init 15 = .ok (.iconst 0, 1) := dk_3 (dk_at dksX3_init_0 15 rfl rfl)
theorem dX3_init_16 : decode cX3_init 16 = .ok (.sipush 200, 3) := dk_17 0 200 (dk_at dksX3_init_0 16 rfl rfl)
theorem dX3_init_19 : decode cX3_init 19 = .ok (.iastore, 1) := dk_79 (dk_at dksX3_init_0 19 rfl rfl)
theorem dX3_init_20 : decode cX3_init 20 = .ok (.aload_n 0, 1) := dk_42 (dk_at dksX3_init_0 20 rfl rfl)
theorem dX3_init_21 : decode cX3_init 21 = .ok (.getfield 9, 3) := dk_180 0 9 (dk_at dksX3_init_0 21 rfl rfl)
theorem dX3_init_24 : decode cX3_init 24 = .ok (.iconst 1, 1) := dk_4 (dk_at dksX3_init_1 0 rfl rfl)
theorem dX3_init_25 : decode cX3_init 25 = .ok (.sipush 150, 3) := dk_17 0 150 (dk_at dksX3_init_1 1 rfl rfl)
theorem dX3_init_28 : decode cX3_init 28 = .ok (.iastore, 1) := dk_79 (dk_at dksX3_init_1 4 rfl rfl)
theorem dX3_init_29 : decode cX3_init 29 = .ok (.aload_n 0, 1) := dk_42 (dk_at dksX3_init_1 5 rfl rfl)
theorem dX3_init_30 : decode cX3_init 30 = .ok (.getfield 9, 3) := dk_180 0 9 (dk_at dksX3_init_1 6 rfl rfl)
theorem dX3_init_33 : decode cX3_init 33 = .ok (.iconst 2, 1) := dk_5 (dk_at dksX3_init_1 9 rfl rfl)
theorem dX3_init_34 : decode cX3_init 34 = .ok (.bipush 60, 2) := dk_16 60 (dk_at dksX3_init_1 10 rfl rfl)
theorem dX3_init_36 : decode cX3_init 36 = .ok (.iastore, 1) := dk_79 (dk_at dksX3_init_1 12 rfl rfl)
theorem dX3_init_37 : decode cX3_init 37 = .ok (.return_, 1) := dk_177 (dk_at dksX3_init_1 13 rfl rfl)
abbrev cX3_whelks : ByteArray := prog_11_method_3_code
def yX3_whelks : MethodName := ⟨RX3, "whelks", "(I)I"⟩
def dkwX3_whelks_0 : List UInt8 := [42, 180, 0, 9, 27, 46, 172]
abbrev dktX3_whelks_0 : List UInt8 := dkwX3_whelks_0 ++ []
theorem dksX3_whelks_0 : cX3_whelks.data.toList.drop 0 = dktX3_whelks_0 := by decide +kernel
theorem dX3_whelks_0 : decode cX3_whelks 0 = .ok (.aload_n 0, 1) := dk_42 (dk_at dksX3_whelks_0 0 rfl rfl)
theorem dX3_whelks_1 : decode cX3_whelks 1 = .ok (.getfield 9, 3) := dk_180 0 9 (dk_at dksX3_whelks_0 1 rfl rfl)
theorem dX3_whelks_4 : decode cX3_whelks 4 = .ok (.iload_n 1, 1) := dk_27 (dk_at dksX3_whelks_0 4 rfl rfl)
theorem dX3_whelks_5 : decode cX3_whelks 5 = .ok (.iaload, 1) := dk_46 (dk_at dksX3_whelks_0 5 rfl rfl)
theorem dX3_whelks_6 : decode cX3_whelks 6 = .ok (.ireturn, 1) := dk_172 (dk_at dksX3_whelks_0 6 rfl rfl)
abbrev cX3_copy : ByteArray := prog_11_method_2_code
def yX3_copy : MethodName := ⟨RX3, "copy", "()LWhelkFleet$Ground;"⟩
def dkwX3_copy_0 : List UInt8 := [187, 0, 10, 89, 183, 0, 15, 76, 42, 180, 0, 9, 3, 43, 180, 0, 9, 3, 6, 184, 0, 16, 43, 176]
abbrev dktX3_copy_0 : List UInt8 := dkwX3_copy_0 ++ []
theorem dksX3_copy_0 : cX3_copy.data.toList.drop 0 = dktX3_copy_0 := by decide +kernel
theorem dX3_copy_0 : decode cX3_copy 0 = .ok (.new 10, 3) := dk_187 0 10 (dk_at dksX3_copy_0 0 rfl rfl)
theorem dX3_copy_3 : decode cX3_copy 3 = .ok (.dup, 1) := dk_89 (dk_at dksX3_copy_0 3 rfl rfl)
theorem dX3_copy_4 : decode cX3_copy 4 = .ok (.invokespecial 15, 3) := dk_183 0 15 (dk_at dksX3_copy_0 4 rfl rfl)
theorem dX3_copy_7 : decode cX3_copy 7 = .ok (.astore_n 1, 1) := dk_76 (dk_at dksX3_copy_0 7 rfl rfl)
theorem dX3_copy_8 : decode cX3_copy 8 = .ok (.aload_n 0, 1) := dk_42 (dk_at dksX3_copy_0 8 rfl rfl)
theorem dX3_copy_9 : decode cX3_copy 9 = .ok (.getfield 9, 3) := dk_180 0 9 (dk_at dksX3_copy_0 9 rfl rfl)
theorem dX3_copy_12 : decode cX3_copy 12 = .ok (.iconst 0, 1) := dk_3 (dk_at dksX3_copy_0 12 rfl rfl)
theorem dX3_copy_13 : decode cX3_copy 13 = .ok (.aload_n 1, 1) := dk_43 (dk_at dksX3_copy_0 13 rfl rfl)
theorem dX3_copy_14 : decode cX3_copy 14 = .ok (.getfield 9, 3) := dk_180 0 9 (dk_at dksX3_copy_0 14 rfl rfl)
theorem dX3_copy_17 : decode cX3_copy 17 = .ok (.iconst 0, 1) := dk_3 (dk_at dksX3_copy_0 17 rfl rfl)
theorem dX3_copy_18 : decode cX3_copy 18 = .ok (.iconst 3, 1) := dk_6 (dk_at dksX3_copy_0 18 rfl rfl)
theorem dX3_copy_19 : decode cX3_copy 19 = .ok (.invokestatic 16, 3) := dk_184 0 16 (dk_at dksX3_copy_0 19 rfl rfl)
theorem dX3_copy_22 : decode cX3_copy 22 = .ok (.aload_n 1, 1) := dk_43 (dk_at dksX3_copy_0 22 rfl rfl)
theorem dX3_copy_23 : decode cX3_copy 23 = .ok (.areturn, 1) := dk_176 (dk_at dksX3_copy_0 23 rfl rfl)
abbrev cX3_draughtOf : ByteArray := prog_11_method_7_code
def yX3_draughtOf : MethodName := ⟨RX3, "draughtOf", "(I)LWhelkFleet$Draught;"⟩
def dkwX3_draughtOf_1 : List UInt8 := [108, 184, 0, 28, 42, 180, 0, 9, 5, 46, 27, 16, 6, 108, 184, 0, 28, 183, 0, 34, 176]
abbrev dktX3_draughtOf_1 : List UInt8 := dkwX3_draughtOf_1 ++ []
def dkwX3_draughtOf_0 : List UInt8 := [187, 0, 26, 89, 42, 180, 0, 9, 3, 46, 27, 5, 108, 184, 0, 28, 42, 180, 0, 9, 4, 46, 27, 6]
abbrev dktX3_draughtOf_0 : List UInt8 := dkwX3_draughtOf_0 ++ dktX3_draughtOf_1
theorem dksX3_draughtOf_0 : cX3_draughtOf.data.toList.drop 0 = dktX3_draughtOf_0 := by decide +kernel
theorem dksX3_draughtOf_1 : cX3_draughtOf.data.toList.drop 24 = dktX3_draughtOf_1 := dk_seg dksX3_draughtOf_0 24 rfl rfl
theorem dX3_draughtOf_0 : decode cX3_draughtOf 0 = .ok (.new 26, 3) := dk_187 0 26 (dk_at dksX3_draughtOf_0 0 rfl rfl)
theorem dX3_draughtOf_3 : decode cX3_draughtOf 3 = .ok (.dup, 1) := dk_89 (dk_at dksX3_draughtOf_0 3 rfl rfl)
theorem dX3_draughtOf_4 : decode cX3_draughtOf 4 = .ok (.aload_n 0, 1) := dk_42 (dk_at dksX3_draughtOf_0 4 rfl rfl)
theorem dX3_draughtOf_5 : decode cX3_draughtOf 5 = .ok (.getfield 9, 3) := dk_180 0 9 (dk_at dksX3_draughtOf_0 5 rfl rfl)
theorem dX3_draughtOf_8 : decode cX3_draughtOf 8 = .ok (.iconst 0, 1) := dk_3 (dk_at dksX3_draughtOf_0 8 rfl rfl)
theorem dX3_draughtOf_9 : decode cX3_draughtOf 9 = .ok (.iaload, 1) := dk_46 (dk_at dksX3_draughtOf_0 9 rfl rfl)
theorem dX3_draughtOf_10 : decode cX3_draughtOf 10 = .ok (.iload_n 1, 1) := dk_27 (dk_at dksX3_draughtOf_0 10 rfl rfl)
theorem dX3_draughtOf_11 : decode cX3_draughtOf 11 = .ok (.iconst 2, 1) := dk_5 (dk_at dksX3_draughtOf_0 11 rfl rfl)
theorem dX3_draughtOf_12 : decode cX3_draughtOf 12 = .ok (.idiv, 1) := dk_108 (dk_at dksX3_draughtOf_0 12 rfl rfl)
theorem dX3_draughtOf_13 : decode cX3_draughtOf 13 = .ok (.invokestatic 28, 3) := dk_184 0 28 (dk_at dksX3_draughtOf_0 13 rfl rfl)
theorem dX3_draughtOf_16 : decode cX3_draughtOf 16 = .ok (.aload_n 0, 1) := dk_42 (dk_at dksX3_draughtOf_0 16 rfl rfl)
theorem dX3_draughtOf_17 : decode cX3_draughtOf 17 = .ok (.getfield 9, 3) := dk_180 0 9 (dk_at dksX3_draughtOf_0 17 rfl rfl)
theorem dX3_draughtOf_20 : decode cX3_draughtOf 20 = .ok (.iconst 1, 1) := dk_4 (dk_at dksX3_draughtOf_0 20 rfl rfl)
theorem dX3_draughtOf_21 : decode cX3_draughtOf 21 = .ok (.iaload, 1) := dk_46 (dk_at dksX3_draughtOf_0 21 rfl rfl)
theorem dX3_draughtOf_22 : decode cX3_draughtOf 22 = .ok (.iload_n 1, 1) := dk_27 (dk_at dksX3_draughtOf_0 22 rfl rfl)
theorem dX3_draughtOf_23 : decode cX3_draughtOf 23 = .ok (.iconst 3, 1) := dk_6 (dk_at dksX3_draughtOf_0 23 rfl rfl)
theorem dX3_draughtOf_24 : decode cX3_draughtOf 24 = .ok (.idiv, 1) := dk_108 (dk_at dksX3_draughtOf_1 0 rfl rfl)
theorem dX3_draughtOf_25 : decode cX3_draughtOf 25 = .ok (.invokestatic 28, 3) := dk_184 0 28 (dk_at dksX3_draughtOf_1 1 rfl rfl)
theorem dX3_draughtOf_28 : decode cX3_draughtOf 28 = .ok (.aload_n 0, 1) := dk_42 (dk_at dksX3_draughtOf_1 4 rfl rfl)
theorem dX3_draughtOf_29 : decode cX3_draughtOf 29 = .ok (.getfield 9, 3) := dk_180 0 9 (dk_at dksX3_draughtOf_1 5 rfl rfl)
theorem dX3_draughtOf_32 : decode cX3_draughtOf 32 = .ok (.iconst 2, 1) := dk_5 (dk_at dksX3_draughtOf_1 8 rfl rfl)
theorem dX3_draughtOf_33 : decode cX3_draughtOf 33 = .ok (.iaload, 1) := dk_46 (dk_at dksX3_draughtOf_1 9 rfl rfl)
theorem dX3_draughtOf_34 : decode cX3_draughtOf 34 = .ok (.iload_n 1, 1) := dk_27 (dk_at dksX3_draughtOf_1 10 rfl rfl)
theorem dX3_draughtOf_35 : decode cX3_draughtOf 35 = .ok (.bipush 6, 2) := dk_16 6 (dk_at dksX3_draughtOf_1 11 rfl rfl)
theorem dX3_draughtOf_37 : decode cX3_draughtOf 37 = .ok (.idiv, 1) := dk_108 (dk_at dksX3_draughtOf_1 13 rfl rfl)
theorem dX3_draughtOf_38 : decode cX3_draughtOf 38 = .ok (.invokestatic 28, 3) := dk_184 0 28 (dk_at dksX3_draughtOf_1 14 rfl rfl)
theorem dX3_draughtOf_41 : decode cX3_draughtOf 41 = .ok (.invokespecial 34, 3) := dk_183 0 34 (dk_at dksX3_draughtOf_1 17 rfl rfl)
theorem dX3_draughtOf_44 : decode cX3_draughtOf 44 = .ok (.areturn, 1) := dk_176 (dk_at dksX3_draughtOf_1 20 rfl rfl)
abbrev cX3_loses : ByteArray := prog_11_method_8_code
def yX3_loses : MethodName := ⟨RX3, "loses", "(II)V"⟩
def dkwX3_loses_0 : List UInt8 := [42, 180, 0, 9, 4, 92, 46, 27, 100, 79, 42, 180, 0, 9, 5, 92, 46, 28, 100, 79, 177]
abbrev dktX3_loses_0 : List UInt8 := dkwX3_loses_0 ++ []
theorem dksX3_loses_0 : cX3_loses.data.toList.drop 0 = dktX3_loses_0 := by decide +kernel
theorem dX3_loses_0 : decode cX3_loses 0 = .ok (.aload_n 0, 1) := dk_42 (dk_at dksX3_loses_0 0 rfl rfl)
theorem dX3_loses_1 : decode cX3_loses 1 = .ok (.getfield 9, 3) := dk_180 0 9 (dk_at dksX3_loses_0 1 rfl rfl)
theorem dX3_loses_4 : decode cX3_loses 4 = .ok (.iconst 1, 1) := dk_4 (dk_at dksX3_loses_0 4 rfl rfl)
theorem dX3_loses_5 : decode cX3_loses 5 = .ok (.dup2, 1) := dk_92 (dk_at dksX3_loses_0 5 rfl rfl)
theorem dX3_loses_6 : decode cX3_loses 6 = .ok (.iaload, 1) := dk_46 (dk_at dksX3_loses_0 6 rfl rfl)
theorem dX3_loses_7 : decode cX3_loses 7 = .ok (.iload_n 1, 1) := dk_27 (dk_at dksX3_loses_0 7 rfl rfl)
theorem dX3_loses_8 : decode cX3_loses 8 = .ok (.isub, 1) := dk_100 (dk_at dksX3_loses_0 8 rfl rfl)
theorem dX3_loses_9 : decode cX3_loses 9 = .ok (.iastore, 1) := dk_79 (dk_at dksX3_loses_0 9 rfl rfl)
theorem dX3_loses_10 : decode cX3_loses 10 = .ok (.aload_n 0, 1) := dk_42 (dk_at dksX3_loses_0 10 rfl rfl)
theorem dX3_loses_11 : decode cX3_loses 11 = .ok (.getfield 9, 3) := dk_180 0 9 (dk_at dksX3_loses_0 11 rfl rfl)
theorem dX3_loses_14 : decode cX3_loses 14 = .ok (.iconst 2, 1) := dk_5 (dk_at dksX3_loses_0 14 rfl rfl)
theorem dX3_loses_15 : decode cX3_loses 15 = .ok (.dup2, 1) := dk_92 (dk_at dksX3_loses_0 15 rfl rfl)
theorem dX3_loses_16 : decode cX3_loses 16 = .ok (.iaload, 1) := dk_46 (dk_at dksX3_loses_0 16 rfl rfl)
theorem dX3_loses_17 : decode cX3_loses 17 = .ok (.iload_n 2, 1) := dk_28 (dk_at dksX3_loses_0 17 rfl rfl)
theorem dX3_loses_18 : decode cX3_loses 18 = .ok (.isub, 1) := dk_100 (dk_at dksX3_loses_0 18 rfl rfl)
theorem dX3_loses_19 : decode cX3_loses 19 = .ok (.iastore, 1) := dk_79 (dk_at dksX3_loses_0 19 rfl rfl)
theorem dX3_loses_20 : decode cX3_loses 20 = .ok (.return_, 1) := dk_177 (dk_at dksX3_loses_0 20 rfl rfl)
abbrev cX3_grows : ByteArray := prog_11_method_6_code
def yX3_grows : MethodName := ⟨RX3, "grows", "()V"⟩
def dkwX3_grows_3 : List UInt8 := [184, 0, 22, 79, 42, 180, 0, 9, 5, 42, 180, 0, 9, 5, 46, 28, 96, 184, 0, 22, 79, 177]
abbrev dktX3_grows_3 : List UInt8 := dkwX3_grows_3 ++ []
def dkwX3_grows_2 : List UInt8 := [27, 100, 29, 96, 184, 0, 22, 79, 42, 180, 0, 9, 4, 42, 180, 0, 9, 4, 46, 27, 96, 28, 100]
abbrev dktX3_grows_2 : List UInt8 := dkwX3_grows_2 ++ dktX3_grows_3
def dkwX3_grows_1 : List UInt8 := [4, 46, 42, 180, 0, 9, 5, 46, 96, 16, 25, 108, 62, 42, 180, 0, 9, 3, 42, 180, 0, 9, 3, 46]
abbrev dktX3_grows_1 : List UInt8 := dkwX3_grows_1 ++ dktX3_grows_2
def dkwX3_grows_0 : List UInt8 := [42, 180, 0, 9, 3, 46, 16, 20, 108, 60, 42, 180, 0, 9, 4, 46, 16, 20, 108, 61, 42, 180, 0, 9]
abbrev dktX3_grows_0 : List UInt8 := dkwX3_grows_0 ++ dktX3_grows_1
theorem dksX3_grows_0 : cX3_grows.data.toList.drop 0 = dktX3_grows_0 := by decide +kernel
theorem dksX3_grows_1 : cX3_grows.data.toList.drop 24 = dktX3_grows_1 := dk_seg dksX3_grows_0 24 rfl rfl
theorem dksX3_grows_2 : cX3_grows.data.toList.drop 48 = dktX3_grows_2 := dk_seg dksX3_grows_1 24 rfl rfl
theorem dksX3_grows_3 : cX3_grows.data.toList.drop 71 = dktX3_grows_3 := dk_seg dksX3_grows_2 23 rfl rfl
theorem dX3_grows_0 : decode cX3_grows 0 = .ok (.aload_n 0, 1) := dk_42 (dk_at dksX3_grows_0 0 rfl rfl)
theorem dX3_grows_1 : decode cX3_grows 1 = .ok (.getfield 9, 3) := dk_180 0 9 (dk_at dksX3_grows_0 1 rfl rfl)
theorem dX3_grows_4 : decode cX3_grows 4 = .ok (.iconst 0, 1) := dk_3 (dk_at dksX3_grows_0 4 rfl rfl)
theorem dX3_grows_5 : decode cX3_grows 5 = .ok (.iaload, 1) := dk_46 (dk_at dksX3_grows_0 5 rfl rfl)
theorem dX3_grows_6 : decode cX3_grows 6 = .ok (.bipush 20, 2) := dk_16 20 (dk_at dksX3_grows_0 6 rfl rfl)
theorem dX3_grows_8 : decode cX3_grows 8 = .ok (.idiv, 1) := dk_108 (dk_at dksX3_grows_0 8 rfl rfl)
theorem dX3_grows_9 : decode cX3_grows 9 = .ok (.istore_n 1, 1) := dk_60 (dk_at dksX3_grows_0 9 rfl rfl)
theorem dX3_grows_10 : decode cX3_grows 10 = .ok (.aload_n 0, 1) := dk_42 (dk_at dksX3_grows_0 10 rfl rfl)
theorem dX3_grows_11 : decode cX3_grows 11 = .ok (.getfield 9, 3) := dk_180 0 9 (dk_at dksX3_grows_0 11 rfl rfl)
theorem dX3_grows_14 : decode cX3_grows 14 = .ok (.iconst 1, 1) := dk_4 (dk_at dksX3_grows_0 14 rfl rfl)
theorem dX3_grows_15 : decode cX3_grows 15 = .ok (.iaload, 1) := dk_46 (dk_at dksX3_grows_0 15 rfl rfl)
theorem dX3_grows_16 : decode cX3_grows 16 = .ok (.bipush 20, 2) := dk_16 20 (dk_at dksX3_grows_0 16 rfl rfl)
theorem dX3_grows_18 : decode cX3_grows 18 = .ok (.idiv, 1) := dk_108 (dk_at dksX3_grows_0 18 rfl rfl)
theorem dX3_grows_19 : decode cX3_grows 19 = .ok (.istore_n 2, 1) := dk_61 (dk_at dksX3_grows_0 19 rfl rfl)
theorem dX3_grows_20 : decode cX3_grows 20 = .ok (.aload_n 0, 1) := dk_42 (dk_at dksX3_grows_0 20 rfl rfl)
theorem dX3_grows_21 : decode cX3_grows 21 = .ok (.getfield 9, 3) := dk_180 0 9 (dk_at dksX3_grows_0 21 rfl rfl)
theorem dX3_grows_24 : decode cX3_grows 24 = .ok (.iconst 1, 1) := dk_4 (dk_at dksX3_grows_1 0 rfl rfl)
theorem dX3_grows_25 : decode cX3_grows 25 = .ok (.iaload, 1) := dk_46 (dk_at dksX3_grows_1 1 rfl rfl)
theorem dX3_grows_26 : decode cX3_grows 26 = .ok (.aload_n 0, 1) := dk_42 (dk_at dksX3_grows_1 2 rfl rfl)
theorem dX3_grows_27 : decode cX3_grows 27 = .ok (.getfield 9, 3) := dk_180 0 9 (dk_at dksX3_grows_1 3 rfl rfl)
theorem dX3_grows_30 : decode cX3_grows 30 = .ok (.iconst 2, 1) := dk_5 (dk_at dksX3_grows_1 6 rfl rfl)
theorem dX3_grows_31 : decode cX3_grows 31 = .ok (.iaload, 1) := dk_46 (dk_at dksX3_grows_1 7 rfl rfl)
theorem dX3_grows_32 : decode cX3_grows 32 = .ok (.iadd, 1) := dk_96 (dk_at dksX3_grows_1 8 rfl rfl)
theorem dX3_grows_33 : decode cX3_grows 33 = .ok (.bipush 25, 2) := dk_16 25 (dk_at dksX3_grows_1 9 rfl rfl)
theorem dX3_grows_35 : decode cX3_grows 35 = .ok (.idiv, 1) := dk_108 (dk_at dksX3_grows_1 11 rfl rfl)
theorem dX3_grows_36 : decode cX3_grows 36 = .ok (.istore_n 3, 1) := dk_62 (dk_at dksX3_grows_1 12 rfl rfl)
theorem dX3_grows_37 : decode cX3_grows 37 = .ok (.aload_n 0, 1) := dk_42 (dk_at dksX3_grows_1 13 rfl rfl)
theorem dX3_grows_38 : decode cX3_grows 38 = .ok (.getfield 9, 3) := dk_180 0 9 (dk_at dksX3_grows_1 14 rfl rfl)
theorem dX3_grows_41 : decode cX3_grows 41 = .ok (.iconst 0, 1) := dk_3 (dk_at dksX3_grows_1 17 rfl rfl)
theorem dX3_grows_42 : decode cX3_grows 42 = .ok (.aload_n 0, 1) := dk_42 (dk_at dksX3_grows_1 18 rfl rfl)
theorem dX3_grows_43 : decode cX3_grows 43 = .ok (.getfield 9, 3) := dk_180 0 9 (dk_at dksX3_grows_1 19 rfl rfl)
theorem dX3_grows_46 : decode cX3_grows 46 = .ok (.iconst 0, 1) := dk_3 (dk_at dksX3_grows_1 22 rfl rfl)
theorem dX3_grows_47 : decode cX3_grows 47 = .ok (.iaload, 1) := dk_46 (dk_at dksX3_grows_1 23 rfl rfl)
theorem dX3_grows_48 : decode cX3_grows 48 = .ok (.iload_n 1, 1) := dk_27 (dk_at dksX3_grows_2 0 rfl rfl)
theorem dX3_grows_49 : decode cX3_grows 49 = .ok (.isub, 1) := dk_100 (dk_at dksX3_grows_2 1 rfl rfl)
theorem dX3_grows_50 : decode cX3_grows 50 = .ok (.iload_n 3, 1) := dk_29 (dk_at dksX3_grows_2 2 rfl rfl)
theorem dX3_grows_51 : decode cX3_grows 51 = .ok (.iadd, 1) := dk_96 (dk_at dksX3_grows_2 3 rfl rfl)
theorem dX3_grows_52 : decode cX3_grows 52 = .ok (.invokestatic 22, 3) := dk_184 0 22 (dk_at dksX3_grows_2 4 rfl rfl)
theorem dX3_grows_55 : decode cX3_grows 55 = .ok (.iastore, 1) := dk_79 (dk_at dksX3_grows_2 7 rfl rfl)
theorem dX3_grows_56 : decode cX3_grows 56 = .ok (.aload_n 0, 1) := dk_42 (dk_at dksX3_grows_2 8 rfl rfl)
theorem dX3_grows_57 : decode cX3_grows 57 = .ok (.getfield 9, 3) := dk_180 0 9 (dk_at dksX3_grows_2 9 rfl rfl)
theorem dX3_grows_60 : decode cX3_grows 60 = .ok (.iconst 1, 1) := dk_4 (dk_at dksX3_grows_2 12 rfl rfl)
theorem dX3_grows_61 : decode cX3_grows 61 = .ok (.aload_n 0, 1) := dk_42 (dk_at dksX3_grows_2 13 rfl rfl)
theorem dX3_grows_62 : decode cX3_grows 62 = .ok (.getfield 9, 3) := dk_180 0 9 (dk_at dksX3_grows_2 14 rfl rfl)
theorem dX3_grows_65 : decode cX3_grows 65 = .ok (.iconst 1, 1) := dk_4 (dk_at dksX3_grows_2 17 rfl rfl)
theorem dX3_grows_66 : decode cX3_grows 66 = .ok (.iaload, 1) := dk_46 (dk_at dksX3_grows_2 18 rfl rfl)
theorem dX3_grows_67 : decode cX3_grows 67 = .ok (.iload_n 1, 1) := dk_27 (dk_at dksX3_grows_2 19 rfl rfl)
theorem dX3_grows_68 : decode cX3_grows 68 = .ok (.iadd, 1) := dk_96 (dk_at dksX3_grows_2 20 rfl rfl)
theorem dX3_grows_69 : decode cX3_grows 69 = .ok (.iload_n 2, 1) := dk_28 (dk_at dksX3_grows_2 21 rfl rfl)
theorem dX3_grows_70 : decode cX3_grows 70 = .ok (.isub, 1) := dk_100 (dk_at dksX3_grows_2 22 rfl rfl)
theorem dX3_grows_71 : decode cX3_grows 71 = .ok (.invokestatic 22, 3) := dk_184 0 22 (dk_at dksX3_grows_3 0 rfl rfl)
theorem dX3_grows_74 : decode cX3_grows 74 = .ok (.iastore, 1) := dk_79 (dk_at dksX3_grows_3 3 rfl rfl)
theorem dX3_grows_75 : decode cX3_grows 75 = .ok (.aload_n 0, 1) := dk_42 (dk_at dksX3_grows_3 4 rfl rfl)
theorem dX3_grows_76 : decode cX3_grows 76 = .ok (.getfield 9, 3) := dk_180 0 9 (dk_at dksX3_grows_3 5 rfl rfl)
theorem dX3_grows_79 : decode cX3_grows 79 = .ok (.iconst 2, 1) := dk_5 (dk_at dksX3_grows_3 8 rfl rfl)
theorem dX3_grows_80 : decode cX3_grows 80 = .ok (.aload_n 0, 1) := dk_42 (dk_at dksX3_grows_3 9 rfl rfl)
theorem dX3_grows_81 : decode cX3_grows 81 = .ok (.getfield 9, 3) := dk_180 0 9 (dk_at dksX3_grows_3 10 rfl rfl)
theorem dX3_grows_84 : decode cX3_grows 84 = .ok (.iconst 2, 1) := dk_5 (dk_at dksX3_grows_3 13 rfl rfl)
theorem dX3_grows_85 : decode cX3_grows 85 = .ok (.iaload, 1) := dk_46 (dk_at dksX3_grows_3 14 rfl rfl)
theorem dX3_grows_86 : decode cX3_grows 86 = .ok (.iload_n 2, 1) := dk_28 (dk_at dksX3_grows_3 15 rfl rfl)
theorem dX3_grows_87 : decode cX3_grows 87 = .ok (.iadd, 1) := dk_96 (dk_at dksX3_grows_3 16 rfl rfl)
theorem dX3_grows_88 : decode cX3_grows 88 = .ok (.invokestatic 22, 3) := dk_184 0 22 (dk_at dksX3_grows_3 17 rfl rfl)
theorem dX3_grows_91 : decode cX3_grows 91 = .ok (.iastore, 1) := dk_79 (dk_at dksX3_grows_3 20 rfl rfl)
theorem dX3_grows_92 : decode cX3_grows 92 = .ok (.return_, 1) := dk_177 (dk_at dksX3_grows_3 21 rfl rfl)
abbrev cX3_becomes : ByteArray := prog_11_method_4_code
def yX3_becomes : MethodName := ⟨RX3, "becomes", "(II)I"⟩
def dkwX3_becomes_0 : List UInt8 := [42, 180, 0, 9, 27, 46, 62, 42, 180, 0, 9, 27, 28, 79, 29, 172]
abbrev dktX3_becomes_0 : List UInt8 := dkwX3_becomes_0 ++ []
theorem dksX3_becomes_0 : cX3_becomes.data.toList.drop 0 = dktX3_becomes_0 := by decide +kernel
theorem dX3_becomes_0 : decode cX3_becomes 0 = .ok (.aload_n 0, 1) := dk_42 (dk_at dksX3_becomes_0 0 rfl rfl)
theorem dX3_becomes_1 : decode cX3_becomes 1 = .ok (.getfield 9, 3) := dk_180 0 9 (dk_at dksX3_becomes_0 1 rfl rfl)
theorem dX3_becomes_4 : decode cX3_becomes 4 = .ok (.iload_n 1, 1) := dk_27 (dk_at dksX3_becomes_0 4 rfl rfl)
theorem dX3_becomes_5 : decode cX3_becomes 5 = .ok (.iaload, 1) := dk_46 (dk_at dksX3_becomes_0 5 rfl rfl)
theorem dX3_becomes_6 : decode cX3_becomes 6 = .ok (.istore_n 3, 1) := dk_62 (dk_at dksX3_becomes_0 6 rfl rfl)
theorem dX3_becomes_7 : decode cX3_becomes 7 = .ok (.aload_n 0, 1) := dk_42 (dk_at dksX3_becomes_0 7 rfl rfl)
theorem dX3_becomes_8 : decode cX3_becomes 8 = .ok (.getfield 9, 3) := dk_180 0 9 (dk_at dksX3_becomes_0 8 rfl rfl)
theorem dX3_becomes_11 : decode cX3_becomes 11 = .ok (.iload_n 1, 1) := dk_27 (dk_at dksX3_becomes_0 11 rfl rfl)
theorem dX3_becomes_12 : decode cX3_becomes 12 = .ok (.iload_n 2, 1) := dk_28 (dk_at dksX3_becomes_0 12 rfl rfl)
theorem dX3_becomes_13 : decode cX3_becomes 13 = .ok (.iastore, 1) := dk_79 (dk_at dksX3_becomes_0 13 rfl rfl)
theorem dX3_becomes_14 : decode cX3_becomes 14 = .ok (.iload_n 3, 1) := dk_29 (dk_at dksX3_becomes_0 14 rfl rfl)
theorem dX3_becomes_15 : decode cX3_becomes 15 = .ok (.ireturn, 1) := dk_172 (dk_at dksX3_becomes_0 15 rfl rfl)
abbrev cX3_all : ByteArray := prog_11_method_5_code
def yX3_all : MethodName := ⟨RX3, "all", "()I"⟩
def dkwX3_all_0 : List UInt8 := [42, 180, 0, 9, 3, 46, 42, 180, 0, 9, 4, 46, 96, 42, 180, 0, 9, 5, 46, 96, 172]
abbrev dktX3_all_0 : List UInt8 := dkwX3_all_0 ++ []
theorem dksX3_all_0 : cX3_all.data.toList.drop 0 = dktX3_all_0 := by decide +kernel
theorem dX3_all_0 : decode cX3_all 0 = .ok (.aload_n 0, 1) := dk_42 (dk_at dksX3_all_0 0 rfl rfl)
theorem dX3_all_1 : decode cX3_all 1 = .ok (.getfield 9, 3) := dk_180 0 9 (dk_at dksX3_all_0 1 rfl rfl)
theorem dX3_all_4 : decode cX3_all 4 = .ok (.iconst 0, 1) := dk_3 (dk_at dksX3_all_0 4 rfl rfl)
theorem dX3_all_5 : decode cX3_all 5 = .ok (.iaload, 1) := dk_46 (dk_at dksX3_all_0 5 rfl rfl)
theorem dX3_all_6 : decode cX3_all 6 = .ok (.aload_n 0, 1) := dk_42 (dk_at dksX3_all_0 6 rfl rfl)
theorem dX3_all_7 : decode cX3_all 7 = .ok (.getfield 9, 3) := dk_180 0 9 (dk_at dksX3_all_0 7 rfl rfl)
theorem dX3_all_10 : decode cX3_all 10 = .ok (.iconst 1, 1) := dk_4 (dk_at dksX3_all_0 10 rfl rfl)
theorem dX3_all_11 : decode cX3_all 11 = .ok (.iaload, 1) := dk_46 (dk_at dksX3_all_0 11 rfl rfl)
theorem dX3_all_12 : decode cX3_all 12 = .ok (.iadd, 1) := dk_96 (dk_at dksX3_all_0 12 rfl rfl)
theorem dX3_all_13 : decode cX3_all 13 = .ok (.aload_n 0, 1) := dk_42 (dk_at dksX3_all_0 13 rfl rfl)
theorem dX3_all_14 : decode cX3_all 14 = .ok (.getfield 9, 3) := dk_180 0 9 (dk_at dksX3_all_0 14 rfl rfl)
theorem dX3_all_17 : decode cX3_all 17 = .ok (.iconst 2, 1) := dk_5 (dk_at dksX3_all_0 17 rfl rfl)
theorem dX3_all_18 : decode cX3_all 18 = .ok (.iaload, 1) := dk_46 (dk_at dksX3_all_0 18 rfl rfl)
theorem dX3_all_19 : decode cX3_all 19 = .ok (.iadd, 1) := dk_96 (dk_at dksX3_all_0 19 rfl rfl)
theorem dX3_all_20 : decode cX3_all 20 = .ok (.ireturn, 1) := dk_172 (dk_at dksX3_all_0 20 rfl rfl)
theorem q82 : (Jvm.Cond.initialized "WhelkFleet$Ground") ∈ lw_all := lw_g (lw_at lw_m1 6 rfl) rfl
theorem q215 : (Jvm.Cond.instantiable "WhelkFleet$Ground" (1 : Nat)) ∈ lw_all := lw_g (lw_at lw_m1 139 rfl) rfl
theorem q217 : (Jvm.Cond.instanceMethod ({ cls := "WhelkFleet$Ground", name := "<init>", desc := "()V" } : Jvm.MethodName)) ∈ lw_all := lw_g (lw_at lw_m1 141 rfl) rfl
theorem q218 : (Jvm.Cond.code ({ cls := "WhelkFleet$Ground", name := "<init>", desc := "()V" } : Jvm.MethodName) prog_11_method_1_code (1 : Nat) (Option.none : Option Jvm.ClassFile.FieldType)) ∈ lw_all := lw_g (lw_at lw_m1 142 rfl) rfl
theorem q219 : (Jvm.Cond.methodLink "WhelkFleet$Ground" (3 : Nat) ({ cls := "java/lang/Object", name := "<init>", desc := "()V" } : Jvm.MethodName)) ∈ lw_all := lw_g (lw_at lw_m1 143 rfl) rfl
theorem q220 : (Jvm.Cond.fieldLink "WhelkFleet$Ground" (9 : Nat) "WhelkFleet$Ground" "whelks" "[I") ∈ lw_all := lw_g (lw_at lw_m1 144 rfl) rfl
theorem q221 : (Jvm.Cond.laysFinal "WhelkFleet$Ground" "WhelkFleet$Ground" "whelks" "[I") ∈ lw_all := lw_g (lw_at lw_m1 145 rfl) rfl
theorem q222 : (Jvm.Cond.soleField "WhelkFleet$Ground" "whelks") ∈ lw_all := lw_g (lw_at lw_m1 146 rfl) rfl
theorem q223 : (Jvm.Cond.superclass "WhelkFleet$Ground" "java/lang/Object") ∈ lw_all := lw_g (lw_at lw_m1 147 rfl) rfl
theorem q271 : (Jvm.Cond.selects "WhelkFleet$Ground" ({ cls := "java/lang/Object", name := "getClass", desc := "()Ljava/lang/Class;" } : Jvm.MethodName) ({ cls := "java/lang/Object", name := "getClass", desc := "()Ljava/lang/Class;" } : Jvm.MethodName)) ∈ lw_all := lw_g (lw_at lw_m1 195 rfl) rfl
theorem q834 : (Jvm.Cond.instanceMethod ({ cls := "WhelkFleet$Ground", name := "whelks", desc := "(I)I" } : Jvm.MethodName)) ∈ lw_all := lw_g (lw_at lw_m4 38 rfl) rfl
theorem q835 : (Jvm.Cond.selects "WhelkFleet$Ground" ({ cls := "WhelkFleet$Ground", name := "whelks", desc := "(I)I" } : Jvm.MethodName) ({ cls := "WhelkFleet$Ground", name := "whelks", desc := "(I)I" } : Jvm.MethodName)) ∈ lw_all := lw_g (lw_at lw_m4 39 rfl) rfl
theorem q836 : (Jvm.Cond.code ({ cls := "WhelkFleet$Ground", name := "whelks", desc := "(I)I" } : Jvm.MethodName) prog_11_method_3_code (2 : Nat) (Option.some Jvm.ClassFile.FieldType.int)) ∈ lw_all := lw_g (lw_at lw_m4 40 rfl) rfl
theorem q1122 : (Jvm.Cond.instanceMethod ({ cls := "WhelkFleet$Ground", name := "copy", desc := "()LWhelkFleet$Ground;" } : Jvm.MethodName)) ∈ lw_all := lw_g (lw_at lw_m5 86 rfl) rfl
theorem q1123 : (Jvm.Cond.selects "WhelkFleet$Ground" ({ cls := "WhelkFleet$Ground", name := "copy", desc := "()LWhelkFleet$Ground;" } : Jvm.MethodName) ({ cls := "WhelkFleet$Ground", name := "copy", desc := "()LWhelkFleet$Ground;" } : Jvm.MethodName)) ∈ lw_all := lw_g (lw_at lw_m5 87 rfl) rfl
theorem q1124 : (Jvm.Cond.code ({ cls := "WhelkFleet$Ground", name := "copy", desc := "()LWhelkFleet$Ground;" } : Jvm.MethodName) prog_11_method_2_code (2 : Nat) (Option.some (Jvm.ClassFile.FieldType.object "WhelkFleet$Ground"))) ∈ lw_all := lw_g (lw_at lw_m5 88 rfl) rfl
theorem q1125 : (Jvm.Cond.classLink "WhelkFleet$Ground" (10 : Nat) "WhelkFleet$Ground") ∈ lw_all := lw_g (lw_at lw_m5 89 rfl) rfl
theorem q1126 : (Jvm.Cond.methodLink "WhelkFleet$Ground" (15 : Nat) ({ cls := "WhelkFleet$Ground", name := "<init>", desc := "()V" } : Jvm.MethodName)) ∈ lw_all := lw_g (lw_at lw_m5 90 rfl) rfl
theorem q1127 : (Jvm.Cond.methodLink "WhelkFleet$Ground" (16 : Nat) ({ cls := "java/lang/System", name := "arraycopy", desc := "(Ljava/lang/Object;ILjava/lang/Object;II)V" } : Jvm.MethodName)) ∈ lw_all := lw_g (lw_at lw_m5 91 rfl) rfl
theorem q1486 : (Jvm.Cond.selects "WhelkFleet$Ground" ({ cls := "java/lang/Object", name := "toString", desc := "()Ljava/lang/String;" } : Jvm.MethodName) ({ cls := "java/lang/Object", name := "toString", desc := "()Ljava/lang/String;" } : Jvm.MethodName)) ∈ lw_all := lw_g (lw_at lw_m6 210 rfl) rfl
theorem q1587 : (Jvm.Cond.instanceMethod ({ cls := "WhelkFleet$Ground", name := "draughtOf", desc := "(I)LWhelkFleet$Draught;" } : Jvm.MethodName)) ∈ lw_all := lw_g (lw_at lw_m7 71 rfl) rfl
theorem q1588 : (Jvm.Cond.selects "WhelkFleet$Ground" ({ cls := "WhelkFleet$Ground", name := "draughtOf", desc := "(I)LWhelkFleet$Draught;" } : Jvm.MethodName) ({ cls := "WhelkFleet$Ground", name := "draughtOf", desc := "(I)LWhelkFleet$Draught;" } : Jvm.MethodName)) ∈ lw_all := lw_g (lw_at lw_m7 72 rfl) rfl
theorem q1589 : (Jvm.Cond.code ({ cls := "WhelkFleet$Ground", name := "draughtOf", desc := "(I)LWhelkFleet$Draught;" } : Jvm.MethodName) prog_11_method_7_code (2 : Nat) (Option.some (Jvm.ClassFile.FieldType.object "WhelkFleet$Draught"))) ∈ lw_all := lw_g (lw_at lw_m7 73 rfl) rfl
theorem q1590 : (Jvm.Cond.classLink "WhelkFleet$Ground" (26 : Nat) "WhelkFleet$Draught") ∈ lw_all := lw_g (lw_at lw_m7 74 rfl) rfl
theorem q1592 : (Jvm.Cond.methodLink "WhelkFleet$Ground" (28 : Nat) ({ cls := "java/lang/Math", name := "min", desc := "(II)I" } : Jvm.MethodName)) ∈ lw_all := lw_g (lw_at lw_m7 76 rfl) rfl
theorem q1593 : (Jvm.Cond.methodLink "WhelkFleet$Ground" (34 : Nat) ({ cls := "WhelkFleet$Draught", name := "<init>", desc := "(III)V" } : Jvm.MethodName)) ∈ lw_all := lw_g (lw_at lw_m7 77 rfl) rfl
theorem q1621 : (Jvm.Cond.instanceMethod ({ cls := "WhelkFleet$Ground", name := "loses", desc := "(II)V" } : Jvm.MethodName)) ∈ lw_all := lw_g (lw_at lw_m7 105 rfl) rfl
theorem q1622 : (Jvm.Cond.selects "WhelkFleet$Ground" ({ cls := "WhelkFleet$Ground", name := "loses", desc := "(II)V" } : Jvm.MethodName) ({ cls := "WhelkFleet$Ground", name := "loses", desc := "(II)V" } : Jvm.MethodName)) ∈ lw_all := lw_g (lw_at lw_m7 106 rfl) rfl
theorem q1623 : (Jvm.Cond.code ({ cls := "WhelkFleet$Ground", name := "loses", desc := "(II)V" } : Jvm.MethodName) prog_11_method_8_code (3 : Nat) (Option.none : Option Jvm.ClassFile.FieldType)) ∈ lw_all := lw_g (lw_at lw_m7 107 rfl) rfl
theorem q1681 : (Jvm.Cond.instanceMethod ({ cls := "WhelkFleet$Ground", name := "grows", desc := "()V" } : Jvm.MethodName)) ∈ lw_all := lw_g (lw_at lw_m7 165 rfl) rfl
theorem q1682 : (Jvm.Cond.selects "WhelkFleet$Ground" ({ cls := "WhelkFleet$Ground", name := "grows", desc := "()V" } : Jvm.MethodName) ({ cls := "WhelkFleet$Ground", name := "grows", desc := "()V" } : Jvm.MethodName)) ∈ lw_all := lw_g (lw_at lw_m7 166 rfl) rfl
theorem q1683 : (Jvm.Cond.code ({ cls := "WhelkFleet$Ground", name := "grows", desc := "()V" } : Jvm.MethodName) prog_11_method_6_code (4 : Nat) (Option.none : Option Jvm.ClassFile.FieldType)) ∈ lw_all := lw_g (lw_at lw_m7 167 rfl) rfl
theorem q1684 : (Jvm.Cond.methodLinkNest "WhelkFleet$Ground" (22 : Nat) ({ cls := "WhelkFleet", name := "held", desc := "(I)I" } : Jvm.MethodName) "WhelkFleet") ∈ lw_tbl := lw_at lw_m7 168 rfl
theorem q1722 : (Jvm.Cond.instanceMethod ({ cls := "WhelkFleet$Ground", name := "becomes", desc := "(II)I" } : Jvm.MethodName)) ∈ lw_all := lw_g (lw_at lw_m7 206 rfl) rfl
theorem q1723 : (Jvm.Cond.selects "WhelkFleet$Ground" ({ cls := "WhelkFleet$Ground", name := "becomes", desc := "(II)I" } : Jvm.MethodName) ({ cls := "WhelkFleet$Ground", name := "becomes", desc := "(II)I" } : Jvm.MethodName)) ∈ lw_all := lw_g (lw_at lw_m7 207 rfl) rfl
theorem q1724 : (Jvm.Cond.code ({ cls := "WhelkFleet$Ground", name := "becomes", desc := "(II)I" } : Jvm.MethodName) prog_11_method_4_code (4 : Nat) (Option.some Jvm.ClassFile.FieldType.int)) ∈ lw_all := lw_g (lw_at lw_m7 208 rfl) rfl
theorem q2050 : (Jvm.Cond.instanceMethod ({ cls := "WhelkFleet$Ground", name := "all", desc := "()I" } : Jvm.MethodName)) ∈ lw_all := lw_g (lw_at lw_m9 54 rfl) rfl
theorem q2051 : (Jvm.Cond.selects "WhelkFleet$Ground" ({ cls := "WhelkFleet$Ground", name := "all", desc := "()I" } : Jvm.MethodName) ({ cls := "WhelkFleet$Ground", name := "all", desc := "()I" } : Jvm.MethodName)) ∈ lw_all := lw_g (lw_at lw_m9 55 rfl) rfl
theorem q2052 : (Jvm.Cond.code ({ cls := "WhelkFleet$Ground", name := "all", desc := "()I" } : Jvm.MethodName) prog_11_method_5_code (1 : Nat) (Option.some Jvm.ClassFile.FieldType.int)) ∈ lw_all := lw_g (lw_at lw_m9 56 rfl) rfl
theorem q3003 : (Jvm.Cond.castable "WhelkFleet$Ground" "java/lang/Object") ∈ lw_tbl := lw_at lw_m13 47 rfl
theorem in_X3 : ∀ w ∈ wsX30, w ∈ lw_all := lw_in wsX30 [221] (by decide +kernel) (by decide +kernel)
/-! WhelkFleet$Boat -/
set_option maxRecDepth 100000
def RX5 : String := "WhelkFleet$Boat"
def TX5 : u_T := fun k => match k with
  | 0 => ("WhelkFleet$Boat", "bound", "I", true)
  | 1 => ("WhelkFleet$Boat", "place", "LWhelkFleet$Place;", false)
  | 2 => ("WhelkFleet$Boat", "hours", "I", false)
  | 3 => ("WhelkFleet$Boat", "middle", "I", false)
  | 4 => ("WhelkFleet$Boat", "large", "I", false)
  | 5 => ("WhelkFleet$Boat", "sacks", "I", false)
  | _ => ("WhelkFleet$Boat", "hauled", "I", false)
def tyX5 : Nat → FieldType := fun k => match k with
  | 0 => .int
  | 1 => .object "WhelkFleet$Place"
  | 2 => .int
  | 3 => .int
  | 4 => .int
  | 5 => .int
  | _ => .int
abbrev wsX50 : List Cond := u_ws RX5 TX5 7
theorem nmX5 : ∀ a, a < 7 → ∀ b, b < 7 → a ≠ b → (TX5 a).2.1 ≠ (TX5 b).2.1 := by decide +kernel
theorem tyX5_ok : ∀ k, k < 7 → parseFieldDescriptor (TX5 k).2.2.1 = some (tyX5 k) := by decide +kernel
abbrev cX5_copy : ByteArray := prog_7_method_2_code
def yX5_copy : MethodName := ⟨RX5, "copy", "()LWhelkFleet$Boat;"⟩
def dkwX5_copy_2 : List UInt8 := [180, 0, 34, 181, 0, 34, 43, 42, 180, 0, 37, 181, 0, 37, 43, 176]
abbrev dktX5_copy_2 : List UInt8 := dkwX5_copy_2 ++ []
def dkwX5_copy_1 : List UInt8 := [180, 0, 18, 181, 0, 18, 43, 42, 180, 0, 28, 181, 0, 28, 43, 42, 180, 0, 31, 181, 0, 31, 43, 42]
abbrev dktX5_copy_1 : List UInt8 := dkwX5_copy_1 ++ dktX5_copy_2
def dkwX5_copy_0 : List UInt8 := [187, 0, 13, 89, 42, 180, 0, 22, 183, 0, 25, 76, 43, 42, 180, 0, 12, 181, 0, 12, 43, 42]
abbrev dktX5_copy_0 : List UInt8 := dkwX5_copy_0 ++ dktX5_copy_1
theorem dksX5_copy_0 : cX5_copy.data.toList.drop 0 = dktX5_copy_0 := by decide +kernel
theorem dksX5_copy_1 : cX5_copy.data.toList.drop 22 = dktX5_copy_1 := dk_seg dksX5_copy_0 22 rfl rfl
theorem dksX5_copy_2 : cX5_copy.data.toList.drop 46 = dktX5_copy_2 := dk_seg dksX5_copy_1 24 rfl rfl
theorem dX5_copy_0 : decode cX5_copy 0 = .ok (.new 13, 3) := dk_187 0 13 (dk_at dksX5_copy_0 0 rfl rfl)
theorem dX5_copy_3 : decode cX5_copy 3 = .ok (.dup, 1) := dk_89 (dk_at dksX5_copy_0 3 rfl rfl)
theorem dX5_copy_4 : decode cX5_copy 4 = .ok (.aload_n 0, 1) := dk_42 (dk_at dksX5_copy_0 4 rfl rfl)
theorem dX5_copy_5 : decode cX5_copy 5 = .ok (.getfield 22, 3) := dk_180 0 22 (dk_at dksX5_copy_0 5 rfl rfl)
theorem dX5_copy_8 : decode cX5_copy 8 = .ok (.invokespecial 25, 3) := dk_183 0 25 (dk_at dksX5_copy_0 8 rfl rfl)
theorem dX5_copy_11 : decode cX5_copy 11 = .ok (.astore_n 1, 1) := dk_76 (dk_at dksX5_copy_0 11 rfl rfl)
theorem dX5_copy_12 : decode cX5_copy 12 = .ok (.aload_n 1, 1) := dk_43 (dk_at dksX5_copy_0 12 rfl rfl)
theorem dX5_copy_13 : decode cX5_copy 13 = .ok (.aload_n 0, 1) := dk_42 (dk_at dksX5_copy_0 13 rfl rfl)
theorem dX5_copy_14 : decode cX5_copy 14 = .ok (.getfield 12, 3) := dk_180 0 12 (dk_at dksX5_copy_0 14 rfl rfl)
theorem dX5_copy_17 : decode cX5_copy 17 = .ok (.putfield 12, 3) := dk_181 0 12 (dk_at dksX5_copy_0 17 rfl rfl)
theorem dX5_copy_20 : decode cX5_copy 20 = .ok (.aload_n 1, 1) := dk_43 (dk_at dksX5_copy_0 20 rfl rfl)
theorem dX5_copy_21 : decode cX5_copy 21 = .ok (.aload_n 0, 1) := dk_42 (dk_at dksX5_copy_0 21 rfl rfl)
theorem dX5_copy_22 : decode cX5_copy 22 = .ok (.getfield 18, 3) := dk_180 0 18 (dk_at dksX5_copy_1 0 rfl rfl)
theorem dX5_copy_25 : decode cX5_copy 25 = .ok (.putfield 18, 3) := dk_181 0 18 (dk_at dksX5_copy_1 3 rfl rfl)
theorem dX5_copy_28 : decode cX5_copy 28 = .ok (.aload_n 1, 1) := dk_43 (dk_at dksX5_copy_1 6 rfl rfl)
theorem dX5_copy_29 : decode cX5_copy 29 = .ok (.aload_n 0, 1) := dk_42 (dk_at dksX5_copy_1 7 rfl rfl)
theorem dX5_copy_30 : decode cX5_copy 30 = .ok (.getfield 28, 3) := dk_180 0 28 (dk_at dksX5_copy_1 8 rfl rfl)
theorem dX5_copy_33 : decode cX5_copy 33 = .ok (.putfield 28, 3) := dk_181 0 28 (dk_at dksX5_copy_1 11 rfl rfl)
theorem dX5_copy_36 : decode cX5_copy 36 = .ok (.aload_n 1, 1) := dk_43 (dk_at dksX5_copy_1 14 rfl rfl)
theorem dX5_copy_37 : decode cX5_copy 37 = .ok (.aload_n 0, 1) := dk_42 (dk_at dksX5_copy_1 15 rfl rfl)
theorem dX5_copy_38 : decode cX5_copy 38 = .ok (.getfield 31, 3) := dk_180 0 31 (dk_at dksX5_copy_1 16 rfl rfl)
theorem dX5_copy_41 : decode cX5_copy 41 = .ok (.putfield 31, 3) := dk_181 0 31 (dk_at dksX5_copy_1 19 rfl rfl)
theorem dX5_copy_44 : decode cX5_copy 44 = .ok (.aload_n 1, 1) := dk_43 (dk_at dksX5_copy_1 22 rfl rfl)
theorem dX5_copy_45 : decode cX5_copy 45 = .ok (.aload_n 0, 1) := dk_42 (dk_at dksX5_copy_1 23 rfl rfl)
theorem dX5_copy_46 : decode cX5_copy 46 = .ok (.getfield 34, 3) := dk_180 0 34 (dk_at dksX5_copy_2 0 rfl rfl)
theorem dX5_copy_49 : decode cX5_copy 49 = .ok (.putfield 34, 3) := dk_181 0 34 (dk_at dksX5_copy_2 3 rfl rfl)
theorem dX5_copy_52 : decode cX5_copy 52 = .ok (.aload_n 1, 1) := dk_43 (dk_at dksX5_copy_2 6 rfl rfl)
theorem dX5_copy_53 : decode cX5_copy 53 = .ok (.aload_n 0, 1) := dk_42 (dk_at dksX5_copy_2 7 rfl rfl)
theorem dX5_copy_54 : decode cX5_copy 54 = .ok (.getfield 37, 3) := dk_180 0 37 (dk_at dksX5_copy_2 8 rfl rfl)
theorem dX5_copy_57 : decode cX5_copy 57 = .ok (.putfield 37, 3) := dk_181 0 37 (dk_at dksX5_copy_2 11 rfl rfl)
theorem dX5_copy_60 : decode cX5_copy 60 = .ok (.aload_n 1, 1) := dk_43 (dk_at dksX5_copy_2 14 rfl rfl)
theorem dX5_copy_61 : decode cX5_copy 61 = .ok (.areturn, 1) := dk_176 (dk_at dksX5_copy_2 15 rfl rfl)
abbrev cX5_init : ByteArray := prog_7_method_1_code
def yX5_init : MethodName := ⟨RX5, "<init>", "(I)V"⟩
def dkwX5_init_1 : List UInt8 := [181, 0, 22, 177]
abbrev dktX5_init_1 : List UInt8 := dkwX5_init_1 ++ []
def dkwX5_init_0 : List UInt8 := [42, 183, 0, 3, 42, 187, 0, 9, 89, 183, 0, 11, 181, 0, 12, 42, 16, 10, 181, 0, 18, 42, 27]
abbrev dktX5_init_0 : List UInt8 := dkwX5_init_0 ++ dktX5_init_1
theorem dksX5_init_0 : cX5_init.data.toList.drop 0 = dktX5_init_0 := by decide +kernel
theorem dksX5_init_1 : cX5_init.data.toList.drop 23 = dktX5_init_1 := dk_seg dksX5_init_0 23 rfl rfl
theorem dX5_init_0 : decode cX5_init 0 = .ok (.aload_n 0, 1) := dk_42 (dk_at dksX5_init_0 0 rfl rfl)
theorem dX5_init_1 : decode cX5_init 1 = .ok (.invokespecial 3, 3) := dk_183 0 3 (dk_at dksX5_init_0 1 rfl rfl)
theorem dX5_init_4 : decode cX5_init 4 = .ok (.aload_n 0, 1) := dk_42 (dk_at dksX5_init_0 4 rfl rfl)
theorem dX5_init_5 : decode cX5_init 5 = .ok (.new 9, 3) := dk_187 0 9 (dk_at dksX5_init_0 5 rfl rfl)
theorem dX5_init_8 : decode cX5_init 8 = .ok (.dup, 1) := dk_89 (dk_at dksX5_init_0 8 rfl rfl)
theorem dX5_init_9 : decode cX5_init 9 = .ok (.invokespecial 11, 3) := dk_183 0 11 (dk_at dksX5_init_0 9 rfl rfl)
theorem dX5_init_12 : decode cX5_init 12 = .ok (.putfield 12, 3) := dk_181 0 12 (dk_at dksX5_init_0 12 rfl rfl)
theorem dX5_init_15 : decode cX5_init 15 = .ok (.aload_n 0, 1) := dk_42 (dk_at dksX5_init_0 15 rfl rfl)
theorem dX5_init_16 : decode cX5_init 16 = .ok (.bipush 10, 2) := dk_16 10 (dk_at dksX5_init_0 16 rfl rfl)
theorem dX5_init_18 : decode cX5_init 18 = .ok (.putfield 18, 3) := dk_181 0 18 (dk_at dksX5_init_0 18 rfl rfl)
theorem dX5_init_21 : decode cX5_init 21 = .ok (.aload_n 0, 1) := dk_42 (dk_at dksX5_init_0 21 rfl rfl)
theorem dX5_init_22 : decode cX5_init 22 = .ok (.iload_n 1, 1) := dk_27 (dk_at dksX5_init_0 22 rfl rfl)
theorem dX5_init_23 : decode cX5_init 23 = .ok (.putfield 22, 3) := dk_181 0 22 (dk_at dksX5_init_1 0 rfl rfl)
theorem dX5_init_26 : decode cX5_init 26 = .ok (.return_, 1) := dk_177 (dk_at dksX5_init_1 3 rfl rfl)
abbrev cX5_place : ByteArray := prog_7_method_4_code
def yX5_place : MethodName := ⟨RX5, "place", "()LWhelkFleet$Place;"⟩
theorem dX5_place_0 : decode cX5_place 0 = .ok (.aload_n 0, 1) := by decide +kernel
theorem dX5_place_1 : decode cX5_place 1 = .ok (.getfield 12, 3) := by decide +kernel
theorem dX5_place_4 : decode cX5_place 4 = .ok (.areturn, 1) := by decide +kernel
abbrev cX5_bound : ByteArray := prog_7_method_3_code
def yX5_bound : MethodName := ⟨RX5, "bound", "()I"⟩
theorem dX5_bound_0 : decode cX5_bound 0 = .ok (.aload_n 0, 1) := by decide +kernel
theorem dX5_bound_1 : decode cX5_bound 1 = .ok (.getfield 22, 3) := by decide +kernel
theorem dX5_bound_4 : decode cX5_bound 4 = .ok (.ireturn, 1) := by decide +kernel
abbrev cX5_checkHours : ByteArray := prog_7_method_11_code
def yX5_checkHours : MethodName := ⟨RX5, "checkHours", "(I)V"⟩
def dkwX5_checkHours_0 : List UInt8 := [42, 180, 0, 18, 27, 161, 0, 7, 4, 167, 0, 4, 3, 7, 27, 42, 180, 0, 18, 100, 184, 0, 40, 177]
abbrev dktX5_checkHours_0 : List UInt8 := dkwX5_checkHours_0 ++ []
theorem dksX5_checkHours_0 : cX5_checkHours.data.toList.drop 0 = dktX5_checkHours_0 := by decide +kernel
theorem dX5_checkHours_0 : decode cX5_checkHours 0 = .ok (.aload_n 0, 1) := dk_42 (dk_at dksX5_checkHours_0 0 rfl rfl)
theorem dX5_checkHours_1 : decode cX5_checkHours 1 = .ok (.getfield 18, 3) := dk_180 0 18 (dk_at dksX5_checkHours_0 1 rfl rfl)
theorem dX5_checkHours_4 : decode cX5_checkHours 4 = .ok (.iload_n 1, 1) := dk_27 (dk_at dksX5_checkHours_0 4 rfl rfl)
theorem dX5_checkHours_5 : decode cX5_checkHours 5 = .ok (.if_icmp .lt 7, 3) := dk_161 0 7 (dk_at dksX5_checkHours_0 5 rfl rfl)
theorem dX5_checkHours_8 : decode cX5_checkHours 8 = .ok (.iconst 1, 1) := dk_4 (dk_at dksX5_checkHours_0 8 rfl rfl)
theorem dX5_checkHours_9 : decode cX5_checkHours 9 = .ok (.goto 4, 3) := dk_167 0 4 (dk_at dksX5_checkHours_0 9 rfl rfl)
theorem dX5_checkHours_12 : decode cX5_checkHours 12 = .ok (.iconst 0, 1) := dk_3 (dk_at dksX5_checkHours_0 12 rfl rfl)
theorem dX5_checkHours_13 : decode cX5_checkHours 13 = .ok (.iconst 4, 1) := dk_7 (dk_at dksX5_checkHours_0 13 rfl rfl)
theorem dX5_checkHours_14 : decode cX5_checkHours 14 = .ok (.iload_n 1, 1) := dk_27 (dk_at dksX5_checkHours_0 14 rfl rfl)
theorem dX5_checkHours_15 : decode cX5_checkHours 15 = .ok (.aload_n 0, 1) := dk_42 (dk_at dksX5_checkHours_0 15 rfl rfl)
theorem dX5_checkHours_16 : decode cX5_checkHours 16 = .ok (.getfield 18, 3) := dk_180 0 18 (dk_at dksX5_checkHours_0 16 rfl rfl)
theorem dX5_checkHours_19 : decode cX5_checkHours 19 = .ok (.isub, 1) := dk_100 (dk_at dksX5_checkHours_0 19 rfl rfl)
theorem dX5_checkHours_20 : decode cX5_checkHours 20 = .ok (.invokestatic 40, 3) := dk_184 0 40 (dk_at dksX5_checkHours_0 20 rfl rfl)
theorem dX5_checkHours_23 : decode cX5_checkHours 23 = .ok (.return_, 1) := dk_177 (dk_at dksX5_checkHours_0 23 rfl rfl)
abbrev cX5_goesTo : ByteArray := prog_7_method_13_code
def yX5_goesTo : MethodName := ⟨RX5, "goesTo", "(LWhelkFleet$Place;)V"⟩
def dkwX5_goesTo_0 : List UInt8 := [42, 43, 181, 0, 12, 177]
abbrev dktX5_goesTo_0 : List UInt8 := dkwX5_goesTo_0 ++ []
theorem dksX5_goesTo_0 : cX5_goesTo.data.toList.drop 0 = dktX5_goesTo_0 := by decide +kernel
theorem dX5_goesTo_0 : decode cX5_goesTo 0 = .ok (.aload_n 0, 1) := dk_42 (dk_at dksX5_goesTo_0 0 rfl rfl)
theorem dX5_goesTo_1 : decode cX5_goesTo 1 = .ok (.aload_n 1, 1) := dk_43 (dk_at dksX5_goesTo_0 1 rfl rfl)
theorem dX5_goesTo_2 : decode cX5_goesTo 2 = .ok (.putfield 12, 3) := dk_181 0 12 (dk_at dksX5_goesTo_0 2 rfl rfl)
theorem dX5_goesTo_5 : decode cX5_goesTo 5 = .ok (.return_, 1) := dk_177 (dk_at dksX5_goesTo_0 5 rfl rfl)
abbrev cX5_works : ByteArray := prog_7_method_12_code
def yX5_works : MethodName := ⟨RX5, "works", "(I)I"⟩
def dkwX5_works_0 : List UInt8 := [42, 89, 180, 0, 18, 27, 100, 181, 0, 18, 42, 180, 0, 18, 172]
abbrev dktX5_works_0 : List UInt8 := dkwX5_works_0 ++ []
theorem dksX5_works_0 : cX5_works.data.toList.drop 0 = dktX5_works_0 := by decide +kernel
theorem dX5_works_0 : decode cX5_works 0 = .ok (.aload_n 0, 1) := dk_42 (dk_at dksX5_works_0 0 rfl rfl)
theorem dX5_works_1 : decode cX5_works 1 = .ok (.dup, 1) := dk_89 (dk_at dksX5_works_0 1 rfl rfl)
theorem dX5_works_2 : decode cX5_works 2 = .ok (.getfield 18, 3) := dk_180 0 18 (dk_at dksX5_works_0 2 rfl rfl)
theorem dX5_works_5 : decode cX5_works 5 = .ok (.iload_n 1, 1) := dk_27 (dk_at dksX5_works_0 5 rfl rfl)
theorem dX5_works_6 : decode cX5_works 6 = .ok (.isub, 1) := dk_100 (dk_at dksX5_works_0 6 rfl rfl)
theorem dX5_works_7 : decode cX5_works 7 = .ok (.putfield 18, 3) := dk_181 0 18 (dk_at dksX5_works_0 7 rfl rfl)
theorem dX5_works_10 : decode cX5_works 10 = .ok (.aload_n 0, 1) := dk_42 (dk_at dksX5_works_0 10 rfl rfl)
theorem dX5_works_11 : decode cX5_works 11 = .ok (.getfield 18, 3) := dk_180 0 18 (dk_at dksX5_works_0 11 rfl rfl)
theorem dX5_works_14 : decode cX5_works 14 = .ok (.ireturn, 1) := dk_172 (dk_at dksX5_works_0 14 rfl rfl)
abbrev cX5_holds : ByteArray := prog_7_method_15_code
def yX5_holds : MethodName := ⟨RX5, "holds", "(II)V"⟩
def dkwX5_holds_1 : List UInt8 := [180, 0, 37, 4, 96, 181, 0, 37, 177]
abbrev dktX5_holds_1 : List UInt8 := dkwX5_holds_1 ++ []
def dkwX5_holds_0 : List UInt8 := [42, 89, 180, 0, 28, 27, 96, 181, 0, 28, 42, 89, 180, 0, 31, 28, 96, 181, 0, 31, 42, 89]
abbrev dktX5_holds_0 : List UInt8 := dkwX5_holds_0 ++ dktX5_holds_1
theorem dksX5_holds_0 : cX5_holds.data.toList.drop 0 = dktX5_holds_0 := by decide +kernel
theorem dksX5_holds_1 : cX5_holds.data.toList.drop 22 = dktX5_holds_1 := dk_seg dksX5_holds_0 22 rfl rfl
theorem dX5_holds_0 : decode cX5_holds 0 = .ok (.aload_n 0, 1) := dk_42 (dk_at dksX5_holds_0 0 rfl rfl)
theorem dX5_holds_1 : decode cX5_holds 1 = .ok (.dup, 1) := dk_89 (dk_at dksX5_holds_0 1 rfl rfl)
theorem dX5_holds_2 : decode cX5_holds 2 = .ok (.getfield 28, 3) := dk_180 0 28 (dk_at dksX5_holds_0 2 rfl rfl)
theorem dX5_holds_5 : decode cX5_holds 5 = .ok (.iload_n 1, 1) := dk_27 (dk_at dksX5_holds_0 5 rfl rfl)
theorem dX5_holds_6 : decode cX5_holds 6 = .ok (.iadd, 1) := dk_96 (dk_at dksX5_holds_0 6 rfl rfl)
theorem dX5_holds_7 : decode cX5_holds 7 = .ok (.putfield 28, 3) := dk_181 0 28 (dk_at dksX5_holds_0 7 rfl rfl)
theorem dX5_holds_10 : decode cX5_holds 10 = .ok (.aload_n 0, 1) := dk_42 (dk_at dksX5_holds_0 10 rfl rfl)
theorem dX5_holds_11 : decode cX5_holds 11 = .ok (.dup, 1) := dk_89 (dk_at dksX5_holds_0 11 rfl rfl)
theorem dX5_holds_12 : decode cX5_holds 12 = .ok (.getfield 31, 3) := dk_180 0 31 (dk_at dksX5_holds_0 12 rfl rfl)
theorem dX5_holds_15 : decode cX5_holds 15 = .ok (.iload_n 2, 1) := dk_28 (dk_at dksX5_holds_0 15 rfl rfl)
theorem dX5_holds_16 : decode cX5_holds 16 = .ok (.iadd, 1) := dk_96 (dk_at dksX5_holds_0 16 rfl rfl)
theorem dX5_holds_17 : decode cX5_holds 17 = .ok (.putfield 31, 3) := dk_181 0 31 (dk_at dksX5_holds_0 17 rfl rfl)
theorem dX5_holds_20 : decode cX5_holds 20 = .ok (.aload_n 0, 1) := dk_42 (dk_at dksX5_holds_0 20 rfl rfl)
theorem dX5_holds_21 : decode cX5_holds 21 = .ok (.dup, 1) := dk_89 (dk_at dksX5_holds_0 21 rfl rfl)
theorem dX5_holds_22 : decode cX5_holds 22 = .ok (.getfield 37, 3) := dk_180 0 37 (dk_at dksX5_holds_1 0 rfl rfl)
theorem dX5_holds_25 : decode cX5_holds 25 = .ok (.iconst 1, 1) := dk_4 (dk_at dksX5_holds_1 3 rfl rfl)
theorem dX5_holds_26 : decode cX5_holds 26 = .ok (.iadd, 1) := dk_96 (dk_at dksX5_holds_1 4 rfl rfl)
theorem dX5_holds_27 : decode cX5_holds 27 = .ok (.putfield 37, 3) := dk_181 0 37 (dk_at dksX5_holds_1 5 rfl rfl)
theorem dX5_holds_30 : decode cX5_holds 30 = .ok (.return_, 1) := dk_177 (dk_at dksX5_holds_1 8 rfl rfl)
abbrev cX5_shells : ByteArray := prog_7_method_8_code
def yX5_shells : MethodName := ⟨RX5, "shells", "()I"⟩
def dkwX5_shells_0 : List UInt8 := [42, 180, 0, 28, 42, 180, 0, 31, 96, 172]
abbrev dktX5_shells_0 : List UInt8 := dkwX5_shells_0 ++ []
theorem dksX5_shells_0 : cX5_shells.data.toList.drop 0 = dktX5_shells_0 := by decide +kernel
theorem dX5_shells_0 : decode cX5_shells 0 = .ok (.aload_n 0, 1) := dk_42 (dk_at dksX5_shells_0 0 rfl rfl)
theorem dX5_shells_1 : decode cX5_shells 1 = .ok (.getfield 28, 3) := dk_180 0 28 (dk_at dksX5_shells_0 1 rfl rfl)
theorem dX5_shells_4 : decode cX5_shells 4 = .ok (.aload_n 0, 1) := dk_42 (dk_at dksX5_shells_0 4 rfl rfl)
theorem dX5_shells_5 : decode cX5_shells 5 = .ok (.getfield 31, 3) := dk_180 0 31 (dk_at dksX5_shells_0 5 rfl rfl)
theorem dX5_shells_8 : decode cX5_shells 8 = .ok (.iadd, 1) := dk_96 (dk_at dksX5_shells_0 8 rfl rfl)
theorem dX5_shells_9 : decode cX5_shells 9 = .ok (.ireturn, 1) := dk_172 (dk_at dksX5_shells_0 9 rfl rfl)
abbrev cX5_middle : ByteArray := prog_7_method_6_code
def yX5_middle : MethodName := ⟨RX5, "middle", "()I"⟩
theorem dX5_middle_0 : decode cX5_middle 0 = .ok (.aload_n 0, 1) := by decide +kernel
theorem dX5_middle_1 : decode cX5_middle 1 = .ok (.getfield 28, 3) := by decide +kernel
theorem dX5_middle_4 : decode cX5_middle 4 = .ok (.ireturn, 1) := by decide +kernel
abbrev cX5_large : ByteArray := prog_7_method_7_code
def yX5_large : MethodName := ⟨RX5, "large", "()I"⟩
theorem dX5_large_0 : decode cX5_large 0 = .ok (.aload_n 0, 1) := by decide +kernel
theorem dX5_large_1 : decode cX5_large 1 = .ok (.getfield 31, 3) := by decide +kernel
theorem dX5_large_4 : decode cX5_large 4 = .ok (.ireturn, 1) := by decide +kernel
abbrev cX5_lands : ByteArray := prog_7_method_16_code
def yX5_lands : MethodName := ⟨RX5, "lands", "()I"⟩
def dkwX5_lands_2 : List UInt8 := [28, 96, 96, 181, 0, 34, 16, 8, 27, 104, 16, 12, 28, 104, 96, 172]
abbrev dktX5_lands_2 : List UInt8 := dkwX5_lands_2 ++ []
def dkwX5_lands_1 : List UInt8 := [104, 100, 181, 0, 28, 42, 89, 180, 0, 31, 16, 25, 28, 104, 100, 181, 0, 31, 42, 89, 180, 0, 34, 27]
abbrev dktX5_lands_1 : List UInt8 := dkwX5_lands_1 ++ dktX5_lands_2
def dkwX5_lands_0 : List UInt8 := [42, 180, 0, 28, 16, 25, 108, 60, 42, 180, 0, 31, 16, 25, 108, 61, 42, 89, 180, 0, 28, 16, 25, 27]
abbrev dktX5_lands_0 : List UInt8 := dkwX5_lands_0 ++ dktX5_lands_1
theorem dksX5_lands_0 : cX5_lands.data.toList.drop 0 = dktX5_lands_0 := by decide +kernel
theorem dksX5_lands_1 : cX5_lands.data.toList.drop 24 = dktX5_lands_1 := dk_seg dksX5_lands_0 24 rfl rfl
theorem dksX5_lands_2 : cX5_lands.data.toList.drop 48 = dktX5_lands_2 := dk_seg dksX5_lands_1 24 rfl rfl
theorem dX5_lands_0 : decode cX5_lands 0 = .ok (.aload_n 0, 1) := dk_42 (dk_at dksX5_lands_0 0 rfl rfl)
theorem dX5_lands_1 : decode cX5_lands 1 = .ok (.getfield 28, 3) := dk_180 0 28 (dk_at dksX5_lands_0 1 rfl rfl)
theorem dX5_lands_4 : decode cX5_lands 4 = .ok (.bipush 25, 2) := dk_16 25 (dk_at dksX5_lands_0 4 rfl rfl)
theorem dX5_lands_6 : decode cX5_lands 6 = .ok (.idiv, 1) := dk_108 (dk_at dksX5_lands_0 6 rfl rfl)
theorem dX5_lands_7 : decode cX5_lands 7 = .ok (.istore_n 1, 1) := dk_60 (dk_at dksX5_lands_0 7 rfl rfl)
theorem dX5_lands_8 : decode cX5_lands 8 = .ok (.aload_n 0, 1) := dk_42 (dk_at dksX5_lands_0 8 rfl rfl)
theorem dX5_lands_9 : decode cX5_lands 9 = .ok (.getfield 31, 3) := dk_180 0 31 (dk_at dksX5_lands_0 9 rfl rfl)
theorem dX5_lands_12 : decode cX5_lands 12 = .ok (.bipush 25, 2) := dk_16 25 (dk_at dksX5_lands_0 12 rfl rfl)
theorem dX5_lands_14 : decode cX5_lands 14 = .ok (.idiv, 1) := dk_108 (dk_at dksX5_lands_0 14 rfl rfl)
theorem dX5_lands_15 : decode cX5_lands 15 = .ok (.istore_n 2, 1) := dk_61 (dk_at dksX5_lands_0 15 rfl rfl)
theorem dX5_lands_16 : decode cX5_lands 16 = .ok (.aload_n 0, 1) := dk_42 (dk_at dksX5_lands_0 16 rfl rfl)
theorem dX5_lands_17 : decode cX5_lands 17 = .ok (.dup, 1) := dk_89 (dk_at dksX5_lands_0 17 rfl rfl)
theorem dX5_lands_18 : decode cX5_lands 18 = .ok (.getfield 28, 3) := dk_180 0 28 (dk_at dksX5_lands_0 18 rfl rfl)
theorem dX5_lands_21 : decode cX5_lands 21 = .ok (.bipush 25, 2) := dk_16 25 (dk_at dksX5_lands_0 21 rfl rfl)
theorem dX5_lands_23 : decode cX5_lands 23 = .ok (.iload_n 1, 1) := dk_27 (dk_at dksX5_lands_0 23 rfl rfl)
theorem dX5_lands_24 : decode cX5_lands 24 = .ok (.imul, 1) := dk_104 (dk_at dksX5_lands_1 0 rfl rfl)
theorem dX5_lands_25 : decode cX5_lands 25 = .ok (.isub, 1) := dk_100 (dk_at dksX5_lands_1 1 rfl rfl)
theorem dX5_lands_26 : decode cX5_lands 26 = .ok (.putfield 28, 3) := dk_181 0 28 (dk_at dksX5_lands_1 2 rfl rfl)
theorem dX5_lands_29 : decode cX5_lands 29 = .ok (.aload_n 0, 1) := dk_42 (dk_at dksX5_lands_1 5 rfl rfl)
theorem dX5_lands_30 : decode cX5_lands 30 = .ok (.dup, 1) := dk_89 (dk_at dksX5_lands_1 6 rfl rfl)
theorem dX5_lands_31 : decode cX5_lands 31 = .ok (.getfield 31, 3) := dk_180 0 31 (dk_at dksX5_lands_1 7 rfl rfl)
theorem dX5_lands_34 : decode cX5_lands 34 = .ok (.bipush 25, 2) := dk_16 25 (dk_at dksX5_lands_1 10 rfl rfl)
theorem dX5_lands_36 : decode cX5_lands 36 = .ok (.iload_n 2, 1) := dk_28 (dk_at dksX5_lands_1 12 rfl rfl)
theorem dX5_lands_37 : decode cX5_lands 37 = .ok (.imul, 1) := dk_104 (dk_at dksX5_lands_1 13 rfl rfl)
theorem dX5_lands_38 : decode cX5_lands 38 = .ok (.isub, 1) := dk_100 (dk_at dksX5_lands_1 14 rfl rfl)
theorem dX5_lands_39 : decode cX5_lands 39 = .ok (.putfield 31, 3) := dk_181 0 31 (dk_at dksX5_lands_1 15 rfl rfl)
theorem dX5_lands_42 : decode cX5_lands 42 = .ok (.aload_n 0, 1) := dk_42 (dk_at dksX5_lands_1 18 rfl rfl)
theorem dX5_lands_43 : decode cX5_lands 43 = .ok (.dup, 1) := dk_89 (dk_at dksX5_lands_1 19 rfl rfl)
theorem dX5_lands_44 : decode cX5_lands 44 = .ok (.getfield 34, 3) := dk_180 0 34 (dk_at dksX5_lands_1 20 rfl rfl)
theorem dX5_lands_47 : decode cX5_lands 47 = .ok (.iload_n 1, 1) := dk_27 (dk_at dksX5_lands_1 23 rfl rfl)
theorem dX5_lands_48 : decode cX5_lands 48 = .ok (.iload_n 2, 1) := dk_28 (dk_at dksX5_lands_2 0 rfl rfl)
theorem dX5_lands_49 : decode cX5_lands 49 = .ok (.iadd, 1) := dk_96 (dk_at dksX5_lands_2 1 rfl rfl)
theorem dX5_lands_50 : decode cX5_lands 50 = .ok (.iadd, 1) := dk_96 (dk_at dksX5_lands_2 2 rfl rfl)
theorem dX5_lands_51 : decode cX5_lands 51 = .ok (.putfield 34, 3) := dk_181 0 34 (dk_at dksX5_lands_2 3 rfl rfl)
theorem dX5_lands_54 : decode cX5_lands 54 = .ok (.bipush 8, 2) := dk_16 8 (dk_at dksX5_lands_2 6 rfl rfl)
theorem dX5_lands_56 : decode cX5_lands 56 = .ok (.iload_n 1, 1) := dk_27 (dk_at dksX5_lands_2 8 rfl rfl)
theorem dX5_lands_57 : decode cX5_lands 57 = .ok (.imul, 1) := dk_104 (dk_at dksX5_lands_2 9 rfl rfl)
theorem dX5_lands_58 : decode cX5_lands 58 = .ok (.bipush 12, 2) := dk_16 12 (dk_at dksX5_lands_2 10 rfl rfl)
theorem dX5_lands_60 : decode cX5_lands 60 = .ok (.iload_n 2, 1) := dk_28 (dk_at dksX5_lands_2 12 rfl rfl)
theorem dX5_lands_61 : decode cX5_lands 61 = .ok (.imul, 1) := dk_104 (dk_at dksX5_lands_2 13 rfl rfl)
theorem dX5_lands_62 : decode cX5_lands 62 = .ok (.iadd, 1) := dk_96 (dk_at dksX5_lands_2 14 rfl rfl)
theorem dX5_lands_63 : decode cX5_lands 63 = .ok (.ireturn, 1) := dk_172 (dk_at dksX5_lands_2 15 rfl rfl)
abbrev cX5_dayBegins : ByteArray := prog_7_method_14_code
def yX5_dayBegins : MethodName := ⟨RX5, "dayBegins", "()V"⟩
def dkwX5_dayBegins_0 : List UInt8 := [42, 187, 0, 9, 89, 183, 0, 11, 181, 0, 12, 42, 16, 10, 181, 0, 18, 177]
abbrev dktX5_dayBegins_0 : List UInt8 := dkwX5_dayBegins_0 ++ []
theorem dksX5_dayBegins_0 : cX5_dayBegins.data.toList.drop 0 = dktX5_dayBegins_0 := by decide +kernel
theorem dX5_dayBegins_0 : decode cX5_dayBegins 0 = .ok (.aload_n 0, 1) := dk_42 (dk_at dksX5_dayBegins_0 0 rfl rfl)
theorem dX5_dayBegins_1 : decode cX5_dayBegins 1 = .ok (.new 9, 3) := dk_187 0 9 (dk_at dksX5_dayBegins_0 1 rfl rfl)
theorem dX5_dayBegins_4 : decode cX5_dayBegins 4 = .ok (.dup, 1) := dk_89 (dk_at dksX5_dayBegins_0 4 rfl rfl)
theorem dX5_dayBegins_5 : decode cX5_dayBegins 5 = .ok (.invokespecial 11, 3) := dk_183 0 11 (dk_at dksX5_dayBegins_0 5 rfl rfl)
theorem dX5_dayBegins_8 : decode cX5_dayBegins 8 = .ok (.putfield 12, 3) := dk_181 0 12 (dk_at dksX5_dayBegins_0 8 rfl rfl)
theorem dX5_dayBegins_11 : decode cX5_dayBegins 11 = .ok (.aload_n 0, 1) := dk_42 (dk_at dksX5_dayBegins_0 11 rfl rfl)
theorem dX5_dayBegins_12 : decode cX5_dayBegins 12 = .ok (.bipush 10, 2) := dk_16 10 (dk_at dksX5_dayBegins_0 12 rfl rfl)
theorem dX5_dayBegins_14 : decode cX5_dayBegins 14 = .ok (.putfield 18, 3) := dk_181 0 18 (dk_at dksX5_dayBegins_0 14 rfl rfl)
theorem dX5_dayBegins_17 : decode cX5_dayBegins 17 = .ok (.return_, 1) := dk_177 (dk_at dksX5_dayBegins_0 17 rfl rfl)
abbrev cX5_hours : ByteArray := prog_7_method_5_code
def yX5_hours : MethodName := ⟨RX5, "hours", "()I"⟩
theorem dX5_hours_0 : decode cX5_hours 0 = .ok (.aload_n 0, 1) := by decide +kernel
theorem dX5_hours_1 : decode cX5_hours 1 = .ok (.getfield 18, 3) := by decide +kernel
theorem dX5_hours_4 : decode cX5_hours 4 = .ok (.ireturn, 1) := by decide +kernel
abbrev cX5_sacks : ByteArray := prog_7_method_9_code
def yX5_sacks : MethodName := ⟨RX5, "sacks", "()I"⟩
theorem dX5_sacks_0 : decode cX5_sacks 0 = .ok (.aload_n 0, 1) := by decide +kernel
theorem dX5_sacks_1 : decode cX5_sacks 1 = .ok (.getfield 34, 3) := by decide +kernel
theorem dX5_sacks_4 : decode cX5_sacks 4 = .ok (.ireturn, 1) := by decide +kernel
abbrev cX5_hauled : ByteArray := prog_7_method_10_code
def yX5_hauled : MethodName := ⟨RX5, "hauled", "()I"⟩
theorem dX5_hauled_0 : decode cX5_hauled 0 = .ok (.aload_n 0, 1) := by decide +kernel
theorem dX5_hauled_1 : decode cX5_hauled 1 = .ok (.getfield 37, 3) := by decide +kernel
theorem dX5_hauled_4 : decode cX5_hauled 4 = .ok (.ireturn, 1) := by decide +kernel
abbrev cX5_write : ByteArray := prog_7_method_17_code
def yX5_write : MethodName := ⟨RX5, "write", "(Ljava/lang/StringBuilder;)V"⟩
def dkwX5_write_4 : List UInt8 := [182, 0, 63, 87, 177]
abbrev dktX5_write_4 : List UInt8 := dkwX5_write_4 ++ []
def dkwX5_write_3 : List UInt8 := [182, 0, 63, 42, 180, 0, 28, 182, 0, 58, 16, 109, 182, 0, 63, 42, 180, 0, 31, 182, 0, 58, 16, 108]
abbrev dktX5_write_3 : List UInt8 := dkwX5_write_3 ++ dktX5_write_4
def dkwX5_write_2 : List UInt8 := [180, 0, 18, 182, 0, 58, 16, 104, 182, 0, 63, 87, 42, 182, 0, 66, 158, 0, 34, 43, 16, 32]
abbrev dktX5_write_2 : List UInt8 := dkwX5_write_2 ++ dktX5_write_3
def dkwX5_write_1 : List UInt8 := [182, 0, 54, 182, 0, 58, 87, 167, 0, 10, 43, 18, 61, 182, 0, 48, 87, 43, 16, 32, 182, 0, 63, 42]
abbrev dktX5_write_1 : List UInt8 := dkwX5_write_1 ++ dktX5_write_2
def dkwX5_write_0 : List UInt8 := [42, 180, 0, 12, 78, 45, 193, 0, 44, 153, 0, 25, 45, 192, 0, 44, 77, 43, 18, 46, 182, 0, 48, 44]
abbrev dktX5_write_0 : List UInt8 := dkwX5_write_0 ++ dktX5_write_1
theorem dksX5_write_0 : cX5_write.data.toList.drop 0 = dktX5_write_0 := by decide +kernel
theorem dksX5_write_1 : cX5_write.data.toList.drop 24 = dktX5_write_1 := dk_seg dksX5_write_0 24 rfl rfl
theorem dksX5_write_2 : cX5_write.data.toList.drop 48 = dktX5_write_2 := dk_seg dksX5_write_1 24 rfl rfl
theorem dksX5_write_3 : cX5_write.data.toList.drop 70 = dktX5_write_3 := dk_seg dksX5_write_2 22 rfl rfl
theorem dksX5_write_4 : cX5_write.data.toList.drop 94 = dktX5_write_4 := dk_seg dksX5_write_3 24 rfl rfl
theorem dX5_write_0 : decode cX5_write 0 = .ok (.aload_n 0, 1) := dk_42 (dk_at dksX5_write_0 0 rfl rfl)
theorem dX5_write_1 : decode cX5_write 1 = .ok (.getfield 12, 3) := dk_180 0 12 (dk_at dksX5_write_0 1 rfl rfl)
theorem dX5_write_4 : decode cX5_write 4 = .ok (.astore_n 3, 1) := dk_78 (dk_at dksX5_write_0 4 rfl rfl)
theorem dX5_write_5 : decode cX5_write 5 = .ok (.aload_n 3, 1) := dk_45 (dk_at dksX5_write_0 5 rfl rfl)
theorem dX5_write_6 : decode cX5_write 6 = .ok (.instanceof 44, 3) := dk_193 0 44 (dk_at dksX5_write_0 6 rfl rfl)
theorem dX5_write_9 : decode cX5_write 9 = .ok (.ifCond .eq 25, 3) := dk_153 0 25 (dk_at dksX5_write_0 9 rfl rfl)
theorem dX5_write_12 : decode cX5_write 12 = .ok (.aload_n 3, 1) := dk_45 (dk_at dksX5_write_0 12 rfl rfl)
theorem dX5_write_13 : decode cX5_write 13 = .ok (.checkcast 44, 3) := dk_192 0 44 (dk_at dksX5_write_0 13 rfl rfl)
theorem dX5_write_16 : decode cX5_write 16 = .ok (.astore_n 2, 1) := dk_77 (dk_at dksX5_write_0 16 rfl rfl)
theorem dX5_write_17 : decode cX5_write 17 = .ok (.aload_n 1, 1) := dk_43 (dk_at dksX5_write_0 17 rfl rfl)
theorem dX5_write_18 : decode cX5_write 18 = .ok (.ldc 46, 2) := dk_18 46 (dk_at dksX5_write_0 18 rfl rfl)
theorem dX5_write_20 : decode cX5_write 20 = .ok (.invokevirtual 48, 3) := dk_182 0 48 (dk_at dksX5_write_0 20 rfl rfl)
theorem dX5_write_23 : decode cX5_write 23 = .ok (.aload_n 2, 1) := dk_44 (dk_at dksX5_write_0 23 rfl rfl)
theorem dX5_write_24 : decode cX5_write 24 = .ok (.invokevirtual 54, 3) := dk_182 0 54 (dk_at dksX5_write_1 0 rfl rfl)
theorem dX5_write_27 : decode cX5_write 27 = .ok (.invokevirtual 58, 3) := dk_182 0 58 (dk_at dksX5_write_1 3 rfl rfl)
theorem dX5_write_30 : decode cX5_write 30 = .ok (.pop, 1) := dk_87 (dk_at dksX5_write_1 6 rfl rfl)
theorem dX5_write_31 : decode cX5_write 31 = .ok (.goto 10, 3) := dk_167 0 10 (dk_at dksX5_write_1 7 rfl rfl)
theorem dX5_write_34 : decode cX5_write 34 = .ok (.aload_n 1, 1) := dk_43 (dk_at dksX5_write_1 10 rfl rfl)
theorem dX5_write_35 : decode cX5_write 35 = .ok (.ldc 61, 2) := dk_18 61 (dk_at dksX5_write_1 11 rfl rfl)
theorem dX5_write_37 : decode cX5_write 37 = .ok (.invokevirtual 48, 3) := dk_182 0 48 (dk_at dksX5_write_1 13 rfl rfl)
theorem dX5_write_40 : decode cX5_write 40 = .ok (.pop, 1) := dk_87 (dk_at dksX5_write_1 16 rfl rfl)
theorem dX5_write_41 : decode cX5_write 41 = .ok (.aload_n 1, 1) := dk_43 (dk_at dksX5_write_1 17 rfl rfl)
theorem dX5_write_42 : decode cX5_write 42 = .ok (.bipush 32, 2) := dk_16 32 (dk_at dksX5_write_1 18 rfl rfl)
theorem dX5_write_44 : decode cX5_write 44 = .ok (.invokevirtual 63, 3) := dk_182 0 63 (dk_at dksX5_write_1 20 rfl rfl)
theorem dX5_write_47 : decode cX5_write 47 = .ok (.aload_n 0, 1) := dk_42 (dk_at dksX5_write_1 23 rfl rfl)
theorem dX5_write_48 : decode cX5_write 48 = .ok (.getfield 18, 3) := dk_180 0 18 (dk_at dksX5_write_2 0 rfl rfl)
theorem dX5_write_51 : decode cX5_write 51 = .ok (.invokevirtual 58, 3) := dk_182 0 58 (dk_at dksX5_write_2 3 rfl rfl)
theorem dX5_write_54 : decode cX5_write 54 = .ok (.bipush 104, 2) := dk_16 104 (dk_at dksX5_write_2 6 rfl rfl)
theorem dX5_write_56 : decode cX5_write 56 = .ok (.invokevirtual 63, 3) := dk_182 0 63 (dk_at dksX5_write_2 8 rfl rfl)
theorem dX5_write_59 : decode cX5_write 59 = .ok (.pop, 1) := dk_87 (dk_at dksX5_write_2 11 rfl rfl)
theorem dX5_write_60 : decode cX5_write 60 = .ok (.aload_n 0, 1) := dk_42 (dk_at dksX5_write_2 12 rfl rfl)
theorem dX5_write_61 : decode cX5_write 61 = .ok (.invokevirtual 66, 3) := dk_182 0 66 (dk_at dksX5_write_2 13 rfl rfl)
theorem dX5_write_64 : decode cX5_write 64 = .ok (.ifCond .le 34, 3) := dk_158 0 34 (dk_at dksX5_write_2 16 rfl rfl)
theorem dX5_write_67 : decode cX5_write 67 = .ok (.aload_n 1, 1) := dk_43 (dk_at dksX5_write_2 19 rfl rfl)
theorem dX5_write_68 : decode cX5_write 68 = .ok (.bipush 32, 2) := dk_16 32 (dk_at dksX5_write_2 20 rfl rfl)
theorem dX5_write_70 : decode cX5_write 70 = .ok (.invokevirtual 63, 3) := dk_182 0 63 (dk_at dksX5_write_3 0 rfl rfl)
theorem dX5_write_73 : decode cX5_write 73 = .ok (.aload_n 0, 1) := dk_42 (dk_at dksX5_write_3 3 rfl rfl)
theorem dX5_write_74 : decode cX5_write 74 = .ok (.getfield 28, 3) := dk_180 0 28 (dk_at dksX5_write_3 4 rfl rfl)
theorem dX5_write_77 : decode cX5_write 77 = .ok (.invokevirtual 58, 3) := dk_182 0 58 (dk_at dksX5_write_3 7 rfl rfl)
theorem dX5_write_80 : decode cX5_write 80 = .ok (.bipush 109, 2) := dk_16 109 (dk_at dksX5_write_3 10 rfl rfl)
theorem dX5_write_82 : decode cX5_write 82 = .ok (.invokevirtual 63, 3) := dk_182 0 63 (dk_at dksX5_write_3 12 rfl rfl)
theorem dX5_write_85 : decode cX5_write 85 = .ok (.aload_n 0, 1) := dk_42 (dk_at dksX5_write_3 15 rfl rfl)
theorem dX5_write_86 : decode cX5_write 86 = .ok (.getfield 31, 3) := dk_180 0 31 (dk_at dksX5_write_3 16 rfl rfl)
theorem dX5_write_89 : decode cX5_write 89 = .ok (.invokevirtual 58, 3) := dk_182 0 58 (dk_at dksX5_write_3 19 rfl rfl)
theorem dX5_write_92 : decode cX5_write 92 = .ok (.bipush 108, 2) := dk_16 108 (dk_at dksX5_write_3 22 rfl rfl)
theorem dX5_write_94 : decode cX5_write 94 = .ok (.invokevirtual 63, 3) := dk_182 0 63 (dk_at dksX5_write_4 0 rfl rfl)
theorem dX5_write_97 : decode cX5_write 97 = .ok (.pop, 1) := dk_87 (dk_at dksX5_write_4 3 rfl rfl)
theorem dX5_write_98 : decode cX5_write 98 = .ok (.return_, 1) := dk_177 (dk_at dksX5_write_4 4 rfl rfl)
theorem q112 : (Jvm.Cond.initialized "WhelkFleet$Boat") ∈ lw_all := lw_g (lw_at lw_m1 36 rfl) rfl
theorem q267 : (Jvm.Cond.selects "WhelkFleet$Boat" ({ cls := "java/lang/Object", name := "getClass", desc := "()Ljava/lang/Class;" } : Jvm.MethodName) ({ cls := "java/lang/Object", name := "getClass", desc := "()Ljava/lang/Class;" } : Jvm.MethodName)) ∈ lw_all := lw_g (lw_at lw_m1 191 rfl) rfl
theorem q1130 : (Jvm.Cond.instanceMethod ({ cls := "WhelkFleet$Boat", name := "copy", desc := "()LWhelkFleet$Boat;" } : Jvm.MethodName)) ∈ lw_all := lw_g (lw_at lw_m5 94 rfl) rfl
theorem q1131 : (Jvm.Cond.selects "WhelkFleet$Boat" ({ cls := "WhelkFleet$Boat", name := "copy", desc := "()LWhelkFleet$Boat;" } : Jvm.MethodName) ({ cls := "WhelkFleet$Boat", name := "copy", desc := "()LWhelkFleet$Boat;" } : Jvm.MethodName)) ∈ lw_all := lw_g (lw_at lw_m5 95 rfl) rfl
theorem q1132 : (Jvm.Cond.code ({ cls := "WhelkFleet$Boat", name := "copy", desc := "()LWhelkFleet$Boat;" } : Jvm.MethodName) prog_7_method_2_code (2 : Nat) (Option.some (Jvm.ClassFile.FieldType.object "WhelkFleet$Boat"))) ∈ lw_all := lw_g (lw_at lw_m5 96 rfl) rfl
theorem q1133 : (Jvm.Cond.classLink "WhelkFleet$Boat" (13 : Nat) "WhelkFleet$Boat") ∈ lw_all := lw_g (lw_at lw_m5 97 rfl) rfl
theorem q1134 : (Jvm.Cond.instantiable "WhelkFleet$Boat" (7 : Nat)) ∈ lw_all := lw_g (lw_at lw_m5 98 rfl) rfl
theorem q1135 : (Jvm.Cond.methodLink "WhelkFleet$Boat" (25 : Nat) ({ cls := "WhelkFleet$Boat", name := "<init>", desc := "(I)V" } : Jvm.MethodName)) ∈ lw_all := lw_g (lw_at lw_m5 99 rfl) rfl
theorem q1136 : (Jvm.Cond.instanceMethod ({ cls := "WhelkFleet$Boat", name := "<init>", desc := "(I)V" } : Jvm.MethodName)) ∈ lw_all := lw_g (lw_at lw_m5 100 rfl) rfl
theorem q1137 : (Jvm.Cond.code ({ cls := "WhelkFleet$Boat", name := "<init>", desc := "(I)V" } : Jvm.MethodName) prog_7_method_1_code (2 : Nat) (Option.none : Option Jvm.ClassFile.FieldType)) ∈ lw_all := lw_g (lw_at lw_m5 101 rfl) rfl
theorem q1138 : (Jvm.Cond.methodLink "WhelkFleet$Boat" (3 : Nat) ({ cls := "java/lang/Object", name := "<init>", desc := "()V" } : Jvm.MethodName)) ∈ lw_all := lw_g (lw_at lw_m5 102 rfl) rfl
theorem q1139 : (Jvm.Cond.classLink "WhelkFleet$Boat" (9 : Nat) "WhelkFleet$Ashore") ∈ lw_all := lw_g (lw_at lw_m5 103 rfl) rfl
theorem q1141 : (Jvm.Cond.methodLinkNest "WhelkFleet$Boat" (11 : Nat) ({ cls := "WhelkFleet$Ashore", name := "<init>", desc := "()V" } : Jvm.MethodName) "WhelkFleet") ∈ lw_tbl := lw_at lw_m5 105 rfl
theorem q1146 : (Jvm.Cond.fieldLink "WhelkFleet$Boat" (22 : Nat) "WhelkFleet$Boat" "bound" "I") ∈ lw_all := lw_g (lw_at lw_m5 110 rfl) rfl
theorem q1147 : (Jvm.Cond.fieldLink "WhelkFleet$Boat" (12 : Nat) "WhelkFleet$Boat" "place" "LWhelkFleet$Place;") ∈ lw_all := lw_g (lw_at lw_m5 111 rfl) rfl
theorem q1148 : (Jvm.Cond.fieldLink "WhelkFleet$Boat" (18 : Nat) "WhelkFleet$Boat" "hours" "I") ∈ lw_all := lw_g (lw_at lw_m5 112 rfl) rfl
theorem q1149 : (Jvm.Cond.fieldLink "WhelkFleet$Boat" (28 : Nat) "WhelkFleet$Boat" "middle" "I") ∈ lw_all := lw_g (lw_at lw_m5 113 rfl) rfl
theorem q1150 : (Jvm.Cond.fieldLink "WhelkFleet$Boat" (31 : Nat) "WhelkFleet$Boat" "large" "I") ∈ lw_all := lw_g (lw_at lw_m5 114 rfl) rfl
theorem q1151 : (Jvm.Cond.fieldLink "WhelkFleet$Boat" (34 : Nat) "WhelkFleet$Boat" "sacks" "I") ∈ lw_all := lw_g (lw_at lw_m5 115 rfl) rfl
theorem q1152 : (Jvm.Cond.fieldLink "WhelkFleet$Boat" (37 : Nat) "WhelkFleet$Boat" "hauled" "I") ∈ lw_all := lw_g (lw_at lw_m5 116 rfl) rfl
theorem q1153 : (Jvm.Cond.laysFinal "WhelkFleet$Boat" "WhelkFleet$Boat" "bound" "I") ∈ lw_all := lw_g (lw_at lw_m5 117 rfl) rfl
theorem q1154 : (Jvm.Cond.soleField "WhelkFleet$Boat" "bound") ∈ lw_all := lw_g (lw_at lw_m5 118 rfl) rfl
theorem q1155 : (Jvm.Cond.lays "WhelkFleet$Boat" "WhelkFleet$Boat" "place" "LWhelkFleet$Place;") ∈ lw_all := lw_g (lw_at lw_m5 119 rfl) rfl
theorem q1156 : (Jvm.Cond.soleField "WhelkFleet$Boat" "place") ∈ lw_all := lw_g (lw_at lw_m5 120 rfl) rfl
theorem q1157 : (Jvm.Cond.lays "WhelkFleet$Boat" "WhelkFleet$Boat" "hours" "I") ∈ lw_all := lw_g (lw_at lw_m5 121 rfl) rfl
theorem q1158 : (Jvm.Cond.soleField "WhelkFleet$Boat" "hours") ∈ lw_all := lw_g (lw_at lw_m5 122 rfl) rfl
theorem q1159 : (Jvm.Cond.lays "WhelkFleet$Boat" "WhelkFleet$Boat" "middle" "I") ∈ lw_all := lw_g (lw_at lw_m5 123 rfl) rfl
theorem q1160 : (Jvm.Cond.soleField "WhelkFleet$Boat" "middle") ∈ lw_all := lw_g (lw_at lw_m5 124 rfl) rfl
theorem q1161 : (Jvm.Cond.lays "WhelkFleet$Boat" "WhelkFleet$Boat" "large" "I") ∈ lw_all := lw_g (lw_at lw_m5 125 rfl) rfl
theorem q1162 : (Jvm.Cond.soleField "WhelkFleet$Boat" "large") ∈ lw_all := lw_g (lw_at lw_m5 126 rfl) rfl
theorem q1163 : (Jvm.Cond.lays "WhelkFleet$Boat" "WhelkFleet$Boat" "sacks" "I") ∈ lw_all := lw_g (lw_at lw_m5 127 rfl) rfl
theorem q1164 : (Jvm.Cond.soleField "WhelkFleet$Boat" "sacks") ∈ lw_all := lw_g (lw_at lw_m5 128 rfl) rfl
theorem q1165 : (Jvm.Cond.lays "WhelkFleet$Boat" "WhelkFleet$Boat" "hauled" "I") ∈ lw_all := lw_g (lw_at lw_m5 129 rfl) rfl
theorem q1166 : (Jvm.Cond.soleField "WhelkFleet$Boat" "hauled") ∈ lw_all := lw_g (lw_at lw_m5 130 rfl) rfl
theorem q1167 : (Jvm.Cond.superclass "WhelkFleet$Boat" "java/lang/Object") ∈ lw_all := lw_g (lw_at lw_m5 131 rfl) rfl
theorem q1323 : (Jvm.Cond.instanceMethod ({ cls := "WhelkFleet$Boat", name := "place", desc := "()LWhelkFleet$Place;" } : Jvm.MethodName)) ∈ lw_all := lw_g (lw_at lw_m6 47 rfl) rfl
theorem q1324 : (Jvm.Cond.selects "WhelkFleet$Boat" ({ cls := "WhelkFleet$Boat", name := "place", desc := "()LWhelkFleet$Place;" } : Jvm.MethodName) ({ cls := "WhelkFleet$Boat", name := "place", desc := "()LWhelkFleet$Place;" } : Jvm.MethodName)) ∈ lw_all := lw_g (lw_at lw_m6 48 rfl) rfl
theorem q1325 : (Jvm.Cond.code ({ cls := "WhelkFleet$Boat", name := "place", desc := "()LWhelkFleet$Place;" } : Jvm.MethodName) prog_7_method_4_code (1 : Nat) (Option.some (Jvm.ClassFile.FieldType.object "WhelkFleet$Place"))) ∈ lw_all := lw_g (lw_at lw_m6 49 rfl) rfl
theorem q1352 : (Jvm.Cond.instanceMethod ({ cls := "WhelkFleet$Boat", name := "bound", desc := "()I" } : Jvm.MethodName)) ∈ lw_all := lw_g (lw_at lw_m6 76 rfl) rfl
theorem q1353 : (Jvm.Cond.selects "WhelkFleet$Boat" ({ cls := "WhelkFleet$Boat", name := "bound", desc := "()I" } : Jvm.MethodName) ({ cls := "WhelkFleet$Boat", name := "bound", desc := "()I" } : Jvm.MethodName)) ∈ lw_all := lw_g (lw_at lw_m6 77 rfl) rfl
theorem q1354 : (Jvm.Cond.code ({ cls := "WhelkFleet$Boat", name := "bound", desc := "()I" } : Jvm.MethodName) prog_7_method_3_code (1 : Nat) (Option.some Jvm.ClassFile.FieldType.int)) ∈ lw_all := lw_g (lw_at lw_m6 78 rfl) rfl
theorem q1364 : (Jvm.Cond.instanceMethod ({ cls := "WhelkFleet$Boat", name := "checkHours", desc := "(I)V" } : Jvm.MethodName)) ∈ lw_all := lw_g (lw_at lw_m6 88 rfl) rfl
theorem q1365 : (Jvm.Cond.selects "WhelkFleet$Boat" ({ cls := "WhelkFleet$Boat", name := "checkHours", desc := "(I)V" } : Jvm.MethodName) ({ cls := "WhelkFleet$Boat", name := "checkHours", desc := "(I)V" } : Jvm.MethodName)) ∈ lw_all := lw_g (lw_at lw_m6 89 rfl) rfl
theorem q1366 : (Jvm.Cond.code ({ cls := "WhelkFleet$Boat", name := "checkHours", desc := "(I)V" } : Jvm.MethodName) prog_7_method_11_code (2 : Nat) (Option.none : Option Jvm.ClassFile.FieldType)) ∈ lw_all := lw_g (lw_at lw_m6 90 rfl) rfl
theorem q1367 : (Jvm.Cond.methodLinkNest "WhelkFleet$Boat" (40 : Nat) ({ cls := "WhelkFleet", name := "meet", desc := "(ZII)V" } : Jvm.MethodName) "WhelkFleet") ∈ lw_tbl := lw_at lw_m6 91 rfl
theorem q1369 : (Jvm.Cond.instanceMethod ({ cls := "WhelkFleet$Boat", name := "goesTo", desc := "(LWhelkFleet$Place;)V" } : Jvm.MethodName)) ∈ lw_all := lw_g (lw_at lw_m6 93 rfl) rfl
theorem q1370 : (Jvm.Cond.selects "WhelkFleet$Boat" ({ cls := "WhelkFleet$Boat", name := "goesTo", desc := "(LWhelkFleet$Place;)V" } : Jvm.MethodName) ({ cls := "WhelkFleet$Boat", name := "goesTo", desc := "(LWhelkFleet$Place;)V" } : Jvm.MethodName)) ∈ lw_all := lw_g (lw_at lw_m6 94 rfl) rfl
theorem q1371 : (Jvm.Cond.code ({ cls := "WhelkFleet$Boat", name := "goesTo", desc := "(LWhelkFleet$Place;)V" } : Jvm.MethodName) prog_7_method_13_code (2 : Nat) (Option.none : Option Jvm.ClassFile.FieldType)) ∈ lw_all := lw_g (lw_at lw_m6 95 rfl) rfl
theorem q1373 : (Jvm.Cond.instanceMethod ({ cls := "WhelkFleet$Boat", name := "works", desc := "(I)I" } : Jvm.MethodName)) ∈ lw_all := lw_g (lw_at lw_m6 97 rfl) rfl
theorem q1374 : (Jvm.Cond.selects "WhelkFleet$Boat" ({ cls := "WhelkFleet$Boat", name := "works", desc := "(I)I" } : Jvm.MethodName) ({ cls := "WhelkFleet$Boat", name := "works", desc := "(I)I" } : Jvm.MethodName)) ∈ lw_all := lw_g (lw_at lw_m6 98 rfl) rfl
theorem q1375 : (Jvm.Cond.code ({ cls := "WhelkFleet$Boat", name := "works", desc := "(I)I" } : Jvm.MethodName) prog_7_method_12_code (2 : Nat) (Option.some Jvm.ClassFile.FieldType.int)) ∈ lw_all := lw_g (lw_at lw_m6 99 rfl) rfl
theorem q1482 : (Jvm.Cond.selects "WhelkFleet$Boat" ({ cls := "java/lang/Object", name := "toString", desc := "()Ljava/lang/String;" } : Jvm.MethodName) ({ cls := "java/lang/Object", name := "toString", desc := "()Ljava/lang/String;" } : Jvm.MethodName)) ∈ lw_all := lw_g (lw_at lw_m6 206 rfl) rfl
theorem q1625 : (Jvm.Cond.instanceMethod ({ cls := "WhelkFleet$Boat", name := "holds", desc := "(II)V" } : Jvm.MethodName)) ∈ lw_all := lw_g (lw_at lw_m7 109 rfl) rfl
theorem q1626 : (Jvm.Cond.selects "WhelkFleet$Boat" ({ cls := "WhelkFleet$Boat", name := "holds", desc := "(II)V" } : Jvm.MethodName) ({ cls := "WhelkFleet$Boat", name := "holds", desc := "(II)V" } : Jvm.MethodName)) ∈ lw_all := lw_g (lw_at lw_m7 110 rfl) rfl
theorem q1627 : (Jvm.Cond.code ({ cls := "WhelkFleet$Boat", name := "holds", desc := "(II)V" } : Jvm.MethodName) prog_7_method_15_code (3 : Nat) (Option.none : Option Jvm.ClassFile.FieldType)) ∈ lw_all := lw_g (lw_at lw_m7 111 rfl) rfl
theorem q1641 : (Jvm.Cond.instanceMethod ({ cls := "WhelkFleet$Boat", name := "shells", desc := "()I" } : Jvm.MethodName)) ∈ lw_all := lw_g (lw_at lw_m7 125 rfl) rfl
theorem q1642 : (Jvm.Cond.selects "WhelkFleet$Boat" ({ cls := "WhelkFleet$Boat", name := "shells", desc := "()I" } : Jvm.MethodName) ({ cls := "WhelkFleet$Boat", name := "shells", desc := "()I" } : Jvm.MethodName)) ∈ lw_all := lw_g (lw_at lw_m7 126 rfl) rfl
theorem q1643 : (Jvm.Cond.code ({ cls := "WhelkFleet$Boat", name := "shells", desc := "()I" } : Jvm.MethodName) prog_7_method_8_code (1 : Nat) (Option.some Jvm.ClassFile.FieldType.int)) ∈ lw_all := lw_g (lw_at lw_m7 127 rfl) rfl
theorem q1645 : (Jvm.Cond.instanceMethod ({ cls := "WhelkFleet$Boat", name := "middle", desc := "()I" } : Jvm.MethodName)) ∈ lw_all := lw_g (lw_at lw_m7 129 rfl) rfl
theorem q1646 : (Jvm.Cond.selects "WhelkFleet$Boat" ({ cls := "WhelkFleet$Boat", name := "middle", desc := "()I" } : Jvm.MethodName) ({ cls := "WhelkFleet$Boat", name := "middle", desc := "()I" } : Jvm.MethodName)) ∈ lw_all := lw_g (lw_at lw_m7 130 rfl) rfl
theorem q1647 : (Jvm.Cond.code ({ cls := "WhelkFleet$Boat", name := "middle", desc := "()I" } : Jvm.MethodName) prog_7_method_6_code (1 : Nat) (Option.some Jvm.ClassFile.FieldType.int)) ∈ lw_all := lw_g (lw_at lw_m7 131 rfl) rfl
theorem q1649 : (Jvm.Cond.instanceMethod ({ cls := "WhelkFleet$Boat", name := "large", desc := "()I" } : Jvm.MethodName)) ∈ lw_all := lw_g (lw_at lw_m7 133 rfl) rfl
theorem q1650 : (Jvm.Cond.selects "WhelkFleet$Boat" ({ cls := "WhelkFleet$Boat", name := "large", desc := "()I" } : Jvm.MethodName) ({ cls := "WhelkFleet$Boat", name := "large", desc := "()I" } : Jvm.MethodName)) ∈ lw_all := lw_g (lw_at lw_m7 134 rfl) rfl
theorem q1651 : (Jvm.Cond.code ({ cls := "WhelkFleet$Boat", name := "large", desc := "()I" } : Jvm.MethodName) prog_7_method_7_code (1 : Nat) (Option.some Jvm.ClassFile.FieldType.int)) ∈ lw_all := lw_g (lw_at lw_m7 135 rfl) rfl
theorem q1653 : (Jvm.Cond.instanceMethod ({ cls := "WhelkFleet$Boat", name := "lands", desc := "()I" } : Jvm.MethodName)) ∈ lw_all := lw_g (lw_at lw_m7 137 rfl) rfl
theorem q1654 : (Jvm.Cond.selects "WhelkFleet$Boat" ({ cls := "WhelkFleet$Boat", name := "lands", desc := "()I" } : Jvm.MethodName) ({ cls := "WhelkFleet$Boat", name := "lands", desc := "()I" } : Jvm.MethodName)) ∈ lw_all := lw_g (lw_at lw_m7 138 rfl) rfl
theorem q1655 : (Jvm.Cond.code ({ cls := "WhelkFleet$Boat", name := "lands", desc := "()I" } : Jvm.MethodName) prog_7_method_16_code (3 : Nat) (Option.some Jvm.ClassFile.FieldType.int)) ∈ lw_all := lw_g (lw_at lw_m7 139 rfl) rfl
theorem q1673 : (Jvm.Cond.instanceMethod ({ cls := "WhelkFleet$Boat", name := "dayBegins", desc := "()V" } : Jvm.MethodName)) ∈ lw_all := lw_g (lw_at lw_m7 157 rfl) rfl
theorem q1674 : (Jvm.Cond.selects "WhelkFleet$Boat" ({ cls := "WhelkFleet$Boat", name := "dayBegins", desc := "()V" } : Jvm.MethodName) ({ cls := "WhelkFleet$Boat", name := "dayBegins", desc := "()V" } : Jvm.MethodName)) ∈ lw_all := lw_g (lw_at lw_m7 158 rfl) rfl
theorem q1675 : (Jvm.Cond.code ({ cls := "WhelkFleet$Boat", name := "dayBegins", desc := "()V" } : Jvm.MethodName) prog_7_method_14_code (1 : Nat) (Option.none : Option Jvm.ClassFile.FieldType)) ∈ lw_all := lw_g (lw_at lw_m7 159 rfl) rfl
theorem q1846 : (Jvm.Cond.instanceMethod ({ cls := "WhelkFleet$Boat", name := "hours", desc := "()I" } : Jvm.MethodName)) ∈ lw_all := lw_g (lw_at lw_m8 90 rfl) rfl
theorem q1847 : (Jvm.Cond.selects "WhelkFleet$Boat" ({ cls := "WhelkFleet$Boat", name := "hours", desc := "()I" } : Jvm.MethodName) ({ cls := "WhelkFleet$Boat", name := "hours", desc := "()I" } : Jvm.MethodName)) ∈ lw_all := lw_g (lw_at lw_m8 91 rfl) rfl
theorem q1848 : (Jvm.Cond.code ({ cls := "WhelkFleet$Boat", name := "hours", desc := "()I" } : Jvm.MethodName) prog_7_method_5_code (1 : Nat) (Option.some Jvm.ClassFile.FieldType.int)) ∈ lw_all := lw_g (lw_at lw_m8 92 rfl) rfl
theorem q1852 : (Jvm.Cond.instanceMethod ({ cls := "WhelkFleet$Boat", name := "sacks", desc := "()I" } : Jvm.MethodName)) ∈ lw_all := lw_g (lw_at lw_m8 96 rfl) rfl
theorem q1853 : (Jvm.Cond.selects "WhelkFleet$Boat" ({ cls := "WhelkFleet$Boat", name := "sacks", desc := "()I" } : Jvm.MethodName) ({ cls := "WhelkFleet$Boat", name := "sacks", desc := "()I" } : Jvm.MethodName)) ∈ lw_all := lw_g (lw_at lw_m8 97 rfl) rfl
theorem q1854 : (Jvm.Cond.code ({ cls := "WhelkFleet$Boat", name := "sacks", desc := "()I" } : Jvm.MethodName) prog_7_method_9_code (1 : Nat) (Option.some Jvm.ClassFile.FieldType.int)) ∈ lw_all := lw_g (lw_at lw_m8 98 rfl) rfl
theorem q1856 : (Jvm.Cond.instanceMethod ({ cls := "WhelkFleet$Boat", name := "hauled", desc := "()I" } : Jvm.MethodName)) ∈ lw_all := lw_g (lw_at lw_m8 100 rfl) rfl
theorem q1857 : (Jvm.Cond.selects "WhelkFleet$Boat" ({ cls := "WhelkFleet$Boat", name := "hauled", desc := "()I" } : Jvm.MethodName) ({ cls := "WhelkFleet$Boat", name := "hauled", desc := "()I" } : Jvm.MethodName)) ∈ lw_all := lw_g (lw_at lw_m8 101 rfl) rfl
theorem q1858 : (Jvm.Cond.code ({ cls := "WhelkFleet$Boat", name := "hauled", desc := "()I" } : Jvm.MethodName) prog_7_method_10_code (1 : Nat) (Option.some Jvm.ClassFile.FieldType.int)) ∈ lw_all := lw_g (lw_at lw_m8 102 rfl) rfl
theorem q2444 : (Jvm.Cond.instanceMethod ({ cls := "WhelkFleet$Boat", name := "write", desc := "(Ljava/lang/StringBuilder;)V" } : Jvm.MethodName)) ∈ lw_all := lw_g (lw_at lw_m10 208 rfl) rfl
theorem q2445 : (Jvm.Cond.selects "WhelkFleet$Boat" ({ cls := "WhelkFleet$Boat", name := "write", desc := "(Ljava/lang/StringBuilder;)V" } : Jvm.MethodName) ({ cls := "WhelkFleet$Boat", name := "write", desc := "(Ljava/lang/StringBuilder;)V" } : Jvm.MethodName)) ∈ lw_all := lw_g (lw_at lw_m10 209 rfl) rfl
theorem q2446 : (Jvm.Cond.code ({ cls := "WhelkFleet$Boat", name := "write", desc := "(Ljava/lang/StringBuilder;)V" } : Jvm.MethodName) prog_7_method_17_code (4 : Nat) (Option.none : Option Jvm.ClassFile.FieldType)) ∈ lw_all := lw_g (lw_at lw_m10 210 rfl) rfl
theorem q2447 : (Jvm.Cond.classLink "WhelkFleet$Boat" (44 : Nat) "WhelkFleet$OnGround") ∈ lw_all := lw_g (lw_at lw_m10 211 rfl) rfl
theorem q2448 : (Jvm.Cond.stringRef "WhelkFleet$Boat" (46 : Nat) "at ") ∈ lw_tbl := lw_at lw_m10 212 rfl
theorem q2449 : (Jvm.Cond.methodLink "WhelkFleet$Boat" (48 : Nat) ({ cls := "java/lang/StringBuilder", name := "append", desc := "(Ljava/lang/String;)Ljava/lang/StringBuilder;" } : Jvm.MethodName)) ∈ lw_all := lw_g (lw_at lw_m10 213 rfl) rfl
theorem q2450 : (Jvm.Cond.methodLink "WhelkFleet$Boat" (54 : Nat) ({ cls := "WhelkFleet$OnGround", name := "ground", desc := "()I" } : Jvm.MethodName)) ∈ lw_all := lw_g (lw_at lw_m10 214 rfl) rfl
theorem q2451 : (Jvm.Cond.methodLink "WhelkFleet$Boat" (58 : Nat) ({ cls := "java/lang/StringBuilder", name := "append", desc := "(I)Ljava/lang/StringBuilder;" } : Jvm.MethodName)) ∈ lw_all := lw_g (lw_at lw_m10 215 rfl) rfl
theorem q2452 : (Jvm.Cond.stringRef "WhelkFleet$Boat" (61 : Nat) "home") ∈ lw_tbl := lw_at lw_m10 216 rfl
theorem q2453 : (Jvm.Cond.methodLink "WhelkFleet$Boat" (63 : Nat) ({ cls := "java/lang/StringBuilder", name := "append", desc := "(C)Ljava/lang/StringBuilder;" } : Jvm.MethodName)) ∈ lw_all := lw_g (lw_at lw_m10 217 rfl) rfl
theorem q2454 : (Jvm.Cond.methodLink "WhelkFleet$Boat" (66 : Nat) ({ cls := "WhelkFleet$Boat", name := "shells", desc := "()I" } : Jvm.MethodName)) ∈ lw_all := lw_g (lw_at lw_m10 218 rfl) rfl
theorem q3017 : (Jvm.Cond.castable "WhelkFleet$Boat" "java/lang/Object") ∈ lw_tbl := lw_at lw_m13 61 rfl
theorem in_X5 : ∀ w ∈ wsX50, w ∈ lw_all := lw_in wsX50 [1153, 1155, 1157, 1159, 1161, 1163, 1165] (by decide +kernel) (by decide +kernel)
/-! WhelkFleet$Ashore -/
set_option maxRecDepth 100000
def RX6 : String := "WhelkFleet$Ashore"
abbrev cX6_init : ByteArray := prog_2_method_1_code
def yX6_init : MethodName := ⟨RX6, "<init>", "()V"⟩
theorem dX6_init_0 : decode cX6_init 0 = .ok (.aload_n 0, 1) := by decide +kernel
theorem dX6_init_1 : decode cX6_init 1 = .ok (.invokespecial 1, 3) := by decide +kernel
theorem dX6_init_4 : decode cX6_init 4 = .ok (.return_, 1) := by decide +kernel
theorem q113 : (Jvm.Cond.initialized "WhelkFleet$Ashore") ∈ lw_all := lw_g (lw_at lw_m1 37 rfl) rfl
theorem q263 : (Jvm.Cond.selects "WhelkFleet$Ashore" ({ cls := "java/lang/Object", name := "getClass", desc := "()Ljava/lang/Class;" } : Jvm.MethodName) ({ cls := "java/lang/Object", name := "getClass", desc := "()Ljava/lang/Class;" } : Jvm.MethodName)) ∈ lw_all := lw_g (lw_at lw_m1 187 rfl) rfl
theorem q1140 : (Jvm.Cond.instantiable "WhelkFleet$Ashore" (0 : Nat)) ∈ lw_all := lw_g (lw_at lw_m5 104 rfl) rfl
theorem q1142 : (Jvm.Cond.instanceMethod ({ cls := "WhelkFleet$Ashore", name := "<init>", desc := "()V" } : Jvm.MethodName)) ∈ lw_all := lw_g (lw_at lw_m5 106 rfl) rfl
theorem q1143 : (Jvm.Cond.code ({ cls := "WhelkFleet$Ashore", name := "<init>", desc := "()V" } : Jvm.MethodName) prog_2_method_1_code (1 : Nat) (Option.none : Option Jvm.ClassFile.FieldType)) ∈ lw_all := lw_g (lw_at lw_m5 107 rfl) rfl
theorem q1144 : (Jvm.Cond.methodLink "WhelkFleet$Ashore" (1 : Nat) ({ cls := "java/lang/Object", name := "<init>", desc := "()V" } : Jvm.MethodName)) ∈ lw_all := lw_g (lw_at lw_m5 108 rfl) rfl
theorem q1145 : (Jvm.Cond.superclass "WhelkFleet$Ashore" "java/lang/Object") ∈ lw_all := lw_g (lw_at lw_m5 109 rfl) rfl
theorem q1414 : (Jvm.Cond.castable "WhelkFleet$Ashore" "WhelkFleet$Place") ∈ lw_tbl := lw_at lw_m6 138 rfl
theorem q1415 : (Jvm.Cond.unhidden "WhelkFleet$Ashore" "isAshore" "()Z") ∈ lw_tbl := lw_at lw_m6 139 rfl
theorem q1430 : (Jvm.Cond.unhidden "WhelkFleet$Ashore" "isSameAs" "(LWhelkFleet$Place;)Z") ∈ lw_tbl := lw_at lw_m6 154 rfl
theorem q1438 : (Jvm.Cond.unhidden "WhelkFleet$Ashore" "number" "()I") ∈ lw_tbl := lw_at lw_m6 162 rfl
theorem q1476 : (Jvm.Cond.selects "WhelkFleet$Ashore" ({ cls := "java/lang/Object", name := "toString", desc := "()Ljava/lang/String;" } : Jvm.MethodName) ({ cls := "java/lang/Object", name := "toString", desc := "()Ljava/lang/String;" } : Jvm.MethodName)) ∈ lw_all := lw_g (lw_at lw_m6 200 rfl) rfl
theorem q3018 : (Jvm.Cond.castable "WhelkFleet$Ashore" "java/lang/Object") ∈ lw_tbl := lw_at lw_m13 62 rfl
/-! WhelkFleet$Line -/
set_option maxRecDepth 100000
def RX7 : String := "WhelkFleet$Line"
def TX7 : u_T := fun k => match k with
  | 0 => ("WhelkFleet$Line", "pots", "I", false)
  | 1 => ("WhelkFleet$Line", "place", "LWhelkFleet$Place;", false)
  | 2 => ("WhelkFleet$Line", "bait", "I", false)
  | 3 => ("WhelkFleet$Line", "since", "I", false)
  | 4 => ("WhelkFleet$Line", "lost", "I", false)
  | _ => ("WhelkFleet$Line", "drawn", "I", false)
def tyX7 : Nat → FieldType := fun k => match k with
  | 0 => .int
  | 1 => .object "WhelkFleet$Place"
  | 2 => .int
  | 3 => .int
  | 4 => .int
  | _ => .int
abbrev wsX70 : List Cond := u_ws RX7 TX7 6
theorem nmX7 : ∀ a, a < 6 → ∀ b, b < 6 → a ≠ b → (TX7 a).2.1 ≠ (TX7 b).2.1 := by decide +kernel
theorem tyX7_ok : ∀ k, k < 6 → parseFieldDescriptor (TX7 k).2.2.1 = some (tyX7 k) := by decide +kernel
abbrev cX7_copy : ByteArray := prog_12_method_2_code
def yX7_copy : MethodName := ⟨RX7, "copy", "()LWhelkFleet$Line;"⟩
def dkwX7_copy_2 : List UInt8 := [180, 0, 34, 181, 0, 34, 43, 176]
abbrev dktX7_copy_2 : List UInt8 := dkwX7_copy_2 ++ []
def dkwX7_copy_1 : List UInt8 := [180, 0, 18, 181, 0, 18, 43, 42, 180, 0, 28, 181, 0, 28, 43, 42, 180, 0, 31, 181, 0, 31, 43, 42]
abbrev dktX7_copy_1 : List UInt8 := dkwX7_copy_1 ++ dktX7_copy_2
def dkwX7_copy_0 : List UInt8 := [187, 0, 13, 89, 42, 180, 0, 22, 183, 0, 25, 76, 43, 42, 180, 0, 12, 181, 0, 12, 43, 42]
abbrev dktX7_copy_0 : List UInt8 := dkwX7_copy_0 ++ dktX7_copy_1
theorem dksX7_copy_0 : cX7_copy.data.toList.drop 0 = dktX7_copy_0 := by decide +kernel
theorem dksX7_copy_1 : cX7_copy.data.toList.drop 22 = dktX7_copy_1 := dk_seg dksX7_copy_0 22 rfl rfl
theorem dksX7_copy_2 : cX7_copy.data.toList.drop 46 = dktX7_copy_2 := dk_seg dksX7_copy_1 24 rfl rfl
theorem dX7_copy_0 : decode cX7_copy 0 = .ok (.new 13, 3) := dk_187 0 13 (dk_at dksX7_copy_0 0 rfl rfl)
theorem dX7_copy_3 : decode cX7_copy 3 = .ok (.dup, 1) := dk_89 (dk_at dksX7_copy_0 3 rfl rfl)
theorem dX7_copy_4 : decode cX7_copy 4 = .ok (.aload_n 0, 1) := dk_42 (dk_at dksX7_copy_0 4 rfl rfl)
theorem dX7_copy_5 : decode cX7_copy 5 = .ok (.getfield 22, 3) := dk_180 0 22 (dk_at dksX7_copy_0 5 rfl rfl)
theorem dX7_copy_8 : decode cX7_copy 8 = .ok (.invokespecial 25, 3) := dk_183 0 25 (dk_at dksX7_copy_0 8 rfl rfl)
theorem dX7_copy_11 : decode cX7_copy 11 = .ok (.astore_n 1, 1) := dk_76 (dk_at dksX7_copy_0 11 rfl rfl)
theorem dX7_copy_12 : decode cX7_copy 12 = .ok (.aload_n 1, 1) := dk_43 (dk_at dksX7_copy_0 12 rfl rfl)
theorem dX7_copy_13 : decode cX7_copy 13 = .ok (.aload_n 0, 1) := dk_42 (dk_at dksX7_copy_0 13 rfl rfl)
theorem dX7_copy_14 : decode cX7_copy 14 = .ok (.getfield 12, 3) := dk_180 0 12 (dk_at dksX7_copy_0 14 rfl rfl)
theorem dX7_copy_17 : decode cX7_copy 17 = .ok (.putfield 12, 3) := dk_181 0 12 (dk_at dksX7_copy_0 17 rfl rfl)
theorem dX7_copy_20 : decode cX7_copy 20 = .ok (.aload_n 1, 1) := dk_43 (dk_at dksX7_copy_0 20 rfl rfl)
theorem dX7_copy_21 : decode cX7_copy 21 = .ok (.aload_n 0, 1) := dk_42 (dk_at dksX7_copy_0 21 rfl rfl)
theorem dX7_copy_22 : decode cX7_copy 22 = .ok (.getfield 18, 3) := dk_180 0 18 (dk_at dksX7_copy_1 0 rfl rfl)
theorem dX7_copy_25 : decode cX7_copy 25 = .ok (.putfield 18, 3) := dk_181 0 18 (dk_at dksX7_copy_1 3 rfl rfl)
theorem dX7_copy_28 : decode cX7_copy 28 = .ok (.aload_n 1, 1) := dk_43 (dk_at dksX7_copy_1 6 rfl rfl)
theorem dX7_copy_29 : decode cX7_copy 29 = .ok (.aload_n 0, 1) := dk_42 (dk_at dksX7_copy_1 7 rfl rfl)
theorem dX7_copy_30 : decode cX7_copy 30 = .ok (.getfield 28, 3) := dk_180 0 28 (dk_at dksX7_copy_1 8 rfl rfl)
theorem dX7_copy_33 : decode cX7_copy 33 = .ok (.putfield 28, 3) := dk_181 0 28 (dk_at dksX7_copy_1 11 rfl rfl)
theorem dX7_copy_36 : decode cX7_copy 36 = .ok (.aload_n 1, 1) := dk_43 (dk_at dksX7_copy_1 14 rfl rfl)
theorem dX7_copy_37 : decode cX7_copy 37 = .ok (.aload_n 0, 1) := dk_42 (dk_at dksX7_copy_1 15 rfl rfl)
theorem dX7_copy_38 : decode cX7_copy 38 = .ok (.getfield 31, 3) := dk_180 0 31 (dk_at dksX7_copy_1 16 rfl rfl)
theorem dX7_copy_41 : decode cX7_copy 41 = .ok (.putfield 31, 3) := dk_181 0 31 (dk_at dksX7_copy_1 19 rfl rfl)
theorem dX7_copy_44 : decode cX7_copy 44 = .ok (.aload_n 1, 1) := dk_43 (dk_at dksX7_copy_1 22 rfl rfl)
theorem dX7_copy_45 : decode cX7_copy 45 = .ok (.aload_n 0, 1) := dk_42 (dk_at dksX7_copy_1 23 rfl rfl)
theorem dX7_copy_46 : decode cX7_copy 46 = .ok (.getfield 34, 3) := dk_180 0 34 (dk_at dksX7_copy_2 0 rfl rfl)
theorem dX7_copy_49 : decode cX7_copy 49 = .ok (.putfield 34, 3) := dk_181 0 34 (dk_at dksX7_copy_2 3 rfl rfl)
theorem dX7_copy_52 : decode cX7_copy 52 = .ok (.aload_n 1, 1) := dk_43 (dk_at dksX7_copy_2 6 rfl rfl)
theorem dX7_copy_53 : decode cX7_copy 53 = .ok (.areturn, 1) := dk_176 (dk_at dksX7_copy_2 7 rfl rfl)
abbrev cX7_init : ByteArray := prog_12_method_1_code
def yX7_init : MethodName := ⟨RX7, "<init>", "(I)V"⟩
def dkwX7_init_1 : List UInt8 := [181, 0, 22, 177]
abbrev dktX7_init_1 : List UInt8 := dkwX7_init_1 ++ []
def dkwX7_init_0 : List UInt8 := [42, 183, 0, 3, 42, 187, 0, 9, 89, 183, 0, 11, 181, 0, 12, 42, 2, 181, 0, 18, 42, 27]
abbrev dktX7_init_0 : List UInt8 := dkwX7_init_0 ++ dktX7_init_1
theorem dksX7_init_0 : cX7_init.data.toList.drop 0 = dktX7_init_0 := by decide +kernel
theorem dksX7_init_1 : cX7_init.data.toList.drop 22 = dktX7_init_1 := dk_seg dksX7_init_0 22 rfl rfl
theorem dX7_init_0 : decode cX7_init 0 = .ok (.aload_n 0, 1) := dk_42 (dk_at dksX7_init_0 0 rfl rfl)
theorem dX7_init_1 : decode cX7_init 1 = .ok (.invokespecial 3, 3) := dk_183 0 3 (dk_at dksX7_init_0 1 rfl rfl)
theorem dX7_init_4 : decode cX7_init 4 = .ok (.aload_n 0, 1) := dk_42 (dk_at dksX7_init_0 4 rfl rfl)
theorem dX7_init_5 : decode cX7_init 5 = .ok (.new 9, 3) := dk_187 0 9 (dk_at dksX7_init_0 5 rfl rfl)
theorem dX7_init_8 : decode cX7_init 8 = .ok (.dup, 1) := dk_89 (dk_at dksX7_init_0 8 rfl rfl)
theorem dX7_init_9 : decode cX7_init 9 = .ok (.invokespecial 11, 3) := dk_183 0 11 (dk_at dksX7_init_0 9 rfl rfl)
theorem dX7_init_12 : decode cX7_init 12 = .ok (.putfield 12, 3) := dk_181 0 12 (dk_at dksX7_init_0 12 rfl rfl)
theorem dX7_init_15 : decode cX7_init 15 = .ok (.aload_n 0, 1) := dk_42 (dk_at dksX7_init_0 15 rfl rfl)
theorem dX7_init_16 : decode cX7_init 16 = .ok (.iconst (-1), 1) := dk_2 (dk_at dksX7_init_0 16 rfl rfl)
theorem dX7_init_17 : decode cX7_init 17 = .ok (.putfield 18, 3) := dk_181 0 18 (dk_at dksX7_init_0 17 rfl rfl)
theorem dX7_init_20 : decode cX7_init 20 = .ok (.aload_n 0, 1) := dk_42 (dk_at dksX7_init_0 20 rfl rfl)
theorem dX7_init_21 : decode cX7_init 21 = .ok (.iload_n 1, 1) := dk_27 (dk_at dksX7_init_0 21 rfl rfl)
theorem dX7_init_22 : decode cX7_init 22 = .ok (.putfield 22, 3) := dk_181 0 22 (dk_at dksX7_init_1 0 rfl rfl)
theorem dX7_init_25 : decode cX7_init 25 = .ok (.return_, 1) := dk_177 (dk_at dksX7_init_1 3 rfl rfl)
abbrev cX7_place : ByteArray := prog_12_method_4_code
def yX7_place : MethodName := ⟨RX7, "place", "()LWhelkFleet$Place;"⟩
theorem dX7_place_0 : decode cX7_place 0 = .ok (.aload_n 0, 1) := by decide +kernel
theorem dX7_place_1 : decode cX7_place 1 = .ok (.getfield 12, 3) := by decide +kernel
theorem dX7_place_4 : decode cX7_place 4 = .ok (.areturn, 1) := by decide +kernel
abbrev cX7_unitsOfBait : ByteArray := prog_12_method_9_code
def yX7_unitsOfBait : MethodName := ⟨RX7, "unitsOfBait", "()I"⟩
def dkwX7_unitsOfBait_0 : List UInt8 := [42, 180, 0, 22, 7, 96, 8, 108, 172]
abbrev dktX7_unitsOfBait_0 : List UInt8 := dkwX7_unitsOfBait_0 ++ []
theorem dksX7_unitsOfBait_0 : cX7_unitsOfBait.data.toList.drop 0 = dktX7_unitsOfBait_0 := by decide +kernel
theorem dX7_unitsOfBait_0 : decode cX7_unitsOfBait 0 = .ok (.aload_n 0, 1) := dk_42 (dk_at dksX7_unitsOfBait_0 0 rfl rfl)
theorem dX7_unitsOfBait_1 : decode cX7_unitsOfBait 1 = .ok (.getfield 22, 3) := dk_180 0 22 (dk_at dksX7_unitsOfBait_0 1 rfl rfl)
theorem dX7_unitsOfBait_4 : decode cX7_unitsOfBait 4 = .ok (.iconst 4, 1) := dk_7 (dk_at dksX7_unitsOfBait_0 4 rfl rfl)
theorem dX7_unitsOfBait_5 : decode cX7_unitsOfBait 5 = .ok (.iadd, 1) := dk_96 (dk_at dksX7_unitsOfBait_0 5 rfl rfl)
theorem dX7_unitsOfBait_6 : decode cX7_unitsOfBait 6 = .ok (.iconst 5, 1) := dk_8 (dk_at dksX7_unitsOfBait_0 6 rfl rfl)
theorem dX7_unitsOfBait_7 : decode cX7_unitsOfBait 7 = .ok (.idiv, 1) := dk_108 (dk_at dksX7_unitsOfBait_0 7 rfl rfl)
theorem dX7_unitsOfBait_8 : decode cX7_unitsOfBait 8 = .ok (.ireturn, 1) := dk_172 (dk_at dksX7_unitsOfBait_0 8 rfl rfl)
abbrev cX7_isShot : ByteArray := prog_12_method_11_code
def yX7_isShot : MethodName := ⟨RX7, "isShot", "(LWhelkFleet$Place;II)V"⟩
def dkwX7_isShot_0 : List UInt8 := [42, 43, 181, 0, 12, 42, 28, 181, 0, 18, 42, 29, 181, 0, 28, 177]
abbrev dktX7_isShot_0 : List UInt8 := dkwX7_isShot_0 ++ []
theorem dksX7_isShot_0 : cX7_isShot.data.toList.drop 0 = dktX7_isShot_0 := by decide +kernel
theorem dX7_isShot_0 : decode cX7_isShot 0 = .ok (.aload_n 0, 1) := dk_42 (dk_at dksX7_isShot_0 0 rfl rfl)
theorem dX7_isShot_1 : decode cX7_isShot 1 = .ok (.aload_n 1, 1) := dk_43 (dk_at dksX7_isShot_0 1 rfl rfl)
theorem dX7_isShot_2 : decode cX7_isShot 2 = .ok (.putfield 12, 3) := dk_181 0 12 (dk_at dksX7_isShot_0 2 rfl rfl)
theorem dX7_isShot_5 : decode cX7_isShot 5 = .ok (.aload_n 0, 1) := dk_42 (dk_at dksX7_isShot_0 5 rfl rfl)
theorem dX7_isShot_6 : decode cX7_isShot 6 = .ok (.iload_n 2, 1) := dk_28 (dk_at dksX7_isShot_0 6 rfl rfl)
theorem dX7_isShot_7 : decode cX7_isShot 7 = .ok (.putfield 18, 3) := dk_181 0 18 (dk_at dksX7_isShot_0 7 rfl rfl)
theorem dX7_isShot_10 : decode cX7_isShot 10 = .ok (.aload_n 0, 1) := dk_42 (dk_at dksX7_isShot_0 10 rfl rfl)
theorem dX7_isShot_11 : decode cX7_isShot 11 = .ok (.iload_n 3, 1) := dk_29 (dk_at dksX7_isShot_0 11 rfl rfl)
theorem dX7_isShot_12 : decode cX7_isShot 12 = .ok (.putfield 28, 3) := dk_181 0 28 (dk_at dksX7_isShot_0 12 rfl rfl)
theorem dX7_isShot_15 : decode cX7_isShot 15 = .ok (.return_, 1) := dk_177 (dk_at dksX7_isShot_0 15 rfl rfl)
abbrev cX7_hoursToHaul : ByteArray := prog_12_method_10_code
def yX7_hoursToHaul : MethodName := ⟨RX7, "hoursToHaul", "()I"⟩
def dkwX7_hoursToHaul_0 : List UInt8 := [4, 42, 180, 0, 22, 16, 10, 108, 96, 172]
abbrev dktX7_hoursToHaul_0 : List UInt8 := dkwX7_hoursToHaul_0 ++ []
theorem dksX7_hoursToHaul_0 : cX7_hoursToHaul.data.toList.drop 0 = dktX7_hoursToHaul_0 := by decide +kernel
theorem dX7_hoursToHaul_0 : decode cX7_hoursToHaul 0 = .ok (.iconst 1, 1) := dk_4 (dk_at dksX7_hoursToHaul_0 0 rfl rfl)
theorem dX7_hoursToHaul_1 : decode cX7_hoursToHaul 1 = .ok (.aload_n 0, 1) := dk_42 (dk_at dksX7_hoursToHaul_0 1 rfl rfl)
theorem dX7_hoursToHaul_2 : decode cX7_hoursToHaul 2 = .ok (.getfield 22, 3) := dk_180 0 22 (dk_at dksX7_hoursToHaul_0 2 rfl rfl)
theorem dX7_hoursToHaul_5 : decode cX7_hoursToHaul 5 = .ok (.bipush 10, 2) := dk_16 10 (dk_at dksX7_hoursToHaul_0 5 rfl rfl)
theorem dX7_hoursToHaul_7 : decode cX7_hoursToHaul 7 = .ok (.idiv, 1) := dk_108 (dk_at dksX7_hoursToHaul_0 7 rfl rfl)
theorem dX7_hoursToHaul_8 : decode cX7_hoursToHaul 8 = .ok (.iadd, 1) := dk_96 (dk_at dksX7_hoursToHaul_0 8 rfl rfl)
theorem dX7_hoursToHaul_9 : decode cX7_hoursToHaul 9 = .ok (.ireturn, 1) := dk_172 (dk_at dksX7_hoursToHaul_0 9 rfl rfl)
abbrev cX7_pots : ByteArray := prog_12_method_3_code
def yX7_pots : MethodName := ⟨RX7, "pots", "()I"⟩
theorem dX7_pots_0 : decode cX7_pots 0 = .ok (.aload_n 0, 1) := by decide +kernel
theorem dX7_pots_1 : decode cX7_pots 1 = .ok (.getfield 22, 3) := by decide +kernel
theorem dX7_pots_4 : decode cX7_pots 4 = .ok (.ireturn, 1) := by decide +kernel
abbrev cX7_bait : ByteArray := prog_12_method_5_code
def yX7_bait : MethodName := ⟨RX7, "bait", "()I"⟩
theorem dX7_bait_0 : decode cX7_bait 0 = .ok (.aload_n 0, 1) := by decide +kernel
theorem dX7_bait_1 : decode cX7_bait 1 = .ok (.getfield 18, 3) := by decide +kernel
theorem dX7_bait_4 : decode cX7_bait 4 = .ok (.ireturn, 1) := by decide +kernel
abbrev cX7_lay : ByteArray := prog_12_method_8_code
def yX7_lay : MethodName := ⟨RX7, "lay", "(I)I"⟩
def dkwX7_lay_0 : List UInt8 := [42, 180, 0, 12, 185, 0, 37, 1, 0, 153, 0, 7, 3, 167, 0, 9, 27, 42, 180, 0, 28, 100, 172]
abbrev dktX7_lay_0 : List UInt8 := dkwX7_lay_0 ++ []
theorem dksX7_lay_0 : cX7_lay.data.toList.drop 0 = dktX7_lay_0 := by decide +kernel
theorem dX7_lay_0 : decode cX7_lay 0 = .ok (.aload_n 0, 1) := dk_42 (dk_at dksX7_lay_0 0 rfl rfl)
theorem dX7_lay_1 : decode cX7_lay 1 = .ok (.getfield 12, 3) := dk_180 0 12 (dk_at dksX7_lay_0 1 rfl rfl)
theorem dX7_lay_4 : decode cX7_lay 4 = .ok (.invokeinterface 37 1, 5) := by decide +kernel
theorem dX7_lay_9 : decode cX7_lay 9 = .ok (.ifCond .eq 7, 3) := dk_153 0 7 (dk_at dksX7_lay_0 9 rfl rfl)
theorem dX7_lay_12 : decode cX7_lay 12 = .ok (.iconst 0, 1) := dk_3 (dk_at dksX7_lay_0 12 rfl rfl)
theorem dX7_lay_13 : decode cX7_lay 13 = .ok (.goto 9, 3) := dk_167 0 9 (dk_at dksX7_lay_0 13 rfl rfl)
theorem dX7_lay_16 : decode cX7_lay 16 = .ok (.iload_n 1, 1) := dk_27 (dk_at dksX7_lay_0 16 rfl rfl)
theorem dX7_lay_17 : decode cX7_lay 17 = .ok (.aload_n 0, 1) := dk_42 (dk_at dksX7_lay_0 17 rfl rfl)
theorem dX7_lay_18 : decode cX7_lay 18 = .ok (.getfield 28, 3) := dk_180 0 28 (dk_at dksX7_lay_0 18 rfl rfl)
theorem dX7_lay_21 : decode cX7_lay 21 = .ok (.isub, 1) := dk_100 (dk_at dksX7_lay_0 21 rfl rfl)
theorem dX7_lay_22 : decode cX7_lay 22 = .ok (.ireturn, 1) := dk_172 (dk_at dksX7_lay_0 22 rfl rfl)
abbrev cX7_isHauled : ByteArray := prog_12_method_12_code
def yX7_isHauled : MethodName := ⟨RX7, "isHauled", "(I)V"⟩
def dkwX7_isHauled_1 : List UInt8 := [181, 0, 18, 177]
abbrev dktX7_isHauled_1 : List UInt8 := dkwX7_isHauled_1 ++ []
def dkwX7_isHauled_0 : List UInt8 := [42, 89, 180, 0, 34, 27, 96, 181, 0, 34, 42, 187, 0, 9, 89, 183, 0, 11, 181, 0, 12, 42, 2]
abbrev dktX7_isHauled_0 : List UInt8 := dkwX7_isHauled_0 ++ dktX7_isHauled_1
theorem dksX7_isHauled_0 : cX7_isHauled.data.toList.drop 0 = dktX7_isHauled_0 := by decide +kernel
theorem dksX7_isHauled_1 : cX7_isHauled.data.toList.drop 23 = dktX7_isHauled_1 := dk_seg dksX7_isHauled_0 23 rfl rfl
theorem dX7_isHauled_0 : decode cX7_isHauled 0 = .ok (.aload_n 0, 1) := dk_42 (dk_at dksX7_isHauled_0 0 rfl rfl)
theorem dX7_isHauled_1 : decode cX7_isHauled 1 = .ok (.dup, 1) := dk_89 (dk_at dksX7_isHauled_0 1 rfl rfl)
theorem dX7_isHauled_2 : decode cX7_isHauled 2 = .ok (.getfield 34, 3) := dk_180 0 34 (dk_at dksX7_isHauled_0 2 rfl rfl)
theorem dX7_isHauled_5 : decode cX7_isHauled 5 = .ok (.iload_n 1, 1) := dk_27 (dk_at dksX7_isHauled_0 5 rfl rfl)
theorem dX7_isHauled_6 : decode cX7_isHauled 6 = .ok (.iadd, 1) := dk_96 (dk_at dksX7_isHauled_0 6 rfl rfl)
theorem dX7_isHauled_7 : decode cX7_isHauled 7 = .ok (.putfield 34, 3) := dk_181 0 34 (dk_at dksX7_isHauled_0 7 rfl rfl)
theorem dX7_isHauled_10 : decode cX7_isHauled 10 = .ok (.aload_n 0, 1) := dk_42 (dk_at dksX7_isHauled_0 10 rfl rfl)
theorem dX7_isHauled_11 : decode cX7_isHauled 11 = .ok (.new 9, 3) := dk_187 0 9 (dk_at dksX7_isHauled_0 11 rfl rfl)
theorem dX7_isHauled_14 : decode cX7_isHauled 14 = .ok (.dup, 1) := dk_89 (dk_at dksX7_isHauled_0 14 rfl rfl)
theorem dX7_isHauled_15 : decode cX7_isHauled 15 = .ok (.invokespecial 11, 3) := dk_183 0 11 (dk_at dksX7_isHauled_0 15 rfl rfl)
theorem dX7_isHauled_18 : decode cX7_isHauled 18 = .ok (.putfield 12, 3) := dk_181 0 12 (dk_at dksX7_isHauled_0 18 rfl rfl)
theorem dX7_isHauled_21 : decode cX7_isHauled 21 = .ok (.aload_n 0, 1) := dk_42 (dk_at dksX7_isHauled_0 21 rfl rfl)
theorem dX7_isHauled_22 : decode cX7_isHauled 22 = .ok (.iconst (-1), 1) := dk_2 (dk_at dksX7_isHauled_0 22 rfl rfl)
theorem dX7_isHauled_23 : decode cX7_isHauled 23 = .ok (.putfield 18, 3) := dk_181 0 18 (dk_at dksX7_isHauled_1 0 rfl rfl)
theorem dX7_isHauled_26 : decode cX7_isHauled 26 = .ok (.return_, 1) := dk_177 (dk_at dksX7_isHauled_1 3 rfl rfl)
abbrev cX7_losesPots : ByteArray := prog_12_method_13_code
def yX7_losesPots : MethodName := ⟨RX7, "losesPots", "()I"⟩
def dkwX7_losesPots_1 : List UInt8 := [42, 89, 180, 0, 22, 27, 100, 181, 0, 22, 42, 89, 180, 0, 31, 27, 96, 181, 0, 31, 27, 172]
abbrev dktX7_losesPots_1 : List UInt8 := dkwX7_losesPots_1 ++ []
def dkwX7_losesPots_0 : List UInt8 := [42, 180, 0, 12, 185, 0, 37, 1, 0, 153, 0, 7, 3, 167, 0, 10, 42, 180, 0, 22, 16, 8, 108, 60]
abbrev dktX7_losesPots_0 : List UInt8 := dkwX7_losesPots_0 ++ dktX7_losesPots_1
theorem dksX7_losesPots_0 : cX7_losesPots.data.toList.drop 0 = dktX7_losesPots_0 := by decide +kernel
theorem dksX7_losesPots_1 : cX7_losesPots.data.toList.drop 24 = dktX7_losesPots_1 := dk_seg dksX7_losesPots_0 24 rfl rfl
theorem dX7_losesPots_0 : decode cX7_losesPots 0 = .ok (.aload_n 0, 1) := dk_42 (dk_at dksX7_losesPots_0 0 rfl rfl)
theorem dX7_losesPots_1 : decode cX7_losesPots 1 = .ok (.getfield 12, 3) := dk_180 0 12 (dk_at dksX7_losesPots_0 1 rfl rfl)
theorem dX7_losesPots_4 : decode cX7_losesPots 4 = .ok (.invokeinterface 37 1, 5) := by decide +kernel
theorem dX7_losesPots_9 : decode cX7_losesPots 9 = .ok (.ifCond .eq 7, 3) := dk_153 0 7 (dk_at dksX7_losesPots_0 9 rfl rfl)
theorem dX7_losesPots_12 : decode cX7_losesPots 12 = .ok (.iconst 0, 1) := dk_3 (dk_at dksX7_losesPots_0 12 rfl rfl)
theorem dX7_losesPots_13 : decode cX7_losesPots 13 = .ok (.goto 10, 3) := dk_167 0 10 (dk_at dksX7_losesPots_0 13 rfl rfl)
theorem dX7_losesPots_16 : decode cX7_losesPots 16 = .ok (.aload_n 0, 1) := dk_42 (dk_at dksX7_losesPots_0 16 rfl rfl)
theorem dX7_losesPots_17 : decode cX7_losesPots 17 = .ok (.getfield 22, 3) := dk_180 0 22 (dk_at dksX7_losesPots_0 17 rfl rfl)
theorem dX7_losesPots_20 : decode cX7_losesPots 20 = .ok (.bipush 8, 2) := dk_16 8 (dk_at dksX7_losesPots_0 20 rfl rfl)
theorem dX7_losesPots_22 : decode cX7_losesPots 22 = .ok (.idiv, 1) := dk_108 (dk_at dksX7_losesPots_0 22 rfl rfl)
theorem dX7_losesPots_23 : decode cX7_losesPots 23 = .ok (.istore_n 1, 1) := dk_60 (dk_at dksX7_losesPots_0 23 rfl rfl)
theorem dX7_losesPots_24 : decode cX7_losesPots 24 = .ok (.aload_n 0, 1) := dk_42 (dk_at dksX7_losesPots_1 0 rfl rfl)
theorem dX7_losesPots_25 : decode cX7_losesPots 25 = .ok (.dup, 1) := dk_89 (dk_at dksX7_losesPots_1 1 rfl rfl)
theorem dX7_losesPots_26 : decode cX7_losesPots 26 = .ok (.getfield 22, 3) := dk_180 0 22 (dk_at dksX7_losesPots_1 2 rfl rfl)
theorem dX7_losesPots_29 : decode cX7_losesPots 29 = .ok (.iload_n 1, 1) := dk_27 (dk_at dksX7_losesPots_1 5 rfl rfl)
theorem dX7_losesPots_30 : decode cX7_losesPots 30 = .ok (.isub, 1) := dk_100 (dk_at dksX7_losesPots_1 6 rfl rfl)
theorem dX7_losesPots_31 : decode cX7_losesPots 31 = .ok (.putfield 22, 3) := dk_181 0 22 (dk_at dksX7_losesPots_1 7 rfl rfl)
theorem dX7_losesPots_34 : decode cX7_losesPots 34 = .ok (.aload_n 0, 1) := dk_42 (dk_at dksX7_losesPots_1 10 rfl rfl)
theorem dX7_losesPots_35 : decode cX7_losesPots 35 = .ok (.dup, 1) := dk_89 (dk_at dksX7_losesPots_1 11 rfl rfl)
theorem dX7_losesPots_36 : decode cX7_losesPots 36 = .ok (.getfield 31, 3) := dk_180 0 31 (dk_at dksX7_losesPots_1 12 rfl rfl)
theorem dX7_losesPots_39 : decode cX7_losesPots 39 = .ok (.iload_n 1, 1) := dk_27 (dk_at dksX7_losesPots_1 15 rfl rfl)
theorem dX7_losesPots_40 : decode cX7_losesPots 40 = .ok (.iadd, 1) := dk_96 (dk_at dksX7_losesPots_1 16 rfl rfl)
theorem dX7_losesPots_41 : decode cX7_losesPots 41 = .ok (.putfield 31, 3) := dk_181 0 31 (dk_at dksX7_losesPots_1 17 rfl rfl)
theorem dX7_losesPots_44 : decode cX7_losesPots 44 = .ok (.iload_n 1, 1) := dk_27 (dk_at dksX7_losesPots_1 20 rfl rfl)
theorem dX7_losesPots_45 : decode cX7_losesPots 45 = .ok (.ireturn, 1) := dk_172 (dk_at dksX7_losesPots_1 21 rfl rfl)
abbrev cX7_lost : ByteArray := prog_12_method_6_code
def yX7_lost : MethodName := ⟨RX7, "lost", "()I"⟩
theorem dX7_lost_0 : decode cX7_lost 0 = .ok (.aload_n 0, 1) := by decide +kernel
theorem dX7_lost_1 : decode cX7_lost 1 = .ok (.getfield 31, 3) := by decide +kernel
theorem dX7_lost_4 : decode cX7_lost 4 = .ok (.ireturn, 1) := by decide +kernel
abbrev cX7_drawn : ByteArray := prog_12_method_7_code
def yX7_drawn : MethodName := ⟨RX7, "drawn", "()I"⟩
theorem dX7_drawn_0 : decode cX7_drawn 0 = .ok (.aload_n 0, 1) := by decide +kernel
theorem dX7_drawn_1 : decode cX7_drawn 1 = .ok (.getfield 34, 3) := by decide +kernel
theorem dX7_drawn_4 : decode cX7_drawn 4 = .ok (.ireturn, 1) := by decide +kernel
theorem q114 : (Jvm.Cond.initialized "WhelkFleet$Line") ∈ lw_all := lw_g (lw_at lw_m1 38 rfl) rfl
theorem q272 : (Jvm.Cond.selects "WhelkFleet$Line" ({ cls := "java/lang/Object", name := "getClass", desc := "()Ljava/lang/Class;" } : Jvm.MethodName) ({ cls := "java/lang/Object", name := "getClass", desc := "()Ljava/lang/Class;" } : Jvm.MethodName)) ∈ lw_all := lw_g (lw_at lw_m1 196 rfl) rfl
theorem q1170 : (Jvm.Cond.instanceMethod ({ cls := "WhelkFleet$Line", name := "copy", desc := "()LWhelkFleet$Line;" } : Jvm.MethodName)) ∈ lw_all := lw_g (lw_at lw_m5 134 rfl) rfl
theorem q1171 : (Jvm.Cond.selects "WhelkFleet$Line" ({ cls := "WhelkFleet$Line", name := "copy", desc := "()LWhelkFleet$Line;" } : Jvm.MethodName) ({ cls := "WhelkFleet$Line", name := "copy", desc := "()LWhelkFleet$Line;" } : Jvm.MethodName)) ∈ lw_all := lw_g (lw_at lw_m5 135 rfl) rfl
theorem q1172 : (Jvm.Cond.code ({ cls := "WhelkFleet$Line", name := "copy", desc := "()LWhelkFleet$Line;" } : Jvm.MethodName) prog_12_method_2_code (2 : Nat) (Option.some (Jvm.ClassFile.FieldType.object "WhelkFleet$Line"))) ∈ lw_all := lw_g (lw_at lw_m5 136 rfl) rfl
theorem q1173 : (Jvm.Cond.classLink "WhelkFleet$Line" (13 : Nat) "WhelkFleet$Line") ∈ lw_all := lw_g (lw_at lw_m5 137 rfl) rfl
theorem q1174 : (Jvm.Cond.instantiable "WhelkFleet$Line" (6 : Nat)) ∈ lw_all := lw_g (lw_at lw_m5 138 rfl) rfl
theorem q1175 : (Jvm.Cond.methodLink "WhelkFleet$Line" (25 : Nat) ({ cls := "WhelkFleet$Line", name := "<init>", desc := "(I)V" } : Jvm.MethodName)) ∈ lw_all := lw_g (lw_at lw_m5 139 rfl) rfl
theorem q1176 : (Jvm.Cond.instanceMethod ({ cls := "WhelkFleet$Line", name := "<init>", desc := "(I)V" } : Jvm.MethodName)) ∈ lw_all := lw_g (lw_at lw_m5 140 rfl) rfl
theorem q1177 : (Jvm.Cond.code ({ cls := "WhelkFleet$Line", name := "<init>", desc := "(I)V" } : Jvm.MethodName) prog_12_method_1_code (2 : Nat) (Option.none : Option Jvm.ClassFile.FieldType)) ∈ lw_all := lw_g (lw_at lw_m5 141 rfl) rfl
theorem q1178 : (Jvm.Cond.methodLink "WhelkFleet$Line" (3 : Nat) ({ cls := "java/lang/Object", name := "<init>", desc := "()V" } : Jvm.MethodName)) ∈ lw_all := lw_g (lw_at lw_m5 142 rfl) rfl
theorem q1179 : (Jvm.Cond.classLink "WhelkFleet$Line" (9 : Nat) "WhelkFleet$Ashore") ∈ lw_all := lw_g (lw_at lw_m5 143 rfl) rfl
theorem q1180 : (Jvm.Cond.methodLinkNest "WhelkFleet$Line" (11 : Nat) ({ cls := "WhelkFleet$Ashore", name := "<init>", desc := "()V" } : Jvm.MethodName) "WhelkFleet") ∈ lw_tbl := lw_at lw_m5 144 rfl
theorem q1181 : (Jvm.Cond.fieldLink "WhelkFleet$Line" (22 : Nat) "WhelkFleet$Line" "pots" "I") ∈ lw_all := lw_g (lw_at lw_m5 145 rfl) rfl
theorem q1182 : (Jvm.Cond.fieldLink "WhelkFleet$Line" (12 : Nat) "WhelkFleet$Line" "place" "LWhelkFleet$Place;") ∈ lw_all := lw_g (lw_at lw_m5 146 rfl) rfl
theorem q1183 : (Jvm.Cond.fieldLink "WhelkFleet$Line" (18 : Nat) "WhelkFleet$Line" "bait" "I") ∈ lw_all := lw_g (lw_at lw_m5 147 rfl) rfl
theorem q1184 : (Jvm.Cond.fieldLink "WhelkFleet$Line" (28 : Nat) "WhelkFleet$Line" "since" "I") ∈ lw_all := lw_g (lw_at lw_m5 148 rfl) rfl
theorem q1185 : (Jvm.Cond.fieldLink "WhelkFleet$Line" (31 : Nat) "WhelkFleet$Line" "lost" "I") ∈ lw_all := lw_g (lw_at lw_m5 149 rfl) rfl
theorem q1186 : (Jvm.Cond.fieldLink "WhelkFleet$Line" (34 : Nat) "WhelkFleet$Line" "drawn" "I") ∈ lw_all := lw_g (lw_at lw_m5 150 rfl) rfl
theorem q1187 : (Jvm.Cond.lays "WhelkFleet$Line" "WhelkFleet$Line" "pots" "I") ∈ lw_all := lw_g (lw_at lw_m5 151 rfl) rfl
theorem q1188 : (Jvm.Cond.soleField "WhelkFleet$Line" "pots") ∈ lw_all := lw_g (lw_at lw_m5 152 rfl) rfl
theorem q1189 : (Jvm.Cond.lays "WhelkFleet$Line" "WhelkFleet$Line" "place" "LWhelkFleet$Place;") ∈ lw_all := lw_g (lw_at lw_m5 153 rfl) rfl
theorem q1190 : (Jvm.Cond.soleField "WhelkFleet$Line" "place") ∈ lw_all := lw_g (lw_at lw_m5 154 rfl) rfl
theorem q1191 : (Jvm.Cond.lays "WhelkFleet$Line" "WhelkFleet$Line" "bait" "I") ∈ lw_all := lw_g (lw_at lw_m5 155 rfl) rfl
theorem q1192 : (Jvm.Cond.soleField "WhelkFleet$Line" "bait") ∈ lw_all := lw_g (lw_at lw_m5 156 rfl) rfl
theorem q1193 : (Jvm.Cond.lays "WhelkFleet$Line" "WhelkFleet$Line" "since" "I") ∈ lw_all := lw_g (lw_at lw_m5 157 rfl) rfl
theorem q1194 : (Jvm.Cond.soleField "WhelkFleet$Line" "since") ∈ lw_all := lw_g (lw_at lw_m5 158 rfl) rfl
theorem q1195 : (Jvm.Cond.lays "WhelkFleet$Line" "WhelkFleet$Line" "lost" "I") ∈ lw_all := lw_g (lw_at lw_m5 159 rfl) rfl
theorem q1196 : (Jvm.Cond.soleField "WhelkFleet$Line" "lost") ∈ lw_all := lw_g (lw_at lw_m5 160 rfl) rfl
theorem q1197 : (Jvm.Cond.lays "WhelkFleet$Line" "WhelkFleet$Line" "drawn" "I") ∈ lw_all := lw_g (lw_at lw_m5 161 rfl) rfl
theorem q1198 : (Jvm.Cond.soleField "WhelkFleet$Line" "drawn") ∈ lw_all := lw_g (lw_at lw_m5 162 rfl) rfl
theorem q1199 : (Jvm.Cond.superclass "WhelkFleet$Line" "java/lang/Object") ∈ lw_all := lw_g (lw_at lw_m5 163 rfl) rfl
theorem q1395 : (Jvm.Cond.instanceMethod ({ cls := "WhelkFleet$Line", name := "place", desc := "()LWhelkFleet$Place;" } : Jvm.MethodName)) ∈ lw_all := lw_g (lw_at lw_m6 119 rfl) rfl
theorem q1396 : (Jvm.Cond.selects "WhelkFleet$Line" ({ cls := "WhelkFleet$Line", name := "place", desc := "()LWhelkFleet$Place;" } : Jvm.MethodName) ({ cls := "WhelkFleet$Line", name := "place", desc := "()LWhelkFleet$Place;" } : Jvm.MethodName)) ∈ lw_all := lw_g (lw_at lw_m6 120 rfl) rfl
theorem q1397 : (Jvm.Cond.code ({ cls := "WhelkFleet$Line", name := "place", desc := "()LWhelkFleet$Place;" } : Jvm.MethodName) prog_12_method_4_code (1 : Nat) (Option.some (Jvm.ClassFile.FieldType.object "WhelkFleet$Place"))) ∈ lw_all := lw_g (lw_at lw_m6 121 rfl) rfl
theorem q1399 : (Jvm.Cond.instanceMethod ({ cls := "WhelkFleet$Line", name := "unitsOfBait", desc := "()I" } : Jvm.MethodName)) ∈ lw_all := lw_g (lw_at lw_m6 123 rfl) rfl
theorem q1400 : (Jvm.Cond.selects "WhelkFleet$Line" ({ cls := "WhelkFleet$Line", name := "unitsOfBait", desc := "()I" } : Jvm.MethodName) ({ cls := "WhelkFleet$Line", name := "unitsOfBait", desc := "()I" } : Jvm.MethodName)) ∈ lw_all := lw_g (lw_at lw_m6 124 rfl) rfl
theorem q1401 : (Jvm.Cond.code ({ cls := "WhelkFleet$Line", name := "unitsOfBait", desc := "()I" } : Jvm.MethodName) prog_12_method_9_code (1 : Nat) (Option.some Jvm.ClassFile.FieldType.int)) ∈ lw_all := lw_g (lw_at lw_m6 125 rfl) rfl
theorem q1403 : (Jvm.Cond.instanceMethod ({ cls := "WhelkFleet$Line", name := "isShot", desc := "(LWhelkFleet$Place;II)V" } : Jvm.MethodName)) ∈ lw_all := lw_g (lw_at lw_m6 127 rfl) rfl
theorem q1404 : (Jvm.Cond.selects "WhelkFleet$Line" ({ cls := "WhelkFleet$Line", name := "isShot", desc := "(LWhelkFleet$Place;II)V" } : Jvm.MethodName) ({ cls := "WhelkFleet$Line", name := "isShot", desc := "(LWhelkFleet$Place;II)V" } : Jvm.MethodName)) ∈ lw_all := lw_g (lw_at lw_m6 128 rfl) rfl
theorem q1405 : (Jvm.Cond.code ({ cls := "WhelkFleet$Line", name := "isShot", desc := "(LWhelkFleet$Place;II)V" } : Jvm.MethodName) prog_12_method_11_code (4 : Nat) (Option.none : Option Jvm.ClassFile.FieldType)) ∈ lw_all := lw_g (lw_at lw_m6 129 rfl) rfl
theorem q1487 : (Jvm.Cond.selects "WhelkFleet$Line" ({ cls := "java/lang/Object", name := "toString", desc := "()Ljava/lang/String;" } : Jvm.MethodName) ({ cls := "java/lang/Object", name := "toString", desc := "()Ljava/lang/String;" } : Jvm.MethodName)) ∈ lw_all := lw_g (lw_at lw_m6 211 rfl) rfl
theorem q1540 : (Jvm.Cond.instanceMethod ({ cls := "WhelkFleet$Line", name := "hoursToHaul", desc := "()I" } : Jvm.MethodName)) ∈ lw_all := lw_g (lw_at lw_m7 24 rfl) rfl
theorem q1541 : (Jvm.Cond.selects "WhelkFleet$Line" ({ cls := "WhelkFleet$Line", name := "hoursToHaul", desc := "()I" } : Jvm.MethodName) ({ cls := "WhelkFleet$Line", name := "hoursToHaul", desc := "()I" } : Jvm.MethodName)) ∈ lw_all := lw_g (lw_at lw_m7 25 rfl) rfl
theorem q1542 : (Jvm.Cond.code ({ cls := "WhelkFleet$Line", name := "hoursToHaul", desc := "()I" } : Jvm.MethodName) prog_12_method_10_code (1 : Nat) (Option.some Jvm.ClassFile.FieldType.int)) ∈ lw_all := lw_g (lw_at lw_m7 26 rfl) rfl
theorem q1548 : (Jvm.Cond.instanceMethod ({ cls := "WhelkFleet$Line", name := "pots", desc := "()I" } : Jvm.MethodName)) ∈ lw_all := lw_g (lw_at lw_m7 32 rfl) rfl
theorem q1549 : (Jvm.Cond.selects "WhelkFleet$Line" ({ cls := "WhelkFleet$Line", name := "pots", desc := "()I" } : Jvm.MethodName) ({ cls := "WhelkFleet$Line", name := "pots", desc := "()I" } : Jvm.MethodName)) ∈ lw_all := lw_g (lw_at lw_m7 33 rfl) rfl
theorem q1550 : (Jvm.Cond.code ({ cls := "WhelkFleet$Line", name := "pots", desc := "()I" } : Jvm.MethodName) prog_12_method_3_code (1 : Nat) (Option.some Jvm.ClassFile.FieldType.int)) ∈ lw_all := lw_g (lw_at lw_m7 34 rfl) rfl
theorem q1552 : (Jvm.Cond.instanceMethod ({ cls := "WhelkFleet$Line", name := "bait", desc := "()I" } : Jvm.MethodName)) ∈ lw_all := lw_g (lw_at lw_m7 36 rfl) rfl
theorem q1553 : (Jvm.Cond.selects "WhelkFleet$Line" ({ cls := "WhelkFleet$Line", name := "bait", desc := "()I" } : Jvm.MethodName) ({ cls := "WhelkFleet$Line", name := "bait", desc := "()I" } : Jvm.MethodName)) ∈ lw_all := lw_g (lw_at lw_m7 37 rfl) rfl
theorem q1554 : (Jvm.Cond.code ({ cls := "WhelkFleet$Line", name := "bait", desc := "()I" } : Jvm.MethodName) prog_12_method_5_code (1 : Nat) (Option.some Jvm.ClassFile.FieldType.int)) ∈ lw_all := lw_g (lw_at lw_m7 38 rfl) rfl
theorem q1565 : (Jvm.Cond.instanceMethod ({ cls := "WhelkFleet$Line", name := "lay", desc := "(I)I" } : Jvm.MethodName)) ∈ lw_all := lw_g (lw_at lw_m7 49 rfl) rfl
theorem q1566 : (Jvm.Cond.selects "WhelkFleet$Line" ({ cls := "WhelkFleet$Line", name := "lay", desc := "(I)I" } : Jvm.MethodName) ({ cls := "WhelkFleet$Line", name := "lay", desc := "(I)I" } : Jvm.MethodName)) ∈ lw_all := lw_g (lw_at lw_m7 50 rfl) rfl
theorem q1567 : (Jvm.Cond.code ({ cls := "WhelkFleet$Line", name := "lay", desc := "(I)I" } : Jvm.MethodName) prog_12_method_8_code (2 : Nat) (Option.some Jvm.ClassFile.FieldType.int)) ∈ lw_all := lw_g (lw_at lw_m7 51 rfl) rfl
theorem q1568 : (Jvm.Cond.interfaceEntry "WhelkFleet$Line" (37 : Nat)) ∈ lw_tbl := lw_at lw_m7 52 rfl
theorem q1569 : (Jvm.Cond.methodLink "WhelkFleet$Line" (37 : Nat) ({ cls := "WhelkFleet$Place", name := "isAshore", desc := "()Z" } : Jvm.MethodName)) ∈ lw_all := lw_g (lw_at lw_m7 53 rfl) rfl
theorem q1633 : (Jvm.Cond.instanceMethod ({ cls := "WhelkFleet$Line", name := "isHauled", desc := "(I)V" } : Jvm.MethodName)) ∈ lw_all := lw_g (lw_at lw_m7 117 rfl) rfl
theorem q1634 : (Jvm.Cond.selects "WhelkFleet$Line" ({ cls := "WhelkFleet$Line", name := "isHauled", desc := "(I)V" } : Jvm.MethodName) ({ cls := "WhelkFleet$Line", name := "isHauled", desc := "(I)V" } : Jvm.MethodName)) ∈ lw_all := lw_g (lw_at lw_m7 118 rfl) rfl
theorem q1635 : (Jvm.Cond.code ({ cls := "WhelkFleet$Line", name := "isHauled", desc := "(I)V" } : Jvm.MethodName) prog_12_method_12_code (2 : Nat) (Option.none : Option Jvm.ClassFile.FieldType)) ∈ lw_all := lw_g (lw_at lw_m7 119 rfl) rfl
theorem q1677 : (Jvm.Cond.instanceMethod ({ cls := "WhelkFleet$Line", name := "losesPots", desc := "()I" } : Jvm.MethodName)) ∈ lw_all := lw_g (lw_at lw_m7 161 rfl) rfl
theorem q1678 : (Jvm.Cond.selects "WhelkFleet$Line" ({ cls := "WhelkFleet$Line", name := "losesPots", desc := "()I" } : Jvm.MethodName) ({ cls := "WhelkFleet$Line", name := "losesPots", desc := "()I" } : Jvm.MethodName)) ∈ lw_all := lw_g (lw_at lw_m7 162 rfl) rfl
theorem q1679 : (Jvm.Cond.code ({ cls := "WhelkFleet$Line", name := "losesPots", desc := "()I" } : Jvm.MethodName) prog_12_method_13_code (2 : Nat) (Option.some Jvm.ClassFile.FieldType.int)) ∈ lw_all := lw_g (lw_at lw_m7 163 rfl) rfl
theorem q1880 : (Jvm.Cond.instanceMethod ({ cls := "WhelkFleet$Line", name := "lost", desc := "()I" } : Jvm.MethodName)) ∈ lw_all := lw_g (lw_at lw_m8 124 rfl) rfl
theorem q1881 : (Jvm.Cond.selects "WhelkFleet$Line" ({ cls := "WhelkFleet$Line", name := "lost", desc := "()I" } : Jvm.MethodName) ({ cls := "WhelkFleet$Line", name := "lost", desc := "()I" } : Jvm.MethodName)) ∈ lw_all := lw_g (lw_at lw_m8 125 rfl) rfl
theorem q1882 : (Jvm.Cond.code ({ cls := "WhelkFleet$Line", name := "lost", desc := "()I" } : Jvm.MethodName) prog_12_method_6_code (1 : Nat) (Option.some Jvm.ClassFile.FieldType.int)) ∈ lw_all := lw_g (lw_at lw_m8 126 rfl) rfl
theorem q1884 : (Jvm.Cond.instanceMethod ({ cls := "WhelkFleet$Line", name := "drawn", desc := "()I" } : Jvm.MethodName)) ∈ lw_all := lw_g (lw_at lw_m8 128 rfl) rfl
theorem q1885 : (Jvm.Cond.selects "WhelkFleet$Line" ({ cls := "WhelkFleet$Line", name := "drawn", desc := "()I" } : Jvm.MethodName) ({ cls := "WhelkFleet$Line", name := "drawn", desc := "()I" } : Jvm.MethodName)) ∈ lw_all := lw_g (lw_at lw_m8 129 rfl) rfl
theorem q1886 : (Jvm.Cond.code ({ cls := "WhelkFleet$Line", name := "drawn", desc := "()I" } : Jvm.MethodName) prog_12_method_7_code (1 : Nat) (Option.some Jvm.ClassFile.FieldType.int)) ∈ lw_all := lw_g (lw_at lw_m8 130 rfl) rfl
theorem q3019 : (Jvm.Cond.castable "WhelkFleet$Line" "java/lang/Object") ∈ lw_tbl := lw_at lw_m13 63 rfl
theorem in_X7 : ∀ w ∈ wsX70, w ∈ lw_all := lw_in wsX70 [1187, 1189, 1191, 1193, 1195, 1197] (by decide +kernel) (by decide +kernel)
/-! WhelkFleet$Deed -/
set_option maxRecDepth 100000
def RX8 : String := "WhelkFleet$Deed"
def TX8 : u_T := fun k => match k with
  | 0 => ("WhelkFleet$Deed", "word", "Ljava/lang/String;", true)
  | 1 => ("WhelkFleet$Deed", "one", "I", true)
  | 2 => ("WhelkFleet$Deed", "two", "I", true)
  | _ => ("WhelkFleet$Deed", "three", "I", true)
def tyX8 : Nat → FieldType := fun k => match k with
  | 0 => .object "java/lang/String"
  | 1 => .int
  | 2 => .int
  | _ => .int
abbrev wsX80 : List Cond := u_ws RX8 TX8 4
theorem nmX8 : ∀ a, a < 4 → ∀ b, b < 4 → a ≠ b → (TX8 a).2.1 ≠ (TX8 b).2.1 := by decide +kernel
theorem tyX8_ok : ∀ k, k < 4 → parseFieldDescriptor (TX8 k).2.2.1 = some (tyX8 k) := by decide +kernel
abbrev cX8_init : ByteArray := prog_8_method_1_code
def yX8_init : MethodName := ⟨RX8, "<init>", "(Ljava/lang/String;III)V"⟩
def dkwX8_init_1 : List UInt8 := [181, 0, 22, 177]
abbrev dktX8_init_1 : List UInt8 := dkwX8_init_1 ++ []
def dkwX8_init_0 : List UInt8 := [42, 183, 0, 3, 42, 43, 181, 0, 9, 42, 28, 181, 0, 15, 42, 29, 181, 0, 19, 42, 21, 4]
abbrev dktX8_init_0 : List UInt8 := dkwX8_init_0 ++ dktX8_init_1
theorem dksX8_init_0 : cX8_init.data.toList.drop 0 = dktX8_init_0 := by decide +kernel
theorem dksX8_init_1 : cX8_init.data.toList.drop 22 = dktX8_init_1 := dk_seg dksX8_init_0 22 rfl rfl
theorem dX8_init_0 : decode cX8_init 0 = .ok (.aload_n 0, 1) := dk_42 (dk_at dksX8_init_0 0 rfl rfl)
theorem dX8_init_1 : decode cX8_init 1 = .ok (.invokespecial 3, 3) := dk_183 0 3 (dk_at dksX8_init_0 1 rfl rfl)
theorem dX8_init_4 : decode cX8_init 4 = .ok (.aload_n 0, 1) := dk_42 (dk_at dksX8_init_0 4 rfl rfl)
theorem dX8_init_5 : decode cX8_init 5 = .ok (.aload_n 1, 1) := dk_43 (dk_at dksX8_init_0 5 rfl rfl)
theorem dX8_init_6 : decode cX8_init 6 = .ok (.putfield 9, 3) := dk_181 0 9 (dk_at dksX8_init_0 6 rfl rfl)
theorem dX8_init_9 : decode cX8_init 9 = .ok (.aload_n 0, 1) := dk_42 (dk_at dksX8_init_0 9 rfl rfl)
theorem dX8_init_10 : decode cX8_init 10 = .ok (.iload_n 2, 1) := dk_28 (dk_at dksX8_init_0 10 rfl rfl)
theorem dX8_init_11 : decode cX8_init 11 = .ok (.putfield 15, 3) := dk_181 0 15 (dk_at dksX8_init_0 11 rfl rfl)
theorem dX8_init_14 : decode cX8_init 14 = .ok (.aload_n 0, 1) := dk_42 (dk_at dksX8_init_0 14 rfl rfl)
theorem dX8_init_15 : decode cX8_init 15 = .ok (.iload_n 3, 1) := dk_29 (dk_at dksX8_init_0 15 rfl rfl)
theorem dX8_init_16 : decode cX8_init 16 = .ok (.putfield 19, 3) := dk_181 0 19 (dk_at dksX8_init_0 16 rfl rfl)
theorem dX8_init_19 : decode cX8_init 19 = .ok (.aload_n 0, 1) := dk_42 (dk_at dksX8_init_0 19 rfl rfl)
theorem dX8_init_20 : decode cX8_init 20 = .ok (.iload 4, 2) := dk_21 4 (dk_at dksX8_init_0 20 rfl rfl)
theorem dX8_init_22 : decode cX8_init 22 = .ok (.putfield 22, 3) := dk_181 0 22 (dk_at dksX8_init_1 0 rfl rfl)
theorem dX8_init_25 : decode cX8_init 25 = .ok (.return_, 1) := dk_177 (dk_at dksX8_init_1 3 rfl rfl)
abbrev cX8_does : ByteArray := prog_8_method_3_code
def yX8_does : MethodName := ⟨RX8, "does", "(LWhelkFleet$Fleet;)I"⟩
def dkwX8_does_11 : List UInt8 := [180, 0, 15, 182, 0, 94, 172, 43, 42, 180, 0, 15, 182, 0, 97, 172, 42, 43, 182, 0, 100, 172]
abbrev dktX8_does_11 : List UInt8 := dkwX8_does_11 ++ []
def dkwX8_does_10 : List UInt8 := [182, 0, 85, 172, 43, 42, 180, 0, 15, 182, 0, 88, 172, 43, 42, 180, 0, 15, 182, 0, 91, 172, 43, 42]
abbrev dktX8_does_10 : List UInt8 := dkwX8_does_10 ++ dktX8_does_11
def dkwX8_does_9 : List UInt8 := [180, 0, 15, 42, 180, 0, 19, 42, 180, 0, 22, 182, 0, 81, 172, 43, 42, 180, 0, 15, 42, 180, 0, 19]
abbrev dktX8_does_9 : List UInt8 := dkwX8_does_9 ++ dktX8_does_10
def dkwX8_does_8 : List UInt8 := [43, 42, 180, 0, 15, 42, 180, 0, 19, 182, 0, 73, 172, 43, 42, 180, 0, 15, 182, 0, 77, 172, 43, 42]
abbrev dktX8_does_8 : List UInt8 := dkwX8_does_8 ++ dktX8_does_9
def dkwX8_does_7 : List UInt8 := [170, 0, 0, 0, 0, 0, 0, 136, 0, 0, 0, 0, 0, 0, 0, 7, 0, 0, 0, 48, 0, 0, 0, 61, 0, 0, 0, 70, 0, 0, 0, 87, 0, 0, 0, 100, 0, 0, 0, 109, 0, 0, 0, 118, 0, 0, 0, 127]
abbrev dktX8_does_7 : List UInt8 := dkwX8_does_7 ++ dktX8_does_8
def dkwX8_does_6 : List UInt8 := [62, 167, 0, 15, 44, 18, 47, 182, 0, 33, 153, 0, 6, 16, 7, 62, 29]
abbrev dktX8_does_6 : List UInt8 := dkwX8_does_6 ++ dktX8_does_7
def dkwX8_does_5 : List UInt8 := [18, 71, 182, 0, 33, 153, 0, 35, 8, 62, 167, 0, 30, 44, 18, 45, 182, 0, 33, 153, 0, 21, 16, 6]
abbrev dktX8_does_5 : List UInt8 := dkwX8_does_5 ++ dktX8_does_6
def dkwX8_does_4 : List UInt8 := [153, 0, 63, 6, 62, 167, 0, 58, 44, 18, 39, 182, 0, 33, 153, 0, 49, 7, 62, 167, 0, 44, 44]
abbrev dktX8_does_4 : List UInt8 := dkwX8_does_4 ++ dktX8_does_5
def dkwX8_does_3 : List UInt8 := [62, 167, 0, 86, 44, 18, 41, 182, 0, 33, 153, 0, 77, 5, 62, 167, 0, 72, 44, 18, 43, 182, 0, 33]
abbrev dktX8_does_3 : List UInt8 := dkwX8_does_3 ++ dktX8_does_4
def dkwX8_does_2 : List UInt8 := [44, 18, 31, 182, 0, 33, 153, 0, 105, 3, 62, 167, 0, 100, 44, 18, 37, 182, 0, 33, 153, 0, 91, 4]
abbrev dktX8_does_2 : List UInt8 := dkwX8_does_2 ++ dktX8_does_3
def dkwX8_does_1 : List UInt8 := [171, 0, 0, 0, 184, 0, 0, 0, 8, 200, 127, 20, 176, 0, 0, 0, 157, 0, 1, 175, 78, 0, 0, 0, 73, 0, 46, 240, 87, 0, 0, 0, 172, 0, 48, 193, 80, 0, 0, 0, 115, 0, 48, 244, 223, 0, 0, 0, 87, 0, 50, 145, 235, 0, 0, 0, 129, 6, 133, 132, 31, 0, 0, 0, 101, 6, 140, 47, 193, 0, 0, 0, 143]
abbrev dktX8_does_1 : List UInt8 := dkwX8_does_1 ++ dktX8_does_2
def dkwX8_does_0 : List UInt8 := [42, 180, 0, 9, 77, 2, 62, 44, 182, 0, 25]
abbrev dktX8_does_0 : List UInt8 := dkwX8_does_0 ++ dktX8_does_1
theorem dksX8_does_0 : cX8_does.data.toList.drop 0 = dktX8_does_0 := by decide +kernel
theorem dksX8_does_1 : cX8_does.data.toList.drop 11 = dktX8_does_1 := dk_seg dksX8_does_0 11 rfl rfl
theorem dksX8_does_2 : cX8_does.data.toList.drop 84 = dktX8_does_2 := dk_seg dksX8_does_1 73 rfl rfl
theorem dksX8_does_3 : cX8_does.data.toList.drop 108 = dktX8_does_3 := dk_seg dksX8_does_2 24 rfl rfl
theorem dksX8_does_4 : cX8_does.data.toList.drop 132 = dktX8_does_4 := dk_seg dksX8_does_3 24 rfl rfl
theorem dksX8_does_5 : cX8_does.data.toList.drop 155 = dktX8_does_5 := dk_seg dksX8_does_4 23 rfl rfl
theorem dksX8_does_6 : cX8_does.data.toList.drop 179 = dktX8_does_6 := dk_seg dksX8_does_5 24 rfl rfl
theorem dksX8_does_7 : cX8_does.data.toList.drop 196 = dktX8_does_7 := dk_seg dksX8_does_6 17 rfl rfl
theorem dksX8_does_8 : cX8_does.data.toList.drop 244 = dktX8_does_8 := dk_seg dksX8_does_7 48 rfl rfl
theorem dksX8_does_9 : cX8_does.data.toList.drop 268 = dktX8_does_9 := dk_seg dksX8_does_8 24 rfl rfl
theorem dksX8_does_10 : cX8_does.data.toList.drop 292 = dktX8_does_10 := dk_seg dksX8_does_9 24 rfl rfl
theorem dksX8_does_11 : cX8_does.data.toList.drop 316 = dktX8_does_11 := dk_seg dksX8_does_10 24 rfl rfl
theorem dX8_does_0 : decode cX8_does 0 = .ok (.aload_n 0, 1) := dk_42 (dk_at dksX8_does_0 0 rfl rfl)
theorem dX8_does_1 : decode cX8_does 1 = .ok (.getfield 9, 3) := dk_180 0 9 (dk_at dksX8_does_0 1 rfl rfl)
theorem dX8_does_4 : decode cX8_does 4 = .ok (.astore_n 2, 1) := dk_77 (dk_at dksX8_does_0 4 rfl rfl)
theorem dX8_does_5 : decode cX8_does 5 = .ok (.iconst (-1), 1) := dk_2 (dk_at dksX8_does_0 5 rfl rfl)
theorem dX8_does_6 : decode cX8_does 6 = .ok (.istore_n 3, 1) := dk_62 (dk_at dksX8_does_0 6 rfl rfl)
theorem dX8_does_7 : decode cX8_does 7 = .ok (.aload_n 2, 1) := dk_44 (dk_at dksX8_does_0 7 rfl rfl)
theorem dX8_does_8 : decode cX8_does 8 = .ok (.invokevirtual 25, 3) := dk_182 0 25 (dk_at dksX8_does_0 8 rfl rfl)
theorem dX8_does_11 : decode cX8_does 11 = .ok (.lookupswitch 184 #[(-931195728, 157), (110414, 73), (3076183, 172), (3195216, 115), (3208415, 87), (3314155, 129), (109413407, 101), (109850561, 143)], 73) := by decide +kernel
theorem dX8_does_84 : decode cX8_does 84 = .ok (.aload_n 2, 1) := dk_44 (dk_at dksX8_does_2 0 rfl rfl)
theorem dX8_does_85 : decode cX8_does 85 = .ok (.ldc 31, 2) := dk_18 31 (dk_at dksX8_does_2 1 rfl rfl)
theorem dX8_does_87 : decode cX8_does 87 = .ok (.invokevirtual 33, 3) := dk_182 0 33 (dk_at dksX8_does_2 3 rfl rfl)
theorem dX8_does_90 : decode cX8_does 90 = .ok (.ifCond .eq 105, 3) := dk_153 0 105 (dk_at dksX8_does_2 6 rfl rfl)
theorem dX8_does_93 : decode cX8_does 93 = .ok (.iconst 0, 1) := dk_3 (dk_at dksX8_does_2 9 rfl rfl)
theorem dX8_does_94 : decode cX8_does 94 = .ok (.istore_n 3, 1) := dk_62 (dk_at dksX8_does_2 10 rfl rfl)
theorem dX8_does_95 : decode cX8_does 95 = .ok (.goto 100, 3) := dk_167 0 100 (dk_at dksX8_does_2 11 rfl rfl)
theorem dX8_does_98 : decode cX8_does 98 = .ok (.aload_n 2, 1) := dk_44 (dk_at dksX8_does_2 14 rfl rfl)
theorem dX8_does_99 : decode cX8_does 99 = .ok (.ldc 37, 2) := dk_18 37 (dk_at dksX8_does_2 15 rfl rfl)
theorem dX8_does_101 : decode cX8_does 101 = .ok (.invokevirtual 33, 3) := dk_182 0 33 (dk_at dksX8_does_2 17 rfl rfl)
theorem dX8_does_104 : decode cX8_does 104 = .ok (.ifCond .eq 91, 3) := dk_153 0 91 (dk_at dksX8_does_2 20 rfl rfl)
theorem dX8_does_107 : decode cX8_does 107 = .ok (.iconst 1, 1) := dk_4 (dk_at dksX8_does_2 23 rfl rfl)
theorem dX8_does_108 : decode cX8_does 108 = .ok (.istore_n 3, 1) := dk_62 (dk_at dksX8_does_3 0 rfl rfl)
theorem dX8_does_109 : decode cX8_does 109 = .ok (.goto 86, 3) := dk_167 0 86 (dk_at dksX8_does_3 1 rfl rfl)
theorem dX8_does_112 : decode cX8_does 112 = .ok (.aload_n 2, 1) := dk_44 (dk_at dksX8_does_3 4 rfl rfl)
theorem dX8_does_113 : decode cX8_does 113 = .ok (.ldc 41, 2) := dk_18 41 (dk_at dksX8_does_3 5 rfl rfl)
theorem dX8_does_115 : decode cX8_does 115 = .ok (.invokevirtual 33, 3) := dk_182 0 33 (dk_at dksX8_does_3 7 rfl rfl)
theorem dX8_does_118 : decode cX8_does 118 = .ok (.ifCond .eq 77, 3) := dk_153 0 77 (dk_at dksX8_does_3 10 rfl rfl)
theorem dX8_does_121 : decode cX8_does 121 = .ok (.iconst 2, 1) := dk_5 (dk_at dksX8_does_3 13 rfl rfl)
theorem dX8_does_122 : decode cX8_does 122 = .ok (.istore_n 3, 1) := dk_62 (dk_at dksX8_does_3 14 rfl rfl)
theorem dX8_does_123 : decode cX8_does 123 = .ok (.goto 72, 3) := dk_167 0 72 (dk_at dksX8_does_3 15 rfl rfl)
theorem dX8_does_126 : decode cX8_does 126 = .ok (.aload_n 2, 1) := dk_44 (dk_at dksX8_does_3 18 rfl rfl)
theorem dX8_does_127 : decode cX8_does 127 = .ok (.ldc 43, 2) := dk_18 43 (dk_at dksX8_does_3 19 rfl rfl)
theorem dX8_does_129 : decode cX8_does 129 = .ok (.invokevirtual 33, 3) := dk_182 0 33 (dk_at dksX8_does_3 21 rfl rfl)
theorem dX8_does_132 : decode cX8_does 132 = .ok (.ifCond .eq 63, 3) := dk_153 0 63 (dk_at dksX8_does_4 0 rfl rfl)
theorem dX8_does_135 : decode cX8_does 135 = .ok (.iconst 3, 1) := dk_6 (dk_at dksX8_does_4 3 rfl rfl)
theorem dX8_does_136 : decode cX8_does 136 = .ok (.istore_n 3, 1) := dk_62 (dk_at dksX8_does_4 4 rfl rfl)
theorem dX8_does_137 : decode cX8_does 137 = .ok (.goto 58, 3) := dk_167 0 58 (dk_at dksX8_does_4 5 rfl rfl)
theorem dX8_does_140 : decode cX8_does 140 = .ok (.aload_n 2, 1) := dk_44 (dk_at dksX8_does_4 8 rfl rfl)
theorem dX8_does_141 : decode cX8_does 141 = .ok (.ldc 39, 2) := dk_18 39 (dk_at dksX8_does_4 9 rfl rfl)
theorem dX8_does_143 : decode cX8_does 143 = .ok (.invokevirtual 33, 3) := dk_182 0 33 (dk_at dksX8_does_4 11 rfl rfl)
theorem dX8_does_146 : decode cX8_does 146 = .ok (.ifCond .eq 49, 3) := dk_153 0 49 (dk_at dksX8_does_4 14 rfl rfl)
theorem dX8_does_149 : decode cX8_does 149 = .ok (.iconst 4, 1) := dk_7 (dk_at dksX8_does_4 17 rfl rfl)
theorem dX8_does_150 : decode cX8_does 150 = .ok (.istore_n 3, 1) := dk_62 (dk_at dksX8_does_4 18 rfl rfl)
theorem dX8_does_151 : decode cX8_does 151 = .ok (.goto 44, 3) := dk_167 0 44 (dk_at dksX8_does_4 19 rfl rfl)
theorem dX8_does_154 : decode cX8_does 154 = .ok (.aload_n 2, 1) := dk_44 (dk_at dksX8_does_4 22 rfl rfl)
theorem dX8_does_155 : decode cX8_does 155 = .ok (.ldc 71, 2) := dk_18 71 (dk_at dksX8_does_5 0 rfl rfl)
theorem dX8_does_157 : decode cX8_does 157 = .ok (.invokevirtual 33, 3) := dk_182 0 33 (dk_at dksX8_does_5 2 rfl rfl)
theorem dX8_does_160 : decode cX8_does 160 = .ok (.ifCond .eq 35, 3) := dk_153 0 35 (dk_at dksX8_does_5 5 rfl rfl)
theorem dX8_does_163 : decode cX8_does 163 = .ok (.iconst 5, 1) := dk_8 (dk_at dksX8_does_5 8 rfl rfl)
theorem dX8_does_164 : decode cX8_does 164 = .ok (.istore_n 3, 1) := dk_62 (dk_at dksX8_does_5 9 rfl rfl)
theorem dX8_does_165 : decode cX8_does 165 = .ok (.goto 30, 3) := dk_167 0 30 (dk_at dksX8_does_5 10 rfl rfl)
theorem dX8_does_168 : decode cX8_does 168 = .ok (.aload_n 2, 1) := dk_44 (dk_at dksX8_does_5 13 rfl rfl)
theorem dX8_does_169 : decode cX8_does 169 = .ok (.ldc 45, 2) := dk_18 45 (dk_at dksX8_does_5 14 rfl rfl)
theorem dX8_does_171 : decode cX8_does 171 = .ok (.invokevirtual 33, 3) := dk_182 0 33 (dk_at dksX8_does_5 16 rfl rfl)
theorem dX8_does_174 : decode cX8_does 174 = .ok (.ifCond .eq 21, 3) := dk_153 0 21 (dk_at dksX8_does_5 19 rfl rfl)
theorem dX8_does_177 : decode cX8_does 177 = .ok (.bipush 6, 2) := dk_16 6 (dk_at dksX8_does_5 22 rfl rfl)
theorem dX8_does_179 : decode cX8_does 179 = .ok (.istore_n 3, 1) := dk_62 (dk_at dksX8_does_6 0 rfl rfl)
theorem dX8_does_180 : decode cX8_does 180 = .ok (.goto 15, 3) := dk_167 0 15 (dk_at dksX8_does_6 1 rfl rfl)
theorem dX8_does_183 : decode cX8_does 183 = .ok (.aload_n 2, 1) := dk_44 (dk_at dksX8_does_6 4 rfl rfl)
theorem dX8_does_184 : decode cX8_does 184 = .ok (.ldc 47, 2) := dk_18 47 (dk_at dksX8_does_6 5 rfl rfl)
theorem dX8_does_186 : decode cX8_does 186 = .ok (.invokevirtual 33, 3) := dk_182 0 33 (dk_at dksX8_does_6 7 rfl rfl)
theorem dX8_does_189 : decode cX8_does 189 = .ok (.ifCond .eq 6, 3) := dk_153 0 6 (dk_at dksX8_does_6 10 rfl rfl)
theorem dX8_does_192 : decode cX8_does 192 = .ok (.bipush 7, 2) := dk_16 7 (dk_at dksX8_does_6 13 rfl rfl)
theorem dX8_does_194 : decode cX8_does 194 = .ok (.istore_n 3, 1) := dk_62 (dk_at dksX8_does_6 15 rfl rfl)
theorem dX8_does_195 : decode cX8_does 195 = .ok (.iload_n 3, 1) := dk_29 (dk_at dksX8_does_6 16 rfl rfl)
theorem dX8_does_196 : decode cX8_does 196 = .ok (.tableswitch 136 0 7 #[48, 61, 70, 87, 100, 109, 118, 127], 48) := by decide +kernel
theorem dX8_does_244 : decode cX8_does 244 = .ok (.aload_n 1, 1) := dk_43 (dk_at dksX8_does_8 0 rfl rfl)
theorem dX8_does_245 : decode cX8_does 245 = .ok (.aload_n 0, 1) := dk_42 (dk_at dksX8_does_8 1 rfl rfl)
theorem dX8_does_246 : decode cX8_does 246 = .ok (.getfield 15, 3) := dk_180 0 15 (dk_at dksX8_does_8 2 rfl rfl)
theorem dX8_does_249 : decode cX8_does 249 = .ok (.aload_n 0, 1) := dk_42 (dk_at dksX8_does_8 5 rfl rfl)
theorem dX8_does_250 : decode cX8_does 250 = .ok (.getfield 19, 3) := dk_180 0 19 (dk_at dksX8_does_8 6 rfl rfl)
theorem dX8_does_253 : decode cX8_does 253 = .ok (.invokevirtual 73, 3) := dk_182 0 73 (dk_at dksX8_does_8 9 rfl rfl)
theorem dX8_does_256 : decode cX8_does 256 = .ok (.ireturn, 1) := dk_172 (dk_at dksX8_does_8 12 rfl rfl)
theorem dX8_does_257 : decode cX8_does 257 = .ok (.aload_n 1, 1) := dk_43 (dk_at dksX8_does_8 13 rfl rfl)
theorem dX8_does_258 : decode cX8_does 258 = .ok (.aload_n 0, 1) := dk_42 (dk_at dksX8_does_8 14 rfl rfl)
theorem dX8_does_259 : decode cX8_does 259 = .ok (.getfield 15, 3) := dk_180 0 15 (dk_at dksX8_does_8 15 rfl rfl)
theorem dX8_does_262 : decode cX8_does 262 = .ok (.invokevirtual 77, 3) := dk_182 0 77 (dk_at dksX8_does_8 18 rfl rfl)
theorem dX8_does_265 : decode cX8_does 265 = .ok (.ireturn, 1) := dk_172 (dk_at dksX8_does_8 21 rfl rfl)
theorem dX8_does_266 : decode cX8_does 266 = .ok (.aload_n 1, 1) := dk_43 (dk_at dksX8_does_8 22 rfl rfl)
theorem dX8_does_267 : decode cX8_does 267 = .ok (.aload_n 0, 1) := dk_42 (dk_at dksX8_does_8 23 rfl rfl)
theorem dX8_does_268 : decode cX8_does 268 = .ok (.getfield 15, 3) := dk_180 0 15 (dk_at dksX8_does_9 0 rfl rfl)
theorem dX8_does_271 : decode cX8_does 271 = .ok (.aload_n 0, 1) := dk_42 (dk_at dksX8_does_9 3 rfl rfl)
theorem dX8_does_272 : decode cX8_does 272 = .ok (.getfield 19, 3) := dk_180 0 19 (dk_at dksX8_does_9 4 rfl rfl)
theorem dX8_does_275 : decode cX8_does 275 = .ok (.aload_n 0, 1) := dk_42 (dk_at dksX8_does_9 7 rfl rfl)
theorem dX8_does_276 : decode cX8_does 276 = .ok (.getfield 22, 3) := dk_180 0 22 (dk_at dksX8_does_9 8 rfl rfl)
theorem dX8_does_279 : decode cX8_does 279 = .ok (.invokevirtual 81, 3) := dk_182 0 81 (dk_at dksX8_does_9 11 rfl rfl)
theorem dX8_does_282 : decode cX8_does 282 = .ok (.ireturn, 1) := dk_172 (dk_at dksX8_does_9 14 rfl rfl)
theorem dX8_does_283 : decode cX8_does 283 = .ok (.aload_n 1, 1) := dk_43 (dk_at dksX8_does_9 15 rfl rfl)
theorem dX8_does_284 : decode cX8_does 284 = .ok (.aload_n 0, 1) := dk_42 (dk_at dksX8_does_9 16 rfl rfl)
theorem dX8_does_285 : decode cX8_does 285 = .ok (.getfield 15, 3) := dk_180 0 15 (dk_at dksX8_does_9 17 rfl rfl)
theorem dX8_does_288 : decode cX8_does 288 = .ok (.aload_n 0, 1) := dk_42 (dk_at dksX8_does_9 20 rfl rfl)
theorem dX8_does_289 : decode cX8_does 289 = .ok (.getfield 19, 3) := dk_180 0 19 (dk_at dksX8_does_9 21 rfl rfl)
theorem dX8_does_292 : decode cX8_does 292 = .ok (.invokevirtual 85, 3) := dk_182 0 85 (dk_at dksX8_does_10 0 rfl rfl)
theorem dX8_does_295 : decode cX8_does 295 = .ok (.ireturn, 1) := dk_172 (dk_at dksX8_does_10 3 rfl rfl)
theorem dX8_does_296 : decode cX8_does 296 = .ok (.aload_n 1, 1) := dk_43 (dk_at dksX8_does_10 4 rfl rfl)
theorem dX8_does_297 : decode cX8_does 297 = .ok (.aload_n 0, 1) := dk_42 (dk_at dksX8_does_10 5 rfl rfl)
theorem dX8_does_298 : decode cX8_does 298 = .ok (.getfield 15, 3) := dk_180 0 15 (dk_at dksX8_does_10 6 rfl rfl)
theorem dX8_does_301 : decode cX8_does 301 = .ok (.invokevirtual 88, 3) := dk_182 0 88 (dk_at dksX8_does_10 9 rfl rfl)
theorem dX8_does_304 : decode cX8_does 304 = .ok (.ireturn, 1) := dk_172 (dk_at dksX8_does_10 12 rfl rfl)
theorem dX8_does_305 : decode cX8_does 305 = .ok (.aload_n 1, 1) := dk_43 (dk_at dksX8_does_10 13 rfl rfl)
theorem dX8_does_306 : decode cX8_does 306 = .ok (.aload_n 0, 1) := dk_42 (dk_at dksX8_does_10 14 rfl rfl)
theorem dX8_does_307 : decode cX8_does 307 = .ok (.getfield 15, 3) := dk_180 0 15 (dk_at dksX8_does_10 15 rfl rfl)
theorem dX8_does_310 : decode cX8_does 310 = .ok (.invokevirtual 91, 3) := dk_182 0 91 (dk_at dksX8_does_10 18 rfl rfl)
theorem dX8_does_313 : decode cX8_does 313 = .ok (.ireturn, 1) := dk_172 (dk_at dksX8_does_10 21 rfl rfl)
theorem dX8_does_314 : decode cX8_does 314 = .ok (.aload_n 1, 1) := dk_43 (dk_at dksX8_does_10 22 rfl rfl)
theorem dX8_does_315 : decode cX8_does 315 = .ok (.aload_n 0, 1) := dk_42 (dk_at dksX8_does_10 23 rfl rfl)
theorem dX8_does_316 : decode cX8_does 316 = .ok (.getfield 15, 3) := dk_180 0 15 (dk_at dksX8_does_11 0 rfl rfl)
theorem dX8_does_319 : decode cX8_does 319 = .ok (.invokevirtual 94, 3) := dk_182 0 94 (dk_at dksX8_does_11 3 rfl rfl)
theorem dX8_does_322 : decode cX8_does 322 = .ok (.ireturn, 1) := dk_172 (dk_at dksX8_does_11 6 rfl rfl)
theorem dX8_does_323 : decode cX8_does 323 = .ok (.aload_n 1, 1) := dk_43 (dk_at dksX8_does_11 7 rfl rfl)
theorem dX8_does_324 : decode cX8_does 324 = .ok (.aload_n 0, 1) := dk_42 (dk_at dksX8_does_11 8 rfl rfl)
theorem dX8_does_325 : decode cX8_does 325 = .ok (.getfield 15, 3) := dk_180 0 15 (dk_at dksX8_does_11 9 rfl rfl)
theorem dX8_does_328 : decode cX8_does 328 = .ok (.invokevirtual 97, 3) := dk_182 0 97 (dk_at dksX8_does_11 12 rfl rfl)
theorem dX8_does_331 : decode cX8_does 331 = .ok (.ireturn, 1) := dk_172 (dk_at dksX8_does_11 15 rfl rfl)
theorem dX8_does_332 : decode cX8_does 332 = .ok (.aload_n 0, 1) := dk_42 (dk_at dksX8_does_11 16 rfl rfl)
theorem dX8_does_333 : decode cX8_does 333 = .ok (.aload_n 1, 1) := dk_43 (dk_at dksX8_does_11 17 rfl rfl)
theorem dX8_does_334 : decode cX8_does 334 = .ok (.invokevirtual 100, 3) := dk_182 0 100 (dk_at dksX8_does_11 18 rfl rfl)
theorem dX8_does_337 : decode cX8_does 337 = .ok (.ireturn, 1) := dk_172 (dk_at dksX8_does_11 21 rfl rfl)
abbrev cX8_doesMore : ByteArray := prog_8_method_4_code
def yX8_doesMore : MethodName := ⟨RX8, "doesMore", "(LWhelkFleet$Fleet;)I"⟩
def dkwX8_doesMore_7 : List UInt8 := [182, 0, 123, 172]
abbrev dktX8_doesMore_7 : List UInt8 := dkwX8_doesMore_7 ++ []
def dkwX8_doesMore_6 : List UInt8 := [180, 0, 19, 182, 0, 116, 172, 43, 42, 180, 0, 15, 182, 0, 119, 42, 180, 0, 19, 42, 180, 0, 22]
abbrev dktX8_doesMore_6 : List UInt8 := dkwX8_doesMore_6 ++ dktX8_doesMore_7
def dkwX8_doesMore_5 : List UInt8 := [43, 42, 180, 0, 15, 182, 0, 110, 172, 43, 42, 180, 0, 15, 182, 0, 113, 172, 43, 42, 180, 0, 15, 42]
abbrev dktX8_doesMore_5 : List UInt8 := dkwX8_doesMore_5 ++ dktX8_doesMore_6
def dkwX8_doesMore_4 : List UInt8 := [170, 0, 0, 0, 0, 0, 0, 59, 0, 0, 0, 0, 0, 0, 0, 2, 0, 0, 0, 28, 0, 0, 0, 37, 0, 0, 0, 46]
abbrev dktX8_doesMore_4 : List UInt8 := dkwX8_doesMore_4 ++ dktX8_doesMore_5
def dkwX8_doesMore_3 : List UInt8 := [62, 167, 0, 14, 44, 18, 108, 182, 0, 33, 153, 0, 5, 5, 62, 29]
abbrev dktX8_doesMore_3 : List UInt8 := dkwX8_doesMore_3 ++ dktX8_doesMore_4
def dkwX8_doesMore_2 : List UInt8 := [44, 18, 104, 182, 0, 33, 153, 0, 33, 3, 62, 167, 0, 28, 44, 18, 106, 182, 0, 33, 153, 0, 19, 4]
abbrev dktX8_doesMore_2 : List UInt8 := dkwX8_doesMore_2 ++ dktX8_doesMore_3
def dkwX8_doesMore_1 : List UInt8 := [171, 0, 0, 0, 72, 0, 0, 0, 3, 202, 213, 96, 17, 0, 0, 0, 47, 0, 1, 125, 203, 0, 0, 0, 61, 0, 46, 57, 64, 0, 0, 0, 33]
abbrev dktX8_doesMore_1 : List UInt8 := dkwX8_doesMore_1 ++ dktX8_doesMore_2
def dkwX8_doesMore_0 : List UInt8 := [42, 180, 0, 9, 77, 2, 62, 44, 182, 0, 25]
abbrev dktX8_doesMore_0 : List UInt8 := dkwX8_doesMore_0 ++ dktX8_doesMore_1
theorem dksX8_doesMore_0 : cX8_doesMore.data.toList.drop 0 = dktX8_doesMore_0 := by decide +kernel
theorem dksX8_doesMore_1 : cX8_doesMore.data.toList.drop 11 = dktX8_doesMore_1 := dk_seg dksX8_doesMore_0 11 rfl rfl
theorem dksX8_doesMore_2 : cX8_doesMore.data.toList.drop 44 = dktX8_doesMore_2 := dk_seg dksX8_doesMore_1 33 rfl rfl
theorem dksX8_doesMore_3 : cX8_doesMore.data.toList.drop 68 = dktX8_doesMore_3 := dk_seg dksX8_doesMore_2 24 rfl rfl
theorem dksX8_doesMore_4 : cX8_doesMore.data.toList.drop 84 = dktX8_doesMore_4 := dk_seg dksX8_doesMore_3 16 rfl rfl
theorem dksX8_doesMore_5 : cX8_doesMore.data.toList.drop 112 = dktX8_doesMore_5 := dk_seg dksX8_doesMore_4 28 rfl rfl
theorem dksX8_doesMore_6 : cX8_doesMore.data.toList.drop 136 = dktX8_doesMore_6 := dk_seg dksX8_doesMore_5 24 rfl rfl
theorem dksX8_doesMore_7 : cX8_doesMore.data.toList.drop 159 = dktX8_doesMore_7 := dk_seg dksX8_doesMore_6 23 rfl rfl
theorem dX8_doesMore_0 : decode cX8_doesMore 0 = .ok (.aload_n 0, 1) := dk_42 (dk_at dksX8_doesMore_0 0 rfl rfl)
theorem dX8_doesMore_1 : decode cX8_doesMore 1 = .ok (.getfield 9, 3) := dk_180 0 9 (dk_at dksX8_doesMore_0 1 rfl rfl)
theorem dX8_doesMore_4 : decode cX8_doesMore 4 = .ok (.astore_n 2, 1) := dk_77 (dk_at dksX8_doesMore_0 4 rfl rfl)
theorem dX8_doesMore_5 : decode cX8_doesMore 5 = .ok (.iconst (-1), 1) := dk_2 (dk_at dksX8_doesMore_0 5 rfl rfl)
theorem dX8_doesMore_6 : decode cX8_doesMore 6 = .ok (.istore_n 3, 1) := dk_62 (dk_at dksX8_doesMore_0 6 rfl rfl)
theorem dX8_doesMore_7 : decode cX8_doesMore 7 = .ok (.aload_n 2, 1) := dk_44 (dk_at dksX8_doesMore_0 7 rfl rfl)
theorem dX8_doesMore_8 : decode cX8_doesMore 8 = .ok (.invokevirtual 25, 3) := dk_182 0 25 (dk_at dksX8_doesMore_0 8 rfl rfl)
theorem dX8_doesMore_11 : decode cX8_doesMore 11 = .ok (.lookupswitch 72 #[(-891985903, 47), (97739, 61), (3029312, 33)], 33) := by decide +kernel
theorem dX8_doesMore_44 : decode cX8_doesMore 44 = .ok (.aload_n 2, 1) := dk_44 (dk_at dksX8_doesMore_2 0 rfl rfl)
theorem dX8_doesMore_45 : decode cX8_doesMore 45 = .ok (.ldc 104, 2) := dk_18 104 (dk_at dksX8_doesMore_2 1 rfl rfl)
theorem dX8_doesMore_47 : decode cX8_doesMore 47 = .ok (.invokevirtual 33, 3) := dk_182 0 33 (dk_at dksX8_doesMore_2 3 rfl rfl)
theorem dX8_doesMore_50 : decode cX8_doesMore 50 = .ok (.ifCond .eq 33, 3) := dk_153 0 33 (dk_at dksX8_doesMore_2 6 rfl rfl)
theorem dX8_doesMore_53 : decode cX8_doesMore 53 = .ok (.iconst 0, 1) := dk_3 (dk_at dksX8_doesMore_2 9 rfl rfl)
theorem dX8_doesMore_54 : decode cX8_doesMore 54 = .ok (.istore_n 3, 1) := dk_62 (dk_at dksX8_doesMore_2 10 rfl rfl)
theorem dX8_doesMore_55 : decode cX8_doesMore 55 = .ok (.goto 28, 3) := dk_167 0 28 (dk_at dksX8_doesMore_2 11 rfl rfl)
theorem dX8_doesMore_58 : decode cX8_doesMore 58 = .ok (.aload_n 2, 1) := dk_44 (dk_at dksX8_doesMore_2 14 rfl rfl)
theorem dX8_doesMore_59 : decode cX8_doesMore 59 = .ok (.ldc 106, 2) := dk_18 106 (dk_at dksX8_doesMore_2 15 rfl rfl)
theorem dX8_doesMore_61 : decode cX8_doesMore 61 = .ok (.invokevirtual 33, 3) := dk_182 0 33 (dk_at dksX8_doesMore_2 17 rfl rfl)
theorem dX8_doesMore_64 : decode cX8_doesMore 64 = .ok (.ifCond .eq 19, 3) := dk_153 0 19 (dk_at dksX8_doesMore_2 20 rfl rfl)
theorem dX8_doesMore_67 : decode cX8_doesMore 67 = .ok (.iconst 1, 1) := dk_4 (dk_at dksX8_doesMore_2 23 rfl rfl)
theorem dX8_doesMore_68 : decode cX8_doesMore 68 = .ok (.istore_n 3, 1) := dk_62 (dk_at dksX8_doesMore_3 0 rfl rfl)
theorem dX8_doesMore_69 : decode cX8_doesMore 69 = .ok (.goto 14, 3) := dk_167 0 14 (dk_at dksX8_doesMore_3 1 rfl rfl)
theorem dX8_doesMore_72 : decode cX8_doesMore 72 = .ok (.aload_n 2, 1) := dk_44 (dk_at dksX8_doesMore_3 4 rfl rfl)
theorem dX8_doesMore_73 : decode cX8_doesMore 73 = .ok (.ldc 108, 2) := dk_18 108 (dk_at dksX8_doesMore_3 5 rfl rfl)
theorem dX8_doesMore_75 : decode cX8_doesMore 75 = .ok (.invokevirtual 33, 3) := dk_182 0 33 (dk_at dksX8_doesMore_3 7 rfl rfl)
theorem dX8_doesMore_78 : decode cX8_doesMore 78 = .ok (.ifCond .eq 5, 3) := dk_153 0 5 (dk_at dksX8_doesMore_3 10 rfl rfl)
theorem dX8_doesMore_81 : decode cX8_doesMore 81 = .ok (.iconst 2, 1) := dk_5 (dk_at dksX8_doesMore_3 13 rfl rfl)
theorem dX8_doesMore_82 : decode cX8_doesMore 82 = .ok (.istore_n 3, 1) := dk_62 (dk_at dksX8_doesMore_3 14 rfl rfl)
theorem dX8_doesMore_83 : decode cX8_doesMore 83 = .ok (.iload_n 3, 1) := dk_29 (dk_at dksX8_doesMore_3 15 rfl rfl)
theorem dX8_doesMore_84 : decode cX8_doesMore 84 = .ok (.tableswitch 59 0 2 #[28, 37, 46], 28) := by decide +kernel
theorem dX8_doesMore_112 : decode cX8_doesMore 112 = .ok (.aload_n 1, 1) := dk_43 (dk_at dksX8_doesMore_5 0 rfl rfl)
theorem dX8_doesMore_113 : decode cX8_doesMore 113 = .ok (.aload_n 0, 1) := dk_42 (dk_at dksX8_doesMore_5 1 rfl rfl)
theorem dX8_doesMore_114 : decode cX8_doesMore 114 = .ok (.getfield 15, 3) := dk_180 0 15 (dk_at dksX8_doesMore_5 2 rfl rfl)
theorem dX8_doesMore_117 : decode cX8_doesMore 117 = .ok (.invokevirtual 110, 3) := dk_182 0 110 (dk_at dksX8_doesMore_5 5 rfl rfl)
theorem dX8_doesMore_120 : decode cX8_doesMore 120 = .ok (.ireturn, 1) := dk_172 (dk_at dksX8_doesMore_5 8 rfl rfl)
theorem dX8_doesMore_121 : decode cX8_doesMore 121 = .ok (.aload_n 1, 1) := dk_43 (dk_at dksX8_doesMore_5 9 rfl rfl)
theorem dX8_doesMore_122 : decode cX8_doesMore 122 = .ok (.aload_n 0, 1) := dk_42 (dk_at dksX8_doesMore_5 10 rfl rfl)
theorem dX8_doesMore_123 : decode cX8_doesMore 123 = .ok (.getfield 15, 3) := dk_180 0 15 (dk_at dksX8_doesMore_5 11 rfl rfl)
theorem dX8_doesMore_126 : decode cX8_doesMore 126 = .ok (.invokevirtual 113, 3) := dk_182 0 113 (dk_at dksX8_doesMore_5 14 rfl rfl)
theorem dX8_doesMore_129 : decode cX8_doesMore 129 = .ok (.ireturn, 1) := dk_172 (dk_at dksX8_doesMore_5 17 rfl rfl)
theorem dX8_doesMore_130 : decode cX8_doesMore 130 = .ok (.aload_n 1, 1) := dk_43 (dk_at dksX8_doesMore_5 18 rfl rfl)
theorem dX8_doesMore_131 : decode cX8_doesMore 131 = .ok (.aload_n 0, 1) := dk_42 (dk_at dksX8_doesMore_5 19 rfl rfl)
theorem dX8_doesMore_132 : decode cX8_doesMore 132 = .ok (.getfield 15, 3) := dk_180 0 15 (dk_at dksX8_doesMore_5 20 rfl rfl)
theorem dX8_doesMore_135 : decode cX8_doesMore 135 = .ok (.aload_n 0, 1) := dk_42 (dk_at dksX8_doesMore_5 23 rfl rfl)
theorem dX8_doesMore_136 : decode cX8_doesMore 136 = .ok (.getfield 19, 3) := dk_180 0 19 (dk_at dksX8_doesMore_6 0 rfl rfl)
theorem dX8_doesMore_139 : decode cX8_doesMore 139 = .ok (.invokevirtual 116, 3) := dk_182 0 116 (dk_at dksX8_doesMore_6 3 rfl rfl)
theorem dX8_doesMore_142 : decode cX8_doesMore 142 = .ok (.ireturn, 1) := dk_172 (dk_at dksX8_doesMore_6 6 rfl rfl)
theorem dX8_doesMore_143 : decode cX8_doesMore 143 = .ok (.aload_n 1, 1) := dk_43 (dk_at dksX8_doesMore_6 7 rfl rfl)
theorem dX8_doesMore_144 : decode cX8_doesMore 144 = .ok (.aload_n 0, 1) := dk_42 (dk_at dksX8_doesMore_6 8 rfl rfl)
theorem dX8_doesMore_145 : decode cX8_doesMore 145 = .ok (.getfield 15, 3) := dk_180 0 15 (dk_at dksX8_doesMore_6 9 rfl rfl)
theorem dX8_doesMore_148 : decode cX8_doesMore 148 = .ok (.invokevirtual 119, 3) := dk_182 0 119 (dk_at dksX8_doesMore_6 12 rfl rfl)
theorem dX8_doesMore_151 : decode cX8_doesMore 151 = .ok (.aload_n 0, 1) := dk_42 (dk_at dksX8_doesMore_6 15 rfl rfl)
theorem dX8_doesMore_152 : decode cX8_doesMore 152 = .ok (.getfield 19, 3) := dk_180 0 19 (dk_at dksX8_doesMore_6 16 rfl rfl)
theorem dX8_doesMore_155 : decode cX8_doesMore 155 = .ok (.aload_n 0, 1) := dk_42 (dk_at dksX8_doesMore_6 19 rfl rfl)
theorem dX8_doesMore_156 : decode cX8_doesMore 156 = .ok (.getfield 22, 3) := dk_180 0 22 (dk_at dksX8_doesMore_6 20 rfl rfl)
theorem dX8_doesMore_159 : decode cX8_doesMore 159 = .ok (.invokevirtual 123, 3) := dk_182 0 123 (dk_at dksX8_doesMore_7 0 rfl rfl)
theorem dX8_doesMore_162 : decode cX8_doesMore 162 = .ok (.ireturn, 1) := dk_172 (dk_at dksX8_doesMore_7 3 rfl rfl)
abbrev cX8_check : ByteArray := prog_8_method_2_code
def yX8_check : MethodName := ⟨RX8, "check", "(LWhelkFleet$Fleet;)V"⟩
def dkwX8_check_13 : List UInt8 := [184, 0, 60, 167, 0, 19, 42, 180, 0, 15, 4, 16, 60, 184, 0, 67, 184, 0, 60, 167, 0, 3, 177]
abbrev dktX8_check_13 : List UInt8 := dkwX8_check_13 ++ []
def dkwX8_check_12 : List UInt8 := [162, 0, 7, 4, 167, 0, 4, 3, 184, 0, 60, 167, 0, 34, 42, 180, 0, 15, 4, 5, 184, 0, 67]
abbrev dktX8_check_12 : List UInt8 := dkwX8_check_12 ++ dktX8_check_13
def dkwX8_check_11 : List UInt8 := [182, 0, 49, 185, 0, 55, 1, 0, 162, 0, 23, 42, 180, 0, 19, 43, 182, 0, 64, 185, 0, 55, 1, 0]
abbrev dktX8_check_11 : List UInt8 := dkwX8_check_11 ++ dktX8_check_12
def dkwX8_check_10 : List UInt8 := [185, 0, 55, 1, 0, 162, 0, 7, 4, 167, 0, 4, 3, 184, 0, 60, 167, 0, 77, 42, 180, 0, 15, 43]
abbrev dktX8_check_10 : List UInt8 := dkwX8_check_10 ++ dktX8_check_11
def dkwX8_check_9 : List UInt8 := [162, 0, 7, 4, 167, 0, 4, 3, 184, 0, 60, 167, 0, 104, 42, 180, 0, 15, 43, 182, 0, 49]
abbrev dktX8_check_9 : List UInt8 := dkwX8_check_9 ++ dktX8_check_10
def dkwX8_check_8 : List UInt8 := [42, 180, 0, 15, 43, 182, 0, 49, 185, 0, 55, 1, 0, 162, 0, 16, 42, 180, 0, 19, 16, 6]
abbrev dktX8_check_8 : List UInt8 := dkwX8_check_8 ++ dktX8_check_9
def dkwX8_check_7 : List UInt8 := [170, 0, 0, 0, 0, 0, 180, 0, 0, 0, 0, 0, 0, 0, 6, 0, 0, 0, 43, 0, 0, 0, 79, 0, 0, 0, 79, 0, 0, 0, 106, 0, 0, 0, 106, 0, 0, 0, 149, 0, 0, 0, 164]
abbrev dktX8_check_7 : List UInt8 := dkwX8_check_7 ++ dktX8_check_8
def dkwX8_check_6 : List UInt8 := [62, 29]
abbrev dktX8_check_6 : List UInt8 := dkwX8_check_6 ++ dktX8_check_7
def dkwX8_check_5 : List UInt8 := [18, 45, 182, 0, 33, 153, 0, 20, 8, 62, 167, 0, 15, 44, 18, 47, 182, 0, 33, 153, 0, 6, 16, 6]
abbrev dktX8_check_5 : List UInt8 := dkwX8_check_5 ++ dktX8_check_6
def dkwX8_check_4 : List UInt8 := [153, 0, 48, 6, 62, 167, 0, 43, 44, 18, 43, 182, 0, 33, 153, 0, 34, 7, 62, 167, 0, 29, 44]
abbrev dktX8_check_4 : List UInt8 := dkwX8_check_4 ++ dktX8_check_5
def dkwX8_check_3 : List UInt8 := [62, 167, 0, 71, 44, 18, 39, 182, 0, 33, 153, 0, 62, 5, 62, 167, 0, 57, 44, 18, 41, 182, 0, 33]
abbrev dktX8_check_3 : List UInt8 := dkwX8_check_3 ++ dktX8_check_4
def dkwX8_check_2 : List UInt8 := [44, 18, 31, 182, 0, 33, 153, 0, 90, 3, 62, 167, 0, 85, 44, 18, 37, 182, 0, 33, 153, 0, 76, 4]
abbrev dktX8_check_2 : List UInt8 := dkwX8_check_2 ++ dktX8_check_3
def dkwX8_check_1 : List UInt8 := [171, 0, 0, 0, 161, 0, 0, 0, 7, 200, 127, 20, 176, 0, 0, 0, 135, 0, 1, 175, 78, 0, 0, 0, 65, 0, 46, 240, 87, 0, 0, 0, 149, 0, 48, 193, 80, 0, 0, 0, 121, 0, 48, 244, 223, 0, 0, 0, 79, 0, 50, 145, 235, 0, 0, 0, 93, 6, 133, 132, 31, 0, 0, 0, 107]
abbrev dktX8_check_1 : List UInt8 := dkwX8_check_1 ++ dktX8_check_2
def dkwX8_check_0 : List UInt8 := [42, 180, 0, 9, 77, 2, 62, 44, 182, 0, 25]
abbrev dktX8_check_0 : List UInt8 := dkwX8_check_0 ++ dktX8_check_1
theorem dksX8_check_0 : cX8_check.data.toList.drop 0 = dktX8_check_0 := by decide +kernel
theorem dksX8_check_1 : cX8_check.data.toList.drop 11 = dktX8_check_1 := dk_seg dksX8_check_0 11 rfl rfl
theorem dksX8_check_2 : cX8_check.data.toList.drop 76 = dktX8_check_2 := dk_seg dksX8_check_1 65 rfl rfl
theorem dksX8_check_3 : cX8_check.data.toList.drop 100 = dktX8_check_3 := dk_seg dksX8_check_2 24 rfl rfl
theorem dksX8_check_4 : cX8_check.data.toList.drop 124 = dktX8_check_4 := dk_seg dksX8_check_3 24 rfl rfl
theorem dksX8_check_5 : cX8_check.data.toList.drop 147 = dktX8_check_5 := dk_seg dksX8_check_4 23 rfl rfl
theorem dksX8_check_6 : cX8_check.data.toList.drop 171 = dktX8_check_6 := dk_seg dksX8_check_5 24 rfl rfl
theorem dksX8_check_7 : cX8_check.data.toList.drop 173 = dktX8_check_7 := dk_seg dksX8_check_6 2 rfl rfl
theorem dksX8_check_8 : cX8_check.data.toList.drop 216 = dktX8_check_8 := dk_seg dksX8_check_7 43 rfl rfl
theorem dksX8_check_9 : cX8_check.data.toList.drop 238 = dktX8_check_9 := dk_seg dksX8_check_8 22 rfl rfl
theorem dksX8_check_10 : cX8_check.data.toList.drop 260 = dktX8_check_10 := dk_seg dksX8_check_9 22 rfl rfl
theorem dksX8_check_11 : cX8_check.data.toList.drop 284 = dktX8_check_11 := dk_seg dksX8_check_10 24 rfl rfl
theorem dksX8_check_12 : cX8_check.data.toList.drop 308 = dktX8_check_12 := dk_seg dksX8_check_11 24 rfl rfl
theorem dksX8_check_13 : cX8_check.data.toList.drop 331 = dktX8_check_13 := dk_seg dksX8_check_12 23 rfl rfl
theorem dX8_check_0 : decode cX8_check 0 = .ok (.aload_n 0, 1) := dk_42 (dk_at dksX8_check_0 0 rfl rfl)
theorem dX8_check_1 : decode cX8_check 1 = .ok (.getfield 9, 3) := dk_180 0 9 (dk_at dksX8_check_0 1 rfl rfl)
theorem dX8_check_4 : decode cX8_check 4 = .ok (.astore_n 2, 1) := dk_77 (dk_at dksX8_check_0 4 rfl rfl)
theorem dX8_check_5 : decode cX8_check 5 = .ok (.iconst (-1), 1) := dk_2 (dk_at dksX8_check_0 5 rfl rfl)
theorem dX8_check_6 : decode cX8_check 6 = .ok (.istore_n 3, 1) := dk_62 (dk_at dksX8_check_0 6 rfl rfl)
theorem dX8_check_7 : decode cX8_check 7 = .ok (.aload_n 2, 1) := dk_44 (dk_at dksX8_check_0 7 rfl rfl)
theorem dX8_check_8 : decode cX8_check 8 = .ok (.invokevirtual 25, 3) := dk_182 0 25 (dk_at dksX8_check_0 8 rfl rfl)
theorem dX8_check_11 : decode cX8_check 11 = .ok (.lookupswitch 161 #[(-931195728, 135), (110414, 65), (3076183, 149), (3195216, 121), (3208415, 79), (3314155, 93), (109413407, 107)], 65) := by decide +kernel
theorem dX8_check_76 : decode cX8_check 76 = .ok (.aload_n 2, 1) := dk_44 (dk_at dksX8_check_2 0 rfl rfl)
theorem dX8_check_77 : decode cX8_check 77 = .ok (.ldc 31, 2) := dk_18 31 (dk_at dksX8_check_2 1 rfl rfl)
theorem dX8_check_79 : decode cX8_check 79 = .ok (.invokevirtual 33, 3) := dk_182 0 33 (dk_at dksX8_check_2 3 rfl rfl)
theorem dX8_check_82 : decode cX8_check 82 = .ok (.ifCond .eq 90, 3) := dk_153 0 90 (dk_at dksX8_check_2 6 rfl rfl)
theorem dX8_check_85 : decode cX8_check 85 = .ok (.iconst 0, 1) := dk_3 (dk_at dksX8_check_2 9 rfl rfl)
theorem dX8_check_86 : decode cX8_check 86 = .ok (.istore_n 3, 1) := dk_62 (dk_at dksX8_check_2 10 rfl rfl)
theorem dX8_check_87 : decode cX8_check 87 = .ok (.goto 85, 3) := dk_167 0 85 (dk_at dksX8_check_2 11 rfl rfl)
theorem dX8_check_90 : decode cX8_check 90 = .ok (.aload_n 2, 1) := dk_44 (dk_at dksX8_check_2 14 rfl rfl)
theorem dX8_check_91 : decode cX8_check 91 = .ok (.ldc 37, 2) := dk_18 37 (dk_at dksX8_check_2 15 rfl rfl)
theorem dX8_check_93 : decode cX8_check 93 = .ok (.invokevirtual 33, 3) := dk_182 0 33 (dk_at dksX8_check_2 17 rfl rfl)
theorem dX8_check_96 : decode cX8_check 96 = .ok (.ifCond .eq 76, 3) := dk_153 0 76 (dk_at dksX8_check_2 20 rfl rfl)
theorem dX8_check_99 : decode cX8_check 99 = .ok (.iconst 1, 1) := dk_4 (dk_at dksX8_check_2 23 rfl rfl)
theorem dX8_check_100 : decode cX8_check 100 = .ok (.istore_n 3, 1) := dk_62 (dk_at dksX8_check_3 0 rfl rfl)
theorem dX8_check_101 : decode cX8_check 101 = .ok (.goto 71, 3) := dk_167 0 71 (dk_at dksX8_check_3 1 rfl rfl)
theorem dX8_check_104 : decode cX8_check 104 = .ok (.aload_n 2, 1) := dk_44 (dk_at dksX8_check_3 4 rfl rfl)
theorem dX8_check_105 : decode cX8_check 105 = .ok (.ldc 39, 2) := dk_18 39 (dk_at dksX8_check_3 5 rfl rfl)
theorem dX8_check_107 : decode cX8_check 107 = .ok (.invokevirtual 33, 3) := dk_182 0 33 (dk_at dksX8_check_3 7 rfl rfl)
theorem dX8_check_110 : decode cX8_check 110 = .ok (.ifCond .eq 62, 3) := dk_153 0 62 (dk_at dksX8_check_3 10 rfl rfl)
theorem dX8_check_113 : decode cX8_check 113 = .ok (.iconst 2, 1) := dk_5 (dk_at dksX8_check_3 13 rfl rfl)
theorem dX8_check_114 : decode cX8_check 114 = .ok (.istore_n 3, 1) := dk_62 (dk_at dksX8_check_3 14 rfl rfl)
theorem dX8_check_115 : decode cX8_check 115 = .ok (.goto 57, 3) := dk_167 0 57 (dk_at dksX8_check_3 15 rfl rfl)
theorem dX8_check_118 : decode cX8_check 118 = .ok (.aload_n 2, 1) := dk_44 (dk_at dksX8_check_3 18 rfl rfl)
theorem dX8_check_119 : decode cX8_check 119 = .ok (.ldc 41, 2) := dk_18 41 (dk_at dksX8_check_3 19 rfl rfl)
theorem dX8_check_121 : decode cX8_check 121 = .ok (.invokevirtual 33, 3) := dk_182 0 33 (dk_at dksX8_check_3 21 rfl rfl)
theorem dX8_check_124 : decode cX8_check 124 = .ok (.ifCond .eq 48, 3) := dk_153 0 48 (dk_at dksX8_check_4 0 rfl rfl)
theorem dX8_check_127 : decode cX8_check 127 = .ok (.iconst 3, 1) := dk_6 (dk_at dksX8_check_4 3 rfl rfl)
theorem dX8_check_128 : decode cX8_check 128 = .ok (.istore_n 3, 1) := dk_62 (dk_at dksX8_check_4 4 rfl rfl)
theorem dX8_check_129 : decode cX8_check 129 = .ok (.goto 43, 3) := dk_167 0 43 (dk_at dksX8_check_4 5 rfl rfl)
theorem dX8_check_132 : decode cX8_check 132 = .ok (.aload_n 2, 1) := dk_44 (dk_at dksX8_check_4 8 rfl rfl)
theorem dX8_check_133 : decode cX8_check 133 = .ok (.ldc 43, 2) := dk_18 43 (dk_at dksX8_check_4 9 rfl rfl)
theorem dX8_check_135 : decode cX8_check 135 = .ok (.invokevirtual 33, 3) := dk_182 0 33 (dk_at dksX8_check_4 11 rfl rfl)
theorem dX8_check_138 : decode cX8_check 138 = .ok (.ifCond .eq 34, 3) := dk_153 0 34 (dk_at dksX8_check_4 14 rfl rfl)
theorem dX8_check_141 : decode cX8_check 141 = .ok (.iconst 4, 1) := dk_7 (dk_at dksX8_check_4 17 rfl rfl)
theorem dX8_check_142 : decode cX8_check 142 = .ok (.istore_n 3, 1) := dk_62 (dk_at dksX8_check_4 18 rfl rfl)
theorem dX8_check_143 : decode cX8_check 143 = .ok (.goto 29, 3) := dk_167 0 29 (dk_at dksX8_check_4 19 rfl rfl)
theorem dX8_check_146 : decode cX8_check 146 = .ok (.aload_n 2, 1) := dk_44 (dk_at dksX8_check_4 22 rfl rfl)
theorem dX8_check_147 : decode cX8_check 147 = .ok (.ldc 45, 2) := dk_18 45 (dk_at dksX8_check_5 0 rfl rfl)
theorem dX8_check_149 : decode cX8_check 149 = .ok (.invokevirtual 33, 3) := dk_182 0 33 (dk_at dksX8_check_5 2 rfl rfl)
theorem dX8_check_152 : decode cX8_check 152 = .ok (.ifCond .eq 20, 3) := dk_153 0 20 (dk_at dksX8_check_5 5 rfl rfl)
theorem dX8_check_155 : decode cX8_check 155 = .ok (.iconst 5, 1) := dk_8 (dk_at dksX8_check_5 8 rfl rfl)
theorem dX8_check_156 : decode cX8_check 156 = .ok (.istore_n 3, 1) := dk_62 (dk_at dksX8_check_5 9 rfl rfl)
theorem dX8_check_157 : decode cX8_check 157 = .ok (.goto 15, 3) := dk_167 0 15 (dk_at dksX8_check_5 10 rfl rfl)
theorem dX8_check_160 : decode cX8_check 160 = .ok (.aload_n 2, 1) := dk_44 (dk_at dksX8_check_5 13 rfl rfl)
theorem dX8_check_161 : decode cX8_check 161 = .ok (.ldc 47, 2) := dk_18 47 (dk_at dksX8_check_5 14 rfl rfl)
theorem dX8_check_163 : decode cX8_check 163 = .ok (.invokevirtual 33, 3) := dk_182 0 33 (dk_at dksX8_check_5 16 rfl rfl)
theorem dX8_check_166 : decode cX8_check 166 = .ok (.ifCond .eq 6, 3) := dk_153 0 6 (dk_at dksX8_check_5 19 rfl rfl)
theorem dX8_check_169 : decode cX8_check 169 = .ok (.bipush 6, 2) := dk_16 6 (dk_at dksX8_check_5 22 rfl rfl)
theorem dX8_check_171 : decode cX8_check 171 = .ok (.istore_n 3, 1) := dk_62 (dk_at dksX8_check_6 0 rfl rfl)
theorem dX8_check_172 : decode cX8_check 172 = .ok (.iload_n 3, 1) := dk_29 (dk_at dksX8_check_6 1 rfl rfl)
theorem dX8_check_173 : decode cX8_check 173 = .ok (.tableswitch 180 0 6 #[43, 79, 79, 106, 106, 149, 164], 43) := by decide +kernel
theorem dX8_check_216 : decode cX8_check 216 = .ok (.aload_n 0, 1) := dk_42 (dk_at dksX8_check_8 0 rfl rfl)
theorem dX8_check_217 : decode cX8_check 217 = .ok (.getfield 15, 3) := dk_180 0 15 (dk_at dksX8_check_8 1 rfl rfl)
theorem dX8_check_220 : decode cX8_check 220 = .ok (.aload_n 1, 1) := dk_43 (dk_at dksX8_check_8 4 rfl rfl)
theorem dX8_check_221 : decode cX8_check 221 = .ok (.invokevirtual 49, 3) := dk_182 0 49 (dk_at dksX8_check_8 5 rfl rfl)
theorem dX8_check_224 : decode cX8_check 224 = .ok (.invokeinterface 55 1, 5) := by decide +kernel
theorem dX8_check_229 : decode cX8_check 229 = .ok (.if_icmp .ge 16, 3) := dk_162 0 16 (dk_at dksX8_check_8 13 rfl rfl)
theorem dX8_check_232 : decode cX8_check 232 = .ok (.aload_n 0, 1) := dk_42 (dk_at dksX8_check_8 16 rfl rfl)
theorem dX8_check_233 : decode cX8_check 233 = .ok (.getfield 19, 3) := dk_180 0 19 (dk_at dksX8_check_8 17 rfl rfl)
theorem dX8_check_236 : decode cX8_check 236 = .ok (.bipush 6, 2) := dk_16 6 (dk_at dksX8_check_8 20 rfl rfl)
theorem dX8_check_238 : decode cX8_check 238 = .ok (.if_icmp .ge 7, 3) := dk_162 0 7 (dk_at dksX8_check_9 0 rfl rfl)
theorem dX8_check_241 : decode cX8_check 241 = .ok (.iconst 1, 1) := dk_4 (dk_at dksX8_check_9 3 rfl rfl)
theorem dX8_check_242 : decode cX8_check 242 = .ok (.goto 4, 3) := dk_167 0 4 (dk_at dksX8_check_9 4 rfl rfl)
theorem dX8_check_245 : decode cX8_check 245 = .ok (.iconst 0, 1) := dk_3 (dk_at dksX8_check_9 7 rfl rfl)
theorem dX8_check_246 : decode cX8_check 246 = .ok (.invokestatic 60, 3) := dk_184 0 60 (dk_at dksX8_check_9 8 rfl rfl)
theorem dX8_check_249 : decode cX8_check 249 = .ok (.goto 104, 3) := dk_167 0 104 (dk_at dksX8_check_9 11 rfl rfl)
theorem dX8_check_252 : decode cX8_check 252 = .ok (.aload_n 0, 1) := dk_42 (dk_at dksX8_check_9 14 rfl rfl)
theorem dX8_check_253 : decode cX8_check 253 = .ok (.getfield 15, 3) := dk_180 0 15 (dk_at dksX8_check_9 15 rfl rfl)
theorem dX8_check_256 : decode cX8_check 256 = .ok (.aload_n 1, 1) := dk_43 (dk_at dksX8_check_9 18 rfl rfl)
theorem dX8_check_257 : decode cX8_check 257 = .ok (.invokevirtual 49, 3) := dk_182 0 49 (dk_at dksX8_check_9 19 rfl rfl)
theorem dX8_check_260 : decode cX8_check 260 = .ok (.invokeinterface 55 1, 5) := by decide +kernel
theorem dX8_check_265 : decode cX8_check 265 = .ok (.if_icmp .ge 7, 3) := dk_162 0 7 (dk_at dksX8_check_10 5 rfl rfl)
theorem dX8_check_268 : decode cX8_check 268 = .ok (.iconst 1, 1) := dk_4 (dk_at dksX8_check_10 8 rfl rfl)
theorem dX8_check_269 : decode cX8_check 269 = .ok (.goto 4, 3) := dk_167 0 4 (dk_at dksX8_check_10 9 rfl rfl)
theorem dX8_check_272 : decode cX8_check 272 = .ok (.iconst 0, 1) := dk_3 (dk_at dksX8_check_10 12 rfl rfl)
theorem dX8_check_273 : decode cX8_check 273 = .ok (.invokestatic 60, 3) := dk_184 0 60 (dk_at dksX8_check_10 13 rfl rfl)
theorem dX8_check_276 : decode cX8_check 276 = .ok (.goto 77, 3) := dk_167 0 77 (dk_at dksX8_check_10 16 rfl rfl)
theorem dX8_check_279 : decode cX8_check 279 = .ok (.aload_n 0, 1) := dk_42 (dk_at dksX8_check_10 19 rfl rfl)
theorem dX8_check_280 : decode cX8_check 280 = .ok (.getfield 15, 3) := dk_180 0 15 (dk_at dksX8_check_10 20 rfl rfl)
theorem dX8_check_283 : decode cX8_check 283 = .ok (.aload_n 1, 1) := dk_43 (dk_at dksX8_check_10 23 rfl rfl)
theorem dX8_check_284 : decode cX8_check 284 = .ok (.invokevirtual 49, 3) := dk_182 0 49 (dk_at dksX8_check_11 0 rfl rfl)
theorem dX8_check_287 : decode cX8_check 287 = .ok (.invokeinterface 55 1, 5) := by decide +kernel
theorem dX8_check_292 : decode cX8_check 292 = .ok (.if_icmp .ge 23, 3) := dk_162 0 23 (dk_at dksX8_check_11 8 rfl rfl)
theorem dX8_check_295 : decode cX8_check 295 = .ok (.aload_n 0, 1) := dk_42 (dk_at dksX8_check_11 11 rfl rfl)
theorem dX8_check_296 : decode cX8_check 296 = .ok (.getfield 19, 3) := dk_180 0 19 (dk_at dksX8_check_11 12 rfl rfl)
theorem dX8_check_299 : decode cX8_check 299 = .ok (.aload_n 1, 1) := dk_43 (dk_at dksX8_check_11 15 rfl rfl)
theorem dX8_check_300 : decode cX8_check 300 = .ok (.invokevirtual 64, 3) := dk_182 0 64 (dk_at dksX8_check_11 16 rfl rfl)
theorem dX8_check_303 : decode cX8_check 303 = .ok (.invokeinterface 55 1, 5) := by decide +kernel
theorem dX8_check_308 : decode cX8_check 308 = .ok (.if_icmp .ge 7, 3) := dk_162 0 7 (dk_at dksX8_check_12 0 rfl rfl)
theorem dX8_check_311 : decode cX8_check 311 = .ok (.iconst 1, 1) := dk_4 (dk_at dksX8_check_12 3 rfl rfl)
theorem dX8_check_312 : decode cX8_check 312 = .ok (.goto 4, 3) := dk_167 0 4 (dk_at dksX8_check_12 4 rfl rfl)
theorem dX8_check_315 : decode cX8_check 315 = .ok (.iconst 0, 1) := dk_3 (dk_at dksX8_check_12 7 rfl rfl)
theorem dX8_check_316 : decode cX8_check 316 = .ok (.invokestatic 60, 3) := dk_184 0 60 (dk_at dksX8_check_12 8 rfl rfl)
theorem dX8_check_319 : decode cX8_check 319 = .ok (.goto 34, 3) := dk_167 0 34 (dk_at dksX8_check_12 11 rfl rfl)
theorem dX8_check_322 : decode cX8_check 322 = .ok (.aload_n 0, 1) := dk_42 (dk_at dksX8_check_12 14 rfl rfl)
theorem dX8_check_323 : decode cX8_check 323 = .ok (.getfield 15, 3) := dk_180 0 15 (dk_at dksX8_check_12 15 rfl rfl)
theorem dX8_check_326 : decode cX8_check 326 = .ok (.iconst 1, 1) := dk_4 (dk_at dksX8_check_12 18 rfl rfl)
theorem dX8_check_327 : decode cX8_check 327 = .ok (.iconst 2, 1) := dk_5 (dk_at dksX8_check_12 19 rfl rfl)
theorem dX8_check_328 : decode cX8_check 328 = .ok (.invokestatic 67, 3) := dk_184 0 67 (dk_at dksX8_check_12 20 rfl rfl)
theorem dX8_check_331 : decode cX8_check 331 = .ok (.invokestatic 60, 3) := dk_184 0 60 (dk_at dksX8_check_13 0 rfl rfl)
theorem dX8_check_334 : decode cX8_check 334 = .ok (.goto 19, 3) := dk_167 0 19 (dk_at dksX8_check_13 3 rfl rfl)
theorem dX8_check_337 : decode cX8_check 337 = .ok (.aload_n 0, 1) := dk_42 (dk_at dksX8_check_13 6 rfl rfl)
theorem dX8_check_338 : decode cX8_check 338 = .ok (.getfield 15, 3) := dk_180 0 15 (dk_at dksX8_check_13 7 rfl rfl)
theorem dX8_check_341 : decode cX8_check 341 = .ok (.iconst 1, 1) := dk_4 (dk_at dksX8_check_13 10 rfl rfl)
theorem dX8_check_342 : decode cX8_check 342 = .ok (.bipush 60, 2) := dk_16 60 (dk_at dksX8_check_13 11 rfl rfl)
theorem dX8_check_344 : decode cX8_check 344 = .ok (.invokestatic 67, 3) := dk_184 0 67 (dk_at dksX8_check_13 13 rfl rfl)
theorem dX8_check_347 : decode cX8_check 347 = .ok (.invokestatic 60, 3) := dk_184 0 60 (dk_at dksX8_check_13 16 rfl rfl)
theorem dX8_check_350 : decode cX8_check 350 = .ok (.goto 3, 3) := dk_167 0 3 (dk_at dksX8_check_13 19 rfl rfl)
theorem dX8_check_353 : decode cX8_check 353 = .ok (.return_, 1) := dk_177 (dk_at dksX8_check_13 22 rfl rfl)
theorem q115 : (Jvm.Cond.initialized "WhelkFleet$Deed") ∈ lw_all := lw_g (lw_at lw_m1 39 rfl) rfl
theorem q268 : (Jvm.Cond.selects "WhelkFleet$Deed" ({ cls := "java/lang/Object", name := "getClass", desc := "()Ljava/lang/Class;" } : Jvm.MethodName) ({ cls := "java/lang/Object", name := "getClass", desc := "()Ljava/lang/Class;" } : Jvm.MethodName)) ∈ lw_all := lw_g (lw_at lw_m1 192 rfl) rfl
theorem q1202 : (Jvm.Cond.instantiable "WhelkFleet$Deed" (4 : Nat)) ∈ lw_all := lw_g (lw_at lw_m5 166 rfl) rfl
theorem q1204 : (Jvm.Cond.instanceMethod ({ cls := "WhelkFleet$Deed", name := "<init>", desc := "(Ljava/lang/String;III)V" } : Jvm.MethodName)) ∈ lw_all := lw_g (lw_at lw_m5 168 rfl) rfl
theorem q1205 : (Jvm.Cond.code ({ cls := "WhelkFleet$Deed", name := "<init>", desc := "(Ljava/lang/String;III)V" } : Jvm.MethodName) prog_8_method_1_code (5 : Nat) (Option.none : Option Jvm.ClassFile.FieldType)) ∈ lw_all := lw_g (lw_at lw_m5 169 rfl) rfl
theorem q1206 : (Jvm.Cond.methodLink "WhelkFleet$Deed" (3 : Nat) ({ cls := "java/lang/Object", name := "<init>", desc := "()V" } : Jvm.MethodName)) ∈ lw_all := lw_g (lw_at lw_m5 170 rfl) rfl
theorem q1207 : (Jvm.Cond.fieldLink "WhelkFleet$Deed" (9 : Nat) "WhelkFleet$Deed" "word" "Ljava/lang/String;") ∈ lw_all := lw_g (lw_at lw_m5 171 rfl) rfl
theorem q1208 : (Jvm.Cond.fieldLink "WhelkFleet$Deed" (15 : Nat) "WhelkFleet$Deed" "one" "I") ∈ lw_all := lw_g (lw_at lw_m5 172 rfl) rfl
theorem q1209 : (Jvm.Cond.fieldLink "WhelkFleet$Deed" (19 : Nat) "WhelkFleet$Deed" "two" "I") ∈ lw_all := lw_g (lw_at lw_m5 173 rfl) rfl
theorem q1210 : (Jvm.Cond.fieldLink "WhelkFleet$Deed" (22 : Nat) "WhelkFleet$Deed" "three" "I") ∈ lw_all := lw_g (lw_at lw_m5 174 rfl) rfl
theorem q1211 : (Jvm.Cond.laysFinal "WhelkFleet$Deed" "WhelkFleet$Deed" "word" "Ljava/lang/String;") ∈ lw_all := lw_g (lw_at lw_m5 175 rfl) rfl
theorem q1212 : (Jvm.Cond.soleField "WhelkFleet$Deed" "word") ∈ lw_all := lw_g (lw_at lw_m5 176 rfl) rfl
theorem q1213 : (Jvm.Cond.laysFinal "WhelkFleet$Deed" "WhelkFleet$Deed" "one" "I") ∈ lw_all := lw_g (lw_at lw_m5 177 rfl) rfl
theorem q1214 : (Jvm.Cond.soleField "WhelkFleet$Deed" "one") ∈ lw_all := lw_g (lw_at lw_m5 178 rfl) rfl
theorem q1215 : (Jvm.Cond.laysFinal "WhelkFleet$Deed" "WhelkFleet$Deed" "two" "I") ∈ lw_all := lw_g (lw_at lw_m5 179 rfl) rfl
theorem q1216 : (Jvm.Cond.soleField "WhelkFleet$Deed" "two") ∈ lw_all := lw_g (lw_at lw_m5 180 rfl) rfl
theorem q1217 : (Jvm.Cond.laysFinal "WhelkFleet$Deed" "WhelkFleet$Deed" "three" "I") ∈ lw_all := lw_g (lw_at lw_m5 181 rfl) rfl
theorem q1218 : (Jvm.Cond.soleField "WhelkFleet$Deed" "three") ∈ lw_all := lw_g (lw_at lw_m5 182 rfl) rfl
theorem q1219 : (Jvm.Cond.superclass "WhelkFleet$Deed" "java/lang/Object") ∈ lw_all := lw_g (lw_at lw_m5 183 rfl) rfl
theorem q1221 : (Jvm.Cond.instanceMethod ({ cls := "WhelkFleet$Deed", name := "does", desc := "(LWhelkFleet$Fleet;)I" } : Jvm.MethodName)) ∈ lw_all := lw_g (lw_at lw_m5 185 rfl) rfl
theorem q1222 : (Jvm.Cond.selects "WhelkFleet$Deed" ({ cls := "WhelkFleet$Deed", name := "does", desc := "(LWhelkFleet$Fleet;)I" } : Jvm.MethodName) ({ cls := "WhelkFleet$Deed", name := "does", desc := "(LWhelkFleet$Fleet;)I" } : Jvm.MethodName)) ∈ lw_all := lw_g (lw_at lw_m5 186 rfl) rfl
theorem q1223 : (Jvm.Cond.code ({ cls := "WhelkFleet$Deed", name := "does", desc := "(LWhelkFleet$Fleet;)I" } : Jvm.MethodName) prog_8_method_3_code (4 : Nat) (Option.some Jvm.ClassFile.FieldType.int)) ∈ lw_all := lw_g (lw_at lw_m5 187 rfl) rfl
theorem q1224 : (Jvm.Cond.methodLink "WhelkFleet$Deed" (25 : Nat) ({ cls := "java/lang/String", name := "hashCode", desc := "()I" } : Jvm.MethodName)) ∈ lw_all := lw_g (lw_at lw_m5 188 rfl) rfl
theorem q1285 : (Jvm.Cond.stringRef "WhelkFleet$Deed" (31 : Nat) "out") ∈ lw_tbl := lw_at lw_m6 9 rfl
theorem q1286 : (Jvm.Cond.methodLink "WhelkFleet$Deed" (33 : Nat) ({ cls := "java/lang/String", name := "equals", desc := "(Ljava/lang/Object;)Z" } : Jvm.MethodName)) ∈ lw_all := lw_g (lw_at lw_m6 10 rfl) rfl
theorem q1294 : (Jvm.Cond.stringRef "WhelkFleet$Deed" (37 : Nat) "home") ∈ lw_tbl := lw_at lw_m6 18 rfl
theorem q1295 : (Jvm.Cond.stringRef "WhelkFleet$Deed" (41 : Nat) "shoot") ∈ lw_tbl := lw_at lw_m6 19 rfl
theorem q1296 : (Jvm.Cond.stringRef "WhelkFleet$Deed" (43 : Nat) "haul") ∈ lw_tbl := lw_at lw_m6 20 rfl
theorem q1297 : (Jvm.Cond.stringRef "WhelkFleet$Deed" (39 : Nat) "land") ∈ lw_tbl := lw_at lw_m6 21 rfl
theorem q1298 : (Jvm.Cond.stringRef "WhelkFleet$Deed" (71 : Nat) "swell") ∈ lw_tbl := lw_at lw_m6 22 rfl
theorem q1299 : (Jvm.Cond.stringRef "WhelkFleet$Deed" (45 : Nat) "riddle") ∈ lw_tbl := lw_at lw_m6 23 rfl
theorem q1300 : (Jvm.Cond.stringRef "WhelkFleet$Deed" (47 : Nat) "days") ∈ lw_tbl := lw_at lw_m6 24 rfl
theorem q1301 : (Jvm.Cond.methodLink "WhelkFleet$Deed" (73 : Nat) ({ cls := "WhelkFleet$Fleet", name := "goesOut", desc := "(II)I" } : Jvm.MethodName)) ∈ lw_all := lw_g (lw_at lw_m6 25 rfl) rfl
theorem q1376 : (Jvm.Cond.methodLink "WhelkFleet$Deed" (77 : Nat) ({ cls := "WhelkFleet$Fleet", name := "goesHome", desc := "(I)I" } : Jvm.MethodName)) ∈ lw_all := lw_g (lw_at lw_m6 100 rfl) rfl
theorem q1386 : (Jvm.Cond.methodLink "WhelkFleet$Deed" (81 : Nat) ({ cls := "WhelkFleet$Fleet", name := "shoots", desc := "(III)I" } : Jvm.MethodName)) ∈ lw_all := lw_g (lw_at lw_m6 110 rfl) rfl
theorem q1406 : (Jvm.Cond.methodLink "WhelkFleet$Deed" (85 : Nat) ({ cls := "WhelkFleet$Fleet", name := "hauls", desc := "(II)I" } : Jvm.MethodName)) ∈ lw_all := lw_g (lw_at lw_m6 130 rfl) rfl
theorem q1483 : (Jvm.Cond.selects "WhelkFleet$Deed" ({ cls := "java/lang/Object", name := "toString", desc := "()Ljava/lang/String;" } : Jvm.MethodName) ({ cls := "java/lang/Object", name := "toString", desc := "()Ljava/lang/String;" } : Jvm.MethodName)) ∈ lw_all := lw_g (lw_at lw_m6 207 rfl) rfl
theorem q1636 : (Jvm.Cond.methodLink "WhelkFleet$Deed" (88 : Nat) ({ cls := "WhelkFleet$Fleet", name := "lands", desc := "(I)I" } : Jvm.MethodName)) ∈ lw_all := lw_g (lw_at lw_m7 120 rfl) rfl
theorem q1656 : (Jvm.Cond.methodLink "WhelkFleet$Deed" (91 : Nat) ({ cls := "WhelkFleet$Fleet", name := "swells", desc := "(I)I" } : Jvm.MethodName)) ∈ lw_all := lw_g (lw_at lw_m7 140 rfl) rfl
theorem q1660 : (Jvm.Cond.methodLink "WhelkFleet$Deed" (94 : Nat) ({ cls := "WhelkFleet$Fleet", name := "riddles", desc := "(I)I" } : Jvm.MethodName)) ∈ lw_all := lw_g (lw_at lw_m7 144 rfl) rfl
theorem q1664 : (Jvm.Cond.methodLink "WhelkFleet$Deed" (97 : Nat) ({ cls := "WhelkFleet$Fleet", name := "pass", desc := "(I)I" } : Jvm.MethodName)) ∈ lw_all := lw_g (lw_at lw_m7 148 rfl) rfl
theorem q1688 : (Jvm.Cond.methodLink "WhelkFleet$Deed" (100 : Nat) ({ cls := "WhelkFleet$Deed", name := "doesMore", desc := "(LWhelkFleet$Fleet;)I" } : Jvm.MethodName)) ∈ lw_all := lw_g (lw_at lw_m7 172 rfl) rfl
theorem q1689 : (Jvm.Cond.privateMethod ({ cls := "WhelkFleet$Deed", name := "doesMore", desc := "(LWhelkFleet$Fleet;)I" } : Jvm.MethodName)) ∈ lw_tbl := lw_at lw_m7 173 rfl
theorem q1690 : (Jvm.Cond.instanceMethod ({ cls := "WhelkFleet$Deed", name := "doesMore", desc := "(LWhelkFleet$Fleet;)I" } : Jvm.MethodName)) ∈ lw_all := lw_g (lw_at lw_m7 174 rfl) rfl
theorem q1691 : (Jvm.Cond.code ({ cls := "WhelkFleet$Deed", name := "doesMore", desc := "(LWhelkFleet$Fleet;)I" } : Jvm.MethodName) prog_8_method_4_code (4 : Nat) (Option.some Jvm.ClassFile.FieldType.int)) ∈ lw_all := lw_g (lw_at lw_m7 175 rfl) rfl
theorem q1692 : (Jvm.Cond.stringRef "WhelkFleet$Deed" (104 : Nat) "boat") ∈ lw_tbl := lw_at lw_m7 176 rfl
theorem q1693 : (Jvm.Cond.stringRef "WhelkFleet$Deed" (106 : Nat) "string") ∈ lw_tbl := lw_at lw_m7 177 rfl
theorem q1694 : (Jvm.Cond.stringRef "WhelkFleet$Deed" (108 : Nat) "box") ∈ lw_tbl := lw_at lw_m7 178 rfl
theorem q1695 : (Jvm.Cond.methodLink "WhelkFleet$Deed" (110 : Nat) ({ cls := "WhelkFleet$Fleet", name := "buys", desc := "(I)I" } : Jvm.MethodName)) ∈ lw_all := lw_g (lw_at lw_m7 179 rfl) rfl
theorem q1710 : (Jvm.Cond.methodLink "WhelkFleet$Deed" (113 : Nat) ({ cls := "WhelkFleet$Fleet", name := "makes", desc := "(I)I" } : Jvm.MethodName)) ∈ lw_all := lw_g (lw_at lw_m7 194 rfl) rfl
theorem q1715 : (Jvm.Cond.methodLink "WhelkFleet$Deed" (116 : Nat) ({ cls := "WhelkFleet$Fleet", name := "fills", desc := "(II)I" } : Jvm.MethodName)) ∈ lw_all := lw_g (lw_at lw_m7 199 rfl) rfl
theorem q1720 : (Jvm.Cond.methodLink "WhelkFleet$Deed" (119 : Nat) ({ cls := "WhelkFleet$Fleet", name := "ground", desc := "(I)LWhelkFleet$Ground;" } : Jvm.MethodName)) ∈ lw_all := lw_g (lw_at lw_m7 204 rfl) rfl
theorem q1721 : (Jvm.Cond.methodLink "WhelkFleet$Deed" (123 : Nat) ({ cls := "WhelkFleet$Ground", name := "becomes", desc := "(II)I" } : Jvm.MethodName)) ∈ lw_all := lw_g (lw_at lw_m7 205 rfl) rfl
theorem q2315 : (Jvm.Cond.instanceMethod ({ cls := "WhelkFleet$Deed", name := "check", desc := "(LWhelkFleet$Fleet;)V" } : Jvm.MethodName)) ∈ lw_all := lw_g (lw_at lw_m10 79 rfl) rfl
theorem q2316 : (Jvm.Cond.selects "WhelkFleet$Deed" ({ cls := "WhelkFleet$Deed", name := "check", desc := "(LWhelkFleet$Fleet;)V" } : Jvm.MethodName) ({ cls := "WhelkFleet$Deed", name := "check", desc := "(LWhelkFleet$Fleet;)V" } : Jvm.MethodName)) ∈ lw_all := lw_g (lw_at lw_m10 80 rfl) rfl
theorem q2317 : (Jvm.Cond.code ({ cls := "WhelkFleet$Deed", name := "check", desc := "(LWhelkFleet$Fleet;)V" } : Jvm.MethodName) prog_8_method_2_code (4 : Nat) (Option.none : Option Jvm.ClassFile.FieldType)) ∈ lw_all := lw_g (lw_at lw_m10 81 rfl) rfl
theorem q2318 : (Jvm.Cond.methodLink "WhelkFleet$Deed" (49 : Nat) ({ cls := "WhelkFleet$Fleet", name := "boats", desc := "()Ljava/util/List;" } : Jvm.MethodName)) ∈ lw_all := lw_g (lw_at lw_m10 82 rfl) rfl
theorem q2319 : (Jvm.Cond.interfaceEntry "WhelkFleet$Deed" (55 : Nat)) ∈ lw_tbl := lw_at lw_m10 83 rfl
theorem q2320 : (Jvm.Cond.methodLink "WhelkFleet$Deed" (55 : Nat) ({ cls := "java/util/List", name := "size", desc := "()I" } : Jvm.MethodName)) ∈ lw_all := lw_g (lw_at lw_m10 84 rfl) rfl
theorem q2321 : (Jvm.Cond.methodLinkNest "WhelkFleet$Deed" (60 : Nat) ({ cls := "WhelkFleet", name := "call", desc := "(Z)V" } : Jvm.MethodName) "WhelkFleet") ∈ lw_tbl := lw_at lw_m10 85 rfl
theorem q2325 : (Jvm.Cond.methodLink "WhelkFleet$Deed" (64 : Nat) ({ cls := "WhelkFleet$Fleet", name := "strings", desc := "()Ljava/util/List;" } : Jvm.MethodName)) ∈ lw_all := lw_g (lw_at lw_m10 89 rfl) rfl
theorem q2326 : (Jvm.Cond.methodLinkNest "WhelkFleet$Deed" (67 : Nat) ({ cls := "WhelkFleet", name := "isIn", desc := "(III)Z" } : Jvm.MethodName) "WhelkFleet") ∈ lw_tbl := lw_at lw_m10 90 rfl
theorem q3020 : (Jvm.Cond.castable "WhelkFleet$Deed" "java/lang/Object") ∈ lw_tbl := lw_at lw_m13 64 rfl
theorem in_X8 : ∀ w ∈ wsX80, w ∈ lw_all := lw_in wsX80 [1211, 1213, 1215, 1217] (by decide +kernel) (by decide +kernel)
/-! WhelkFleet$OnGround -/
set_option maxRecDepth 100000
def RX9 : String := "WhelkFleet$OnGround"
def TX9 : u_T := fun k => match k with
  | _ => ("WhelkFleet$OnGround", "ground", "I", true)
def tyX9 : Nat → FieldType := fun k => match k with
  | _ => .int
abbrev wsX90 : List Cond := u_ws RX9 TX9 1
theorem nmX9 : ∀ a, a < 1 → ∀ b, b < 1 → a ≠ b → (TX9 a).2.1 ≠ (TX9 b).2.1 := by decide +kernel
theorem tyX9_ok : ∀ k, k < 1 → parseFieldDescriptor (TX9 k).2.2.1 = some (tyX9 k) := by decide +kernel
abbrev cX9_init : ByteArray := prog_13_method_1_code
def yX9_init : MethodName := ⟨RX9, "<init>", "(I)V"⟩
def dkwX9_init_0 : List UInt8 := [42, 183, 0, 1, 42, 27, 181, 0, 7, 177]
abbrev dktX9_init_0 : List UInt8 := dkwX9_init_0 ++ []
theorem dksX9_init_0 : cX9_init.data.toList.drop 0 = dktX9_init_0 := by decide +kernel
theorem dX9_init_0 : decode cX9_init 0 = .ok (.aload_n 0, 1) := dk_42 (dk_at dksX9_init_0 0 rfl rfl)
theorem dX9_init_1 : decode cX9_init 1 = .ok (.invokespecial 1, 3) := dk_183 0 1 (dk_at dksX9_init_0 1 rfl rfl)
theorem dX9_init_4 : decode cX9_init 4 = .ok (.aload_n 0, 1) := dk_42 (dk_at dksX9_init_0 4 rfl rfl)
theorem dX9_init_5 : decode cX9_init 5 = .ok (.iload_n 1, 1) := dk_27 (dk_at dksX9_init_0 5 rfl rfl)
theorem dX9_init_6 : decode cX9_init 6 = .ok (.putfield 7, 3) := dk_181 0 7 (dk_at dksX9_init_0 6 rfl rfl)
theorem dX9_init_9 : decode cX9_init 9 = .ok (.return_, 1) := dk_177 (dk_at dksX9_init_0 9 rfl rfl)
abbrev cX9_ground : ByteArray := prog_13_method_2_code
def yX9_ground : MethodName := ⟨RX9, "ground", "()I"⟩
theorem dX9_ground_0 : decode cX9_ground 0 = .ok (.aload_n 0, 1) := by decide +kernel
theorem dX9_ground_1 : decode cX9_ground 1 = .ok (.getfield 7, 3) := by decide +kernel
theorem dX9_ground_4 : decode cX9_ground 4 = .ok (.ireturn, 1) := by decide +kernel
abbrev cX9_hours : ByteArray := prog_13_method_3_code
def yX9_hours : MethodName := ⟨RX9, "hours", "()I"⟩
def dkwX9_hours_0 : List UInt8 := [42, 180, 0, 7, 4, 96, 172]
abbrev dktX9_hours_0 : List UInt8 := dkwX9_hours_0 ++ []
theorem dksX9_hours_0 : cX9_hours.data.toList.drop 0 = dktX9_hours_0 := by decide +kernel
theorem dX9_hours_0 : decode cX9_hours 0 = .ok (.aload_n 0, 1) := dk_42 (dk_at dksX9_hours_0 0 rfl rfl)
theorem dX9_hours_1 : decode cX9_hours 1 = .ok (.getfield 7, 3) := dk_180 0 7 (dk_at dksX9_hours_0 1 rfl rfl)
theorem dX9_hours_4 : decode cX9_hours 4 = .ok (.iconst 1, 1) := dk_4 (dk_at dksX9_hours_0 4 rfl rfl)
theorem dX9_hours_5 : decode cX9_hours 5 = .ok (.iadd, 1) := dk_96 (dk_at dksX9_hours_0 5 rfl rfl)
theorem dX9_hours_6 : decode cX9_hours 6 = .ok (.ireturn, 1) := dk_172 (dk_at dksX9_hours_0 6 rfl rfl)
theorem q116 : (Jvm.Cond.initialized "WhelkFleet$OnGround") ∈ lw_all := lw_g (lw_at lw_m1 40 rfl) rfl
theorem q273 : (Jvm.Cond.selects "WhelkFleet$OnGround" ({ cls := "java/lang/Object", name := "getClass", desc := "()Ljava/lang/Class;" } : Jvm.MethodName) ({ cls := "java/lang/Object", name := "getClass", desc := "()Ljava/lang/Class;" } : Jvm.MethodName)) ∈ lw_all := lw_g (lw_at lw_m1 197 rfl) rfl
theorem q1310 : (Jvm.Cond.instantiable "WhelkFleet$OnGround" (1 : Nat)) ∈ lw_all := lw_g (lw_at lw_m6 34 rfl) rfl
theorem q1312 : (Jvm.Cond.instanceMethod ({ cls := "WhelkFleet$OnGround", name := "<init>", desc := "(I)V" } : Jvm.MethodName)) ∈ lw_all := lw_g (lw_at lw_m6 36 rfl) rfl
theorem q1313 : (Jvm.Cond.code ({ cls := "WhelkFleet$OnGround", name := "<init>", desc := "(I)V" } : Jvm.MethodName) prog_13_method_1_code (2 : Nat) (Option.none : Option Jvm.ClassFile.FieldType)) ∈ lw_all := lw_g (lw_at lw_m6 37 rfl) rfl
theorem q1314 : (Jvm.Cond.methodLink "WhelkFleet$OnGround" (1 : Nat) ({ cls := "java/lang/Object", name := "<init>", desc := "()V" } : Jvm.MethodName)) ∈ lw_all := lw_g (lw_at lw_m6 38 rfl) rfl
theorem q1315 : (Jvm.Cond.fieldLink "WhelkFleet$OnGround" (7 : Nat) "WhelkFleet$OnGround" "ground" "I") ∈ lw_all := lw_g (lw_at lw_m6 39 rfl) rfl
theorem q1316 : (Jvm.Cond.laysFinal "WhelkFleet$OnGround" "WhelkFleet$OnGround" "ground" "I") ∈ lw_all := lw_g (lw_at lw_m6 40 rfl) rfl
theorem q1317 : (Jvm.Cond.soleField "WhelkFleet$OnGround" "ground") ∈ lw_all := lw_g (lw_at lw_m6 41 rfl) rfl
theorem q1318 : (Jvm.Cond.superclass "WhelkFleet$OnGround" "java/lang/Object") ∈ lw_all := lw_g (lw_at lw_m6 42 rfl) rfl
theorem q1336 : (Jvm.Cond.instanceMethod ({ cls := "WhelkFleet$OnGround", name := "ground", desc := "()I" } : Jvm.MethodName)) ∈ lw_all := lw_g (lw_at lw_m6 60 rfl) rfl
theorem q1337 : (Jvm.Cond.selects "WhelkFleet$OnGround" ({ cls := "WhelkFleet$OnGround", name := "ground", desc := "()I" } : Jvm.MethodName) ({ cls := "WhelkFleet$OnGround", name := "ground", desc := "()I" } : Jvm.MethodName)) ∈ lw_all := lw_g (lw_at lw_m6 61 rfl) rfl
theorem q1338 : (Jvm.Cond.code ({ cls := "WhelkFleet$OnGround", name := "ground", desc := "()I" } : Jvm.MethodName) prog_13_method_2_code (1 : Nat) (Option.some Jvm.ClassFile.FieldType.int)) ∈ lw_all := lw_g (lw_at lw_m6 62 rfl) rfl
theorem q1360 : (Jvm.Cond.instanceMethod ({ cls := "WhelkFleet$OnGround", name := "hours", desc := "()I" } : Jvm.MethodName)) ∈ lw_all := lw_g (lw_at lw_m6 84 rfl) rfl
theorem q1361 : (Jvm.Cond.selects "WhelkFleet$OnGround" ({ cls := "WhelkFleet$OnGround", name := "hours", desc := "()I" } : Jvm.MethodName) ({ cls := "WhelkFleet$OnGround", name := "hours", desc := "()I" } : Jvm.MethodName)) ∈ lw_all := lw_g (lw_at lw_m6 85 rfl) rfl
theorem q1362 : (Jvm.Cond.code ({ cls := "WhelkFleet$OnGround", name := "hours", desc := "()I" } : Jvm.MethodName) prog_13_method_3_code (1 : Nat) (Option.some Jvm.ClassFile.FieldType.int)) ∈ lw_all := lw_g (lw_at lw_m6 86 rfl) rfl
theorem q1420 : (Jvm.Cond.castable "WhelkFleet$OnGround" "WhelkFleet$Place") ∈ lw_tbl := lw_at lw_m6 144 rfl
theorem q1421 : (Jvm.Cond.unhidden "WhelkFleet$OnGround" "isAshore" "()Z") ∈ lw_tbl := lw_at lw_m6 145 rfl
theorem q1447 : (Jvm.Cond.unhidden "WhelkFleet$OnGround" "number" "()I") ∈ lw_tbl := lw_at lw_m6 171 rfl
theorem q1448 : (Jvm.Cond.unhidden "WhelkFleet$OnGround" "isSameAs" "(LWhelkFleet$Place;)Z") ∈ lw_tbl := lw_at lw_m6 172 rfl
theorem q1488 : (Jvm.Cond.selects "WhelkFleet$OnGround" ({ cls := "java/lang/Object", name := "toString", desc := "()Ljava/lang/String;" } : Jvm.MethodName) ({ cls := "java/lang/Object", name := "toString", desc := "()Ljava/lang/String;" } : Jvm.MethodName)) ∈ lw_all := lw_g (lw_at lw_m6 212 rfl) rfl
theorem q3022 : (Jvm.Cond.castable "WhelkFleet$OnGround" "java/lang/Object") ∈ lw_tbl := lw_at lw_m13 66 rfl
theorem in_X9 : ∀ w ∈ wsX90, w ∈ lw_all := lw_in wsX90 [1316] (by decide +kernel) (by decide +kernel)
/-! WhelkFleet$Refusal -/
set_option maxRecDepth 100000
def RX10 : String := "WhelkFleet$Refusal"
def TX10 : u_T := fun k => match k with
  | 0 => ("java/lang/Throwable", "cause", "Ljava/lang/Throwable;", false)
  | 1 => ("java/lang/Throwable", "stackTrace", "[Ljava/lang/StackTraceElement;", false)
  | 2 => ("java/lang/Throwable", "suppressedExceptions", "Ljava/util/List;", false)
  | 3 => ("java/lang/Throwable", "detailMessage", "Ljava/lang/String;", false)
  | 4 => ("java/lang/Throwable", "backtrace", "Ljava/lang/Object;", false)
  | 5 => ("java/lang/Throwable", "depth", "I", false)
  | 6 => ("WhelkFleet$Refusal", "reason", "I", true)
  | _ => ("WhelkFleet$Refusal", "detail", "I", true)
def tyX10 : Nat → FieldType := fun k => match k with
  | 0 => .object "java/lang/Throwable"
  | 1 => .array (.object "java/lang/StackTraceElement")
  | 2 => .object "java/util/List"
  | 3 => .object "java/lang/String"
  | 4 => .object "java/lang/Object"
  | 5 => .int
  | 6 => .int
  | _ => .int
abbrev wsX100 : List Cond := u_ws RX10 TX10 8
theorem nmX10 : ∀ a, a < 8 → ∀ b, b < 8 → a ≠ b → (TX10 a).2.1 ≠ (TX10 b).2.1 := by decide +kernel
theorem tyX10_ok : ∀ k, k < 8 → parseFieldDescriptor (TX10 k).2.2.1 = some (tyX10 k) := by decide +kernel
abbrev cX10_init : ByteArray := prog_16_method_1_code
def yX10_init : MethodName := ⟨RX10, "<init>", "(II)V"⟩
def dkwX10_init_0 : List UInt8 := [42, 183, 0, 1, 42, 27, 181, 0, 7, 42, 28, 181, 0, 13, 177]
abbrev dktX10_init_0 : List UInt8 := dkwX10_init_0 ++ []
theorem dksX10_init_0 : cX10_init.data.toList.drop 0 = dktX10_init_0 := by decide +kernel
theorem dX10_init_0 : decode cX10_init 0 = .ok (.aload_n 0, 1) := dk_42 (dk_at dksX10_init_0 0 rfl rfl)
theorem dX10_init_1 : decode cX10_init 1 = .ok (.invokespecial 1, 3) := dk_183 0 1 (dk_at dksX10_init_0 1 rfl rfl)
theorem dX10_init_4 : decode cX10_init 4 = .ok (.aload_n 0, 1) := dk_42 (dk_at dksX10_init_0 4 rfl rfl)
theorem dX10_init_5 : decode cX10_init 5 = .ok (.iload_n 1, 1) := dk_27 (dk_at dksX10_init_0 5 rfl rfl)
theorem dX10_init_6 : decode cX10_init 6 = .ok (.putfield 7, 3) := dk_181 0 7 (dk_at dksX10_init_0 6 rfl rfl)
theorem dX10_init_9 : decode cX10_init 9 = .ok (.aload_n 0, 1) := dk_42 (dk_at dksX10_init_0 9 rfl rfl)
theorem dX10_init_10 : decode cX10_init 10 = .ok (.iload_n 2, 1) := dk_28 (dk_at dksX10_init_0 10 rfl rfl)
theorem dX10_init_11 : decode cX10_init 11 = .ok (.putfield 13, 3) := dk_181 0 13 (dk_at dksX10_init_0 11 rfl rfl)
theorem dX10_init_14 : decode cX10_init 14 = .ok (.return_, 1) := dk_177 (dk_at dksX10_init_0 14 rfl rfl)
abbrev cX10_init_2 : ByteArray := prog_16_method_2_code
def yX10_init_2 : MethodName := ⟨RX10, "<init>", "(IILWhelkFleet$Refusal;)V"⟩
def dkwX10_init_2_0 : List UInt8 := [42, 1, 45, 183, 0, 16, 42, 27, 181, 0, 7, 42, 28, 181, 0, 13, 177]
abbrev dktX10_init_2_0 : List UInt8 := dkwX10_init_2_0 ++ []
theorem dksX10_init_2_0 : cX10_init_2.data.toList.drop 0 = dktX10_init_2_0 := by decide +kernel
theorem dX10_init_2_0 : decode cX10_init_2 0 = .ok (.aload_n 0, 1) := dk_42 (dk_at dksX10_init_2_0 0 rfl rfl)
theorem dX10_init_2_1 : decode cX10_init_2 1 = .ok (.aconst_null, 1) := dk_1 (dk_at dksX10_init_2_0 1 rfl rfl)
theorem dX10_init_2_2 : decode cX10_init_2 2 = .ok (.aload_n 3, 1) := dk_45 (dk_at dksX10_init_2_0 2 rfl rfl)
theorem dX10_init_2_3 : decode cX10_init_2 3 = .ok (.invokespecial 16, 3) := dk_183 0 16 (dk_at dksX10_init_2_0 3 rfl rfl)
theorem dX10_init_2_6 : decode cX10_init_2 6 = .ok (.aload_n 0, 1) := dk_42 (dk_at dksX10_init_2_0 6 rfl rfl)
theorem dX10_init_2_7 : decode cX10_init_2 7 = .ok (.iload_n 1, 1) := dk_27 (dk_at dksX10_init_2_0 7 rfl rfl)
theorem dX10_init_2_8 : decode cX10_init_2 8 = .ok (.putfield 7, 3) := dk_181 0 7 (dk_at dksX10_init_2_0 8 rfl rfl)
theorem dX10_init_2_11 : decode cX10_init_2 11 = .ok (.aload_n 0, 1) := dk_42 (dk_at dksX10_init_2_0 11 rfl rfl)
theorem dX10_init_2_12 : decode cX10_init_2 12 = .ok (.iload_n 2, 1) := dk_28 (dk_at dksX10_init_2_0 12 rfl rfl)
theorem dX10_init_2_13 : decode cX10_init_2 13 = .ok (.putfield 13, 3) := dk_181 0 13 (dk_at dksX10_init_2_0 13 rfl rfl)
theorem dX10_init_2_16 : decode cX10_init_2 16 = .ok (.return_, 1) := dk_177 (dk_at dksX10_init_2_0 16 rfl rfl)
abbrev cX10_at : ByteArray := prog_16_method_5_code
def yX10_at : MethodName := ⟨RX10, "at", "(I)LWhelkFleet$Refusal;"⟩
def dkwX10_at_1 : List UInt8 := [44, 193, 0, 8, 153, 0, 12, 44, 192, 0, 8, 78, 45, 167, 0, 4, 1, 176]
abbrev dktX10_at_1 : List UInt8 := dkwX10_at_1 ++ []
def dkwX10_at_0 : List UInt8 := [42, 77, 3, 62, 29, 27, 162, 0, 18, 44, 198, 0, 14, 44, 182, 0, 19, 77, 132, 3, 1, 167, 255, 239]
abbrev dktX10_at_0 : List UInt8 := dkwX10_at_0 ++ dktX10_at_1
theorem dksX10_at_0 : cX10_at.data.toList.drop 0 = dktX10_at_0 := by decide +kernel
theorem dksX10_at_1 : cX10_at.data.toList.drop 24 = dktX10_at_1 := dk_seg dksX10_at_0 24 rfl rfl
theorem dX10_at_0 : decode cX10_at 0 = .ok (.aload_n 0, 1) := dk_42 (dk_at dksX10_at_0 0 rfl rfl)
theorem dX10_at_1 : decode cX10_at 1 = .ok (.astore_n 2, 1) := dk_77 (dk_at dksX10_at_0 1 rfl rfl)
theorem dX10_at_2 : decode cX10_at 2 = .ok (.iconst 0, 1) := dk_3 (dk_at dksX10_at_0 2 rfl rfl)
theorem dX10_at_3 : decode cX10_at 3 = .ok (.istore_n 3, 1) := dk_62 (dk_at dksX10_at_0 3 rfl rfl)
theorem dX10_at_4 : decode cX10_at 4 = .ok (.iload_n 3, 1) := dk_29 (dk_at dksX10_at_0 4 rfl rfl)
theorem dX10_at_5 : decode cX10_at 5 = .ok (.iload_n 1, 1) := dk_27 (dk_at dksX10_at_0 5 rfl rfl)
theorem dX10_at_6 : decode cX10_at 6 = .ok (.if_icmp .ge 18, 3) := dk_162 0 18 (dk_at dksX10_at_0 6 rfl rfl)
theorem dX10_at_9 : decode cX10_at 9 = .ok (.aload_n 2, 1) := dk_44 (dk_at dksX10_at_0 9 rfl rfl)
theorem dX10_at_10 : decode cX10_at 10 = .ok (.ifnull 14, 3) := dk_198 0 14 (dk_at dksX10_at_0 10 rfl rfl)
theorem dX10_at_13 : decode cX10_at 13 = .ok (.aload_n 2, 1) := dk_44 (dk_at dksX10_at_0 13 rfl rfl)
theorem dX10_at_14 : decode cX10_at 14 = .ok (.invokevirtual 19, 3) := dk_182 0 19 (dk_at dksX10_at_0 14 rfl rfl)
theorem dX10_at_17 : decode cX10_at 17 = .ok (.astore_n 2, 1) := dk_77 (dk_at dksX10_at_0 17 rfl rfl)
theorem dX10_at_18 : decode cX10_at 18 = .ok (.iinc 3 1, 3) := dk_132 3 1 (dk_at dksX10_at_0 18 rfl rfl)
theorem dX10_at_21 : decode cX10_at 21 = .ok (.goto (-17), 3) := dk_167 255 239 (dk_at dksX10_at_0 21 rfl rfl)
theorem dX10_at_24 : decode cX10_at 24 = .ok (.aload_n 2, 1) := dk_44 (dk_at dksX10_at_1 0 rfl rfl)
theorem dX10_at_25 : decode cX10_at 25 = .ok (.instanceof 8, 3) := dk_193 0 8 (dk_at dksX10_at_1 1 rfl rfl)
theorem dX10_at_28 : decode cX10_at 28 = .ok (.ifCond .eq 12, 3) := dk_153 0 12 (dk_at dksX10_at_1 4 rfl rfl)
theorem dX10_at_31 : decode cX10_at 31 = .ok (.aload_n 2, 1) := dk_44 (dk_at dksX10_at_1 7 rfl rfl)
theorem dX10_at_32 : decode cX10_at 32 = .ok (.checkcast 8, 3) := dk_192 0 8 (dk_at dksX10_at_1 8 rfl rfl)
theorem dX10_at_35 : decode cX10_at 35 = .ok (.astore_n 3, 1) := dk_78 (dk_at dksX10_at_1 11 rfl rfl)
theorem dX10_at_36 : decode cX10_at 36 = .ok (.aload_n 3, 1) := dk_45 (dk_at dksX10_at_1 12 rfl rfl)
theorem dX10_at_37 : decode cX10_at 37 = .ok (.goto 4, 3) := dk_167 0 4 (dk_at dksX10_at_1 13 rfl rfl)
theorem dX10_at_40 : decode cX10_at 40 = .ok (.aconst_null, 1) := dk_1 (dk_at dksX10_at_1 16 rfl rfl)
theorem dX10_at_41 : decode cX10_at 41 = .ok (.areturn, 1) := dk_176 (dk_at dksX10_at_1 17 rfl rfl)
abbrev cX10_detail : ByteArray := prog_16_method_4_code
def yX10_detail : MethodName := ⟨RX10, "detail", "()I"⟩
theorem dX10_detail_0 : decode cX10_detail 0 = .ok (.aload_n 0, 1) := by decide +kernel
theorem dX10_detail_1 : decode cX10_detail 1 = .ok (.getfield 13, 3) := by decide +kernel
theorem dX10_detail_4 : decode cX10_detail 4 = .ok (.ireturn, 1) := by decide +kernel
abbrev cX10_reason : ByteArray := prog_16_method_3_code
def yX10_reason : MethodName := ⟨RX10, "reason", "()I"⟩
theorem dX10_reason_0 : decode cX10_reason 0 = .ok (.aload_n 0, 1) := by decide +kernel
theorem dX10_reason_1 : decode cX10_reason 1 = .ok (.getfield 7, 3) := by decide +kernel
theorem dX10_reason_4 : decode cX10_reason 4 = .ok (.ireturn, 1) := by decide +kernel
theorem q117 : (Jvm.Cond.initialized "WhelkFleet$Refusal") ∈ lw_all := lw_g (lw_at lw_m1 41 rfl) rfl
theorem q275 : (Jvm.Cond.selects "WhelkFleet$Refusal" ({ cls := "java/lang/Object", name := "getClass", desc := "()Ljava/lang/Class;" } : Jvm.MethodName) ({ cls := "java/lang/Object", name := "getClass", desc := "()Ljava/lang/Class;" } : Jvm.MethodName)) ∈ lw_all := lw_g (lw_at lw_m1 199 rfl) rfl
theorem q471 : (Jvm.Cond.selects "WhelkFleet$Refusal" ({ cls := "java/lang/Throwable", name := "fillInStackTrace", desc := "()Ljava/lang/Throwable;" } : Jvm.MethodName) ({ cls := "java/lang/Throwable", name := "fillInStackTrace", desc := "()Ljava/lang/Throwable;" } : Jvm.MethodName)) ∈ lw_all := lw_g (lw_at lw_m2 155 rfl) rfl
theorem q1044 : (Jvm.Cond.selects "WhelkFleet$Refusal" ({ cls := "java/lang/Throwable", name := "toString", desc := "()Ljava/lang/String;" } : Jvm.MethodName) ({ cls := "java/lang/Throwable", name := "toString", desc := "()Ljava/lang/String;" } : Jvm.MethodName)) ∈ lw_all := lw_g (lw_at lw_m5 8 rfl) rfl
theorem q1059 : (Jvm.Cond.selects "WhelkFleet$Refusal" ({ cls := "java/lang/Throwable", name := "getLocalizedMessage", desc := "()Ljava/lang/String;" } : Jvm.MethodName) ({ cls := "java/lang/Throwable", name := "getLocalizedMessage", desc := "()Ljava/lang/String;" } : Jvm.MethodName)) ∈ lw_all := lw_g (lw_at lw_m5 23 rfl) rfl
theorem q1073 : (Jvm.Cond.selects "WhelkFleet$Refusal" ({ cls := "java/lang/Throwable", name := "getMessage", desc := "()Ljava/lang/String;" } : Jvm.MethodName) ({ cls := "java/lang/Throwable", name := "getMessage", desc := "()Ljava/lang/String;" } : Jvm.MethodName)) ∈ lw_all := lw_g (lw_at lw_m5 37 rfl) rfl
theorem q1327 : (Jvm.Cond.instantiable "WhelkFleet$Refusal" (8 : Nat)) ∈ lw_all := lw_g (lw_at lw_m6 51 rfl) rfl
theorem q1328 : (Jvm.Cond.castable "WhelkFleet$Refusal" "WhelkFleet$Refusal") ∈ lw_tbl := lw_at lw_m6 52 rfl
theorem q1329 : (Jvm.Cond.selects "WhelkFleet$Refusal" ({ cls := "java/lang/Throwable", name := "fillInStackTrace", desc := "(I)Ljava/lang/Throwable;" } : Jvm.MethodName) ({ cls := "java/lang/Throwable", name := "fillInStackTrace", desc := "(I)Ljava/lang/Throwable;" } : Jvm.MethodName)) ∈ lw_all := lw_g (lw_at lw_m6 53 rfl) rfl
theorem q1330 : (Jvm.Cond.lays "WhelkFleet$Refusal" "java/lang/Throwable" "cause" "Ljava/lang/Throwable;") ∈ lw_all := lw_g (lw_at lw_m6 54 rfl) rfl
theorem q1331 : (Jvm.Cond.lays "WhelkFleet$Refusal" "java/lang/Throwable" "stackTrace" "[Ljava/lang/StackTraceElement;") ∈ lw_all := lw_g (lw_at lw_m6 55 rfl) rfl
theorem q1332 : (Jvm.Cond.lays "WhelkFleet$Refusal" "java/lang/Throwable" "suppressedExceptions" "Ljava/util/List;") ∈ lw_all := lw_g (lw_at lw_m6 56 rfl) rfl
theorem q1333 : (Jvm.Cond.lays "WhelkFleet$Refusal" "java/lang/Throwable" "detailMessage" "Ljava/lang/String;") ∈ lw_all := lw_g (lw_at lw_m6 57 rfl) rfl
theorem q1334 : (Jvm.Cond.lays "WhelkFleet$Refusal" "java/lang/Throwable" "backtrace" "Ljava/lang/Object;") ∈ lw_all := lw_g (lw_at lw_m6 58 rfl) rfl
theorem q1340 : (Jvm.Cond.instanceMethod ({ cls := "WhelkFleet$Refusal", name := "<init>", desc := "(II)V" } : Jvm.MethodName)) ∈ lw_all := lw_g (lw_at lw_m6 64 rfl) rfl
theorem q1341 : (Jvm.Cond.code ({ cls := "WhelkFleet$Refusal", name := "<init>", desc := "(II)V" } : Jvm.MethodName) prog_16_method_1_code (3 : Nat) (Option.none : Option Jvm.ClassFile.FieldType)) ∈ lw_all := lw_g (lw_at lw_m6 65 rfl) rfl
theorem q1342 : (Jvm.Cond.methodLink "WhelkFleet$Refusal" (1 : Nat) ({ cls := "java/lang/Exception", name := "<init>", desc := "()V" } : Jvm.MethodName)) ∈ lw_all := lw_g (lw_at lw_m6 66 rfl) rfl
theorem q1343 : (Jvm.Cond.fieldLink "WhelkFleet$Refusal" (7 : Nat) "WhelkFleet$Refusal" "reason" "I") ∈ lw_all := lw_g (lw_at lw_m6 67 rfl) rfl
theorem q1344 : (Jvm.Cond.fieldLink "WhelkFleet$Refusal" (13 : Nat) "WhelkFleet$Refusal" "detail" "I") ∈ lw_all := lw_g (lw_at lw_m6 68 rfl) rfl
theorem q1345 : (Jvm.Cond.laysFinal "WhelkFleet$Refusal" "WhelkFleet$Refusal" "reason" "I") ∈ lw_all := lw_g (lw_at lw_m6 69 rfl) rfl
theorem q1346 : (Jvm.Cond.soleField "WhelkFleet$Refusal" "reason") ∈ lw_all := lw_g (lw_at lw_m6 70 rfl) rfl
theorem q1347 : (Jvm.Cond.laysFinal "WhelkFleet$Refusal" "WhelkFleet$Refusal" "detail" "I") ∈ lw_all := lw_g (lw_at lw_m6 71 rfl) rfl
theorem q1348 : (Jvm.Cond.soleField "WhelkFleet$Refusal" "detail") ∈ lw_all := lw_g (lw_at lw_m6 72 rfl) rfl
theorem q1349 : (Jvm.Cond.lays "WhelkFleet$Refusal" "java/lang/Throwable" "depth" "I") ∈ lw_all := lw_g (lw_at lw_m6 73 rfl) rfl
theorem q1350 : (Jvm.Cond.superclass "WhelkFleet$Refusal" "java/lang/Exception") ∈ lw_all := lw_g (lw_at lw_m6 74 rfl) rfl
theorem q1452 : (Jvm.Cond.sameMethod "WhelkFleet$Refusal" "java/lang/Throwable" "initCause" "(Ljava/lang/Throwable;)Ljava/lang/Throwable;") ∈ lw_all := lw_g (lw_at lw_m6 176 rfl) rfl
theorem q1454 : (Jvm.Cond.selects "WhelkFleet$Refusal" ({ cls := "WhelkFleet$Refusal", name := "initCause", desc := "(Ljava/lang/Throwable;)Ljava/lang/Throwable;" } : Jvm.MethodName) ({ cls := "java/lang/Throwable", name := "initCause", desc := "(Ljava/lang/Throwable;)Ljava/lang/Throwable;" } : Jvm.MethodName)) ∈ lw_all := lw_g (lw_at lw_m6 178 rfl) rfl
theorem q1490 : (Jvm.Cond.selects "WhelkFleet$Refusal" ({ cls := "java/lang/Object", name := "toString", desc := "()Ljava/lang/String;" } : Jvm.MethodName) ({ cls := "java/lang/Throwable", name := "toString", desc := "()Ljava/lang/String;" } : Jvm.MethodName)) ∈ lw_all := lw_g (lw_at lw_m6 214 rfl) rfl
theorem q2328 : (Jvm.Cond.instanceMethod ({ cls := "WhelkFleet$Refusal", name := "<init>", desc := "(IILWhelkFleet$Refusal;)V" } : Jvm.MethodName)) ∈ lw_all := lw_g (lw_at lw_m10 92 rfl) rfl
theorem q2329 : (Jvm.Cond.code ({ cls := "WhelkFleet$Refusal", name := "<init>", desc := "(IILWhelkFleet$Refusal;)V" } : Jvm.MethodName) prog_16_method_2_code (4 : Nat) (Option.none : Option Jvm.ClassFile.FieldType)) ∈ lw_all := lw_g (lw_at lw_m10 93 rfl) rfl
theorem q2330 : (Jvm.Cond.methodLink "WhelkFleet$Refusal" (16 : Nat) ({ cls := "java/lang/Exception", name := "<init>", desc := "(Ljava/lang/String;Ljava/lang/Throwable;)V" } : Jvm.MethodName)) ∈ lw_all := lw_g (lw_at lw_m10 94 rfl) rfl
theorem q2398 : (Jvm.Cond.instanceMethod ({ cls := "WhelkFleet$Refusal", name := "at", desc := "(I)LWhelkFleet$Refusal;" } : Jvm.MethodName)) ∈ lw_all := lw_g (lw_at lw_m10 162 rfl) rfl
theorem q2399 : (Jvm.Cond.selects "WhelkFleet$Refusal" ({ cls := "WhelkFleet$Refusal", name := "at", desc := "(I)LWhelkFleet$Refusal;" } : Jvm.MethodName) ({ cls := "WhelkFleet$Refusal", name := "at", desc := "(I)LWhelkFleet$Refusal;" } : Jvm.MethodName)) ∈ lw_all := lw_g (lw_at lw_m10 163 rfl) rfl
theorem q2400 : (Jvm.Cond.code ({ cls := "WhelkFleet$Refusal", name := "at", desc := "(I)LWhelkFleet$Refusal;" } : Jvm.MethodName) prog_16_method_5_code (4 : Nat) (Option.some (Jvm.ClassFile.FieldType.object "WhelkFleet$Refusal"))) ∈ lw_all := lw_g (lw_at lw_m10 164 rfl) rfl
theorem q2401 : (Jvm.Cond.methodLink "WhelkFleet$Refusal" (19 : Nat) ({ cls := "java/lang/Throwable", name := "getCause", desc := "()Ljava/lang/Throwable;" } : Jvm.MethodName)) ∈ lw_all := lw_g (lw_at lw_m10 165 rfl) rfl
theorem q2404 : (Jvm.Cond.selects "WhelkFleet$Refusal" ({ cls := "java/lang/Throwable", name := "getCause", desc := "()Ljava/lang/Throwable;" } : Jvm.MethodName) ({ cls := "java/lang/Throwable", name := "getCause", desc := "()Ljava/lang/Throwable;" } : Jvm.MethodName)) ∈ lw_all := lw_g (lw_at lw_m10 168 rfl) rfl
theorem q2415 : (Jvm.Cond.classLink "WhelkFleet$Refusal" (8 : Nat) "WhelkFleet$Refusal") ∈ lw_all := lw_g (lw_at lw_m10 179 rfl) rfl
theorem q2417 : (Jvm.Cond.instanceMethod ({ cls := "WhelkFleet$Refusal", name := "detail", desc := "()I" } : Jvm.MethodName)) ∈ lw_all := lw_g (lw_at lw_m10 181 rfl) rfl
theorem q2418 : (Jvm.Cond.selects "WhelkFleet$Refusal" ({ cls := "WhelkFleet$Refusal", name := "detail", desc := "()I" } : Jvm.MethodName) ({ cls := "WhelkFleet$Refusal", name := "detail", desc := "()I" } : Jvm.MethodName)) ∈ lw_all := lw_g (lw_at lw_m10 182 rfl) rfl
theorem q2419 : (Jvm.Cond.code ({ cls := "WhelkFleet$Refusal", name := "detail", desc := "()I" } : Jvm.MethodName) prog_16_method_4_code (1 : Nat) (Option.some Jvm.ClassFile.FieldType.int)) ∈ lw_all := lw_g (lw_at lw_m10 183 rfl) rfl
theorem q2421 : (Jvm.Cond.instanceMethod ({ cls := "WhelkFleet$Refusal", name := "reason", desc := "()I" } : Jvm.MethodName)) ∈ lw_all := lw_g (lw_at lw_m10 185 rfl) rfl
theorem q2422 : (Jvm.Cond.selects "WhelkFleet$Refusal" ({ cls := "WhelkFleet$Refusal", name := "reason", desc := "()I" } : Jvm.MethodName) ({ cls := "WhelkFleet$Refusal", name := "reason", desc := "()I" } : Jvm.MethodName)) ∈ lw_all := lw_g (lw_at lw_m10 186 rfl) rfl
theorem q2423 : (Jvm.Cond.code ({ cls := "WhelkFleet$Refusal", name := "reason", desc := "()I" } : Jvm.MethodName) prog_16_method_3_code (1 : Nat) (Option.some Jvm.ClassFile.FieldType.int)) ∈ lw_all := lw_g (lw_at lw_m10 187 rfl) rfl
theorem q3023 : (Jvm.Cond.castable "WhelkFleet$Refusal" "java/lang/Object") ∈ lw_tbl := lw_at lw_m13 67 rfl
theorem in_X10 : ∀ w ∈ wsX100, w ∈ lw_all := lw_in wsX100 [1330, 1331, 1332, 1333, 1334, 1349, 1345, 1347] (by decide +kernel) (by decide +kernel)
/-! WhelkFleet$Place -/
set_option maxRecDepth 100000
def RX11 : String := "WhelkFleet$Place"
abbrev cX11_isAshore : ByteArray := prog_14_method_2_code
def yX11_isAshore : MethodName := ⟨RX11, "isAshore", "()Z"⟩
theorem dX11_isAshore_0 : decode cX11_isAshore 0 = .ok (.aload_n 0, 1) := by decide +kernel
theorem dX11_isAshore_1 : decode cX11_isAshore 1 = .ok (.instanceof 9, 3) := by decide +kernel
theorem dX11_isAshore_4 : decode cX11_isAshore 4 = .ok (.ireturn, 1) := by decide +kernel
abbrev cX11_isSameAs : ByteArray := prog_14_method_3_code
def yX11_isSameAs : MethodName := ⟨RX11, "isSameAs", "(LWhelkFleet$Place;)Z"⟩
def dkwX11_isSameAs_0 : List UInt8 := [42, 185, 0, 11, 1, 0, 43, 185, 0, 11, 1, 0, 160, 0, 7, 4, 167, 0, 4, 3, 172]
abbrev dktX11_isSameAs_0 : List UInt8 := dkwX11_isSameAs_0 ++ []
theorem dksX11_isSameAs_0 : cX11_isSameAs.data.toList.drop 0 = dktX11_isSameAs_0 := by decide +kernel
theorem dX11_isSameAs_0 : decode cX11_isSameAs 0 = .ok (.aload_n 0, 1) := dk_42 (dk_at dksX11_isSameAs_0 0 rfl rfl)
theorem dX11_isSameAs_1 : decode cX11_isSameAs 1 = .ok (.invokeinterface 11 1, 5) := by decide +kernel
theorem dX11_isSameAs_6 : decode cX11_isSameAs 6 = .ok (.aload_n 1, 1) := dk_43 (dk_at dksX11_isSameAs_0 6 rfl rfl)
theorem dX11_isSameAs_7 : decode cX11_isSameAs 7 = .ok (.invokeinterface 11 1, 5) := by decide +kernel
theorem dX11_isSameAs_12 : decode cX11_isSameAs 12 = .ok (.if_icmp .ne 7, 3) := dk_160 0 7 (dk_at dksX11_isSameAs_0 12 rfl rfl)
theorem dX11_isSameAs_15 : decode cX11_isSameAs 15 = .ok (.iconst 1, 1) := dk_4 (dk_at dksX11_isSameAs_0 15 rfl rfl)
theorem dX11_isSameAs_16 : decode cX11_isSameAs 16 = .ok (.goto 4, 3) := dk_167 0 4 (dk_at dksX11_isSameAs_0 16 rfl rfl)
theorem dX11_isSameAs_19 : decode cX11_isSameAs 19 = .ok (.iconst 0, 1) := dk_3 (dk_at dksX11_isSameAs_0 19 rfl rfl)
theorem dX11_isSameAs_20 : decode cX11_isSameAs 20 = .ok (.ireturn, 1) := dk_172 (dk_at dksX11_isSameAs_0 20 rfl rfl)
abbrev cX11_number : ByteArray := prog_14_method_1_code
def yX11_number : MethodName := ⟨RX11, "number", "()I"⟩
theorem dX11_number_0 : decode cX11_number 0 = .ok (.aload_n 0, 1) := by decide +kernel
theorem dX11_number_1 : decode cX11_number 1 = .ok (.invokestatic 3, 3) := by decide +kernel
theorem dX11_number_4 : decode cX11_number 4 = .ok (.ireturn, 1) := by decide +kernel
abbrev cX11_groundOf : ByteArray := prog_14_method_4_code
def yX11_groundOf : MethodName := ⟨RX11, "groundOf", "(LWhelkFleet$Place;)I"⟩
def dkwX11_groundOf_0 : List UInt8 := [42, 193, 0, 15, 153, 0, 15, 42, 192, 0, 15, 76, 43, 182, 0, 17, 167, 0, 4, 2, 172]
abbrev dktX11_groundOf_0 : List UInt8 := dkwX11_groundOf_0 ++ []
theorem dksX11_groundOf_0 : cX11_groundOf.data.toList.drop 0 = dktX11_groundOf_0 := by decide +kernel
theorem dX11_groundOf_0 : decode cX11_groundOf 0 = .ok (.aload_n 0, 1) := dk_42 (dk_at dksX11_groundOf_0 0 rfl rfl)
theorem dX11_groundOf_1 : decode cX11_groundOf 1 = .ok (.instanceof 15, 3) := dk_193 0 15 (dk_at dksX11_groundOf_0 1 rfl rfl)
theorem dX11_groundOf_4 : decode cX11_groundOf 4 = .ok (.ifCond .eq 15, 3) := dk_153 0 15 (dk_at dksX11_groundOf_0 4 rfl rfl)
theorem dX11_groundOf_7 : decode cX11_groundOf 7 = .ok (.aload_n 0, 1) := dk_42 (dk_at dksX11_groundOf_0 7 rfl rfl)
theorem dX11_groundOf_8 : decode cX11_groundOf 8 = .ok (.checkcast 15, 3) := dk_192 0 15 (dk_at dksX11_groundOf_0 8 rfl rfl)
theorem dX11_groundOf_11 : decode cX11_groundOf 11 = .ok (.astore_n 1, 1) := dk_76 (dk_at dksX11_groundOf_0 11 rfl rfl)
theorem dX11_groundOf_12 : decode cX11_groundOf 12 = .ok (.aload_n 1, 1) := dk_43 (dk_at dksX11_groundOf_0 12 rfl rfl)
theorem dX11_groundOf_13 : decode cX11_groundOf 13 = .ok (.invokevirtual 17, 3) := dk_182 0 17 (dk_at dksX11_groundOf_0 13 rfl rfl)
theorem dX11_groundOf_16 : decode cX11_groundOf 16 = .ok (.goto 4, 3) := dk_167 0 4 (dk_at dksX11_groundOf_0 16 rfl rfl)
theorem dX11_groundOf_19 : decode cX11_groundOf 19 = .ok (.iconst (-1), 1) := dk_2 (dk_at dksX11_groundOf_0 19 rfl rfl)
theorem dX11_groundOf_20 : decode cX11_groundOf 20 = .ok (.ireturn, 1) := dk_172 (dk_at dksX11_groundOf_0 20 rfl rfl)
theorem q118 : (Jvm.Cond.initialized "WhelkFleet$Place") ∈ lw_all := lw_g (lw_at lw_m1 42 rfl) rfl
theorem q1412 : (Jvm.Cond.interfaceMethod "WhelkFleet$Place" "WhelkFleet$Place" "isAshore" "()Z") ∈ lw_tbl := lw_at lw_m6 136 rfl
theorem q1413 : (Jvm.Cond.declares ({ cls := "WhelkFleet$Place", name := "isAshore", desc := "()Z" } : Jvm.MethodName)) ∈ lw_tbl := lw_at lw_m6 137 rfl
theorem q1416 : (Jvm.Cond.instanceMethod ({ cls := "WhelkFleet$Place", name := "isAshore", desc := "()Z" } : Jvm.MethodName)) ∈ lw_all := lw_g (lw_at lw_m6 140 rfl) rfl
theorem q1417 : (Jvm.Cond.publicMethod ({ cls := "WhelkFleet$Place", name := "isAshore", desc := "()Z" } : Jvm.MethodName)) ∈ lw_tbl := lw_at lw_m6 141 rfl
theorem q1418 : (Jvm.Cond.code ({ cls := "WhelkFleet$Place", name := "isAshore", desc := "()Z" } : Jvm.MethodName) prog_14_method_2_code (1 : Nat) (Option.some Jvm.ClassFile.FieldType.boolean)) ∈ lw_all := lw_g (lw_at lw_m6 142 rfl) rfl
theorem q1419 : (Jvm.Cond.classLink "WhelkFleet$Place" (9 : Nat) "WhelkFleet$Ashore") ∈ lw_all := lw_g (lw_at lw_m6 143 rfl) rfl
theorem q1428 : (Jvm.Cond.interfaceMethod "WhelkFleet$Place" "WhelkFleet$Place" "isSameAs" "(LWhelkFleet$Place;)Z") ∈ lw_tbl := lw_at lw_m6 152 rfl
theorem q1429 : (Jvm.Cond.declares ({ cls := "WhelkFleet$Place", name := "isSameAs", desc := "(LWhelkFleet$Place;)Z" } : Jvm.MethodName)) ∈ lw_tbl := lw_at lw_m6 153 rfl
theorem q1431 : (Jvm.Cond.instanceMethod ({ cls := "WhelkFleet$Place", name := "isSameAs", desc := "(LWhelkFleet$Place;)Z" } : Jvm.MethodName)) ∈ lw_all := lw_g (lw_at lw_m6 155 rfl) rfl
theorem q1432 : (Jvm.Cond.publicMethod ({ cls := "WhelkFleet$Place", name := "isSameAs", desc := "(LWhelkFleet$Place;)Z" } : Jvm.MethodName)) ∈ lw_tbl := lw_at lw_m6 156 rfl
theorem q1433 : (Jvm.Cond.code ({ cls := "WhelkFleet$Place", name := "isSameAs", desc := "(LWhelkFleet$Place;)Z" } : Jvm.MethodName) prog_14_method_3_code (2 : Nat) (Option.some Jvm.ClassFile.FieldType.boolean)) ∈ lw_all := lw_g (lw_at lw_m6 157 rfl) rfl
theorem q1434 : (Jvm.Cond.interfaceEntry "WhelkFleet$Place" (11 : Nat)) ∈ lw_tbl := lw_at lw_m6 158 rfl
theorem q1435 : (Jvm.Cond.methodLink "WhelkFleet$Place" (11 : Nat) ({ cls := "WhelkFleet$Place", name := "number", desc := "()I" } : Jvm.MethodName)) ∈ lw_all := lw_g (lw_at lw_m6 159 rfl) rfl
theorem q1436 : (Jvm.Cond.interfaceMethod "WhelkFleet$Place" "WhelkFleet$Place" "number" "()I") ∈ lw_tbl := lw_at lw_m6 160 rfl
theorem q1437 : (Jvm.Cond.declares ({ cls := "WhelkFleet$Place", name := "number", desc := "()I" } : Jvm.MethodName)) ∈ lw_tbl := lw_at lw_m6 161 rfl
theorem q1439 : (Jvm.Cond.instanceMethod ({ cls := "WhelkFleet$Place", name := "number", desc := "()I" } : Jvm.MethodName)) ∈ lw_all := lw_g (lw_at lw_m6 163 rfl) rfl
theorem q1440 : (Jvm.Cond.publicMethod ({ cls := "WhelkFleet$Place", name := "number", desc := "()I" } : Jvm.MethodName)) ∈ lw_tbl := lw_at lw_m6 164 rfl
theorem q1441 : (Jvm.Cond.code ({ cls := "WhelkFleet$Place", name := "number", desc := "()I" } : Jvm.MethodName) prog_14_method_1_code (1 : Nat) (Option.some Jvm.ClassFile.FieldType.int)) ∈ lw_all := lw_g (lw_at lw_m6 165 rfl) rfl
theorem q1442 : (Jvm.Cond.methodLink "WhelkFleet$Place" (3 : Nat) ({ cls := "WhelkFleet$Place", name := "groundOf", desc := "(LWhelkFleet$Place;)I" } : Jvm.MethodName)) ∈ lw_all := lw_g (lw_at lw_m6 166 rfl) rfl
theorem q1443 : (Jvm.Cond.static ({ cls := "WhelkFleet$Place", name := "groundOf", desc := "(LWhelkFleet$Place;)I" } : Jvm.MethodName)) ∈ lw_all := lw_g (lw_at lw_m6 167 rfl) rfl
theorem q1444 : (Jvm.Cond.code ({ cls := "WhelkFleet$Place", name := "groundOf", desc := "(LWhelkFleet$Place;)I" } : Jvm.MethodName) prog_14_method_4_code (2 : Nat) (Option.some Jvm.ClassFile.FieldType.int)) ∈ lw_all := lw_g (lw_at lw_m6 168 rfl) rfl
theorem q1445 : (Jvm.Cond.classLink "WhelkFleet$Place" (15 : Nat) "WhelkFleet$OnGround") ∈ lw_all := lw_g (lw_at lw_m6 169 rfl) rfl
theorem q1446 : (Jvm.Cond.methodLink "WhelkFleet$Place" (17 : Nat) ({ cls := "WhelkFleet$OnGround", name := "ground", desc := "()I" } : Jvm.MethodName)) ∈ lw_all := lw_g (lw_at lw_m6 170 rfl) rfl
/-! WhelkFleet$Bait -/
set_option maxRecDepth 100000
def RX12 : String := "WhelkFleet$Bait"
abbrev cX12_of : ByteArray := prog_3_method_6_code
def yX12_of : MethodName := ⟨RX12, "of", "(I)LWhelkFleet$Bait;"⟩
def dkwX12_of_2 : List UInt8 := [178, 0, 3, 176, 178, 0, 7, 176, 178, 0, 10, 176]
abbrev dktX12_of_2 : List UInt8 := dkwX12_of_2 ++ []
def dkwX12_of_1 : List UInt8 := [171, 0, 0, 0, 0, 0, 35, 0, 0, 0, 2, 0, 0, 0, 0, 0, 0, 0, 27, 0, 0, 0, 1, 0, 0, 0, 31]
abbrev dktX12_of_1 : List UInt8 := dkwX12_of_1 ++ dktX12_of_2
def dkwX12_of_0 : List UInt8 := [26]
abbrev dktX12_of_0 : List UInt8 := dkwX12_of_0 ++ dktX12_of_1
theorem dksX12_of_0 : cX12_of.data.toList.drop 0 = dktX12_of_0 := by decide +kernel
theorem dksX12_of_1 : cX12_of.data.toList.drop 1 = dktX12_of_1 := dk_seg dksX12_of_0 1 rfl rfl
theorem dksX12_of_2 : cX12_of.data.toList.drop 28 = dktX12_of_2 := dk_seg dksX12_of_1 27 rfl rfl
theorem dX12_of_0 : decode cX12_of 0 = .ok (.iload_n 0, 1) := dk_26 (dk_at dksX12_of_0 0 rfl rfl)
theorem dX12_of_1 : decode cX12_of 1 = .ok (.lookupswitch 35 #[(0, 27), (1, 31)], 27) := by decide +kernel
theorem dX12_of_28 : decode cX12_of 28 = .ok (.getstatic 3, 3) := dk_178 0 3 (dk_at dksX12_of_2 0 rfl rfl)
theorem dX12_of_31 : decode cX12_of 31 = .ok (.areturn, 1) := dk_176 (dk_at dksX12_of_2 3 rfl rfl)
theorem dX12_of_32 : decode cX12_of 32 = .ok (.getstatic 7, 3) := dk_178 0 7 (dk_at dksX12_of_2 4 rfl rfl)
theorem dX12_of_35 : decode cX12_of 35 = .ok (.areturn, 1) := dk_176 (dk_at dksX12_of_2 7 rfl rfl)
theorem dX12_of_36 : decode cX12_of 36 = .ok (.getstatic 10, 3) := dk_178 0 10 (dk_at dksX12_of_2 8 rfl rfl)
theorem dX12_of_39 : decode cX12_of 39 = .ok (.areturn, 1) := dk_176 (dk_at dksX12_of_2 11 rfl rfl)
theorem q121 : (Jvm.Cond.initialized "WhelkFleet$Bait") ∈ lw_all := lw_g (lw_at lw_m1 45 rfl) rfl
theorem q1556 : (Jvm.Cond.static ({ cls := "WhelkFleet$Bait", name := "of", desc := "(I)LWhelkFleet$Bait;" } : Jvm.MethodName)) ∈ lw_all := lw_g (lw_at lw_m7 40 rfl) rfl
theorem q1557 : (Jvm.Cond.code ({ cls := "WhelkFleet$Bait", name := "of", desc := "(I)LWhelkFleet$Bait;" } : Jvm.MethodName) prog_3_method_6_code (1 : Nat) (Option.some (Jvm.ClassFile.FieldType.object "WhelkFleet$Bait"))) ∈ lw_all := lw_g (lw_at lw_m7 41 rfl) rfl
theorem q1558 : (Jvm.Cond.fieldLink "WhelkFleet$Bait" (3 : Nat) "WhelkFleet$Bait" "CRAB" "LWhelkFleet$Bait;") ∈ lw_all := lw_g (lw_at lw_m7 42 rfl) rfl
theorem q1559 : (Jvm.Cond.laysStatic "WhelkFleet$Bait" "CRAB" "LWhelkFleet$Bait;") ∈ lw_tbl := lw_at lw_m7 43 rfl
theorem q1560 : (Jvm.Cond.fieldLink "WhelkFleet$Bait" (7 : Nat) "WhelkFleet$Bait" "FISH" "LWhelkFleet$Bait;") ∈ lw_all := lw_g (lw_at lw_m7 44 rfl) rfl
theorem q1561 : (Jvm.Cond.laysStatic "WhelkFleet$Bait" "FISH" "LWhelkFleet$Bait;") ∈ lw_tbl := lw_at lw_m7 45 rfl
theorem q1562 : (Jvm.Cond.fieldLink "WhelkFleet$Bait" (10 : Nat) "WhelkFleet$Bait" "MIXED" "LWhelkFleet$Bait;") ∈ lw_all := lw_g (lw_at lw_m7 46 rfl) rfl
theorem q1563 : (Jvm.Cond.laysStatic "WhelkFleet$Bait" "MIXED" "LWhelkFleet$Bait;") ∈ lw_tbl := lw_at lw_m7 47 rfl
theorem q1571 : (Jvm.Cond.declares ({ cls := "WhelkFleet$Bait", name := "draws", desc := "(I)I" } : Jvm.MethodName)) ∈ lw_tbl := lw_at lw_m7 55 rfl
theorem q1572 : (Jvm.Cond.sameMethod "WhelkFleet$Bait" "WhelkFleet$Bait" "draws" "(I)I") ∈ lw_all := lw_g (lw_at lw_m7 56 rfl) rfl
theorem q2284 : (Jvm.Cond.declares ({ cls := "WhelkFleet$Bait", name := "word", desc := "()Ljava/lang/String;" } : Jvm.MethodName)) ∈ lw_tbl := lw_at lw_m10 48 rfl
theorem q2285 : (Jvm.Cond.sameMethod "WhelkFleet$Bait" "WhelkFleet$Bait" "word" "()Ljava/lang/String;") ∈ lw_all := lw_g (lw_at lw_m10 49 rfl) rfl
theorem q3039 : (Jvm.Cond.castable "WhelkFleet$Bait" "java/lang/Object") ∈ lw_tbl := lw_at lw_m13 83 rfl
theorem q3056 : (Jvm.Cond.stringRef "WhelkFleet$Bait" (34 : Nat) "CRAB") ∈ lw_tbl := lw_at lw_m13 100 rfl
theorem q3057 : (Jvm.Cond.stringRef "WhelkFleet$Bait" (38 : Nat) "FISH") ∈ lw_tbl := lw_at lw_m13 101 rfl
theorem q3058 : (Jvm.Cond.stringRef "WhelkFleet$Bait" (42 : Nat) "MIXED") ∈ lw_tbl := lw_at lw_m13 102 rfl
/-! WhelkFleet$Draught -/
set_option maxRecDepth 100000
def RX13 : String := "WhelkFleet$Draught"
def TX13 : u_T := fun k => match k with
  | 0 => ("WhelkFleet$Draught", "small", "I", true)
  | 1 => ("WhelkFleet$Draught", "middle", "I", true)
  | _ => ("WhelkFleet$Draught", "large", "I", true)
def tyX13 : Nat → FieldType := fun k => match k with
  | 0 => .int
  | 1 => .int
  | _ => .int
abbrev wsX130 : List Cond := u_ws RX13 TX13 3
theorem nmX13 : ∀ a, a < 3 → ∀ b, b < 3 → a ≠ b → (TX13 a).2.1 ≠ (TX13 b).2.1 := by decide +kernel
theorem tyX13_ok : ∀ k, k < 3 → parseFieldDescriptor (TX13 k).2.2.1 = some (tyX13 k) := by decide +kernel
abbrev cX13_init : ByteArray := prog_9_method_1_code
def yX13_init : MethodName := ⟨RX13, "<init>", "(III)V"⟩
def dkwX13_init_0 : List UInt8 := [42, 183, 0, 1, 42, 27, 181, 0, 7, 42, 28, 181, 0, 13, 42, 29, 181, 0, 16, 177]
abbrev dktX13_init_0 : List UInt8 := dkwX13_init_0 ++ []
theorem dksX13_init_0 : cX13_init.data.toList.drop 0 = dktX13_init_0 := by decide +kernel
theorem dX13_init_0 : decode cX13_init 0 = .ok (.aload_n 0, 1) := dk_42 (dk_at dksX13_init_0 0 rfl rfl)
theorem dX13_init_1 : decode cX13_init 1 = .ok (.invokespecial 1, 3) := dk_183 0 1 (dk_at dksX13_init_0 1 rfl rfl)
theorem dX13_init_4 : decode cX13_init 4 = .ok (.aload_n 0, 1) := dk_42 (dk_at dksX13_init_0 4 rfl rfl)
theorem dX13_init_5 : decode cX13_init 5 = .ok (.iload_n 1, 1) := dk_27 (dk_at dksX13_init_0 5 rfl rfl)
theorem dX13_init_6 : decode cX13_init 6 = .ok (.putfield 7, 3) := dk_181 0 7 (dk_at dksX13_init_0 6 rfl rfl)
theorem dX13_init_9 : decode cX13_init 9 = .ok (.aload_n 0, 1) := dk_42 (dk_at dksX13_init_0 9 rfl rfl)
theorem dX13_init_10 : decode cX13_init 10 = .ok (.iload_n 2, 1) := dk_28 (dk_at dksX13_init_0 10 rfl rfl)
theorem dX13_init_11 : decode cX13_init 11 = .ok (.putfield 13, 3) := dk_181 0 13 (dk_at dksX13_init_0 11 rfl rfl)
theorem dX13_init_14 : decode cX13_init 14 = .ok (.aload_n 0, 1) := dk_42 (dk_at dksX13_init_0 14 rfl rfl)
theorem dX13_init_15 : decode cX13_init 15 = .ok (.iload_n 3, 1) := dk_29 (dk_at dksX13_init_0 15 rfl rfl)
theorem dX13_init_16 : decode cX13_init 16 = .ok (.putfield 16, 3) := dk_181 0 16 (dk_at dksX13_init_0 16 rfl rfl)
theorem dX13_init_19 : decode cX13_init 19 = .ok (.return_, 1) := dk_177 (dk_at dksX13_init_0 19 rfl rfl)
abbrev cX13_kept : ByteArray := prog_9_method_5_code
def yX13_kept : MethodName := ⟨RX13, "kept", "(I)I"⟩
def dkwX13_kept_0 : List UInt8 := [42, 27, 182, 0, 19, 42, 180, 0, 16, 96, 172]
abbrev dktX13_kept_0 : List UInt8 := dkwX13_kept_0 ++ []
theorem dksX13_kept_0 : cX13_kept.data.toList.drop 0 = dktX13_kept_0 := by decide +kernel
theorem dX13_kept_0 : decode cX13_kept 0 = .ok (.aload_n 0, 1) := dk_42 (dk_at dksX13_kept_0 0 rfl rfl)
theorem dX13_kept_1 : decode cX13_kept 1 = .ok (.iload_n 1, 1) := dk_27 (dk_at dksX13_kept_0 1 rfl rfl)
theorem dX13_kept_2 : decode cX13_kept 2 = .ok (.invokevirtual 19, 3) := dk_182 0 19 (dk_at dksX13_kept_0 2 rfl rfl)
theorem dX13_kept_5 : decode cX13_kept 5 = .ok (.aload_n 0, 1) := dk_42 (dk_at dksX13_kept_0 5 rfl rfl)
theorem dX13_kept_6 : decode cX13_kept 6 = .ok (.getfield 16, 3) := dk_180 0 16 (dk_at dksX13_kept_0 6 rfl rfl)
theorem dX13_kept_9 : decode cX13_kept 9 = .ok (.iadd, 1) := dk_96 (dk_at dksX13_kept_0 9 rfl rfl)
theorem dX13_kept_10 : decode cX13_kept 10 = .ok (.ireturn, 1) := dk_172 (dk_at dksX13_kept_0 10 rfl rfl)
abbrev cX13_middleKept : ByteArray := prog_9_method_3_code
def yX13_middleKept : MethodName := ⟨RX13, "middleKept", "(I)I"⟩
def dkwX13_middleKept_0 : List UInt8 := [27, 5, 160, 0, 7, 3, 167, 0, 7, 42, 180, 0, 13, 172]
abbrev dktX13_middleKept_0 : List UInt8 := dkwX13_middleKept_0 ++ []
theorem dksX13_middleKept_0 : cX13_middleKept.data.toList.drop 0 = dktX13_middleKept_0 := by decide +kernel
theorem dX13_middleKept_0 : decode cX13_middleKept 0 = .ok (.iload_n 1, 1) := dk_27 (dk_at dksX13_middleKept_0 0 rfl rfl)
theorem dX13_middleKept_1 : decode cX13_middleKept 1 = .ok (.iconst 2, 1) := dk_5 (dk_at dksX13_middleKept_0 1 rfl rfl)
theorem dX13_middleKept_2 : decode cX13_middleKept 2 = .ok (.if_icmp .ne 7, 3) := dk_160 0 7 (dk_at dksX13_middleKept_0 2 rfl rfl)
theorem dX13_middleKept_5 : decode cX13_middleKept 5 = .ok (.iconst 0, 1) := dk_3 (dk_at dksX13_middleKept_0 5 rfl rfl)
theorem dX13_middleKept_6 : decode cX13_middleKept 6 = .ok (.goto 7, 3) := dk_167 0 7 (dk_at dksX13_middleKept_0 6 rfl rfl)
theorem dX13_middleKept_9 : decode cX13_middleKept 9 = .ok (.aload_n 0, 1) := dk_42 (dk_at dksX13_middleKept_0 9 rfl rfl)
theorem dX13_middleKept_10 : decode cX13_middleKept 10 = .ok (.getfield 13, 3) := dk_180 0 13 (dk_at dksX13_middleKept_0 10 rfl rfl)
theorem dX13_middleKept_13 : decode cX13_middleKept 13 = .ok (.ireturn, 1) := dk_172 (dk_at dksX13_middleKept_0 13 rfl rfl)
abbrev cX13_large : ByteArray := prog_9_method_4_code
def yX13_large : MethodName := ⟨RX13, "large", "()I"⟩
theorem dX13_large_0 : decode cX13_large 0 = .ok (.aload_n 0, 1) := by decide +kernel
theorem dX13_large_1 : decode cX13_large 1 = .ok (.getfield 16, 3) := by decide +kernel
theorem dX13_large_4 : decode cX13_large 4 = .ok (.ireturn, 1) := by decide +kernel
abbrev cX13_all : ByteArray := prog_9_method_2_code
def yX13_all : MethodName := ⟨RX13, "all", "()I"⟩
def dkwX13_all_0 : List UInt8 := [42, 180, 0, 7, 42, 180, 0, 13, 96, 42, 180, 0, 16, 96, 172]
abbrev dktX13_all_0 : List UInt8 := dkwX13_all_0 ++ []
theorem dksX13_all_0 : cX13_all.data.toList.drop 0 = dktX13_all_0 := by decide +kernel
theorem dX13_all_0 : decode cX13_all 0 = .ok (.aload_n 0, 1) := dk_42 (dk_at dksX13_all_0 0 rfl rfl)
theorem dX13_all_1 : decode cX13_all 1 = .ok (.getfield 7, 3) := dk_180 0 7 (dk_at dksX13_all_0 1 rfl rfl)
theorem dX13_all_4 : decode cX13_all 4 = .ok (.aload_n 0, 1) := dk_42 (dk_at dksX13_all_0 4 rfl rfl)
theorem dX13_all_5 : decode cX13_all 5 = .ok (.getfield 13, 3) := dk_180 0 13 (dk_at dksX13_all_0 5 rfl rfl)
theorem dX13_all_8 : decode cX13_all 8 = .ok (.iadd, 1) := dk_96 (dk_at dksX13_all_0 8 rfl rfl)
theorem dX13_all_9 : decode cX13_all 9 = .ok (.aload_n 0, 1) := dk_42 (dk_at dksX13_all_0 9 rfl rfl)
theorem dX13_all_10 : decode cX13_all 10 = .ok (.getfield 16, 3) := dk_180 0 16 (dk_at dksX13_all_0 10 rfl rfl)
theorem dX13_all_13 : decode cX13_all 13 = .ok (.iadd, 1) := dk_96 (dk_at dksX13_all_0 13 rfl rfl)
theorem dX13_all_14 : decode cX13_all 14 = .ok (.ireturn, 1) := dk_172 (dk_at dksX13_all_0 14 rfl rfl)
theorem q122 : (Jvm.Cond.initialized "WhelkFleet$Draught") ∈ lw_all := lw_g (lw_at lw_m1 46 rfl) rfl
theorem q269 : (Jvm.Cond.selects "WhelkFleet$Draught" ({ cls := "java/lang/Object", name := "getClass", desc := "()Ljava/lang/Class;" } : Jvm.MethodName) ({ cls := "java/lang/Object", name := "getClass", desc := "()Ljava/lang/Class;" } : Jvm.MethodName)) ∈ lw_all := lw_g (lw_at lw_m1 193 rfl) rfl
theorem q1484 : (Jvm.Cond.selects "WhelkFleet$Draught" ({ cls := "java/lang/Object", name := "toString", desc := "()Ljava/lang/String;" } : Jvm.MethodName) ({ cls := "java/lang/Object", name := "toString", desc := "()Ljava/lang/String;" } : Jvm.MethodName)) ∈ lw_all := lw_g (lw_at lw_m6 208 rfl) rfl
theorem q1591 : (Jvm.Cond.instantiable "WhelkFleet$Draught" (3 : Nat)) ∈ lw_all := lw_g (lw_at lw_m7 75 rfl) rfl
theorem q1594 : (Jvm.Cond.instanceMethod ({ cls := "WhelkFleet$Draught", name := "<init>", desc := "(III)V" } : Jvm.MethodName)) ∈ lw_all := lw_g (lw_at lw_m7 78 rfl) rfl
theorem q1595 : (Jvm.Cond.code ({ cls := "WhelkFleet$Draught", name := "<init>", desc := "(III)V" } : Jvm.MethodName) prog_9_method_1_code (4 : Nat) (Option.none : Option Jvm.ClassFile.FieldType)) ∈ lw_all := lw_g (lw_at lw_m7 79 rfl) rfl
theorem q1596 : (Jvm.Cond.methodLink "WhelkFleet$Draught" (1 : Nat) ({ cls := "java/lang/Object", name := "<init>", desc := "()V" } : Jvm.MethodName)) ∈ lw_all := lw_g (lw_at lw_m7 80 rfl) rfl
theorem q1597 : (Jvm.Cond.fieldLink "WhelkFleet$Draught" (7 : Nat) "WhelkFleet$Draught" "small" "I") ∈ lw_all := lw_g (lw_at lw_m7 81 rfl) rfl
theorem q1598 : (Jvm.Cond.fieldLink "WhelkFleet$Draught" (13 : Nat) "WhelkFleet$Draught" "middle" "I") ∈ lw_all := lw_g (lw_at lw_m7 82 rfl) rfl
theorem q1599 : (Jvm.Cond.fieldLink "WhelkFleet$Draught" (16 : Nat) "WhelkFleet$Draught" "large" "I") ∈ lw_all := lw_g (lw_at lw_m7 83 rfl) rfl
theorem q1600 : (Jvm.Cond.laysFinal "WhelkFleet$Draught" "WhelkFleet$Draught" "small" "I") ∈ lw_all := lw_g (lw_at lw_m7 84 rfl) rfl
theorem q1601 : (Jvm.Cond.soleField "WhelkFleet$Draught" "small") ∈ lw_all := lw_g (lw_at lw_m7 85 rfl) rfl
theorem q1602 : (Jvm.Cond.laysFinal "WhelkFleet$Draught" "WhelkFleet$Draught" "middle" "I") ∈ lw_all := lw_g (lw_at lw_m7 86 rfl) rfl
theorem q1603 : (Jvm.Cond.soleField "WhelkFleet$Draught" "middle") ∈ lw_all := lw_g (lw_at lw_m7 87 rfl) rfl
theorem q1604 : (Jvm.Cond.laysFinal "WhelkFleet$Draught" "WhelkFleet$Draught" "large" "I") ∈ lw_all := lw_g (lw_at lw_m7 88 rfl) rfl
theorem q1605 : (Jvm.Cond.soleField "WhelkFleet$Draught" "large") ∈ lw_all := lw_g (lw_at lw_m7 89 rfl) rfl
theorem q1606 : (Jvm.Cond.superclass "WhelkFleet$Draught" "java/lang/Object") ∈ lw_all := lw_g (lw_at lw_m7 90 rfl) rfl
theorem q1608 : (Jvm.Cond.instanceMethod ({ cls := "WhelkFleet$Draught", name := "kept", desc := "(I)I" } : Jvm.MethodName)) ∈ lw_all := lw_g (lw_at lw_m7 92 rfl) rfl
theorem q1609 : (Jvm.Cond.selects "WhelkFleet$Draught" ({ cls := "WhelkFleet$Draught", name := "kept", desc := "(I)I" } : Jvm.MethodName) ({ cls := "WhelkFleet$Draught", name := "kept", desc := "(I)I" } : Jvm.MethodName)) ∈ lw_all := lw_g (lw_at lw_m7 93 rfl) rfl
theorem q1610 : (Jvm.Cond.code ({ cls := "WhelkFleet$Draught", name := "kept", desc := "(I)I" } : Jvm.MethodName) prog_9_method_5_code (2 : Nat) (Option.some Jvm.ClassFile.FieldType.int)) ∈ lw_all := lw_g (lw_at lw_m7 94 rfl) rfl
theorem q1611 : (Jvm.Cond.methodLink "WhelkFleet$Draught" (19 : Nat) ({ cls := "WhelkFleet$Draught", name := "middleKept", desc := "(I)I" } : Jvm.MethodName)) ∈ lw_all := lw_g (lw_at lw_m7 95 rfl) rfl
theorem q1612 : (Jvm.Cond.instanceMethod ({ cls := "WhelkFleet$Draught", name := "middleKept", desc := "(I)I" } : Jvm.MethodName)) ∈ lw_all := lw_g (lw_at lw_m7 96 rfl) rfl
theorem q1613 : (Jvm.Cond.selects "WhelkFleet$Draught" ({ cls := "WhelkFleet$Draught", name := "middleKept", desc := "(I)I" } : Jvm.MethodName) ({ cls := "WhelkFleet$Draught", name := "middleKept", desc := "(I)I" } : Jvm.MethodName)) ∈ lw_all := lw_g (lw_at lw_m7 97 rfl) rfl
theorem q1614 : (Jvm.Cond.code ({ cls := "WhelkFleet$Draught", name := "middleKept", desc := "(I)I" } : Jvm.MethodName) prog_9_method_3_code (2 : Nat) (Option.some Jvm.ClassFile.FieldType.int)) ∈ lw_all := lw_g (lw_at lw_m7 98 rfl) rfl
theorem q1617 : (Jvm.Cond.instanceMethod ({ cls := "WhelkFleet$Draught", name := "large", desc := "()I" } : Jvm.MethodName)) ∈ lw_all := lw_g (lw_at lw_m7 101 rfl) rfl
theorem q1618 : (Jvm.Cond.selects "WhelkFleet$Draught" ({ cls := "WhelkFleet$Draught", name := "large", desc := "()I" } : Jvm.MethodName) ({ cls := "WhelkFleet$Draught", name := "large", desc := "()I" } : Jvm.MethodName)) ∈ lw_all := lw_g (lw_at lw_m7 102 rfl) rfl
theorem q1619 : (Jvm.Cond.code ({ cls := "WhelkFleet$Draught", name := "large", desc := "()I" } : Jvm.MethodName) prog_9_method_4_code (1 : Nat) (Option.some Jvm.ClassFile.FieldType.int)) ∈ lw_all := lw_g (lw_at lw_m7 103 rfl) rfl
theorem q1629 : (Jvm.Cond.instanceMethod ({ cls := "WhelkFleet$Draught", name := "all", desc := "()I" } : Jvm.MethodName)) ∈ lw_all := lw_g (lw_at lw_m7 113 rfl) rfl
theorem q1630 : (Jvm.Cond.selects "WhelkFleet$Draught" ({ cls := "WhelkFleet$Draught", name := "all", desc := "()I" } : Jvm.MethodName) ({ cls := "WhelkFleet$Draught", name := "all", desc := "()I" } : Jvm.MethodName)) ∈ lw_all := lw_g (lw_at lw_m7 114 rfl) rfl
theorem q1631 : (Jvm.Cond.code ({ cls := "WhelkFleet$Draught", name := "all", desc := "()I" } : Jvm.MethodName) prog_9_method_2_code (1 : Nat) (Option.some Jvm.ClassFile.FieldType.int)) ∈ lw_all := lw_g (lw_at lw_m7 115 rfl) rfl
theorem q3028 : (Jvm.Cond.castable "WhelkFleet$Draught" "java/lang/Object") ∈ lw_tbl := lw_at lw_m13 72 rfl
theorem in_X13 : ∀ w ∈ wsX130, w ∈ lw_all := lw_in wsX130 [1600, 1602, 1604] (by decide +kernel) (by decide +kernel)
/-! WhelkFleet$Reader -/
set_option maxRecDepth 100000
def RX14 : String := "WhelkFleet$Reader"
def TX14 : u_T := fun k => match k with
  | 0 => ("WhelkFleet$Reader", "text", "Ljava/lang/CharSequence;", true)
  | _ => ("WhelkFleet$Reader", "at", "I", false)
def tyX14 : Nat → FieldType := fun k => match k with
  | 0 => .object "java/lang/CharSequence"
  | _ => .int
abbrev wsX140 : List Cond := u_ws RX14 TX14 2
theorem nmX14 : ∀ a, a < 2 → ∀ b, b < 2 → a ≠ b → (TX14 a).2.1 ≠ (TX14 b).2.1 := by decide +kernel
theorem tyX14_ok : ∀ k, k < 2 → parseFieldDescriptor (TX14 k).2.2.1 = some (tyX14 k) := by decide +kernel
abbrev cX14_init : ByteArray := prog_15_method_1_code
def yX14_init : MethodName := ⟨RX14, "<init>", "(Ljava/lang/CharSequence;)V"⟩
def dkwX14_init_0 : List UInt8 := [42, 183, 0, 1, 42, 43, 181, 0, 7, 177]
abbrev dktX14_init_0 : List UInt8 := dkwX14_init_0 ++ []
theorem dksX14_init_0 : cX14_init.data.toList.drop 0 = dktX14_init_0 := by decide +kernel
theorem dX14_init_0 : decode cX14_init 0 = .ok (.aload_n 0, 1) := dk_42 (dk_at dksX14_init_0 0 rfl rfl)
theorem dX14_init_1 : decode cX14_init 1 = .ok (.invokespecial 1, 3) := dk_183 0 1 (dk_at dksX14_init_0 1 rfl rfl)
theorem dX14_init_4 : decode cX14_init 4 = .ok (.aload_n 0, 1) := dk_42 (dk_at dksX14_init_0 4 rfl rfl)
theorem dX14_init_5 : decode cX14_init 5 = .ok (.aload_n 1, 1) := dk_43 (dk_at dksX14_init_0 5 rfl rfl)
theorem dX14_init_6 : decode cX14_init 6 = .ok (.putfield 7, 3) := dk_181 0 7 (dk_at dksX14_init_0 6 rfl rfl)
theorem dX14_init_9 : decode cX14_init 9 = .ok (.return_, 1) := dk_177 (dk_at dksX14_init_0 9 rfl rfl)
abbrev cX14_orders : ByteArray := prog_15_method_12_code
def yX14_orders : MethodName := ⟨RX14, "orders", "()Ljava/util/List;"⟩
def dkwX14_orders_2 : List UInt8 := [185, 0, 137, 2, 0, 87, 167, 255, 223, 43, 176]
abbrev dktX14_orders_2 : List UInt8 := dkwX14_orders_2 ++ []
def dkwX14_orders_1 : List UInt8 := [180, 0, 7, 185, 0, 17, 1, 0, 162, 0, 23, 42, 18, 142, 182, 0, 98, 43, 42, 182, 0, 133]
abbrev dktX14_orders_1 : List UInt8 := dkwX14_orders_1 ++ dktX14_orders_2
def dkwX14_orders_0 : List UInt8 := [187, 0, 130, 89, 183, 0, 132, 76, 43, 42, 182, 0, 133, 185, 0, 137, 2, 0, 87, 42, 180, 0, 13, 42]
abbrev dktX14_orders_0 : List UInt8 := dkwX14_orders_0 ++ dktX14_orders_1
theorem dksX14_orders_0 : cX14_orders.data.toList.drop 0 = dktX14_orders_0 := by decide +kernel
theorem dksX14_orders_1 : cX14_orders.data.toList.drop 24 = dktX14_orders_1 := dk_seg dksX14_orders_0 24 rfl rfl
theorem dksX14_orders_2 : cX14_orders.data.toList.drop 46 = dktX14_orders_2 := dk_seg dksX14_orders_1 22 rfl rfl
theorem dX14_orders_0 : decode cX14_orders 0 = .ok (.new 130, 3) := dk_187 0 130 (dk_at dksX14_orders_0 0 rfl rfl)
theorem dX14_orders_3 : decode cX14_orders 3 = .ok (.dup, 1) := dk_89 (dk_at dksX14_orders_0 3 rfl rfl)
theorem dX14_orders_4 : decode cX14_orders 4 = .ok (.invokespecial 132, 3) := dk_183 0 132 (dk_at dksX14_orders_0 4 rfl rfl)
theorem dX14_orders_7 : decode cX14_orders 7 = .ok (.astore_n 1, 1) := dk_76 (dk_at dksX14_orders_0 7 rfl rfl)
theorem dX14_orders_8 : decode cX14_orders 8 = .ok (.aload_n 1, 1) := dk_43 (dk_at dksX14_orders_0 8 rfl rfl)
theorem dX14_orders_9 : decode cX14_orders 9 = .ok (.aload_n 0, 1) := dk_42 (dk_at dksX14_orders_0 9 rfl rfl)
theorem dX14_orders_10 : decode cX14_orders 10 = .ok (.invokevirtual 133, 3) := dk_182 0 133 (dk_at dksX14_orders_0 10 rfl rfl)
theorem dX14_orders_13 : decode cX14_orders 13 = .ok (.invokeinterface 137 2, 5) := by decide +kernel
theorem dX14_orders_18 : decode cX14_orders 18 = .ok (.pop, 1) := dk_87 (dk_at dksX14_orders_0 18 rfl rfl)
theorem dX14_orders_19 : decode cX14_orders 19 = .ok (.aload_n 0, 1) := dk_42 (dk_at dksX14_orders_0 19 rfl rfl)
theorem dX14_orders_20 : decode cX14_orders 20 = .ok (.getfield 13, 3) := dk_180 0 13 (dk_at dksX14_orders_0 20 rfl rfl)
theorem dX14_orders_23 : decode cX14_orders 23 = .ok (.aload_n 0, 1) := dk_42 (dk_at dksX14_orders_0 23 rfl rfl)
theorem dX14_orders_24 : decode cX14_orders 24 = .ok (.getfield 7, 3) := dk_180 0 7 (dk_at dksX14_orders_1 0 rfl rfl)
theorem dX14_orders_27 : decode cX14_orders 27 = .ok (.invokeinterface 17 1, 5) := by decide +kernel
theorem dX14_orders_32 : decode cX14_orders 32 = .ok (.if_icmp .ge 23, 3) := dk_162 0 23 (dk_at dksX14_orders_1 8 rfl rfl)
theorem dX14_orders_35 : decode cX14_orders 35 = .ok (.aload_n 0, 1) := dk_42 (dk_at dksX14_orders_1 11 rfl rfl)
theorem dX14_orders_36 : decode cX14_orders 36 = .ok (.ldc 142, 2) := dk_18 142 (dk_at dksX14_orders_1 12 rfl rfl)
theorem dX14_orders_38 : decode cX14_orders 38 = .ok (.invokevirtual 98, 3) := dk_182 0 98 (dk_at dksX14_orders_1 14 rfl rfl)
theorem dX14_orders_41 : decode cX14_orders 41 = .ok (.aload_n 1, 1) := dk_43 (dk_at dksX14_orders_1 17 rfl rfl)
theorem dX14_orders_42 : decode cX14_orders 42 = .ok (.aload_n 0, 1) := dk_42 (dk_at dksX14_orders_1 18 rfl rfl)
theorem dX14_orders_43 : decode cX14_orders 43 = .ok (.invokevirtual 133, 3) := dk_182 0 133 (dk_at dksX14_orders_1 19 rfl rfl)
theorem dX14_orders_46 : decode cX14_orders 46 = .ok (.invokeinterface 137 2, 5) := by decide +kernel
theorem dX14_orders_51 : decode cX14_orders 51 = .ok (.pop, 1) := dk_87 (dk_at dksX14_orders_2 5 rfl rfl)
theorem dX14_orders_52 : decode cX14_orders 52 = .ok (.goto (-33), 3) := dk_167 255 223 (dk_at dksX14_orders_2 6 rfl rfl)
theorem dX14_orders_55 : decode cX14_orders 55 = .ok (.aload_n 1, 1) := dk_43 (dk_at dksX14_orders_2 9 rfl rfl)
theorem dX14_orders_56 : decode cX14_orders 56 = .ok (.areturn, 1) := dk_176 (dk_at dksX14_orders_2 10 rfl rfl)
abbrev cX14_order : ByteArray := prog_15_method_11_code
def yX14_order : MethodName := ⟨RX14, "order", "()LWhelkFleet$Deed;"⟩
def dkwX14_order_11 : List UInt8 := [42, 182, 0, 48, 3, 3, 183, 0, 117, 176]
abbrev dktX14_order_11 : List UInt8 := dkwX14_order_11 ++ []
def dkwX14_order_10 : List UInt8 := [183, 0, 117, 176, 187, 0, 115, 89, 43, 42, 182, 0, 127, 3, 3, 183, 0, 117, 176, 187, 0, 115, 89, 43]
abbrev dktX14_order_10 : List UInt8 := dkwX14_order_10 ++ dktX14_order_11
def dkwX14_order_9 : List UInt8 := [182, 0, 48, 54, 7, 42, 18, 120, 182, 0, 98, 187, 0, 115, 89, 43, 42, 182, 0, 48, 21, 7, 3]
abbrev dktX14_order_9 : List UInt8 := dkwX14_order_9 ++ dktX14_order_10
def dkwX14_order_8 : List UInt8 := [18, 122, 182, 0, 98, 187, 0, 115, 89, 43, 21, 6, 21, 5, 42, 182, 0, 124, 183, 0, 117, 176, 42]
abbrev dktX14_order_8 : List UInt8 := dkwX14_order_8 ++ dktX14_order_9
def dkwX14_order_7 : List UInt8 := [183, 0, 117, 176, 42, 182, 0, 48, 54, 5, 42, 18, 120, 182, 0, 98, 42, 182, 0, 48, 54, 6, 42]
abbrev dktX14_order_7 : List UInt8 := dkwX14_order_7 ++ dktX14_order_8
def dkwX14_order_6 : List UInt8 := [42, 182, 0, 48, 54, 4, 42, 18, 113, 182, 0, 98, 187, 0, 115, 89, 43, 21, 4, 42, 182, 0, 48, 3]
abbrev dktX14_order_6 : List UInt8 := dkwX14_order_6 ++ dktX14_order_7
def dkwX14_order_5 : List UInt8 := [170, 0, 0, 0, 0, 142, 0, 0, 0, 0, 0, 0, 0, 3, 0, 0, 0, 30, 0, 0, 0, 58, 0, 0, 0, 99, 0, 0, 0, 127]
abbrev dktX14_order_5 : List UInt8 := dkwX14_order_5 ++ dktX14_order_6
def dkwX14_order_4 : List UInt8 := [153, 0, 5, 6, 62, 29]
abbrev dktX14_order_4 : List UInt8 := dkwX14_order_4 ++ dktX14_order_5
def dkwX14_order_3 : List UInt8 := [62, 167, 0, 28, 44, 18, 109, 182, 0, 92, 153, 0, 19, 5, 62, 167, 0, 14, 44, 18, 111, 182, 0, 92]
abbrev dktX14_order_3 : List UInt8 := dkwX14_order_3 ++ dktX14_order_4
def dkwX14_order_2 : List UInt8 := [44, 18, 105, 182, 0, 92, 153, 0, 47, 3, 62, 167, 0, 42, 44, 18, 107, 182, 0, 92, 153, 0, 33, 4]
abbrev dktX14_order_2 : List UInt8 := dkwX14_order_2 ++ dktX14_order_3
def dkwX14_order_1 : List UInt8 := [171, 0, 0, 0, 0, 0, 96, 0, 0, 0, 4, 0, 1, 175, 78, 0, 0, 0, 43, 0, 46, 240, 87, 0, 0, 0, 85, 0, 48, 193, 80, 0, 0, 0, 71, 6, 133, 132, 31, 0, 0, 0, 57]
abbrev dktX14_order_1 : List UInt8 := dkwX14_order_1 ++ dktX14_order_2
def dkwX14_order_0 : List UInt8 := [42, 18, 96, 182, 0, 80, 76, 42, 18, 57, 182, 0, 98, 43, 77, 2, 62, 44, 182, 0, 102]
abbrev dktX14_order_0 : List UInt8 := dkwX14_order_0 ++ dktX14_order_1
theorem dksX14_order_0 : cX14_order.data.toList.drop 0 = dktX14_order_0 := by decide +kernel
theorem dksX14_order_1 : cX14_order.data.toList.drop 21 = dktX14_order_1 := dk_seg dksX14_order_0 21 rfl rfl
theorem dksX14_order_2 : cX14_order.data.toList.drop 64 = dktX14_order_2 := dk_seg dksX14_order_1 43 rfl rfl
theorem dksX14_order_3 : cX14_order.data.toList.drop 88 = dktX14_order_3 := dk_seg dksX14_order_2 24 rfl rfl
theorem dksX14_order_4 : cX14_order.data.toList.drop 112 = dktX14_order_4 := dk_seg dksX14_order_3 24 rfl rfl
theorem dksX14_order_5 : cX14_order.data.toList.drop 118 = dktX14_order_5 := dk_seg dksX14_order_4 6 rfl rfl
theorem dksX14_order_6 : cX14_order.data.toList.drop 148 = dktX14_order_6 := dk_seg dksX14_order_5 30 rfl rfl
theorem dksX14_order_7 : cX14_order.data.toList.drop 172 = dktX14_order_7 := dk_seg dksX14_order_6 24 rfl rfl
theorem dksX14_order_8 : cX14_order.data.toList.drop 195 = dktX14_order_8 := dk_seg dksX14_order_7 23 rfl rfl
theorem dksX14_order_9 : cX14_order.data.toList.drop 218 = dktX14_order_9 := dk_seg dksX14_order_8 23 rfl rfl
theorem dksX14_order_10 : cX14_order.data.toList.drop 241 = dktX14_order_10 := dk_seg dksX14_order_9 23 rfl rfl
theorem dksX14_order_11 : cX14_order.data.toList.drop 265 = dktX14_order_11 := dk_seg dksX14_order_10 24 rfl rfl
theorem dX14_order_0 : decode cX14_order 0 = .ok (.aload_n 0, 1) := dk_42 (dk_at dksX14_order_0 0 rfl rfl)
theorem dX14_order_1 : decode cX14_order 1 = .ok (.ldc 96, 2) := dk_18 96 (dk_at dksX14_order_0 1 rfl rfl)
theorem dX14_order_3 : decode cX14_order 3 = .ok (.invokevirtual 80, 3) := dk_182 0 80 (dk_at dksX14_order_0 3 rfl rfl)
theorem dX14_order_6 : decode cX14_order 6 = .ok (.astore_n 1, 1) := dk_76 (dk_at dksX14_order_0 6 rfl rfl)
theorem dX14_order_7 : decode cX14_order 7 = .ok (.aload_n 0, 1) := dk_42 (dk_at dksX14_order_0 7 rfl rfl)
theorem dX14_order_8 : decode cX14_order 8 = .ok (.ldc 57, 2) := dk_18 57 (dk_at dksX14_order_0 8 rfl rfl)
theorem dX14_order_10 : decode cX14_order 10 = .ok (.invokevirtual 98, 3) := dk_182 0 98 (dk_at dksX14_order_0 10 rfl rfl)
theorem dX14_order_13 : decode cX14_order 13 = .ok (.aload_n 1, 1) := dk_43 (dk_at dksX14_order_0 13 rfl rfl)
theorem dX14_order_14 : decode cX14_order 14 = .ok (.astore_n 2, 1) := dk_77 (dk_at dksX14_order_0 14 rfl rfl)
theorem dX14_order_15 : decode cX14_order 15 = .ok (.iconst (-1), 1) := dk_2 (dk_at dksX14_order_0 15 rfl rfl)
theorem dX14_order_16 : decode cX14_order 16 = .ok (.istore_n 3, 1) := dk_62 (dk_at dksX14_order_0 16 rfl rfl)
theorem dX14_order_17 : decode cX14_order 17 = .ok (.aload_n 2, 1) := dk_44 (dk_at dksX14_order_0 17 rfl rfl)
theorem dX14_order_18 : decode cX14_order 18 = .ok (.invokevirtual 102, 3) := dk_182 0 102 (dk_at dksX14_order_0 18 rfl rfl)
theorem dX14_order_21 : decode cX14_order 21 = .ok (.lookupswitch 96 #[(110414, 43), (3076183, 85), (3195216, 71), (109413407, 57)], 43) := by decide +kernel
theorem dX14_order_64 : decode cX14_order 64 = .ok (.aload_n 2, 1) := dk_44 (dk_at dksX14_order_2 0 rfl rfl)
theorem dX14_order_65 : decode cX14_order 65 = .ok (.ldc 105, 2) := dk_18 105 (dk_at dksX14_order_2 1 rfl rfl)
theorem dX14_order_67 : decode cX14_order 67 = .ok (.invokevirtual 92, 3) := dk_182 0 92 (dk_at dksX14_order_2 3 rfl rfl)
theorem dX14_order_70 : decode cX14_order 70 = .ok (.ifCond .eq 47, 3) := dk_153 0 47 (dk_at dksX14_order_2 6 rfl rfl)
theorem dX14_order_73 : decode cX14_order 73 = .ok (.iconst 0, 1) := dk_3 (dk_at dksX14_order_2 9 rfl rfl)
theorem dX14_order_74 : decode cX14_order 74 = .ok (.istore_n 3, 1) := dk_62 (dk_at dksX14_order_2 10 rfl rfl)
theorem dX14_order_75 : decode cX14_order 75 = .ok (.goto 42, 3) := dk_167 0 42 (dk_at dksX14_order_2 11 rfl rfl)
theorem dX14_order_78 : decode cX14_order 78 = .ok (.aload_n 2, 1) := dk_44 (dk_at dksX14_order_2 14 rfl rfl)
theorem dX14_order_79 : decode cX14_order 79 = .ok (.ldc 107, 2) := dk_18 107 (dk_at dksX14_order_2 15 rfl rfl)
theorem dX14_order_81 : decode cX14_order 81 = .ok (.invokevirtual 92, 3) := dk_182 0 92 (dk_at dksX14_order_2 17 rfl rfl)
theorem dX14_order_84 : decode cX14_order 84 = .ok (.ifCond .eq 33, 3) := dk_153 0 33 (dk_at dksX14_order_2 20 rfl rfl)
theorem dX14_order_87 : decode cX14_order 87 = .ok (.iconst 1, 1) := dk_4 (dk_at dksX14_order_2 23 rfl rfl)
theorem dX14_order_88 : decode cX14_order 88 = .ok (.istore_n 3, 1) := dk_62 (dk_at dksX14_order_3 0 rfl rfl)
theorem dX14_order_89 : decode cX14_order 89 = .ok (.goto 28, 3) := dk_167 0 28 (dk_at dksX14_order_3 1 rfl rfl)
theorem dX14_order_92 : decode cX14_order 92 = .ok (.aload_n 2, 1) := dk_44 (dk_at dksX14_order_3 4 rfl rfl)
theorem dX14_order_93 : decode cX14_order 93 = .ok (.ldc 109, 2) := dk_18 109 (dk_at dksX14_order_3 5 rfl rfl)
theorem dX14_order_95 : decode cX14_order 95 = .ok (.invokevirtual 92, 3) := dk_182 0 92 (dk_at dksX14_order_3 7 rfl rfl)
theorem dX14_order_98 : decode cX14_order 98 = .ok (.ifCond .eq 19, 3) := dk_153 0 19 (dk_at dksX14_order_3 10 rfl rfl)
theorem dX14_order_101 : decode cX14_order 101 = .ok (.iconst 2, 1) := dk_5 (dk_at dksX14_order_3 13 rfl rfl)
theorem dX14_order_102 : decode cX14_order 102 = .ok (.istore_n 3, 1) := dk_62 (dk_at dksX14_order_3 14 rfl rfl)
theorem dX14_order_103 : decode cX14_order 103 = .ok (.goto 14, 3) := dk_167 0 14 (dk_at dksX14_order_3 15 rfl rfl)
theorem dX14_order_106 : decode cX14_order 106 = .ok (.aload_n 2, 1) := dk_44 (dk_at dksX14_order_3 18 rfl rfl)
theorem dX14_order_107 : decode cX14_order 107 = .ok (.ldc 111, 2) := dk_18 111 (dk_at dksX14_order_3 19 rfl rfl)
theorem dX14_order_109 : decode cX14_order 109 = .ok (.invokevirtual 92, 3) := dk_182 0 92 (dk_at dksX14_order_3 21 rfl rfl)
theorem dX14_order_112 : decode cX14_order 112 = .ok (.ifCond .eq 5, 3) := dk_153 0 5 (dk_at dksX14_order_4 0 rfl rfl)
theorem dX14_order_115 : decode cX14_order 115 = .ok (.iconst 3, 1) := dk_6 (dk_at dksX14_order_4 3 rfl rfl)
theorem dX14_order_116 : decode cX14_order 116 = .ok (.istore_n 3, 1) := dk_62 (dk_at dksX14_order_4 4 rfl rfl)
theorem dX14_order_117 : decode cX14_order 117 = .ok (.iload_n 3, 1) := dk_29 (dk_at dksX14_order_4 5 rfl rfl)
theorem dX14_order_118 : decode cX14_order 118 = .ok (.tableswitch 142 0 3 #[30, 58, 99, 127], 30) := by decide +kernel
theorem dX14_order_148 : decode cX14_order 148 = .ok (.aload_n 0, 1) := dk_42 (dk_at dksX14_order_6 0 rfl rfl)
theorem dX14_order_149 : decode cX14_order 149 = .ok (.invokevirtual 48, 3) := dk_182 0 48 (dk_at dksX14_order_6 1 rfl rfl)
theorem dX14_order_152 : decode cX14_order 152 = .ok (.istore 4, 2) := dk_54 4 (dk_at dksX14_order_6 4 rfl rfl)
theorem dX14_order_154 : decode cX14_order 154 = .ok (.aload_n 0, 1) := dk_42 (dk_at dksX14_order_6 6 rfl rfl)
theorem dX14_order_155 : decode cX14_order 155 = .ok (.ldc 113, 2) := dk_18 113 (dk_at dksX14_order_6 7 rfl rfl)
theorem dX14_order_157 : decode cX14_order 157 = .ok (.invokevirtual 98, 3) := dk_182 0 98 (dk_at dksX14_order_6 9 rfl rfl)
theorem dX14_order_160 : decode cX14_order 160 = .ok (.new 115, 3) := dk_187 0 115 (dk_at dksX14_order_6 12 rfl rfl)
theorem dX14_order_163 : decode cX14_order 163 = .ok (.dup, 1) := dk_89 (dk_at dksX14_order_6 15 rfl rfl)
theorem dX14_order_164 : decode cX14_order 164 = .ok (.aload_n 1, 1) := dk_43 (dk_at dksX14_order_6 16 rfl rfl)
theorem dX14_order_165 : decode cX14_order 165 = .ok (.iload 4, 2) := dk_21 4 (dk_at dksX14_order_6 17 rfl rfl)
theorem dX14_order_167 : decode cX14_order 167 = .ok (.aload_n 0, 1) := dk_42 (dk_at dksX14_order_6 19 rfl rfl)
theorem dX14_order_168 : decode cX14_order 168 = .ok (.invokevirtual 48, 3) := dk_182 0 48 (dk_at dksX14_order_6 20 rfl rfl)
theorem dX14_order_171 : decode cX14_order 171 = .ok (.iconst 0, 1) := dk_3 (dk_at dksX14_order_6 23 rfl rfl)
theorem dX14_order_172 : decode cX14_order 172 = .ok (.invokespecial 117, 3) := dk_183 0 117 (dk_at dksX14_order_7 0 rfl rfl)
theorem dX14_order_175 : decode cX14_order 175 = .ok (.areturn, 1) := dk_176 (dk_at dksX14_order_7 3 rfl rfl)
theorem dX14_order_176 : decode cX14_order 176 = .ok (.aload_n 0, 1) := dk_42 (dk_at dksX14_order_7 4 rfl rfl)
theorem dX14_order_177 : decode cX14_order 177 = .ok (.invokevirtual 48, 3) := dk_182 0 48 (dk_at dksX14_order_7 5 rfl rfl)
theorem dX14_order_180 : decode cX14_order 180 = .ok (.istore 5, 2) := dk_54 5 (dk_at dksX14_order_7 8 rfl rfl)
theorem dX14_order_182 : decode cX14_order 182 = .ok (.aload_n 0, 1) := dk_42 (dk_at dksX14_order_7 10 rfl rfl)
theorem dX14_order_183 : decode cX14_order 183 = .ok (.ldc 120, 2) := dk_18 120 (dk_at dksX14_order_7 11 rfl rfl)
theorem dX14_order_185 : decode cX14_order 185 = .ok (.invokevirtual 98, 3) := dk_182 0 98 (dk_at dksX14_order_7 13 rfl rfl)
theorem dX14_order_188 : decode cX14_order 188 = .ok (.aload_n 0, 1) := dk_42 (dk_at dksX14_order_7 16 rfl rfl)
theorem dX14_order_189 : decode cX14_order 189 = .ok (.invokevirtual 48, 3) := dk_182 0 48 (dk_at dksX14_order_7 17 rfl rfl)
theorem dX14_order_192 : decode cX14_order 192 = .ok (.istore 6, 2) := dk_54 6 (dk_at dksX14_order_7 20 rfl rfl)
theorem dX14_order_194 : decode cX14_order 194 = .ok (.aload_n 0, 1) := dk_42 (dk_at dksX14_order_7 22 rfl rfl)
theorem dX14_order_195 : decode cX14_order 195 = .ok (.ldc 122, 2) := dk_18 122 (dk_at dksX14_order_8 0 rfl rfl)
theorem dX14_order_197 : decode cX14_order 197 = .ok (.invokevirtual 98, 3) := dk_182 0 98 (dk_at dksX14_order_8 2 rfl rfl)
theorem dX14_order_200 : decode cX14_order 200 = .ok (.new 115, 3) := dk_187 0 115 (dk_at dksX14_order_8 5 rfl rfl)
theorem dX14_order_203 : decode cX14_order 203 = .ok (.dup, 1) := dk_89 (dk_at dksX14_order_8 8 rfl rfl)
theorem dX14_order_204 : decode cX14_order 204 = .ok (.aload_n 1, 1) := dk_43 (dk_at dksX14_order_8 9 rfl rfl)
theorem dX14_order_205 : decode cX14_order 205 = .ok (.iload 6, 2) := dk_21 6 (dk_at dksX14_order_8 10 rfl rfl)
theorem dX14_order_207 : decode cX14_order 207 = .ok (.iload 5, 2) := dk_21 5 (dk_at dksX14_order_8 12 rfl rfl)
theorem dX14_order_209 : decode cX14_order 209 = .ok (.aload_n 0, 1) := dk_42 (dk_at dksX14_order_8 14 rfl rfl)
theorem dX14_order_210 : decode cX14_order 210 = .ok (.invokevirtual 124, 3) := dk_182 0 124 (dk_at dksX14_order_8 15 rfl rfl)
theorem dX14_order_213 : decode cX14_order 213 = .ok (.invokespecial 117, 3) := dk_183 0 117 (dk_at dksX14_order_8 18 rfl rfl)
theorem dX14_order_216 : decode cX14_order 216 = .ok (.areturn, 1) := dk_176 (dk_at dksX14_order_8 21 rfl rfl)
theorem dX14_order_217 : decode cX14_order 217 = .ok (.aload_n 0, 1) := dk_42 (dk_at dksX14_order_8 22 rfl rfl)
theorem dX14_order_218 : decode cX14_order 218 = .ok (.invokevirtual 48, 3) := dk_182 0 48 (dk_at dksX14_order_9 0 rfl rfl)
theorem dX14_order_221 : decode cX14_order 221 = .ok (.istore 7, 2) := dk_54 7 (dk_at dksX14_order_9 3 rfl rfl)
theorem dX14_order_223 : decode cX14_order 223 = .ok (.aload_n 0, 1) := dk_42 (dk_at dksX14_order_9 5 rfl rfl)
theorem dX14_order_224 : decode cX14_order 224 = .ok (.ldc 120, 2) := dk_18 120 (dk_at dksX14_order_9 6 rfl rfl)
theorem dX14_order_226 : decode cX14_order 226 = .ok (.invokevirtual 98, 3) := dk_182 0 98 (dk_at dksX14_order_9 8 rfl rfl)
theorem dX14_order_229 : decode cX14_order 229 = .ok (.new 115, 3) := dk_187 0 115 (dk_at dksX14_order_9 11 rfl rfl)
theorem dX14_order_232 : decode cX14_order 232 = .ok (.dup, 1) := dk_89 (dk_at dksX14_order_9 14 rfl rfl)
theorem dX14_order_233 : decode cX14_order 233 = .ok (.aload_n 1, 1) := dk_43 (dk_at dksX14_order_9 15 rfl rfl)
theorem dX14_order_234 : decode cX14_order 234 = .ok (.aload_n 0, 1) := dk_42 (dk_at dksX14_order_9 16 rfl rfl)
theorem dX14_order_235 : decode cX14_order 235 = .ok (.invokevirtual 48, 3) := dk_182 0 48 (dk_at dksX14_order_9 17 rfl rfl)
theorem dX14_order_238 : decode cX14_order 238 = .ok (.iload 7, 2) := dk_21 7 (dk_at dksX14_order_9 20 rfl rfl)
theorem dX14_order_240 : decode cX14_order 240 = .ok (.iconst 0, 1) := dk_3 (dk_at dksX14_order_9 22 rfl rfl)
theorem dX14_order_241 : decode cX14_order 241 = .ok (.invokespecial 117, 3) := dk_183 0 117 (dk_at dksX14_order_10 0 rfl rfl)
theorem dX14_order_244 : decode cX14_order 244 = .ok (.areturn, 1) := dk_176 (dk_at dksX14_order_10 3 rfl rfl)
theorem dX14_order_245 : decode cX14_order 245 = .ok (.new 115, 3) := dk_187 0 115 (dk_at dksX14_order_10 4 rfl rfl)
theorem dX14_order_248 : decode cX14_order 248 = .ok (.dup, 1) := dk_89 (dk_at dksX14_order_10 7 rfl rfl)
theorem dX14_order_249 : decode cX14_order 249 = .ok (.aload_n 1, 1) := dk_43 (dk_at dksX14_order_10 8 rfl rfl)
theorem dX14_order_250 : decode cX14_order 250 = .ok (.aload_n 0, 1) := dk_42 (dk_at dksX14_order_10 9 rfl rfl)
theorem dX14_order_251 : decode cX14_order 251 = .ok (.invokevirtual 127, 3) := dk_182 0 127 (dk_at dksX14_order_10 10 rfl rfl)
theorem dX14_order_254 : decode cX14_order 254 = .ok (.iconst 0, 1) := dk_3 (dk_at dksX14_order_10 13 rfl rfl)
theorem dX14_order_255 : decode cX14_order 255 = .ok (.iconst 0, 1) := dk_3 (dk_at dksX14_order_10 14 rfl rfl)
theorem dX14_order_256 : decode cX14_order 256 = .ok (.invokespecial 117, 3) := dk_183 0 117 (dk_at dksX14_order_10 15 rfl rfl)
theorem dX14_order_259 : decode cX14_order 259 = .ok (.areturn, 1) := dk_176 (dk_at dksX14_order_10 18 rfl rfl)
theorem dX14_order_260 : decode cX14_order 260 = .ok (.new 115, 3) := dk_187 0 115 (dk_at dksX14_order_10 19 rfl rfl)
theorem dX14_order_263 : decode cX14_order 263 = .ok (.dup, 1) := dk_89 (dk_at dksX14_order_10 22 rfl rfl)
theorem dX14_order_264 : decode cX14_order 264 = .ok (.aload_n 1, 1) := dk_43 (dk_at dksX14_order_10 23 rfl rfl)
theorem dX14_order_265 : decode cX14_order 265 = .ok (.aload_n 0, 1) := dk_42 (dk_at dksX14_order_11 0 rfl rfl)
theorem dX14_order_266 : decode cX14_order 266 = .ok (.invokevirtual 48, 3) := dk_182 0 48 (dk_at dksX14_order_11 1 rfl rfl)
theorem dX14_order_269 : decode cX14_order 269 = .ok (.iconst 0, 1) := dk_3 (dk_at dksX14_order_11 4 rfl rfl)
theorem dX14_order_270 : decode cX14_order 270 = .ok (.iconst 0, 1) := dk_3 (dk_at dksX14_order_11 5 rfl rfl)
theorem dX14_order_271 : decode cX14_order 271 = .ok (.invokespecial 117, 3) := dk_183 0 117 (dk_at dksX14_order_11 6 rfl rfl)
theorem dX14_order_274 : decode cX14_order 274 = .ok (.areturn, 1) := dk_176 (dk_at dksX14_order_11 9 rfl rfl)
abbrev cX14_word : ByteArray := prog_15_method_9_code
def yX14_word : MethodName := ⟨RX14, "word", "(Ljava/lang/String;)Ljava/lang/String;"⟩
def dkwX14_word_5 : List UInt8 := [182, 0, 40, 44, 182, 0, 69, 176]
abbrev dktX14_word_5 : List UInt8 := dkwX14_word_5 ++ []
def dkwX14_word_4 : List UInt8 := [44, 182, 0, 63, 18, 57, 182, 0, 59, 182, 0, 69, 182, 0, 73, 153, 0, 7, 4, 167, 0, 4, 3]
abbrev dktX14_word_4 : List UInt8 := dkwX14_word_4 ++ dktX14_word_5
def dkwX14_word_3 : List UInt8 := [167, 255, 196, 42, 44, 182, 0, 77, 158, 0, 38, 43, 187, 0, 51, 89, 183, 0, 53, 18, 57, 182, 0, 59]
abbrev dktX14_word_3 : List UInt8 := dkwX14_word_3 ++ dktX14_word_4
def dkwX14_word_2 : List UInt8 := [182, 0, 40, 44, 42, 182, 0, 35, 182, 0, 66, 87, 42, 89, 180, 0, 13, 4, 96, 181, 0, 13]
abbrev dktX14_word_2 : List UInt8 := dkwX14_word_2 ++ dktX14_word_3
def dkwX14_word_1 : List UInt8 := [18, 57, 182, 0, 59, 44, 182, 0, 63, 42, 182, 0, 35, 182, 0, 66, 182, 0, 69, 182, 0, 73]
abbrev dktX14_word_1 : List UInt8 := dkwX14_word_1 ++ dktX14_word_2
def dkwX14_word_0 : List UInt8 := [187, 0, 51, 89, 183, 0, 53, 77, 42, 182, 0, 54, 153, 0, 59, 42, 43, 187, 0, 51, 89, 183, 0, 53]
abbrev dktX14_word_0 : List UInt8 := dkwX14_word_0 ++ dktX14_word_1
theorem dksX14_word_0 : cX14_word.data.toList.drop 0 = dktX14_word_0 := by decide +kernel
theorem dksX14_word_1 : cX14_word.data.toList.drop 24 = dktX14_word_1 := dk_seg dksX14_word_0 24 rfl rfl
theorem dksX14_word_2 : cX14_word.data.toList.drop 46 = dktX14_word_2 := dk_seg dksX14_word_1 22 rfl rfl
theorem dksX14_word_3 : cX14_word.data.toList.drop 68 = dktX14_word_3 := dk_seg dksX14_word_2 22 rfl rfl
theorem dksX14_word_4 : cX14_word.data.toList.drop 92 = dktX14_word_4 := dk_seg dksX14_word_3 24 rfl rfl
theorem dksX14_word_5 : cX14_word.data.toList.drop 115 = dktX14_word_5 := dk_seg dksX14_word_4 23 rfl rfl
theorem dX14_word_0 : decode cX14_word 0 = .ok (.new 51, 3) := dk_187 0 51 (dk_at dksX14_word_0 0 rfl rfl)
theorem dX14_word_3 : decode cX14_word 3 = .ok (.dup, 1) := dk_89 (dk_at dksX14_word_0 3 rfl rfl)
theorem dX14_word_4 : decode cX14_word 4 = .ok (.invokespecial 53, 3) := dk_183 0 53 (dk_at dksX14_word_0 4 rfl rfl)
theorem dX14_word_7 : decode cX14_word 7 = .ok (.astore_n 2, 1) := dk_77 (dk_at dksX14_word_0 7 rfl rfl)
theorem dX14_word_8 : decode cX14_word 8 = .ok (.aload_n 0, 1) := dk_42 (dk_at dksX14_word_0 8 rfl rfl)
theorem dX14_word_9 : decode cX14_word 9 = .ok (.invokevirtual 54, 3) := dk_182 0 54 (dk_at dksX14_word_0 9 rfl rfl)
theorem dX14_word_12 : decode cX14_word 12 = .ok (.ifCond .eq 59, 3) := dk_153 0 59 (dk_at dksX14_word_0 12 rfl rfl)
theorem dX14_word_15 : decode cX14_word 15 = .ok (.aload_n 0, 1) := dk_42 (dk_at dksX14_word_0 15 rfl rfl)
theorem dX14_word_16 : decode cX14_word 16 = .ok (.aload_n 1, 1) := dk_43 (dk_at dksX14_word_0 16 rfl rfl)
theorem dX14_word_17 : decode cX14_word 17 = .ok (.new 51, 3) := dk_187 0 51 (dk_at dksX14_word_0 17 rfl rfl)
theorem dX14_word_20 : decode cX14_word 20 = .ok (.dup, 1) := dk_89 (dk_at dksX14_word_0 20 rfl rfl)
theorem dX14_word_21 : decode cX14_word 21 = .ok (.invokespecial 53, 3) := dk_183 0 53 (dk_at dksX14_word_0 21 rfl rfl)
theorem dX14_word_24 : decode cX14_word 24 = .ok (.ldc 57, 2) := dk_18 57 (dk_at dksX14_word_1 0 rfl rfl)
theorem dX14_word_26 : decode cX14_word 26 = .ok (.invokevirtual 59, 3) := dk_182 0 59 (dk_at dksX14_word_1 2 rfl rfl)
theorem dX14_word_29 : decode cX14_word 29 = .ok (.aload_n 2, 1) := dk_44 (dk_at dksX14_word_1 5 rfl rfl)
theorem dX14_word_30 : decode cX14_word 30 = .ok (.invokevirtual 63, 3) := dk_182 0 63 (dk_at dksX14_word_1 6 rfl rfl)
theorem dX14_word_33 : decode cX14_word 33 = .ok (.aload_n 0, 1) := dk_42 (dk_at dksX14_word_1 9 rfl rfl)
theorem dX14_word_34 : decode cX14_word 34 = .ok (.invokevirtual 35, 3) := dk_182 0 35 (dk_at dksX14_word_1 10 rfl rfl)
theorem dX14_word_37 : decode cX14_word 37 = .ok (.invokevirtual 66, 3) := dk_182 0 66 (dk_at dksX14_word_1 13 rfl rfl)
theorem dX14_word_40 : decode cX14_word 40 = .ok (.invokevirtual 69, 3) := dk_182 0 69 (dk_at dksX14_word_1 16 rfl rfl)
theorem dX14_word_43 : decode cX14_word 43 = .ok (.invokevirtual 73, 3) := dk_182 0 73 (dk_at dksX14_word_1 19 rfl rfl)
theorem dX14_word_46 : decode cX14_word 46 = .ok (.invokevirtual 40, 3) := dk_182 0 40 (dk_at dksX14_word_2 0 rfl rfl)
theorem dX14_word_49 : decode cX14_word 49 = .ok (.aload_n 2, 1) := dk_44 (dk_at dksX14_word_2 3 rfl rfl)
theorem dX14_word_50 : decode cX14_word 50 = .ok (.aload_n 0, 1) := dk_42 (dk_at dksX14_word_2 4 rfl rfl)
theorem dX14_word_51 : decode cX14_word 51 = .ok (.invokevirtual 35, 3) := dk_182 0 35 (dk_at dksX14_word_2 5 rfl rfl)
theorem dX14_word_54 : decode cX14_word 54 = .ok (.invokevirtual 66, 3) := dk_182 0 66 (dk_at dksX14_word_2 8 rfl rfl)
theorem dX14_word_57 : decode cX14_word 57 = .ok (.pop, 1) := dk_87 (dk_at dksX14_word_2 11 rfl rfl)
theorem dX14_word_58 : decode cX14_word 58 = .ok (.aload_n 0, 1) := dk_42 (dk_at dksX14_word_2 12 rfl rfl)
theorem dX14_word_59 : decode cX14_word 59 = .ok (.dup, 1) := dk_89 (dk_at dksX14_word_2 13 rfl rfl)
theorem dX14_word_60 : decode cX14_word 60 = .ok (.getfield 13, 3) := dk_180 0 13 (dk_at dksX14_word_2 14 rfl rfl)
theorem dX14_word_63 : decode cX14_word 63 = .ok (.iconst 1, 1) := dk_4 (dk_at dksX14_word_2 17 rfl rfl)
theorem dX14_word_64 : decode cX14_word 64 = .ok (.iadd, 1) := dk_96 (dk_at dksX14_word_2 18 rfl rfl)
theorem dX14_word_65 : decode cX14_word 65 = .ok (.putfield 13, 3) := dk_181 0 13 (dk_at dksX14_word_2 19 rfl rfl)
theorem dX14_word_68 : decode cX14_word 68 = .ok (.goto (-60), 3) := dk_167 255 196 (dk_at dksX14_word_3 0 rfl rfl)
theorem dX14_word_71 : decode cX14_word 71 = .ok (.aload_n 0, 1) := dk_42 (dk_at dksX14_word_3 3 rfl rfl)
theorem dX14_word_72 : decode cX14_word 72 = .ok (.aload_n 2, 1) := dk_44 (dk_at dksX14_word_3 4 rfl rfl)
theorem dX14_word_73 : decode cX14_word 73 = .ok (.invokevirtual 77, 3) := dk_182 0 77 (dk_at dksX14_word_3 5 rfl rfl)
theorem dX14_word_76 : decode cX14_word 76 = .ok (.ifCond .le 38, 3) := dk_158 0 38 (dk_at dksX14_word_3 8 rfl rfl)
theorem dX14_word_79 : decode cX14_word 79 = .ok (.aload_n 1, 1) := dk_43 (dk_at dksX14_word_3 11 rfl rfl)
theorem dX14_word_80 : decode cX14_word 80 = .ok (.new 51, 3) := dk_187 0 51 (dk_at dksX14_word_3 12 rfl rfl)
theorem dX14_word_83 : decode cX14_word 83 = .ok (.dup, 1) := dk_89 (dk_at dksX14_word_3 15 rfl rfl)
theorem dX14_word_84 : decode cX14_word 84 = .ok (.invokespecial 53, 3) := dk_183 0 53 (dk_at dksX14_word_3 16 rfl rfl)
theorem dX14_word_87 : decode cX14_word 87 = .ok (.ldc 57, 2) := dk_18 57 (dk_at dksX14_word_3 19 rfl rfl)
theorem dX14_word_89 : decode cX14_word 89 = .ok (.invokevirtual 59, 3) := dk_182 0 59 (dk_at dksX14_word_3 21 rfl rfl)
theorem dX14_word_92 : decode cX14_word 92 = .ok (.aload_n 2, 1) := dk_44 (dk_at dksX14_word_4 0 rfl rfl)
theorem dX14_word_93 : decode cX14_word 93 = .ok (.invokevirtual 63, 3) := dk_182 0 63 (dk_at dksX14_word_4 1 rfl rfl)
theorem dX14_word_96 : decode cX14_word 96 = .ok (.ldc 57, 2) := dk_18 57 (dk_at dksX14_word_4 4 rfl rfl)
theorem dX14_word_98 : decode cX14_word 98 = .ok (.invokevirtual 59, 3) := dk_182 0 59 (dk_at dksX14_word_4 6 rfl rfl)
theorem dX14_word_101 : decode cX14_word 101 = .ok (.invokevirtual 69, 3) := dk_182 0 69 (dk_at dksX14_word_4 9 rfl rfl)
theorem dX14_word_104 : decode cX14_word 104 = .ok (.invokevirtual 73, 3) := dk_182 0 73 (dk_at dksX14_word_4 12 rfl rfl)
theorem dX14_word_107 : decode cX14_word 107 = .ok (.ifCond .eq 7, 3) := dk_153 0 7 (dk_at dksX14_word_4 15 rfl rfl)
theorem dX14_word_110 : decode cX14_word 110 = .ok (.iconst 1, 1) := dk_4 (dk_at dksX14_word_4 18 rfl rfl)
theorem dX14_word_111 : decode cX14_word 111 = .ok (.goto 4, 3) := dk_167 0 4 (dk_at dksX14_word_4 19 rfl rfl)
theorem dX14_word_114 : decode cX14_word 114 = .ok (.iconst 0, 1) := dk_3 (dk_at dksX14_word_4 22 rfl rfl)
theorem dX14_word_115 : decode cX14_word 115 = .ok (.invokevirtual 40, 3) := dk_182 0 40 (dk_at dksX14_word_5 0 rfl rfl)
theorem dX14_word_118 : decode cX14_word 118 = .ok (.aload_n 2, 1) := dk_44 (dk_at dksX14_word_5 3 rfl rfl)
theorem dX14_word_119 : decode cX14_word 119 = .ok (.invokevirtual 69, 3) := dk_182 0 69 (dk_at dksX14_word_5 4 rfl rfl)
theorem dX14_word_122 : decode cX14_word 122 = .ok (.areturn, 1) := dk_176 (dk_at dksX14_word_5 7 rfl rfl)
abbrev cX14_isLetter : ByteArray := prog_15_method_8_code
def yX14_isLetter : MethodName := ⟨RX14, "isLetter", "()Z"⟩
def dkwX14_isLetter_0 : List UInt8 := [42, 182, 0, 35, 16, 97, 161, 0, 16, 42, 182, 0, 35, 16, 122, 163, 0, 7, 4, 167, 0, 4, 3, 172]
abbrev dktX14_isLetter_0 : List UInt8 := dkwX14_isLetter_0 ++ []
theorem dksX14_isLetter_0 : cX14_isLetter.data.toList.drop 0 = dktX14_isLetter_0 := by decide +kernel
theorem dX14_isLetter_0 : decode cX14_isLetter 0 = .ok (.aload_n 0, 1) := dk_42 (dk_at dksX14_isLetter_0 0 rfl rfl)
theorem dX14_isLetter_1 : decode cX14_isLetter 1 = .ok (.invokevirtual 35, 3) := dk_182 0 35 (dk_at dksX14_isLetter_0 1 rfl rfl)
theorem dX14_isLetter_4 : decode cX14_isLetter 4 = .ok (.bipush 97, 2) := dk_16 97 (dk_at dksX14_isLetter_0 4 rfl rfl)
theorem dX14_isLetter_6 : decode cX14_isLetter 6 = .ok (.if_icmp .lt 16, 3) := dk_161 0 16 (dk_at dksX14_isLetter_0 6 rfl rfl)
theorem dX14_isLetter_9 : decode cX14_isLetter 9 = .ok (.aload_n 0, 1) := dk_42 (dk_at dksX14_isLetter_0 9 rfl rfl)
theorem dX14_isLetter_10 : decode cX14_isLetter 10 = .ok (.invokevirtual 35, 3) := dk_182 0 35 (dk_at dksX14_isLetter_0 10 rfl rfl)
theorem dX14_isLetter_13 : decode cX14_isLetter 13 = .ok (.bipush 122, 2) := dk_16 122 (dk_at dksX14_isLetter_0 13 rfl rfl)
theorem dX14_isLetter_15 : decode cX14_isLetter 15 = .ok (.if_icmp .gt 7, 3) := dk_163 0 7 (dk_at dksX14_isLetter_0 15 rfl rfl)
theorem dX14_isLetter_18 : decode cX14_isLetter 18 = .ok (.iconst 1, 1) := dk_4 (dk_at dksX14_isLetter_0 18 rfl rfl)
theorem dX14_isLetter_19 : decode cX14_isLetter 19 = .ok (.goto 4, 3) := dk_167 0 4 (dk_at dksX14_isLetter_0 19 rfl rfl)
theorem dX14_isLetter_22 : decode cX14_isLetter 22 = .ok (.iconst 0, 1) := dk_3 (dk_at dksX14_isLetter_0 22 rfl rfl)
theorem dX14_isLetter_23 : decode cX14_isLetter 23 = .ok (.ireturn, 1) := dk_172 (dk_at dksX14_isLetter_0 23 rfl rfl)
abbrev cX14_here : ByteArray := prog_15_method_2_code
def yX14_here : MethodName := ⟨RX14, "here", "()C"⟩
def dkwX14_here_1 : List UInt8 := [185, 0, 23, 2, 0, 167, 0, 5, 16, 10, 172]
abbrev dktX14_here_1 : List UInt8 := dkwX14_here_1 ++ []
def dkwX14_here_0 : List UInt8 := [42, 180, 0, 13, 42, 180, 0, 7, 185, 0, 17, 1, 0, 162, 0, 19, 42, 180, 0, 7, 42, 180, 0, 13]
abbrev dktX14_here_0 : List UInt8 := dkwX14_here_0 ++ dktX14_here_1
theorem dksX14_here_0 : cX14_here.data.toList.drop 0 = dktX14_here_0 := by decide +kernel
theorem dksX14_here_1 : cX14_here.data.toList.drop 24 = dktX14_here_1 := dk_seg dksX14_here_0 24 rfl rfl
theorem dX14_here_0 : decode cX14_here 0 = .ok (.aload_n 0, 1) := dk_42 (dk_at dksX14_here_0 0 rfl rfl)
theorem dX14_here_1 : decode cX14_here 1 = .ok (.getfield 13, 3) := dk_180 0 13 (dk_at dksX14_here_0 1 rfl rfl)
theorem dX14_here_4 : decode cX14_here 4 = .ok (.aload_n 0, 1) := dk_42 (dk_at dksX14_here_0 4 rfl rfl)
theorem dX14_here_5 : decode cX14_here 5 = .ok (.getfield 7, 3) := dk_180 0 7 (dk_at dksX14_here_0 5 rfl rfl)
theorem dX14_here_8 : decode cX14_here 8 = .ok (.invokeinterface 17 1, 5) := by decide +kernel
theorem dX14_here_13 : decode cX14_here 13 = .ok (.if_icmp .ge 19, 3) := dk_162 0 19 (dk_at dksX14_here_0 13 rfl rfl)
theorem dX14_here_16 : decode cX14_here 16 = .ok (.aload_n 0, 1) := dk_42 (dk_at dksX14_here_0 16 rfl rfl)
theorem dX14_here_17 : decode cX14_here 17 = .ok (.getfield 7, 3) := dk_180 0 7 (dk_at dksX14_here_0 17 rfl rfl)
theorem dX14_here_20 : decode cX14_here 20 = .ok (.aload_n 0, 1) := dk_42 (dk_at dksX14_here_0 20 rfl rfl)
theorem dX14_here_21 : decode cX14_here 21 = .ok (.getfield 13, 3) := dk_180 0 13 (dk_at dksX14_here_0 21 rfl rfl)
theorem dX14_here_24 : decode cX14_here 24 = .ok (.invokeinterface 23 2, 5) := by decide +kernel
theorem dX14_here_29 : decode cX14_here 29 = .ok (.goto 5, 3) := dk_167 0 5 (dk_at dksX14_here_1 5 rfl rfl)
theorem dX14_here_32 : decode cX14_here 32 = .ok (.bipush 10, 2) := dk_16 10 (dk_at dksX14_here_1 8 rfl rfl)
theorem dX14_here_34 : decode cX14_here 34 = .ok (.ireturn, 1) := dk_172 (dk_at dksX14_here_1 10 rfl rfl)
abbrev cX14_need : ByteArray := prog_15_method_3_code
def yX14_need : MethodName := ⟨RX14, "need", "(Z)V"⟩
def dkwX14_need_0 : List UInt8 := [27, 154, 0, 15, 187, 0, 27, 89, 42, 180, 0, 13, 183, 0, 29, 191, 177]
abbrev dktX14_need_0 : List UInt8 := dkwX14_need_0 ++ []
theorem dksX14_need_0 : cX14_need.data.toList.drop 0 = dktX14_need_0 := by decide +kernel
theorem dX14_need_0 : decode cX14_need 0 = .ok (.iload_n 1, 1) := dk_27 (dk_at dksX14_need_0 0 rfl rfl)
theorem dX14_need_1 : decode cX14_need 1 = .ok (.ifCond .ne 15, 3) := dk_154 0 15 (dk_at dksX14_need_0 1 rfl rfl)
theorem dX14_need_4 : decode cX14_need 4 = .ok (.new 27, 3) := dk_187 0 27 (dk_at dksX14_need_0 4 rfl rfl)
theorem dX14_need_7 : decode cX14_need 7 = .ok (.dup, 1) := dk_89 (dk_at dksX14_need_0 7 rfl rfl)
theorem dX14_need_8 : decode cX14_need 8 = .ok (.aload_n 0, 1) := dk_42 (dk_at dksX14_need_0 8 rfl rfl)
theorem dX14_need_9 : decode cX14_need 9 = .ok (.getfield 13, 3) := dk_180 0 13 (dk_at dksX14_need_0 9 rfl rfl)
theorem dX14_need_12 : decode cX14_need 12 = .ok (.invokespecial 29, 3) := dk_183 0 29 (dk_at dksX14_need_0 12 rfl rfl)
theorem dX14_need_15 : decode cX14_need 15 = .ok (.athrow, 1) := dk_191 (dk_at dksX14_need_0 15 rfl rfl)
theorem dX14_need_16 : decode cX14_need 16 = .ok (.return_, 1) := dk_177 (dk_at dksX14_need_0 16 rfl rfl)
abbrev cX14_takeAll : ByteArray := prog_15_method_4_code
def yX14_takeAll : MethodName := ⟨RX14, "takeAll", "(Ljava/lang/String;)V"⟩
def dkwX14_takeAll_1 : List UInt8 := [167, 0, 4, 3, 182, 0, 40, 42, 89, 180, 0, 13, 4, 96, 181, 0, 13, 132, 2, 1, 167, 255, 214, 177]
abbrev dktX14_takeAll_1 : List UInt8 := dkwX14_takeAll_1 ++ []
def dkwX14_takeAll_0 : List UInt8 := [3, 61, 28, 43, 182, 0, 32, 162, 0, 40, 42, 42, 182, 0, 35, 43, 28, 182, 0, 39, 160, 0, 7, 4]
abbrev dktX14_takeAll_0 : List UInt8 := dkwX14_takeAll_0 ++ dktX14_takeAll_1
theorem dksX14_takeAll_0 : cX14_takeAll.data.toList.drop 0 = dktX14_takeAll_0 := by decide +kernel
theorem dksX14_takeAll_1 : cX14_takeAll.data.toList.drop 24 = dktX14_takeAll_1 := dk_seg dksX14_takeAll_0 24 rfl rfl
theorem dX14_takeAll_0 : decode cX14_takeAll 0 = .ok (.iconst 0, 1) := dk_3 (dk_at dksX14_takeAll_0 0 rfl rfl)
theorem dX14_takeAll_1 : decode cX14_takeAll 1 = .ok (.istore_n 2, 1) := dk_61 (dk_at dksX14_takeAll_0 1 rfl rfl)
theorem dX14_takeAll_2 : decode cX14_takeAll 2 = .ok (.iload_n 2, 1) := dk_28 (dk_at dksX14_takeAll_0 2 rfl rfl)
theorem dX14_takeAll_3 : decode cX14_takeAll 3 = .ok (.aload_n 1, 1) := dk_43 (dk_at dksX14_takeAll_0 3 rfl rfl)
theorem dX14_takeAll_4 : decode cX14_takeAll 4 = .ok (.invokevirtual 32, 3) := dk_182 0 32 (dk_at dksX14_takeAll_0 4 rfl rfl)
theorem dX14_takeAll_7 : decode cX14_takeAll 7 = .ok (.if_icmp .ge 40, 3) := dk_162 0 40 (dk_at dksX14_takeAll_0 7 rfl rfl)
theorem dX14_takeAll_10 : decode cX14_takeAll 10 = .ok (.aload_n 0, 1) := dk_42 (dk_at dksX14_takeAll_0 10 rfl rfl)
theorem dX14_takeAll_11 : decode cX14_takeAll 11 = .ok (.aload_n 0, 1) := dk_42 (dk_at dksX14_takeAll_0 11 rfl rfl)
theorem dX14_takeAll_12 : decode cX14_takeAll 12 = .ok (.invokevirtual 35, 3) := dk_182 0 35 (dk_at dksX14_takeAll_0 12 rfl rfl)
theorem dX14_takeAll_15 : decode cX14_takeAll 15 = .ok (.aload_n 1, 1) := dk_43 (dk_at dksX14_takeAll_0 15 rfl rfl)
theorem dX14_takeAll_16 : decode cX14_takeAll 16 = .ok (.iload_n 2, 1) := dk_28 (dk_at dksX14_takeAll_0 16 rfl rfl)
theorem dX14_takeAll_17 : decode cX14_takeAll 17 = .ok (.invokevirtual 39, 3) := dk_182 0 39 (dk_at dksX14_takeAll_0 17 rfl rfl)
theorem dX14_takeAll_20 : decode cX14_takeAll 20 = .ok (.if_icmp .ne 7, 3) := dk_160 0 7 (dk_at dksX14_takeAll_0 20 rfl rfl)
theorem dX14_takeAll_23 : decode cX14_takeAll 23 = .ok (.iconst 1, 1) := dk_4 (dk_at dksX14_takeAll_0 23 rfl rfl)
theorem dX14_takeAll_24 : decode cX14_takeAll 24 = .ok (.goto 4, 3) := dk_167 0 4 (dk_at dksX14_takeAll_1 0 rfl rfl)
theorem dX14_takeAll_27 : decode cX14_takeAll 27 = .ok (.iconst 0, 1) := dk_3 (dk_at dksX14_takeAll_1 3 rfl rfl)
theorem dX14_takeAll_28 : decode cX14_takeAll 28 = .ok (.invokevirtual 40, 3) := dk_182 0 40 (dk_at dksX14_takeAll_1 4 rfl rfl)
theorem dX14_takeAll_31 : decode cX14_takeAll 31 = .ok (.aload_n 0, 1) := dk_42 (dk_at dksX14_takeAll_1 7 rfl rfl)
theorem dX14_takeAll_32 : decode cX14_takeAll 32 = .ok (.dup, 1) := dk_89 (dk_at dksX14_takeAll_1 8 rfl rfl)
theorem dX14_takeAll_33 : decode cX14_takeAll 33 = .ok (.getfield 13, 3) := dk_180 0 13 (dk_at dksX14_takeAll_1 9 rfl rfl)
theorem dX14_takeAll_36 : decode cX14_takeAll 36 = .ok (.iconst 1, 1) := dk_4 (dk_at dksX14_takeAll_1 12 rfl rfl)
theorem dX14_takeAll_37 : decode cX14_takeAll 37 = .ok (.iadd, 1) := dk_96 (dk_at dksX14_takeAll_1 13 rfl rfl)
theorem dX14_takeAll_38 : decode cX14_takeAll 38 = .ok (.putfield 13, 3) := dk_181 0 13 (dk_at dksX14_takeAll_1 14 rfl rfl)
theorem dX14_takeAll_41 : decode cX14_takeAll 41 = .ok (.iinc 2 1, 3) := dk_132 2 1 (dk_at dksX14_takeAll_1 17 rfl rfl)
theorem dX14_takeAll_44 : decode cX14_takeAll 44 = .ok (.goto (-42), 3) := dk_167 255 214 (dk_at dksX14_takeAll_1 20 rfl rfl)
theorem dX14_takeAll_47 : decode cX14_takeAll 47 = .ok (.return_, 1) := dk_177 (dk_at dksX14_takeAll_1 23 rfl rfl)
abbrev cX14_digit : ByteArray := prog_15_method_6_code
def yX14_digit : MethodName := ⟨RX14, "digit", "()I"⟩
def dkwX14_digit_1 : List UInt8 := [180, 0, 13, 4, 100, 185, 0, 23, 2, 0, 16, 48, 100, 172]
abbrev dktX14_digit_1 : List UInt8 := dkwX14_digit_1 ++ []
def dkwX14_digit_0 : List UInt8 := [42, 42, 182, 0, 44, 182, 0, 40, 42, 89, 180, 0, 13, 4, 96, 181, 0, 13, 42, 180, 0, 7, 42]
abbrev dktX14_digit_0 : List UInt8 := dkwX14_digit_0 ++ dktX14_digit_1
theorem dksX14_digit_0 : cX14_digit.data.toList.drop 0 = dktX14_digit_0 := by decide +kernel
theorem dksX14_digit_1 : cX14_digit.data.toList.drop 23 = dktX14_digit_1 := dk_seg dksX14_digit_0 23 rfl rfl
theorem dX14_digit_0 : decode cX14_digit 0 = .ok (.aload_n 0, 1) := dk_42 (dk_at dksX14_digit_0 0 rfl rfl)
theorem dX14_digit_1 : decode cX14_digit 1 = .ok (.aload_n 0, 1) := dk_42 (dk_at dksX14_digit_0 1 rfl rfl)
theorem dX14_digit_2 : decode cX14_digit 2 = .ok (.invokevirtual 44, 3) := dk_182 0 44 (dk_at dksX14_digit_0 2 rfl rfl)
theorem dX14_digit_5 : decode cX14_digit 5 = .ok (.invokevirtual 40, 3) := dk_182 0 40 (dk_at dksX14_digit_0 5 rfl rfl)
theorem dX14_digit_8 : decode cX14_digit 8 = .ok (.aload_n 0, 1) := dk_42 (dk_at dksX14_digit_0 8 rfl rfl)
theorem dX14_digit_9 : decode cX14_digit 9 = .ok (.dup, 1) := dk_89 (dk_at dksX14_digit_0 9 rfl rfl)
theorem dX14_digit_10 : decode cX14_digit 10 = .ok (.getfield 13, 3) := dk_180 0 13 (dk_at dksX14_digit_0 10 rfl rfl)
theorem dX14_digit_13 : decode cX14_digit 13 = .ok (.iconst 1, 1) := dk_4 (dk_at dksX14_digit_0 13 rfl rfl)
theorem dX14_digit_14 : decode cX14_digit 14 = .ok (.iadd, 1) := dk_96 (dk_at dksX14_digit_0 14 rfl rfl)
theorem dX14_digit_15 : decode cX14_digit 15 = .ok (.putfield 13, 3) := dk_181 0 13 (dk_at dksX14_digit_0 15 rfl rfl)
theorem dX14_digit_18 : decode cX14_digit 18 = .ok (.aload_n 0, 1) := dk_42 (dk_at dksX14_digit_0 18 rfl rfl)
theorem dX14_digit_19 : decode cX14_digit 19 = .ok (.getfield 7, 3) := dk_180 0 7 (dk_at dksX14_digit_0 19 rfl rfl)
theorem dX14_digit_22 : decode cX14_digit 22 = .ok (.aload_n 0, 1) := dk_42 (dk_at dksX14_digit_0 22 rfl rfl)
theorem dX14_digit_23 : decode cX14_digit 23 = .ok (.getfield 13, 3) := dk_180 0 13 (dk_at dksX14_digit_1 0 rfl rfl)
theorem dX14_digit_26 : decode cX14_digit 26 = .ok (.iconst 1, 1) := dk_4 (dk_at dksX14_digit_1 3 rfl rfl)
theorem dX14_digit_27 : decode cX14_digit 27 = .ok (.isub, 1) := dk_100 (dk_at dksX14_digit_1 4 rfl rfl)
theorem dX14_digit_28 : decode cX14_digit 28 = .ok (.invokeinterface 23 2, 5) := by decide +kernel
theorem dX14_digit_33 : decode cX14_digit 33 = .ok (.bipush 48, 2) := dk_16 48 (dk_at dksX14_digit_1 10 rfl rfl)
theorem dX14_digit_35 : decode cX14_digit 35 = .ok (.isub, 1) := dk_100 (dk_at dksX14_digit_1 12 rfl rfl)
theorem dX14_digit_36 : decode cX14_digit 36 = .ok (.ireturn, 1) := dk_172 (dk_at dksX14_digit_1 13 rfl rfl)
abbrev cX14_isDigit : ByteArray := prog_15_method_5_code
def yX14_isDigit : MethodName := ⟨RX14, "isDigit", "()Z"⟩
def dkwX14_isDigit_0 : List UInt8 := [42, 182, 0, 35, 16, 48, 161, 0, 16, 42, 182, 0, 35, 16, 57, 163, 0, 7, 4, 167, 0, 4, 3, 172]
abbrev dktX14_isDigit_0 : List UInt8 := dkwX14_isDigit_0 ++ []
theorem dksX14_isDigit_0 : cX14_isDigit.data.toList.drop 0 = dktX14_isDigit_0 := by decide +kernel
theorem dX14_isDigit_0 : decode cX14_isDigit 0 = .ok (.aload_n 0, 1) := dk_42 (dk_at dksX14_isDigit_0 0 rfl rfl)
theorem dX14_isDigit_1 : decode cX14_isDigit 1 = .ok (.invokevirtual 35, 3) := dk_182 0 35 (dk_at dksX14_isDigit_0 1 rfl rfl)
theorem dX14_isDigit_4 : decode cX14_isDigit 4 = .ok (.bipush 48, 2) := dk_16 48 (dk_at dksX14_isDigit_0 4 rfl rfl)
theorem dX14_isDigit_6 : decode cX14_isDigit 6 = .ok (.if_icmp .lt 16, 3) := dk_161 0 16 (dk_at dksX14_isDigit_0 6 rfl rfl)
theorem dX14_isDigit_9 : decode cX14_isDigit 9 = .ok (.aload_n 0, 1) := dk_42 (dk_at dksX14_isDigit_0 9 rfl rfl)
theorem dX14_isDigit_10 : decode cX14_isDigit 10 = .ok (.invokevirtual 35, 3) := dk_182 0 35 (dk_at dksX14_isDigit_0 10 rfl rfl)
theorem dX14_isDigit_13 : decode cX14_isDigit 13 = .ok (.bipush 57, 2) := dk_16 57 (dk_at dksX14_isDigit_0 13 rfl rfl)
theorem dX14_isDigit_15 : decode cX14_isDigit 15 = .ok (.if_icmp .gt 7, 3) := dk_163 0 7 (dk_at dksX14_isDigit_0 15 rfl rfl)
theorem dX14_isDigit_18 : decode cX14_isDigit 18 = .ok (.iconst 1, 1) := dk_4 (dk_at dksX14_isDigit_0 18 rfl rfl)
theorem dX14_isDigit_19 : decode cX14_isDigit 19 = .ok (.goto 4, 3) := dk_167 0 4 (dk_at dksX14_isDigit_0 19 rfl rfl)
theorem dX14_isDigit_22 : decode cX14_isDigit 22 = .ok (.iconst 0, 1) := dk_3 (dk_at dksX14_isDigit_0 22 rfl rfl)
theorem dX14_isDigit_23 : decode cX14_isDigit 23 = .ok (.ireturn, 1) := dk_172 (dk_at dksX14_isDigit_0 23 rfl rfl)
abbrev cX14_bait : ByteArray := prog_15_method_10_code
def yX14_bait : MethodName := ⟨RX14, "bait", "()I"⟩
def dkwX14_bait_1 : List UInt8 := [132, 2, 1, 167, 255, 239, 28, 172]
abbrev dktX14_bait_1 : List UInt8 := dkwX14_bait_1 ++ []
def dkwX14_bait_0 : List UInt8 := [42, 18, 78, 182, 0, 80, 76, 3, 61, 28, 184, 0, 84, 182, 0, 90, 43, 182, 0, 92, 154, 0, 9]
abbrev dktX14_bait_0 : List UInt8 := dkwX14_bait_0 ++ dktX14_bait_1
theorem dksX14_bait_0 : cX14_bait.data.toList.drop 0 = dktX14_bait_0 := by decide +kernel
theorem dksX14_bait_1 : cX14_bait.data.toList.drop 23 = dktX14_bait_1 := dk_seg dksX14_bait_0 23 rfl rfl
theorem dX14_bait_0 : decode cX14_bait 0 = .ok (.aload_n 0, 1) := dk_42 (dk_at dksX14_bait_0 0 rfl rfl)
theorem dX14_bait_1 : decode cX14_bait 1 = .ok (.ldc 78, 2) := dk_18 78 (dk_at dksX14_bait_0 1 rfl rfl)
theorem dX14_bait_3 : decode cX14_bait 3 = .ok (.invokevirtual 80, 3) := dk_182 0 80 (dk_at dksX14_bait_0 3 rfl rfl)
theorem dX14_bait_6 : decode cX14_bait 6 = .ok (.astore_n 1, 1) := dk_76 (dk_at dksX14_bait_0 6 rfl rfl)
theorem dX14_bait_7 : decode cX14_bait 7 = .ok (.iconst 0, 1) := dk_3 (dk_at dksX14_bait_0 7 rfl rfl)
theorem dX14_bait_8 : decode cX14_bait 8 = .ok (.istore_n 2, 1) := dk_61 (dk_at dksX14_bait_0 8 rfl rfl)
theorem dX14_bait_9 : decode cX14_bait 9 = .ok (.iload_n 2, 1) := dk_28 (dk_at dksX14_bait_0 9 rfl rfl)
theorem dX14_bait_10 : decode cX14_bait 10 = .ok (.invokestatic 84, 3) := dk_184 0 84 (dk_at dksX14_bait_0 10 rfl rfl)
theorem dX14_bait_13 : decode cX14_bait 13 = .ok (.invokevirtual 90, 3) := dk_182 0 90 (dk_at dksX14_bait_0 13 rfl rfl)
theorem dX14_bait_16 : decode cX14_bait 16 = .ok (.aload_n 1, 1) := dk_43 (dk_at dksX14_bait_0 16 rfl rfl)
theorem dX14_bait_17 : decode cX14_bait 17 = .ok (.invokevirtual 92, 3) := dk_182 0 92 (dk_at dksX14_bait_0 17 rfl rfl)
theorem dX14_bait_20 : decode cX14_bait 20 = .ok (.ifCond .ne 9, 3) := dk_154 0 9 (dk_at dksX14_bait_0 20 rfl rfl)
theorem dX14_bait_23 : decode cX14_bait 23 = .ok (.iinc 2 1, 3) := dk_132 2 1 (dk_at dksX14_bait_1 0 rfl rfl)
theorem dX14_bait_26 : decode cX14_bait 26 = .ok (.goto (-17), 3) := dk_167 255 239 (dk_at dksX14_bait_1 3 rfl rfl)
theorem dX14_bait_29 : decode cX14_bait 29 = .ok (.iload_n 2, 1) := dk_28 (dk_at dksX14_bait_1 6 rfl rfl)
theorem dX14_bait_30 : decode cX14_bait 30 = .ok (.ireturn, 1) := dk_172 (dk_at dksX14_bait_1 7 rfl rfl)
abbrev cX14_number : ByteArray := prog_15_method_7_code
def yX14_number : MethodName := ⟨RX14, "number", "()I"⟩
def dkwX14_number_1 : List UInt8 := [27, 172]
abbrev dktX14_number_1 : List UInt8 := dkwX14_number_1 ++ []
def dkwX14_number_0 : List UInt8 := [42, 182, 0, 48, 60, 42, 182, 0, 44, 153, 0, 15, 16, 10, 27, 104, 42, 182, 0, 48, 96, 167, 0, 4]
abbrev dktX14_number_0 : List UInt8 := dkwX14_number_0 ++ dktX14_number_1
theorem dksX14_number_0 : cX14_number.data.toList.drop 0 = dktX14_number_0 := by decide +kernel
theorem dksX14_number_1 : cX14_number.data.toList.drop 24 = dktX14_number_1 := dk_seg dksX14_number_0 24 rfl rfl
theorem dX14_number_0 : decode cX14_number 0 = .ok (.aload_n 0, 1) := dk_42 (dk_at dksX14_number_0 0 rfl rfl)
theorem dX14_number_1 : decode cX14_number 1 = .ok (.invokevirtual 48, 3) := dk_182 0 48 (dk_at dksX14_number_0 1 rfl rfl)
theorem dX14_number_4 : decode cX14_number 4 = .ok (.istore_n 1, 1) := dk_60 (dk_at dksX14_number_0 4 rfl rfl)
theorem dX14_number_5 : decode cX14_number 5 = .ok (.aload_n 0, 1) := dk_42 (dk_at dksX14_number_0 5 rfl rfl)
theorem dX14_number_6 : decode cX14_number 6 = .ok (.invokevirtual 44, 3) := dk_182 0 44 (dk_at dksX14_number_0 6 rfl rfl)
theorem dX14_number_9 : decode cX14_number 9 = .ok (.ifCond .eq 15, 3) := dk_153 0 15 (dk_at dksX14_number_0 9 rfl rfl)
theorem dX14_number_12 : decode cX14_number 12 = .ok (.bipush 10, 2) := dk_16 10 (dk_at dksX14_number_0 12 rfl rfl)
theorem dX14_number_14 : decode cX14_number 14 = .ok (.iload_n 1, 1) := dk_27 (dk_at dksX14_number_0 14 rfl rfl)
theorem dX14_number_15 : decode cX14_number 15 = .ok (.imul, 1) := dk_104 (dk_at dksX14_number_0 15 rfl rfl)
theorem dX14_number_16 : decode cX14_number 16 = .ok (.aload_n 0, 1) := dk_42 (dk_at dksX14_number_0 16 rfl rfl)
theorem dX14_number_17 : decode cX14_number 17 = .ok (.invokevirtual 48, 3) := dk_182 0 48 (dk_at dksX14_number_0 17 rfl rfl)
theorem dX14_number_20 : decode cX14_number 20 = .ok (.iadd, 1) := dk_96 (dk_at dksX14_number_0 20 rfl rfl)
theorem dX14_number_21 : decode cX14_number 21 = .ok (.goto 4, 3) := dk_167 0 4 (dk_at dksX14_number_0 21 rfl rfl)
theorem dX14_number_24 : decode cX14_number 24 = .ok (.iload_n 1, 1) := dk_27 (dk_at dksX14_number_1 0 rfl rfl)
theorem dX14_number_25 : decode cX14_number 25 = .ok (.ireturn, 1) := dk_172 (dk_at dksX14_number_1 1 rfl rfl)
theorem q125 : (Jvm.Cond.initialized "WhelkFleet$Reader") ∈ lw_all := lw_g (lw_at lw_m1 49 rfl) rfl
theorem q274 : (Jvm.Cond.selects "WhelkFleet$Reader" ({ cls := "java/lang/Object", name := "getClass", desc := "()Ljava/lang/Class;" } : Jvm.MethodName) ({ cls := "java/lang/Object", name := "getClass", desc := "()Ljava/lang/Class;" } : Jvm.MethodName)) ∈ lw_all := lw_g (lw_at lw_m1 198 rfl) rfl
theorem q1489 : (Jvm.Cond.selects "WhelkFleet$Reader" ({ cls := "java/lang/Object", name := "toString", desc := "()Ljava/lang/String;" } : Jvm.MethodName) ({ cls := "java/lang/Object", name := "toString", desc := "()Ljava/lang/String;" } : Jvm.MethodName)) ∈ lw_all := lw_g (lw_at lw_m6 213 rfl) rfl
theorem q2103 : (Jvm.Cond.instantiable "WhelkFleet$Reader" (2 : Nat)) ∈ lw_all := lw_g (lw_at lw_m9 107 rfl) rfl
theorem q2105 : (Jvm.Cond.instanceMethod ({ cls := "WhelkFleet$Reader", name := "<init>", desc := "(Ljava/lang/CharSequence;)V" } : Jvm.MethodName)) ∈ lw_all := lw_g (lw_at lw_m9 109 rfl) rfl
theorem q2106 : (Jvm.Cond.code ({ cls := "WhelkFleet$Reader", name := "<init>", desc := "(Ljava/lang/CharSequence;)V" } : Jvm.MethodName) prog_15_method_1_code (2 : Nat) (Option.none : Option Jvm.ClassFile.FieldType)) ∈ lw_all := lw_g (lw_at lw_m9 110 rfl) rfl
theorem q2107 : (Jvm.Cond.methodLink "WhelkFleet$Reader" (1 : Nat) ({ cls := "java/lang/Object", name := "<init>", desc := "()V" } : Jvm.MethodName)) ∈ lw_all := lw_g (lw_at lw_m9 111 rfl) rfl
theorem q2108 : (Jvm.Cond.fieldLink "WhelkFleet$Reader" (7 : Nat) "WhelkFleet$Reader" "text" "Ljava/lang/CharSequence;") ∈ lw_all := lw_g (lw_at lw_m9 112 rfl) rfl
theorem q2109 : (Jvm.Cond.fieldLink "WhelkFleet$Reader" (13 : Nat) "WhelkFleet$Reader" "at" "I") ∈ lw_all := lw_g (lw_at lw_m9 113 rfl) rfl
theorem q2110 : (Jvm.Cond.laysFinal "WhelkFleet$Reader" "WhelkFleet$Reader" "text" "Ljava/lang/CharSequence;") ∈ lw_all := lw_g (lw_at lw_m9 114 rfl) rfl
theorem q2111 : (Jvm.Cond.soleField "WhelkFleet$Reader" "text") ∈ lw_all := lw_g (lw_at lw_m9 115 rfl) rfl
theorem q2112 : (Jvm.Cond.lays "WhelkFleet$Reader" "WhelkFleet$Reader" "at" "I") ∈ lw_all := lw_g (lw_at lw_m9 116 rfl) rfl
theorem q2113 : (Jvm.Cond.soleField "WhelkFleet$Reader" "at") ∈ lw_all := lw_g (lw_at lw_m9 117 rfl) rfl
theorem q2114 : (Jvm.Cond.superclass "WhelkFleet$Reader" "java/lang/Object") ∈ lw_all := lw_g (lw_at lw_m9 118 rfl) rfl
theorem q2116 : (Jvm.Cond.instanceMethod ({ cls := "WhelkFleet$Reader", name := "orders", desc := "()Ljava/util/List;" } : Jvm.MethodName)) ∈ lw_all := lw_g (lw_at lw_m9 120 rfl) rfl
theorem q2117 : (Jvm.Cond.selects "WhelkFleet$Reader" ({ cls := "WhelkFleet$Reader", name := "orders", desc := "()Ljava/util/List;" } : Jvm.MethodName) ({ cls := "WhelkFleet$Reader", name := "orders", desc := "()Ljava/util/List;" } : Jvm.MethodName)) ∈ lw_all := lw_g (lw_at lw_m9 121 rfl) rfl
theorem q2118 : (Jvm.Cond.code ({ cls := "WhelkFleet$Reader", name := "orders", desc := "()Ljava/util/List;" } : Jvm.MethodName) prog_15_method_12_code (2 : Nat) (Option.some (Jvm.ClassFile.FieldType.object "java/util/List"))) ∈ lw_all := lw_g (lw_at lw_m9 122 rfl) rfl
theorem q2119 : (Jvm.Cond.classLink "WhelkFleet$Reader" (130 : Nat) "java/util/ArrayList") ∈ lw_all := lw_g (lw_at lw_m9 123 rfl) rfl
theorem q2120 : (Jvm.Cond.methodLink "WhelkFleet$Reader" (132 : Nat) ({ cls := "java/util/ArrayList", name := "<init>", desc := "()V" } : Jvm.MethodName)) ∈ lw_all := lw_g (lw_at lw_m9 124 rfl) rfl
theorem q2121 : (Jvm.Cond.methodLink "WhelkFleet$Reader" (133 : Nat) ({ cls := "WhelkFleet$Reader", name := "order", desc := "()LWhelkFleet$Deed;" } : Jvm.MethodName)) ∈ lw_all := lw_g (lw_at lw_m9 125 rfl) rfl
theorem q2122 : (Jvm.Cond.privateMethod ({ cls := "WhelkFleet$Reader", name := "order", desc := "()LWhelkFleet$Deed;" } : Jvm.MethodName)) ∈ lw_tbl := lw_at lw_m9 126 rfl
theorem q2123 : (Jvm.Cond.instanceMethod ({ cls := "WhelkFleet$Reader", name := "order", desc := "()LWhelkFleet$Deed;" } : Jvm.MethodName)) ∈ lw_all := lw_g (lw_at lw_m9 127 rfl) rfl
theorem q2124 : (Jvm.Cond.code ({ cls := "WhelkFleet$Reader", name := "order", desc := "()LWhelkFleet$Deed;" } : Jvm.MethodName) prog_15_method_11_code (8 : Nat) (Option.some (Jvm.ClassFile.FieldType.object "WhelkFleet$Deed"))) ∈ lw_all := lw_g (lw_at lw_m9 128 rfl) rfl
theorem q2125 : (Jvm.Cond.stringRef "WhelkFleet$Reader" (96 : Nat) " out home shoot haul land swell riddle days ") ∈ lw_tbl := lw_at lw_m9 129 rfl
theorem q2126 : (Jvm.Cond.methodLink "WhelkFleet$Reader" (80 : Nat) ({ cls := "WhelkFleet$Reader", name := "word", desc := "(Ljava/lang/String;)Ljava/lang/String;" } : Jvm.MethodName)) ∈ lw_all := lw_g (lw_at lw_m9 130 rfl) rfl
theorem q2127 : (Jvm.Cond.privateMethod ({ cls := "WhelkFleet$Reader", name := "word", desc := "(Ljava/lang/String;)Ljava/lang/String;" } : Jvm.MethodName)) ∈ lw_tbl := lw_at lw_m9 131 rfl
theorem q2128 : (Jvm.Cond.instanceMethod ({ cls := "WhelkFleet$Reader", name := "word", desc := "(Ljava/lang/String;)Ljava/lang/String;" } : Jvm.MethodName)) ∈ lw_all := lw_g (lw_at lw_m9 132 rfl) rfl
theorem q2129 : (Jvm.Cond.code ({ cls := "WhelkFleet$Reader", name := "word", desc := "(Ljava/lang/String;)Ljava/lang/String;" } : Jvm.MethodName) prog_15_method_9_code (3 : Nat) (Option.some (Jvm.ClassFile.FieldType.object "java/lang/String"))) ∈ lw_all := lw_g (lw_at lw_m9 133 rfl) rfl
theorem q2130 : (Jvm.Cond.classLink "WhelkFleet$Reader" (51 : Nat) "java/lang/StringBuilder") ∈ lw_all := lw_g (lw_at lw_m9 134 rfl) rfl
theorem q2131 : (Jvm.Cond.methodLink "WhelkFleet$Reader" (53 : Nat) ({ cls := "java/lang/StringBuilder", name := "<init>", desc := "()V" } : Jvm.MethodName)) ∈ lw_all := lw_g (lw_at lw_m9 135 rfl) rfl
theorem q2132 : (Jvm.Cond.methodLink "WhelkFleet$Reader" (54 : Nat) ({ cls := "WhelkFleet$Reader", name := "isLetter", desc := "()Z" } : Jvm.MethodName)) ∈ lw_all := lw_g (lw_at lw_m9 136 rfl) rfl
theorem q2133 : (Jvm.Cond.privateMethod ({ cls := "WhelkFleet$Reader", name := "isLetter", desc := "()Z" } : Jvm.MethodName)) ∈ lw_tbl := lw_at lw_m9 137 rfl
theorem q2134 : (Jvm.Cond.instanceMethod ({ cls := "WhelkFleet$Reader", name := "isLetter", desc := "()Z" } : Jvm.MethodName)) ∈ lw_all := lw_g (lw_at lw_m9 138 rfl) rfl
theorem q2135 : (Jvm.Cond.code ({ cls := "WhelkFleet$Reader", name := "isLetter", desc := "()Z" } : Jvm.MethodName) prog_15_method_8_code (1 : Nat) (Option.some Jvm.ClassFile.FieldType.boolean)) ∈ lw_all := lw_g (lw_at lw_m9 139 rfl) rfl
theorem q2136 : (Jvm.Cond.methodLink "WhelkFleet$Reader" (35 : Nat) ({ cls := "WhelkFleet$Reader", name := "here", desc := "()C" } : Jvm.MethodName)) ∈ lw_all := lw_g (lw_at lw_m9 140 rfl) rfl
theorem q2137 : (Jvm.Cond.privateMethod ({ cls := "WhelkFleet$Reader", name := "here", desc := "()C" } : Jvm.MethodName)) ∈ lw_tbl := lw_at lw_m9 141 rfl
theorem q2138 : (Jvm.Cond.instanceMethod ({ cls := "WhelkFleet$Reader", name := "here", desc := "()C" } : Jvm.MethodName)) ∈ lw_all := lw_g (lw_at lw_m9 142 rfl) rfl
theorem q2139 : (Jvm.Cond.code ({ cls := "WhelkFleet$Reader", name := "here", desc := "()C" } : Jvm.MethodName) prog_15_method_2_code (1 : Nat) (Option.some Jvm.ClassFile.FieldType.char)) ∈ lw_all := lw_g (lw_at lw_m9 143 rfl) rfl
theorem q2140 : (Jvm.Cond.interfaceEntry "WhelkFleet$Reader" (17 : Nat)) ∈ lw_tbl := lw_at lw_m9 144 rfl
theorem q2141 : (Jvm.Cond.methodLink "WhelkFleet$Reader" (17 : Nat) ({ cls := "java/lang/CharSequence", name := "length", desc := "()I" } : Jvm.MethodName)) ∈ lw_all := lw_g (lw_at lw_m9 145 rfl) rfl
theorem q2152 : (Jvm.Cond.interfaceEntry "WhelkFleet$Reader" (23 : Nat)) ∈ lw_tbl := lw_at lw_m9 156 rfl
theorem q2153 : (Jvm.Cond.methodLink "WhelkFleet$Reader" (23 : Nat) ({ cls := "java/lang/CharSequence", name := "charAt", desc := "(I)C" } : Jvm.MethodName)) ∈ lw_all := lw_g (lw_at lw_m9 157 rfl) rfl
theorem q2179 : (Jvm.Cond.stringRef "WhelkFleet$Reader" (57 : Nat) " ") ∈ lw_tbl := lw_at lw_m9 183 rfl
theorem q2180 : (Jvm.Cond.methodLink "WhelkFleet$Reader" (59 : Nat) ({ cls := "java/lang/StringBuilder", name := "append", desc := "(Ljava/lang/String;)Ljava/lang/StringBuilder;" } : Jvm.MethodName)) ∈ lw_all := lw_g (lw_at lw_m9 184 rfl) rfl
theorem q2181 : (Jvm.Cond.methodLink "WhelkFleet$Reader" (63 : Nat) ({ cls := "java/lang/StringBuilder", name := "append", desc := "(Ljava/lang/Object;)Ljava/lang/StringBuilder;" } : Jvm.MethodName)) ∈ lw_all := lw_g (lw_at lw_m9 185 rfl) rfl
theorem q2191 : (Jvm.Cond.methodLink "WhelkFleet$Reader" (66 : Nat) ({ cls := "java/lang/StringBuilder", name := "append", desc := "(C)Ljava/lang/StringBuilder;" } : Jvm.MethodName)) ∈ lw_all := lw_g (lw_at lw_m9 195 rfl) rfl
theorem q2192 : (Jvm.Cond.methodLink "WhelkFleet$Reader" (69 : Nat) ({ cls := "java/lang/StringBuilder", name := "toString", desc := "()Ljava/lang/String;" } : Jvm.MethodName)) ∈ lw_all := lw_g (lw_at lw_m9 196 rfl) rfl
theorem q2193 : (Jvm.Cond.methodLink "WhelkFleet$Reader" (73 : Nat) ({ cls := "java/lang/String", name := "contains", desc := "(Ljava/lang/CharSequence;)Z" } : Jvm.MethodName)) ∈ lw_all := lw_g (lw_at lw_m9 197 rfl) rfl
theorem q2229 : (Jvm.Cond.methodLink "WhelkFleet$Reader" (40 : Nat) ({ cls := "WhelkFleet$Reader", name := "need", desc := "(Z)V" } : Jvm.MethodName)) ∈ lw_all := lw_g (lw_at lw_m9 233 rfl) rfl
theorem q2230 : (Jvm.Cond.privateMethod ({ cls := "WhelkFleet$Reader", name := "need", desc := "(Z)V" } : Jvm.MethodName)) ∈ lw_tbl := lw_at lw_m9 234 rfl
theorem q2231 : (Jvm.Cond.instanceMethod ({ cls := "WhelkFleet$Reader", name := "need", desc := "(Z)V" } : Jvm.MethodName)) ∈ lw_all := lw_g (lw_at lw_m9 235 rfl) rfl
theorem q2232 : (Jvm.Cond.code ({ cls := "WhelkFleet$Reader", name := "need", desc := "(Z)V" } : Jvm.MethodName) prog_15_method_3_code (2 : Nat) (Option.none : Option Jvm.ClassFile.FieldType)) ∈ lw_all := lw_g (lw_at lw_m9 236 rfl) rfl
theorem q2233 : (Jvm.Cond.classLink "WhelkFleet$Reader" (27 : Nat) "WhelkFleet$TextError") ∈ lw_all := lw_g (lw_at lw_m9 237 rfl) rfl
theorem q2242 : (Jvm.Cond.methodLink "WhelkFleet$Reader" (29 : Nat) ({ cls := "WhelkFleet$TextError", name := "<init>", desc := "(I)V" } : Jvm.MethodName)) ∈ lw_all := lw_g (lw_at lw_m10 6 rfl) rfl
theorem q2251 : (Jvm.Cond.methodLink "WhelkFleet$Reader" (77 : Nat) ({ cls := "java/lang/StringBuilder", name := "length", desc := "()I" } : Jvm.MethodName)) ∈ lw_all := lw_g (lw_at lw_m10 15 rfl) rfl
theorem q2252 : (Jvm.Cond.methodLink "WhelkFleet$Reader" (98 : Nat) ({ cls := "WhelkFleet$Reader", name := "takeAll", desc := "(Ljava/lang/String;)V" } : Jvm.MethodName)) ∈ lw_all := lw_g (lw_at lw_m10 16 rfl) rfl
theorem q2253 : (Jvm.Cond.privateMethod ({ cls := "WhelkFleet$Reader", name := "takeAll", desc := "(Ljava/lang/String;)V" } : Jvm.MethodName)) ∈ lw_tbl := lw_at lw_m10 17 rfl
theorem q2254 : (Jvm.Cond.instanceMethod ({ cls := "WhelkFleet$Reader", name := "takeAll", desc := "(Ljava/lang/String;)V" } : Jvm.MethodName)) ∈ lw_all := lw_g (lw_at lw_m10 18 rfl) rfl
theorem q2255 : (Jvm.Cond.code ({ cls := "WhelkFleet$Reader", name := "takeAll", desc := "(Ljava/lang/String;)V" } : Jvm.MethodName) prog_15_method_4_code (3 : Nat) (Option.none : Option Jvm.ClassFile.FieldType)) ∈ lw_all := lw_g (lw_at lw_m10 19 rfl) rfl
theorem q2256 : (Jvm.Cond.methodLink "WhelkFleet$Reader" (32 : Nat) ({ cls := "java/lang/String", name := "length", desc := "()I" } : Jvm.MethodName)) ∈ lw_all := lw_g (lw_at lw_m10 20 rfl) rfl
theorem q2257 : (Jvm.Cond.methodLink "WhelkFleet$Reader" (39 : Nat) ({ cls := "java/lang/String", name := "charAt", desc := "(I)C" } : Jvm.MethodName)) ∈ lw_all := lw_g (lw_at lw_m10 21 rfl) rfl
theorem q2258 : (Jvm.Cond.methodLink "WhelkFleet$Reader" (102 : Nat) ({ cls := "java/lang/String", name := "hashCode", desc := "()I" } : Jvm.MethodName)) ∈ lw_all := lw_g (lw_at lw_m10 22 rfl) rfl
theorem q2259 : (Jvm.Cond.stringRef "WhelkFleet$Reader" (105 : Nat) "out") ∈ lw_tbl := lw_at lw_m10 23 rfl
theorem q2260 : (Jvm.Cond.methodLink "WhelkFleet$Reader" (92 : Nat) ({ cls := "java/lang/String", name := "equals", desc := "(Ljava/lang/Object;)Z" } : Jvm.MethodName)) ∈ lw_all := lw_g (lw_at lw_m10 24 rfl) rfl
theorem q2261 : (Jvm.Cond.stringRef "WhelkFleet$Reader" (107 : Nat) "shoot") ∈ lw_tbl := lw_at lw_m10 25 rfl
theorem q2262 : (Jvm.Cond.stringRef "WhelkFleet$Reader" (109 : Nat) "haul") ∈ lw_tbl := lw_at lw_m10 26 rfl
theorem q2263 : (Jvm.Cond.stringRef "WhelkFleet$Reader" (111 : Nat) "days") ∈ lw_tbl := lw_at lw_m10 27 rfl
theorem q2264 : (Jvm.Cond.methodLink "WhelkFleet$Reader" (48 : Nat) ({ cls := "WhelkFleet$Reader", name := "digit", desc := "()I" } : Jvm.MethodName)) ∈ lw_all := lw_g (lw_at lw_m10 28 rfl) rfl
theorem q2265 : (Jvm.Cond.privateMethod ({ cls := "WhelkFleet$Reader", name := "digit", desc := "()I" } : Jvm.MethodName)) ∈ lw_tbl := lw_at lw_m10 29 rfl
theorem q2266 : (Jvm.Cond.instanceMethod ({ cls := "WhelkFleet$Reader", name := "digit", desc := "()I" } : Jvm.MethodName)) ∈ lw_all := lw_g (lw_at lw_m10 30 rfl) rfl
theorem q2267 : (Jvm.Cond.code ({ cls := "WhelkFleet$Reader", name := "digit", desc := "()I" } : Jvm.MethodName) prog_15_method_6_code (1 : Nat) (Option.some Jvm.ClassFile.FieldType.int)) ∈ lw_all := lw_g (lw_at lw_m10 31 rfl) rfl
theorem q2268 : (Jvm.Cond.methodLink "WhelkFleet$Reader" (44 : Nat) ({ cls := "WhelkFleet$Reader", name := "isDigit", desc := "()Z" } : Jvm.MethodName)) ∈ lw_all := lw_g (lw_at lw_m10 32 rfl) rfl
theorem q2269 : (Jvm.Cond.privateMethod ({ cls := "WhelkFleet$Reader", name := "isDigit", desc := "()Z" } : Jvm.MethodName)) ∈ lw_tbl := lw_at lw_m10 33 rfl
theorem q2270 : (Jvm.Cond.instanceMethod ({ cls := "WhelkFleet$Reader", name := "isDigit", desc := "()Z" } : Jvm.MethodName)) ∈ lw_all := lw_g (lw_at lw_m10 34 rfl) rfl
theorem q2271 : (Jvm.Cond.code ({ cls := "WhelkFleet$Reader", name := "isDigit", desc := "()Z" } : Jvm.MethodName) prog_15_method_5_code (1 : Nat) (Option.some Jvm.ClassFile.FieldType.boolean)) ∈ lw_all := lw_g (lw_at lw_m10 35 rfl) rfl
theorem q2272 : (Jvm.Cond.stringRef "WhelkFleet$Reader" (113 : Nat) " to ") ∈ lw_tbl := lw_at lw_m10 36 rfl
theorem q2273 : (Jvm.Cond.classLink "WhelkFleet$Reader" (115 : Nat) "WhelkFleet$Deed") ∈ lw_all := lw_g (lw_at lw_m10 37 rfl) rfl
theorem q2274 : (Jvm.Cond.methodLink "WhelkFleet$Reader" (117 : Nat) ({ cls := "WhelkFleet$Deed", name := "<init>", desc := "(Ljava/lang/String;III)V" } : Jvm.MethodName)) ∈ lw_all := lw_g (lw_at lw_m10 38 rfl) rfl
theorem q2275 : (Jvm.Cond.stringRef "WhelkFleet$Reader" (120 : Nat) " by ") ∈ lw_tbl := lw_at lw_m10 39 rfl
theorem q2276 : (Jvm.Cond.stringRef "WhelkFleet$Reader" (122 : Nat) " with ") ∈ lw_tbl := lw_at lw_m10 40 rfl
theorem q2277 : (Jvm.Cond.methodLink "WhelkFleet$Reader" (124 : Nat) ({ cls := "WhelkFleet$Reader", name := "bait", desc := "()I" } : Jvm.MethodName)) ∈ lw_all := lw_g (lw_at lw_m10 41 rfl) rfl
theorem q2278 : (Jvm.Cond.privateMethod ({ cls := "WhelkFleet$Reader", name := "bait", desc := "()I" } : Jvm.MethodName)) ∈ lw_tbl := lw_at lw_m10 42 rfl
theorem q2279 : (Jvm.Cond.instanceMethod ({ cls := "WhelkFleet$Reader", name := "bait", desc := "()I" } : Jvm.MethodName)) ∈ lw_all := lw_g (lw_at lw_m10 43 rfl) rfl
theorem q2280 : (Jvm.Cond.code ({ cls := "WhelkFleet$Reader", name := "bait", desc := "()I" } : Jvm.MethodName) prog_15_method_10_code (3 : Nat) (Option.some Jvm.ClassFile.FieldType.int)) ∈ lw_all := lw_g (lw_at lw_m10 44 rfl) rfl
theorem q2281 : (Jvm.Cond.stringRef "WhelkFleet$Reader" (78 : Nat) " crab fish mixed ") ∈ lw_tbl := lw_at lw_m10 45 rfl
theorem q2282 : (Jvm.Cond.methodLink "WhelkFleet$Reader" (84 : Nat) ({ cls := "WhelkFleet$Bait", name := "of", desc := "(I)LWhelkFleet$Bait;" } : Jvm.MethodName)) ∈ lw_all := lw_g (lw_at lw_m10 46 rfl) rfl
theorem q2283 : (Jvm.Cond.methodLink "WhelkFleet$Reader" (90 : Nat) ({ cls := "WhelkFleet$Bait", name := "word", desc := "()Ljava/lang/String;" } : Jvm.MethodName)) ∈ lw_all := lw_g (lw_at lw_m10 47 rfl) rfl
theorem q2298 : (Jvm.Cond.methodLink "WhelkFleet$Reader" (127 : Nat) ({ cls := "WhelkFleet$Reader", name := "number", desc := "()I" } : Jvm.MethodName)) ∈ lw_all := lw_g (lw_at lw_m10 62 rfl) rfl
theorem q2299 : (Jvm.Cond.privateMethod ({ cls := "WhelkFleet$Reader", name := "number", desc := "()I" } : Jvm.MethodName)) ∈ lw_tbl := lw_at lw_m10 63 rfl
theorem q2300 : (Jvm.Cond.instanceMethod ({ cls := "WhelkFleet$Reader", name := "number", desc := "()I" } : Jvm.MethodName)) ∈ lw_all := lw_g (lw_at lw_m10 64 rfl) rfl
theorem q2301 : (Jvm.Cond.code ({ cls := "WhelkFleet$Reader", name := "number", desc := "()I" } : Jvm.MethodName) prog_15_method_7_code (2 : Nat) (Option.some Jvm.ClassFile.FieldType.int)) ∈ lw_all := lw_g (lw_at lw_m10 65 rfl) rfl
theorem q2302 : (Jvm.Cond.interfaceEntry "WhelkFleet$Reader" (137 : Nat)) ∈ lw_tbl := lw_at lw_m10 66 rfl
theorem q2303 : (Jvm.Cond.methodLink "WhelkFleet$Reader" (137 : Nat) ({ cls := "java/util/List", name := "add", desc := "(Ljava/lang/Object;)Z" } : Jvm.MethodName)) ∈ lw_all := lw_g (lw_at lw_m10 67 rfl) rfl
theorem q2304 : (Jvm.Cond.stringRef "WhelkFleet$Reader" (142 : Nat) ";") ∈ lw_tbl := lw_at lw_m10 68 rfl
theorem q3031 : (Jvm.Cond.castable "WhelkFleet$Reader" "java/lang/Object") ∈ lw_tbl := lw_at lw_m13 75 rfl
theorem in_X14 : ∀ w ∈ wsX140, w ∈ lw_all := lw_in wsX140 [2110, 2112] (by decide +kernel) (by decide +kernel)
/-! WhelkFleet$TextError -/
set_option maxRecDepth 100000
def RX15 : String := "WhelkFleet$TextError"
def TX15 : u_T := fun k => match k with
  | 0 => ("java/lang/Throwable", "cause", "Ljava/lang/Throwable;", false)
  | 1 => ("java/lang/Throwable", "stackTrace", "[Ljava/lang/StackTraceElement;", false)
  | 2 => ("java/lang/Throwable", "suppressedExceptions", "Ljava/util/List;", false)
  | 3 => ("java/lang/Throwable", "detailMessage", "Ljava/lang/String;", false)
  | 4 => ("java/lang/Throwable", "backtrace", "Ljava/lang/Object;", false)
  | 5 => ("java/lang/Throwable", "depth", "I", false)
  | _ => ("WhelkFleet$TextError", "position", "I", true)
def tyX15 : Nat → FieldType := fun k => match k with
  | 0 => .object "java/lang/Throwable"
  | 1 => .array (.object "java/lang/StackTraceElement")
  | 2 => .object "java/util/List"
  | 3 => .object "java/lang/String"
  | 4 => .object "java/lang/Object"
  | 5 => .int
  | _ => .int
abbrev wsX150 : List Cond := u_ws RX15 TX15 7
theorem nmX15 : ∀ a, a < 7 → ∀ b, b < 7 → a ≠ b → (TX15 a).2.1 ≠ (TX15 b).2.1 := by decide +kernel
theorem tyX15_ok : ∀ k, k < 7 → parseFieldDescriptor (TX15 k).2.2.1 = some (tyX15 k) := by decide +kernel
abbrev cX15_position : ByteArray := prog_17_method_2_code
def yX15_position : MethodName := ⟨RX15, "position", "()I"⟩
theorem dX15_position_0 : decode cX15_position 0 = .ok (.aload_n 0, 1) := by decide +kernel
theorem dX15_position_1 : decode cX15_position 1 = .ok (.getfield 7, 3) := by decide +kernel
theorem dX15_position_4 : decode cX15_position 4 = .ok (.ireturn, 1) := by decide +kernel
abbrev cX15_init : ByteArray := prog_17_method_1_code
def yX15_init : MethodName := ⟨RX15, "<init>", "(I)V"⟩
def dkwX15_init_0 : List UInt8 := [42, 1, 1, 183, 0, 1, 42, 27, 181, 0, 7, 177]
abbrev dktX15_init_0 : List UInt8 := dkwX15_init_0 ++ []
theorem dksX15_init_0 : cX15_init.data.toList.drop 0 = dktX15_init_0 := by decide +kernel
theorem dX15_init_0 : decode cX15_init 0 = .ok (.aload_n 0, 1) := dk_42 (dk_at dksX15_init_0 0 rfl rfl)
theorem dX15_init_1 : decode cX15_init 1 = .ok (.aconst_null, 1) := dk_1 (dk_at dksX15_init_0 1 rfl rfl)
theorem dX15_init_2 : decode cX15_init 2 = .ok (.aconst_null, 1) := dk_1 (dk_at dksX15_init_0 2 rfl rfl)
theorem dX15_init_3 : decode cX15_init 3 = .ok (.invokespecial 1, 3) := dk_183 0 1 (dk_at dksX15_init_0 3 rfl rfl)
theorem dX15_init_6 : decode cX15_init 6 = .ok (.aload_n 0, 1) := dk_42 (dk_at dksX15_init_0 6 rfl rfl)
theorem dX15_init_7 : decode cX15_init 7 = .ok (.iload_n 1, 1) := dk_27 (dk_at dksX15_init_0 7 rfl rfl)
theorem dX15_init_8 : decode cX15_init 8 = .ok (.putfield 7, 3) := dk_181 0 7 (dk_at dksX15_init_0 8 rfl rfl)
theorem dX15_init_11 : decode cX15_init 11 = .ok (.return_, 1) := dk_177 (dk_at dksX15_init_0 11 rfl rfl)
theorem q126 : (Jvm.Cond.initialized "WhelkFleet$TextError") ∈ lw_all := lw_g (lw_at lw_m1 50 rfl) rfl
theorem q276 : (Jvm.Cond.selects "WhelkFleet$TextError" ({ cls := "java/lang/Object", name := "getClass", desc := "()Ljava/lang/Class;" } : Jvm.MethodName) ({ cls := "java/lang/Object", name := "getClass", desc := "()Ljava/lang/Class;" } : Jvm.MethodName)) ∈ lw_all := lw_g (lw_at lw_m1 200 rfl) rfl
theorem q472 : (Jvm.Cond.selects "WhelkFleet$TextError" ({ cls := "java/lang/Throwable", name := "fillInStackTrace", desc := "()Ljava/lang/Throwable;" } : Jvm.MethodName) ({ cls := "java/lang/Throwable", name := "fillInStackTrace", desc := "()Ljava/lang/Throwable;" } : Jvm.MethodName)) ∈ lw_all := lw_g (lw_at lw_m2 156 rfl) rfl
theorem q1045 : (Jvm.Cond.selects "WhelkFleet$TextError" ({ cls := "java/lang/Throwable", name := "toString", desc := "()Ljava/lang/String;" } : Jvm.MethodName) ({ cls := "java/lang/Throwable", name := "toString", desc := "()Ljava/lang/String;" } : Jvm.MethodName)) ∈ lw_all := lw_g (lw_at lw_m5 9 rfl) rfl
theorem q1060 : (Jvm.Cond.selects "WhelkFleet$TextError" ({ cls := "java/lang/Throwable", name := "getLocalizedMessage", desc := "()Ljava/lang/String;" } : Jvm.MethodName) ({ cls := "java/lang/Throwable", name := "getLocalizedMessage", desc := "()Ljava/lang/String;" } : Jvm.MethodName)) ∈ lw_all := lw_g (lw_at lw_m5 24 rfl) rfl
theorem q1074 : (Jvm.Cond.selects "WhelkFleet$TextError" ({ cls := "java/lang/Throwable", name := "getMessage", desc := "()Ljava/lang/String;" } : Jvm.MethodName) ({ cls := "java/lang/Throwable", name := "getMessage", desc := "()Ljava/lang/String;" } : Jvm.MethodName)) ∈ lw_all := lw_g (lw_at lw_m5 38 rfl) rfl
theorem q1491 : (Jvm.Cond.selects "WhelkFleet$TextError" ({ cls := "java/lang/Object", name := "toString", desc := "()Ljava/lang/String;" } : Jvm.MethodName) ({ cls := "java/lang/Throwable", name := "toString", desc := "()Ljava/lang/String;" } : Jvm.MethodName)) ∈ lw_all := lw_g (lw_at lw_m6 215 rfl) rfl
theorem q1750 : (Jvm.Cond.instanceMethod ({ cls := "WhelkFleet$TextError", name := "position", desc := "()I" } : Jvm.MethodName)) ∈ lw_all := lw_g (lw_at lw_m7 234 rfl) rfl
theorem q1751 : (Jvm.Cond.selects "WhelkFleet$TextError" ({ cls := "WhelkFleet$TextError", name := "position", desc := "()I" } : Jvm.MethodName) ({ cls := "WhelkFleet$TextError", name := "position", desc := "()I" } : Jvm.MethodName)) ∈ lw_all := lw_g (lw_at lw_m7 235 rfl) rfl
theorem q1752 : (Jvm.Cond.code ({ cls := "WhelkFleet$TextError", name := "position", desc := "()I" } : Jvm.MethodName) prog_17_method_2_code (1 : Nat) (Option.some Jvm.ClassFile.FieldType.int)) ∈ lw_all := lw_g (lw_at lw_m7 236 rfl) rfl
theorem q2234 : (Jvm.Cond.instantiable "WhelkFleet$TextError" (7 : Nat)) ∈ lw_all := lw_g (lw_at lw_m9 238 rfl) rfl
theorem q2235 : (Jvm.Cond.castable "WhelkFleet$TextError" "WhelkFleet$TextError") ∈ lw_tbl := lw_at lw_m9 239 rfl
theorem q2236 : (Jvm.Cond.selects "WhelkFleet$TextError" ({ cls := "java/lang/Throwable", name := "fillInStackTrace", desc := "(I)Ljava/lang/Throwable;" } : Jvm.MethodName) ({ cls := "java/lang/Throwable", name := "fillInStackTrace", desc := "(I)Ljava/lang/Throwable;" } : Jvm.MethodName)) ∈ lw_all := lw_g (lw_at lw_m10 0 rfl) rfl
theorem q2237 : (Jvm.Cond.lays "WhelkFleet$TextError" "java/lang/Throwable" "cause" "Ljava/lang/Throwable;") ∈ lw_all := lw_g (lw_at lw_m10 1 rfl) rfl
theorem q2238 : (Jvm.Cond.lays "WhelkFleet$TextError" "java/lang/Throwable" "stackTrace" "[Ljava/lang/StackTraceElement;") ∈ lw_all := lw_g (lw_at lw_m10 2 rfl) rfl
theorem q2239 : (Jvm.Cond.lays "WhelkFleet$TextError" "java/lang/Throwable" "suppressedExceptions" "Ljava/util/List;") ∈ lw_all := lw_g (lw_at lw_m10 3 rfl) rfl
theorem q2240 : (Jvm.Cond.lays "WhelkFleet$TextError" "java/lang/Throwable" "detailMessage" "Ljava/lang/String;") ∈ lw_all := lw_g (lw_at lw_m10 4 rfl) rfl
theorem q2241 : (Jvm.Cond.lays "WhelkFleet$TextError" "java/lang/Throwable" "backtrace" "Ljava/lang/Object;") ∈ lw_all := lw_g (lw_at lw_m10 5 rfl) rfl
theorem q2243 : (Jvm.Cond.instanceMethod ({ cls := "WhelkFleet$TextError", name := "<init>", desc := "(I)V" } : Jvm.MethodName)) ∈ lw_all := lw_g (lw_at lw_m10 7 rfl) rfl
theorem q2244 : (Jvm.Cond.code ({ cls := "WhelkFleet$TextError", name := "<init>", desc := "(I)V" } : Jvm.MethodName) prog_17_method_1_code (2 : Nat) (Option.none : Option Jvm.ClassFile.FieldType)) ∈ lw_all := lw_g (lw_at lw_m10 8 rfl) rfl
theorem q2245 : (Jvm.Cond.methodLink "WhelkFleet$TextError" (1 : Nat) ({ cls := "java/lang/Exception", name := "<init>", desc := "(Ljava/lang/String;Ljava/lang/Throwable;)V" } : Jvm.MethodName)) ∈ lw_all := lw_g (lw_at lw_m10 9 rfl) rfl
theorem q2246 : (Jvm.Cond.fieldLink "WhelkFleet$TextError" (7 : Nat) "WhelkFleet$TextError" "position" "I") ∈ lw_all := lw_g (lw_at lw_m10 10 rfl) rfl
theorem q2247 : (Jvm.Cond.laysFinal "WhelkFleet$TextError" "WhelkFleet$TextError" "position" "I") ∈ lw_all := lw_g (lw_at lw_m10 11 rfl) rfl
theorem q2248 : (Jvm.Cond.soleField "WhelkFleet$TextError" "position") ∈ lw_all := lw_g (lw_at lw_m10 12 rfl) rfl
theorem q2249 : (Jvm.Cond.lays "WhelkFleet$TextError" "java/lang/Throwable" "depth" "I") ∈ lw_all := lw_g (lw_at lw_m10 13 rfl) rfl
theorem q2250 : (Jvm.Cond.superclass "WhelkFleet$TextError" "java/lang/Exception") ∈ lw_all := lw_g (lw_at lw_m10 14 rfl) rfl
theorem q2405 : (Jvm.Cond.selects "WhelkFleet$TextError" ({ cls := "java/lang/Throwable", name := "getCause", desc := "()Ljava/lang/Throwable;" } : Jvm.MethodName) ({ cls := "java/lang/Throwable", name := "getCause", desc := "()Ljava/lang/Throwable;" } : Jvm.MethodName)) ∈ lw_all := lw_g (lw_at lw_m10 169 rfl) rfl
theorem q3032 : (Jvm.Cond.castable "WhelkFleet$TextError" "java/lang/Object") ∈ lw_tbl := lw_at lw_m13 76 rfl
theorem in_X15 : ∀ w ∈ wsX150, w ∈ lw_all := lw_in wsX150 [2237, 2238, 2239, 2240, 2241, 2249, 2247] (by decide +kernel) (by decide +kernel)
/-! WhelkFleet$Bait$1 -/
set_option maxRecDepth 100000
def RX16 : String := "WhelkFleet$Bait$1"
abbrev cX16_draws : ByteArray := prog_4_method_2_code
def yX16_draws : MethodName := ⟨RX16, "draws", "(I)I"⟩
def dkwX16_draws_0 : List UInt8 := [16, 6, 5, 27, 104, 184, 0, 7, 172]
abbrev dktX16_draws_0 : List UInt8 := dkwX16_draws_0 ++ []
theorem dksX16_draws_0 : cX16_draws.data.toList.drop 0 = dktX16_draws_0 := by decide +kernel
theorem dX16_draws_0 : decode cX16_draws 0 = .ok (.bipush 6, 2) := dk_16 6 (dk_at dksX16_draws_0 0 rfl rfl)
theorem dX16_draws_2 : decode cX16_draws 2 = .ok (.iconst 2, 1) := dk_5 (dk_at dksX16_draws_0 2 rfl rfl)
theorem dX16_draws_3 : decode cX16_draws 3 = .ok (.iload_n 1, 1) := dk_27 (dk_at dksX16_draws_0 3 rfl rfl)
theorem dX16_draws_4 : decode cX16_draws 4 = .ok (.imul, 1) := dk_104 (dk_at dksX16_draws_0 4 rfl rfl)
theorem dX16_draws_5 : decode cX16_draws 5 = .ok (.invokestatic 7, 3) := dk_184 0 7 (dk_at dksX16_draws_0 5 rfl rfl)
theorem dX16_draws_8 : decode cX16_draws 8 = .ok (.ireturn, 1) := dk_172 (dk_at dksX16_draws_0 8 rfl rfl)
abbrev cX16_word : ByteArray := prog_4_method_3_code
def yX16_word : MethodName := ⟨RX16, "word", "()Ljava/lang/String;"⟩
theorem dX16_word_0 : decode cX16_word 0 = .ok (.ldc 13, 2) := by decide +kernel
theorem dX16_word_2 : decode cX16_word 2 = .ok (.areturn, 1) := by decide +kernel
theorem q264 : (Jvm.Cond.selects "WhelkFleet$Bait$1" ({ cls := "java/lang/Object", name := "getClass", desc := "()Ljava/lang/Class;" } : Jvm.MethodName) ({ cls := "java/lang/Object", name := "getClass", desc := "()Ljava/lang/Class;" } : Jvm.MethodName)) ∈ lw_all := lw_g (lw_at lw_m1 188 rfl) rfl
theorem q1477 : (Jvm.Cond.selects "WhelkFleet$Bait$1" ({ cls := "java/lang/Object", name := "toString", desc := "()Ljava/lang/String;" } : Jvm.MethodName) ({ cls := "java/lang/Enum", name := "toString", desc := "()Ljava/lang/String;" } : Jvm.MethodName)) ∈ lw_all := lw_g (lw_at lw_m6 201 rfl) rfl
theorem q1573 : (Jvm.Cond.selects "WhelkFleet$Bait$1" ({ cls := "WhelkFleet$Bait", name := "draws", desc := "(I)I" } : Jvm.MethodName) ({ cls := "WhelkFleet$Bait$1", name := "draws", desc := "(I)I" } : Jvm.MethodName)) ∈ lw_all := lw_g (lw_at lw_m7 57 rfl) rfl
theorem q1574 : (Jvm.Cond.instanceMethod ({ cls := "WhelkFleet$Bait$1", name := "draws", desc := "(I)I" } : Jvm.MethodName)) ∈ lw_all := lw_g (lw_at lw_m7 58 rfl) rfl
theorem q1575 : (Jvm.Cond.code ({ cls := "WhelkFleet$Bait$1", name := "draws", desc := "(I)I" } : Jvm.MethodName) prog_4_method_2_code (2 : Nat) (Option.some Jvm.ClassFile.FieldType.int)) ∈ lw_all := lw_g (lw_at lw_m7 59 rfl) rfl
theorem q1576 : (Jvm.Cond.methodLink "WhelkFleet$Bait$1" (7 : Nat) ({ cls := "java/lang/Math", name := "min", desc := "(II)I" } : Jvm.MethodName)) ∈ lw_all := lw_g (lw_at lw_m7 60 rfl) rfl
theorem q2286 : (Jvm.Cond.selects "WhelkFleet$Bait$1" ({ cls := "WhelkFleet$Bait", name := "word", desc := "()Ljava/lang/String;" } : Jvm.MethodName) ({ cls := "WhelkFleet$Bait$1", name := "word", desc := "()Ljava/lang/String;" } : Jvm.MethodName)) ∈ lw_all := lw_g (lw_at lw_m10 50 rfl) rfl
theorem q2287 : (Jvm.Cond.instanceMethod ({ cls := "WhelkFleet$Bait$1", name := "word", desc := "()Ljava/lang/String;" } : Jvm.MethodName)) ∈ lw_all := lw_g (lw_at lw_m10 51 rfl) rfl
theorem q2288 : (Jvm.Cond.code ({ cls := "WhelkFleet$Bait$1", name := "word", desc := "()Ljava/lang/String;" } : Jvm.MethodName) prog_4_method_3_code (1 : Nat) (Option.some (Jvm.ClassFile.FieldType.object "java/lang/String"))) ∈ lw_all := lw_g (lw_at lw_m10 52 rfl) rfl
theorem q2289 : (Jvm.Cond.stringRef "WhelkFleet$Bait$1" (13 : Nat) "crab") ∈ lw_tbl := lw_at lw_m10 53 rfl
theorem q3025 : (Jvm.Cond.castable "WhelkFleet$Bait$1" "java/lang/Object") ∈ lw_tbl := lw_at lw_m13 69 rfl
/-! WhelkFleet$Bait$2 -/
set_option maxRecDepth 100000
def RX17 : String := "WhelkFleet$Bait$2"
abbrev cX17_draws : ByteArray := prog_5_method_2_code
def yX17_draws : MethodName := ⟨RX17, "draws", "(I)I"⟩
def dkwX17_draws_0 : List UInt8 := [3, 8, 27, 100, 184, 0, 7, 172]
abbrev dktX17_draws_0 : List UInt8 := dkwX17_draws_0 ++ []
theorem dksX17_draws_0 : cX17_draws.data.toList.drop 0 = dktX17_draws_0 := by decide +kernel
theorem dX17_draws_0 : decode cX17_draws 0 = .ok (.iconst 0, 1) := dk_3 (dk_at dksX17_draws_0 0 rfl rfl)
theorem dX17_draws_1 : decode cX17_draws 1 = .ok (.iconst 5, 1) := dk_8 (dk_at dksX17_draws_0 1 rfl rfl)
theorem dX17_draws_2 : decode cX17_draws 2 = .ok (.iload_n 1, 1) := dk_27 (dk_at dksX17_draws_0 2 rfl rfl)
theorem dX17_draws_3 : decode cX17_draws 3 = .ok (.isub, 1) := dk_100 (dk_at dksX17_draws_0 3 rfl rfl)
theorem dX17_draws_4 : decode cX17_draws 4 = .ok (.invokestatic 7, 3) := dk_184 0 7 (dk_at dksX17_draws_0 4 rfl rfl)
theorem dX17_draws_7 : decode cX17_draws 7 = .ok (.ireturn, 1) := dk_172 (dk_at dksX17_draws_0 7 rfl rfl)
abbrev cX17_word : ByteArray := prog_5_method_3_code
def yX17_word : MethodName := ⟨RX17, "word", "()Ljava/lang/String;"⟩
theorem dX17_word_0 : decode cX17_word 0 = .ok (.ldc 13, 2) := by decide +kernel
theorem dX17_word_2 : decode cX17_word 2 = .ok (.areturn, 1) := by decide +kernel
theorem q265 : (Jvm.Cond.selects "WhelkFleet$Bait$2" ({ cls := "java/lang/Object", name := "getClass", desc := "()Ljava/lang/Class;" } : Jvm.MethodName) ({ cls := "java/lang/Object", name := "getClass", desc := "()Ljava/lang/Class;" } : Jvm.MethodName)) ∈ lw_all := lw_g (lw_at lw_m1 189 rfl) rfl
theorem q1480 : (Jvm.Cond.selects "WhelkFleet$Bait$2" ({ cls := "java/lang/Object", name := "toString", desc := "()Ljava/lang/String;" } : Jvm.MethodName) ({ cls := "java/lang/Enum", name := "toString", desc := "()Ljava/lang/String;" } : Jvm.MethodName)) ∈ lw_all := lw_g (lw_at lw_m6 204 rfl) rfl
theorem q1577 : (Jvm.Cond.selects "WhelkFleet$Bait$2" ({ cls := "WhelkFleet$Bait", name := "draws", desc := "(I)I" } : Jvm.MethodName) ({ cls := "WhelkFleet$Bait$2", name := "draws", desc := "(I)I" } : Jvm.MethodName)) ∈ lw_all := lw_g (lw_at lw_m7 61 rfl) rfl
theorem q1578 : (Jvm.Cond.instanceMethod ({ cls := "WhelkFleet$Bait$2", name := "draws", desc := "(I)I" } : Jvm.MethodName)) ∈ lw_all := lw_g (lw_at lw_m7 62 rfl) rfl
theorem q1579 : (Jvm.Cond.code ({ cls := "WhelkFleet$Bait$2", name := "draws", desc := "(I)I" } : Jvm.MethodName) prog_5_method_2_code (2 : Nat) (Option.some Jvm.ClassFile.FieldType.int)) ∈ lw_all := lw_g (lw_at lw_m7 63 rfl) rfl
theorem q1580 : (Jvm.Cond.methodLink "WhelkFleet$Bait$2" (7 : Nat) ({ cls := "java/lang/Math", name := "max", desc := "(II)I" } : Jvm.MethodName)) ∈ lw_all := lw_g (lw_at lw_m7 64 rfl) rfl
theorem q2290 : (Jvm.Cond.selects "WhelkFleet$Bait$2" ({ cls := "WhelkFleet$Bait", name := "word", desc := "()Ljava/lang/String;" } : Jvm.MethodName) ({ cls := "WhelkFleet$Bait$2", name := "word", desc := "()Ljava/lang/String;" } : Jvm.MethodName)) ∈ lw_all := lw_g (lw_at lw_m10 54 rfl) rfl
theorem q2291 : (Jvm.Cond.instanceMethod ({ cls := "WhelkFleet$Bait$2", name := "word", desc := "()Ljava/lang/String;" } : Jvm.MethodName)) ∈ lw_all := lw_g (lw_at lw_m10 55 rfl) rfl
theorem q2292 : (Jvm.Cond.code ({ cls := "WhelkFleet$Bait$2", name := "word", desc := "()Ljava/lang/String;" } : Jvm.MethodName) prog_5_method_3_code (1 : Nat) (Option.some (Jvm.ClassFile.FieldType.object "java/lang/String"))) ∈ lw_all := lw_g (lw_at lw_m10 56 rfl) rfl
theorem q2293 : (Jvm.Cond.stringRef "WhelkFleet$Bait$2" (13 : Nat) "fish") ∈ lw_tbl := lw_at lw_m10 57 rfl
theorem q3026 : (Jvm.Cond.castable "WhelkFleet$Bait$2" "java/lang/Object") ∈ lw_tbl := lw_at lw_m13 70 rfl
/-! WhelkFleet$Bait$3 -/
set_option maxRecDepth 100000
def RX18 : String := "WhelkFleet$Bait$3"
abbrev cX18_draws : ByteArray := prog_6_method_2_code
def yX18_draws : MethodName := ⟨RX18, "draws", "(I)I"⟩
def dkwX18_draws_0 : List UInt8 := [8, 27, 4, 96, 184, 0, 7, 172]
abbrev dktX18_draws_0 : List UInt8 := dkwX18_draws_0 ++ []
theorem dksX18_draws_0 : cX18_draws.data.toList.drop 0 = dktX18_draws_0 := by decide +kernel
theorem dX18_draws_0 : decode cX18_draws 0 = .ok (.iconst 5, 1) := dk_8 (dk_at dksX18_draws_0 0 rfl rfl)
theorem dX18_draws_1 : decode cX18_draws 1 = .ok (.iload_n 1, 1) := dk_27 (dk_at dksX18_draws_0 1 rfl rfl)
theorem dX18_draws_2 : decode cX18_draws 2 = .ok (.iconst 1, 1) := dk_4 (dk_at dksX18_draws_0 2 rfl rfl)
theorem dX18_draws_3 : decode cX18_draws 3 = .ok (.iadd, 1) := dk_96 (dk_at dksX18_draws_0 3 rfl rfl)
theorem dX18_draws_4 : decode cX18_draws 4 = .ok (.invokestatic 7, 3) := dk_184 0 7 (dk_at dksX18_draws_0 4 rfl rfl)
theorem dX18_draws_7 : decode cX18_draws 7 = .ok (.ireturn, 1) := dk_172 (dk_at dksX18_draws_0 7 rfl rfl)
abbrev cX18_word : ByteArray := prog_6_method_3_code
def yX18_word : MethodName := ⟨RX18, "word", "()Ljava/lang/String;"⟩
theorem dX18_word_0 : decode cX18_word 0 = .ok (.ldc 13, 2) := by decide +kernel
theorem dX18_word_2 : decode cX18_word 2 = .ok (.areturn, 1) := by decide +kernel
theorem q266 : (Jvm.Cond.selects "WhelkFleet$Bait$3" ({ cls := "java/lang/Object", name := "getClass", desc := "()Ljava/lang/Class;" } : Jvm.MethodName) ({ cls := "java/lang/Object", name := "getClass", desc := "()Ljava/lang/Class;" } : Jvm.MethodName)) ∈ lw_all := lw_g (lw_at lw_m1 190 rfl) rfl
theorem q1481 : (Jvm.Cond.selects "WhelkFleet$Bait$3" ({ cls := "java/lang/Object", name := "toString", desc := "()Ljava/lang/String;" } : Jvm.MethodName) ({ cls := "java/lang/Enum", name := "toString", desc := "()Ljava/lang/String;" } : Jvm.MethodName)) ∈ lw_all := lw_g (lw_at lw_m6 205 rfl) rfl
theorem q1581 : (Jvm.Cond.selects "WhelkFleet$Bait$3" ({ cls := "WhelkFleet$Bait", name := "draws", desc := "(I)I" } : Jvm.MethodName) ({ cls := "WhelkFleet$Bait$3", name := "draws", desc := "(I)I" } : Jvm.MethodName)) ∈ lw_all := lw_g (lw_at lw_m7 65 rfl) rfl
theorem q1582 : (Jvm.Cond.instanceMethod ({ cls := "WhelkFleet$Bait$3", name := "draws", desc := "(I)I" } : Jvm.MethodName)) ∈ lw_all := lw_g (lw_at lw_m7 66 rfl) rfl
theorem q1583 : (Jvm.Cond.code ({ cls := "WhelkFleet$Bait$3", name := "draws", desc := "(I)I" } : Jvm.MethodName) prog_6_method_2_code (2 : Nat) (Option.some Jvm.ClassFile.FieldType.int)) ∈ lw_all := lw_g (lw_at lw_m7 67 rfl) rfl
theorem q1584 : (Jvm.Cond.methodLink "WhelkFleet$Bait$3" (7 : Nat) ({ cls := "java/lang/Math", name := "min", desc := "(II)I" } : Jvm.MethodName)) ∈ lw_all := lw_g (lw_at lw_m7 68 rfl) rfl
theorem q2294 : (Jvm.Cond.selects "WhelkFleet$Bait$3" ({ cls := "WhelkFleet$Bait", name := "word", desc := "()Ljava/lang/String;" } : Jvm.MethodName) ({ cls := "WhelkFleet$Bait$3", name := "word", desc := "()Ljava/lang/String;" } : Jvm.MethodName)) ∈ lw_all := lw_g (lw_at lw_m10 58 rfl) rfl
theorem q2295 : (Jvm.Cond.instanceMethod ({ cls := "WhelkFleet$Bait$3", name := "word", desc := "()Ljava/lang/String;" } : Jvm.MethodName)) ∈ lw_all := lw_g (lw_at lw_m10 59 rfl) rfl
theorem q2296 : (Jvm.Cond.code ({ cls := "WhelkFleet$Bait$3", name := "word", desc := "()Ljava/lang/String;" } : Jvm.MethodName) prog_6_method_3_code (1 : Nat) (Option.some (Jvm.ClassFile.FieldType.object "java/lang/String"))) ∈ lw_all := lw_g (lw_at lw_m10 60 rfl) rfl
theorem q2297 : (Jvm.Cond.stringRef "WhelkFleet$Bait$3" (13 : Nat) "mixed") ∈ lw_tbl := lw_at lw_m10 61 rfl
theorem q3027 : (Jvm.Cond.castable "WhelkFleet$Bait$3" "java/lang/Object") ∈ lw_tbl := lw_at lw_m13 71 rfl
